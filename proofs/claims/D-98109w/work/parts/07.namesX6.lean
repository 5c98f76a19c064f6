set_option maxRecDepth 100000
abbrev cX6_init : ByteArray := prog_19_method_1_code
def yX6_init : MethodName := ⟨RX6, "<init>", "()V"⟩
def dkwX6_init_13 : List UInt8 := [17, 1, 0, 188, 10, 181, 0, 123, 42, 182, 0, 126, 42, 182, 0, 129, 177]
abbrev dktX6_init_13 : List UInt8 := dkwX6_init_13 ++ []
def dkwX6_init_12 : List UInt8 := [181, 0, 114, 42, 16, 12, 188, 10, 181, 0, 117, 42, 5, 16, 52, 197, 0, 57, 2, 181, 0, 120, 42]
abbrev dktX6_init_12 : List UInt8 := dkwX6_init_12 ++ dktX6_init_13
def dkwX6_init_11 : List UInt8 := [42, 17, 0, 128, 188, 4, 181, 0, 107, 42, 16, 7, 188, 10, 181, 0, 111, 42, 16, 12, 188, 10]
abbrev dktX6_init_11 : List UInt8 := dkwX6_init_11 ++ dktX6_init_12
def dkwX6_init_10 : List UInt8 := [42, 16, 52, 188, 10, 181, 0, 98, 42, 16, 52, 188, 10, 181, 0, 101, 42, 16, 6, 188, 10, 181, 0, 104]
abbrev dktX6_init_10 : List UInt8 := dkwX6_init_10 ++ dktX6_init_11
def dkwX6_init_9 : List UInt8 := [42, 16, 17, 188, 10, 181, 0, 89, 42, 16, 17, 188, 10, 181, 0, 92, 42, 16, 17, 188, 10, 181, 0, 95]
abbrev dktX6_init_9 : List UInt8 := dkwX6_init_9 ++ dktX6_init_10
def dkwX6_init_8 : List UInt8 := [42, 16, 17, 188, 10, 181, 0, 80, 42, 16, 17, 188, 10, 181, 0, 83, 42, 16, 17, 188, 10, 181, 0, 86]
abbrev dktX6_init_8 : List UInt8 := dkwX6_init_8 ++ dktX6_init_9
def dkwX6_init_7 : List UInt8 := [197, 0, 57, 2, 181, 0, 71, 42, 17, 0, 220, 188, 10, 181, 0, 74, 42, 16, 17, 188, 10, 181, 0, 77]
abbrev dktX6_init_7 : List UInt8 := dkwX6_init_7 ++ dktX6_init_8
def dkwX6_init_6 : List UInt8 := [197, 0, 57, 2, 181, 0, 65, 42, 17, 0, 220, 5, 197, 0, 57, 2, 181, 0, 68, 42, 17, 0, 220, 5]
abbrev dktX6_init_6 : List UInt8 := dkwX6_init_6 ++ dktX6_init_7
def dkwX6_init_5 : List UInt8 := [197, 0, 57, 2, 181, 0, 59, 42, 16, 10, 6, 197, 0, 57, 2, 181, 0, 62, 42, 16, 10, 6]
abbrev dktX6_init_5 : List UInt8 := dkwX6_init_5 ++ dktX6_init_6
def dkwX6_init_4 : List UInt8 := [181, 0, 45, 42, 20, 0, 48, 181, 0, 50, 42, 16, 12, 188, 10, 181, 0, 54, 42, 6, 16, 14]
abbrev dktX6_init_4 : List UInt8 := dkwX6_init_4 ++ dktX6_init_5
def dkwX6_init_3 : List UInt8 := [181, 0, 36, 42, 16, 12, 188, 11, 181, 0, 39, 42, 16, 12, 188, 11, 181, 0, 42, 42, 16, 52, 188, 11]
abbrev dktX6_init_3 : List UInt8 := dkwX6_init_3 ++ dktX6_init_4
def dkwX6_init_2 : List UInt8 := [181, 0, 26, 42, 16, 12, 188, 10, 181, 0, 29, 42, 16, 17, 188, 11, 181, 0, 32, 42, 16, 17, 188, 11]
abbrev dktX6_init_2 : List UInt8 := dkwX6_init_2 ++ dktX6_init_3
def dkwX6_init_1 : List UInt8 := [181, 0, 17, 42, 16, 6, 188, 10, 181, 0, 20, 42, 16, 6, 188, 10, 181, 0, 23, 42, 16, 12, 188, 10]
abbrev dktX6_init_1 : List UInt8 := dkwX6_init_1 ++ dktX6_init_2
def dkwX6_init_0 : List UInt8 := [42, 183, 0, 3, 42, 2, 181, 0, 9, 42, 17, 2, 88, 188, 10, 181, 0, 13, 42, 6, 188, 10]
abbrev dktX6_init_0 : List UInt8 := dkwX6_init_0 ++ dktX6_init_1
theorem dksX6_init_0 : cX6_init.data.toList.drop 0 = dktX6_init_0 := by decide +kernel
theorem dksX6_init_1 : cX6_init.data.toList.drop 22 = dktX6_init_1 := dk_seg dksX6_init_0 22 rfl rfl
theorem dksX6_init_2 : cX6_init.data.toList.drop 46 = dktX6_init_2 := dk_seg dksX6_init_1 24 rfl rfl
theorem dksX6_init_3 : cX6_init.data.toList.drop 70 = dktX6_init_3 := dk_seg dksX6_init_2 24 rfl rfl
theorem dksX6_init_4 : cX6_init.data.toList.drop 94 = dktX6_init_4 := dk_seg dksX6_init_3 24 rfl rfl
theorem dksX6_init_5 : cX6_init.data.toList.drop 116 = dktX6_init_5 := dk_seg dksX6_init_4 22 rfl rfl
theorem dksX6_init_6 : cX6_init.data.toList.drop 138 = dktX6_init_6 := dk_seg dksX6_init_5 22 rfl rfl
theorem dksX6_init_7 : cX6_init.data.toList.drop 162 = dktX6_init_7 := dk_seg dksX6_init_6 24 rfl rfl
theorem dksX6_init_8 : cX6_init.data.toList.drop 186 = dktX6_init_8 := dk_seg dksX6_init_7 24 rfl rfl
theorem dksX6_init_9 : cX6_init.data.toList.drop 210 = dktX6_init_9 := dk_seg dksX6_init_8 24 rfl rfl
theorem dksX6_init_10 : cX6_init.data.toList.drop 234 = dktX6_init_10 := dk_seg dksX6_init_9 24 rfl rfl
theorem dksX6_init_11 : cX6_init.data.toList.drop 258 = dktX6_init_11 := dk_seg dksX6_init_10 24 rfl rfl
theorem dksX6_init_12 : cX6_init.data.toList.drop 280 = dktX6_init_12 := dk_seg dksX6_init_11 22 rfl rfl
theorem dksX6_init_13 : cX6_init.data.toList.drop 303 = dktX6_init_13 := dk_seg dksX6_init_12 23 rfl rfl
theorem dX6_init_0 : decode cX6_init 0 = .ok (.aload_n 0, 1) := dk_42 (dk_at dksX6_init_0 0 rfl rfl)
theorem dX6_init_1 : decode cX6_init 1 = .ok (.invokespecial 3, 3) := dk_183 0 3 (dk_at dksX6_init_0 1 rfl rfl)
theorem dX6_init_4 : decode cX6_init 4 = .ok (.aload_n 0, 1) := dk_42 (dk_at dksX6_init_0 4 rfl rfl)
theorem dX6_init_5 : decode cX6_init 5 = .ok (.iconst (-1), 1) := dk_2 (dk_at dksX6_init_0 5 rfl rfl)
theorem dX6_init_6 : decode cX6_init 6 = .ok (.putfield 9, 3) := dk_181 0 9 (dk_at dksX6_init_0 6 rfl rfl)
theorem dX6_init_9 : decode cX6_init 9 = .ok (.aload_n 0, 1) := dk_42 (dk_at dksX6_init_0 9 rfl rfl)
theorem dX6_init_10 : decode cX6_init 10 = .ok (.sipush 600, 3) := dk_17 2 88 (dk_at dksX6_init_0 10 rfl rfl)
theorem dX6_init_13 : decode cX6_init 13 = .ok (.newarray .int, 2) := dk_188_10 (dk_at dksX6_init_0 13 rfl rfl)
theorem dX6_init_15 : decode cX6_init 15 = .ok (.putfield 13, 3) := dk_181 0 13 (dk_at dksX6_init_0 15 rfl rfl)
theorem dX6_init_18 : decode cX6_init 18 = .ok (.aload_n 0, 1) := dk_42 (dk_at dksX6_init_0 18 rfl rfl)
theorem dX6_init_19 : decode cX6_init 19 = .ok (.iconst 3, 1) := dk_6 (dk_at dksX6_init_0 19 rfl rfl)
theorem dX6_init_20 : decode cX6_init 20 = .ok (.newarray .int, 2) := dk_188_10 (dk_at dksX6_init_0 20 rfl rfl)
theorem dX6_init_22 : decode cX6_init 22 = .ok (.putfield 17, 3) := dk_181 0 17 (dk_at dksX6_init_1 0 rfl rfl)
theorem dX6_init_25 : decode cX6_init 25 = .ok (.aload_n 0, 1) := dk_42 (dk_at dksX6_init_1 3 rfl rfl)
theorem dX6_init_26 : decode cX6_init 26 = .ok (.bipush 6, 2) := dk_16 6 (dk_at dksX6_init_1 4 rfl rfl)
theorem dX6_init_28 : decode cX6_init 28 = .ok (.newarray .int, 2) := dk_188_10 (dk_at dksX6_init_1 6 rfl rfl)
theorem dX6_init_30 : decode cX6_init 30 = .ok (.putfield 20, 3) := dk_181 0 20 (dk_at dksX6_init_1 8 rfl rfl)
theorem dX6_init_33 : decode cX6_init 33 = .ok (.aload_n 0, 1) := dk_42 (dk_at dksX6_init_1 11 rfl rfl)
theorem dX6_init_34 : decode cX6_init 34 = .ok (.bipush 6, 2) := dk_16 6 (dk_at dksX6_init_1 12 rfl rfl)
theorem dX6_init_36 : decode cX6_init 36 = .ok (.newarray .int, 2) := dk_188_10 (dk_at dksX6_init_1 14 rfl rfl)
theorem dX6_init_38 : decode cX6_init 38 = .ok (.putfield 23, 3) := dk_181 0 23 (dk_at dksX6_init_1 16 rfl rfl)
theorem dX6_init_41 : decode cX6_init 41 = .ok (.aload_n 0, 1) := dk_42 (dk_at dksX6_init_1 19 rfl rfl)
theorem dX6_init_42 : decode cX6_init 42 = .ok (.bipush 12, 2) := dk_16 12 (dk_at dksX6_init_1 20 rfl rfl)
theorem dX6_init_44 : decode cX6_init 44 = .ok (.newarray .int, 2) := dk_188_10 (dk_at dksX6_init_1 22 rfl rfl)
theorem dX6_init_46 : decode cX6_init 46 = .ok (.putfield 26, 3) := dk_181 0 26 (dk_at dksX6_init_2 0 rfl rfl)
theorem dX6_init_49 : decode cX6_init 49 = .ok (.aload_n 0, 1) := dk_42 (dk_at dksX6_init_2 3 rfl rfl)
theorem dX6_init_50 : decode cX6_init 50 = .ok (.bipush 12, 2) := dk_16 12 (dk_at dksX6_init_2 4 rfl rfl)
theorem dX6_init_52 : decode cX6_init 52 = .ok (.newarray .int, 2) := dk_188_10 (dk_at dksX6_init_2 6 rfl rfl)
theorem dX6_init_54 : decode cX6_init 54 = .ok (.putfield 29, 3) := dk_181 0 29 (dk_at dksX6_init_2 8 rfl rfl)
theorem dX6_init_57 : decode cX6_init 57 = .ok (.aload_n 0, 1) := dk_42 (dk_at dksX6_init_2 11 rfl rfl)
theorem dX6_init_58 : decode cX6_init 58 = .ok (.bipush 17, 2) := dk_16 17 (dk_at dksX6_init_2 12 rfl rfl)
theorem dX6_init_60 : decode cX6_init 60 = .ok (.newarray .long, 2) := dk_188_11 (dk_at dksX6_init_2 14 rfl rfl)
theorem dX6_init_62 : decode cX6_init 62 = .ok (.putfield 32, 3) := dk_181 0 32 (dk_at dksX6_init_2 16 rfl rfl)
theorem dX6_init_65 : decode cX6_init 65 = .ok (.aload_n 0, 1) := dk_42 (dk_at dksX6_init_2 19 rfl rfl)
theorem dX6_init_66 : decode cX6_init 66 = .ok (.bipush 17, 2) := dk_16 17 (dk_at dksX6_init_2 20 rfl rfl)
theorem dX6_init_68 : decode cX6_init 68 = .ok (.newarray .long, 2) := dk_188_11 (dk_at dksX6_init_2 22 rfl rfl)
theorem dX6_init_70 : decode cX6_init 70 = .ok (.putfield 36, 3) := dk_181 0 36 (dk_at dksX6_init_3 0 rfl rfl)
theorem dX6_init_73 : decode cX6_init 73 = .ok (.aload_n 0, 1) := dk_42 (dk_at dksX6_init_3 3 rfl rfl)
theorem dX6_init_74 : decode cX6_init 74 = .ok (.bipush 12, 2) := dk_16 12 (dk_at dksX6_init_3 4 rfl rfl)
theorem dX6_init_76 : decode cX6_init 76 = .ok (.newarray .long, 2) := dk_188_11 (dk_at dksX6_init_3 6 rfl rfl)
theorem dX6_init_78 : decode cX6_init 78 = .ok (.putfield 39, 3) := dk_181 0 39 (dk_at dksX6_init_3 8 rfl rfl)
theorem dX6_init_81 : decode cX6_init 81 = .ok (.aload_n 0, 1) := dk_42 (dk_at dksX6_init_3 11 rfl rfl)
theorem dX6_init_82 : decode cX6_init 82 = .ok (.bipush 12, 2) := dk_16 12 (dk_at dksX6_init_3 12 rfl rfl)
theorem dX6_init_84 : decode cX6_init 84 = .ok (.newarray .long, 2) := dk_188_11 (dk_at dksX6_init_3 14 rfl rfl)
theorem dX6_init_86 : decode cX6_init 86 = .ok (.putfield 42, 3) := dk_181 0 42 (dk_at dksX6_init_3 16 rfl rfl)
theorem dX6_init_89 : decode cX6_init 89 = .ok (.aload_n 0, 1) := dk_42 (dk_at dksX6_init_3 19 rfl rfl)
theorem dX6_init_90 : decode cX6_init 90 = .ok (.bipush 52, 2) := dk_16 52 (dk_at dksX6_init_3 20 rfl rfl)
theorem dX6_init_92 : decode cX6_init 92 = .ok (.newarray .long, 2) := dk_188_11 (dk_at dksX6_init_3 22 rfl rfl)
theorem dX6_init_94 : decode cX6_init 94 = .ok (.putfield 45, 3) := dk_181 0 45 (dk_at dksX6_init_4 0 rfl rfl)
theorem dX6_init_97 : decode cX6_init 97 = .ok (.aload_n 0, 1) := dk_42 (dk_at dksX6_init_4 3 rfl rfl)
theorem dX6_init_98 : decode cX6_init 98 = .ok (.ldc2_w 48, 3) := dk_20 0 48 (dk_at dksX6_init_4 4 rfl rfl)
theorem dX6_init_101 : decode cX6_init 101 = .ok (.putfield 50, 3) := dk_181 0 50 (dk_at dksX6_init_4 7 rfl rfl)
theorem dX6_init_104 : decode cX6_init 104 = .ok (.aload_n 0, 1) := dk_42 (dk_at dksX6_init_4 10 rfl rfl)
theorem dX6_init_105 : decode cX6_init 105 = .ok (.bipush 12, 2) := dk_16 12 (dk_at dksX6_init_4 11 rfl rfl)
theorem dX6_init_107 : decode cX6_init 107 = .ok (.newarray .int, 2) := dk_188_10 (dk_at dksX6_init_4 13 rfl rfl)
theorem dX6_init_109 : decode cX6_init 109 = .ok (.putfield 54, 3) := dk_181 0 54 (dk_at dksX6_init_4 15 rfl rfl)
theorem dX6_init_112 : decode cX6_init 112 = .ok (.aload_n 0, 1) := dk_42 (dk_at dksX6_init_4 18 rfl rfl)
theorem dX6_init_113 : decode cX6_init 113 = .ok (.iconst 3, 1) := dk_6 (dk_at dksX6_init_4 19 rfl rfl)
theorem dX6_init_114 : decode cX6_init 114 = .ok (.bipush 14, 2) := dk_16 14 (dk_at dksX6_init_4 20 rfl rfl)
theorem dX6_init_116 : decode cX6_init 116 = .ok (.multianewarray 57 2, 4) := by decide +kernel
theorem dX6_init_120 : decode cX6_init 120 = .ok (.putfield 59, 3) := dk_181 0 59 (dk_at dksX6_init_5 4 rfl rfl)
theorem dX6_init_123 : decode cX6_init 123 = .ok (.aload_n 0, 1) := dk_42 (dk_at dksX6_init_5 7 rfl rfl)
theorem dX6_init_124 : decode cX6_init 124 = .ok (.bipush 10, 2) := dk_16 10 (dk_at dksX6_init_5 8 rfl rfl)
theorem dX6_init_126 : decode cX6_init 126 = .ok (.iconst 3, 1) := dk_6 (dk_at dksX6_init_5 10 rfl rfl)
theorem dX6_init_127 : decode cX6_init 127 = .ok (.multianewarray 57 2, 4) := by decide +kernel
theorem dX6_init_131 : decode cX6_init 131 = .ok (.putfield 62, 3) := dk_181 0 62 (dk_at dksX6_init_5 15 rfl rfl)
theorem dX6_init_134 : decode cX6_init 134 = .ok (.aload_n 0, 1) := dk_42 (dk_at dksX6_init_5 18 rfl rfl)
theorem dX6_init_135 : decode cX6_init 135 = .ok (.bipush 10, 2) := dk_16 10 (dk_at dksX6_init_5 19 rfl rfl)
theorem dX6_init_137 : decode cX6_init 137 = .ok (.iconst 3, 1) := dk_6 (dk_at dksX6_init_5 21 rfl rfl)
theorem dX6_init_138 : decode cX6_init 138 = .ok (.multianewarray 57 2, 4) := by decide +kernel
theorem dX6_init_142 : decode cX6_init 142 = .ok (.putfield 65, 3) := dk_181 0 65 (dk_at dksX6_init_6 4 rfl rfl)
theorem dX6_init_145 : decode cX6_init 145 = .ok (.aload_n 0, 1) := dk_42 (dk_at dksX6_init_6 7 rfl rfl)
theorem dX6_init_146 : decode cX6_init 146 = .ok (.sipush 220, 3) := dk_17 0 220 (dk_at dksX6_init_6 8 rfl rfl)
theorem dX6_init_149 : decode cX6_init 149 = .ok (.iconst 2, 1) := dk_5 (dk_at dksX6_init_6 11 rfl rfl)
theorem dX6_init_150 : decode cX6_init 150 = .ok (.multianewarray 57 2, 4) := by decide +kernel
theorem dX6_init_154 : decode cX6_init 154 = .ok (.putfield 68, 3) := dk_181 0 68 (dk_at dksX6_init_6 16 rfl rfl)
theorem dX6_init_157 : decode cX6_init 157 = .ok (.aload_n 0, 1) := dk_42 (dk_at dksX6_init_6 19 rfl rfl)
theorem dX6_init_158 : decode cX6_init 158 = .ok (.sipush 220, 3) := dk_17 0 220 (dk_at dksX6_init_6 20 rfl rfl)
theorem dX6_init_161 : decode cX6_init 161 = .ok (.iconst 2, 1) := dk_5 (dk_at dksX6_init_6 23 rfl rfl)
theorem dX6_init_162 : decode cX6_init 162 = .ok (.multianewarray 57 2, 4) := by decide +kernel
theorem dX6_init_166 : decode cX6_init 166 = .ok (.putfield 71, 3) := dk_181 0 71 (dk_at dksX6_init_7 4 rfl rfl)
theorem dX6_init_169 : decode cX6_init 169 = .ok (.aload_n 0, 1) := dk_42 (dk_at dksX6_init_7 7 rfl rfl)
theorem dX6_init_170 : decode cX6_init 170 = .ok (.sipush 220, 3) := dk_17 0 220 (dk_at dksX6_init_7 8 rfl rfl)
theorem dX6_init_173 : decode cX6_init 173 = .ok (.newarray .int, 2) := dk_188_10 (dk_at dksX6_init_7 11 rfl rfl)
theorem dX6_init_175 : decode cX6_init 175 = .ok (.putfield 74, 3) := dk_181 0 74 (dk_at dksX6_init_7 13 rfl rfl)
theorem dX6_init_178 : decode cX6_init 178 = .ok (.aload_n 0, 1) := dk_42 (dk_at dksX6_init_7 16 rfl rfl)
theorem dX6_init_179 : decode cX6_init 179 = .ok (.bipush 17, 2) := dk_16 17 (dk_at dksX6_init_7 17 rfl rfl)
theorem dX6_init_181 : decode cX6_init 181 = .ok (.newarray .int, 2) := dk_188_10 (dk_at dksX6_init_7 19 rfl rfl)
theorem dX6_init_183 : decode cX6_init 183 = .ok (.putfield 77, 3) := dk_181 0 77 (dk_at dksX6_init_7 21 rfl rfl)
theorem dX6_init_186 : decode cX6_init 186 = .ok (.aload_n 0, 1) := dk_42 (dk_at dksX6_init_8 0 rfl rfl)
theorem dX6_init_187 : decode cX6_init 187 = .ok (.bipush 17, 2) := dk_16 17 (dk_at dksX6_init_8 1 rfl rfl)
theorem dX6_init_189 : decode cX6_init 189 = .ok (.newarray .int, 2) := dk_188_10 (dk_at dksX6_init_8 3 rfl rfl)
theorem dX6_init_191 : decode cX6_init 191 = .ok (.putfield 80, 3) := dk_181 0 80 (dk_at dksX6_init_8 5 rfl rfl)
theorem dX6_init_194 : decode cX6_init 194 = .ok (.aload_n 0, 1) := dk_42 (dk_at dksX6_init_8 8 rfl rfl)
theorem dX6_init_195 : decode cX6_init 195 = .ok (.bipush 17, 2) := dk_16 17 (dk_at dksX6_init_8 9 rfl rfl)
theorem dX6_init_197 : decode cX6_init 197 = .ok (.newarray .int, 2) := dk_188_10 (dk_at dksX6_init_8 11 rfl rfl)
theorem dX6_init_199 : decode cX6_init 199 = .ok (.putfield 83, 3) := dk_181 0 83 (dk_at dksX6_init_8 13 rfl rfl)
theorem dX6_init_202 : decode cX6_init 202 = .ok (.aload_n 0, 1) := dk_42 (dk_at dksX6_init_8 16 rfl rfl)
theorem dX6_init_203 : decode cX6_init 203 = .ok (.bipush 17, 2) := dk_16 17 (dk_at dksX6_init_8 17 rfl rfl)
theorem dX6_init_205 : decode cX6_init 205 = .ok (.newarray .int, 2) := dk_188_10 (dk_at dksX6_init_8 19 rfl rfl)
theorem dX6_init_207 : decode cX6_init 207 = .ok (.putfield 86, 3) := dk_181 0 86 (dk_at dksX6_init_8 21 rfl rfl)
theorem dX6_init_210 : decode cX6_init 210 = .ok (.aload_n 0, 1) := dk_42 (dk_at dksX6_init_9 0 rfl rfl)
theorem dX6_init_211 : decode cX6_init 211 = .ok (.bipush 17, 2) := dk_16 17 (dk_at dksX6_init_9 1 rfl rfl)
theorem dX6_init_213 : decode cX6_init 213 = .ok (.newarray .int, 2) := dk_188_10 (dk_at dksX6_init_9 3 rfl rfl)
theorem dX6_init_215 : decode cX6_init 215 = .ok (.putfield 89, 3) := dk_181 0 89 (dk_at dksX6_init_9 5 rfl rfl)
theorem dX6_init_218 : decode cX6_init 218 = .ok (.aload_n 0, 1) := dk_42 (dk_at dksX6_init_9 8 rfl rfl)
theorem dX6_init_219 : decode cX6_init 219 = .ok (.bipush 17, 2) := dk_16 17 (dk_at dksX6_init_9 9 rfl rfl)
theorem dX6_init_221 : decode cX6_init 221 = .ok (.newarray .int, 2) := dk_188_10 (dk_at dksX6_init_9 11 rfl rfl)
theorem dX6_init_223 : decode cX6_init 223 = .ok (.putfield 92, 3) := dk_181 0 92 (dk_at dksX6_init_9 13 rfl rfl)
theorem dX6_init_226 : decode cX6_init 226 = .ok (.aload_n 0, 1) := dk_42 (dk_at dksX6_init_9 16 rfl rfl)
theorem dX6_init_227 : decode cX6_init 227 = .ok (.bipush 17, 2) := dk_16 17 (dk_at dksX6_init_9 17 rfl rfl)
theorem dX6_init_229 : decode cX6_init 229 = .ok (.newarray .int, 2) := dk_188_10 (dk_at dksX6_init_9 19 rfl rfl)
theorem dX6_init_231 : decode cX6_init 231 = .ok (.putfield 95, 3) := dk_181 0 95 (dk_at dksX6_init_9 21 rfl rfl)
theorem dX6_init_234 : decode cX6_init 234 = .ok (.aload_n 0, 1) := dk_42 (dk_at dksX6_init_10 0 rfl rfl)
theorem dX6_init_235 : decode cX6_init 235 = .ok (.bipush 52, 2) := dk_16 52 (dk_at dksX6_init_10 1 rfl rfl)
theorem dX6_init_237 : decode cX6_init 237 = .ok (.newarray .int, 2) := dk_188_10 (dk_at dksX6_init_10 3 rfl rfl)
theorem dX6_init_239 : decode cX6_init 239 = .ok (.putfield 98, 3) := dk_181 0 98 (dk_at dksX6_init_10 5 rfl rfl)
theorem dX6_init_242 : decode cX6_init 242 = .ok (.aload_n 0, 1) := dk_42 (dk_at dksX6_init_10 8 rfl rfl)
theorem dX6_init_243 : decode cX6_init 243 = .ok (.bipush 52, 2) := dk_16 52 (dk_at dksX6_init_10 9 rfl rfl)
theorem dX6_init_245 : decode cX6_init 245 = .ok (.newarray .int, 2) := dk_188_10 (dk_at dksX6_init_10 11 rfl rfl)
theorem dX6_init_247 : decode cX6_init 247 = .ok (.putfield 101, 3) := dk_181 0 101 (dk_at dksX6_init_10 13 rfl rfl)
theorem dX6_init_250 : decode cX6_init 250 = .ok (.aload_n 0, 1) := dk_42 (dk_at dksX6_init_10 16 rfl rfl)
theorem dX6_init_251 : decode cX6_init 251 = .ok (.bipush 6, 2) := dk_16 6 (dk_at dksX6_init_10 17 rfl rfl)
theorem dX6_init_253 : decode cX6_init 253 = .ok (.newarray .int, 2) := dk_188_10 (dk_at dksX6_init_10 19 rfl rfl)
theorem dX6_init_255 : decode cX6_init 255 = .ok (.putfield 104, 3) := dk_181 0 104 (dk_at dksX6_init_10 21 rfl rfl)
theorem dX6_init_258 : decode cX6_init 258 = .ok (.aload_n 0, 1) := dk_42 (dk_at dksX6_init_11 0 rfl rfl)
theorem dX6_init_259 : decode cX6_init 259 = .ok (.sipush 128, 3) := dk_17 0 128 (dk_at dksX6_init_11 1 rfl rfl)
theorem dX6_init_262 : decode cX6_init 262 = .ok (.newarray .boolean, 2) := dk_188_4 (dk_at dksX6_init_11 4 rfl rfl)
theorem dX6_init_264 : decode cX6_init 264 = .ok (.putfield 107, 3) := dk_181 0 107 (dk_at dksX6_init_11 6 rfl rfl)
theorem dX6_init_267 : decode cX6_init 267 = .ok (.aload_n 0, 1) := dk_42 (dk_at dksX6_init_11 9 rfl rfl)
theorem dX6_init_268 : decode cX6_init 268 = .ok (.bipush 7, 2) := dk_16 7 (dk_at dksX6_init_11 10 rfl rfl)
theorem dX6_init_270 : decode cX6_init 270 = .ok (.newarray .int, 2) := dk_188_10 (dk_at dksX6_init_11 12 rfl rfl)
theorem dX6_init_272 : decode cX6_init 272 = .ok (.putfield 111, 3) := dk_181 0 111 (dk_at dksX6_init_11 14 rfl rfl)
theorem dX6_init_275 : decode cX6_init 275 = .ok (.aload_n 0, 1) := dk_42 (dk_at dksX6_init_11 17 rfl rfl)
theorem dX6_init_276 : decode cX6_init 276 = .ok (.bipush 12, 2) := dk_16 12 (dk_at dksX6_init_11 18 rfl rfl)
theorem dX6_init_278 : decode cX6_init 278 = .ok (.newarray .int, 2) := dk_188_10 (dk_at dksX6_init_11 20 rfl rfl)
theorem dX6_init_280 : decode cX6_init 280 = .ok (.putfield 114, 3) := dk_181 0 114 (dk_at dksX6_init_12 0 rfl rfl)
theorem dX6_init_283 : decode cX6_init 283 = .ok (.aload_n 0, 1) := dk_42 (dk_at dksX6_init_12 3 rfl rfl)
theorem dX6_init_284 : decode cX6_init 284 = .ok (.bipush 12, 2) := dk_16 12 (dk_at dksX6_init_12 4 rfl rfl)
theorem dX6_init_286 : decode cX6_init 286 = .ok (.newarray .int, 2) := dk_188_10 (dk_at dksX6_init_12 6 rfl rfl)
theorem dX6_init_288 : decode cX6_init 288 = .ok (.putfield 117, 3) := dk_181 0 117 (dk_at dksX6_init_12 8 rfl rfl)
theorem dX6_init_291 : decode cX6_init 291 = .ok (.aload_n 0, 1) := dk_42 (dk_at dksX6_init_12 11 rfl rfl)
theorem dX6_init_292 : decode cX6_init 292 = .ok (.iconst 2, 1) := dk_5 (dk_at dksX6_init_12 12 rfl rfl)
theorem dX6_init_293 : decode cX6_init 293 = .ok (.bipush 52, 2) := dk_16 52 (dk_at dksX6_init_12 13 rfl rfl)
theorem dX6_init_295 : decode cX6_init 295 = .ok (.multianewarray 57 2, 4) := by decide +kernel
theorem dX6_init_299 : decode cX6_init 299 = .ok (.putfield 120, 3) := dk_181 0 120 (dk_at dksX6_init_12 19 rfl rfl)
theorem dX6_init_302 : decode cX6_init 302 = .ok (.aload_n 0, 1) := dk_42 (dk_at dksX6_init_12 22 rfl rfl)
theorem dX6_init_303 : decode cX6_init 303 = .ok (.sipush 256, 3) := dk_17 1 0 (dk_at dksX6_init_13 0 rfl rfl)
theorem dX6_init_306 : decode cX6_init 306 = .ok (.newarray .int, 2) := dk_188_10 (dk_at dksX6_init_13 3 rfl rfl)
theorem dX6_init_308 : decode cX6_init 308 = .ok (.putfield 123, 3) := dk_181 0 123 (dk_at dksX6_init_13 5 rfl rfl)
theorem dX6_init_311 : decode cX6_init 311 = .ok (.aload_n 0, 1) := dk_42 (dk_at dksX6_init_13 8 rfl rfl)
theorem dX6_init_312 : decode cX6_init 312 = .ok (.invokevirtual 126, 3) := dk_182 0 126 (dk_at dksX6_init_13 9 rfl rfl)
theorem dX6_init_315 : decode cX6_init 315 = .ok (.aload_n 0, 1) := dk_42 (dk_at dksX6_init_13 12 rfl rfl)
theorem dX6_init_316 : decode cX6_init 316 = .ok (.invokevirtual 129, 3) := dk_182 0 129 (dk_at dksX6_init_13 13 rfl rfl)
theorem dX6_init_319 : decode cX6_init 319 = .ok (.return_, 1) := dk_177 (dk_at dksX6_init_13 16 rfl rfl)
abbrev cX6_tellsNothing : ByteArray := prog_19_method_2_code
def yX6_tellsNothing : MethodName := ⟨RX6, "tellsNothing", "()V"⟩
def dkwX6_tellsNothing_1 : List UInt8 := [180, 0, 20, 3, 7, 79, 177]
abbrev dktX6_tellsNothing_1 : List UInt8 := dkwX6_tellsNothing_1 ++ []
def dkwX6_tellsNothing_0 : List UInt8 := [3, 60, 27, 16, 6, 162, 0, 16, 42, 180, 0, 20, 27, 3, 79, 132, 1, 1, 167, 255, 240, 42]
abbrev dktX6_tellsNothing_0 : List UInt8 := dkwX6_tellsNothing_0 ++ dktX6_tellsNothing_1
theorem dksX6_tellsNothing_0 : cX6_tellsNothing.data.toList.drop 0 = dktX6_tellsNothing_0 := by decide +kernel
theorem dksX6_tellsNothing_1 : cX6_tellsNothing.data.toList.drop 22 = dktX6_tellsNothing_1 := dk_seg dksX6_tellsNothing_0 22 rfl rfl
theorem dX6_tellsNothing_0 : decode cX6_tellsNothing 0 = .ok (.iconst 0, 1) := dk_3 (dk_at dksX6_tellsNothing_0 0 rfl rfl)
theorem dX6_tellsNothing_1 : decode cX6_tellsNothing 1 = .ok (.istore_n 1, 1) := dk_60 (dk_at dksX6_tellsNothing_0 1 rfl rfl)
theorem dX6_tellsNothing_2 : decode cX6_tellsNothing 2 = .ok (.iload_n 1, 1) := dk_27 (dk_at dksX6_tellsNothing_0 2 rfl rfl)
theorem dX6_tellsNothing_3 : decode cX6_tellsNothing 3 = .ok (.bipush 6, 2) := dk_16 6 (dk_at dksX6_tellsNothing_0 3 rfl rfl)
theorem dX6_tellsNothing_5 : decode cX6_tellsNothing 5 = .ok (.if_icmp .ge 16, 3) := dk_162 0 16 (dk_at dksX6_tellsNothing_0 5 rfl rfl)
theorem dX6_tellsNothing_8 : decode cX6_tellsNothing 8 = .ok (.aload_n 0, 1) := dk_42 (dk_at dksX6_tellsNothing_0 8 rfl rfl)
theorem dX6_tellsNothing_9 : decode cX6_tellsNothing 9 = .ok (.getfield 20, 3) := dk_180 0 20 (dk_at dksX6_tellsNothing_0 9 rfl rfl)
theorem dX6_tellsNothing_12 : decode cX6_tellsNothing 12 = .ok (.iload_n 1, 1) := dk_27 (dk_at dksX6_tellsNothing_0 12 rfl rfl)
theorem dX6_tellsNothing_13 : decode cX6_tellsNothing 13 = .ok (.iconst 0, 1) := dk_3 (dk_at dksX6_tellsNothing_0 13 rfl rfl)
theorem dX6_tellsNothing_14 : decode cX6_tellsNothing 14 = .ok (.iastore, 1) := dk_79 (dk_at dksX6_tellsNothing_0 14 rfl rfl)
theorem dX6_tellsNothing_15 : decode cX6_tellsNothing 15 = .ok (.iinc 1 1, 3) := dk_132 1 1 (dk_at dksX6_tellsNothing_0 15 rfl rfl)
theorem dX6_tellsNothing_18 : decode cX6_tellsNothing 18 = .ok (.goto (-16), 3) := dk_167 255 240 (dk_at dksX6_tellsNothing_0 18 rfl rfl)
theorem dX6_tellsNothing_21 : decode cX6_tellsNothing 21 = .ok (.aload_n 0, 1) := dk_42 (dk_at dksX6_tellsNothing_0 21 rfl rfl)
theorem dX6_tellsNothing_22 : decode cX6_tellsNothing 22 = .ok (.getfield 20, 3) := dk_180 0 20 (dk_at dksX6_tellsNothing_1 0 rfl rfl)
theorem dX6_tellsNothing_25 : decode cX6_tellsNothing 25 = .ok (.iconst 0, 1) := dk_3 (dk_at dksX6_tellsNothing_1 3 rfl rfl)
theorem dX6_tellsNothing_26 : decode cX6_tellsNothing 26 = .ok (.iconst 4, 1) := dk_7 (dk_at dksX6_tellsNothing_1 4 rfl rfl)
theorem dX6_tellsNothing_27 : decode cX6_tellsNothing 27 = .ok (.iastore, 1) := dk_79 (dk_at dksX6_tellsNothing_1 5 rfl rfl)
theorem dX6_tellsNothing_28 : decode cX6_tellsNothing 28 = .ok (.return_, 1) := dk_177 (dk_at dksX6_tellsNothing_1 6 rfl rfl)
abbrev cX6_stands : ByteArray := prog_19_method_31_code
def yX6_stands : MethodName := ⟨RX6, "stands", "()V"⟩
def dkwX6_stands_9 : List UInt8 := [181, 0, 246, 177]
abbrev dktX6_stands_9 : List UInt8 := dkwX6_stands_9 ++ []
def dkwX6_stands_8 : List UInt8 := [167, 255, 240, 42, 42, 180, 0, 23, 3, 46, 184, 0, 204, 181, 0, 50, 42, 3, 181, 0, 243, 42, 3]
abbrev dktX6_stands_8 : List UInt8 := dkwX6_stands_8 ++ dktX6_stands_9
def dkwX6_stands_7 : List UInt8 := [132, 1, 1, 167, 255, 183, 3, 60, 27, 16, 12, 162, 0, 16, 42, 180, 0, 54, 27, 27, 79, 132, 1, 1]
abbrev dktX6_stands_7 : List UInt8 := dkwX6_stands_7 ++ dktX6_stands_8
def dkwX6_stands_6 : List UInt8 := [27, 163, 0, 12, 42, 180, 0, 42, 28, 47, 167, 0, 6, 20, 0, 48, 127, 80, 132, 2, 1, 167, 255, 212]
abbrev dktX6_stands_6 : List UInt8 := dkwX6_stands_6 ++ dktX6_stands_7
def dkwX6_stands_5 : List UInt8 := [61, 28, 42, 180, 0, 23, 5, 46, 162, 0, 40, 42, 180, 0, 45, 27, 92, 47, 42, 180, 0, 29, 28, 46]
abbrev dktX6_stands_5 : List UInt8 := dkwX6_stands_5 ++ dktX6_stands_6
def dkwX6_stands_4 : List UInt8 := [3, 60, 27, 16, 52, 162, 0, 73, 42, 180, 0, 45, 27, 42, 180, 0, 23, 3, 46, 184, 0, 204, 80, 3]
abbrev dktX6_stands_4 : List UInt8 := dkwX6_stands_4 ++ dktX6_stands_5
def dkwX6_stands_3 : List UInt8 := [180, 0, 26, 27, 46, 79, 42, 180, 0, 42, 27, 42, 180, 0, 39, 27, 47, 80, 132, 1, 1, 167, 255, 219]
abbrev dktX6_stands_3 : List UInt8 := dkwX6_stands_3 ++ dktX6_stands_4
def dkwX6_stands_2 : List UInt8 := [132, 1, 1, 167, 255, 235, 3, 60, 27, 42, 180, 0, 23, 5, 46, 162, 0, 33, 42, 180, 0, 29, 27, 42]
abbrev dktX6_stands_2 : List UInt8 := dkwX6_stands_2 ++ dktX6_stands_3
def dkwX6_stands_1 : List UInt8 := [167, 255, 235, 3, 60, 27, 16, 17, 162, 0, 21, 42, 180, 0, 36, 27, 42, 180, 0, 32, 27, 47, 80]
abbrev dktX6_stands_1 : List UInt8 := dkwX6_stands_1 ++ dktX6_stands_2
def dkwX6_stands_0 : List UInt8 := [3, 60, 27, 16, 6, 162, 0, 21, 42, 180, 0, 23, 27, 42, 180, 0, 20, 27, 46, 79, 132, 1, 1]
abbrev dktX6_stands_0 : List UInt8 := dkwX6_stands_0 ++ dktX6_stands_1
theorem dksX6_stands_0 : cX6_stands.data.toList.drop 0 = dktX6_stands_0 := by decide +kernel
theorem dksX6_stands_1 : cX6_stands.data.toList.drop 23 = dktX6_stands_1 := dk_seg dksX6_stands_0 23 rfl rfl
theorem dksX6_stands_2 : cX6_stands.data.toList.drop 46 = dktX6_stands_2 := dk_seg dksX6_stands_1 23 rfl rfl
theorem dksX6_stands_3 : cX6_stands.data.toList.drop 70 = dktX6_stands_3 := dk_seg dksX6_stands_2 24 rfl rfl
theorem dksX6_stands_4 : cX6_stands.data.toList.drop 94 = dktX6_stands_4 := dk_seg dksX6_stands_3 24 rfl rfl
theorem dksX6_stands_5 : cX6_stands.data.toList.drop 118 = dktX6_stands_5 := dk_seg dksX6_stands_4 24 rfl rfl
theorem dksX6_stands_6 : cX6_stands.data.toList.drop 142 = dktX6_stands_6 := dk_seg dksX6_stands_5 24 rfl rfl
theorem dksX6_stands_7 : cX6_stands.data.toList.drop 166 = dktX6_stands_7 := dk_seg dksX6_stands_6 24 rfl rfl
theorem dksX6_stands_8 : cX6_stands.data.toList.drop 190 = dktX6_stands_8 := dk_seg dksX6_stands_7 24 rfl rfl
theorem dksX6_stands_9 : cX6_stands.data.toList.drop 213 = dktX6_stands_9 := dk_seg dksX6_stands_8 23 rfl rfl
theorem dX6_stands_0 : decode cX6_stands 0 = .ok (.iconst 0, 1) := dk_3 (dk_at dksX6_stands_0 0 rfl rfl)
theorem dX6_stands_1 : decode cX6_stands 1 = .ok (.istore_n 1, 1) := dk_60 (dk_at dksX6_stands_0 1 rfl rfl)
theorem dX6_stands_2 : decode cX6_stands 2 = .ok (.iload_n 1, 1) := dk_27 (dk_at dksX6_stands_0 2 rfl rfl)
theorem dX6_stands_3 : decode cX6_stands 3 = .ok (.bipush 6, 2) := dk_16 6 (dk_at dksX6_stands_0 3 rfl rfl)
theorem dX6_stands_5 : decode cX6_stands 5 = .ok (.if_icmp .ge 21, 3) := dk_162 0 21 (dk_at dksX6_stands_0 5 rfl rfl)
theorem dX6_stands_8 : decode cX6_stands 8 = .ok (.aload_n 0, 1) := dk_42 (dk_at dksX6_stands_0 8 rfl rfl)
theorem dX6_stands_9 : decode cX6_stands 9 = .ok (.getfield 23, 3) := dk_180 0 23 (dk_at dksX6_stands_0 9 rfl rfl)
theorem dX6_stands_12 : decode cX6_stands 12 = .ok (.iload_n 1, 1) := dk_27 (dk_at dksX6_stands_0 12 rfl rfl)
theorem dX6_stands_13 : decode cX6_stands 13 = .ok (.aload_n 0, 1) := dk_42 (dk_at dksX6_stands_0 13 rfl rfl)
theorem dX6_stands_14 : decode cX6_stands 14 = .ok (.getfield 20, 3) := dk_180 0 20 (dk_at dksX6_stands_0 14 rfl rfl)
theorem dX6_stands_17 : decode cX6_stands 17 = .ok (.iload_n 1, 1) := dk_27 (dk_at dksX6_stands_0 17 rfl rfl)
theorem dX6_stands_18 : decode cX6_stands 18 = .ok (.iaload, 1) := dk_46 (dk_at dksX6_stands_0 18 rfl rfl)
theorem dX6_stands_19 : decode cX6_stands 19 = .ok (.iastore, 1) := dk_79 (dk_at dksX6_stands_0 19 rfl rfl)
theorem dX6_stands_20 : decode cX6_stands 20 = .ok (.iinc 1 1, 3) := dk_132 1 1 (dk_at dksX6_stands_0 20 rfl rfl)
theorem dX6_stands_23 : decode cX6_stands 23 = .ok (.goto (-21), 3) := dk_167 255 235 (dk_at dksX6_stands_1 0 rfl rfl)
theorem dX6_stands_26 : decode cX6_stands 26 = .ok (.iconst 0, 1) := dk_3 (dk_at dksX6_stands_1 3 rfl rfl)
theorem dX6_stands_27 : decode cX6_stands 27 = .ok (.istore_n 1, 1) := dk_60 (dk_at dksX6_stands_1 4 rfl rfl)
theorem dX6_stands_28 : decode cX6_stands 28 = .ok (.iload_n 1, 1) := dk_27 (dk_at dksX6_stands_1 5 rfl rfl)
theorem dX6_stands_29 : decode cX6_stands 29 = .ok (.bipush 17, 2) := dk_16 17 (dk_at dksX6_stands_1 6 rfl rfl)
theorem dX6_stands_31 : decode cX6_stands 31 = .ok (.if_icmp .ge 21, 3) := dk_162 0 21 (dk_at dksX6_stands_1 8 rfl rfl)
theorem dX6_stands_34 : decode cX6_stands 34 = .ok (.aload_n 0, 1) := dk_42 (dk_at dksX6_stands_1 11 rfl rfl)
theorem dX6_stands_35 : decode cX6_stands 35 = .ok (.getfield 36, 3) := dk_180 0 36 (dk_at dksX6_stands_1 12 rfl rfl)
theorem dX6_stands_38 : decode cX6_stands 38 = .ok (.iload_n 1, 1) := dk_27 (dk_at dksX6_stands_1 15 rfl rfl)
theorem dX6_stands_39 : decode cX6_stands 39 = .ok (.aload_n 0, 1) := dk_42 (dk_at dksX6_stands_1 16 rfl rfl)
theorem dX6_stands_40 : decode cX6_stands 40 = .ok (.getfield 32, 3) := dk_180 0 32 (dk_at dksX6_stands_1 17 rfl rfl)
theorem dX6_stands_43 : decode cX6_stands 43 = .ok (.iload_n 1, 1) := dk_27 (dk_at dksX6_stands_1 20 rfl rfl)
theorem dX6_stands_44 : decode cX6_stands 44 = .ok (.laload, 1) := dk_47 (dk_at dksX6_stands_1 21 rfl rfl)
theorem dX6_stands_45 : decode cX6_stands 45 = .ok (.lastore, 1) := dk_80 (dk_at dksX6_stands_1 22 rfl rfl)
theorem dX6_stands_46 : decode cX6_stands 46 = .ok (.iinc 1 1, 3) := dk_132 1 1 (dk_at dksX6_stands_2 0 rfl rfl)
theorem dX6_stands_49 : decode cX6_stands 49 = .ok (.goto (-21), 3) := dk_167 255 235 (dk_at dksX6_stands_2 3 rfl rfl)
theorem dX6_stands_52 : decode cX6_stands 52 = .ok (.iconst 0, 1) := dk_3 (dk_at dksX6_stands_2 6 rfl rfl)
theorem dX6_stands_53 : decode cX6_stands 53 = .ok (.istore_n 1, 1) := dk_60 (dk_at dksX6_stands_2 7 rfl rfl)
theorem dX6_stands_54 : decode cX6_stands 54 = .ok (.iload_n 1, 1) := dk_27 (dk_at dksX6_stands_2 8 rfl rfl)
theorem dX6_stands_55 : decode cX6_stands 55 = .ok (.aload_n 0, 1) := dk_42 (dk_at dksX6_stands_2 9 rfl rfl)
theorem dX6_stands_56 : decode cX6_stands 56 = .ok (.getfield 23, 3) := dk_180 0 23 (dk_at dksX6_stands_2 10 rfl rfl)
theorem dX6_stands_59 : decode cX6_stands 59 = .ok (.iconst 2, 1) := dk_5 (dk_at dksX6_stands_2 13 rfl rfl)
theorem dX6_stands_60 : decode cX6_stands 60 = .ok (.iaload, 1) := dk_46 (dk_at dksX6_stands_2 14 rfl rfl)
theorem dX6_stands_61 : decode cX6_stands 61 = .ok (.if_icmp .ge 33, 3) := dk_162 0 33 (dk_at dksX6_stands_2 15 rfl rfl)
theorem dX6_stands_64 : decode cX6_stands 64 = .ok (.aload_n 0, 1) := dk_42 (dk_at dksX6_stands_2 18 rfl rfl)
theorem dX6_stands_65 : decode cX6_stands 65 = .ok (.getfield 29, 3) := dk_180 0 29 (dk_at dksX6_stands_2 19 rfl rfl)
theorem dX6_stands_68 : decode cX6_stands 68 = .ok (.iload_n 1, 1) := dk_27 (dk_at dksX6_stands_2 22 rfl rfl)
theorem dX6_stands_69 : decode cX6_stands 69 = .ok (.aload_n 0, 1) := dk_42 (dk_at dksX6_stands_2 23 rfl rfl)
theorem dX6_stands_70 : decode cX6_stands 70 = .ok (.getfield 26, 3) := dk_180 0 26 (dk_at dksX6_stands_3 0 rfl rfl)
theorem dX6_stands_73 : decode cX6_stands 73 = .ok (.iload_n 1, 1) := dk_27 (dk_at dksX6_stands_3 3 rfl rfl)
theorem dX6_stands_74 : decode cX6_stands 74 = .ok (.iaload, 1) := dk_46 (dk_at dksX6_stands_3 4 rfl rfl)
theorem dX6_stands_75 : decode cX6_stands 75 = .ok (.iastore, 1) := dk_79 (dk_at dksX6_stands_3 5 rfl rfl)
theorem dX6_stands_76 : decode cX6_stands 76 = .ok (.aload_n 0, 1) := dk_42 (dk_at dksX6_stands_3 6 rfl rfl)
theorem dX6_stands_77 : decode cX6_stands 77 = .ok (.getfield 42, 3) := dk_180 0 42 (dk_at dksX6_stands_3 7 rfl rfl)
theorem dX6_stands_80 : decode cX6_stands 80 = .ok (.iload_n 1, 1) := dk_27 (dk_at dksX6_stands_3 10 rfl rfl)
theorem dX6_stands_81 : decode cX6_stands 81 = .ok (.aload_n 0, 1) := dk_42 (dk_at dksX6_stands_3 11 rfl rfl)
theorem dX6_stands_82 : decode cX6_stands 82 = .ok (.getfield 39, 3) := dk_180 0 39 (dk_at dksX6_stands_3 12 rfl rfl)
theorem dX6_stands_85 : decode cX6_stands 85 = .ok (.iload_n 1, 1) := dk_27 (dk_at dksX6_stands_3 15 rfl rfl)
theorem dX6_stands_86 : decode cX6_stands 86 = .ok (.laload, 1) := dk_47 (dk_at dksX6_stands_3 16 rfl rfl)
theorem dX6_stands_87 : decode cX6_stands 87 = .ok (.lastore, 1) := dk_80 (dk_at dksX6_stands_3 17 rfl rfl)
theorem dX6_stands_88 : decode cX6_stands 88 = .ok (.iinc 1 1, 3) := dk_132 1 1 (dk_at dksX6_stands_3 18 rfl rfl)
theorem dX6_stands_91 : decode cX6_stands 91 = .ok (.goto (-37), 3) := dk_167 255 219 (dk_at dksX6_stands_3 21 rfl rfl)
theorem dX6_stands_94 : decode cX6_stands 94 = .ok (.iconst 0, 1) := dk_3 (dk_at dksX6_stands_4 0 rfl rfl)
theorem dX6_stands_95 : decode cX6_stands 95 = .ok (.istore_n 1, 1) := dk_60 (dk_at dksX6_stands_4 1 rfl rfl)
theorem dX6_stands_96 : decode cX6_stands 96 = .ok (.iload_n 1, 1) := dk_27 (dk_at dksX6_stands_4 2 rfl rfl)
theorem dX6_stands_97 : decode cX6_stands 97 = .ok (.bipush 52, 2) := dk_16 52 (dk_at dksX6_stands_4 3 rfl rfl)
theorem dX6_stands_99 : decode cX6_stands 99 = .ok (.if_icmp .ge 73, 3) := dk_162 0 73 (dk_at dksX6_stands_4 5 rfl rfl)
theorem dX6_stands_102 : decode cX6_stands 102 = .ok (.aload_n 0, 1) := dk_42 (dk_at dksX6_stands_4 8 rfl rfl)
theorem dX6_stands_103 : decode cX6_stands 103 = .ok (.getfield 45, 3) := dk_180 0 45 (dk_at dksX6_stands_4 9 rfl rfl)
theorem dX6_stands_106 : decode cX6_stands 106 = .ok (.iload_n 1, 1) := dk_27 (dk_at dksX6_stands_4 12 rfl rfl)
theorem dX6_stands_107 : decode cX6_stands 107 = .ok (.aload_n 0, 1) := dk_42 (dk_at dksX6_stands_4 13 rfl rfl)
theorem dX6_stands_108 : decode cX6_stands 108 = .ok (.getfield 23, 3) := dk_180 0 23 (dk_at dksX6_stands_4 14 rfl rfl)
theorem dX6_stands_111 : decode cX6_stands 111 = .ok (.iconst 0, 1) := dk_3 (dk_at dksX6_stands_4 17 rfl rfl)
theorem dX6_stands_112 : decode cX6_stands 112 = .ok (.iaload, 1) := dk_46 (dk_at dksX6_stands_4 18 rfl rfl)
theorem dX6_stands_113 : decode cX6_stands 113 = .ok (.invokestatic 204, 3) := dk_184 0 204 (dk_at dksX6_stands_4 19 rfl rfl)
theorem dX6_stands_116 : decode cX6_stands 116 = .ok (.lastore, 1) := dk_80 (dk_at dksX6_stands_4 22 rfl rfl)
theorem dX6_stands_117 : decode cX6_stands 117 = .ok (.iconst 0, 1) := dk_3 (dk_at dksX6_stands_4 23 rfl rfl)
theorem dX6_stands_118 : decode cX6_stands 118 = .ok (.istore_n 2, 1) := dk_61 (dk_at dksX6_stands_5 0 rfl rfl)
theorem dX6_stands_119 : decode cX6_stands 119 = .ok (.iload_n 2, 1) := dk_28 (dk_at dksX6_stands_5 1 rfl rfl)
theorem dX6_stands_120 : decode cX6_stands 120 = .ok (.aload_n 0, 1) := dk_42 (dk_at dksX6_stands_5 2 rfl rfl)
theorem dX6_stands_121 : decode cX6_stands 121 = .ok (.getfield 23, 3) := dk_180 0 23 (dk_at dksX6_stands_5 3 rfl rfl)
theorem dX6_stands_124 : decode cX6_stands 124 = .ok (.iconst 2, 1) := dk_5 (dk_at dksX6_stands_5 6 rfl rfl)
theorem dX6_stands_125 : decode cX6_stands 125 = .ok (.iaload, 1) := dk_46 (dk_at dksX6_stands_5 7 rfl rfl)
theorem dX6_stands_126 : decode cX6_stands 126 = .ok (.if_icmp .ge 40, 3) := dk_162 0 40 (dk_at dksX6_stands_5 8 rfl rfl)
theorem dX6_stands_129 : decode cX6_stands 129 = .ok (.aload_n 0, 1) := dk_42 (dk_at dksX6_stands_5 11 rfl rfl)
theorem dX6_stands_130 : decode cX6_stands 130 = .ok (.getfield 45, 3) := dk_180 0 45 (dk_at dksX6_stands_5 12 rfl rfl)
theorem dX6_stands_133 : decode cX6_stands 133 = .ok (.iload_n 1, 1) := dk_27 (dk_at dksX6_stands_5 15 rfl rfl)
theorem dX6_stands_134 : decode cX6_stands 134 = .ok (.dup2, 1) := dk_92 (dk_at dksX6_stands_5 16 rfl rfl)
theorem dX6_stands_135 : decode cX6_stands 135 = .ok (.laload, 1) := dk_47 (dk_at dksX6_stands_5 17 rfl rfl)
theorem dX6_stands_136 : decode cX6_stands 136 = .ok (.aload_n 0, 1) := dk_42 (dk_at dksX6_stands_5 18 rfl rfl)
theorem dX6_stands_137 : decode cX6_stands 137 = .ok (.getfield 29, 3) := dk_180 0 29 (dk_at dksX6_stands_5 19 rfl rfl)
theorem dX6_stands_140 : decode cX6_stands 140 = .ok (.iload_n 2, 1) := dk_28 (dk_at dksX6_stands_5 22 rfl rfl)
theorem dX6_stands_141 : decode cX6_stands 141 = .ok (.iaload, 1) := dk_46 (dk_at dksX6_stands_5 23 rfl rfl)
theorem dX6_stands_142 : decode cX6_stands 142 = .ok (.iload_n 1, 1) := dk_27 (dk_at dksX6_stands_6 0 rfl rfl)
theorem dX6_stands_143 : decode cX6_stands 143 = .ok (.if_icmp .gt 12, 3) := dk_163 0 12 (dk_at dksX6_stands_6 1 rfl rfl)
theorem dX6_stands_146 : decode cX6_stands 146 = .ok (.aload_n 0, 1) := dk_42 (dk_at dksX6_stands_6 4 rfl rfl)
theorem dX6_stands_147 : decode cX6_stands 147 = .ok (.getfield 42, 3) := dk_180 0 42 (dk_at dksX6_stands_6 5 rfl rfl)
theorem dX6_stands_150 : decode cX6_stands 150 = .ok (.iload_n 2, 1) := dk_28 (dk_at dksX6_stands_6 8 rfl rfl)
theorem dX6_stands_151 : decode cX6_stands 151 = .ok (.laload, 1) := dk_47 (dk_at dksX6_stands_6 9 rfl rfl)
theorem dX6_stands_152 : decode cX6_stands 152 = .ok (.goto 6, 3) := dk_167 0 6 (dk_at dksX6_stands_6 10 rfl rfl)
theorem dX6_stands_155 : decode cX6_stands 155 = .ok (.ldc2_w 48, 3) := dk_20 0 48 (dk_at dksX6_stands_6 13 rfl rfl)
theorem dX6_stands_158 : decode cX6_stands 158 = .ok (.land, 1) := dk_127 (dk_at dksX6_stands_6 16 rfl rfl)
theorem dX6_stands_159 : decode cX6_stands 159 = .ok (.lastore, 1) := dk_80 (dk_at dksX6_stands_6 17 rfl rfl)
theorem dX6_stands_160 : decode cX6_stands 160 = .ok (.iinc 2 1, 3) := dk_132 2 1 (dk_at dksX6_stands_6 18 rfl rfl)
theorem dX6_stands_163 : decode cX6_stands 163 = .ok (.goto (-44), 3) := dk_167 255 212 (dk_at dksX6_stands_6 21 rfl rfl)
theorem dX6_stands_166 : decode cX6_stands 166 = .ok (.iinc 1 1, 3) := dk_132 1 1 (dk_at dksX6_stands_7 0 rfl rfl)
theorem dX6_stands_169 : decode cX6_stands 169 = .ok (.goto (-73), 3) := dk_167 255 183 (dk_at dksX6_stands_7 3 rfl rfl)
theorem dX6_stands_172 : decode cX6_stands 172 = .ok (.iconst 0, 1) := dk_3 (dk_at dksX6_stands_7 6 rfl rfl)
theorem dX6_stands_173 : decode cX6_stands 173 = .ok (.istore_n 1, 1) := dk_60 (dk_at dksX6_stands_7 7 rfl rfl)
theorem dX6_stands_174 : decode cX6_stands 174 = .ok (.iload_n 1, 1) := dk_27 (dk_at dksX6_stands_7 8 rfl rfl)
theorem dX6_stands_175 : decode cX6_stands 175 = .ok (.bipush 12, 2) := dk_16 12 (dk_at dksX6_stands_7 9 rfl rfl)
theorem dX6_stands_177 : decode cX6_stands 177 = .ok (.if_icmp .ge 16, 3) := dk_162 0 16 (dk_at dksX6_stands_7 11 rfl rfl)
theorem dX6_stands_180 : decode cX6_stands 180 = .ok (.aload_n 0, 1) := dk_42 (dk_at dksX6_stands_7 14 rfl rfl)
theorem dX6_stands_181 : decode cX6_stands 181 = .ok (.getfield 54, 3) := dk_180 0 54 (dk_at dksX6_stands_7 15 rfl rfl)
theorem dX6_stands_184 : decode cX6_stands 184 = .ok (.iload_n 1, 1) := dk_27 (dk_at dksX6_stands_7 18 rfl rfl)
theorem dX6_stands_185 : decode cX6_stands 185 = .ok (.iload_n 1, 1) := dk_27 (dk_at dksX6_stands_7 19 rfl rfl)
theorem dX6_stands_186 : decode cX6_stands 186 = .ok (.iastore, 1) := dk_79 (dk_at dksX6_stands_7 20 rfl rfl)
theorem dX6_stands_187 : decode cX6_stands 187 = .ok (.iinc 1 1, 3) := dk_132 1 1 (dk_at dksX6_stands_7 21 rfl rfl)
theorem dX6_stands_190 : decode cX6_stands 190 = .ok (.goto (-16), 3) := dk_167 255 240 (dk_at dksX6_stands_8 0 rfl rfl)
theorem dX6_stands_193 : decode cX6_stands 193 = .ok (.aload_n 0, 1) := dk_42 (dk_at dksX6_stands_8 3 rfl rfl)
theorem dX6_stands_194 : decode cX6_stands 194 = .ok (.aload_n 0, 1) := dk_42 (dk_at dksX6_stands_8 4 rfl rfl)
theorem dX6_stands_195 : decode cX6_stands 195 = .ok (.getfield 23, 3) := dk_180 0 23 (dk_at dksX6_stands_8 5 rfl rfl)
theorem dX6_stands_198 : decode cX6_stands 198 = .ok (.iconst 0, 1) := dk_3 (dk_at dksX6_stands_8 8 rfl rfl)
theorem dX6_stands_199 : decode cX6_stands 199 = .ok (.iaload, 1) := dk_46 (dk_at dksX6_stands_8 9 rfl rfl)
theorem dX6_stands_200 : decode cX6_stands 200 = .ok (.invokestatic 204, 3) := dk_184 0 204 (dk_at dksX6_stands_8 10 rfl rfl)
theorem dX6_stands_203 : decode cX6_stands 203 = .ok (.putfield 50, 3) := dk_181 0 50 (dk_at dksX6_stands_8 13 rfl rfl)
theorem dX6_stands_206 : decode cX6_stands 206 = .ok (.aload_n 0, 1) := dk_42 (dk_at dksX6_stands_8 16 rfl rfl)
theorem dX6_stands_207 : decode cX6_stands 207 = .ok (.iconst 0, 1) := dk_3 (dk_at dksX6_stands_8 17 rfl rfl)
theorem dX6_stands_208 : decode cX6_stands 208 = .ok (.putfield 243, 3) := dk_181 0 243 (dk_at dksX6_stands_8 18 rfl rfl)
theorem dX6_stands_211 : decode cX6_stands 211 = .ok (.aload_n 0, 1) := dk_42 (dk_at dksX6_stands_8 21 rfl rfl)
theorem dX6_stands_212 : decode cX6_stands 212 = .ok (.iconst 0, 1) := dk_3 (dk_at dksX6_stands_8 22 rfl rfl)
theorem dX6_stands_213 : decode cX6_stands 213 = .ok (.putfield 246, 3) := dk_181 0 246 (dk_at dksX6_stands_9 0 rfl rfl)
theorem dX6_stands_216 : decode cX6_stands 216 = .ok (.return_, 1) := dk_177 (dk_at dksX6_stands_9 3 rfl rfl)
abbrev cX6_allOf : ByteArray := prog_19_method_22_code
def yX6_allOf : MethodName := ⟨RX6, "allOf", "(I)J"⟩
def dkwX6_allOf_0 : List UInt8 := [26, 16, 6, 160, 0, 9, 20, 0, 48, 167, 0, 10, 10, 4, 26, 120, 121, 10, 101, 173]
abbrev dktX6_allOf_0 : List UInt8 := dkwX6_allOf_0 ++ []
theorem dksX6_allOf_0 : cX6_allOf.data.toList.drop 0 = dktX6_allOf_0 := by decide +kernel
theorem dX6_allOf_0 : decode cX6_allOf 0 = .ok (.iload_n 0, 1) := dk_26 (dk_at dksX6_allOf_0 0 rfl rfl)
theorem dX6_allOf_1 : decode cX6_allOf 1 = .ok (.bipush 6, 2) := dk_16 6 (dk_at dksX6_allOf_0 1 rfl rfl)
theorem dX6_allOf_3 : decode cX6_allOf 3 = .ok (.if_icmp .ne 9, 3) := dk_160 0 9 (dk_at dksX6_allOf_0 3 rfl rfl)
theorem dX6_allOf_6 : decode cX6_allOf 6 = .ok (.ldc2_w 48, 3) := dk_20 0 48 (dk_at dksX6_allOf_0 6 rfl rfl)
theorem dX6_allOf_9 : decode cX6_allOf 9 = .ok (.goto 10, 3) := dk_167 0 10 (dk_at dksX6_allOf_0 9 rfl rfl)
theorem dX6_allOf_12 : decode cX6_allOf 12 = .ok (.lconst 1, 1) := dk_10 (dk_at dksX6_allOf_0 12 rfl rfl)
theorem dX6_allOf_13 : decode cX6_allOf 13 = .ok (.iconst 1, 1) := dk_4 (dk_at dksX6_allOf_0 13 rfl rfl)
theorem dX6_allOf_14 : decode cX6_allOf 14 = .ok (.iload_n 0, 1) := dk_26 (dk_at dksX6_allOf_0 14 rfl rfl)
theorem dX6_allOf_15 : decode cX6_allOf 15 = .ok (.ishl, 1) := dk_120 (dk_at dksX6_allOf_0 15 rfl rfl)
theorem dX6_allOf_16 : decode cX6_allOf 16 = .ok (.lshl, 1) := dk_121 (dk_at dksX6_allOf_0 16 rfl rfl)
theorem dX6_allOf_17 : decode cX6_allOf 17 = .ok (.lconst 1, 1) := dk_10 (dk_at dksX6_allOf_0 17 rfl rfl)
theorem dX6_allOf_18 : decode cX6_allOf 18 = .ok (.lsub, 1) := dk_101 (dk_at dksX6_allOf_0 18 rfl rfl)
theorem dX6_allOf_19 : decode cX6_allOf 19 = .ok (.lreturn, 1) := dk_173 (dk_at dksX6_allOf_0 19 rfl rfl)
abbrev cX6_thrown : ByteArray := prog_19_method_3_code
def yX6_thrown : MethodName := ⟨RX6, "thrown", "()I"⟩
theorem dX6_thrown_0 : decode cX6_thrown 0 = .ok (.aload_n 0, 1) := by decide +kernel
theorem dX6_thrown_1 : decode cX6_thrown 1 = .ok (.getfield 132, 3) := by decide +kernel
theorem dX6_thrown_4 : decode cX6_thrown 4 = .ok (.ireturn, 1) := by decide +kernel
abbrev cX6_feed : ByteArray := prog_19_method_6_code
def yX6_feed : MethodName := ⟨RX6, "feed", "(IIIII)I"⟩
def dkwX6_feed_5 : List UInt8 := [167, 255, 162, 42, 180, 0, 135, 172]
abbrev dktX6_feed_5 : List UInt8 := dkwX6_feed_5 ++ []
def dkwX6_feed_4 : List UInt8 := [112, 104, 100, 122, 17, 0, 255, 126, 79, 42, 89, 180, 0, 135, 4, 96, 181, 0, 135, 132, 6, 1]
abbrev dktX6_feed_4 : List UInt8 := dkwX6_feed_4 ++ dktX6_feed_5
def dkwX6_feed_3 : List UInt8 := [167, 0, 5, 21, 5, 54, 7, 42, 180, 0, 13, 42, 180, 0, 135, 21, 7, 16, 24, 16, 8, 21, 6, 7]
abbrev dktX6_feed_3 : List UInt8 := dkwX6_feed_3 ++ dktX6_feed_4
def dkwX6_feed_2 : List UInt8 := [28, 167, 0, 28, 21, 6, 16, 12, 162, 0, 7, 29, 167, 0, 17, 21, 6, 16, 16, 162, 0, 8, 21, 4]
abbrev dktX6_feed_2 : List UInt8 := dkwX6_feed_2 ++ dktX6_feed_3
def dkwX6_feed_1 : List UInt8 := [21, 6, 16, 20, 162, 0, 93, 21, 6, 7, 162, 0, 7, 27, 167, 0, 39, 21, 6, 16, 8, 162, 0, 7]
abbrev dktX6_feed_1 : List UInt8 := dkwX6_feed_1 ++ dktX6_feed_2
def dkwX6_feed_0 : List UInt8 := [42, 3, 181, 0, 132, 42, 180, 0, 135, 16, 20, 96, 17, 2, 88, 164, 0, 5, 2, 172, 3, 54, 6]
abbrev dktX6_feed_0 : List UInt8 := dkwX6_feed_0 ++ dktX6_feed_1
theorem dksX6_feed_0 : cX6_feed.data.toList.drop 0 = dktX6_feed_0 := by decide +kernel
theorem dksX6_feed_1 : cX6_feed.data.toList.drop 23 = dktX6_feed_1 := dk_seg dksX6_feed_0 23 rfl rfl
theorem dksX6_feed_2 : cX6_feed.data.toList.drop 47 = dktX6_feed_2 := dk_seg dksX6_feed_1 24 rfl rfl
theorem dksX6_feed_3 : cX6_feed.data.toList.drop 71 = dktX6_feed_3 := dk_seg dksX6_feed_2 24 rfl rfl
theorem dksX6_feed_4 : cX6_feed.data.toList.drop 95 = dktX6_feed_4 := dk_seg dksX6_feed_3 24 rfl rfl
theorem dksX6_feed_5 : cX6_feed.data.toList.drop 117 = dktX6_feed_5 := dk_seg dksX6_feed_4 22 rfl rfl
theorem dX6_feed_0 : decode cX6_feed 0 = .ok (.aload_n 0, 1) := dk_42 (dk_at dksX6_feed_0 0 rfl rfl)
theorem dX6_feed_1 : decode cX6_feed 1 = .ok (.iconst 0, 1) := dk_3 (dk_at dksX6_feed_0 1 rfl rfl)
theorem dX6_feed_2 : decode cX6_feed 2 = .ok (.putfield 132, 3) := dk_181 0 132 (dk_at dksX6_feed_0 2 rfl rfl)
theorem dX6_feed_5 : decode cX6_feed 5 = .ok (.aload_n 0, 1) := dk_42 (dk_at dksX6_feed_0 5 rfl rfl)
theorem dX6_feed_6 : decode cX6_feed 6 = .ok (.getfield 135, 3) := dk_180 0 135 (dk_at dksX6_feed_0 6 rfl rfl)
theorem dX6_feed_9 : decode cX6_feed 9 = .ok (.bipush 20, 2) := dk_16 20 (dk_at dksX6_feed_0 9 rfl rfl)
theorem dX6_feed_11 : decode cX6_feed 11 = .ok (.iadd, 1) := dk_96 (dk_at dksX6_feed_0 11 rfl rfl)
theorem dX6_feed_12 : decode cX6_feed 12 = .ok (.sipush 600, 3) := dk_17 2 88 (dk_at dksX6_feed_0 12 rfl rfl)
theorem dX6_feed_15 : decode cX6_feed 15 = .ok (.if_icmp .le 5, 3) := dk_164 0 5 (dk_at dksX6_feed_0 15 rfl rfl)
theorem dX6_feed_18 : decode cX6_feed 18 = .ok (.iconst (-1), 1) := dk_2 (dk_at dksX6_feed_0 18 rfl rfl)
theorem dX6_feed_19 : decode cX6_feed 19 = .ok (.ireturn, 1) := dk_172 (dk_at dksX6_feed_0 19 rfl rfl)
theorem dX6_feed_20 : decode cX6_feed 20 = .ok (.iconst 0, 1) := dk_3 (dk_at dksX6_feed_0 20 rfl rfl)
theorem dX6_feed_21 : decode cX6_feed 21 = .ok (.istore 6, 2) := dk_54 6 (dk_at dksX6_feed_0 21 rfl rfl)
theorem dX6_feed_23 : decode cX6_feed 23 = .ok (.iload 6, 2) := dk_21 6 (dk_at dksX6_feed_1 0 rfl rfl)
theorem dX6_feed_25 : decode cX6_feed 25 = .ok (.bipush 20, 2) := dk_16 20 (dk_at dksX6_feed_1 2 rfl rfl)
theorem dX6_feed_27 : decode cX6_feed 27 = .ok (.if_icmp .ge 93, 3) := dk_162 0 93 (dk_at dksX6_feed_1 4 rfl rfl)
theorem dX6_feed_30 : decode cX6_feed 30 = .ok (.iload 6, 2) := dk_21 6 (dk_at dksX6_feed_1 7 rfl rfl)
theorem dX6_feed_32 : decode cX6_feed 32 = .ok (.iconst 4, 1) := dk_7 (dk_at dksX6_feed_1 9 rfl rfl)
theorem dX6_feed_33 : decode cX6_feed 33 = .ok (.if_icmp .ge 7, 3) := dk_162 0 7 (dk_at dksX6_feed_1 10 rfl rfl)
theorem dX6_feed_36 : decode cX6_feed 36 = .ok (.iload_n 1, 1) := dk_27 (dk_at dksX6_feed_1 13 rfl rfl)
theorem dX6_feed_37 : decode cX6_feed 37 = .ok (.goto 39, 3) := dk_167 0 39 (dk_at dksX6_feed_1 14 rfl rfl)
theorem dX6_feed_40 : decode cX6_feed 40 = .ok (.iload 6, 2) := dk_21 6 (dk_at dksX6_feed_1 17 rfl rfl)
theorem dX6_feed_42 : decode cX6_feed 42 = .ok (.bipush 8, 2) := dk_16 8 (dk_at dksX6_feed_1 19 rfl rfl)
theorem dX6_feed_44 : decode cX6_feed 44 = .ok (.if_icmp .ge 7, 3) := dk_162 0 7 (dk_at dksX6_feed_1 21 rfl rfl)
theorem dX6_feed_47 : decode cX6_feed 47 = .ok (.iload_n 2, 1) := dk_28 (dk_at dksX6_feed_2 0 rfl rfl)
theorem dX6_feed_48 : decode cX6_feed 48 = .ok (.goto 28, 3) := dk_167 0 28 (dk_at dksX6_feed_2 1 rfl rfl)
theorem dX6_feed_51 : decode cX6_feed 51 = .ok (.iload 6, 2) := dk_21 6 (dk_at dksX6_feed_2 4 rfl rfl)
theorem dX6_feed_53 : decode cX6_feed 53 = .ok (.bipush 12, 2) := dk_16 12 (dk_at dksX6_feed_2 6 rfl rfl)
theorem dX6_feed_55 : decode cX6_feed 55 = .ok (.if_icmp .ge 7, 3) := dk_162 0 7 (dk_at dksX6_feed_2 8 rfl rfl)
theorem dX6_feed_58 : decode cX6_feed 58 = .ok (.iload_n 3, 1) := dk_29 (dk_at dksX6_feed_2 11 rfl rfl)
theorem dX6_feed_59 : decode cX6_feed 59 = .ok (.goto 17, 3) := dk_167 0 17 (dk_at dksX6_feed_2 12 rfl rfl)
theorem dX6_feed_62 : decode cX6_feed 62 = .ok (.iload 6, 2) := dk_21 6 (dk_at dksX6_feed_2 15 rfl rfl)
theorem dX6_feed_64 : decode cX6_feed 64 = .ok (.bipush 16, 2) := dk_16 16 (dk_at dksX6_feed_2 17 rfl rfl)
theorem dX6_feed_66 : decode cX6_feed 66 = .ok (.if_icmp .ge 8, 3) := dk_162 0 8 (dk_at dksX6_feed_2 19 rfl rfl)
theorem dX6_feed_69 : decode cX6_feed 69 = .ok (.iload 4, 2) := dk_21 4 (dk_at dksX6_feed_2 22 rfl rfl)
theorem dX6_feed_71 : decode cX6_feed 71 = .ok (.goto 5, 3) := dk_167 0 5 (dk_at dksX6_feed_3 0 rfl rfl)
theorem dX6_feed_74 : decode cX6_feed 74 = .ok (.iload 5, 2) := dk_21 5 (dk_at dksX6_feed_3 3 rfl rfl)
theorem dX6_feed_76 : decode cX6_feed 76 = .ok (.istore 7, 2) := dk_54 7 (dk_at dksX6_feed_3 5 rfl rfl)
theorem dX6_feed_78 : decode cX6_feed 78 = .ok (.aload_n 0, 1) := dk_42 (dk_at dksX6_feed_3 7 rfl rfl)
theorem dX6_feed_79 : decode cX6_feed 79 = .ok (.getfield 13, 3) := dk_180 0 13 (dk_at dksX6_feed_3 8 rfl rfl)
theorem dX6_feed_82 : decode cX6_feed 82 = .ok (.aload_n 0, 1) := dk_42 (dk_at dksX6_feed_3 11 rfl rfl)
theorem dX6_feed_83 : decode cX6_feed 83 = .ok (.getfield 135, 3) := dk_180 0 135 (dk_at dksX6_feed_3 12 rfl rfl)
theorem dX6_feed_86 : decode cX6_feed 86 = .ok (.iload 7, 2) := dk_21 7 (dk_at dksX6_feed_3 15 rfl rfl)
theorem dX6_feed_88 : decode cX6_feed 88 = .ok (.bipush 24, 2) := dk_16 24 (dk_at dksX6_feed_3 17 rfl rfl)
theorem dX6_feed_90 : decode cX6_feed 90 = .ok (.bipush 8, 2) := dk_16 8 (dk_at dksX6_feed_3 19 rfl rfl)
theorem dX6_feed_92 : decode cX6_feed 92 = .ok (.iload 6, 2) := dk_21 6 (dk_at dksX6_feed_3 21 rfl rfl)
theorem dX6_feed_94 : decode cX6_feed 94 = .ok (.iconst 4, 1) := dk_7 (dk_at dksX6_feed_3 23 rfl rfl)
theorem dX6_feed_95 : decode cX6_feed 95 = .ok (.irem, 1) := dk_112 (dk_at dksX6_feed_4 0 rfl rfl)
theorem dX6_feed_96 : decode cX6_feed 96 = .ok (.imul, 1) := dk_104 (dk_at dksX6_feed_4 1 rfl rfl)
theorem dX6_feed_97 : decode cX6_feed 97 = .ok (.isub, 1) := dk_100 (dk_at dksX6_feed_4 2 rfl rfl)
theorem dX6_feed_98 : decode cX6_feed 98 = .ok (.ishr, 1) := dk_122 (dk_at dksX6_feed_4 3 rfl rfl)
theorem dX6_feed_99 : decode cX6_feed 99 = .ok (.sipush 255, 3) := dk_17 0 255 (dk_at dksX6_feed_4 4 rfl rfl)
theorem dX6_feed_102 : decode cX6_feed 102 = .ok (.iand, 1) := dk_126 (dk_at dksX6_feed_4 7 rfl rfl)
theorem dX6_feed_103 : decode cX6_feed 103 = .ok (.iastore, 1) := dk_79 (dk_at dksX6_feed_4 8 rfl rfl)
theorem dX6_feed_104 : decode cX6_feed 104 = .ok (.aload_n 0, 1) := dk_42 (dk_at dksX6_feed_4 9 rfl rfl)
theorem dX6_feed_105 : decode cX6_feed 105 = .ok (.dup, 1) := dk_89 (dk_at dksX6_feed_4 10 rfl rfl)
theorem dX6_feed_106 : decode cX6_feed 106 = .ok (.getfield 135, 3) := dk_180 0 135 (dk_at dksX6_feed_4 11 rfl rfl)
theorem dX6_feed_109 : decode cX6_feed 109 = .ok (.iconst 1, 1) := dk_4 (dk_at dksX6_feed_4 14 rfl rfl)
theorem dX6_feed_110 : decode cX6_feed 110 = .ok (.iadd, 1) := dk_96 (dk_at dksX6_feed_4 15 rfl rfl)
theorem dX6_feed_111 : decode cX6_feed 111 = .ok (.putfield 135, 3) := dk_181 0 135 (dk_at dksX6_feed_4 16 rfl rfl)
theorem dX6_feed_114 : decode cX6_feed 114 = .ok (.iinc 6 1, 3) := dk_132 6 1 (dk_at dksX6_feed_4 19 rfl rfl)
theorem dX6_feed_117 : decode cX6_feed 117 = .ok (.goto (-94), 3) := dk_167 255 162 (dk_at dksX6_feed_5 0 rfl rfl)
theorem dX6_feed_120 : decode cX6_feed 120 = .ok (.aload_n 0, 1) := dk_42 (dk_at dksX6_feed_5 3 rfl rfl)
theorem dX6_feed_121 : decode cX6_feed 121 = .ok (.getfield 135, 3) := dk_180 0 135 (dk_at dksX6_feed_5 4 rfl rfl)
theorem dX6_feed_124 : decode cX6_feed 124 = .ok (.ireturn, 1) := dk_172 (dk_at dksX6_feed_5 7 rfl rfl)
abbrev cX6_jar : ByteArray := prog_19_method_30_code
def yX6_jar : MethodName := ⟨RX6, "jar", "(I)I"⟩
def dkwX6_jar_4 : List UInt8 := [100, 172, 42, 182, 0, 129, 42, 180, 0, 23, 4, 46, 172]
abbrev dktX6_jar_4 : List UInt8 := dkwX6_jar_4 ++ []
def dkwX6_jar_3 : List UInt8 := [167, 255, 230, 42, 42, 180, 0, 151, 181, 0, 9, 42, 180, 0, 148, 153, 0, 11, 42, 180, 0, 148, 16, 10]
abbrev dktX6_jar_3 : List UInt8 := dkwX6_jar_3 ++ dktX6_jar_4
def dkwX6_jar_2 : List UInt8 := [154, 0, 25, 42, 180, 0, 141, 42, 180, 0, 138, 162, 0, 14, 42, 182, 0, 240, 42, 182, 0, 154]
abbrev dktX6_jar_2 : List UInt8 := dkwX6_jar_2 ++ dktX6_jar_3
def dkwX6_jar_1 : List UInt8 := [4, 182, 0, 233, 153, 0, 5, 3, 172, 42, 27, 182, 0, 237, 42, 182, 0, 126, 42, 180, 0, 148]
abbrev dktX6_jar_1 : List UInt8 := dkwX6_jar_1 ++ dktX6_jar_2
def dkwX6_jar_0 : List UInt8 := [42, 3, 181, 0, 132, 42, 27, 3, 42, 180, 0, 135, 184, 0, 166, 154, 0, 7, 4, 167, 0, 4, 3, 4]
abbrev dktX6_jar_0 : List UInt8 := dkwX6_jar_0 ++ dktX6_jar_1
theorem dksX6_jar_0 : cX6_jar.data.toList.drop 0 = dktX6_jar_0 := by decide +kernel
theorem dksX6_jar_1 : cX6_jar.data.toList.drop 24 = dktX6_jar_1 := dk_seg dksX6_jar_0 24 rfl rfl
theorem dksX6_jar_2 : cX6_jar.data.toList.drop 46 = dktX6_jar_2 := dk_seg dksX6_jar_1 22 rfl rfl
theorem dksX6_jar_3 : cX6_jar.data.toList.drop 68 = dktX6_jar_3 := dk_seg dksX6_jar_2 22 rfl rfl
theorem dksX6_jar_4 : cX6_jar.data.toList.drop 92 = dktX6_jar_4 := dk_seg dksX6_jar_3 24 rfl rfl
theorem dX6_jar_0 : decode cX6_jar 0 = .ok (.aload_n 0, 1) := dk_42 (dk_at dksX6_jar_0 0 rfl rfl)
theorem dX6_jar_1 : decode cX6_jar 1 = .ok (.iconst 0, 1) := dk_3 (dk_at dksX6_jar_0 1 rfl rfl)
theorem dX6_jar_2 : decode cX6_jar 2 = .ok (.putfield 132, 3) := dk_181 0 132 (dk_at dksX6_jar_0 2 rfl rfl)
theorem dX6_jar_5 : decode cX6_jar 5 = .ok (.aload_n 0, 1) := dk_42 (dk_at dksX6_jar_0 5 rfl rfl)
theorem dX6_jar_6 : decode cX6_jar 6 = .ok (.iload_n 1, 1) := dk_27 (dk_at dksX6_jar_0 6 rfl rfl)
theorem dX6_jar_7 : decode cX6_jar 7 = .ok (.iconst 0, 1) := dk_3 (dk_at dksX6_jar_0 7 rfl rfl)
theorem dX6_jar_8 : decode cX6_jar 8 = .ok (.aload_n 0, 1) := dk_42 (dk_at dksX6_jar_0 8 rfl rfl)
theorem dX6_jar_9 : decode cX6_jar 9 = .ok (.getfield 135, 3) := dk_180 0 135 (dk_at dksX6_jar_0 9 rfl rfl)
theorem dX6_jar_12 : decode cX6_jar 12 = .ok (.invokestatic 166, 3) := dk_184 0 166 (dk_at dksX6_jar_0 12 rfl rfl)
theorem dX6_jar_15 : decode cX6_jar 15 = .ok (.ifCond .ne 7, 3) := dk_154 0 7 (dk_at dksX6_jar_0 15 rfl rfl)
theorem dX6_jar_18 : decode cX6_jar 18 = .ok (.iconst 1, 1) := dk_4 (dk_at dksX6_jar_0 18 rfl rfl)
theorem dX6_jar_19 : decode cX6_jar 19 = .ok (.goto 4, 3) := dk_167 0 4 (dk_at dksX6_jar_0 19 rfl rfl)
theorem dX6_jar_22 : decode cX6_jar 22 = .ok (.iconst 0, 1) := dk_3 (dk_at dksX6_jar_0 22 rfl rfl)
theorem dX6_jar_23 : decode cX6_jar 23 = .ok (.iconst 1, 1) := dk_4 (dk_at dksX6_jar_0 23 rfl rfl)
theorem dX6_jar_24 : decode cX6_jar 24 = .ok (.iconst 1, 1) := dk_4 (dk_at dksX6_jar_1 0 rfl rfl)
theorem dX6_jar_25 : decode cX6_jar 25 = .ok (.invokevirtual 233, 3) := dk_182 0 233 (dk_at dksX6_jar_1 1 rfl rfl)
theorem dX6_jar_28 : decode cX6_jar 28 = .ok (.ifCond .eq 5, 3) := dk_153 0 5 (dk_at dksX6_jar_1 4 rfl rfl)
theorem dX6_jar_31 : decode cX6_jar 31 = .ok (.iconst 0, 1) := dk_3 (dk_at dksX6_jar_1 7 rfl rfl)
theorem dX6_jar_32 : decode cX6_jar 32 = .ok (.ireturn, 1) := dk_172 (dk_at dksX6_jar_1 8 rfl rfl)
theorem dX6_jar_33 : decode cX6_jar 33 = .ok (.aload_n 0, 1) := dk_42 (dk_at dksX6_jar_1 9 rfl rfl)
theorem dX6_jar_34 : decode cX6_jar 34 = .ok (.iload_n 1, 1) := dk_27 (dk_at dksX6_jar_1 10 rfl rfl)
theorem dX6_jar_35 : decode cX6_jar 35 = .ok (.invokevirtual 237, 3) := dk_182 0 237 (dk_at dksX6_jar_1 11 rfl rfl)
theorem dX6_jar_38 : decode cX6_jar 38 = .ok (.aload_n 0, 1) := dk_42 (dk_at dksX6_jar_1 14 rfl rfl)
theorem dX6_jar_39 : decode cX6_jar 39 = .ok (.invokevirtual 126, 3) := dk_182 0 126 (dk_at dksX6_jar_1 15 rfl rfl)
theorem dX6_jar_42 : decode cX6_jar 42 = .ok (.aload_n 0, 1) := dk_42 (dk_at dksX6_jar_1 18 rfl rfl)
theorem dX6_jar_43 : decode cX6_jar 43 = .ok (.getfield 148, 3) := dk_180 0 148 (dk_at dksX6_jar_1 19 rfl rfl)
theorem dX6_jar_46 : decode cX6_jar 46 = .ok (.ifCond .ne 25, 3) := dk_154 0 25 (dk_at dksX6_jar_2 0 rfl rfl)
theorem dX6_jar_49 : decode cX6_jar 49 = .ok (.aload_n 0, 1) := dk_42 (dk_at dksX6_jar_2 3 rfl rfl)
theorem dX6_jar_50 : decode cX6_jar 50 = .ok (.getfield 141, 3) := dk_180 0 141 (dk_at dksX6_jar_2 4 rfl rfl)
theorem dX6_jar_53 : decode cX6_jar 53 = .ok (.aload_n 0, 1) := dk_42 (dk_at dksX6_jar_2 7 rfl rfl)
theorem dX6_jar_54 : decode cX6_jar 54 = .ok (.getfield 138, 3) := dk_180 0 138 (dk_at dksX6_jar_2 8 rfl rfl)
theorem dX6_jar_57 : decode cX6_jar 57 = .ok (.if_icmp .ge 14, 3) := dk_162 0 14 (dk_at dksX6_jar_2 11 rfl rfl)
theorem dX6_jar_60 : decode cX6_jar 60 = .ok (.aload_n 0, 1) := dk_42 (dk_at dksX6_jar_2 14 rfl rfl)
theorem dX6_jar_61 : decode cX6_jar 61 = .ok (.invokevirtual 240, 3) := dk_182 0 240 (dk_at dksX6_jar_2 15 rfl rfl)
theorem dX6_jar_64 : decode cX6_jar 64 = .ok (.aload_n 0, 1) := dk_42 (dk_at dksX6_jar_2 18 rfl rfl)
theorem dX6_jar_65 : decode cX6_jar 65 = .ok (.invokevirtual 154, 3) := dk_182 0 154 (dk_at dksX6_jar_2 19 rfl rfl)
theorem dX6_jar_68 : decode cX6_jar 68 = .ok (.goto (-26), 3) := dk_167 255 230 (dk_at dksX6_jar_3 0 rfl rfl)
theorem dX6_jar_71 : decode cX6_jar 71 = .ok (.aload_n 0, 1) := dk_42 (dk_at dksX6_jar_3 3 rfl rfl)
theorem dX6_jar_72 : decode cX6_jar 72 = .ok (.aload_n 0, 1) := dk_42 (dk_at dksX6_jar_3 4 rfl rfl)
theorem dX6_jar_73 : decode cX6_jar 73 = .ok (.getfield 151, 3) := dk_180 0 151 (dk_at dksX6_jar_3 5 rfl rfl)
theorem dX6_jar_76 : decode cX6_jar 76 = .ok (.putfield 9, 3) := dk_181 0 9 (dk_at dksX6_jar_3 8 rfl rfl)
theorem dX6_jar_79 : decode cX6_jar 79 = .ok (.aload_n 0, 1) := dk_42 (dk_at dksX6_jar_3 11 rfl rfl)
theorem dX6_jar_80 : decode cX6_jar 80 = .ok (.getfield 148, 3) := dk_180 0 148 (dk_at dksX6_jar_3 12 rfl rfl)
theorem dX6_jar_83 : decode cX6_jar 83 = .ok (.ifCond .eq 11, 3) := dk_153 0 11 (dk_at dksX6_jar_3 15 rfl rfl)
theorem dX6_jar_86 : decode cX6_jar 86 = .ok (.aload_n 0, 1) := dk_42 (dk_at dksX6_jar_3 18 rfl rfl)
theorem dX6_jar_87 : decode cX6_jar 87 = .ok (.getfield 148, 3) := dk_180 0 148 (dk_at dksX6_jar_3 19 rfl rfl)
theorem dX6_jar_90 : decode cX6_jar 90 = .ok (.bipush 10, 2) := dk_16 10 (dk_at dksX6_jar_3 22 rfl rfl)
theorem dX6_jar_92 : decode cX6_jar 92 = .ok (.isub, 1) := dk_100 (dk_at dksX6_jar_4 0 rfl rfl)
theorem dX6_jar_93 : decode cX6_jar 93 = .ok (.ireturn, 1) := dk_172 (dk_at dksX6_jar_4 1 rfl rfl)
theorem dX6_jar_94 : decode cX6_jar 94 = .ok (.aload_n 0, 1) := dk_42 (dk_at dksX6_jar_4 2 rfl rfl)
theorem dX6_jar_95 : decode cX6_jar 95 = .ok (.invokevirtual 129, 3) := dk_182 0 129 (dk_at dksX6_jar_4 3 rfl rfl)
theorem dX6_jar_98 : decode cX6_jar 98 = .ok (.aload_n 0, 1) := dk_42 (dk_at dksX6_jar_4 6 rfl rfl)
theorem dX6_jar_99 : decode cX6_jar 99 = .ok (.getfield 23, 3) := dk_180 0 23 (dk_at dksX6_jar_4 7 rfl rfl)
theorem dX6_jar_102 : decode cX6_jar 102 = .ok (.iconst 1, 1) := dk_4 (dk_at dksX6_jar_4 10 rfl rfl)
theorem dX6_jar_103 : decode cX6_jar 103 = .ok (.iaload, 1) := dk_46 (dk_at dksX6_jar_4 11 rfl rfl)
theorem dX6_jar_104 : decode cX6_jar 104 = .ok (.ireturn, 1) := dk_172 (dk_at dksX6_jar_4 12 rfl rfl)
abbrev cX6_in : ByteArray := prog_19_method_5_code
def yX6_in : MethodName := ⟨RX6, "in", "(III)Z"⟩
def dkwX6_in_0 : List UInt8 := [26, 27, 161, 0, 12, 26, 28, 163, 0, 7, 4, 167, 0, 4, 3, 172]
abbrev dktX6_in_0 : List UInt8 := dkwX6_in_0 ++ []
theorem dksX6_in_0 : cX6_in.data.toList.drop 0 = dktX6_in_0 := by decide +kernel
theorem dX6_in_0 : decode cX6_in 0 = .ok (.iload_n 0, 1) := dk_26 (dk_at dksX6_in_0 0 rfl rfl)
theorem dX6_in_1 : decode cX6_in 1 = .ok (.iload_n 1, 1) := dk_27 (dk_at dksX6_in_0 1 rfl rfl)
theorem dX6_in_2 : decode cX6_in 2 = .ok (.if_icmp .lt 12, 3) := dk_161 0 12 (dk_at dksX6_in_0 2 rfl rfl)
theorem dX6_in_5 : decode cX6_in 5 = .ok (.iload_n 0, 1) := dk_26 (dk_at dksX6_in_0 5 rfl rfl)
theorem dX6_in_6 : decode cX6_in 6 = .ok (.iload_n 2, 1) := dk_28 (dk_at dksX6_in_0 6 rfl rfl)
theorem dX6_in_7 : decode cX6_in 7 = .ok (.if_icmp .gt 7, 3) := dk_163 0 7 (dk_at dksX6_in_0 7 rfl rfl)
theorem dX6_in_10 : decode cX6_in 10 = .ok (.iconst 1, 1) := dk_4 (dk_at dksX6_in_0 10 rfl rfl)
theorem dX6_in_11 : decode cX6_in 11 = .ok (.goto 4, 3) := dk_167 0 4 (dk_at dksX6_in_0 11 rfl rfl)
theorem dX6_in_14 : decode cX6_in 14 = .ok (.iconst 0, 1) := dk_3 (dk_at dksX6_in_0 14 rfl rfl)
theorem dX6_in_15 : decode cX6_in 15 = .ok (.ireturn, 1) := dk_172 (dk_at dksX6_in_0 15 rfl rfl)
abbrev cX6_bad : ByteArray := prog_19_method_4_code
def yX6_bad : MethodName := ⟨RX6, "bad", "(ZII)Z"⟩
def dkwX6_bad_1 : List UInt8 := [96, 79, 42, 180, 0, 132, 153, 0, 7, 4, 167, 0, 4, 3, 172]
abbrev dktX6_bad_1 : List UInt8 := dkwX6_bad_1 ++ []
def dkwX6_bad_0 : List UInt8 := [27, 153, 0, 25, 42, 180, 0, 132, 154, 0, 18, 42, 28, 181, 0, 132, 42, 180, 0, 17, 29, 92, 46, 4]
abbrev dktX6_bad_0 : List UInt8 := dkwX6_bad_0 ++ dktX6_bad_1
theorem dksX6_bad_0 : cX6_bad.data.toList.drop 0 = dktX6_bad_0 := by decide +kernel
theorem dksX6_bad_1 : cX6_bad.data.toList.drop 24 = dktX6_bad_1 := dk_seg dksX6_bad_0 24 rfl rfl
theorem dX6_bad_0 : decode cX6_bad 0 = .ok (.iload_n 1, 1) := dk_27 (dk_at dksX6_bad_0 0 rfl rfl)
theorem dX6_bad_1 : decode cX6_bad 1 = .ok (.ifCond .eq 25, 3) := dk_153 0 25 (dk_at dksX6_bad_0 1 rfl rfl)
theorem dX6_bad_4 : decode cX6_bad 4 = .ok (.aload_n 0, 1) := dk_42 (dk_at dksX6_bad_0 4 rfl rfl)
theorem dX6_bad_5 : decode cX6_bad 5 = .ok (.getfield 132, 3) := dk_180 0 132 (dk_at dksX6_bad_0 5 rfl rfl)
theorem dX6_bad_8 : decode cX6_bad 8 = .ok (.ifCond .ne 18, 3) := dk_154 0 18 (dk_at dksX6_bad_0 8 rfl rfl)
theorem dX6_bad_11 : decode cX6_bad 11 = .ok (.aload_n 0, 1) := dk_42 (dk_at dksX6_bad_0 11 rfl rfl)
theorem dX6_bad_12 : decode cX6_bad 12 = .ok (.iload_n 2, 1) := dk_28 (dk_at dksX6_bad_0 12 rfl rfl)
theorem dX6_bad_13 : decode cX6_bad 13 = .ok (.putfield 132, 3) := dk_181 0 132 (dk_at dksX6_bad_0 13 rfl rfl)
theorem dX6_bad_16 : decode cX6_bad 16 = .ok (.aload_n 0, 1) := dk_42 (dk_at dksX6_bad_0 16 rfl rfl)
theorem dX6_bad_17 : decode cX6_bad 17 = .ok (.getfield 17, 3) := dk_180 0 17 (dk_at dksX6_bad_0 17 rfl rfl)
theorem dX6_bad_20 : decode cX6_bad 20 = .ok (.iload_n 3, 1) := dk_29 (dk_at dksX6_bad_0 20 rfl rfl)
theorem dX6_bad_21 : decode cX6_bad 21 = .ok (.dup2, 1) := dk_92 (dk_at dksX6_bad_0 21 rfl rfl)
theorem dX6_bad_22 : decode cX6_bad 22 = .ok (.iaload, 1) := dk_46 (dk_at dksX6_bad_0 22 rfl rfl)
theorem dX6_bad_23 : decode cX6_bad 23 = .ok (.iconst 1, 1) := dk_4 (dk_at dksX6_bad_0 23 rfl rfl)
theorem dX6_bad_24 : decode cX6_bad 24 = .ok (.iadd, 1) := dk_96 (dk_at dksX6_bad_1 0 rfl rfl)
theorem dX6_bad_25 : decode cX6_bad 25 = .ok (.iastore, 1) := dk_79 (dk_at dksX6_bad_1 1 rfl rfl)
theorem dX6_bad_26 : decode cX6_bad 26 = .ok (.aload_n 0, 1) := dk_42 (dk_at dksX6_bad_1 2 rfl rfl)
theorem dX6_bad_27 : decode cX6_bad 27 = .ok (.getfield 132, 3) := dk_180 0 132 (dk_at dksX6_bad_1 3 rfl rfl)
theorem dX6_bad_30 : decode cX6_bad 30 = .ok (.ifCond .eq 7, 3) := dk_153 0 7 (dk_at dksX6_bad_1 6 rfl rfl)
theorem dX6_bad_33 : decode cX6_bad 33 = .ok (.iconst 1, 1) := dk_4 (dk_at dksX6_bad_1 9 rfl rfl)
theorem dX6_bad_34 : decode cX6_bad 34 = .ok (.goto 4, 3) := dk_167 0 4 (dk_at dksX6_bad_1 10 rfl rfl)
theorem dX6_bad_37 : decode cX6_bad 37 = .ok (.iconst 0, 1) := dk_3 (dk_at dksX6_bad_1 13 rfl rfl)
theorem dX6_bad_38 : decode cX6_bad 38 = .ok (.ireturn, 1) := dk_172 (dk_at dksX6_bad_1 14 rfl rfl)
abbrev cX6_starts : ByteArray := prog_19_method_21_code
def yX6_starts : MethodName := ⟨RX6, "starts", "(I)V"⟩
def dkwX6_starts_1 : List UInt8 := [181, 0, 151, 42, 3, 181, 0, 191, 42, 3, 181, 0, 188, 42, 182, 0, 154, 177]
abbrev dktX6_starts_1 : List UInt8 := dkwX6_starts_1 ++ []
def dkwX6_starts_0 : List UInt8 := [42, 3, 181, 0, 135, 42, 27, 181, 0, 138, 42, 3, 181, 0, 141, 42, 3, 181, 0, 148, 42, 2]
abbrev dktX6_starts_0 : List UInt8 := dkwX6_starts_0 ++ dktX6_starts_1
theorem dksX6_starts_0 : cX6_starts.data.toList.drop 0 = dktX6_starts_0 := by decide +kernel
theorem dksX6_starts_1 : cX6_starts.data.toList.drop 22 = dktX6_starts_1 := dk_seg dksX6_starts_0 22 rfl rfl
theorem dX6_starts_0 : decode cX6_starts 0 = .ok (.aload_n 0, 1) := dk_42 (dk_at dksX6_starts_0 0 rfl rfl)
theorem dX6_starts_1 : decode cX6_starts 1 = .ok (.iconst 0, 1) := dk_3 (dk_at dksX6_starts_0 1 rfl rfl)
theorem dX6_starts_2 : decode cX6_starts 2 = .ok (.putfield 135, 3) := dk_181 0 135 (dk_at dksX6_starts_0 2 rfl rfl)
theorem dX6_starts_5 : decode cX6_starts 5 = .ok (.aload_n 0, 1) := dk_42 (dk_at dksX6_starts_0 5 rfl rfl)
theorem dX6_starts_6 : decode cX6_starts 6 = .ok (.iload_n 1, 1) := dk_27 (dk_at dksX6_starts_0 6 rfl rfl)
theorem dX6_starts_7 : decode cX6_starts 7 = .ok (.putfield 138, 3) := dk_181 0 138 (dk_at dksX6_starts_0 7 rfl rfl)
theorem dX6_starts_10 : decode cX6_starts 10 = .ok (.aload_n 0, 1) := dk_42 (dk_at dksX6_starts_0 10 rfl rfl)
theorem dX6_starts_11 : decode cX6_starts 11 = .ok (.iconst 0, 1) := dk_3 (dk_at dksX6_starts_0 11 rfl rfl)
theorem dX6_starts_12 : decode cX6_starts 12 = .ok (.putfield 141, 3) := dk_181 0 141 (dk_at dksX6_starts_0 12 rfl rfl)
theorem dX6_starts_15 : decode cX6_starts 15 = .ok (.aload_n 0, 1) := dk_42 (dk_at dksX6_starts_0 15 rfl rfl)
theorem dX6_starts_16 : decode cX6_starts 16 = .ok (.iconst 0, 1) := dk_3 (dk_at dksX6_starts_0 16 rfl rfl)
theorem dX6_starts_17 : decode cX6_starts 17 = .ok (.putfield 148, 3) := dk_181 0 148 (dk_at dksX6_starts_0 17 rfl rfl)
theorem dX6_starts_20 : decode cX6_starts 20 = .ok (.aload_n 0, 1) := dk_42 (dk_at dksX6_starts_0 20 rfl rfl)
theorem dX6_starts_21 : decode cX6_starts 21 = .ok (.iconst (-1), 1) := dk_2 (dk_at dksX6_starts_0 21 rfl rfl)
theorem dX6_starts_22 : decode cX6_starts 22 = .ok (.putfield 151, 3) := dk_181 0 151 (dk_at dksX6_starts_1 0 rfl rfl)
theorem dX6_starts_25 : decode cX6_starts 25 = .ok (.aload_n 0, 1) := dk_42 (dk_at dksX6_starts_1 3 rfl rfl)
theorem dX6_starts_26 : decode cX6_starts 26 = .ok (.iconst 0, 1) := dk_3 (dk_at dksX6_starts_1 4 rfl rfl)
theorem dX6_starts_27 : decode cX6_starts 27 = .ok (.putfield 191, 3) := dk_181 0 191 (dk_at dksX6_starts_1 5 rfl rfl)
theorem dX6_starts_30 : decode cX6_starts 30 = .ok (.aload_n 0, 1) := dk_42 (dk_at dksX6_starts_1 8 rfl rfl)
theorem dX6_starts_31 : decode cX6_starts 31 = .ok (.iconst 0, 1) := dk_3 (dk_at dksX6_starts_1 9 rfl rfl)
theorem dX6_starts_32 : decode cX6_starts 32 = .ok (.putfield 188, 3) := dk_181 0 188 (dk_at dksX6_starts_1 10 rfl rfl)
theorem dX6_starts_35 : decode cX6_starts 35 = .ok (.aload_n 0, 1) := dk_42 (dk_at dksX6_starts_1 13 rfl rfl)
theorem dX6_starts_36 : decode cX6_starts 36 = .ok (.invokevirtual 154, 3) := dk_182 0 154 (dk_at dksX6_starts_1 14 rfl rfl)
theorem dX6_starts_39 : decode cX6_starts 39 = .ok (.return_, 1) := dk_177 (dk_at dksX6_starts_1 17 rfl rfl)
abbrev cX6_blanks : ByteArray := prog_19_method_8_code
def yX6_blanks : MethodName := ⟨RX6, "blanks", "()V"⟩
def dkwX6_blanks_1 : List UInt8 := [167, 255, 233, 177]
abbrev dktX6_blanks_1 : List UInt8 := dkwX6_blanks_1 ++ []
def dkwX6_blanks_0 : List UInt8 := [42, 42, 180, 0, 141, 182, 0, 144, 16, 32, 160, 0, 16, 42, 89, 180, 0, 141, 4, 96, 181, 0, 141]
abbrev dktX6_blanks_0 : List UInt8 := dkwX6_blanks_0 ++ dktX6_blanks_1
theorem dksX6_blanks_0 : cX6_blanks.data.toList.drop 0 = dktX6_blanks_0 := by decide +kernel
theorem dksX6_blanks_1 : cX6_blanks.data.toList.drop 23 = dktX6_blanks_1 := dk_seg dksX6_blanks_0 23 rfl rfl
theorem dX6_blanks_0 : decode cX6_blanks 0 = .ok (.aload_n 0, 1) := dk_42 (dk_at dksX6_blanks_0 0 rfl rfl)
theorem dX6_blanks_1 : decode cX6_blanks 1 = .ok (.aload_n 0, 1) := dk_42 (dk_at dksX6_blanks_0 1 rfl rfl)
theorem dX6_blanks_2 : decode cX6_blanks 2 = .ok (.getfield 141, 3) := dk_180 0 141 (dk_at dksX6_blanks_0 2 rfl rfl)
theorem dX6_blanks_5 : decode cX6_blanks 5 = .ok (.invokevirtual 144, 3) := dk_182 0 144 (dk_at dksX6_blanks_0 5 rfl rfl)
theorem dX6_blanks_8 : decode cX6_blanks 8 = .ok (.bipush 32, 2) := dk_16 32 (dk_at dksX6_blanks_0 8 rfl rfl)
theorem dX6_blanks_10 : decode cX6_blanks 10 = .ok (.if_icmp .ne 16, 3) := dk_160 0 16 (dk_at dksX6_blanks_0 10 rfl rfl)
theorem dX6_blanks_13 : decode cX6_blanks 13 = .ok (.aload_n 0, 1) := dk_42 (dk_at dksX6_blanks_0 13 rfl rfl)
theorem dX6_blanks_14 : decode cX6_blanks 14 = .ok (.dup, 1) := dk_89 (dk_at dksX6_blanks_0 14 rfl rfl)
theorem dX6_blanks_15 : decode cX6_blanks 15 = .ok (.getfield 141, 3) := dk_180 0 141 (dk_at dksX6_blanks_0 15 rfl rfl)
theorem dX6_blanks_18 : decode cX6_blanks 18 = .ok (.iconst 1, 1) := dk_4 (dk_at dksX6_blanks_0 18 rfl rfl)
theorem dX6_blanks_19 : decode cX6_blanks 19 = .ok (.iadd, 1) := dk_96 (dk_at dksX6_blanks_0 19 rfl rfl)
theorem dX6_blanks_20 : decode cX6_blanks 20 = .ok (.putfield 141, 3) := dk_181 0 141 (dk_at dksX6_blanks_0 20 rfl rfl)
theorem dX6_blanks_23 : decode cX6_blanks 23 = .ok (.goto (-23), 3) := dk_167 255 233 (dk_at dksX6_blanks_1 0 rfl rfl)
theorem dX6_blanks_26 : decode cX6_blanks 26 = .ok (.return_, 1) := dk_177 (dk_at dksX6_blanks_1 3 rfl rfl)
abbrev cX6_byteAt : ByteArray := prog_19_method_7_code
def yX6_byteAt : MethodName := ⟨RX6, "byteAt", "(I)I"⟩
def dkwX6_byteAt_0 : List UInt8 := [27, 42, 180, 0, 138, 161, 0, 7, 2, 167, 0, 9, 42, 180, 0, 13, 27, 46, 172]
abbrev dktX6_byteAt_0 : List UInt8 := dkwX6_byteAt_0 ++ []
theorem dksX6_byteAt_0 : cX6_byteAt.data.toList.drop 0 = dktX6_byteAt_0 := by decide +kernel
theorem dX6_byteAt_0 : decode cX6_byteAt 0 = .ok (.iload_n 1, 1) := dk_27 (dk_at dksX6_byteAt_0 0 rfl rfl)
theorem dX6_byteAt_1 : decode cX6_byteAt 1 = .ok (.aload_n 0, 1) := dk_42 (dk_at dksX6_byteAt_0 1 rfl rfl)
theorem dX6_byteAt_2 : decode cX6_byteAt 2 = .ok (.getfield 138, 3) := dk_180 0 138 (dk_at dksX6_byteAt_0 2 rfl rfl)
theorem dX6_byteAt_5 : decode cX6_byteAt 5 = .ok (.if_icmp .lt 7, 3) := dk_161 0 7 (dk_at dksX6_byteAt_0 5 rfl rfl)
theorem dX6_byteAt_8 : decode cX6_byteAt 8 = .ok (.iconst (-1), 1) := dk_2 (dk_at dksX6_byteAt_0 8 rfl rfl)
theorem dX6_byteAt_9 : decode cX6_byteAt 9 = .ok (.goto 9, 3) := dk_167 0 9 (dk_at dksX6_byteAt_0 9 rfl rfl)
theorem dX6_byteAt_12 : decode cX6_byteAt 12 = .ok (.aload_n 0, 1) := dk_42 (dk_at dksX6_byteAt_0 12 rfl rfl)
theorem dX6_byteAt_13 : decode cX6_byteAt 13 = .ok (.getfield 13, 3) := dk_180 0 13 (dk_at dksX6_byteAt_0 13 rfl rfl)
theorem dX6_byteAt_16 : decode cX6_byteAt 16 = .ok (.iload_n 1, 1) := dk_27 (dk_at dksX6_byteAt_0 16 rfl rfl)
theorem dX6_byteAt_17 : decode cX6_byteAt 17 = .ok (.iaload, 1) := dk_46 (dk_at dksX6_byteAt_0 17 rfl rfl)
theorem dX6_byteAt_18 : decode cX6_byteAt 18 = .ok (.ireturn, 1) := dk_172 (dk_at dksX6_byteAt_0 18 rfl rfl)
abbrev cX6_clause : ByteArray := prog_19_method_29_code
def yX6_clause : MethodName := ⟨RX6, "clause", "()V"⟩
def dkwX6_clause_12 : List UInt8 := [167, 0, 15, 42, 180, 0, 20, 8, 42, 3, 7, 182, 0, 229, 79, 42, 16, 59, 182, 0, 215, 177]
abbrev dktX6_clause_12 : List UInt8 := dkwX6_clause_12 ++ []
def dkwX6_clause_11 : List UInt8 := [167, 0, 39, 42, 180, 0, 20, 7, 42, 3, 4, 42, 180, 0, 20, 3, 46, 120, 4, 100, 182, 0, 229, 79]
abbrev dktX6_clause_11 : List UInt8 := dkwX6_clause_11 ++ dktX6_clause_12
def dkwX6_clause_10 : List UInt8 := [42, 180, 0, 20, 6, 46, 96, 42, 182, 0, 212, 80, 42, 180, 0, 20, 6, 92, 46, 4, 96, 79]
abbrev dktX6_clause_10 : List UInt8 := dkwX6_clause_10 ++ dktX6_clause_11
def dkwX6_clause_9 : List UInt8 := [42, 182, 0, 212, 80, 42, 180, 0, 20, 5, 92, 46, 4, 96, 79, 167, 0, 70, 42, 180, 0, 32, 16, 12]
abbrev dktX6_clause_9 : List UInt8 := dkwX6_clause_9 ++ dktX6_clause_10
def dkwX6_clause_8 : List UInt8 := [42, 180, 0, 20, 5, 46, 42, 3, 16, 51, 182, 0, 229, 79, 42, 180, 0, 39, 42, 180, 0, 20, 5, 46]
abbrev dktX6_clause_8 : List UInt8 := dkwX6_clause_8 ++ dktX6_clause_9
def dkwX6_clause_7 : List UInt8 := [4, 46, 42, 182, 0, 212, 80, 42, 180, 0, 20, 4, 92, 46, 4, 96, 79, 167, 0, 116, 42, 180, 0, 26]
abbrev dktX6_clause_7 : List UInt8 := dkwX6_clause_7 ++ dktX6_clause_8
def dkwX6_clause_6 : List UInt8 := [42, 180, 0, 20, 3, 42, 4, 16, 6, 182, 0, 229, 79, 167, 0, 144, 42, 180, 0, 32, 42, 180, 0, 20]
abbrev dktX6_clause_6 : List UInt8 := dkwX6_clause_6 ++ dktX6_clause_7
def dkwX6_clause_5 : List UInt8 := [170, 0, 0, 0, 0, 179, 0, 0, 0, 0, 0, 0, 0, 4, 0, 0, 0, 34, 0, 0, 0, 50, 0, 0, 0, 78, 0, 0, 0, 124, 0, 0, 0, 155]
abbrev dktX6_clause_5 : List UInt8 := dkwX6_clause_5 ++ dktX6_clause_6
def dkwX6_clause_4 : List UInt8 := [181, 0, 191, 27]
abbrev dktX6_clause_4 : List UInt8 := dkwX6_clause_4 ++ dktX6_clause_5
def dkwX6_clause_3 : List UInt8 := [182, 0, 161, 42, 180, 0, 148, 153, 0, 4, 177, 42, 182, 0, 185, 42, 89, 180, 0, 191, 4, 96]
abbrev dktX6_clause_3 : List UInt8 := dkwX6_clause_3 ++ dktX6_clause_4
def dkwX6_clause_2 : List UInt8 := [182, 0, 161, 167, 0, 23, 27, 154, 0, 19, 42, 180, 0, 191, 158, 0, 12, 42, 7, 42, 180, 0, 141]
abbrev dktX6_clause_2 : List UInt8 := dkwX6_clause_2 ++ dktX6_clause_3
def dkwX6_clause_1 : List UInt8 := [180, 0, 191, 16, 60, 159, 0, 11, 42, 27, 182, 0, 226, 153, 0, 15, 42, 6, 42, 180, 0, 141]
abbrev dktX6_clause_1 : List UInt8 := dkwX6_clause_1 ++ dktX6_clause_2
def dkwX6_clause_0 : List UInt8 := [42, 182, 0, 223, 60, 27, 2, 160, 0, 15, 42, 4, 42, 180, 0, 141, 182, 0, 161, 167, 0, 52, 42]
abbrev dktX6_clause_0 : List UInt8 := dkwX6_clause_0 ++ dktX6_clause_1
theorem dksX6_clause_0 : cX6_clause.data.toList.drop 0 = dktX6_clause_0 := by decide +kernel
theorem dksX6_clause_1 : cX6_clause.data.toList.drop 23 = dktX6_clause_1 := dk_seg dksX6_clause_0 23 rfl rfl
theorem dksX6_clause_2 : cX6_clause.data.toList.drop 45 = dktX6_clause_2 := dk_seg dksX6_clause_1 22 rfl rfl
theorem dksX6_clause_3 : cX6_clause.data.toList.drop 68 = dktX6_clause_3 := dk_seg dksX6_clause_2 23 rfl rfl
theorem dksX6_clause_4 : cX6_clause.data.toList.drop 90 = dktX6_clause_4 := dk_seg dksX6_clause_3 22 rfl rfl
theorem dksX6_clause_5 : cX6_clause.data.toList.drop 94 = dktX6_clause_5 := dk_seg dksX6_clause_4 4 rfl rfl
theorem dksX6_clause_6 : cX6_clause.data.toList.drop 128 = dktX6_clause_6 := dk_seg dksX6_clause_5 34 rfl rfl
theorem dksX6_clause_7 : cX6_clause.data.toList.drop 152 = dktX6_clause_7 := dk_seg dksX6_clause_6 24 rfl rfl
theorem dksX6_clause_8 : cX6_clause.data.toList.drop 176 = dktX6_clause_8 := dk_seg dksX6_clause_7 24 rfl rfl
theorem dksX6_clause_9 : cX6_clause.data.toList.drop 200 = dktX6_clause_9 := dk_seg dksX6_clause_8 24 rfl rfl
theorem dksX6_clause_10 : cX6_clause.data.toList.drop 224 = dktX6_clause_10 := dk_seg dksX6_clause_9 24 rfl rfl
theorem dksX6_clause_11 : cX6_clause.data.toList.drop 246 = dktX6_clause_11 := dk_seg dksX6_clause_10 22 rfl rfl
theorem dksX6_clause_12 : cX6_clause.data.toList.drop 270 = dktX6_clause_12 := dk_seg dksX6_clause_11 24 rfl rfl
theorem dX6_clause_0 : decode cX6_clause 0 = .ok (.aload_n 0, 1) := dk_42 (dk_at dksX6_clause_0 0 rfl rfl)
theorem dX6_clause_1 : decode cX6_clause 1 = .ok (.invokevirtual 223, 3) := dk_182 0 223 (dk_at dksX6_clause_0 1 rfl rfl)
theorem dX6_clause_4 : decode cX6_clause 4 = .ok (.istore_n 1, 1) := dk_60 (dk_at dksX6_clause_0 4 rfl rfl)
theorem dX6_clause_5 : decode cX6_clause 5 = .ok (.iload_n 1, 1) := dk_27 (dk_at dksX6_clause_0 5 rfl rfl)
theorem dX6_clause_6 : decode cX6_clause 6 = .ok (.iconst (-1), 1) := dk_2 (dk_at dksX6_clause_0 6 rfl rfl)
theorem dX6_clause_7 : decode cX6_clause 7 = .ok (.if_icmp .ne 15, 3) := dk_160 0 15 (dk_at dksX6_clause_0 7 rfl rfl)
theorem dX6_clause_10 : decode cX6_clause 10 = .ok (.aload_n 0, 1) := dk_42 (dk_at dksX6_clause_0 10 rfl rfl)
theorem dX6_clause_11 : decode cX6_clause 11 = .ok (.iconst 1, 1) := dk_4 (dk_at dksX6_clause_0 11 rfl rfl)
theorem dX6_clause_12 : decode cX6_clause 12 = .ok (.aload_n 0, 1) := dk_42 (dk_at dksX6_clause_0 12 rfl rfl)
theorem dX6_clause_13 : decode cX6_clause 13 = .ok (.getfield 141, 3) := dk_180 0 141 (dk_at dksX6_clause_0 13 rfl rfl)
theorem dX6_clause_16 : decode cX6_clause 16 = .ok (.invokevirtual 161, 3) := dk_182 0 161 (dk_at dksX6_clause_0 16 rfl rfl)
theorem dX6_clause_19 : decode cX6_clause 19 = .ok (.goto 52, 3) := dk_167 0 52 (dk_at dksX6_clause_0 19 rfl rfl)
theorem dX6_clause_22 : decode cX6_clause 22 = .ok (.aload_n 0, 1) := dk_42 (dk_at dksX6_clause_0 22 rfl rfl)
theorem dX6_clause_23 : decode cX6_clause 23 = .ok (.getfield 191, 3) := dk_180 0 191 (dk_at dksX6_clause_1 0 rfl rfl)
theorem dX6_clause_26 : decode cX6_clause 26 = .ok (.bipush 60, 2) := dk_16 60 (dk_at dksX6_clause_1 3 rfl rfl)
theorem dX6_clause_28 : decode cX6_clause 28 = .ok (.if_icmp .eq 11, 3) := dk_159 0 11 (dk_at dksX6_clause_1 5 rfl rfl)
theorem dX6_clause_31 : decode cX6_clause 31 = .ok (.aload_n 0, 1) := dk_42 (dk_at dksX6_clause_1 8 rfl rfl)
theorem dX6_clause_32 : decode cX6_clause 32 = .ok (.iload_n 1, 1) := dk_27 (dk_at dksX6_clause_1 9 rfl rfl)
theorem dX6_clause_33 : decode cX6_clause 33 = .ok (.invokevirtual 226, 3) := dk_182 0 226 (dk_at dksX6_clause_1 10 rfl rfl)
theorem dX6_clause_36 : decode cX6_clause 36 = .ok (.ifCond .eq 15, 3) := dk_153 0 15 (dk_at dksX6_clause_1 13 rfl rfl)
theorem dX6_clause_39 : decode cX6_clause 39 = .ok (.aload_n 0, 1) := dk_42 (dk_at dksX6_clause_1 16 rfl rfl)
theorem dX6_clause_40 : decode cX6_clause 40 = .ok (.iconst 3, 1) := dk_6 (dk_at dksX6_clause_1 17 rfl rfl)
theorem dX6_clause_41 : decode cX6_clause 41 = .ok (.aload_n 0, 1) := dk_42 (dk_at dksX6_clause_1 18 rfl rfl)
theorem dX6_clause_42 : decode cX6_clause 42 = .ok (.getfield 141, 3) := dk_180 0 141 (dk_at dksX6_clause_1 19 rfl rfl)
theorem dX6_clause_45 : decode cX6_clause 45 = .ok (.invokevirtual 161, 3) := dk_182 0 161 (dk_at dksX6_clause_2 0 rfl rfl)
theorem dX6_clause_48 : decode cX6_clause 48 = .ok (.goto 23, 3) := dk_167 0 23 (dk_at dksX6_clause_2 3 rfl rfl)
theorem dX6_clause_51 : decode cX6_clause 51 = .ok (.iload_n 1, 1) := dk_27 (dk_at dksX6_clause_2 6 rfl rfl)
theorem dX6_clause_52 : decode cX6_clause 52 = .ok (.ifCond .ne 19, 3) := dk_154 0 19 (dk_at dksX6_clause_2 7 rfl rfl)
theorem dX6_clause_55 : decode cX6_clause 55 = .ok (.aload_n 0, 1) := dk_42 (dk_at dksX6_clause_2 10 rfl rfl)
theorem dX6_clause_56 : decode cX6_clause 56 = .ok (.getfield 191, 3) := dk_180 0 191 (dk_at dksX6_clause_2 11 rfl rfl)
theorem dX6_clause_59 : decode cX6_clause 59 = .ok (.ifCond .le 12, 3) := dk_158 0 12 (dk_at dksX6_clause_2 14 rfl rfl)
theorem dX6_clause_62 : decode cX6_clause 62 = .ok (.aload_n 0, 1) := dk_42 (dk_at dksX6_clause_2 17 rfl rfl)
theorem dX6_clause_63 : decode cX6_clause 63 = .ok (.iconst 4, 1) := dk_7 (dk_at dksX6_clause_2 18 rfl rfl)
theorem dX6_clause_64 : decode cX6_clause 64 = .ok (.aload_n 0, 1) := dk_42 (dk_at dksX6_clause_2 19 rfl rfl)
theorem dX6_clause_65 : decode cX6_clause 65 = .ok (.getfield 141, 3) := dk_180 0 141 (dk_at dksX6_clause_2 20 rfl rfl)
theorem dX6_clause_68 : decode cX6_clause 68 = .ok (.invokevirtual 161, 3) := dk_182 0 161 (dk_at dksX6_clause_3 0 rfl rfl)
theorem dX6_clause_71 : decode cX6_clause 71 = .ok (.aload_n 0, 1) := dk_42 (dk_at dksX6_clause_3 3 rfl rfl)
theorem dX6_clause_72 : decode cX6_clause 72 = .ok (.getfield 148, 3) := dk_180 0 148 (dk_at dksX6_clause_3 4 rfl rfl)
theorem dX6_clause_75 : decode cX6_clause 75 = .ok (.ifCond .eq 4, 3) := dk_153 0 4 (dk_at dksX6_clause_3 7 rfl rfl)
theorem dX6_clause_78 : decode cX6_clause 78 = .ok (.return_, 1) := dk_177 (dk_at dksX6_clause_3 10 rfl rfl)
theorem dX6_clause_79 : decode cX6_clause 79 = .ok (.aload_n 0, 1) := dk_42 (dk_at dksX6_clause_3 11 rfl rfl)
theorem dX6_clause_80 : decode cX6_clause 80 = .ok (.invokevirtual 185, 3) := dk_182 0 185 (dk_at dksX6_clause_3 12 rfl rfl)
theorem dX6_clause_83 : decode cX6_clause 83 = .ok (.aload_n 0, 1) := dk_42 (dk_at dksX6_clause_3 15 rfl rfl)
theorem dX6_clause_84 : decode cX6_clause 84 = .ok (.dup, 1) := dk_89 (dk_at dksX6_clause_3 16 rfl rfl)
theorem dX6_clause_85 : decode cX6_clause 85 = .ok (.getfield 191, 3) := dk_180 0 191 (dk_at dksX6_clause_3 17 rfl rfl)
theorem dX6_clause_88 : decode cX6_clause 88 = .ok (.iconst 1, 1) := dk_4 (dk_at dksX6_clause_3 20 rfl rfl)
theorem dX6_clause_89 : decode cX6_clause 89 = .ok (.iadd, 1) := dk_96 (dk_at dksX6_clause_3 21 rfl rfl)
theorem dX6_clause_90 : decode cX6_clause 90 = .ok (.putfield 191, 3) := dk_181 0 191 (dk_at dksX6_clause_4 0 rfl rfl)
theorem dX6_clause_93 : decode cX6_clause 93 = .ok (.iload_n 1, 1) := dk_27 (dk_at dksX6_clause_4 3 rfl rfl)
theorem dX6_clause_94 : decode cX6_clause 94 = .ok (.tableswitch 179 0 4 #[34, 50, 78, 124, 155], 34) := by decide +kernel
theorem dX6_clause_128 : decode cX6_clause 128 = .ok (.aload_n 0, 1) := dk_42 (dk_at dksX6_clause_6 0 rfl rfl)
theorem dX6_clause_129 : decode cX6_clause 129 = .ok (.getfield 20, 3) := dk_180 0 20 (dk_at dksX6_clause_6 1 rfl rfl)
theorem dX6_clause_132 : decode cX6_clause 132 = .ok (.iconst 0, 1) := dk_3 (dk_at dksX6_clause_6 4 rfl rfl)
theorem dX6_clause_133 : decode cX6_clause 133 = .ok (.aload_n 0, 1) := dk_42 (dk_at dksX6_clause_6 5 rfl rfl)
theorem dX6_clause_134 : decode cX6_clause 134 = .ok (.iconst 1, 1) := dk_4 (dk_at dksX6_clause_6 6 rfl rfl)
theorem dX6_clause_135 : decode cX6_clause 135 = .ok (.bipush 6, 2) := dk_16 6 (dk_at dksX6_clause_6 7 rfl rfl)
theorem dX6_clause_137 : decode cX6_clause 137 = .ok (.invokevirtual 229, 3) := dk_182 0 229 (dk_at dksX6_clause_6 9 rfl rfl)
theorem dX6_clause_140 : decode cX6_clause 140 = .ok (.iastore, 1) := dk_79 (dk_at dksX6_clause_6 12 rfl rfl)
theorem dX6_clause_141 : decode cX6_clause 141 = .ok (.goto 144, 3) := dk_167 0 144 (dk_at dksX6_clause_6 13 rfl rfl)
theorem dX6_clause_144 : decode cX6_clause 144 = .ok (.aload_n 0, 1) := dk_42 (dk_at dksX6_clause_6 16 rfl rfl)
theorem dX6_clause_145 : decode cX6_clause 145 = .ok (.getfield 32, 3) := dk_180 0 32 (dk_at dksX6_clause_6 17 rfl rfl)
theorem dX6_clause_148 : decode cX6_clause 148 = .ok (.aload_n 0, 1) := dk_42 (dk_at dksX6_clause_6 20 rfl rfl)
theorem dX6_clause_149 : decode cX6_clause 149 = .ok (.getfield 20, 3) := dk_180 0 20 (dk_at dksX6_clause_6 21 rfl rfl)
theorem dX6_clause_152 : decode cX6_clause 152 = .ok (.iconst 1, 1) := dk_4 (dk_at dksX6_clause_7 0 rfl rfl)
theorem dX6_clause_153 : decode cX6_clause 153 = .ok (.iaload, 1) := dk_46 (dk_at dksX6_clause_7 1 rfl rfl)
theorem dX6_clause_154 : decode cX6_clause 154 = .ok (.aload_n 0, 1) := dk_42 (dk_at dksX6_clause_7 2 rfl rfl)
theorem dX6_clause_155 : decode cX6_clause 155 = .ok (.invokevirtual 212, 3) := dk_182 0 212 (dk_at dksX6_clause_7 3 rfl rfl)
theorem dX6_clause_158 : decode cX6_clause 158 = .ok (.lastore, 1) := dk_80 (dk_at dksX6_clause_7 6 rfl rfl)
theorem dX6_clause_159 : decode cX6_clause 159 = .ok (.aload_n 0, 1) := dk_42 (dk_at dksX6_clause_7 7 rfl rfl)
theorem dX6_clause_160 : decode cX6_clause 160 = .ok (.getfield 20, 3) := dk_180 0 20 (dk_at dksX6_clause_7 8 rfl rfl)
theorem dX6_clause_163 : decode cX6_clause 163 = .ok (.iconst 1, 1) := dk_4 (dk_at dksX6_clause_7 11 rfl rfl)
theorem dX6_clause_164 : decode cX6_clause 164 = .ok (.dup2, 1) := dk_92 (dk_at dksX6_clause_7 12 rfl rfl)
theorem dX6_clause_165 : decode cX6_clause 165 = .ok (.iaload, 1) := dk_46 (dk_at dksX6_clause_7 13 rfl rfl)
theorem dX6_clause_166 : decode cX6_clause 166 = .ok (.iconst 1, 1) := dk_4 (dk_at dksX6_clause_7 14 rfl rfl)
theorem dX6_clause_167 : decode cX6_clause 167 = .ok (.iadd, 1) := dk_96 (dk_at dksX6_clause_7 15 rfl rfl)
theorem dX6_clause_168 : decode cX6_clause 168 = .ok (.iastore, 1) := dk_79 (dk_at dksX6_clause_7 16 rfl rfl)
theorem dX6_clause_169 : decode cX6_clause 169 = .ok (.goto 116, 3) := dk_167 0 116 (dk_at dksX6_clause_7 17 rfl rfl)
theorem dX6_clause_172 : decode cX6_clause 172 = .ok (.aload_n 0, 1) := dk_42 (dk_at dksX6_clause_7 20 rfl rfl)
theorem dX6_clause_173 : decode cX6_clause 173 = .ok (.getfield 26, 3) := dk_180 0 26 (dk_at dksX6_clause_7 21 rfl rfl)
theorem dX6_clause_176 : decode cX6_clause 176 = .ok (.aload_n 0, 1) := dk_42 (dk_at dksX6_clause_8 0 rfl rfl)
theorem dX6_clause_177 : decode cX6_clause 177 = .ok (.getfield 20, 3) := dk_180 0 20 (dk_at dksX6_clause_8 1 rfl rfl)
theorem dX6_clause_180 : decode cX6_clause 180 = .ok (.iconst 2, 1) := dk_5 (dk_at dksX6_clause_8 4 rfl rfl)
theorem dX6_clause_181 : decode cX6_clause 181 = .ok (.iaload, 1) := dk_46 (dk_at dksX6_clause_8 5 rfl rfl)
theorem dX6_clause_182 : decode cX6_clause 182 = .ok (.aload_n 0, 1) := dk_42 (dk_at dksX6_clause_8 6 rfl rfl)
theorem dX6_clause_183 : decode cX6_clause 183 = .ok (.iconst 0, 1) := dk_3 (dk_at dksX6_clause_8 7 rfl rfl)
theorem dX6_clause_184 : decode cX6_clause 184 = .ok (.bipush 51, 2) := dk_16 51 (dk_at dksX6_clause_8 8 rfl rfl)
theorem dX6_clause_186 : decode cX6_clause 186 = .ok (.invokevirtual 229, 3) := dk_182 0 229 (dk_at dksX6_clause_8 10 rfl rfl)
theorem dX6_clause_189 : decode cX6_clause 189 = .ok (.iastore, 1) := dk_79 (dk_at dksX6_clause_8 13 rfl rfl)
theorem dX6_clause_190 : decode cX6_clause 190 = .ok (.aload_n 0, 1) := dk_42 (dk_at dksX6_clause_8 14 rfl rfl)
theorem dX6_clause_191 : decode cX6_clause 191 = .ok (.getfield 39, 3) := dk_180 0 39 (dk_at dksX6_clause_8 15 rfl rfl)
theorem dX6_clause_194 : decode cX6_clause 194 = .ok (.aload_n 0, 1) := dk_42 (dk_at dksX6_clause_8 18 rfl rfl)
theorem dX6_clause_195 : decode cX6_clause 195 = .ok (.getfield 20, 3) := dk_180 0 20 (dk_at dksX6_clause_8 19 rfl rfl)
theorem dX6_clause_198 : decode cX6_clause 198 = .ok (.iconst 2, 1) := dk_5 (dk_at dksX6_clause_8 22 rfl rfl)
theorem dX6_clause_199 : decode cX6_clause 199 = .ok (.iaload, 1) := dk_46 (dk_at dksX6_clause_8 23 rfl rfl)
theorem dX6_clause_200 : decode cX6_clause 200 = .ok (.aload_n 0, 1) := dk_42 (dk_at dksX6_clause_9 0 rfl rfl)
theorem dX6_clause_201 : decode cX6_clause 201 = .ok (.invokevirtual 212, 3) := dk_182 0 212 (dk_at dksX6_clause_9 1 rfl rfl)
theorem dX6_clause_204 : decode cX6_clause 204 = .ok (.lastore, 1) := dk_80 (dk_at dksX6_clause_9 4 rfl rfl)
theorem dX6_clause_205 : decode cX6_clause 205 = .ok (.aload_n 0, 1) := dk_42 (dk_at dksX6_clause_9 5 rfl rfl)
theorem dX6_clause_206 : decode cX6_clause 206 = .ok (.getfield 20, 3) := dk_180 0 20 (dk_at dksX6_clause_9 6 rfl rfl)
theorem dX6_clause_209 : decode cX6_clause 209 = .ok (.iconst 2, 1) := dk_5 (dk_at dksX6_clause_9 9 rfl rfl)
theorem dX6_clause_210 : decode cX6_clause 210 = .ok (.dup2, 1) := dk_92 (dk_at dksX6_clause_9 10 rfl rfl)
theorem dX6_clause_211 : decode cX6_clause 211 = .ok (.iaload, 1) := dk_46 (dk_at dksX6_clause_9 11 rfl rfl)
theorem dX6_clause_212 : decode cX6_clause 212 = .ok (.iconst 1, 1) := dk_4 (dk_at dksX6_clause_9 12 rfl rfl)
theorem dX6_clause_213 : decode cX6_clause 213 = .ok (.iadd, 1) := dk_96 (dk_at dksX6_clause_9 13 rfl rfl)
theorem dX6_clause_214 : decode cX6_clause 214 = .ok (.iastore, 1) := dk_79 (dk_at dksX6_clause_9 14 rfl rfl)
theorem dX6_clause_215 : decode cX6_clause 215 = .ok (.goto 70, 3) := dk_167 0 70 (dk_at dksX6_clause_9 15 rfl rfl)
theorem dX6_clause_218 : decode cX6_clause 218 = .ok (.aload_n 0, 1) := dk_42 (dk_at dksX6_clause_9 18 rfl rfl)
theorem dX6_clause_219 : decode cX6_clause 219 = .ok (.getfield 32, 3) := dk_180 0 32 (dk_at dksX6_clause_9 19 rfl rfl)
theorem dX6_clause_222 : decode cX6_clause 222 = .ok (.bipush 12, 2) := dk_16 12 (dk_at dksX6_clause_9 22 rfl rfl)
theorem dX6_clause_224 : decode cX6_clause 224 = .ok (.aload_n 0, 1) := dk_42 (dk_at dksX6_clause_10 0 rfl rfl)
theorem dX6_clause_225 : decode cX6_clause 225 = .ok (.getfield 20, 3) := dk_180 0 20 (dk_at dksX6_clause_10 1 rfl rfl)
theorem dX6_clause_228 : decode cX6_clause 228 = .ok (.iconst 3, 1) := dk_6 (dk_at dksX6_clause_10 4 rfl rfl)
theorem dX6_clause_229 : decode cX6_clause 229 = .ok (.iaload, 1) := dk_46 (dk_at dksX6_clause_10 5 rfl rfl)
theorem dX6_clause_230 : decode cX6_clause 230 = .ok (.iadd, 1) := dk_96 (dk_at dksX6_clause_10 6 rfl rfl)
theorem dX6_clause_231 : decode cX6_clause 231 = .ok (.aload_n 0, 1) := dk_42 (dk_at dksX6_clause_10 7 rfl rfl)
theorem dX6_clause_232 : decode cX6_clause 232 = .ok (.invokevirtual 212, 3) := dk_182 0 212 (dk_at dksX6_clause_10 8 rfl rfl)
theorem dX6_clause_235 : decode cX6_clause 235 = .ok (.lastore, 1) := dk_80 (dk_at dksX6_clause_10 11 rfl rfl)
theorem dX6_clause_236 : decode cX6_clause 236 = .ok (.aload_n 0, 1) := dk_42 (dk_at dksX6_clause_10 12 rfl rfl)
theorem dX6_clause_237 : decode cX6_clause 237 = .ok (.getfield 20, 3) := dk_180 0 20 (dk_at dksX6_clause_10 13 rfl rfl)
theorem dX6_clause_240 : decode cX6_clause 240 = .ok (.iconst 3, 1) := dk_6 (dk_at dksX6_clause_10 16 rfl rfl)
theorem dX6_clause_241 : decode cX6_clause 241 = .ok (.dup2, 1) := dk_92 (dk_at dksX6_clause_10 17 rfl rfl)
theorem dX6_clause_242 : decode cX6_clause 242 = .ok (.iaload, 1) := dk_46 (dk_at dksX6_clause_10 18 rfl rfl)
theorem dX6_clause_243 : decode cX6_clause 243 = .ok (.iconst 1, 1) := dk_4 (dk_at dksX6_clause_10 19 rfl rfl)
theorem dX6_clause_244 : decode cX6_clause 244 = .ok (.iadd, 1) := dk_96 (dk_at dksX6_clause_10 20 rfl rfl)
theorem dX6_clause_245 : decode cX6_clause 245 = .ok (.iastore, 1) := dk_79 (dk_at dksX6_clause_10 21 rfl rfl)
theorem dX6_clause_246 : decode cX6_clause 246 = .ok (.goto 39, 3) := dk_167 0 39 (dk_at dksX6_clause_11 0 rfl rfl)
theorem dX6_clause_249 : decode cX6_clause 249 = .ok (.aload_n 0, 1) := dk_42 (dk_at dksX6_clause_11 3 rfl rfl)
theorem dX6_clause_250 : decode cX6_clause 250 = .ok (.getfield 20, 3) := dk_180 0 20 (dk_at dksX6_clause_11 4 rfl rfl)
theorem dX6_clause_253 : decode cX6_clause 253 = .ok (.iconst 4, 1) := dk_7 (dk_at dksX6_clause_11 7 rfl rfl)
theorem dX6_clause_254 : decode cX6_clause 254 = .ok (.aload_n 0, 1) := dk_42 (dk_at dksX6_clause_11 8 rfl rfl)
theorem dX6_clause_255 : decode cX6_clause 255 = .ok (.iconst 0, 1) := dk_3 (dk_at dksX6_clause_11 9 rfl rfl)
theorem dX6_clause_256 : decode cX6_clause 256 = .ok (.iconst 1, 1) := dk_4 (dk_at dksX6_clause_11 10 rfl rfl)
theorem dX6_clause_257 : decode cX6_clause 257 = .ok (.aload_n 0, 1) := dk_42 (dk_at dksX6_clause_11 11 rfl rfl)
theorem dX6_clause_258 : decode cX6_clause 258 = .ok (.getfield 20, 3) := dk_180 0 20 (dk_at dksX6_clause_11 12 rfl rfl)
theorem dX6_clause_261 : decode cX6_clause 261 = .ok (.iconst 0, 1) := dk_3 (dk_at dksX6_clause_11 15 rfl rfl)
theorem dX6_clause_262 : decode cX6_clause 262 = .ok (.iaload, 1) := dk_46 (dk_at dksX6_clause_11 16 rfl rfl)
theorem dX6_clause_263 : decode cX6_clause 263 = .ok (.ishl, 1) := dk_120 (dk_at dksX6_clause_11 17 rfl rfl)
theorem dX6_clause_264 : decode cX6_clause 264 = .ok (.iconst 1, 1) := dk_4 (dk_at dksX6_clause_11 18 rfl rfl)
theorem dX6_clause_265 : decode cX6_clause 265 = .ok (.isub, 1) := dk_100 (dk_at dksX6_clause_11 19 rfl rfl)
theorem dX6_clause_266 : decode cX6_clause 266 = .ok (.invokevirtual 229, 3) := dk_182 0 229 (dk_at dksX6_clause_11 20 rfl rfl)
theorem dX6_clause_269 : decode cX6_clause 269 = .ok (.iastore, 1) := dk_79 (dk_at dksX6_clause_11 23 rfl rfl)
theorem dX6_clause_270 : decode cX6_clause 270 = .ok (.goto 15, 3) := dk_167 0 15 (dk_at dksX6_clause_12 0 rfl rfl)
theorem dX6_clause_273 : decode cX6_clause 273 = .ok (.aload_n 0, 1) := dk_42 (dk_at dksX6_clause_12 3 rfl rfl)
theorem dX6_clause_274 : decode cX6_clause 274 = .ok (.getfield 20, 3) := dk_180 0 20 (dk_at dksX6_clause_12 4 rfl rfl)
theorem dX6_clause_277 : decode cX6_clause 277 = .ok (.iconst 5, 1) := dk_8 (dk_at dksX6_clause_12 7 rfl rfl)
theorem dX6_clause_278 : decode cX6_clause 278 = .ok (.aload_n 0, 1) := dk_42 (dk_at dksX6_clause_12 8 rfl rfl)
theorem dX6_clause_279 : decode cX6_clause 279 = .ok (.iconst 0, 1) := dk_3 (dk_at dksX6_clause_12 9 rfl rfl)
theorem dX6_clause_280 : decode cX6_clause 280 = .ok (.iconst 4, 1) := dk_7 (dk_at dksX6_clause_12 10 rfl rfl)
theorem dX6_clause_281 : decode cX6_clause 281 = .ok (.invokevirtual 229, 3) := dk_182 0 229 (dk_at dksX6_clause_12 11 rfl rfl)
theorem dX6_clause_284 : decode cX6_clause 284 = .ok (.iastore, 1) := dk_79 (dk_at dksX6_clause_12 14 rfl rfl)
theorem dX6_clause_285 : decode cX6_clause 285 = .ok (.aload_n 0, 1) := dk_42 (dk_at dksX6_clause_12 15 rfl rfl)
theorem dX6_clause_286 : decode cX6_clause 286 = .ok (.bipush 59, 2) := dk_16 59 (dk_at dksX6_clause_12 16 rfl rfl)
theorem dX6_clause_288 : decode cX6_clause 288 = .ok (.invokevirtual 215, 3) := dk_182 0 215 (dk_at dksX6_clause_12 18 rfl rfl)
theorem dX6_clause_291 : decode cX6_clause 291 = .ok (.return_, 1) := dk_177 (dk_at dksX6_clause_12 21 rfl rfl)
abbrev cX6_kindHere : ByteArray := prog_19_method_27_code
def yX6_kindHere : MethodName := ⟨RX6, "kindHere", "()I"⟩
def dkwX6_kindHere_4 : List UInt8 := [4, 16, 23, 3, 3, 3, 182, 0, 181, 153, 0, 7, 8, 167, 0, 4, 2, 172]
abbrev dktX6_kindHere_4 : List UInt8 := dkwX6_kindHere_4 ++ []
def dkwX6_kindHere_3 : List UInt8 := [6, 172, 42, 16, 23, 16, 15, 16, 18, 16, 12, 7, 3, 182, 0, 181, 153, 0, 5, 7, 172, 42, 16, 12]
abbrev dktX6_kindHere_3 : List UInt8 := dkwX6_kindHere_3 ++ dktX6_kindHere_4
def dkwX6_kindHere_2 : List UInt8 := [182, 0, 181, 153, 0, 5, 5, 172, 42, 16, 19, 4, 16, 12, 16, 20, 3, 3, 182, 0, 181, 153, 0, 5]
abbrev dktX6_kindHere_2 : List UInt8 := dkwX6_kindHere_2 ++ dktX6_kindHere_3
def dkwX6_kindHere_1 : List UInt8 := [16, 9, 16, 16, 3, 3, 182, 0, 181, 153, 0, 5, 4, 172, 42, 16, 19, 8, 8, 3, 3, 3]
abbrev dktX6_kindHere_1 : List UInt8 := dkwX6_kindHere_1 ++ dktX6_kindHere_2
def dkwX6_kindHere_0 : List UInt8 := [42, 4, 16, 20, 16, 15, 16, 13, 16, 19, 3, 182, 0, 181, 153, 0, 5, 3, 172, 42, 16, 19, 16, 12]
abbrev dktX6_kindHere_0 : List UInt8 := dkwX6_kindHere_0 ++ dktX6_kindHere_1
theorem dksX6_kindHere_0 : cX6_kindHere.data.toList.drop 0 = dktX6_kindHere_0 := by decide +kernel
theorem dksX6_kindHere_1 : cX6_kindHere.data.toList.drop 24 = dktX6_kindHere_1 := dk_seg dksX6_kindHere_0 24 rfl rfl
theorem dksX6_kindHere_2 : cX6_kindHere.data.toList.drop 46 = dktX6_kindHere_2 := dk_seg dksX6_kindHere_1 22 rfl rfl
theorem dksX6_kindHere_3 : cX6_kindHere.data.toList.drop 70 = dktX6_kindHere_3 := dk_seg dksX6_kindHere_2 24 rfl rfl
theorem dksX6_kindHere_4 : cX6_kindHere.data.toList.drop 94 = dktX6_kindHere_4 := dk_seg dksX6_kindHere_3 24 rfl rfl
theorem dX6_kindHere_0 : decode cX6_kindHere 0 = .ok (.aload_n 0, 1) := dk_42 (dk_at dksX6_kindHere_0 0 rfl rfl)
theorem dX6_kindHere_1 : decode cX6_kindHere 1 = .ok (.iconst 1, 1) := dk_4 (dk_at dksX6_kindHere_0 1 rfl rfl)
theorem dX6_kindHere_2 : decode cX6_kindHere 2 = .ok (.bipush 20, 2) := dk_16 20 (dk_at dksX6_kindHere_0 2 rfl rfl)
theorem dX6_kindHere_4 : decode cX6_kindHere 4 = .ok (.bipush 15, 2) := dk_16 15 (dk_at dksX6_kindHere_0 4 rfl rfl)
theorem dX6_kindHere_6 : decode cX6_kindHere 6 = .ok (.bipush 13, 2) := dk_16 13 (dk_at dksX6_kindHere_0 6 rfl rfl)
theorem dX6_kindHere_8 : decode cX6_kindHere 8 = .ok (.bipush 19, 2) := dk_16 19 (dk_at dksX6_kindHere_0 8 rfl rfl)
theorem dX6_kindHere_10 : decode cX6_kindHere 10 = .ok (.iconst 0, 1) := dk_3 (dk_at dksX6_kindHere_0 10 rfl rfl)
theorem dX6_kindHere_11 : decode cX6_kindHere 11 = .ok (.invokevirtual 181, 3) := dk_182 0 181 (dk_at dksX6_kindHere_0 11 rfl rfl)
theorem dX6_kindHere_14 : decode cX6_kindHere 14 = .ok (.ifCond .eq 5, 3) := dk_153 0 5 (dk_at dksX6_kindHere_0 14 rfl rfl)
theorem dX6_kindHere_17 : decode cX6_kindHere 17 = .ok (.iconst 0, 1) := dk_3 (dk_at dksX6_kindHere_0 17 rfl rfl)
theorem dX6_kindHere_18 : decode cX6_kindHere 18 = .ok (.ireturn, 1) := dk_172 (dk_at dksX6_kindHere_0 18 rfl rfl)
theorem dX6_kindHere_19 : decode cX6_kindHere 19 = .ok (.aload_n 0, 1) := dk_42 (dk_at dksX6_kindHere_0 19 rfl rfl)
theorem dX6_kindHere_20 : decode cX6_kindHere 20 = .ok (.bipush 19, 2) := dk_16 19 (dk_at dksX6_kindHere_0 20 rfl rfl)
theorem dX6_kindHere_22 : decode cX6_kindHere 22 = .ok (.bipush 12, 2) := dk_16 12 (dk_at dksX6_kindHere_0 22 rfl rfl)
theorem dX6_kindHere_24 : decode cX6_kindHere 24 = .ok (.bipush 9, 2) := dk_16 9 (dk_at dksX6_kindHere_1 0 rfl rfl)
theorem dX6_kindHere_26 : decode cX6_kindHere 26 = .ok (.bipush 16, 2) := dk_16 16 (dk_at dksX6_kindHere_1 2 rfl rfl)
theorem dX6_kindHere_28 : decode cX6_kindHere 28 = .ok (.iconst 0, 1) := dk_3 (dk_at dksX6_kindHere_1 4 rfl rfl)
theorem dX6_kindHere_29 : decode cX6_kindHere 29 = .ok (.iconst 0, 1) := dk_3 (dk_at dksX6_kindHere_1 5 rfl rfl)
theorem dX6_kindHere_30 : decode cX6_kindHere 30 = .ok (.invokevirtual 181, 3) := dk_182 0 181 (dk_at dksX6_kindHere_1 6 rfl rfl)
theorem dX6_kindHere_33 : decode cX6_kindHere 33 = .ok (.ifCond .eq 5, 3) := dk_153 0 5 (dk_at dksX6_kindHere_1 9 rfl rfl)
theorem dX6_kindHere_36 : decode cX6_kindHere 36 = .ok (.iconst 1, 1) := dk_4 (dk_at dksX6_kindHere_1 12 rfl rfl)
theorem dX6_kindHere_37 : decode cX6_kindHere 37 = .ok (.ireturn, 1) := dk_172 (dk_at dksX6_kindHere_1 13 rfl rfl)
theorem dX6_kindHere_38 : decode cX6_kindHere 38 = .ok (.aload_n 0, 1) := dk_42 (dk_at dksX6_kindHere_1 14 rfl rfl)
theorem dX6_kindHere_39 : decode cX6_kindHere 39 = .ok (.bipush 19, 2) := dk_16 19 (dk_at dksX6_kindHere_1 15 rfl rfl)
theorem dX6_kindHere_41 : decode cX6_kindHere 41 = .ok (.iconst 5, 1) := dk_8 (dk_at dksX6_kindHere_1 17 rfl rfl)
theorem dX6_kindHere_42 : decode cX6_kindHere 42 = .ok (.iconst 5, 1) := dk_8 (dk_at dksX6_kindHere_1 18 rfl rfl)
theorem dX6_kindHere_43 : decode cX6_kindHere 43 = .ok (.iconst 0, 1) := dk_3 (dk_at dksX6_kindHere_1 19 rfl rfl)
theorem dX6_kindHere_44 : decode cX6_kindHere 44 = .ok (.iconst 0, 1) := dk_3 (dk_at dksX6_kindHere_1 20 rfl rfl)
theorem dX6_kindHere_45 : decode cX6_kindHere 45 = .ok (.iconst 0, 1) := dk_3 (dk_at dksX6_kindHere_1 21 rfl rfl)
theorem dX6_kindHere_46 : decode cX6_kindHere 46 = .ok (.invokevirtual 181, 3) := dk_182 0 181 (dk_at dksX6_kindHere_2 0 rfl rfl)
theorem dX6_kindHere_49 : decode cX6_kindHere 49 = .ok (.ifCond .eq 5, 3) := dk_153 0 5 (dk_at dksX6_kindHere_2 3 rfl rfl)
theorem dX6_kindHere_52 : decode cX6_kindHere 52 = .ok (.iconst 2, 1) := dk_5 (dk_at dksX6_kindHere_2 6 rfl rfl)
theorem dX6_kindHere_53 : decode cX6_kindHere 53 = .ok (.ireturn, 1) := dk_172 (dk_at dksX6_kindHere_2 7 rfl rfl)
theorem dX6_kindHere_54 : decode cX6_kindHere 54 = .ok (.aload_n 0, 1) := dk_42 (dk_at dksX6_kindHere_2 8 rfl rfl)
theorem dX6_kindHere_55 : decode cX6_kindHere 55 = .ok (.bipush 19, 2) := dk_16 19 (dk_at dksX6_kindHere_2 9 rfl rfl)
theorem dX6_kindHere_57 : decode cX6_kindHere 57 = .ok (.iconst 1, 1) := dk_4 (dk_at dksX6_kindHere_2 11 rfl rfl)
theorem dX6_kindHere_58 : decode cX6_kindHere 58 = .ok (.bipush 12, 2) := dk_16 12 (dk_at dksX6_kindHere_2 12 rfl rfl)
theorem dX6_kindHere_60 : decode cX6_kindHere 60 = .ok (.bipush 20, 2) := dk_16 20 (dk_at dksX6_kindHere_2 14 rfl rfl)
theorem dX6_kindHere_62 : decode cX6_kindHere 62 = .ok (.iconst 0, 1) := dk_3 (dk_at dksX6_kindHere_2 16 rfl rfl)
theorem dX6_kindHere_63 : decode cX6_kindHere 63 = .ok (.iconst 0, 1) := dk_3 (dk_at dksX6_kindHere_2 17 rfl rfl)
theorem dX6_kindHere_64 : decode cX6_kindHere 64 = .ok (.invokevirtual 181, 3) := dk_182 0 181 (dk_at dksX6_kindHere_2 18 rfl rfl)
theorem dX6_kindHere_67 : decode cX6_kindHere 67 = .ok (.ifCond .eq 5, 3) := dk_153 0 5 (dk_at dksX6_kindHere_2 21 rfl rfl)
theorem dX6_kindHere_70 : decode cX6_kindHere 70 = .ok (.iconst 3, 1) := dk_6 (dk_at dksX6_kindHere_3 0 rfl rfl)
theorem dX6_kindHere_71 : decode cX6_kindHere 71 = .ok (.ireturn, 1) := dk_172 (dk_at dksX6_kindHere_3 1 rfl rfl)
theorem dX6_kindHere_72 : decode cX6_kindHere 72 = .ok (.aload_n 0, 1) := dk_42 (dk_at dksX6_kindHere_3 2 rfl rfl)
theorem dX6_kindHere_73 : decode cX6_kindHere 73 = .ok (.bipush 23, 2) := dk_16 23 (dk_at dksX6_kindHere_3 3 rfl rfl)
theorem dX6_kindHere_75 : decode cX6_kindHere 75 = .ok (.bipush 15, 2) := dk_16 15 (dk_at dksX6_kindHere_3 5 rfl rfl)
theorem dX6_kindHere_77 : decode cX6_kindHere 77 = .ok (.bipush 18, 2) := dk_16 18 (dk_at dksX6_kindHere_3 7 rfl rfl)
theorem dX6_kindHere_79 : decode cX6_kindHere 79 = .ok (.bipush 12, 2) := dk_16 12 (dk_at dksX6_kindHere_3 9 rfl rfl)
theorem dX6_kindHere_81 : decode cX6_kindHere 81 = .ok (.iconst 4, 1) := dk_7 (dk_at dksX6_kindHere_3 11 rfl rfl)
theorem dX6_kindHere_82 : decode cX6_kindHere 82 = .ok (.iconst 0, 1) := dk_3 (dk_at dksX6_kindHere_3 12 rfl rfl)
theorem dX6_kindHere_83 : decode cX6_kindHere 83 = .ok (.invokevirtual 181, 3) := dk_182 0 181 (dk_at dksX6_kindHere_3 13 rfl rfl)
theorem dX6_kindHere_86 : decode cX6_kindHere 86 = .ok (.ifCond .eq 5, 3) := dk_153 0 5 (dk_at dksX6_kindHere_3 16 rfl rfl)
theorem dX6_kindHere_89 : decode cX6_kindHere 89 = .ok (.iconst 4, 1) := dk_7 (dk_at dksX6_kindHere_3 19 rfl rfl)
theorem dX6_kindHere_90 : decode cX6_kindHere 90 = .ok (.ireturn, 1) := dk_172 (dk_at dksX6_kindHere_3 20 rfl rfl)
theorem dX6_kindHere_91 : decode cX6_kindHere 91 = .ok (.aload_n 0, 1) := dk_42 (dk_at dksX6_kindHere_3 21 rfl rfl)
theorem dX6_kindHere_92 : decode cX6_kindHere 92 = .ok (.bipush 12, 2) := dk_16 12 (dk_at dksX6_kindHere_3 22 rfl rfl)
theorem dX6_kindHere_94 : decode cX6_kindHere 94 = .ok (.iconst 1, 1) := dk_4 (dk_at dksX6_kindHere_4 0 rfl rfl)
theorem dX6_kindHere_95 : decode cX6_kindHere 95 = .ok (.bipush 23, 2) := dk_16 23 (dk_at dksX6_kindHere_4 1 rfl rfl)
theorem dX6_kindHere_97 : decode cX6_kindHere 97 = .ok (.iconst 0, 1) := dk_3 (dk_at dksX6_kindHere_4 3 rfl rfl)
theorem dX6_kindHere_98 : decode cX6_kindHere 98 = .ok (.iconst 0, 1) := dk_3 (dk_at dksX6_kindHere_4 4 rfl rfl)
theorem dX6_kindHere_99 : decode cX6_kindHere 99 = .ok (.iconst 0, 1) := dk_3 (dk_at dksX6_kindHere_4 5 rfl rfl)
theorem dX6_kindHere_100 : decode cX6_kindHere 100 = .ok (.invokevirtual 181, 3) := dk_182 0 181 (dk_at dksX6_kindHere_4 6 rfl rfl)
theorem dX6_kindHere_103 : decode cX6_kindHere 103 = .ok (.ifCond .eq 7, 3) := dk_153 0 7 (dk_at dksX6_kindHere_4 9 rfl rfl)
theorem dX6_kindHere_106 : decode cX6_kindHere 106 = .ok (.iconst 5, 1) := dk_8 (dk_at dksX6_kindHere_4 12 rfl rfl)
theorem dX6_kindHere_107 : decode cX6_kindHere 107 = .ok (.goto 4, 3) := dk_167 0 4 (dk_at dksX6_kindHere_4 13 rfl rfl)
theorem dX6_kindHere_110 : decode cX6_kindHere 110 = .ok (.iconst (-1), 1) := dk_2 (dk_at dksX6_kindHere_4 16 rfl rfl)
theorem dX6_kindHere_111 : decode cX6_kindHere 111 = .ok (.ireturn, 1) := dk_172 (dk_at dksX6_kindHere_4 17 rfl rfl)
abbrev cX6_isWord : ByteArray := prog_19_method_15_code
def yX6_isWord : MethodName := ⟨RX6, "isWord", "(IIIIII)Z"⟩
def dkwX6_isWord_1 : List UInt8 := [160, 0, 7, 4, 167, 0, 4, 3, 172]
abbrev dktX6_isWord_1 : List UInt8 := dkwX6_isWord_1 ++ []
def dkwX6_isWord_0 : List UInt8 := [42, 180, 0, 148, 154, 0, 26, 42, 182, 0, 173, 27, 28, 29, 21, 4, 21, 5, 21, 6, 184, 0, 177]
abbrev dktX6_isWord_0 : List UInt8 := dkwX6_isWord_0 ++ dktX6_isWord_1
theorem dksX6_isWord_0 : cX6_isWord.data.toList.drop 0 = dktX6_isWord_0 := by decide +kernel
theorem dksX6_isWord_1 : cX6_isWord.data.toList.drop 23 = dktX6_isWord_1 := dk_seg dksX6_isWord_0 23 rfl rfl
theorem dX6_isWord_0 : decode cX6_isWord 0 = .ok (.aload_n 0, 1) := dk_42 (dk_at dksX6_isWord_0 0 rfl rfl)
theorem dX6_isWord_1 : decode cX6_isWord 1 = .ok (.getfield 148, 3) := dk_180 0 148 (dk_at dksX6_isWord_0 1 rfl rfl)
theorem dX6_isWord_4 : decode cX6_isWord 4 = .ok (.ifCond .ne 26, 3) := dk_154 0 26 (dk_at dksX6_isWord_0 4 rfl rfl)
theorem dX6_isWord_7 : decode cX6_isWord 7 = .ok (.aload_n 0, 1) := dk_42 (dk_at dksX6_isWord_0 7 rfl rfl)
theorem dX6_isWord_8 : decode cX6_isWord 8 = .ok (.invokevirtual 173, 3) := dk_182 0 173 (dk_at dksX6_isWord_0 8 rfl rfl)
theorem dX6_isWord_11 : decode cX6_isWord 11 = .ok (.iload_n 1, 1) := dk_27 (dk_at dksX6_isWord_0 11 rfl rfl)
theorem dX6_isWord_12 : decode cX6_isWord 12 = .ok (.iload_n 2, 1) := dk_28 (dk_at dksX6_isWord_0 12 rfl rfl)
theorem dX6_isWord_13 : decode cX6_isWord 13 = .ok (.iload_n 3, 1) := dk_29 (dk_at dksX6_isWord_0 13 rfl rfl)
theorem dX6_isWord_14 : decode cX6_isWord 14 = .ok (.iload 4, 2) := dk_21 4 (dk_at dksX6_isWord_0 14 rfl rfl)
theorem dX6_isWord_16 : decode cX6_isWord 16 = .ok (.iload 5, 2) := dk_21 5 (dk_at dksX6_isWord_0 16 rfl rfl)
theorem dX6_isWord_18 : decode cX6_isWord 18 = .ok (.iload 6, 2) := dk_21 6 (dk_at dksX6_isWord_0 18 rfl rfl)
theorem dX6_isWord_20 : decode cX6_isWord 20 = .ok (.invokestatic 177, 3) := dk_184 0 177 (dk_at dksX6_isWord_0 20 rfl rfl)
theorem dX6_isWord_23 : decode cX6_isWord 23 = .ok (.if_icmp .ne 7, 3) := dk_160 0 7 (dk_at dksX6_isWord_1 0 rfl rfl)
theorem dX6_isWord_26 : decode cX6_isWord 26 = .ok (.iconst 1, 1) := dk_4 (dk_at dksX6_isWord_1 3 rfl rfl)
theorem dX6_isWord_27 : decode cX6_isWord 27 = .ok (.goto 4, 3) := dk_167 0 4 (dk_at dksX6_isWord_1 4 rfl rfl)
theorem dX6_isWord_30 : decode cX6_isWord 30 = .ok (.iconst 0, 1) := dk_3 (dk_at dksX6_isWord_1 7 rfl rfl)
theorem dX6_isWord_31 : decode cX6_isWord 31 = .ok (.ireturn, 1) := dk_172 (dk_at dksX6_isWord_1 8 rfl rfl)
abbrev cX6_wordHere : ByteArray := prog_19_method_13_code
def yX6_wordHere : MethodName := ⟨RX6, "wordHere", "()I"⟩
def dkwX6_wordHere_3 : List UInt8 := [172]
abbrev dktX6_wordHere_3 : List UInt8 := dkwX6_wordHere_3 ++ []
def dkwX6_wordHere_2 : List UInt8 := [4, 96, 167, 0, 4, 27, 60, 132, 2, 1, 167, 255, 206, 28, 16, 6, 164, 0, 7, 2, 167, 0, 4, 27]
abbrev dktX6_wordHere_2 : List UInt8 := dkwX6_wordHere_2 ++ dktX6_wordHere_3
def dkwX6_wordHere_1 : List UInt8 := [28, 16, 6, 162, 0, 26, 16, 27, 27, 104, 42, 42, 180, 0, 141, 28, 96, 182, 0, 144, 96, 16, 97, 100]
abbrev dktX6_wordHere_1 : List UInt8 := dkwX6_wordHere_1 ++ dktX6_wordHere_2
def dkwX6_wordHere_0 : List UInt8 := [42, 182, 0, 154, 3, 60, 3, 61, 42, 42, 180, 0, 141, 28, 96, 182, 0, 144, 184, 0, 170, 153, 0, 40]
abbrev dktX6_wordHere_0 : List UInt8 := dkwX6_wordHere_0 ++ dktX6_wordHere_1
theorem dksX6_wordHere_0 : cX6_wordHere.data.toList.drop 0 = dktX6_wordHere_0 := by decide +kernel
theorem dksX6_wordHere_1 : cX6_wordHere.data.toList.drop 24 = dktX6_wordHere_1 := dk_seg dksX6_wordHere_0 24 rfl rfl
theorem dksX6_wordHere_2 : cX6_wordHere.data.toList.drop 48 = dktX6_wordHere_2 := dk_seg dksX6_wordHere_1 24 rfl rfl
theorem dksX6_wordHere_3 : cX6_wordHere.data.toList.drop 72 = dktX6_wordHere_3 := dk_seg dksX6_wordHere_2 24 rfl rfl
theorem dX6_wordHere_0 : decode cX6_wordHere 0 = .ok (.aload_n 0, 1) := dk_42 (dk_at dksX6_wordHere_0 0 rfl rfl)
theorem dX6_wordHere_1 : decode cX6_wordHere 1 = .ok (.invokevirtual 154, 3) := dk_182 0 154 (dk_at dksX6_wordHere_0 1 rfl rfl)
theorem dX6_wordHere_4 : decode cX6_wordHere 4 = .ok (.iconst 0, 1) := dk_3 (dk_at dksX6_wordHere_0 4 rfl rfl)
theorem dX6_wordHere_5 : decode cX6_wordHere 5 = .ok (.istore_n 1, 1) := dk_60 (dk_at dksX6_wordHere_0 5 rfl rfl)
theorem dX6_wordHere_6 : decode cX6_wordHere 6 = .ok (.iconst 0, 1) := dk_3 (dk_at dksX6_wordHere_0 6 rfl rfl)
theorem dX6_wordHere_7 : decode cX6_wordHere 7 = .ok (.istore_n 2, 1) := dk_61 (dk_at dksX6_wordHere_0 7 rfl rfl)
theorem dX6_wordHere_8 : decode cX6_wordHere 8 = .ok (.aload_n 0, 1) := dk_42 (dk_at dksX6_wordHere_0 8 rfl rfl)
theorem dX6_wordHere_9 : decode cX6_wordHere 9 = .ok (.aload_n 0, 1) := dk_42 (dk_at dksX6_wordHere_0 9 rfl rfl)
theorem dX6_wordHere_10 : decode cX6_wordHere 10 = .ok (.getfield 141, 3) := dk_180 0 141 (dk_at dksX6_wordHere_0 10 rfl rfl)
theorem dX6_wordHere_13 : decode cX6_wordHere 13 = .ok (.iload_n 2, 1) := dk_28 (dk_at dksX6_wordHere_0 13 rfl rfl)
theorem dX6_wordHere_14 : decode cX6_wordHere 14 = .ok (.iadd, 1) := dk_96 (dk_at dksX6_wordHere_0 14 rfl rfl)
theorem dX6_wordHere_15 : decode cX6_wordHere 15 = .ok (.invokevirtual 144, 3) := dk_182 0 144 (dk_at dksX6_wordHere_0 15 rfl rfl)
theorem dX6_wordHere_18 : decode cX6_wordHere 18 = .ok (.invokestatic 170, 3) := dk_184 0 170 (dk_at dksX6_wordHere_0 18 rfl rfl)
theorem dX6_wordHere_21 : decode cX6_wordHere 21 = .ok (.ifCond .eq 40, 3) := dk_153 0 40 (dk_at dksX6_wordHere_0 21 rfl rfl)
theorem dX6_wordHere_24 : decode cX6_wordHere 24 = .ok (.iload_n 2, 1) := dk_28 (dk_at dksX6_wordHere_1 0 rfl rfl)
theorem dX6_wordHere_25 : decode cX6_wordHere 25 = .ok (.bipush 6, 2) := dk_16 6 (dk_at dksX6_wordHere_1 1 rfl rfl)
theorem dX6_wordHere_27 : decode cX6_wordHere 27 = .ok (.if_icmp .ge 26, 3) := dk_162 0 26 (dk_at dksX6_wordHere_1 3 rfl rfl)
theorem dX6_wordHere_30 : decode cX6_wordHere 30 = .ok (.bipush 27, 2) := dk_16 27 (dk_at dksX6_wordHere_1 6 rfl rfl)
theorem dX6_wordHere_32 : decode cX6_wordHere 32 = .ok (.iload_n 1, 1) := dk_27 (dk_at dksX6_wordHere_1 8 rfl rfl)
theorem dX6_wordHere_33 : decode cX6_wordHere 33 = .ok (.imul, 1) := dk_104 (dk_at dksX6_wordHere_1 9 rfl rfl)
theorem dX6_wordHere_34 : decode cX6_wordHere 34 = .ok (.aload_n 0, 1) := dk_42 (dk_at dksX6_wordHere_1 10 rfl rfl)
theorem dX6_wordHere_35 : decode cX6_wordHere 35 = .ok (.aload_n 0, 1) := dk_42 (dk_at dksX6_wordHere_1 11 rfl rfl)
theorem dX6_wordHere_36 : decode cX6_wordHere 36 = .ok (.getfield 141, 3) := dk_180 0 141 (dk_at dksX6_wordHere_1 12 rfl rfl)
theorem dX6_wordHere_39 : decode cX6_wordHere 39 = .ok (.iload_n 2, 1) := dk_28 (dk_at dksX6_wordHere_1 15 rfl rfl)
theorem dX6_wordHere_40 : decode cX6_wordHere 40 = .ok (.iadd, 1) := dk_96 (dk_at dksX6_wordHere_1 16 rfl rfl)
theorem dX6_wordHere_41 : decode cX6_wordHere 41 = .ok (.invokevirtual 144, 3) := dk_182 0 144 (dk_at dksX6_wordHere_1 17 rfl rfl)
theorem dX6_wordHere_44 : decode cX6_wordHere 44 = .ok (.iadd, 1) := dk_96 (dk_at dksX6_wordHere_1 20 rfl rfl)
theorem dX6_wordHere_45 : decode cX6_wordHere 45 = .ok (.bipush 97, 2) := dk_16 97 (dk_at dksX6_wordHere_1 21 rfl rfl)
theorem dX6_wordHere_47 : decode cX6_wordHere 47 = .ok (.isub, 1) := dk_100 (dk_at dksX6_wordHere_1 23 rfl rfl)
theorem dX6_wordHere_48 : decode cX6_wordHere 48 = .ok (.iconst 1, 1) := dk_4 (dk_at dksX6_wordHere_2 0 rfl rfl)
theorem dX6_wordHere_49 : decode cX6_wordHere 49 = .ok (.iadd, 1) := dk_96 (dk_at dksX6_wordHere_2 1 rfl rfl)
theorem dX6_wordHere_50 : decode cX6_wordHere 50 = .ok (.goto 4, 3) := dk_167 0 4 (dk_at dksX6_wordHere_2 2 rfl rfl)
theorem dX6_wordHere_53 : decode cX6_wordHere 53 = .ok (.iload_n 1, 1) := dk_27 (dk_at dksX6_wordHere_2 5 rfl rfl)
theorem dX6_wordHere_54 : decode cX6_wordHere 54 = .ok (.istore_n 1, 1) := dk_60 (dk_at dksX6_wordHere_2 6 rfl rfl)
theorem dX6_wordHere_55 : decode cX6_wordHere 55 = .ok (.iinc 2 1, 3) := dk_132 2 1 (dk_at dksX6_wordHere_2 7 rfl rfl)
theorem dX6_wordHere_58 : decode cX6_wordHere 58 = .ok (.goto (-50), 3) := dk_167 255 206 (dk_at dksX6_wordHere_2 10 rfl rfl)
theorem dX6_wordHere_61 : decode cX6_wordHere 61 = .ok (.iload_n 2, 1) := dk_28 (dk_at dksX6_wordHere_2 13 rfl rfl)
theorem dX6_wordHere_62 : decode cX6_wordHere 62 = .ok (.bipush 6, 2) := dk_16 6 (dk_at dksX6_wordHere_2 14 rfl rfl)
theorem dX6_wordHere_64 : decode cX6_wordHere 64 = .ok (.if_icmp .le 7, 3) := dk_164 0 7 (dk_at dksX6_wordHere_2 16 rfl rfl)
theorem dX6_wordHere_67 : decode cX6_wordHere 67 = .ok (.iconst (-1), 1) := dk_2 (dk_at dksX6_wordHere_2 19 rfl rfl)
theorem dX6_wordHere_68 : decode cX6_wordHere 68 = .ok (.goto 4, 3) := dk_167 0 4 (dk_at dksX6_wordHere_2 20 rfl rfl)
theorem dX6_wordHere_71 : decode cX6_wordHere 71 = .ok (.iload_n 1, 1) := dk_27 (dk_at dksX6_wordHere_2 23 rfl rfl)
theorem dX6_wordHere_72 : decode cX6_wordHere 72 = .ok (.ireturn, 1) := dk_172 (dk_at dksX6_wordHere_3 0 rfl rfl)
abbrev cX6_isSmall : ByteArray := prog_19_method_11_code
def yX6_isSmall : MethodName := ⟨RX6, "isSmall", "(I)Z"⟩
def dkwX6_isSmall_0 : List UInt8 := [26, 16, 97, 161, 0, 13, 26, 16, 122, 163, 0, 7, 4, 167, 0, 4, 3, 172]
abbrev dktX6_isSmall_0 : List UInt8 := dkwX6_isSmall_0 ++ []
theorem dksX6_isSmall_0 : cX6_isSmall.data.toList.drop 0 = dktX6_isSmall_0 := by decide +kernel
theorem dX6_isSmall_0 : decode cX6_isSmall 0 = .ok (.iload_n 0, 1) := dk_26 (dk_at dksX6_isSmall_0 0 rfl rfl)
theorem dX6_isSmall_1 : decode cX6_isSmall 1 = .ok (.bipush 97, 2) := dk_16 97 (dk_at dksX6_isSmall_0 1 rfl rfl)
theorem dX6_isSmall_3 : decode cX6_isSmall 3 = .ok (.if_icmp .lt 13, 3) := dk_161 0 13 (dk_at dksX6_isSmall_0 3 rfl rfl)
theorem dX6_isSmall_6 : decode cX6_isSmall 6 = .ok (.iload_n 0, 1) := dk_26 (dk_at dksX6_isSmall_0 6 rfl rfl)
theorem dX6_isSmall_7 : decode cX6_isSmall 7 = .ok (.bipush 122, 2) := dk_16 122 (dk_at dksX6_isSmall_0 7 rfl rfl)
theorem dX6_isSmall_9 : decode cX6_isSmall 9 = .ok (.if_icmp .gt 7, 3) := dk_163 0 7 (dk_at dksX6_isSmall_0 9 rfl rfl)
theorem dX6_isSmall_12 : decode cX6_isSmall 12 = .ok (.iconst 1, 1) := dk_4 (dk_at dksX6_isSmall_0 12 rfl rfl)
theorem dX6_isSmall_13 : decode cX6_isSmall 13 = .ok (.goto 4, 3) := dk_167 0 4 (dk_at dksX6_isSmall_0 13 rfl rfl)
theorem dX6_isSmall_16 : decode cX6_isSmall 16 = .ok (.iconst 0, 1) := dk_3 (dk_at dksX6_isSmall_0 16 rfl rfl)
theorem dX6_isSmall_17 : decode cX6_isSmall 17 = .ok (.ireturn, 1) := dk_172 (dk_at dksX6_isSmall_0 17 rfl rfl)
abbrev cX6_six : ByteArray := prog_19_method_14_code
def yX6_six : MethodName := ⟨RX6, "six", "(IIIIII)I"⟩
def dkwX6_six_3 : List UInt8 := [21, 6, 167, 0, 11, 16, 27, 21, 6, 104, 21, 5, 96, 172]
abbrev dktX6_six_3 : List UInt8 := dkwX6_six_3 ++ []
def dkwX6_six_2 : List UInt8 := [154, 0, 8, 21, 6, 167, 0, 11, 16, 27, 21, 6, 104, 21, 4, 96, 54, 6, 21, 5, 154, 0, 8]
abbrev dktX6_six_2 : List UInt8 := dkwX6_six_2 ++ dktX6_six_3
def dkwX6_six_1 : List UInt8 := [54, 6, 29, 154, 0, 8, 21, 6, 167, 0, 10, 16, 27, 21, 6, 104, 29, 96, 54, 6, 21, 4]
abbrev dktX6_six_1 : List UInt8 := dkwX6_six_1 ++ dktX6_six_2
def dkwX6_six_0 : List UInt8 := [16, 27, 26, 104, 27, 96, 54, 6, 28, 154, 0, 8, 21, 6, 167, 0, 10, 16, 27, 21, 6, 104, 28, 96]
abbrev dktX6_six_0 : List UInt8 := dkwX6_six_0 ++ dktX6_six_1
theorem dksX6_six_0 : cX6_six.data.toList.drop 0 = dktX6_six_0 := by decide +kernel
theorem dksX6_six_1 : cX6_six.data.toList.drop 24 = dktX6_six_1 := dk_seg dksX6_six_0 24 rfl rfl
theorem dksX6_six_2 : cX6_six.data.toList.drop 46 = dktX6_six_2 := dk_seg dksX6_six_1 22 rfl rfl
theorem dksX6_six_3 : cX6_six.data.toList.drop 69 = dktX6_six_3 := dk_seg dksX6_six_2 23 rfl rfl
theorem dX6_six_0 : decode cX6_six 0 = .ok (.bipush 27, 2) := dk_16 27 (dk_at dksX6_six_0 0 rfl rfl)
theorem dX6_six_2 : decode cX6_six 2 = .ok (.iload_n 0, 1) := dk_26 (dk_at dksX6_six_0 2 rfl rfl)
theorem dX6_six_3 : decode cX6_six 3 = .ok (.imul, 1) := dk_104 (dk_at dksX6_six_0 3 rfl rfl)
theorem dX6_six_4 : decode cX6_six 4 = .ok (.iload_n 1, 1) := dk_27 (dk_at dksX6_six_0 4 rfl rfl)
theorem dX6_six_5 : decode cX6_six 5 = .ok (.iadd, 1) := dk_96 (dk_at dksX6_six_0 5 rfl rfl)
theorem dX6_six_6 : decode cX6_six 6 = .ok (.istore 6, 2) := dk_54 6 (dk_at dksX6_six_0 6 rfl rfl)
theorem dX6_six_8 : decode cX6_six 8 = .ok (.iload_n 2, 1) := dk_28 (dk_at dksX6_six_0 8 rfl rfl)
theorem dX6_six_9 : decode cX6_six 9 = .ok (.ifCond .ne 8, 3) := dk_154 0 8 (dk_at dksX6_six_0 9 rfl rfl)
theorem dX6_six_12 : decode cX6_six 12 = .ok (.iload 6, 2) := dk_21 6 (dk_at dksX6_six_0 12 rfl rfl)
theorem dX6_six_14 : decode cX6_six 14 = .ok (.goto 10, 3) := dk_167 0 10 (dk_at dksX6_six_0 14 rfl rfl)
theorem dX6_six_17 : decode cX6_six 17 = .ok (.bipush 27, 2) := dk_16 27 (dk_at dksX6_six_0 17 rfl rfl)
theorem dX6_six_19 : decode cX6_six 19 = .ok (.iload 6, 2) := dk_21 6 (dk_at dksX6_six_0 19 rfl rfl)
theorem dX6_six_21 : decode cX6_six 21 = .ok (.imul, 1) := dk_104 (dk_at dksX6_six_0 21 rfl rfl)
theorem dX6_six_22 : decode cX6_six 22 = .ok (.iload_n 2, 1) := dk_28 (dk_at dksX6_six_0 22 rfl rfl)
theorem dX6_six_23 : decode cX6_six 23 = .ok (.iadd, 1) := dk_96 (dk_at dksX6_six_0 23 rfl rfl)
theorem dX6_six_24 : decode cX6_six 24 = .ok (.istore 6, 2) := dk_54 6 (dk_at dksX6_six_1 0 rfl rfl)
theorem dX6_six_26 : decode cX6_six 26 = .ok (.iload_n 3, 1) := dk_29 (dk_at dksX6_six_1 2 rfl rfl)
theorem dX6_six_27 : decode cX6_six 27 = .ok (.ifCond .ne 8, 3) := dk_154 0 8 (dk_at dksX6_six_1 3 rfl rfl)
theorem dX6_six_30 : decode cX6_six 30 = .ok (.iload 6, 2) := dk_21 6 (dk_at dksX6_six_1 6 rfl rfl)
theorem dX6_six_32 : decode cX6_six 32 = .ok (.goto 10, 3) := dk_167 0 10 (dk_at dksX6_six_1 8 rfl rfl)
theorem dX6_six_35 : decode cX6_six 35 = .ok (.bipush 27, 2) := dk_16 27 (dk_at dksX6_six_1 11 rfl rfl)
theorem dX6_six_37 : decode cX6_six 37 = .ok (.iload 6, 2) := dk_21 6 (dk_at dksX6_six_1 13 rfl rfl)
theorem dX6_six_39 : decode cX6_six 39 = .ok (.imul, 1) := dk_104 (dk_at dksX6_six_1 15 rfl rfl)
theorem dX6_six_40 : decode cX6_six 40 = .ok (.iload_n 3, 1) := dk_29 (dk_at dksX6_six_1 16 rfl rfl)
theorem dX6_six_41 : decode cX6_six 41 = .ok (.iadd, 1) := dk_96 (dk_at dksX6_six_1 17 rfl rfl)
theorem dX6_six_42 : decode cX6_six 42 = .ok (.istore 6, 2) := dk_54 6 (dk_at dksX6_six_1 18 rfl rfl)
theorem dX6_six_44 : decode cX6_six 44 = .ok (.iload 4, 2) := dk_21 4 (dk_at dksX6_six_1 20 rfl rfl)
theorem dX6_six_46 : decode cX6_six 46 = .ok (.ifCond .ne 8, 3) := dk_154 0 8 (dk_at dksX6_six_2 0 rfl rfl)
theorem dX6_six_49 : decode cX6_six 49 = .ok (.iload 6, 2) := dk_21 6 (dk_at dksX6_six_2 3 rfl rfl)
theorem dX6_six_51 : decode cX6_six 51 = .ok (.goto 11, 3) := dk_167 0 11 (dk_at dksX6_six_2 5 rfl rfl)
theorem dX6_six_54 : decode cX6_six 54 = .ok (.bipush 27, 2) := dk_16 27 (dk_at dksX6_six_2 8 rfl rfl)
theorem dX6_six_56 : decode cX6_six 56 = .ok (.iload 6, 2) := dk_21 6 (dk_at dksX6_six_2 10 rfl rfl)
theorem dX6_six_58 : decode cX6_six 58 = .ok (.imul, 1) := dk_104 (dk_at dksX6_six_2 12 rfl rfl)
theorem dX6_six_59 : decode cX6_six 59 = .ok (.iload 4, 2) := dk_21 4 (dk_at dksX6_six_2 13 rfl rfl)
theorem dX6_six_61 : decode cX6_six 61 = .ok (.iadd, 1) := dk_96 (dk_at dksX6_six_2 15 rfl rfl)
theorem dX6_six_62 : decode cX6_six 62 = .ok (.istore 6, 2) := dk_54 6 (dk_at dksX6_six_2 16 rfl rfl)
theorem dX6_six_64 : decode cX6_six 64 = .ok (.iload 5, 2) := dk_21 5 (dk_at dksX6_six_2 18 rfl rfl)
theorem dX6_six_66 : decode cX6_six 66 = .ok (.ifCond .ne 8, 3) := dk_154 0 8 (dk_at dksX6_six_2 20 rfl rfl)
theorem dX6_six_69 : decode cX6_six 69 = .ok (.iload 6, 2) := dk_21 6 (dk_at dksX6_six_3 0 rfl rfl)
theorem dX6_six_71 : decode cX6_six 71 = .ok (.goto 11, 3) := dk_167 0 11 (dk_at dksX6_six_3 2 rfl rfl)
theorem dX6_six_74 : decode cX6_six 74 = .ok (.bipush 27, 2) := dk_16 27 (dk_at dksX6_six_3 5 rfl rfl)
theorem dX6_six_76 : decode cX6_six 76 = .ok (.iload 6, 2) := dk_21 6 (dk_at dksX6_six_3 7 rfl rfl)
theorem dX6_six_78 : decode cX6_six 78 = .ok (.imul, 1) := dk_104 (dk_at dksX6_six_3 9 rfl rfl)
theorem dX6_six_79 : decode cX6_six 79 = .ok (.iload 5, 2) := dk_21 5 (dk_at dksX6_six_3 10 rfl rfl)
theorem dX6_six_81 : decode cX6_six 81 = .ok (.iadd, 1) := dk_96 (dk_at dksX6_six_3 12 rfl rfl)
theorem dX6_six_82 : decode cX6_six 82 = .ok (.ireturn, 1) := dk_172 (dk_at dksX6_six_3 13 rfl rfl)
abbrev cX6_wrong : ByteArray := prog_19_method_9_code
def yX6_wrong : MethodName := ⟨RX6, "wrong", "(II)V"⟩
def dkwX6_wrong_0 : List UInt8 := [42, 180, 0, 148, 154, 0, 13, 42, 27, 181, 0, 148, 42, 28, 181, 0, 151, 177]
abbrev dktX6_wrong_0 : List UInt8 := dkwX6_wrong_0 ++ []
theorem dksX6_wrong_0 : cX6_wrong.data.toList.drop 0 = dktX6_wrong_0 := by decide +kernel
theorem dX6_wrong_0 : decode cX6_wrong 0 = .ok (.aload_n 0, 1) := dk_42 (dk_at dksX6_wrong_0 0 rfl rfl)
theorem dX6_wrong_1 : decode cX6_wrong 1 = .ok (.getfield 148, 3) := dk_180 0 148 (dk_at dksX6_wrong_0 1 rfl rfl)
theorem dX6_wrong_4 : decode cX6_wrong 4 = .ok (.ifCond .ne 13, 3) := dk_154 0 13 (dk_at dksX6_wrong_0 4 rfl rfl)
theorem dX6_wrong_7 : decode cX6_wrong 7 = .ok (.aload_n 0, 1) := dk_42 (dk_at dksX6_wrong_0 7 rfl rfl)
theorem dX6_wrong_8 : decode cX6_wrong 8 = .ok (.iload_n 1, 1) := dk_27 (dk_at dksX6_wrong_0 8 rfl rfl)
theorem dX6_wrong_9 : decode cX6_wrong 9 = .ok (.putfield 148, 3) := dk_181 0 148 (dk_at dksX6_wrong_0 9 rfl rfl)
theorem dX6_wrong_12 : decode cX6_wrong 12 = .ok (.aload_n 0, 1) := dk_42 (dk_at dksX6_wrong_0 12 rfl rfl)
theorem dX6_wrong_13 : decode cX6_wrong 13 = .ok (.iload_n 2, 1) := dk_28 (dk_at dksX6_wrong_0 13 rfl rfl)
theorem dX6_wrong_14 : decode cX6_wrong 14 = .ok (.putfield 151, 3) := dk_181 0 151 (dk_at dksX6_wrong_0 14 rfl rfl)
theorem dX6_wrong_17 : decode cX6_wrong 17 = .ok (.return_, 1) := dk_177 (dk_at dksX6_wrong_0 17 rfl rfl)
abbrev cX6_isFull : ByteArray := prog_19_method_28_code
def yX6_isFull : MethodName := ⟨RX6, "isFull", "(I)Z"⟩
def dkwX6_isFull_2 : List UInt8 := [160, 0, 7, 4, 167, 0, 4, 3, 172]
abbrev dktX6_isFull_2 : List UInt8 := dkwX6_isFull_2 ++ []
def dkwX6_isFull_1 : List UInt8 := [180, 0, 20, 5, 46, 16, 12, 159, 0, 18, 27, 6, 160, 0, 17, 42, 180, 0, 20, 6, 46, 8]
abbrev dktX6_isFull_1 : List UInt8 := dkwX6_isFull_1 ++ dktX6_isFull_2
def dkwX6_isFull_0 : List UInt8 := [27, 4, 160, 0, 14, 42, 180, 0, 20, 4, 46, 16, 12, 159, 0, 34, 27, 5, 160, 0, 14, 42]
abbrev dktX6_isFull_0 : List UInt8 := dkwX6_isFull_0 ++ dktX6_isFull_1
theorem dksX6_isFull_0 : cX6_isFull.data.toList.drop 0 = dktX6_isFull_0 := by decide +kernel
theorem dksX6_isFull_1 : cX6_isFull.data.toList.drop 22 = dktX6_isFull_1 := dk_seg dksX6_isFull_0 22 rfl rfl
theorem dksX6_isFull_2 : cX6_isFull.data.toList.drop 44 = dktX6_isFull_2 := dk_seg dksX6_isFull_1 22 rfl rfl
theorem dX6_isFull_0 : decode cX6_isFull 0 = .ok (.iload_n 1, 1) := dk_27 (dk_at dksX6_isFull_0 0 rfl rfl)
theorem dX6_isFull_1 : decode cX6_isFull 1 = .ok (.iconst 1, 1) := dk_4 (dk_at dksX6_isFull_0 1 rfl rfl)
theorem dX6_isFull_2 : decode cX6_isFull 2 = .ok (.if_icmp .ne 14, 3) := dk_160 0 14 (dk_at dksX6_isFull_0 2 rfl rfl)
theorem dX6_isFull_5 : decode cX6_isFull 5 = .ok (.aload_n 0, 1) := dk_42 (dk_at dksX6_isFull_0 5 rfl rfl)
theorem dX6_isFull_6 : decode cX6_isFull 6 = .ok (.getfield 20, 3) := dk_180 0 20 (dk_at dksX6_isFull_0 6 rfl rfl)
theorem dX6_isFull_9 : decode cX6_isFull 9 = .ok (.iconst 1, 1) := dk_4 (dk_at dksX6_isFull_0 9 rfl rfl)
theorem dX6_isFull_10 : decode cX6_isFull 10 = .ok (.iaload, 1) := dk_46 (dk_at dksX6_isFull_0 10 rfl rfl)
theorem dX6_isFull_11 : decode cX6_isFull 11 = .ok (.bipush 12, 2) := dk_16 12 (dk_at dksX6_isFull_0 11 rfl rfl)
theorem dX6_isFull_13 : decode cX6_isFull 13 = .ok (.if_icmp .eq 34, 3) := dk_159 0 34 (dk_at dksX6_isFull_0 13 rfl rfl)
theorem dX6_isFull_16 : decode cX6_isFull 16 = .ok (.iload_n 1, 1) := dk_27 (dk_at dksX6_isFull_0 16 rfl rfl)
theorem dX6_isFull_17 : decode cX6_isFull 17 = .ok (.iconst 2, 1) := dk_5 (dk_at dksX6_isFull_0 17 rfl rfl)
theorem dX6_isFull_18 : decode cX6_isFull 18 = .ok (.if_icmp .ne 14, 3) := dk_160 0 14 (dk_at dksX6_isFull_0 18 rfl rfl)
theorem dX6_isFull_21 : decode cX6_isFull 21 = .ok (.aload_n 0, 1) := dk_42 (dk_at dksX6_isFull_0 21 rfl rfl)
theorem dX6_isFull_22 : decode cX6_isFull 22 = .ok (.getfield 20, 3) := dk_180 0 20 (dk_at dksX6_isFull_1 0 rfl rfl)
theorem dX6_isFull_25 : decode cX6_isFull 25 = .ok (.iconst 2, 1) := dk_5 (dk_at dksX6_isFull_1 3 rfl rfl)
theorem dX6_isFull_26 : decode cX6_isFull 26 = .ok (.iaload, 1) := dk_46 (dk_at dksX6_isFull_1 4 rfl rfl)
theorem dX6_isFull_27 : decode cX6_isFull 27 = .ok (.bipush 12, 2) := dk_16 12 (dk_at dksX6_isFull_1 5 rfl rfl)
theorem dX6_isFull_29 : decode cX6_isFull 29 = .ok (.if_icmp .eq 18, 3) := dk_159 0 18 (dk_at dksX6_isFull_1 7 rfl rfl)
theorem dX6_isFull_32 : decode cX6_isFull 32 = .ok (.iload_n 1, 1) := dk_27 (dk_at dksX6_isFull_1 10 rfl rfl)
theorem dX6_isFull_33 : decode cX6_isFull 33 = .ok (.iconst 3, 1) := dk_6 (dk_at dksX6_isFull_1 11 rfl rfl)
theorem dX6_isFull_34 : decode cX6_isFull 34 = .ok (.if_icmp .ne 17, 3) := dk_160 0 17 (dk_at dksX6_isFull_1 12 rfl rfl)
theorem dX6_isFull_37 : decode cX6_isFull 37 = .ok (.aload_n 0, 1) := dk_42 (dk_at dksX6_isFull_1 15 rfl rfl)
theorem dX6_isFull_38 : decode cX6_isFull 38 = .ok (.getfield 20, 3) := dk_180 0 20 (dk_at dksX6_isFull_1 16 rfl rfl)
theorem dX6_isFull_41 : decode cX6_isFull 41 = .ok (.iconst 3, 1) := dk_6 (dk_at dksX6_isFull_1 19 rfl rfl)
theorem dX6_isFull_42 : decode cX6_isFull 42 = .ok (.iaload, 1) := dk_46 (dk_at dksX6_isFull_1 20 rfl rfl)
theorem dX6_isFull_43 : decode cX6_isFull 43 = .ok (.iconst 5, 1) := dk_8 (dk_at dksX6_isFull_1 21 rfl rfl)
theorem dX6_isFull_44 : decode cX6_isFull 44 = .ok (.if_icmp .ne 7, 3) := dk_160 0 7 (dk_at dksX6_isFull_2 0 rfl rfl)
theorem dX6_isFull_47 : decode cX6_isFull 47 = .ok (.iconst 1, 1) := dk_4 (dk_at dksX6_isFull_2 3 rfl rfl)
theorem dX6_isFull_48 : decode cX6_isFull 48 = .ok (.goto 4, 3) := dk_167 0 4 (dk_at dksX6_isFull_2 4 rfl rfl)
theorem dX6_isFull_51 : decode cX6_isFull 51 = .ok (.iconst 0, 1) := dk_3 (dk_at dksX6_isFull_2 7 rfl rfl)
theorem dX6_isFull_52 : decode cX6_isFull 52 = .ok (.ireturn, 1) := dk_172 (dk_at dksX6_isFull_2 8 rfl rfl)
abbrev cX6_skipWord : ByteArray := prog_19_method_16_code
def yX6_skipWord : MethodName := ⟨RX6, "skipWord", "()V"⟩
def dkwX6_skipWord_1 : List UInt8 := [167, 255, 232, 177]
abbrev dktX6_skipWord_1 : List UInt8 := dkwX6_skipWord_1 ++ []
def dkwX6_skipWord_0 : List UInt8 := [42, 42, 180, 0, 141, 182, 0, 144, 184, 0, 170, 153, 0, 16, 42, 89, 180, 0, 141, 4, 96, 181, 0, 141]
abbrev dktX6_skipWord_0 : List UInt8 := dkwX6_skipWord_0 ++ dktX6_skipWord_1
theorem dksX6_skipWord_0 : cX6_skipWord.data.toList.drop 0 = dktX6_skipWord_0 := by decide +kernel
theorem dksX6_skipWord_1 : cX6_skipWord.data.toList.drop 24 = dktX6_skipWord_1 := dk_seg dksX6_skipWord_0 24 rfl rfl
theorem dX6_skipWord_0 : decode cX6_skipWord 0 = .ok (.aload_n 0, 1) := dk_42 (dk_at dksX6_skipWord_0 0 rfl rfl)
theorem dX6_skipWord_1 : decode cX6_skipWord 1 = .ok (.aload_n 0, 1) := dk_42 (dk_at dksX6_skipWord_0 1 rfl rfl)
theorem dX6_skipWord_2 : decode cX6_skipWord 2 = .ok (.getfield 141, 3) := dk_180 0 141 (dk_at dksX6_skipWord_0 2 rfl rfl)
theorem dX6_skipWord_5 : decode cX6_skipWord 5 = .ok (.invokevirtual 144, 3) := dk_182 0 144 (dk_at dksX6_skipWord_0 5 rfl rfl)
theorem dX6_skipWord_8 : decode cX6_skipWord 8 = .ok (.invokestatic 170, 3) := dk_184 0 170 (dk_at dksX6_skipWord_0 8 rfl rfl)
theorem dX6_skipWord_11 : decode cX6_skipWord 11 = .ok (.ifCond .eq 16, 3) := dk_153 0 16 (dk_at dksX6_skipWord_0 11 rfl rfl)
theorem dX6_skipWord_14 : decode cX6_skipWord 14 = .ok (.aload_n 0, 1) := dk_42 (dk_at dksX6_skipWord_0 14 rfl rfl)
theorem dX6_skipWord_15 : decode cX6_skipWord 15 = .ok (.dup, 1) := dk_89 (dk_at dksX6_skipWord_0 15 rfl rfl)
theorem dX6_skipWord_16 : decode cX6_skipWord 16 = .ok (.getfield 141, 3) := dk_180 0 141 (dk_at dksX6_skipWord_0 16 rfl rfl)
theorem dX6_skipWord_19 : decode cX6_skipWord 19 = .ok (.iconst 1, 1) := dk_4 (dk_at dksX6_skipWord_0 19 rfl rfl)
theorem dX6_skipWord_20 : decode cX6_skipWord 20 = .ok (.iadd, 1) := dk_96 (dk_at dksX6_skipWord_0 20 rfl rfl)
theorem dX6_skipWord_21 : decode cX6_skipWord 21 = .ok (.putfield 141, 3) := dk_181 0 141 (dk_at dksX6_skipWord_0 21 rfl rfl)
theorem dX6_skipWord_24 : decode cX6_skipWord 24 = .ok (.goto (-24), 3) := dk_167 255 232 (dk_at dksX6_skipWord_1 0 rfl rfl)
theorem dX6_skipWord_27 : decode cX6_skipWord 27 = .ok (.return_, 1) := dk_177 (dk_at dksX6_skipWord_1 3 rfl rfl)
abbrev cX6_number : ByteArray := prog_19_method_12_code
def yX6_number : MethodName := ⟨RX6, "number", "(II)I"⟩
def dkwX6_number_5 : List UInt8 := [154, 0, 9, 42, 5, 29, 182, 0, 161, 42, 180, 0, 148, 154, 0, 8, 21, 4, 167, 0, 4, 3, 172]
abbrev dktX6_number_5 : List UInt8 := dkwX6_number_5 ++ []
def dkwX6_number_4 : List UInt8 := [54, 4, 42, 89, 180, 0, 141, 4, 96, 181, 0, 141, 167, 255, 197, 21, 4, 27, 28, 184, 0, 166]
abbrev dktX6_number_4 : List UInt8 := dkwX6_number_4 ++ dktX6_number_5
def dkwX6_number_3 : List UInt8 := [182, 0, 144, 96, 16, 48, 100, 54, 4, 21, 4, 18, 165, 164, 0, 8, 18, 165, 167, 0, 5, 21, 4]
abbrev dktX6_number_3 : List UInt8 := dkwX6_number_3 ++ dktX6_number_4
def dkwX6_number_2 : List UInt8 := [180, 0, 141, 182, 0, 144, 184, 0, 157, 153, 0, 51, 16, 10, 21, 4, 104, 42, 42, 180, 0, 141]
abbrev dktX6_number_2 : List UInt8 := dkwX6_number_2 ++ dktX6_number_3
def dkwX6_number_1 : List UInt8 := [180, 0, 141, 182, 0, 144, 184, 0, 157, 154, 0, 12, 42, 4, 42, 180, 0, 141, 182, 0, 161, 42, 42]
abbrev dktX6_number_1 : List UInt8 := dkwX6_number_1 ++ dktX6_number_2
def dkwX6_number_0 : List UInt8 := [42, 180, 0, 148, 153, 0, 5, 3, 172, 42, 182, 0, 154, 42, 180, 0, 141, 62, 3, 54, 4, 42, 42]
abbrev dktX6_number_0 : List UInt8 := dkwX6_number_0 ++ dktX6_number_1
theorem dksX6_number_0 : cX6_number.data.toList.drop 0 = dktX6_number_0 := by decide +kernel
theorem dksX6_number_1 : cX6_number.data.toList.drop 23 = dktX6_number_1 := dk_seg dksX6_number_0 23 rfl rfl
theorem dksX6_number_2 : cX6_number.data.toList.drop 46 = dktX6_number_2 := dk_seg dksX6_number_1 23 rfl rfl
theorem dksX6_number_3 : cX6_number.data.toList.drop 68 = dktX6_number_3 := dk_seg dksX6_number_2 22 rfl rfl
theorem dksX6_number_4 : cX6_number.data.toList.drop 91 = dktX6_number_4 := dk_seg dksX6_number_3 23 rfl rfl
theorem dksX6_number_5 : cX6_number.data.toList.drop 113 = dktX6_number_5 := dk_seg dksX6_number_4 22 rfl rfl
theorem dX6_number_0 : decode cX6_number 0 = .ok (.aload_n 0, 1) := dk_42 (dk_at dksX6_number_0 0 rfl rfl)
theorem dX6_number_1 : decode cX6_number 1 = .ok (.getfield 148, 3) := dk_180 0 148 (dk_at dksX6_number_0 1 rfl rfl)
theorem dX6_number_4 : decode cX6_number 4 = .ok (.ifCond .eq 5, 3) := dk_153 0 5 (dk_at dksX6_number_0 4 rfl rfl)
theorem dX6_number_7 : decode cX6_number 7 = .ok (.iconst 0, 1) := dk_3 (dk_at dksX6_number_0 7 rfl rfl)
theorem dX6_number_8 : decode cX6_number 8 = .ok (.ireturn, 1) := dk_172 (dk_at dksX6_number_0 8 rfl rfl)
theorem dX6_number_9 : decode cX6_number 9 = .ok (.aload_n 0, 1) := dk_42 (dk_at dksX6_number_0 9 rfl rfl)
theorem dX6_number_10 : decode cX6_number 10 = .ok (.invokevirtual 154, 3) := dk_182 0 154 (dk_at dksX6_number_0 10 rfl rfl)
theorem dX6_number_13 : decode cX6_number 13 = .ok (.aload_n 0, 1) := dk_42 (dk_at dksX6_number_0 13 rfl rfl)
theorem dX6_number_14 : decode cX6_number 14 = .ok (.getfield 141, 3) := dk_180 0 141 (dk_at dksX6_number_0 14 rfl rfl)
theorem dX6_number_17 : decode cX6_number 17 = .ok (.istore_n 3, 1) := dk_62 (dk_at dksX6_number_0 17 rfl rfl)
theorem dX6_number_18 : decode cX6_number 18 = .ok (.iconst 0, 1) := dk_3 (dk_at dksX6_number_0 18 rfl rfl)
theorem dX6_number_19 : decode cX6_number 19 = .ok (.istore 4, 2) := dk_54 4 (dk_at dksX6_number_0 19 rfl rfl)
theorem dX6_number_21 : decode cX6_number 21 = .ok (.aload_n 0, 1) := dk_42 (dk_at dksX6_number_0 21 rfl rfl)
theorem dX6_number_22 : decode cX6_number 22 = .ok (.aload_n 0, 1) := dk_42 (dk_at dksX6_number_0 22 rfl rfl)
theorem dX6_number_23 : decode cX6_number 23 = .ok (.getfield 141, 3) := dk_180 0 141 (dk_at dksX6_number_1 0 rfl rfl)
theorem dX6_number_26 : decode cX6_number 26 = .ok (.invokevirtual 144, 3) := dk_182 0 144 (dk_at dksX6_number_1 3 rfl rfl)
theorem dX6_number_29 : decode cX6_number 29 = .ok (.invokestatic 157, 3) := dk_184 0 157 (dk_at dksX6_number_1 6 rfl rfl)
theorem dX6_number_32 : decode cX6_number 32 = .ok (.ifCond .ne 12, 3) := dk_154 0 12 (dk_at dksX6_number_1 9 rfl rfl)
theorem dX6_number_35 : decode cX6_number 35 = .ok (.aload_n 0, 1) := dk_42 (dk_at dksX6_number_1 12 rfl rfl)
theorem dX6_number_36 : decode cX6_number 36 = .ok (.iconst 1, 1) := dk_4 (dk_at dksX6_number_1 13 rfl rfl)
theorem dX6_number_37 : decode cX6_number 37 = .ok (.aload_n 0, 1) := dk_42 (dk_at dksX6_number_1 14 rfl rfl)
theorem dX6_number_38 : decode cX6_number 38 = .ok (.getfield 141, 3) := dk_180 0 141 (dk_at dksX6_number_1 15 rfl rfl)
theorem dX6_number_41 : decode cX6_number 41 = .ok (.invokevirtual 161, 3) := dk_182 0 161 (dk_at dksX6_number_1 18 rfl rfl)
theorem dX6_number_44 : decode cX6_number 44 = .ok (.aload_n 0, 1) := dk_42 (dk_at dksX6_number_1 21 rfl rfl)
theorem dX6_number_45 : decode cX6_number 45 = .ok (.aload_n 0, 1) := dk_42 (dk_at dksX6_number_1 22 rfl rfl)
theorem dX6_number_46 : decode cX6_number 46 = .ok (.getfield 141, 3) := dk_180 0 141 (dk_at dksX6_number_2 0 rfl rfl)
theorem dX6_number_49 : decode cX6_number 49 = .ok (.invokevirtual 144, 3) := dk_182 0 144 (dk_at dksX6_number_2 3 rfl rfl)
theorem dX6_number_52 : decode cX6_number 52 = .ok (.invokestatic 157, 3) := dk_184 0 157 (dk_at dksX6_number_2 6 rfl rfl)
theorem dX6_number_55 : decode cX6_number 55 = .ok (.ifCond .eq 51, 3) := dk_153 0 51 (dk_at dksX6_number_2 9 rfl rfl)
theorem dX6_number_58 : decode cX6_number 58 = .ok (.bipush 10, 2) := dk_16 10 (dk_at dksX6_number_2 12 rfl rfl)
theorem dX6_number_60 : decode cX6_number 60 = .ok (.iload 4, 2) := dk_21 4 (dk_at dksX6_number_2 14 rfl rfl)
theorem dX6_number_62 : decode cX6_number 62 = .ok (.imul, 1) := dk_104 (dk_at dksX6_number_2 16 rfl rfl)
theorem dX6_number_63 : decode cX6_number 63 = .ok (.aload_n 0, 1) := dk_42 (dk_at dksX6_number_2 17 rfl rfl)
theorem dX6_number_64 : decode cX6_number 64 = .ok (.aload_n 0, 1) := dk_42 (dk_at dksX6_number_2 18 rfl rfl)
theorem dX6_number_65 : decode cX6_number 65 = .ok (.getfield 141, 3) := dk_180 0 141 (dk_at dksX6_number_2 19 rfl rfl)
theorem dX6_number_68 : decode cX6_number 68 = .ok (.invokevirtual 144, 3) := dk_182 0 144 (dk_at dksX6_number_3 0 rfl rfl)
theorem dX6_number_71 : decode cX6_number 71 = .ok (.iadd, 1) := dk_96 (dk_at dksX6_number_3 3 rfl rfl)
theorem dX6_number_72 : decode cX6_number 72 = .ok (.bipush 48, 2) := dk_16 48 (dk_at dksX6_number_3 4 rfl rfl)
theorem dX6_number_74 : decode cX6_number 74 = .ok (.isub, 1) := dk_100 (dk_at dksX6_number_3 6 rfl rfl)
theorem dX6_number_75 : decode cX6_number 75 = .ok (.istore 4, 2) := dk_54 4 (dk_at dksX6_number_3 7 rfl rfl)
theorem dX6_number_77 : decode cX6_number 77 = .ok (.iload 4, 2) := dk_21 4 (dk_at dksX6_number_3 9 rfl rfl)
theorem dX6_number_79 : decode cX6_number 79 = .ok (.ldc 165, 2) := dk_18 165 (dk_at dksX6_number_3 11 rfl rfl)
theorem dX6_number_81 : decode cX6_number 81 = .ok (.if_icmp .le 8, 3) := dk_164 0 8 (dk_at dksX6_number_3 13 rfl rfl)
theorem dX6_number_84 : decode cX6_number 84 = .ok (.ldc 165, 2) := dk_18 165 (dk_at dksX6_number_3 16 rfl rfl)
theorem dX6_number_86 : decode cX6_number 86 = .ok (.goto 5, 3) := dk_167 0 5 (dk_at dksX6_number_3 18 rfl rfl)
theorem dX6_number_89 : decode cX6_number 89 = .ok (.iload 4, 2) := dk_21 4 (dk_at dksX6_number_3 21 rfl rfl)
theorem dX6_number_91 : decode cX6_number 91 = .ok (.istore 4, 2) := dk_54 4 (dk_at dksX6_number_4 0 rfl rfl)
theorem dX6_number_93 : decode cX6_number 93 = .ok (.aload_n 0, 1) := dk_42 (dk_at dksX6_number_4 2 rfl rfl)
theorem dX6_number_94 : decode cX6_number 94 = .ok (.dup, 1) := dk_89 (dk_at dksX6_number_4 3 rfl rfl)
theorem dX6_number_95 : decode cX6_number 95 = .ok (.getfield 141, 3) := dk_180 0 141 (dk_at dksX6_number_4 4 rfl rfl)
theorem dX6_number_98 : decode cX6_number 98 = .ok (.iconst 1, 1) := dk_4 (dk_at dksX6_number_4 7 rfl rfl)
theorem dX6_number_99 : decode cX6_number 99 = .ok (.iadd, 1) := dk_96 (dk_at dksX6_number_4 8 rfl rfl)
theorem dX6_number_100 : decode cX6_number 100 = .ok (.putfield 141, 3) := dk_181 0 141 (dk_at dksX6_number_4 9 rfl rfl)
theorem dX6_number_103 : decode cX6_number 103 = .ok (.goto (-59), 3) := dk_167 255 197 (dk_at dksX6_number_4 12 rfl rfl)
theorem dX6_number_106 : decode cX6_number 106 = .ok (.iload 4, 2) := dk_21 4 (dk_at dksX6_number_4 15 rfl rfl)
theorem dX6_number_108 : decode cX6_number 108 = .ok (.iload_n 1, 1) := dk_27 (dk_at dksX6_number_4 17 rfl rfl)
theorem dX6_number_109 : decode cX6_number 109 = .ok (.iload_n 2, 1) := dk_28 (dk_at dksX6_number_4 18 rfl rfl)
theorem dX6_number_110 : decode cX6_number 110 = .ok (.invokestatic 166, 3) := dk_184 0 166 (dk_at dksX6_number_4 19 rfl rfl)
theorem dX6_number_113 : decode cX6_number 113 = .ok (.ifCond .ne 9, 3) := dk_154 0 9 (dk_at dksX6_number_5 0 rfl rfl)
theorem dX6_number_116 : decode cX6_number 116 = .ok (.aload_n 0, 1) := dk_42 (dk_at dksX6_number_5 3 rfl rfl)
theorem dX6_number_117 : decode cX6_number 117 = .ok (.iconst 2, 1) := dk_5 (dk_at dksX6_number_5 4 rfl rfl)
theorem dX6_number_118 : decode cX6_number 118 = .ok (.iload_n 3, 1) := dk_29 (dk_at dksX6_number_5 5 rfl rfl)
theorem dX6_number_119 : decode cX6_number 119 = .ok (.invokevirtual 161, 3) := dk_182 0 161 (dk_at dksX6_number_5 6 rfl rfl)
theorem dX6_number_122 : decode cX6_number 122 = .ok (.aload_n 0, 1) := dk_42 (dk_at dksX6_number_5 9 rfl rfl)
theorem dX6_number_123 : decode cX6_number 123 = .ok (.getfield 148, 3) := dk_180 0 148 (dk_at dksX6_number_5 10 rfl rfl)
theorem dX6_number_126 : decode cX6_number 126 = .ok (.ifCond .ne 8, 3) := dk_154 0 8 (dk_at dksX6_number_5 13 rfl rfl)
theorem dX6_number_129 : decode cX6_number 129 = .ok (.iload 4, 2) := dk_21 4 (dk_at dksX6_number_5 16 rfl rfl)
theorem dX6_number_131 : decode cX6_number 131 = .ok (.goto 4, 3) := dk_167 0 4 (dk_at dksX6_number_5 18 rfl rfl)
theorem dX6_number_134 : decode cX6_number 134 = .ok (.iconst 0, 1) := dk_3 (dk_at dksX6_number_5 21 rfl rfl)
theorem dX6_number_135 : decode cX6_number 135 = .ok (.ireturn, 1) := dk_172 (dk_at dksX6_number_5 22 rfl rfl)
abbrev cX6_isDigit : ByteArray := prog_19_method_10_code
def yX6_isDigit : MethodName := ⟨RX6, "isDigit", "(I)Z"⟩
def dkwX6_isDigit_0 : List UInt8 := [26, 16, 48, 161, 0, 13, 26, 16, 57, 163, 0, 7, 4, 167, 0, 4, 3, 172]
abbrev dktX6_isDigit_0 : List UInt8 := dkwX6_isDigit_0 ++ []
theorem dksX6_isDigit_0 : cX6_isDigit.data.toList.drop 0 = dktX6_isDigit_0 := by decide +kernel
theorem dX6_isDigit_0 : decode cX6_isDigit 0 = .ok (.iload_n 0, 1) := dk_26 (dk_at dksX6_isDigit_0 0 rfl rfl)
theorem dX6_isDigit_1 : decode cX6_isDigit 1 = .ok (.bipush 48, 2) := dk_16 48 (dk_at dksX6_isDigit_0 1 rfl rfl)
theorem dX6_isDigit_3 : decode cX6_isDigit 3 = .ok (.if_icmp .lt 13, 3) := dk_161 0 13 (dk_at dksX6_isDigit_0 3 rfl rfl)
theorem dX6_isDigit_6 : decode cX6_isDigit 6 = .ok (.iload_n 0, 1) := dk_26 (dk_at dksX6_isDigit_0 6 rfl rfl)
theorem dX6_isDigit_7 : decode cX6_isDigit 7 = .ok (.bipush 57, 2) := dk_16 57 (dk_at dksX6_isDigit_0 7 rfl rfl)
theorem dX6_isDigit_9 : decode cX6_isDigit 9 = .ok (.if_icmp .gt 7, 3) := dk_163 0 7 (dk_at dksX6_isDigit_0 9 rfl rfl)
theorem dX6_isDigit_12 : decode cX6_isDigit 12 = .ok (.iconst 1, 1) := dk_4 (dk_at dksX6_isDigit_0 12 rfl rfl)
theorem dX6_isDigit_13 : decode cX6_isDigit 13 = .ok (.goto 4, 3) := dk_167 0 4 (dk_at dksX6_isDigit_0 13 rfl rfl)
theorem dX6_isDigit_16 : decode cX6_isDigit 16 = .ok (.iconst 0, 1) := dk_3 (dk_at dksX6_isDigit_0 16 rfl rfl)
theorem dX6_isDigit_17 : decode cX6_isDigit 17 = .ok (.ireturn, 1) := dk_172 (dk_at dksX6_isDigit_0 17 rfl rfl)
abbrev cX6_anyOf : ByteArray := prog_19_method_24_code
def yX6_anyOf : MethodName := ⟨RX6, "anyOf", "()J"⟩
def dkwX6_anyOf_1 : List UInt8 := [182, 0, 194, 129, 64, 167, 255, 234, 31, 173]
abbrev dktX6_anyOf_1 : List UInt8 := dkwX6_anyOf_1 ++ []
def dkwX6_anyOf_0 : List UInt8 := [42, 182, 0, 194, 64, 42, 16, 15, 16, 18, 3, 3, 3, 3, 182, 0, 198, 153, 0, 13, 31, 42]
abbrev dktX6_anyOf_0 : List UInt8 := dkwX6_anyOf_0 ++ dktX6_anyOf_1
theorem dksX6_anyOf_0 : cX6_anyOf.data.toList.drop 0 = dktX6_anyOf_0 := by decide +kernel
theorem dksX6_anyOf_1 : cX6_anyOf.data.toList.drop 22 = dktX6_anyOf_1 := dk_seg dksX6_anyOf_0 22 rfl rfl
theorem dX6_anyOf_0 : decode cX6_anyOf 0 = .ok (.aload_n 0, 1) := dk_42 (dk_at dksX6_anyOf_0 0 rfl rfl)
theorem dX6_anyOf_1 : decode cX6_anyOf 1 = .ok (.invokevirtual 194, 3) := dk_182 0 194 (dk_at dksX6_anyOf_0 1 rfl rfl)
theorem dX6_anyOf_4 : decode cX6_anyOf 4 = .ok (.lstore_n 1, 1) := dk_64 (dk_at dksX6_anyOf_0 4 rfl rfl)
theorem dX6_anyOf_5 : decode cX6_anyOf 5 = .ok (.aload_n 0, 1) := dk_42 (dk_at dksX6_anyOf_0 5 rfl rfl)
theorem dX6_anyOf_6 : decode cX6_anyOf 6 = .ok (.bipush 15, 2) := dk_16 15 (dk_at dksX6_anyOf_0 6 rfl rfl)
theorem dX6_anyOf_8 : decode cX6_anyOf 8 = .ok (.bipush 18, 2) := dk_16 18 (dk_at dksX6_anyOf_0 8 rfl rfl)
theorem dX6_anyOf_10 : decode cX6_anyOf 10 = .ok (.iconst 0, 1) := dk_3 (dk_at dksX6_anyOf_0 10 rfl rfl)
theorem dX6_anyOf_11 : decode cX6_anyOf 11 = .ok (.iconst 0, 1) := dk_3 (dk_at dksX6_anyOf_0 11 rfl rfl)
theorem dX6_anyOf_12 : decode cX6_anyOf 12 = .ok (.iconst 0, 1) := dk_3 (dk_at dksX6_anyOf_0 12 rfl rfl)
theorem dX6_anyOf_13 : decode cX6_anyOf 13 = .ok (.iconst 0, 1) := dk_3 (dk_at dksX6_anyOf_0 13 rfl rfl)
theorem dX6_anyOf_14 : decode cX6_anyOf 14 = .ok (.invokevirtual 198, 3) := dk_182 0 198 (dk_at dksX6_anyOf_0 14 rfl rfl)
theorem dX6_anyOf_17 : decode cX6_anyOf 17 = .ok (.ifCond .eq 13, 3) := dk_153 0 13 (dk_at dksX6_anyOf_0 17 rfl rfl)
theorem dX6_anyOf_20 : decode cX6_anyOf 20 = .ok (.lload_n 1, 1) := dk_31 (dk_at dksX6_anyOf_0 20 rfl rfl)
theorem dX6_anyOf_21 : decode cX6_anyOf 21 = .ok (.aload_n 0, 1) := dk_42 (dk_at dksX6_anyOf_0 21 rfl rfl)
theorem dX6_anyOf_22 : decode cX6_anyOf 22 = .ok (.invokevirtual 194, 3) := dk_182 0 194 (dk_at dksX6_anyOf_1 0 rfl rfl)
theorem dX6_anyOf_25 : decode cX6_anyOf 25 = .ok (.lor, 1) := dk_129 (dk_at dksX6_anyOf_1 3 rfl rfl)
theorem dX6_anyOf_26 : decode cX6_anyOf 26 = .ok (.lstore_n 1, 1) := dk_64 (dk_at dksX6_anyOf_1 4 rfl rfl)
theorem dX6_anyOf_27 : decode cX6_anyOf 27 = .ok (.goto (-22), 3) := dk_167 255 234 (dk_at dksX6_anyOf_1 5 rfl rfl)
theorem dX6_anyOf_30 : decode cX6_anyOf 30 = .ok (.lload_n 1, 1) := dk_31 (dk_at dksX6_anyOf_1 8 rfl rfl)
theorem dX6_anyOf_31 : decode cX6_anyOf 31 = .ok (.lreturn, 1) := dk_173 (dk_at dksX6_anyOf_1 9 rfl rfl)
abbrev cX6_eachOf : ByteArray := prog_19_method_25_code
def yX6_eachOf : MethodName := ⟨RX6, "eachOf", "()J"⟩
def dkwX6_eachOf_1 : List UInt8 := [127, 64, 167, 255, 235, 31, 173]
abbrev dktX6_eachOf_1 : List UInt8 := dkwX6_eachOf_1 ++ []
def dkwX6_eachOf_0 : List UInt8 := [42, 182, 0, 201, 64, 42, 4, 16, 14, 7, 3, 3, 3, 182, 0, 198, 153, 0, 13, 31, 42, 182, 0, 201]
abbrev dktX6_eachOf_0 : List UInt8 := dkwX6_eachOf_0 ++ dktX6_eachOf_1
theorem dksX6_eachOf_0 : cX6_eachOf.data.toList.drop 0 = dktX6_eachOf_0 := by decide +kernel
theorem dksX6_eachOf_1 : cX6_eachOf.data.toList.drop 24 = dktX6_eachOf_1 := dk_seg dksX6_eachOf_0 24 rfl rfl
theorem dX6_eachOf_0 : decode cX6_eachOf 0 = .ok (.aload_n 0, 1) := dk_42 (dk_at dksX6_eachOf_0 0 rfl rfl)
theorem dX6_eachOf_1 : decode cX6_eachOf 1 = .ok (.invokevirtual 201, 3) := dk_182 0 201 (dk_at dksX6_eachOf_0 1 rfl rfl)
theorem dX6_eachOf_4 : decode cX6_eachOf 4 = .ok (.lstore_n 1, 1) := dk_64 (dk_at dksX6_eachOf_0 4 rfl rfl)
theorem dX6_eachOf_5 : decode cX6_eachOf 5 = .ok (.aload_n 0, 1) := dk_42 (dk_at dksX6_eachOf_0 5 rfl rfl)
theorem dX6_eachOf_6 : decode cX6_eachOf 6 = .ok (.iconst 1, 1) := dk_4 (dk_at dksX6_eachOf_0 6 rfl rfl)
theorem dX6_eachOf_7 : decode cX6_eachOf 7 = .ok (.bipush 14, 2) := dk_16 14 (dk_at dksX6_eachOf_0 7 rfl rfl)
theorem dX6_eachOf_9 : decode cX6_eachOf 9 = .ok (.iconst 4, 1) := dk_7 (dk_at dksX6_eachOf_0 9 rfl rfl)
theorem dX6_eachOf_10 : decode cX6_eachOf 10 = .ok (.iconst 0, 1) := dk_3 (dk_at dksX6_eachOf_0 10 rfl rfl)
theorem dX6_eachOf_11 : decode cX6_eachOf 11 = .ok (.iconst 0, 1) := dk_3 (dk_at dksX6_eachOf_0 11 rfl rfl)
theorem dX6_eachOf_12 : decode cX6_eachOf 12 = .ok (.iconst 0, 1) := dk_3 (dk_at dksX6_eachOf_0 12 rfl rfl)
theorem dX6_eachOf_13 : decode cX6_eachOf 13 = .ok (.invokevirtual 198, 3) := dk_182 0 198 (dk_at dksX6_eachOf_0 13 rfl rfl)
theorem dX6_eachOf_16 : decode cX6_eachOf 16 = .ok (.ifCond .eq 13, 3) := dk_153 0 13 (dk_at dksX6_eachOf_0 16 rfl rfl)
theorem dX6_eachOf_19 : decode cX6_eachOf 19 = .ok (.lload_n 1, 1) := dk_31 (dk_at dksX6_eachOf_0 19 rfl rfl)
theorem dX6_eachOf_20 : decode cX6_eachOf 20 = .ok (.aload_n 0, 1) := dk_42 (dk_at dksX6_eachOf_0 20 rfl rfl)
theorem dX6_eachOf_21 : decode cX6_eachOf 21 = .ok (.invokevirtual 201, 3) := dk_182 0 201 (dk_at dksX6_eachOf_0 21 rfl rfl)
theorem dX6_eachOf_24 : decode cX6_eachOf 24 = .ok (.land, 1) := dk_127 (dk_at dksX6_eachOf_1 0 rfl rfl)
theorem dX6_eachOf_25 : decode cX6_eachOf 25 = .ok (.lstore_n 1, 1) := dk_64 (dk_at dksX6_eachOf_1 1 rfl rfl)
theorem dX6_eachOf_26 : decode cX6_eachOf 26 = .ok (.goto (-21), 3) := dk_167 255 235 (dk_at dksX6_eachOf_1 2 rfl rfl)
theorem dX6_eachOf_29 : decode cX6_eachOf 29 = .ok (.lload_n 1, 1) := dk_31 (dk_at dksX6_eachOf_1 5 rfl rfl)
theorem dX6_eachOf_30 : decode cX6_eachOf 30 = .ok (.lreturn, 1) := dk_173 (dk_at dksX6_eachOf_1 6 rfl rfl)
abbrev cX6_oneOf : ByteArray := prog_19_method_26_code
def yX6_oneOf : MethodName := ⟨RX6, "oneOf", "()J"⟩
def dkwX6_oneOf_13 : List UInt8 := [181, 0, 141, 33, 173]
abbrev dktX6_oneOf_13 : List UInt8 := dkwX6_oneOf_13 ++ []
def dkwX6_oneOf_12 : List UInt8 := [3, 46, 184, 0, 219, 66, 42, 89, 180, 0, 141, 42, 180, 0, 148, 154, 0, 7, 4, 167, 0, 4, 3, 96]
abbrev dktX6_oneOf_12 : List UInt8 := dkwX6_oneOf_12 ++ dktX6_oneOf_13
def dkwX6_oneOf_11 : List UInt8 := [184, 0, 170, 153, 0, 15, 42, 4, 42, 180, 0, 141, 182, 0, 161, 167, 0, 15, 21, 5, 42, 180, 0, 20]
abbrev dktX6_oneOf_11 : List UInt8 := dkwX6_oneOf_11 ++ dktX6_oneOf_12
def dkwX6_oneOf_10 : List UInt8 := [42, 180, 0, 20, 3, 46, 4, 100, 184, 0, 166, 153, 0, 19, 42, 42, 180, 0, 141, 4, 96, 182, 0, 144]
abbrev dktX6_oneOf_10 : List UInt8 := dkwX6_oneOf_10 ++ dktX6_oneOf_11
def dkwX6_oneOf_9 : List UInt8 := [4, 100, 181, 0, 188, 167, 0, 94, 42, 42, 180, 0, 141, 182, 0, 144, 16, 97, 100, 54, 5, 21, 5, 3]
abbrev dktX6_oneOf_9 : List UInt8 := dkwX6_oneOf_9 ++ dktX6_oneOf_10
def dkwX6_oneOf_8 : List UInt8 := [154, 0, 12, 42, 4, 42, 180, 0, 141, 182, 0, 161, 33, 42, 182, 0, 201, 129, 66, 42, 89, 180, 0, 188]
abbrev dktX6_oneOf_8 : List UInt8 := dkwX6_oneOf_8 ++ dktX6_oneOf_9
def dkwX6_oneOf_7 : List UInt8 := [182, 0, 201, 20, 0, 48, 131, 127, 66, 42, 16, 20, 16, 8, 8, 16, 14, 3, 3, 182, 0, 198]
abbrev dktX6_oneOf_7 : List UInt8 := dkwX6_oneOf_7 ++ dktX6_oneOf_8
def dkwX6_oneOf_6 : List UInt8 := [3, 182, 0, 181, 153, 0, 72, 42, 182, 0, 208, 154, 0, 5, 9, 173, 42, 182, 0, 185, 31, 42]
abbrev dktX6_oneOf_6 : List UInt8 := dkwX6_oneOf_6 ++ dktX6_oneOf_7
def dkwX6_oneOf_5 : List UInt8 := [182, 0, 215, 42, 89, 180, 0, 188, 4, 100, 181, 0, 188, 167, 0, 178, 42, 16, 9, 16, 6, 3, 3, 3]
abbrev dktX6_oneOf_5 : List UInt8 := dkwX6_oneOf_5 ++ dktX6_oneOf_6
def dkwX6_oneOf_4 : List UInt8 := [154, 0, 5, 9, 173, 42, 89, 180, 0, 141, 4, 96, 181, 0, 141, 42, 182, 0, 212, 66, 42, 16, 93]
abbrev dktX6_oneOf_4 : List UInt8 := dkwX6_oneOf_4 ++ dktX6_oneOf_5
def dkwX6_oneOf_3 : List UInt8 := [181, 0, 188, 167, 0, 234, 42, 42, 180, 0, 141, 182, 0, 144, 16, 91, 160, 0, 46, 42, 182, 0, 208]
abbrev dktX6_oneOf_3 : List UInt8 := dkwX6_oneOf_3 ++ dktX6_oneOf_4
def dkwX6_oneOf_2 : List UInt8 := [9, 173, 42, 182, 0, 185, 31, 42, 182, 0, 201, 20, 0, 48, 131, 127, 66, 42, 89, 180, 0, 188, 4, 100]
abbrev dktX6_oneOf_2 : List UInt8 := dkwX6_oneOf_2 ++ dktX6_oneOf_3
def dkwX6_oneOf_1 : List UInt8 := [66, 42, 16, 14, 16, 15, 16, 20, 3, 3, 3, 182, 0, 181, 153, 0, 40, 42, 182, 0, 208, 154, 0, 5]
abbrev dktX6_oneOf_1 : List UInt8 := dkwX6_oneOf_1 ++ dktX6_oneOf_2
def dkwX6_oneOf_0 : List UInt8 := [42, 180, 0, 148, 153, 0, 5, 9, 173, 42, 182, 0, 154, 42, 180, 0, 20, 3, 46, 184, 0, 204, 64, 9]
abbrev dktX6_oneOf_0 : List UInt8 := dkwX6_oneOf_0 ++ dktX6_oneOf_1
theorem dksX6_oneOf_0 : cX6_oneOf.data.toList.drop 0 = dktX6_oneOf_0 := by decide +kernel
theorem dksX6_oneOf_1 : cX6_oneOf.data.toList.drop 24 = dktX6_oneOf_1 := dk_seg dksX6_oneOf_0 24 rfl rfl
theorem dksX6_oneOf_2 : cX6_oneOf.data.toList.drop 48 = dktX6_oneOf_2 := dk_seg dksX6_oneOf_1 24 rfl rfl
theorem dksX6_oneOf_3 : cX6_oneOf.data.toList.drop 72 = dktX6_oneOf_3 := dk_seg dksX6_oneOf_2 24 rfl rfl
theorem dksX6_oneOf_4 : cX6_oneOf.data.toList.drop 95 = dktX6_oneOf_4 := dk_seg dksX6_oneOf_3 23 rfl rfl
theorem dksX6_oneOf_5 : cX6_oneOf.data.toList.drop 118 = dktX6_oneOf_5 := dk_seg dksX6_oneOf_4 23 rfl rfl
theorem dksX6_oneOf_6 : cX6_oneOf.data.toList.drop 142 = dktX6_oneOf_6 := dk_seg dksX6_oneOf_5 24 rfl rfl
theorem dksX6_oneOf_7 : cX6_oneOf.data.toList.drop 164 = dktX6_oneOf_7 := dk_seg dksX6_oneOf_6 22 rfl rfl
theorem dksX6_oneOf_8 : cX6_oneOf.data.toList.drop 186 = dktX6_oneOf_8 := dk_seg dksX6_oneOf_7 22 rfl rfl
theorem dksX6_oneOf_9 : cX6_oneOf.data.toList.drop 210 = dktX6_oneOf_9 := dk_seg dksX6_oneOf_8 24 rfl rfl
theorem dksX6_oneOf_10 : cX6_oneOf.data.toList.drop 234 = dktX6_oneOf_10 := dk_seg dksX6_oneOf_9 24 rfl rfl
theorem dksX6_oneOf_11 : cX6_oneOf.data.toList.drop 258 = dktX6_oneOf_11 := dk_seg dksX6_oneOf_10 24 rfl rfl
theorem dksX6_oneOf_12 : cX6_oneOf.data.toList.drop 282 = dktX6_oneOf_12 := dk_seg dksX6_oneOf_11 24 rfl rfl
theorem dksX6_oneOf_13 : cX6_oneOf.data.toList.drop 306 = dktX6_oneOf_13 := dk_seg dksX6_oneOf_12 24 rfl rfl
theorem dX6_oneOf_0 : decode cX6_oneOf 0 = .ok (.aload_n 0, 1) := dk_42 (dk_at dksX6_oneOf_0 0 rfl rfl)
theorem dX6_oneOf_1 : decode cX6_oneOf 1 = .ok (.getfield 148, 3) := dk_180 0 148 (dk_at dksX6_oneOf_0 1 rfl rfl)
theorem dX6_oneOf_4 : decode cX6_oneOf 4 = .ok (.ifCond .eq 5, 3) := dk_153 0 5 (dk_at dksX6_oneOf_0 4 rfl rfl)
theorem dX6_oneOf_7 : decode cX6_oneOf 7 = .ok (.lconst 0, 1) := dk_9 (dk_at dksX6_oneOf_0 7 rfl rfl)
theorem dX6_oneOf_8 : decode cX6_oneOf 8 = .ok (.lreturn, 1) := dk_173 (dk_at dksX6_oneOf_0 8 rfl rfl)
theorem dX6_oneOf_9 : decode cX6_oneOf 9 = .ok (.aload_n 0, 1) := dk_42 (dk_at dksX6_oneOf_0 9 rfl rfl)
theorem dX6_oneOf_10 : decode cX6_oneOf 10 = .ok (.invokevirtual 154, 3) := dk_182 0 154 (dk_at dksX6_oneOf_0 10 rfl rfl)
theorem dX6_oneOf_13 : decode cX6_oneOf 13 = .ok (.aload_n 0, 1) := dk_42 (dk_at dksX6_oneOf_0 13 rfl rfl)
theorem dX6_oneOf_14 : decode cX6_oneOf 14 = .ok (.getfield 20, 3) := dk_180 0 20 (dk_at dksX6_oneOf_0 14 rfl rfl)
theorem dX6_oneOf_17 : decode cX6_oneOf 17 = .ok (.iconst 0, 1) := dk_3 (dk_at dksX6_oneOf_0 17 rfl rfl)
theorem dX6_oneOf_18 : decode cX6_oneOf 18 = .ok (.iaload, 1) := dk_46 (dk_at dksX6_oneOf_0 18 rfl rfl)
theorem dX6_oneOf_19 : decode cX6_oneOf 19 = .ok (.invokestatic 204, 3) := dk_184 0 204 (dk_at dksX6_oneOf_0 19 rfl rfl)
theorem dX6_oneOf_22 : decode cX6_oneOf 22 = .ok (.lstore_n 1, 1) := dk_64 (dk_at dksX6_oneOf_0 22 rfl rfl)
theorem dX6_oneOf_23 : decode cX6_oneOf 23 = .ok (.lconst 0, 1) := dk_9 (dk_at dksX6_oneOf_0 23 rfl rfl)
theorem dX6_oneOf_24 : decode cX6_oneOf 24 = .ok (.lstore_n 3, 1) := dk_66 (dk_at dksX6_oneOf_1 0 rfl rfl)
theorem dX6_oneOf_25 : decode cX6_oneOf 25 = .ok (.aload_n 0, 1) := dk_42 (dk_at dksX6_oneOf_1 1 rfl rfl)
theorem dX6_oneOf_26 : decode cX6_oneOf 26 = .ok (.bipush 14, 2) := dk_16 14 (dk_at dksX6_oneOf_1 2 rfl rfl)
theorem dX6_oneOf_28 : decode cX6_oneOf 28 = .ok (.bipush 15, 2) := dk_16 15 (dk_at dksX6_oneOf_1 4 rfl rfl)
theorem dX6_oneOf_30 : decode cX6_oneOf 30 = .ok (.bipush 20, 2) := dk_16 20 (dk_at dksX6_oneOf_1 6 rfl rfl)
theorem dX6_oneOf_32 : decode cX6_oneOf 32 = .ok (.iconst 0, 1) := dk_3 (dk_at dksX6_oneOf_1 8 rfl rfl)
theorem dX6_oneOf_33 : decode cX6_oneOf 33 = .ok (.iconst 0, 1) := dk_3 (dk_at dksX6_oneOf_1 9 rfl rfl)
theorem dX6_oneOf_34 : decode cX6_oneOf 34 = .ok (.iconst 0, 1) := dk_3 (dk_at dksX6_oneOf_1 10 rfl rfl)
theorem dX6_oneOf_35 : decode cX6_oneOf 35 = .ok (.invokevirtual 181, 3) := dk_182 0 181 (dk_at dksX6_oneOf_1 11 rfl rfl)
theorem dX6_oneOf_38 : decode cX6_oneOf 38 = .ok (.ifCond .eq 40, 3) := dk_153 0 40 (dk_at dksX6_oneOf_1 14 rfl rfl)
theorem dX6_oneOf_41 : decode cX6_oneOf 41 = .ok (.aload_n 0, 1) := dk_42 (dk_at dksX6_oneOf_1 17 rfl rfl)
theorem dX6_oneOf_42 : decode cX6_oneOf 42 = .ok (.invokevirtual 208, 3) := dk_182 0 208 (dk_at dksX6_oneOf_1 18 rfl rfl)
theorem dX6_oneOf_45 : decode cX6_oneOf 45 = .ok (.ifCond .ne 5, 3) := dk_154 0 5 (dk_at dksX6_oneOf_1 21 rfl rfl)
theorem dX6_oneOf_48 : decode cX6_oneOf 48 = .ok (.lconst 0, 1) := dk_9 (dk_at dksX6_oneOf_2 0 rfl rfl)
theorem dX6_oneOf_49 : decode cX6_oneOf 49 = .ok (.lreturn, 1) := dk_173 (dk_at dksX6_oneOf_2 1 rfl rfl)
theorem dX6_oneOf_50 : decode cX6_oneOf 50 = .ok (.aload_n 0, 1) := dk_42 (dk_at dksX6_oneOf_2 2 rfl rfl)
theorem dX6_oneOf_51 : decode cX6_oneOf 51 = .ok (.invokevirtual 185, 3) := dk_182 0 185 (dk_at dksX6_oneOf_2 3 rfl rfl)
theorem dX6_oneOf_54 : decode cX6_oneOf 54 = .ok (.lload_n 1, 1) := dk_31 (dk_at dksX6_oneOf_2 6 rfl rfl)
theorem dX6_oneOf_55 : decode cX6_oneOf 55 = .ok (.aload_n 0, 1) := dk_42 (dk_at dksX6_oneOf_2 7 rfl rfl)
theorem dX6_oneOf_56 : decode cX6_oneOf 56 = .ok (.invokevirtual 201, 3) := dk_182 0 201 (dk_at dksX6_oneOf_2 8 rfl rfl)
theorem dX6_oneOf_59 : decode cX6_oneOf 59 = .ok (.ldc2_w 48, 3) := dk_20 0 48 (dk_at dksX6_oneOf_2 11 rfl rfl)
theorem dX6_oneOf_62 : decode cX6_oneOf 62 = .ok (.lxor, 1) := dk_131 (dk_at dksX6_oneOf_2 14 rfl rfl)
theorem dX6_oneOf_63 : decode cX6_oneOf 63 = .ok (.land, 1) := dk_127 (dk_at dksX6_oneOf_2 15 rfl rfl)
theorem dX6_oneOf_64 : decode cX6_oneOf 64 = .ok (.lstore_n 3, 1) := dk_66 (dk_at dksX6_oneOf_2 16 rfl rfl)
theorem dX6_oneOf_65 : decode cX6_oneOf 65 = .ok (.aload_n 0, 1) := dk_42 (dk_at dksX6_oneOf_2 17 rfl rfl)
theorem dX6_oneOf_66 : decode cX6_oneOf 66 = .ok (.dup, 1) := dk_89 (dk_at dksX6_oneOf_2 18 rfl rfl)
theorem dX6_oneOf_67 : decode cX6_oneOf 67 = .ok (.getfield 188, 3) := dk_180 0 188 (dk_at dksX6_oneOf_2 19 rfl rfl)
theorem dX6_oneOf_70 : decode cX6_oneOf 70 = .ok (.iconst 1, 1) := dk_4 (dk_at dksX6_oneOf_2 22 rfl rfl)
theorem dX6_oneOf_71 : decode cX6_oneOf 71 = .ok (.isub, 1) := dk_100 (dk_at dksX6_oneOf_2 23 rfl rfl)
theorem dX6_oneOf_72 : decode cX6_oneOf 72 = .ok (.putfield 188, 3) := dk_181 0 188 (dk_at dksX6_oneOf_3 0 rfl rfl)
theorem dX6_oneOf_75 : decode cX6_oneOf 75 = .ok (.goto 234, 3) := dk_167 0 234 (dk_at dksX6_oneOf_3 3 rfl rfl)
theorem dX6_oneOf_78 : decode cX6_oneOf 78 = .ok (.aload_n 0, 1) := dk_42 (dk_at dksX6_oneOf_3 6 rfl rfl)
theorem dX6_oneOf_79 : decode cX6_oneOf 79 = .ok (.aload_n 0, 1) := dk_42 (dk_at dksX6_oneOf_3 7 rfl rfl)
theorem dX6_oneOf_80 : decode cX6_oneOf 80 = .ok (.getfield 141, 3) := dk_180 0 141 (dk_at dksX6_oneOf_3 8 rfl rfl)
theorem dX6_oneOf_83 : decode cX6_oneOf 83 = .ok (.invokevirtual 144, 3) := dk_182 0 144 (dk_at dksX6_oneOf_3 11 rfl rfl)
theorem dX6_oneOf_86 : decode cX6_oneOf 86 = .ok (.bipush 91, 2) := dk_16 91 (dk_at dksX6_oneOf_3 14 rfl rfl)
theorem dX6_oneOf_88 : decode cX6_oneOf 88 = .ok (.if_icmp .ne 46, 3) := dk_160 0 46 (dk_at dksX6_oneOf_3 16 rfl rfl)
theorem dX6_oneOf_91 : decode cX6_oneOf 91 = .ok (.aload_n 0, 1) := dk_42 (dk_at dksX6_oneOf_3 19 rfl rfl)
theorem dX6_oneOf_92 : decode cX6_oneOf 92 = .ok (.invokevirtual 208, 3) := dk_182 0 208 (dk_at dksX6_oneOf_3 20 rfl rfl)
theorem dX6_oneOf_95 : decode cX6_oneOf 95 = .ok (.ifCond .ne 5, 3) := dk_154 0 5 (dk_at dksX6_oneOf_4 0 rfl rfl)
theorem dX6_oneOf_98 : decode cX6_oneOf 98 = .ok (.lconst 0, 1) := dk_9 (dk_at dksX6_oneOf_4 3 rfl rfl)
theorem dX6_oneOf_99 : decode cX6_oneOf 99 = .ok (.lreturn, 1) := dk_173 (dk_at dksX6_oneOf_4 4 rfl rfl)
theorem dX6_oneOf_100 : decode cX6_oneOf 100 = .ok (.aload_n 0, 1) := dk_42 (dk_at dksX6_oneOf_4 5 rfl rfl)
theorem dX6_oneOf_101 : decode cX6_oneOf 101 = .ok (.dup, 1) := dk_89 (dk_at dksX6_oneOf_4 6 rfl rfl)
theorem dX6_oneOf_102 : decode cX6_oneOf 102 = .ok (.getfield 141, 3) := dk_180 0 141 (dk_at dksX6_oneOf_4 7 rfl rfl)
theorem dX6_oneOf_105 : decode cX6_oneOf 105 = .ok (.iconst 1, 1) := dk_4 (dk_at dksX6_oneOf_4 10 rfl rfl)
theorem dX6_oneOf_106 : decode cX6_oneOf 106 = .ok (.iadd, 1) := dk_96 (dk_at dksX6_oneOf_4 11 rfl rfl)
theorem dX6_oneOf_107 : decode cX6_oneOf 107 = .ok (.putfield 141, 3) := dk_181 0 141 (dk_at dksX6_oneOf_4 12 rfl rfl)
theorem dX6_oneOf_110 : decode cX6_oneOf 110 = .ok (.aload_n 0, 1) := dk_42 (dk_at dksX6_oneOf_4 15 rfl rfl)
theorem dX6_oneOf_111 : decode cX6_oneOf 111 = .ok (.invokevirtual 212, 3) := dk_182 0 212 (dk_at dksX6_oneOf_4 16 rfl rfl)
theorem dX6_oneOf_114 : decode cX6_oneOf 114 = .ok (.lstore_n 3, 1) := dk_66 (dk_at dksX6_oneOf_4 19 rfl rfl)
theorem dX6_oneOf_115 : decode cX6_oneOf 115 = .ok (.aload_n 0, 1) := dk_42 (dk_at dksX6_oneOf_4 20 rfl rfl)
theorem dX6_oneOf_116 : decode cX6_oneOf 116 = .ok (.bipush 93, 2) := dk_16 93 (dk_at dksX6_oneOf_4 21 rfl rfl)
theorem dX6_oneOf_118 : decode cX6_oneOf 118 = .ok (.invokevirtual 215, 3) := dk_182 0 215 (dk_at dksX6_oneOf_5 0 rfl rfl)
theorem dX6_oneOf_121 : decode cX6_oneOf 121 = .ok (.aload_n 0, 1) := dk_42 (dk_at dksX6_oneOf_5 3 rfl rfl)
theorem dX6_oneOf_122 : decode cX6_oneOf 122 = .ok (.dup, 1) := dk_89 (dk_at dksX6_oneOf_5 4 rfl rfl)
theorem dX6_oneOf_123 : decode cX6_oneOf 123 = .ok (.getfield 188, 3) := dk_180 0 188 (dk_at dksX6_oneOf_5 5 rfl rfl)
theorem dX6_oneOf_126 : decode cX6_oneOf 126 = .ok (.iconst 1, 1) := dk_4 (dk_at dksX6_oneOf_5 8 rfl rfl)
theorem dX6_oneOf_127 : decode cX6_oneOf 127 = .ok (.isub, 1) := dk_100 (dk_at dksX6_oneOf_5 9 rfl rfl)
theorem dX6_oneOf_128 : decode cX6_oneOf 128 = .ok (.putfield 188, 3) := dk_181 0 188 (dk_at dksX6_oneOf_5 10 rfl rfl)
theorem dX6_oneOf_131 : decode cX6_oneOf 131 = .ok (.goto 178, 3) := dk_167 0 178 (dk_at dksX6_oneOf_5 13 rfl rfl)
theorem dX6_oneOf_134 : decode cX6_oneOf 134 = .ok (.aload_n 0, 1) := dk_42 (dk_at dksX6_oneOf_5 16 rfl rfl)
theorem dX6_oneOf_135 : decode cX6_oneOf 135 = .ok (.bipush 9, 2) := dk_16 9 (dk_at dksX6_oneOf_5 17 rfl rfl)
theorem dX6_oneOf_137 : decode cX6_oneOf 137 = .ok (.bipush 6, 2) := dk_16 6 (dk_at dksX6_oneOf_5 19 rfl rfl)
theorem dX6_oneOf_139 : decode cX6_oneOf 139 = .ok (.iconst 0, 1) := dk_3 (dk_at dksX6_oneOf_5 21 rfl rfl)
theorem dX6_oneOf_140 : decode cX6_oneOf 140 = .ok (.iconst 0, 1) := dk_3 (dk_at dksX6_oneOf_5 22 rfl rfl)
theorem dX6_oneOf_141 : decode cX6_oneOf 141 = .ok (.iconst 0, 1) := dk_3 (dk_at dksX6_oneOf_5 23 rfl rfl)
theorem dX6_oneOf_142 : decode cX6_oneOf 142 = .ok (.iconst 0, 1) := dk_3 (dk_at dksX6_oneOf_6 0 rfl rfl)
theorem dX6_oneOf_143 : decode cX6_oneOf 143 = .ok (.invokevirtual 181, 3) := dk_182 0 181 (dk_at dksX6_oneOf_6 1 rfl rfl)
theorem dX6_oneOf_146 : decode cX6_oneOf 146 = .ok (.ifCond .eq 72, 3) := dk_153 0 72 (dk_at dksX6_oneOf_6 4 rfl rfl)
theorem dX6_oneOf_149 : decode cX6_oneOf 149 = .ok (.aload_n 0, 1) := dk_42 (dk_at dksX6_oneOf_6 7 rfl rfl)
theorem dX6_oneOf_150 : decode cX6_oneOf 150 = .ok (.invokevirtual 208, 3) := dk_182 0 208 (dk_at dksX6_oneOf_6 8 rfl rfl)
theorem dX6_oneOf_153 : decode cX6_oneOf 153 = .ok (.ifCond .ne 5, 3) := dk_154 0 5 (dk_at dksX6_oneOf_6 11 rfl rfl)
theorem dX6_oneOf_156 : decode cX6_oneOf 156 = .ok (.lconst 0, 1) := dk_9 (dk_at dksX6_oneOf_6 14 rfl rfl)
theorem dX6_oneOf_157 : decode cX6_oneOf 157 = .ok (.lreturn, 1) := dk_173 (dk_at dksX6_oneOf_6 15 rfl rfl)
theorem dX6_oneOf_158 : decode cX6_oneOf 158 = .ok (.aload_n 0, 1) := dk_42 (dk_at dksX6_oneOf_6 16 rfl rfl)
theorem dX6_oneOf_159 : decode cX6_oneOf 159 = .ok (.invokevirtual 185, 3) := dk_182 0 185 (dk_at dksX6_oneOf_6 17 rfl rfl)
theorem dX6_oneOf_162 : decode cX6_oneOf 162 = .ok (.lload_n 1, 1) := dk_31 (dk_at dksX6_oneOf_6 20 rfl rfl)
theorem dX6_oneOf_163 : decode cX6_oneOf 163 = .ok (.aload_n 0, 1) := dk_42 (dk_at dksX6_oneOf_6 21 rfl rfl)
theorem dX6_oneOf_164 : decode cX6_oneOf 164 = .ok (.invokevirtual 201, 3) := dk_182 0 201 (dk_at dksX6_oneOf_7 0 rfl rfl)
theorem dX6_oneOf_167 : decode cX6_oneOf 167 = .ok (.ldc2_w 48, 3) := dk_20 0 48 (dk_at dksX6_oneOf_7 3 rfl rfl)
theorem dX6_oneOf_170 : decode cX6_oneOf 170 = .ok (.lxor, 1) := dk_131 (dk_at dksX6_oneOf_7 6 rfl rfl)
theorem dX6_oneOf_171 : decode cX6_oneOf 171 = .ok (.land, 1) := dk_127 (dk_at dksX6_oneOf_7 7 rfl rfl)
theorem dX6_oneOf_172 : decode cX6_oneOf 172 = .ok (.lstore_n 3, 1) := dk_66 (dk_at dksX6_oneOf_7 8 rfl rfl)
theorem dX6_oneOf_173 : decode cX6_oneOf 173 = .ok (.aload_n 0, 1) := dk_42 (dk_at dksX6_oneOf_7 9 rfl rfl)
theorem dX6_oneOf_174 : decode cX6_oneOf 174 = .ok (.bipush 20, 2) := dk_16 20 (dk_at dksX6_oneOf_7 10 rfl rfl)
theorem dX6_oneOf_176 : decode cX6_oneOf 176 = .ok (.bipush 8, 2) := dk_16 8 (dk_at dksX6_oneOf_7 12 rfl rfl)
theorem dX6_oneOf_178 : decode cX6_oneOf 178 = .ok (.iconst 5, 1) := dk_8 (dk_at dksX6_oneOf_7 14 rfl rfl)
theorem dX6_oneOf_179 : decode cX6_oneOf 179 = .ok (.bipush 14, 2) := dk_16 14 (dk_at dksX6_oneOf_7 15 rfl rfl)
theorem dX6_oneOf_181 : decode cX6_oneOf 181 = .ok (.iconst 0, 1) := dk_3 (dk_at dksX6_oneOf_7 17 rfl rfl)
theorem dX6_oneOf_182 : decode cX6_oneOf 182 = .ok (.iconst 0, 1) := dk_3 (dk_at dksX6_oneOf_7 18 rfl rfl)
theorem dX6_oneOf_183 : decode cX6_oneOf 183 = .ok (.invokevirtual 198, 3) := dk_182 0 198 (dk_at dksX6_oneOf_7 19 rfl rfl)
theorem dX6_oneOf_186 : decode cX6_oneOf 186 = .ok (.ifCond .ne 12, 3) := dk_154 0 12 (dk_at dksX6_oneOf_8 0 rfl rfl)
theorem dX6_oneOf_189 : decode cX6_oneOf 189 = .ok (.aload_n 0, 1) := dk_42 (dk_at dksX6_oneOf_8 3 rfl rfl)
theorem dX6_oneOf_190 : decode cX6_oneOf 190 = .ok (.iconst 1, 1) := dk_4 (dk_at dksX6_oneOf_8 4 rfl rfl)
theorem dX6_oneOf_191 : decode cX6_oneOf 191 = .ok (.aload_n 0, 1) := dk_42 (dk_at dksX6_oneOf_8 5 rfl rfl)
theorem dX6_oneOf_192 : decode cX6_oneOf 192 = .ok (.getfield 141, 3) := dk_180 0 141 (dk_at dksX6_oneOf_8 6 rfl rfl)
theorem dX6_oneOf_195 : decode cX6_oneOf 195 = .ok (.invokevirtual 161, 3) := dk_182 0 161 (dk_at dksX6_oneOf_8 9 rfl rfl)
theorem dX6_oneOf_198 : decode cX6_oneOf 198 = .ok (.lload_n 3, 1) := dk_33 (dk_at dksX6_oneOf_8 12 rfl rfl)
theorem dX6_oneOf_199 : decode cX6_oneOf 199 = .ok (.aload_n 0, 1) := dk_42 (dk_at dksX6_oneOf_8 13 rfl rfl)
theorem dX6_oneOf_200 : decode cX6_oneOf 200 = .ok (.invokevirtual 201, 3) := dk_182 0 201 (dk_at dksX6_oneOf_8 14 rfl rfl)
theorem dX6_oneOf_203 : decode cX6_oneOf 203 = .ok (.lor, 1) := dk_129 (dk_at dksX6_oneOf_8 17 rfl rfl)
theorem dX6_oneOf_204 : decode cX6_oneOf 204 = .ok (.lstore_n 3, 1) := dk_66 (dk_at dksX6_oneOf_8 18 rfl rfl)
theorem dX6_oneOf_205 : decode cX6_oneOf 205 = .ok (.aload_n 0, 1) := dk_42 (dk_at dksX6_oneOf_8 19 rfl rfl)
theorem dX6_oneOf_206 : decode cX6_oneOf 206 = .ok (.dup, 1) := dk_89 (dk_at dksX6_oneOf_8 20 rfl rfl)
theorem dX6_oneOf_207 : decode cX6_oneOf 207 = .ok (.getfield 188, 3) := dk_180 0 188 (dk_at dksX6_oneOf_8 21 rfl rfl)
theorem dX6_oneOf_210 : decode cX6_oneOf 210 = .ok (.iconst 1, 1) := dk_4 (dk_at dksX6_oneOf_9 0 rfl rfl)
theorem dX6_oneOf_211 : decode cX6_oneOf 211 = .ok (.isub, 1) := dk_100 (dk_at dksX6_oneOf_9 1 rfl rfl)
theorem dX6_oneOf_212 : decode cX6_oneOf 212 = .ok (.putfield 188, 3) := dk_181 0 188 (dk_at dksX6_oneOf_9 2 rfl rfl)
theorem dX6_oneOf_215 : decode cX6_oneOf 215 = .ok (.goto 94, 3) := dk_167 0 94 (dk_at dksX6_oneOf_9 5 rfl rfl)
theorem dX6_oneOf_218 : decode cX6_oneOf 218 = .ok (.aload_n 0, 1) := dk_42 (dk_at dksX6_oneOf_9 8 rfl rfl)
theorem dX6_oneOf_219 : decode cX6_oneOf 219 = .ok (.aload_n 0, 1) := dk_42 (dk_at dksX6_oneOf_9 9 rfl rfl)
theorem dX6_oneOf_220 : decode cX6_oneOf 220 = .ok (.getfield 141, 3) := dk_180 0 141 (dk_at dksX6_oneOf_9 10 rfl rfl)
theorem dX6_oneOf_223 : decode cX6_oneOf 223 = .ok (.invokevirtual 144, 3) := dk_182 0 144 (dk_at dksX6_oneOf_9 13 rfl rfl)
theorem dX6_oneOf_226 : decode cX6_oneOf 226 = .ok (.bipush 97, 2) := dk_16 97 (dk_at dksX6_oneOf_9 16 rfl rfl)
theorem dX6_oneOf_228 : decode cX6_oneOf 228 = .ok (.isub, 1) := dk_100 (dk_at dksX6_oneOf_9 18 rfl rfl)
theorem dX6_oneOf_229 : decode cX6_oneOf 229 = .ok (.istore 5, 2) := dk_54 5 (dk_at dksX6_oneOf_9 19 rfl rfl)
theorem dX6_oneOf_231 : decode cX6_oneOf 231 = .ok (.iload 5, 2) := dk_21 5 (dk_at dksX6_oneOf_9 21 rfl rfl)
theorem dX6_oneOf_233 : decode cX6_oneOf 233 = .ok (.iconst 0, 1) := dk_3 (dk_at dksX6_oneOf_9 23 rfl rfl)
theorem dX6_oneOf_234 : decode cX6_oneOf 234 = .ok (.aload_n 0, 1) := dk_42 (dk_at dksX6_oneOf_10 0 rfl rfl)
theorem dX6_oneOf_235 : decode cX6_oneOf 235 = .ok (.getfield 20, 3) := dk_180 0 20 (dk_at dksX6_oneOf_10 1 rfl rfl)
theorem dX6_oneOf_238 : decode cX6_oneOf 238 = .ok (.iconst 0, 1) := dk_3 (dk_at dksX6_oneOf_10 4 rfl rfl)
theorem dX6_oneOf_239 : decode cX6_oneOf 239 = .ok (.iaload, 1) := dk_46 (dk_at dksX6_oneOf_10 5 rfl rfl)
theorem dX6_oneOf_240 : decode cX6_oneOf 240 = .ok (.iconst 1, 1) := dk_4 (dk_at dksX6_oneOf_10 6 rfl rfl)
theorem dX6_oneOf_241 : decode cX6_oneOf 241 = .ok (.isub, 1) := dk_100 (dk_at dksX6_oneOf_10 7 rfl rfl)
theorem dX6_oneOf_242 : decode cX6_oneOf 242 = .ok (.invokestatic 166, 3) := dk_184 0 166 (dk_at dksX6_oneOf_10 8 rfl rfl)
theorem dX6_oneOf_245 : decode cX6_oneOf 245 = .ok (.ifCond .eq 19, 3) := dk_153 0 19 (dk_at dksX6_oneOf_10 11 rfl rfl)
theorem dX6_oneOf_248 : decode cX6_oneOf 248 = .ok (.aload_n 0, 1) := dk_42 (dk_at dksX6_oneOf_10 14 rfl rfl)
theorem dX6_oneOf_249 : decode cX6_oneOf 249 = .ok (.aload_n 0, 1) := dk_42 (dk_at dksX6_oneOf_10 15 rfl rfl)
theorem dX6_oneOf_250 : decode cX6_oneOf 250 = .ok (.getfield 141, 3) := dk_180 0 141 (dk_at dksX6_oneOf_10 16 rfl rfl)
theorem dX6_oneOf_253 : decode cX6_oneOf 253 = .ok (.iconst 1, 1) := dk_4 (dk_at dksX6_oneOf_10 19 rfl rfl)
theorem dX6_oneOf_254 : decode cX6_oneOf 254 = .ok (.iadd, 1) := dk_96 (dk_at dksX6_oneOf_10 20 rfl rfl)
theorem dX6_oneOf_255 : decode cX6_oneOf 255 = .ok (.invokevirtual 144, 3) := dk_182 0 144 (dk_at dksX6_oneOf_10 21 rfl rfl)
theorem dX6_oneOf_258 : decode cX6_oneOf 258 = .ok (.invokestatic 170, 3) := dk_184 0 170 (dk_at dksX6_oneOf_11 0 rfl rfl)
theorem dX6_oneOf_261 : decode cX6_oneOf 261 = .ok (.ifCond .eq 15, 3) := dk_153 0 15 (dk_at dksX6_oneOf_11 3 rfl rfl)
theorem dX6_oneOf_264 : decode cX6_oneOf 264 = .ok (.aload_n 0, 1) := dk_42 (dk_at dksX6_oneOf_11 6 rfl rfl)
theorem dX6_oneOf_265 : decode cX6_oneOf 265 = .ok (.iconst 1, 1) := dk_4 (dk_at dksX6_oneOf_11 7 rfl rfl)
theorem dX6_oneOf_266 : decode cX6_oneOf 266 = .ok (.aload_n 0, 1) := dk_42 (dk_at dksX6_oneOf_11 8 rfl rfl)
theorem dX6_oneOf_267 : decode cX6_oneOf 267 = .ok (.getfield 141, 3) := dk_180 0 141 (dk_at dksX6_oneOf_11 9 rfl rfl)
theorem dX6_oneOf_270 : decode cX6_oneOf 270 = .ok (.invokevirtual 161, 3) := dk_182 0 161 (dk_at dksX6_oneOf_11 12 rfl rfl)
theorem dX6_oneOf_273 : decode cX6_oneOf 273 = .ok (.goto 15, 3) := dk_167 0 15 (dk_at dksX6_oneOf_11 15 rfl rfl)
theorem dX6_oneOf_276 : decode cX6_oneOf 276 = .ok (.iload 5, 2) := dk_21 5 (dk_at dksX6_oneOf_11 18 rfl rfl)
theorem dX6_oneOf_278 : decode cX6_oneOf 278 = .ok (.aload_n 0, 1) := dk_42 (dk_at dksX6_oneOf_11 20 rfl rfl)
theorem dX6_oneOf_279 : decode cX6_oneOf 279 = .ok (.getfield 20, 3) := dk_180 0 20 (dk_at dksX6_oneOf_11 21 rfl rfl)
theorem dX6_oneOf_282 : decode cX6_oneOf 282 = .ok (.iconst 0, 1) := dk_3 (dk_at dksX6_oneOf_12 0 rfl rfl)
theorem dX6_oneOf_283 : decode cX6_oneOf 283 = .ok (.iaload, 1) := dk_46 (dk_at dksX6_oneOf_12 1 rfl rfl)
theorem dX6_oneOf_284 : decode cX6_oneOf 284 = .ok (.invokestatic 219, 3) := dk_184 0 219 (dk_at dksX6_oneOf_12 2 rfl rfl)
theorem dX6_oneOf_287 : decode cX6_oneOf 287 = .ok (.lstore_n 3, 1) := dk_66 (dk_at dksX6_oneOf_12 5 rfl rfl)
theorem dX6_oneOf_288 : decode cX6_oneOf 288 = .ok (.aload_n 0, 1) := dk_42 (dk_at dksX6_oneOf_12 6 rfl rfl)
theorem dX6_oneOf_289 : decode cX6_oneOf 289 = .ok (.dup, 1) := dk_89 (dk_at dksX6_oneOf_12 7 rfl rfl)
theorem dX6_oneOf_290 : decode cX6_oneOf 290 = .ok (.getfield 141, 3) := dk_180 0 141 (dk_at dksX6_oneOf_12 8 rfl rfl)
theorem dX6_oneOf_293 : decode cX6_oneOf 293 = .ok (.aload_n 0, 1) := dk_42 (dk_at dksX6_oneOf_12 11 rfl rfl)
theorem dX6_oneOf_294 : decode cX6_oneOf 294 = .ok (.getfield 148, 3) := dk_180 0 148 (dk_at dksX6_oneOf_12 12 rfl rfl)
theorem dX6_oneOf_297 : decode cX6_oneOf 297 = .ok (.ifCond .ne 7, 3) := dk_154 0 7 (dk_at dksX6_oneOf_12 15 rfl rfl)
theorem dX6_oneOf_300 : decode cX6_oneOf 300 = .ok (.iconst 1, 1) := dk_4 (dk_at dksX6_oneOf_12 18 rfl rfl)
theorem dX6_oneOf_301 : decode cX6_oneOf 301 = .ok (.goto 4, 3) := dk_167 0 4 (dk_at dksX6_oneOf_12 19 rfl rfl)
theorem dX6_oneOf_304 : decode cX6_oneOf 304 = .ok (.iconst 0, 1) := dk_3 (dk_at dksX6_oneOf_12 22 rfl rfl)
theorem dX6_oneOf_305 : decode cX6_oneOf 305 = .ok (.iadd, 1) := dk_96 (dk_at dksX6_oneOf_12 23 rfl rfl)
theorem dX6_oneOf_306 : decode cX6_oneOf 306 = .ok (.putfield 141, 3) := dk_181 0 141 (dk_at dksX6_oneOf_13 0 rfl rfl)
theorem dX6_oneOf_309 : decode cX6_oneOf 309 = .ok (.lload_n 3, 1) := dk_33 (dk_at dksX6_oneOf_13 3 rfl rfl)
theorem dX6_oneOf_310 : decode cX6_oneOf 310 = .ok (.lreturn, 1) := dk_173 (dk_at dksX6_oneOf_13 4 rfl rfl)
abbrev cX6_opens : ByteArray := prog_19_method_20_code
def yX6_opens : MethodName := ⟨RX6, "opens", "()Z"⟩
def dkwX6_opens_2 : List UInt8 := [180, 0, 148, 154, 0, 7, 4, 167, 0, 4, 3, 172]
abbrev dktX6_opens_2 : List UInt8 := dkwX6_opens_2 ++ []
def dkwX6_opens_1 : List UInt8 := [182, 0, 161, 167, 0, 20, 42, 180, 0, 148, 154, 0, 13, 42, 89, 180, 0, 188, 4, 96, 181, 0, 188, 42]
abbrev dktX6_opens_1 : List UInt8 := dkwX6_opens_1 ++ dktX6_opens_2
def dkwX6_opens_0 : List UInt8 := [42, 180, 0, 148, 154, 0, 24, 42, 180, 0, 188, 16, 6, 160, 0, 15, 42, 6, 42, 180, 0, 141]
abbrev dktX6_opens_0 : List UInt8 := dkwX6_opens_0 ++ dktX6_opens_1
theorem dksX6_opens_0 : cX6_opens.data.toList.drop 0 = dktX6_opens_0 := by decide +kernel
theorem dksX6_opens_1 : cX6_opens.data.toList.drop 22 = dktX6_opens_1 := dk_seg dksX6_opens_0 22 rfl rfl
theorem dksX6_opens_2 : cX6_opens.data.toList.drop 46 = dktX6_opens_2 := dk_seg dksX6_opens_1 24 rfl rfl
theorem dX6_opens_0 : decode cX6_opens 0 = .ok (.aload_n 0, 1) := dk_42 (dk_at dksX6_opens_0 0 rfl rfl)
theorem dX6_opens_1 : decode cX6_opens 1 = .ok (.getfield 148, 3) := dk_180 0 148 (dk_at dksX6_opens_0 1 rfl rfl)
theorem dX6_opens_4 : decode cX6_opens 4 = .ok (.ifCond .ne 24, 3) := dk_154 0 24 (dk_at dksX6_opens_0 4 rfl rfl)
theorem dX6_opens_7 : decode cX6_opens 7 = .ok (.aload_n 0, 1) := dk_42 (dk_at dksX6_opens_0 7 rfl rfl)
theorem dX6_opens_8 : decode cX6_opens 8 = .ok (.getfield 188, 3) := dk_180 0 188 (dk_at dksX6_opens_0 8 rfl rfl)
theorem dX6_opens_11 : decode cX6_opens 11 = .ok (.bipush 6, 2) := dk_16 6 (dk_at dksX6_opens_0 11 rfl rfl)
theorem dX6_opens_13 : decode cX6_opens 13 = .ok (.if_icmp .ne 15, 3) := dk_160 0 15 (dk_at dksX6_opens_0 13 rfl rfl)
theorem dX6_opens_16 : decode cX6_opens 16 = .ok (.aload_n 0, 1) := dk_42 (dk_at dksX6_opens_0 16 rfl rfl)
theorem dX6_opens_17 : decode cX6_opens 17 = .ok (.iconst 3, 1) := dk_6 (dk_at dksX6_opens_0 17 rfl rfl)
theorem dX6_opens_18 : decode cX6_opens 18 = .ok (.aload_n 0, 1) := dk_42 (dk_at dksX6_opens_0 18 rfl rfl)
theorem dX6_opens_19 : decode cX6_opens 19 = .ok (.getfield 141, 3) := dk_180 0 141 (dk_at dksX6_opens_0 19 rfl rfl)
theorem dX6_opens_22 : decode cX6_opens 22 = .ok (.invokevirtual 161, 3) := dk_182 0 161 (dk_at dksX6_opens_1 0 rfl rfl)
theorem dX6_opens_25 : decode cX6_opens 25 = .ok (.goto 20, 3) := dk_167 0 20 (dk_at dksX6_opens_1 3 rfl rfl)
theorem dX6_opens_28 : decode cX6_opens 28 = .ok (.aload_n 0, 1) := dk_42 (dk_at dksX6_opens_1 6 rfl rfl)
theorem dX6_opens_29 : decode cX6_opens 29 = .ok (.getfield 148, 3) := dk_180 0 148 (dk_at dksX6_opens_1 7 rfl rfl)
theorem dX6_opens_32 : decode cX6_opens 32 = .ok (.ifCond .ne 13, 3) := dk_154 0 13 (dk_at dksX6_opens_1 10 rfl rfl)
theorem dX6_opens_35 : decode cX6_opens 35 = .ok (.aload_n 0, 1) := dk_42 (dk_at dksX6_opens_1 13 rfl rfl)
theorem dX6_opens_36 : decode cX6_opens 36 = .ok (.dup, 1) := dk_89 (dk_at dksX6_opens_1 14 rfl rfl)
theorem dX6_opens_37 : decode cX6_opens 37 = .ok (.getfield 188, 3) := dk_180 0 188 (dk_at dksX6_opens_1 15 rfl rfl)
theorem dX6_opens_40 : decode cX6_opens 40 = .ok (.iconst 1, 1) := dk_4 (dk_at dksX6_opens_1 18 rfl rfl)
theorem dX6_opens_41 : decode cX6_opens 41 = .ok (.iadd, 1) := dk_96 (dk_at dksX6_opens_1 19 rfl rfl)
theorem dX6_opens_42 : decode cX6_opens 42 = .ok (.putfield 188, 3) := dk_181 0 188 (dk_at dksX6_opens_1 20 rfl rfl)
theorem dX6_opens_45 : decode cX6_opens 45 = .ok (.aload_n 0, 1) := dk_42 (dk_at dksX6_opens_1 23 rfl rfl)
theorem dX6_opens_46 : decode cX6_opens 46 = .ok (.getfield 148, 3) := dk_180 0 148 (dk_at dksX6_opens_2 0 rfl rfl)
theorem dX6_opens_49 : decode cX6_opens 49 = .ok (.ifCond .ne 7, 3) := dk_154 0 7 (dk_at dksX6_opens_2 3 rfl rfl)
theorem dX6_opens_52 : decode cX6_opens 52 = .ok (.iconst 1, 1) := dk_4 (dk_at dksX6_opens_2 6 rfl rfl)
theorem dX6_opens_53 : decode cX6_opens 53 = .ok (.goto 4, 3) := dk_167 0 4 (dk_at dksX6_opens_2 7 rfl rfl)
theorem dX6_opens_56 : decode cX6_opens 56 = .ok (.iconst 0, 1) := dk_3 (dk_at dksX6_opens_2 10 rfl rfl)
theorem dX6_opens_57 : decode cX6_opens 57 = .ok (.ireturn, 1) := dk_172 (dk_at dksX6_opens_2 11 rfl rfl)
abbrev cX6_sign : ByteArray := prog_19_method_18_code
def yX6_sign : MethodName := ⟨RX6, "sign", "(I)V"⟩
def dkwX6_sign_1 : List UInt8 := [42, 89, 180, 0, 141, 4, 96, 181, 0, 141, 167, 0, 12, 42, 4, 42, 180, 0, 141, 182, 0, 161, 177]
abbrev dktX6_sign_1 : List UInt8 := dkwX6_sign_1 ++ []
def dkwX6_sign_0 : List UInt8 := [42, 180, 0, 148, 153, 0, 4, 177, 42, 182, 0, 154, 42, 42, 180, 0, 141, 182, 0, 144, 27, 160, 0, 16]
abbrev dktX6_sign_0 : List UInt8 := dkwX6_sign_0 ++ dktX6_sign_1
theorem dksX6_sign_0 : cX6_sign.data.toList.drop 0 = dktX6_sign_0 := by decide +kernel
theorem dksX6_sign_1 : cX6_sign.data.toList.drop 24 = dktX6_sign_1 := dk_seg dksX6_sign_0 24 rfl rfl
theorem dX6_sign_0 : decode cX6_sign 0 = .ok (.aload_n 0, 1) := dk_42 (dk_at dksX6_sign_0 0 rfl rfl)
theorem dX6_sign_1 : decode cX6_sign 1 = .ok (.getfield 148, 3) := dk_180 0 148 (dk_at dksX6_sign_0 1 rfl rfl)
theorem dX6_sign_4 : decode cX6_sign 4 = .ok (.ifCond .eq 4, 3) := dk_153 0 4 (dk_at dksX6_sign_0 4 rfl rfl)
theorem dX6_sign_7 : decode cX6_sign 7 = .ok (.return_, 1) := dk_177 (dk_at dksX6_sign_0 7 rfl rfl)
theorem dX6_sign_8 : decode cX6_sign 8 = .ok (.aload_n 0, 1) := dk_42 (dk_at dksX6_sign_0 8 rfl rfl)
theorem dX6_sign_9 : decode cX6_sign 9 = .ok (.invokevirtual 154, 3) := dk_182 0 154 (dk_at dksX6_sign_0 9 rfl rfl)
theorem dX6_sign_12 : decode cX6_sign 12 = .ok (.aload_n 0, 1) := dk_42 (dk_at dksX6_sign_0 12 rfl rfl)
theorem dX6_sign_13 : decode cX6_sign 13 = .ok (.aload_n 0, 1) := dk_42 (dk_at dksX6_sign_0 13 rfl rfl)
theorem dX6_sign_14 : decode cX6_sign 14 = .ok (.getfield 141, 3) := dk_180 0 141 (dk_at dksX6_sign_0 14 rfl rfl)
theorem dX6_sign_17 : decode cX6_sign 17 = .ok (.invokevirtual 144, 3) := dk_182 0 144 (dk_at dksX6_sign_0 17 rfl rfl)
theorem dX6_sign_20 : decode cX6_sign 20 = .ok (.iload_n 1, 1) := dk_27 (dk_at dksX6_sign_0 20 rfl rfl)
theorem dX6_sign_21 : decode cX6_sign 21 = .ok (.if_icmp .ne 16, 3) := dk_160 0 16 (dk_at dksX6_sign_0 21 rfl rfl)
theorem dX6_sign_24 : decode cX6_sign 24 = .ok (.aload_n 0, 1) := dk_42 (dk_at dksX6_sign_1 0 rfl rfl)
theorem dX6_sign_25 : decode cX6_sign 25 = .ok (.dup, 1) := dk_89 (dk_at dksX6_sign_1 1 rfl rfl)
theorem dX6_sign_26 : decode cX6_sign 26 = .ok (.getfield 141, 3) := dk_180 0 141 (dk_at dksX6_sign_1 2 rfl rfl)
theorem dX6_sign_29 : decode cX6_sign 29 = .ok (.iconst 1, 1) := dk_4 (dk_at dksX6_sign_1 5 rfl rfl)
theorem dX6_sign_30 : decode cX6_sign 30 = .ok (.iadd, 1) := dk_96 (dk_at dksX6_sign_1 6 rfl rfl)
theorem dX6_sign_31 : decode cX6_sign 31 = .ok (.putfield 141, 3) := dk_181 0 141 (dk_at dksX6_sign_1 7 rfl rfl)
theorem dX6_sign_34 : decode cX6_sign 34 = .ok (.goto 12, 3) := dk_167 0 12 (dk_at dksX6_sign_1 10 rfl rfl)
theorem dX6_sign_37 : decode cX6_sign 37 = .ok (.aload_n 0, 1) := dk_42 (dk_at dksX6_sign_1 13 rfl rfl)
theorem dX6_sign_38 : decode cX6_sign 38 = .ok (.iconst 1, 1) := dk_4 (dk_at dksX6_sign_1 14 rfl rfl)
theorem dX6_sign_39 : decode cX6_sign 39 = .ok (.aload_n 0, 1) := dk_42 (dk_at dksX6_sign_1 15 rfl rfl)
theorem dX6_sign_40 : decode cX6_sign 40 = .ok (.getfield 141, 3) := dk_180 0 141 (dk_at dksX6_sign_1 16 rfl rfl)
theorem dX6_sign_43 : decode cX6_sign 43 = .ok (.invokevirtual 161, 3) := dk_182 0 161 (dk_at dksX6_sign_1 19 rfl rfl)
theorem dX6_sign_46 : decode cX6_sign 46 = .ok (.return_, 1) := dk_177 (dk_at dksX6_sign_1 22 rfl rfl)
abbrev cX6_takes : ByteArray := prog_19_method_17_code
def yX6_takes : MethodName := ⟨RX6, "takes", "(IIIIII)Z"⟩
def dkwX6_takes_1 : List UInt8 := [21, 7, 172]
abbrev dktX6_takes_1 : List UInt8 := dkwX6_takes_1 ++ []
def dkwX6_takes_0 : List UInt8 := [42, 27, 28, 29, 21, 4, 21, 5, 21, 6, 182, 0, 181, 54, 7, 21, 7, 153, 0, 7, 42, 182, 0, 185]
abbrev dktX6_takes_0 : List UInt8 := dkwX6_takes_0 ++ dktX6_takes_1
theorem dksX6_takes_0 : cX6_takes.data.toList.drop 0 = dktX6_takes_0 := by decide +kernel
theorem dksX6_takes_1 : cX6_takes.data.toList.drop 24 = dktX6_takes_1 := dk_seg dksX6_takes_0 24 rfl rfl
theorem dX6_takes_0 : decode cX6_takes 0 = .ok (.aload_n 0, 1) := dk_42 (dk_at dksX6_takes_0 0 rfl rfl)
theorem dX6_takes_1 : decode cX6_takes 1 = .ok (.iload_n 1, 1) := dk_27 (dk_at dksX6_takes_0 1 rfl rfl)
theorem dX6_takes_2 : decode cX6_takes 2 = .ok (.iload_n 2, 1) := dk_28 (dk_at dksX6_takes_0 2 rfl rfl)
theorem dX6_takes_3 : decode cX6_takes 3 = .ok (.iload_n 3, 1) := dk_29 (dk_at dksX6_takes_0 3 rfl rfl)
theorem dX6_takes_4 : decode cX6_takes 4 = .ok (.iload 4, 2) := dk_21 4 (dk_at dksX6_takes_0 4 rfl rfl)
theorem dX6_takes_6 : decode cX6_takes 6 = .ok (.iload 5, 2) := dk_21 5 (dk_at dksX6_takes_0 6 rfl rfl)
theorem dX6_takes_8 : decode cX6_takes 8 = .ok (.iload 6, 2) := dk_21 6 (dk_at dksX6_takes_0 8 rfl rfl)
theorem dX6_takes_10 : decode cX6_takes 10 = .ok (.invokevirtual 181, 3) := dk_182 0 181 (dk_at dksX6_takes_0 10 rfl rfl)
theorem dX6_takes_13 : decode cX6_takes 13 = .ok (.istore 7, 2) := dk_54 7 (dk_at dksX6_takes_0 13 rfl rfl)
theorem dX6_takes_15 : decode cX6_takes 15 = .ok (.iload 7, 2) := dk_21 7 (dk_at dksX6_takes_0 15 rfl rfl)
theorem dX6_takes_17 : decode cX6_takes 17 = .ok (.ifCond .eq 7, 3) := dk_153 0 7 (dk_at dksX6_takes_0 17 rfl rfl)
theorem dX6_takes_20 : decode cX6_takes 20 = .ok (.aload_n 0, 1) := dk_42 (dk_at dksX6_takes_0 20 rfl rfl)
theorem dX6_takes_21 : decode cX6_takes 21 = .ok (.invokevirtual 185, 3) := dk_182 0 185 (dk_at dksX6_takes_0 21 rfl rfl)
theorem dX6_takes_24 : decode cX6_takes 24 = .ok (.iload 7, 2) := dk_21 7 (dk_at dksX6_takes_1 0 rfl rfl)
theorem dX6_takes_26 : decode cX6_takes 26 = .ok (.ireturn, 1) := dk_172 (dk_at dksX6_takes_1 2 rfl rfl)
abbrev cX6_atomOf : ByteArray := prog_19_method_23_code
def yX6_atomOf : MethodName := ⟨RX6, "atomOf", "(II)J"⟩
def dkwX6_atomOf_1 : List UInt8 := [129, 65, 132, 4, 1, 167, 255, 232, 32, 173]
abbrev dktX6_atomOf_1 : List UInt8 := dkwX6_atomOf_1 ++ []
def dkwX6_atomOf_0 : List UInt8 := [9, 65, 3, 54, 4, 21, 4, 4, 27, 120, 162, 0, 22, 32, 21, 4, 26, 122, 4, 126, 133, 21, 4, 121]
abbrev dktX6_atomOf_0 : List UInt8 := dkwX6_atomOf_0 ++ dktX6_atomOf_1
theorem dksX6_atomOf_0 : cX6_atomOf.data.toList.drop 0 = dktX6_atomOf_0 := by decide +kernel
theorem dksX6_atomOf_1 : cX6_atomOf.data.toList.drop 24 = dktX6_atomOf_1 := dk_seg dksX6_atomOf_0 24 rfl rfl
theorem dX6_atomOf_0 : decode cX6_atomOf 0 = .ok (.lconst 0, 1) := dk_9 (dk_at dksX6_atomOf_0 0 rfl rfl)
theorem dX6_atomOf_1 : decode cX6_atomOf 1 = .ok (.lstore_n 2, 1) := dk_65 (dk_at dksX6_atomOf_0 1 rfl rfl)
theorem dX6_atomOf_2 : decode cX6_atomOf 2 = .ok (.iconst 0, 1) := dk_3 (dk_at dksX6_atomOf_0 2 rfl rfl)
theorem dX6_atomOf_3 : decode cX6_atomOf 3 = .ok (.istore 4, 2) := dk_54 4 (dk_at dksX6_atomOf_0 3 rfl rfl)
theorem dX6_atomOf_5 : decode cX6_atomOf 5 = .ok (.iload 4, 2) := dk_21 4 (dk_at dksX6_atomOf_0 5 rfl rfl)
theorem dX6_atomOf_7 : decode cX6_atomOf 7 = .ok (.iconst 1, 1) := dk_4 (dk_at dksX6_atomOf_0 7 rfl rfl)
theorem dX6_atomOf_8 : decode cX6_atomOf 8 = .ok (.iload_n 1, 1) := dk_27 (dk_at dksX6_atomOf_0 8 rfl rfl)
theorem dX6_atomOf_9 : decode cX6_atomOf 9 = .ok (.ishl, 1) := dk_120 (dk_at dksX6_atomOf_0 9 rfl rfl)
theorem dX6_atomOf_10 : decode cX6_atomOf 10 = .ok (.if_icmp .ge 22, 3) := dk_162 0 22 (dk_at dksX6_atomOf_0 10 rfl rfl)
theorem dX6_atomOf_13 : decode cX6_atomOf 13 = .ok (.lload_n 2, 1) := dk_32 (dk_at dksX6_atomOf_0 13 rfl rfl)
theorem dX6_atomOf_14 : decode cX6_atomOf 14 = .ok (.iload 4, 2) := dk_21 4 (dk_at dksX6_atomOf_0 14 rfl rfl)
theorem dX6_atomOf_16 : decode cX6_atomOf 16 = .ok (.iload_n 0, 1) := dk_26 (dk_at dksX6_atomOf_0 16 rfl rfl)
theorem dX6_atomOf_17 : decode cX6_atomOf 17 = .ok (.ishr, 1) := dk_122 (dk_at dksX6_atomOf_0 17 rfl rfl)
theorem dX6_atomOf_18 : decode cX6_atomOf 18 = .ok (.iconst 1, 1) := dk_4 (dk_at dksX6_atomOf_0 18 rfl rfl)
theorem dX6_atomOf_19 : decode cX6_atomOf 19 = .ok (.iand, 1) := dk_126 (dk_at dksX6_atomOf_0 19 rfl rfl)
theorem dX6_atomOf_20 : decode cX6_atomOf 20 = .ok (.i2l, 1) := dk_133 (dk_at dksX6_atomOf_0 20 rfl rfl)
theorem dX6_atomOf_21 : decode cX6_atomOf 21 = .ok (.iload 4, 2) := dk_21 4 (dk_at dksX6_atomOf_0 21 rfl rfl)
theorem dX6_atomOf_23 : decode cX6_atomOf 23 = .ok (.lshl, 1) := dk_121 (dk_at dksX6_atomOf_0 23 rfl rfl)
theorem dX6_atomOf_24 : decode cX6_atomOf 24 = .ok (.lor, 1) := dk_129 (dk_at dksX6_atomOf_1 0 rfl rfl)
theorem dX6_atomOf_25 : decode cX6_atomOf 25 = .ok (.lstore_n 2, 1) := dk_65 (dk_at dksX6_atomOf_1 1 rfl rfl)
theorem dX6_atomOf_26 : decode cX6_atomOf 26 = .ok (.iinc 4 1, 3) := dk_132 4 1 (dk_at dksX6_atomOf_1 2 rfl rfl)
theorem dX6_atomOf_29 : decode cX6_atomOf 29 = .ok (.goto (-24), 3) := dk_167 255 232 (dk_at dksX6_atomOf_1 5 rfl rfl)
theorem dX6_atomOf_32 : decode cX6_atomOf 32 = .ok (.lload_n 2, 1) := dk_32 (dk_at dksX6_atomOf_1 8 rfl rfl)
theorem dX6_atomOf_33 : decode cX6_atomOf 33 = .ok (.lreturn, 1) := dk_173 (dk_at dksX6_atomOf_1 9 rfl rfl)
abbrev cX6_question : ByteArray := prog_19_method_33_code
def yX6_question : MethodName := ⟨RX6, "question", "(I)I"⟩
def dkwX6_question_5 : List UInt8 := [181, 0, 50, 32, 184, 0, 249, 172]
abbrev dktX6_question_5 : List UInt8 := dkwX6_question_5 ++ []
def dkwX6_question_4 : List UInt8 := [42, 180, 0, 151, 181, 0, 9, 42, 180, 0, 148, 153, 0, 11, 42, 180, 0, 148, 16, 10, 100, 172, 42, 32]
abbrev dktX6_question_4 : List UInt8 := dkwX6_question_4 ++ dktX6_question_5
def dkwX6_question_3 : List UInt8 := [154, 0, 23, 42, 180, 0, 141, 42, 180, 0, 138, 162, 0, 12, 42, 4, 42, 180, 0, 141, 182, 0, 161, 42]
abbrev dktX6_question_3 : List UInt8 := dkwX6_question_3 ++ dktX6_question_4
def dkwX6_question_2 : List UInt8 := [180, 0, 20, 3, 42, 180, 0, 23, 3, 46, 79, 42, 182, 0, 212, 65, 42, 182, 0, 154, 42, 180, 0, 148]
abbrev dktX6_question_2 : List UInt8 := dkwX6_question_2 ++ dktX6_question_3
def dkwX6_question_1 : List UInt8 := [164, 0, 7, 4, 167, 0, 4, 3, 4, 4, 182, 0, 233, 153, 0, 5, 3, 172, 42, 27, 182, 0, 237, 42]
abbrev dktX6_question_1 : List UInt8 := dkwX6_question_1 ++ dktX6_question_2
def dkwX6_question_0 : List UInt8 := [42, 3, 181, 0, 132, 42, 27, 3, 42, 180, 0, 135, 184, 0, 166, 153, 0, 10, 27, 17, 0, 200]
abbrev dktX6_question_0 : List UInt8 := dkwX6_question_0 ++ dktX6_question_1
theorem dksX6_question_0 : cX6_question.data.toList.drop 0 = dktX6_question_0 := by decide +kernel
theorem dksX6_question_1 : cX6_question.data.toList.drop 22 = dktX6_question_1 := dk_seg dksX6_question_0 22 rfl rfl
theorem dksX6_question_2 : cX6_question.data.toList.drop 46 = dktX6_question_2 := dk_seg dksX6_question_1 24 rfl rfl
theorem dksX6_question_3 : cX6_question.data.toList.drop 70 = dktX6_question_3 := dk_seg dksX6_question_2 24 rfl rfl
theorem dksX6_question_4 : cX6_question.data.toList.drop 94 = dktX6_question_4 := dk_seg dksX6_question_3 24 rfl rfl
theorem dksX6_question_5 : cX6_question.data.toList.drop 118 = dktX6_question_5 := dk_seg dksX6_question_4 24 rfl rfl
theorem dX6_question_0 : decode cX6_question 0 = .ok (.aload_n 0, 1) := dk_42 (dk_at dksX6_question_0 0 rfl rfl)
theorem dX6_question_1 : decode cX6_question 1 = .ok (.iconst 0, 1) := dk_3 (dk_at dksX6_question_0 1 rfl rfl)
theorem dX6_question_2 : decode cX6_question 2 = .ok (.putfield 132, 3) := dk_181 0 132 (dk_at dksX6_question_0 2 rfl rfl)
theorem dX6_question_5 : decode cX6_question 5 = .ok (.aload_n 0, 1) := dk_42 (dk_at dksX6_question_0 5 rfl rfl)
theorem dX6_question_6 : decode cX6_question 6 = .ok (.iload_n 1, 1) := dk_27 (dk_at dksX6_question_0 6 rfl rfl)
theorem dX6_question_7 : decode cX6_question 7 = .ok (.iconst 0, 1) := dk_3 (dk_at dksX6_question_0 7 rfl rfl)
theorem dX6_question_8 : decode cX6_question 8 = .ok (.aload_n 0, 1) := dk_42 (dk_at dksX6_question_0 8 rfl rfl)
theorem dX6_question_9 : decode cX6_question 9 = .ok (.getfield 135, 3) := dk_180 0 135 (dk_at dksX6_question_0 9 rfl rfl)
theorem dX6_question_12 : decode cX6_question 12 = .ok (.invokestatic 166, 3) := dk_184 0 166 (dk_at dksX6_question_0 12 rfl rfl)
theorem dX6_question_15 : decode cX6_question 15 = .ok (.ifCond .eq 10, 3) := dk_153 0 10 (dk_at dksX6_question_0 15 rfl rfl)
theorem dX6_question_18 : decode cX6_question 18 = .ok (.iload_n 1, 1) := dk_27 (dk_at dksX6_question_0 18 rfl rfl)
theorem dX6_question_19 : decode cX6_question 19 = .ok (.sipush 200, 3) := dk_17 0 200 (dk_at dksX6_question_0 19 rfl rfl)
theorem dX6_question_22 : decode cX6_question 22 = .ok (.if_icmp .le 7, 3) := dk_164 0 7 (dk_at dksX6_question_1 0 rfl rfl)
theorem dX6_question_25 : decode cX6_question 25 = .ok (.iconst 1, 1) := dk_4 (dk_at dksX6_question_1 3 rfl rfl)
theorem dX6_question_26 : decode cX6_question 26 = .ok (.goto 4, 3) := dk_167 0 4 (dk_at dksX6_question_1 4 rfl rfl)
theorem dX6_question_29 : decode cX6_question 29 = .ok (.iconst 0, 1) := dk_3 (dk_at dksX6_question_1 7 rfl rfl)
theorem dX6_question_30 : decode cX6_question 30 = .ok (.iconst 1, 1) := dk_4 (dk_at dksX6_question_1 8 rfl rfl)
theorem dX6_question_31 : decode cX6_question 31 = .ok (.iconst 1, 1) := dk_4 (dk_at dksX6_question_1 9 rfl rfl)
theorem dX6_question_32 : decode cX6_question 32 = .ok (.invokevirtual 233, 3) := dk_182 0 233 (dk_at dksX6_question_1 10 rfl rfl)
theorem dX6_question_35 : decode cX6_question 35 = .ok (.ifCond .eq 5, 3) := dk_153 0 5 (dk_at dksX6_question_1 13 rfl rfl)
theorem dX6_question_38 : decode cX6_question 38 = .ok (.iconst 0, 1) := dk_3 (dk_at dksX6_question_1 16 rfl rfl)
theorem dX6_question_39 : decode cX6_question 39 = .ok (.ireturn, 1) := dk_172 (dk_at dksX6_question_1 17 rfl rfl)
theorem dX6_question_40 : decode cX6_question 40 = .ok (.aload_n 0, 1) := dk_42 (dk_at dksX6_question_1 18 rfl rfl)
theorem dX6_question_41 : decode cX6_question 41 = .ok (.iload_n 1, 1) := dk_27 (dk_at dksX6_question_1 19 rfl rfl)
theorem dX6_question_42 : decode cX6_question 42 = .ok (.invokevirtual 237, 3) := dk_182 0 237 (dk_at dksX6_question_1 20 rfl rfl)
theorem dX6_question_45 : decode cX6_question 45 = .ok (.aload_n 0, 1) := dk_42 (dk_at dksX6_question_1 23 rfl rfl)
theorem dX6_question_46 : decode cX6_question 46 = .ok (.getfield 20, 3) := dk_180 0 20 (dk_at dksX6_question_2 0 rfl rfl)
theorem dX6_question_49 : decode cX6_question 49 = .ok (.iconst 0, 1) := dk_3 (dk_at dksX6_question_2 3 rfl rfl)
theorem dX6_question_50 : decode cX6_question 50 = .ok (.aload_n 0, 1) := dk_42 (dk_at dksX6_question_2 4 rfl rfl)
theorem dX6_question_51 : decode cX6_question 51 = .ok (.getfield 23, 3) := dk_180 0 23 (dk_at dksX6_question_2 5 rfl rfl)
theorem dX6_question_54 : decode cX6_question 54 = .ok (.iconst 0, 1) := dk_3 (dk_at dksX6_question_2 8 rfl rfl)
theorem dX6_question_55 : decode cX6_question 55 = .ok (.iaload, 1) := dk_46 (dk_at dksX6_question_2 9 rfl rfl)
theorem dX6_question_56 : decode cX6_question 56 = .ok (.iastore, 1) := dk_79 (dk_at dksX6_question_2 10 rfl rfl)
theorem dX6_question_57 : decode cX6_question 57 = .ok (.aload_n 0, 1) := dk_42 (dk_at dksX6_question_2 11 rfl rfl)
theorem dX6_question_58 : decode cX6_question 58 = .ok (.invokevirtual 212, 3) := dk_182 0 212 (dk_at dksX6_question_2 12 rfl rfl)
theorem dX6_question_61 : decode cX6_question 61 = .ok (.lstore_n 2, 1) := dk_65 (dk_at dksX6_question_2 15 rfl rfl)
theorem dX6_question_62 : decode cX6_question 62 = .ok (.aload_n 0, 1) := dk_42 (dk_at dksX6_question_2 16 rfl rfl)
theorem dX6_question_63 : decode cX6_question 63 = .ok (.invokevirtual 154, 3) := dk_182 0 154 (dk_at dksX6_question_2 17 rfl rfl)
theorem dX6_question_66 : decode cX6_question 66 = .ok (.aload_n 0, 1) := dk_42 (dk_at dksX6_question_2 20 rfl rfl)
theorem dX6_question_67 : decode cX6_question 67 = .ok (.getfield 148, 3) := dk_180 0 148 (dk_at dksX6_question_2 21 rfl rfl)
theorem dX6_question_70 : decode cX6_question 70 = .ok (.ifCond .ne 23, 3) := dk_154 0 23 (dk_at dksX6_question_3 0 rfl rfl)
theorem dX6_question_73 : decode cX6_question 73 = .ok (.aload_n 0, 1) := dk_42 (dk_at dksX6_question_3 3 rfl rfl)
theorem dX6_question_74 : decode cX6_question 74 = .ok (.getfield 141, 3) := dk_180 0 141 (dk_at dksX6_question_3 4 rfl rfl)
theorem dX6_question_77 : decode cX6_question 77 = .ok (.aload_n 0, 1) := dk_42 (dk_at dksX6_question_3 7 rfl rfl)
theorem dX6_question_78 : decode cX6_question 78 = .ok (.getfield 138, 3) := dk_180 0 138 (dk_at dksX6_question_3 8 rfl rfl)
theorem dX6_question_81 : decode cX6_question 81 = .ok (.if_icmp .ge 12, 3) := dk_162 0 12 (dk_at dksX6_question_3 11 rfl rfl)
theorem dX6_question_84 : decode cX6_question 84 = .ok (.aload_n 0, 1) := dk_42 (dk_at dksX6_question_3 14 rfl rfl)
theorem dX6_question_85 : decode cX6_question 85 = .ok (.iconst 1, 1) := dk_4 (dk_at dksX6_question_3 15 rfl rfl)
theorem dX6_question_86 : decode cX6_question 86 = .ok (.aload_n 0, 1) := dk_42 (dk_at dksX6_question_3 16 rfl rfl)
theorem dX6_question_87 : decode cX6_question 87 = .ok (.getfield 141, 3) := dk_180 0 141 (dk_at dksX6_question_3 17 rfl rfl)
theorem dX6_question_90 : decode cX6_question 90 = .ok (.invokevirtual 161, 3) := dk_182 0 161 (dk_at dksX6_question_3 20 rfl rfl)
theorem dX6_question_93 : decode cX6_question 93 = .ok (.aload_n 0, 1) := dk_42 (dk_at dksX6_question_3 23 rfl rfl)
theorem dX6_question_94 : decode cX6_question 94 = .ok (.aload_n 0, 1) := dk_42 (dk_at dksX6_question_4 0 rfl rfl)
theorem dX6_question_95 : decode cX6_question 95 = .ok (.getfield 151, 3) := dk_180 0 151 (dk_at dksX6_question_4 1 rfl rfl)
theorem dX6_question_98 : decode cX6_question 98 = .ok (.putfield 9, 3) := dk_181 0 9 (dk_at dksX6_question_4 4 rfl rfl)
theorem dX6_question_101 : decode cX6_question 101 = .ok (.aload_n 0, 1) := dk_42 (dk_at dksX6_question_4 7 rfl rfl)
theorem dX6_question_102 : decode cX6_question 102 = .ok (.getfield 148, 3) := dk_180 0 148 (dk_at dksX6_question_4 8 rfl rfl)
theorem dX6_question_105 : decode cX6_question 105 = .ok (.ifCond .eq 11, 3) := dk_153 0 11 (dk_at dksX6_question_4 11 rfl rfl)
theorem dX6_question_108 : decode cX6_question 108 = .ok (.aload_n 0, 1) := dk_42 (dk_at dksX6_question_4 14 rfl rfl)
theorem dX6_question_109 : decode cX6_question 109 = .ok (.getfield 148, 3) := dk_180 0 148 (dk_at dksX6_question_4 15 rfl rfl)
theorem dX6_question_112 : decode cX6_question 112 = .ok (.bipush 10, 2) := dk_16 10 (dk_at dksX6_question_4 18 rfl rfl)
theorem dX6_question_114 : decode cX6_question 114 = .ok (.isub, 1) := dk_100 (dk_at dksX6_question_4 20 rfl rfl)
theorem dX6_question_115 : decode cX6_question 115 = .ok (.ireturn, 1) := dk_172 (dk_at dksX6_question_4 21 rfl rfl)
theorem dX6_question_116 : decode cX6_question 116 = .ok (.aload_n 0, 1) := dk_42 (dk_at dksX6_question_4 22 rfl rfl)
theorem dX6_question_117 : decode cX6_question 117 = .ok (.lload_n 2, 1) := dk_32 (dk_at dksX6_question_4 23 rfl rfl)
theorem dX6_question_118 : decode cX6_question 118 = .ok (.putfield 50, 3) := dk_181 0 50 (dk_at dksX6_question_5 0 rfl rfl)
theorem dX6_question_121 : decode cX6_question 121 = .ok (.lload_n 2, 1) := dk_32 (dk_at dksX6_question_5 3 rfl rfl)
theorem dX6_question_122 : decode cX6_question 122 = .ok (.invokestatic 249, 3) := dk_184 0 249 (dk_at dksX6_question_5 4 rfl rfl)
theorem dX6_question_125 : decode cX6_question 125 = .ok (.ireturn, 1) := dk_172 (dk_at dksX6_question_5 7 rfl rfl)
abbrev cX6_ones : ByteArray := prog_19_method_32_code
def yX6_ones : MethodName := ⟨RX6, "ones", "(J)I"⟩
def dkwX6_ones_1 : List UInt8 := [167, 255, 238, 28, 172]
abbrev dktX6_ones_1 : List UInt8 := dkwX6_ones_1 ++ []
def dkwX6_ones_0 : List UInt8 := [3, 61, 3, 62, 29, 16, 64, 162, 0, 18, 28, 30, 29, 123, 10, 127, 136, 96, 61, 132, 3, 1]
abbrev dktX6_ones_0 : List UInt8 := dkwX6_ones_0 ++ dktX6_ones_1
theorem dksX6_ones_0 : cX6_ones.data.toList.drop 0 = dktX6_ones_0 := by decide +kernel
theorem dksX6_ones_1 : cX6_ones.data.toList.drop 22 = dktX6_ones_1 := dk_seg dksX6_ones_0 22 rfl rfl
theorem dX6_ones_0 : decode cX6_ones 0 = .ok (.iconst 0, 1) := dk_3 (dk_at dksX6_ones_0 0 rfl rfl)
theorem dX6_ones_1 : decode cX6_ones 1 = .ok (.istore_n 2, 1) := dk_61 (dk_at dksX6_ones_0 1 rfl rfl)
theorem dX6_ones_2 : decode cX6_ones 2 = .ok (.iconst 0, 1) := dk_3 (dk_at dksX6_ones_0 2 rfl rfl)
theorem dX6_ones_3 : decode cX6_ones 3 = .ok (.istore_n 3, 1) := dk_62 (dk_at dksX6_ones_0 3 rfl rfl)
theorem dX6_ones_4 : decode cX6_ones 4 = .ok (.iload_n 3, 1) := dk_29 (dk_at dksX6_ones_0 4 rfl rfl)
theorem dX6_ones_5 : decode cX6_ones 5 = .ok (.bipush 64, 2) := dk_16 64 (dk_at dksX6_ones_0 5 rfl rfl)
theorem dX6_ones_7 : decode cX6_ones 7 = .ok (.if_icmp .ge 18, 3) := dk_162 0 18 (dk_at dksX6_ones_0 7 rfl rfl)
theorem dX6_ones_10 : decode cX6_ones 10 = .ok (.iload_n 2, 1) := dk_28 (dk_at dksX6_ones_0 10 rfl rfl)
theorem dX6_ones_11 : decode cX6_ones 11 = .ok (.lload_n 0, 1) := dk_30 (dk_at dksX6_ones_0 11 rfl rfl)
theorem dX6_ones_12 : decode cX6_ones 12 = .ok (.iload_n 3, 1) := dk_29 (dk_at dksX6_ones_0 12 rfl rfl)
theorem dX6_ones_13 : decode cX6_ones 13 = .ok (.lshr, 1) := dk_123 (dk_at dksX6_ones_0 13 rfl rfl)
theorem dX6_ones_14 : decode cX6_ones 14 = .ok (.lconst 1, 1) := dk_10 (dk_at dksX6_ones_0 14 rfl rfl)
theorem dX6_ones_15 : decode cX6_ones 15 = .ok (.land, 1) := dk_127 (dk_at dksX6_ones_0 15 rfl rfl)
theorem dX6_ones_16 : decode cX6_ones 16 = .ok (.l2i, 1) := dk_136 (dk_at dksX6_ones_0 16 rfl rfl)
theorem dX6_ones_17 : decode cX6_ones 17 = .ok (.iadd, 1) := dk_96 (dk_at dksX6_ones_0 17 rfl rfl)
theorem dX6_ones_18 : decode cX6_ones 18 = .ok (.istore_n 2, 1) := dk_61 (dk_at dksX6_ones_0 18 rfl rfl)
theorem dX6_ones_19 : decode cX6_ones 19 = .ok (.iinc 3 1, 3) := dk_132 3 1 (dk_at dksX6_ones_0 19 rfl rfl)
theorem dX6_ones_22 : decode cX6_ones 22 = .ok (.goto (-18), 3) := dk_167 255 238 (dk_at dksX6_ones_1 0 rfl rfl)
theorem dX6_ones_25 : decode cX6_ones 25 = .ok (.iload_n 2, 1) := dk_28 (dk_at dksX6_ones_1 3 rfl rfl)
theorem dX6_ones_26 : decode cX6_ones 26 = .ok (.ireturn, 1) := dk_172 (dk_at dksX6_ones_1 4 rfl rfl)
abbrev cX6_tongue : ByteArray := prog_19_method_43_code
def yX6_tongue : MethodName := ⟨RX6, "tongue", "(I)I"⟩
def dkwX6_tongue_9 : List UInt8 := [42, 180, 0, 243, 172]
abbrev dktX6_tongue_9 : List UInt8 := dkwX6_tongue_9 ++ []
def dkwX6_tongue_8 : List UInt8 := [28, 50, 29, 42, 180, 0, 71, 28, 50, 29, 46, 79, 132, 3, 1, 167, 255, 232, 132, 2, 1, 167, 255, 216]
abbrev dktX6_tongue_8 : List UInt8 := dkwX6_tongue_8 ++ dktX6_tongue_9
def dkwX6_tongue_7 : List UInt8 := [167, 255, 216, 3, 61, 28, 42, 180, 1, 33, 162, 0, 38, 3, 62, 29, 5, 162, 0, 25, 42, 180, 0, 68]
abbrev dktX6_tongue_7 : List UInt8 := dkwX6_tongue_7 ++ dktX6_tongue_8
def dkwX6_tongue_6 : List UInt8 := [180, 0, 62, 28, 50, 29, 42, 180, 0, 65, 28, 50, 29, 46, 79, 132, 3, 1, 167, 255, 232, 132, 2, 1]
abbrev dktX6_tongue_6 : List UInt8 := dkwX6_tongue_6 ++ dktX6_tongue_7
def dkwX6_tongue_5 : List UInt8 := [180, 0, 253, 181, 1, 33, 3, 61, 28, 42, 180, 0, 243, 162, 0, 38, 3, 62, 29, 6, 162, 0, 25, 42]
abbrev dktX6_tongue_5 : List UInt8 := dkwX6_tongue_5 ++ dktX6_tongue_6
def dkwX6_tongue_4 : List UInt8 := [180, 0, 148, 153, 0, 11, 42, 180, 0, 148, 16, 10, 100, 172, 42, 42, 180, 1, 27, 181, 0, 243, 42, 42]
abbrev dktX6_tongue_4 : List UInt8 := dkwX6_tongue_4 ++ dktX6_tongue_5
def dkwX6_tongue_3 : List UInt8 := [162, 0, 14, 42, 182, 1, 30, 42, 182, 0, 154, 167, 255, 230, 42, 42, 180, 0, 151, 181, 0, 9, 42]
abbrev dktX6_tongue_3 : List UInt8 := dkwX6_tongue_3 ++ dktX6_tongue_4
def dkwX6_tongue_2 : List UInt8 := [3, 181, 1, 27, 42, 3, 181, 0, 253, 42, 180, 0, 148, 154, 0, 25, 42, 180, 0, 141, 42, 180, 0, 138]
abbrev dktX6_tongue_2 : List UInt8 := dkwX6_tongue_2 ++ dktX6_tongue_3
def dkwX6_tongue_1 : List UInt8 := [164, 0, 7, 4, 167, 0, 4, 3, 4, 4, 182, 0, 233, 153, 0, 5, 3, 172, 42, 27, 182, 0, 237, 42]
abbrev dktX6_tongue_1 : List UInt8 := dkwX6_tongue_1 ++ dktX6_tongue_2
def dkwX6_tongue_0 : List UInt8 := [42, 3, 181, 0, 132, 42, 27, 3, 42, 180, 0, 135, 184, 0, 166, 153, 0, 10, 27, 17, 0, 200]
abbrev dktX6_tongue_0 : List UInt8 := dkwX6_tongue_0 ++ dktX6_tongue_1
theorem dksX6_tongue_0 : cX6_tongue.data.toList.drop 0 = dktX6_tongue_0 := by decide +kernel
theorem dksX6_tongue_1 : cX6_tongue.data.toList.drop 22 = dktX6_tongue_1 := dk_seg dksX6_tongue_0 22 rfl rfl
theorem dksX6_tongue_2 : cX6_tongue.data.toList.drop 46 = dktX6_tongue_2 := dk_seg dksX6_tongue_1 24 rfl rfl
theorem dksX6_tongue_3 : cX6_tongue.data.toList.drop 70 = dktX6_tongue_3 := dk_seg dksX6_tongue_2 24 rfl rfl
theorem dksX6_tongue_4 : cX6_tongue.data.toList.drop 93 = dktX6_tongue_4 := dk_seg dksX6_tongue_3 23 rfl rfl
theorem dksX6_tongue_5 : cX6_tongue.data.toList.drop 117 = dktX6_tongue_5 := dk_seg dksX6_tongue_4 24 rfl rfl
theorem dksX6_tongue_6 : cX6_tongue.data.toList.drop 141 = dktX6_tongue_6 := dk_seg dksX6_tongue_5 24 rfl rfl
theorem dksX6_tongue_7 : cX6_tongue.data.toList.drop 165 = dktX6_tongue_7 := dk_seg dksX6_tongue_6 24 rfl rfl
theorem dksX6_tongue_8 : cX6_tongue.data.toList.drop 189 = dktX6_tongue_8 := dk_seg dksX6_tongue_7 24 rfl rfl
theorem dksX6_tongue_9 : cX6_tongue.data.toList.drop 213 = dktX6_tongue_9 := dk_seg dksX6_tongue_8 24 rfl rfl
theorem dX6_tongue_0 : decode cX6_tongue 0 = .ok (.aload_n 0, 1) := dk_42 (dk_at dksX6_tongue_0 0 rfl rfl)
theorem dX6_tongue_1 : decode cX6_tongue 1 = .ok (.iconst 0, 1) := dk_3 (dk_at dksX6_tongue_0 1 rfl rfl)
theorem dX6_tongue_2 : decode cX6_tongue 2 = .ok (.putfield 132, 3) := dk_181 0 132 (dk_at dksX6_tongue_0 2 rfl rfl)
theorem dX6_tongue_5 : decode cX6_tongue 5 = .ok (.aload_n 0, 1) := dk_42 (dk_at dksX6_tongue_0 5 rfl rfl)
theorem dX6_tongue_6 : decode cX6_tongue 6 = .ok (.iload_n 1, 1) := dk_27 (dk_at dksX6_tongue_0 6 rfl rfl)
theorem dX6_tongue_7 : decode cX6_tongue 7 = .ok (.iconst 0, 1) := dk_3 (dk_at dksX6_tongue_0 7 rfl rfl)
theorem dX6_tongue_8 : decode cX6_tongue 8 = .ok (.aload_n 0, 1) := dk_42 (dk_at dksX6_tongue_0 8 rfl rfl)
theorem dX6_tongue_9 : decode cX6_tongue 9 = .ok (.getfield 135, 3) := dk_180 0 135 (dk_at dksX6_tongue_0 9 rfl rfl)
theorem dX6_tongue_12 : decode cX6_tongue 12 = .ok (.invokestatic 166, 3) := dk_184 0 166 (dk_at dksX6_tongue_0 12 rfl rfl)
theorem dX6_tongue_15 : decode cX6_tongue 15 = .ok (.ifCond .eq 10, 3) := dk_153 0 10 (dk_at dksX6_tongue_0 15 rfl rfl)
theorem dX6_tongue_18 : decode cX6_tongue 18 = .ok (.iload_n 1, 1) := dk_27 (dk_at dksX6_tongue_0 18 rfl rfl)
theorem dX6_tongue_19 : decode cX6_tongue 19 = .ok (.sipush 200, 3) := dk_17 0 200 (dk_at dksX6_tongue_0 19 rfl rfl)
theorem dX6_tongue_22 : decode cX6_tongue 22 = .ok (.if_icmp .le 7, 3) := dk_164 0 7 (dk_at dksX6_tongue_1 0 rfl rfl)
theorem dX6_tongue_25 : decode cX6_tongue 25 = .ok (.iconst 1, 1) := dk_4 (dk_at dksX6_tongue_1 3 rfl rfl)
theorem dX6_tongue_26 : decode cX6_tongue 26 = .ok (.goto 4, 3) := dk_167 0 4 (dk_at dksX6_tongue_1 4 rfl rfl)
theorem dX6_tongue_29 : decode cX6_tongue 29 = .ok (.iconst 0, 1) := dk_3 (dk_at dksX6_tongue_1 7 rfl rfl)
theorem dX6_tongue_30 : decode cX6_tongue 30 = .ok (.iconst 1, 1) := dk_4 (dk_at dksX6_tongue_1 8 rfl rfl)
theorem dX6_tongue_31 : decode cX6_tongue 31 = .ok (.iconst 1, 1) := dk_4 (dk_at dksX6_tongue_1 9 rfl rfl)
theorem dX6_tongue_32 : decode cX6_tongue 32 = .ok (.invokevirtual 233, 3) := dk_182 0 233 (dk_at dksX6_tongue_1 10 rfl rfl)
theorem dX6_tongue_35 : decode cX6_tongue 35 = .ok (.ifCond .eq 5, 3) := dk_153 0 5 (dk_at dksX6_tongue_1 13 rfl rfl)
theorem dX6_tongue_38 : decode cX6_tongue 38 = .ok (.iconst 0, 1) := dk_3 (dk_at dksX6_tongue_1 16 rfl rfl)
theorem dX6_tongue_39 : decode cX6_tongue 39 = .ok (.ireturn, 1) := dk_172 (dk_at dksX6_tongue_1 17 rfl rfl)
theorem dX6_tongue_40 : decode cX6_tongue 40 = .ok (.aload_n 0, 1) := dk_42 (dk_at dksX6_tongue_1 18 rfl rfl)
theorem dX6_tongue_41 : decode cX6_tongue 41 = .ok (.iload_n 1, 1) := dk_27 (dk_at dksX6_tongue_1 19 rfl rfl)
theorem dX6_tongue_42 : decode cX6_tongue 42 = .ok (.invokevirtual 237, 3) := dk_182 0 237 (dk_at dksX6_tongue_1 20 rfl rfl)
theorem dX6_tongue_45 : decode cX6_tongue 45 = .ok (.aload_n 0, 1) := dk_42 (dk_at dksX6_tongue_1 23 rfl rfl)
theorem dX6_tongue_46 : decode cX6_tongue 46 = .ok (.iconst 0, 1) := dk_3 (dk_at dksX6_tongue_2 0 rfl rfl)
theorem dX6_tongue_47 : decode cX6_tongue 47 = .ok (.putfield 283, 3) := dk_181 1 27 (dk_at dksX6_tongue_2 1 rfl rfl)
theorem dX6_tongue_50 : decode cX6_tongue 50 = .ok (.aload_n 0, 1) := dk_42 (dk_at dksX6_tongue_2 4 rfl rfl)
theorem dX6_tongue_51 : decode cX6_tongue 51 = .ok (.iconst 0, 1) := dk_3 (dk_at dksX6_tongue_2 5 rfl rfl)
theorem dX6_tongue_52 : decode cX6_tongue 52 = .ok (.putfield 253, 3) := dk_181 0 253 (dk_at dksX6_tongue_2 6 rfl rfl)
theorem dX6_tongue_55 : decode cX6_tongue 55 = .ok (.aload_n 0, 1) := dk_42 (dk_at dksX6_tongue_2 9 rfl rfl)
theorem dX6_tongue_56 : decode cX6_tongue 56 = .ok (.getfield 148, 3) := dk_180 0 148 (dk_at dksX6_tongue_2 10 rfl rfl)
theorem dX6_tongue_59 : decode cX6_tongue 59 = .ok (.ifCond .ne 25, 3) := dk_154 0 25 (dk_at dksX6_tongue_2 13 rfl rfl)
theorem dX6_tongue_62 : decode cX6_tongue 62 = .ok (.aload_n 0, 1) := dk_42 (dk_at dksX6_tongue_2 16 rfl rfl)
theorem dX6_tongue_63 : decode cX6_tongue 63 = .ok (.getfield 141, 3) := dk_180 0 141 (dk_at dksX6_tongue_2 17 rfl rfl)
theorem dX6_tongue_66 : decode cX6_tongue 66 = .ok (.aload_n 0, 1) := dk_42 (dk_at dksX6_tongue_2 20 rfl rfl)
theorem dX6_tongue_67 : decode cX6_tongue 67 = .ok (.getfield 138, 3) := dk_180 0 138 (dk_at dksX6_tongue_2 21 rfl rfl)
theorem dX6_tongue_70 : decode cX6_tongue 70 = .ok (.if_icmp .ge 14, 3) := dk_162 0 14 (dk_at dksX6_tongue_3 0 rfl rfl)
theorem dX6_tongue_73 : decode cX6_tongue 73 = .ok (.aload_n 0, 1) := dk_42 (dk_at dksX6_tongue_3 3 rfl rfl)
theorem dX6_tongue_74 : decode cX6_tongue 74 = .ok (.invokevirtual 286, 3) := dk_182 1 30 (dk_at dksX6_tongue_3 4 rfl rfl)
theorem dX6_tongue_77 : decode cX6_tongue 77 = .ok (.aload_n 0, 1) := dk_42 (dk_at dksX6_tongue_3 7 rfl rfl)
theorem dX6_tongue_78 : decode cX6_tongue 78 = .ok (.invokevirtual 154, 3) := dk_182 0 154 (dk_at dksX6_tongue_3 8 rfl rfl)
theorem dX6_tongue_81 : decode cX6_tongue 81 = .ok (.goto (-26), 3) := dk_167 255 230 (dk_at dksX6_tongue_3 11 rfl rfl)
theorem dX6_tongue_84 : decode cX6_tongue 84 = .ok (.aload_n 0, 1) := dk_42 (dk_at dksX6_tongue_3 14 rfl rfl)
theorem dX6_tongue_85 : decode cX6_tongue 85 = .ok (.aload_n 0, 1) := dk_42 (dk_at dksX6_tongue_3 15 rfl rfl)
theorem dX6_tongue_86 : decode cX6_tongue 86 = .ok (.getfield 151, 3) := dk_180 0 151 (dk_at dksX6_tongue_3 16 rfl rfl)
theorem dX6_tongue_89 : decode cX6_tongue 89 = .ok (.putfield 9, 3) := dk_181 0 9 (dk_at dksX6_tongue_3 19 rfl rfl)
theorem dX6_tongue_92 : decode cX6_tongue 92 = .ok (.aload_n 0, 1) := dk_42 (dk_at dksX6_tongue_3 22 rfl rfl)
theorem dX6_tongue_93 : decode cX6_tongue 93 = .ok (.getfield 148, 3) := dk_180 0 148 (dk_at dksX6_tongue_4 0 rfl rfl)
theorem dX6_tongue_96 : decode cX6_tongue 96 = .ok (.ifCond .eq 11, 3) := dk_153 0 11 (dk_at dksX6_tongue_4 3 rfl rfl)
theorem dX6_tongue_99 : decode cX6_tongue 99 = .ok (.aload_n 0, 1) := dk_42 (dk_at dksX6_tongue_4 6 rfl rfl)
theorem dX6_tongue_100 : decode cX6_tongue 100 = .ok (.getfield 148, 3) := dk_180 0 148 (dk_at dksX6_tongue_4 7 rfl rfl)
theorem dX6_tongue_103 : decode cX6_tongue 103 = .ok (.bipush 10, 2) := dk_16 10 (dk_at dksX6_tongue_4 10 rfl rfl)
theorem dX6_tongue_105 : decode cX6_tongue 105 = .ok (.isub, 1) := dk_100 (dk_at dksX6_tongue_4 12 rfl rfl)
theorem dX6_tongue_106 : decode cX6_tongue 106 = .ok (.ireturn, 1) := dk_172 (dk_at dksX6_tongue_4 13 rfl rfl)
theorem dX6_tongue_107 : decode cX6_tongue 107 = .ok (.aload_n 0, 1) := dk_42 (dk_at dksX6_tongue_4 14 rfl rfl)
theorem dX6_tongue_108 : decode cX6_tongue 108 = .ok (.aload_n 0, 1) := dk_42 (dk_at dksX6_tongue_4 15 rfl rfl)
theorem dX6_tongue_109 : decode cX6_tongue 109 = .ok (.getfield 283, 3) := dk_180 1 27 (dk_at dksX6_tongue_4 16 rfl rfl)
theorem dX6_tongue_112 : decode cX6_tongue 112 = .ok (.putfield 243, 3) := dk_181 0 243 (dk_at dksX6_tongue_4 19 rfl rfl)
theorem dX6_tongue_115 : decode cX6_tongue 115 = .ok (.aload_n 0, 1) := dk_42 (dk_at dksX6_tongue_4 22 rfl rfl)
theorem dX6_tongue_116 : decode cX6_tongue 116 = .ok (.aload_n 0, 1) := dk_42 (dk_at dksX6_tongue_4 23 rfl rfl)
theorem dX6_tongue_117 : decode cX6_tongue 117 = .ok (.getfield 253, 3) := dk_180 0 253 (dk_at dksX6_tongue_5 0 rfl rfl)
theorem dX6_tongue_120 : decode cX6_tongue 120 = .ok (.putfield 289, 3) := dk_181 1 33 (dk_at dksX6_tongue_5 3 rfl rfl)
theorem dX6_tongue_123 : decode cX6_tongue 123 = .ok (.iconst 0, 1) := dk_3 (dk_at dksX6_tongue_5 6 rfl rfl)
theorem dX6_tongue_124 : decode cX6_tongue 124 = .ok (.istore_n 2, 1) := dk_61 (dk_at dksX6_tongue_5 7 rfl rfl)
theorem dX6_tongue_125 : decode cX6_tongue 125 = .ok (.iload_n 2, 1) := dk_28 (dk_at dksX6_tongue_5 8 rfl rfl)
theorem dX6_tongue_126 : decode cX6_tongue 126 = .ok (.aload_n 0, 1) := dk_42 (dk_at dksX6_tongue_5 9 rfl rfl)
theorem dX6_tongue_127 : decode cX6_tongue 127 = .ok (.getfield 243, 3) := dk_180 0 243 (dk_at dksX6_tongue_5 10 rfl rfl)
theorem dX6_tongue_130 : decode cX6_tongue 130 = .ok (.if_icmp .ge 38, 3) := dk_162 0 38 (dk_at dksX6_tongue_5 13 rfl rfl)
theorem dX6_tongue_133 : decode cX6_tongue 133 = .ok (.iconst 0, 1) := dk_3 (dk_at dksX6_tongue_5 16 rfl rfl)
theorem dX6_tongue_134 : decode cX6_tongue 134 = .ok (.istore_n 3, 1) := dk_62 (dk_at dksX6_tongue_5 17 rfl rfl)
theorem dX6_tongue_135 : decode cX6_tongue 135 = .ok (.iload_n 3, 1) := dk_29 (dk_at dksX6_tongue_5 18 rfl rfl)
theorem dX6_tongue_136 : decode cX6_tongue 136 = .ok (.iconst 3, 1) := dk_6 (dk_at dksX6_tongue_5 19 rfl rfl)
theorem dX6_tongue_137 : decode cX6_tongue 137 = .ok (.if_icmp .ge 25, 3) := dk_162 0 25 (dk_at dksX6_tongue_5 20 rfl rfl)
theorem dX6_tongue_140 : decode cX6_tongue 140 = .ok (.aload_n 0, 1) := dk_42 (dk_at dksX6_tongue_5 23 rfl rfl)
theorem dX6_tongue_141 : decode cX6_tongue 141 = .ok (.getfield 62, 3) := dk_180 0 62 (dk_at dksX6_tongue_6 0 rfl rfl)
theorem dX6_tongue_144 : decode cX6_tongue 144 = .ok (.iload_n 2, 1) := dk_28 (dk_at dksX6_tongue_6 3 rfl rfl)
theorem dX6_tongue_145 : decode cX6_tongue 145 = .ok (.aaload, 1) := dk_50 (dk_at dksX6_tongue_6 4 rfl rfl)
theorem dX6_tongue_146 : decode cX6_tongue 146 = .ok (.iload_n 3, 1) := dk_29 (dk_at dksX6_tongue_6 5 rfl rfl)
theorem dX6_tongue_147 : decode cX6_tongue 147 = .ok (.aload_n 0, 1) := dk_42 (dk_at dksX6_tongue_6 6 rfl rfl)
theorem dX6_tongue_148 : decode cX6_tongue 148 = .ok (.getfield 65, 3) := dk_180 0 65 (dk_at dksX6_tongue_6 7 rfl rfl)
theorem dX6_tongue_151 : decode cX6_tongue 151 = .ok (.iload_n 2, 1) := dk_28 (dk_at dksX6_tongue_6 10 rfl rfl)
theorem dX6_tongue_152 : decode cX6_tongue 152 = .ok (.aaload, 1) := dk_50 (dk_at dksX6_tongue_6 11 rfl rfl)
theorem dX6_tongue_153 : decode cX6_tongue 153 = .ok (.iload_n 3, 1) := dk_29 (dk_at dksX6_tongue_6 12 rfl rfl)
theorem dX6_tongue_154 : decode cX6_tongue 154 = .ok (.iaload, 1) := dk_46 (dk_at dksX6_tongue_6 13 rfl rfl)
theorem dX6_tongue_155 : decode cX6_tongue 155 = .ok (.iastore, 1) := dk_79 (dk_at dksX6_tongue_6 14 rfl rfl)
theorem dX6_tongue_156 : decode cX6_tongue 156 = .ok (.iinc 3 1, 3) := dk_132 3 1 (dk_at dksX6_tongue_6 15 rfl rfl)
theorem dX6_tongue_159 : decode cX6_tongue 159 = .ok (.goto (-24), 3) := dk_167 255 232 (dk_at dksX6_tongue_6 18 rfl rfl)
theorem dX6_tongue_162 : decode cX6_tongue 162 = .ok (.iinc 2 1, 3) := dk_132 2 1 (dk_at dksX6_tongue_6 21 rfl rfl)
theorem dX6_tongue_165 : decode cX6_tongue 165 = .ok (.goto (-40), 3) := dk_167 255 216 (dk_at dksX6_tongue_7 0 rfl rfl)
theorem dX6_tongue_168 : decode cX6_tongue 168 = .ok (.iconst 0, 1) := dk_3 (dk_at dksX6_tongue_7 3 rfl rfl)
theorem dX6_tongue_169 : decode cX6_tongue 169 = .ok (.istore_n 2, 1) := dk_61 (dk_at dksX6_tongue_7 4 rfl rfl)
theorem dX6_tongue_170 : decode cX6_tongue 170 = .ok (.iload_n 2, 1) := dk_28 (dk_at dksX6_tongue_7 5 rfl rfl)
theorem dX6_tongue_171 : decode cX6_tongue 171 = .ok (.aload_n 0, 1) := dk_42 (dk_at dksX6_tongue_7 6 rfl rfl)
theorem dX6_tongue_172 : decode cX6_tongue 172 = .ok (.getfield 289, 3) := dk_180 1 33 (dk_at dksX6_tongue_7 7 rfl rfl)
theorem dX6_tongue_175 : decode cX6_tongue 175 = .ok (.if_icmp .ge 38, 3) := dk_162 0 38 (dk_at dksX6_tongue_7 10 rfl rfl)
theorem dX6_tongue_178 : decode cX6_tongue 178 = .ok (.iconst 0, 1) := dk_3 (dk_at dksX6_tongue_7 13 rfl rfl)
theorem dX6_tongue_179 : decode cX6_tongue 179 = .ok (.istore_n 3, 1) := dk_62 (dk_at dksX6_tongue_7 14 rfl rfl)
theorem dX6_tongue_180 : decode cX6_tongue 180 = .ok (.iload_n 3, 1) := dk_29 (dk_at dksX6_tongue_7 15 rfl rfl)
theorem dX6_tongue_181 : decode cX6_tongue 181 = .ok (.iconst 2, 1) := dk_5 (dk_at dksX6_tongue_7 16 rfl rfl)
theorem dX6_tongue_182 : decode cX6_tongue 182 = .ok (.if_icmp .ge 25, 3) := dk_162 0 25 (dk_at dksX6_tongue_7 17 rfl rfl)
theorem dX6_tongue_185 : decode cX6_tongue 185 = .ok (.aload_n 0, 1) := dk_42 (dk_at dksX6_tongue_7 20 rfl rfl)
theorem dX6_tongue_186 : decode cX6_tongue 186 = .ok (.getfield 68, 3) := dk_180 0 68 (dk_at dksX6_tongue_7 21 rfl rfl)
theorem dX6_tongue_189 : decode cX6_tongue 189 = .ok (.iload_n 2, 1) := dk_28 (dk_at dksX6_tongue_8 0 rfl rfl)
theorem dX6_tongue_190 : decode cX6_tongue 190 = .ok (.aaload, 1) := dk_50 (dk_at dksX6_tongue_8 1 rfl rfl)
theorem dX6_tongue_191 : decode cX6_tongue 191 = .ok (.iload_n 3, 1) := dk_29 (dk_at dksX6_tongue_8 2 rfl rfl)
theorem dX6_tongue_192 : decode cX6_tongue 192 = .ok (.aload_n 0, 1) := dk_42 (dk_at dksX6_tongue_8 3 rfl rfl)
theorem dX6_tongue_193 : decode cX6_tongue 193 = .ok (.getfield 71, 3) := dk_180 0 71 (dk_at dksX6_tongue_8 4 rfl rfl)
theorem dX6_tongue_196 : decode cX6_tongue 196 = .ok (.iload_n 2, 1) := dk_28 (dk_at dksX6_tongue_8 7 rfl rfl)
theorem dX6_tongue_197 : decode cX6_tongue 197 = .ok (.aaload, 1) := dk_50 (dk_at dksX6_tongue_8 8 rfl rfl)
theorem dX6_tongue_198 : decode cX6_tongue 198 = .ok (.iload_n 3, 1) := dk_29 (dk_at dksX6_tongue_8 9 rfl rfl)
theorem dX6_tongue_199 : decode cX6_tongue 199 = .ok (.iaload, 1) := dk_46 (dk_at dksX6_tongue_8 10 rfl rfl)
theorem dX6_tongue_200 : decode cX6_tongue 200 = .ok (.iastore, 1) := dk_79 (dk_at dksX6_tongue_8 11 rfl rfl)
theorem dX6_tongue_201 : decode cX6_tongue 201 = .ok (.iinc 3 1, 3) := dk_132 3 1 (dk_at dksX6_tongue_8 12 rfl rfl)
theorem dX6_tongue_204 : decode cX6_tongue 204 = .ok (.goto (-24), 3) := dk_167 255 232 (dk_at dksX6_tongue_8 15 rfl rfl)
theorem dX6_tongue_207 : decode cX6_tongue 207 = .ok (.iinc 2 1, 3) := dk_132 2 1 (dk_at dksX6_tongue_8 18 rfl rfl)
theorem dX6_tongue_210 : decode cX6_tongue 210 = .ok (.goto (-40), 3) := dk_167 255 216 (dk_at dksX6_tongue_8 21 rfl rfl)
theorem dX6_tongue_213 : decode cX6_tongue 213 = .ok (.aload_n 0, 1) := dk_42 (dk_at dksX6_tongue_9 0 rfl rfl)
theorem dX6_tongue_214 : decode cX6_tongue 214 = .ok (.getfield 243, 3) := dk_180 0 243 (dk_at dksX6_tongue_9 1 rfl rfl)
theorem dX6_tongue_217 : decode cX6_tongue 217 = .ok (.ireturn, 1) := dk_172 (dk_at dksX6_tongue_9 4 rfl rfl)
abbrev cX6_whoHere : ByteArray := prog_19_method_42_code
def yX6_whoHere : MethodName := ⟨RX6, "whoHere", "()V"⟩
def dkwX6_whoHere_7 : List UInt8 := [182, 0, 215, 177]
abbrev dktX6_whoHere_7 : List UInt8 := dkwX6_whoHere_7 ++ []
def dkwX6_whoHere_6 : List UInt8 := [180, 1, 27, 50, 5, 42, 180, 0, 253, 79, 42, 89, 180, 1, 27, 4, 96, 181, 1, 27, 42, 16, 59]
abbrev dktX6_whoHere_6 : List UInt8 := dkwX6_whoHere_6 ++ dktX6_whoHere_7
def dkwX6_whoHere_5 : List UInt8 := [42, 180, 0, 65, 42, 180, 1, 27, 50, 4, 42, 180, 0, 253, 79, 42, 182, 1, 9, 42, 180, 0, 65, 42]
abbrev dktX6_whoHere_5 : List UInt8 := dkwX6_whoHere_5 ++ dktX6_whoHere_6
def dkwX6_whoHere_4 : List UInt8 := [42, 180, 0, 148, 153, 0, 4, 177, 42, 182, 0, 185, 42, 180, 0, 65, 42, 180, 1, 27, 50, 3, 27, 79]
abbrev dktX6_whoHere_4 : List UInt8 := dkwX6_whoHere_4 ++ dktX6_whoHere_5
def dkwX6_whoHere_3 : List UInt8 := [182, 0, 161, 167, 0, 21, 42, 180, 1, 27, 16, 10, 160, 0, 12, 42, 6, 42, 180, 0, 141, 182, 0, 161]
abbrev dktX6_whoHere_3 : List UInt8 := dkwX6_whoHere_3 ++ dktX6_whoHere_4
def dkwX6_whoHere_2 : List UInt8 := [182, 0, 181, 153, 0, 7, 5, 167, 0, 4, 2, 60, 27, 2, 160, 0, 15, 42, 4, 42, 180, 0, 141]
abbrev dktX6_whoHere_2 : List UInt8 := dkwX6_whoHere_2 ++ dktX6_whoHere_3
def dkwX6_whoHere_1 : List UInt8 := [16, 23, 3, 3, 3, 182, 0, 181, 153, 0, 7, 4, 167, 0, 23, 42, 16, 15, 16, 12, 7, 3, 3, 3]
abbrev dktX6_whoHere_1 : List UInt8 := dkwX6_whoHere_1 ++ dktX6_whoHere_2
def dkwX6_whoHere_0 : List UInt8 := [42, 5, 16, 15, 16, 20, 16, 8, 3, 3, 182, 0, 181, 153, 0, 7, 3, 167, 0, 42, 42, 16, 14, 8]
abbrev dktX6_whoHere_0 : List UInt8 := dkwX6_whoHere_0 ++ dktX6_whoHere_1
theorem dksX6_whoHere_0 : cX6_whoHere.data.toList.drop 0 = dktX6_whoHere_0 := by decide +kernel
theorem dksX6_whoHere_1 : cX6_whoHere.data.toList.drop 24 = dktX6_whoHere_1 := dk_seg dksX6_whoHere_0 24 rfl rfl
theorem dksX6_whoHere_2 : cX6_whoHere.data.toList.drop 48 = dktX6_whoHere_2 := dk_seg dksX6_whoHere_1 24 rfl rfl
theorem dksX6_whoHere_3 : cX6_whoHere.data.toList.drop 71 = dktX6_whoHere_3 := dk_seg dksX6_whoHere_2 23 rfl rfl
theorem dksX6_whoHere_4 : cX6_whoHere.data.toList.drop 95 = dktX6_whoHere_4 := dk_seg dksX6_whoHere_3 24 rfl rfl
theorem dksX6_whoHere_5 : cX6_whoHere.data.toList.drop 119 = dktX6_whoHere_5 := dk_seg dksX6_whoHere_4 24 rfl rfl
theorem dksX6_whoHere_6 : cX6_whoHere.data.toList.drop 143 = dktX6_whoHere_6 := dk_seg dksX6_whoHere_5 24 rfl rfl
theorem dksX6_whoHere_7 : cX6_whoHere.data.toList.drop 166 = dktX6_whoHere_7 := dk_seg dksX6_whoHere_6 23 rfl rfl
theorem dX6_whoHere_0 : decode cX6_whoHere 0 = .ok (.aload_n 0, 1) := dk_42 (dk_at dksX6_whoHere_0 0 rfl rfl)
theorem dX6_whoHere_1 : decode cX6_whoHere 1 = .ok (.iconst 2, 1) := dk_5 (dk_at dksX6_whoHere_0 1 rfl rfl)
theorem dX6_whoHere_2 : decode cX6_whoHere 2 = .ok (.bipush 15, 2) := dk_16 15 (dk_at dksX6_whoHere_0 2 rfl rfl)
theorem dX6_whoHere_4 : decode cX6_whoHere 4 = .ok (.bipush 20, 2) := dk_16 20 (dk_at dksX6_whoHere_0 4 rfl rfl)
theorem dX6_whoHere_6 : decode cX6_whoHere 6 = .ok (.bipush 8, 2) := dk_16 8 (dk_at dksX6_whoHere_0 6 rfl rfl)
theorem dX6_whoHere_8 : decode cX6_whoHere 8 = .ok (.iconst 0, 1) := dk_3 (dk_at dksX6_whoHere_0 8 rfl rfl)
theorem dX6_whoHere_9 : decode cX6_whoHere 9 = .ok (.iconst 0, 1) := dk_3 (dk_at dksX6_whoHere_0 9 rfl rfl)
theorem dX6_whoHere_10 : decode cX6_whoHere 10 = .ok (.invokevirtual 181, 3) := dk_182 0 181 (dk_at dksX6_whoHere_0 10 rfl rfl)
theorem dX6_whoHere_13 : decode cX6_whoHere 13 = .ok (.ifCond .eq 7, 3) := dk_153 0 7 (dk_at dksX6_whoHere_0 13 rfl rfl)
theorem dX6_whoHere_16 : decode cX6_whoHere 16 = .ok (.iconst 0, 1) := dk_3 (dk_at dksX6_whoHere_0 16 rfl rfl)
theorem dX6_whoHere_17 : decode cX6_whoHere 17 = .ok (.goto 42, 3) := dk_167 0 42 (dk_at dksX6_whoHere_0 17 rfl rfl)
theorem dX6_whoHere_20 : decode cX6_whoHere 20 = .ok (.aload_n 0, 1) := dk_42 (dk_at dksX6_whoHere_0 20 rfl rfl)
theorem dX6_whoHere_21 : decode cX6_whoHere 21 = .ok (.bipush 14, 2) := dk_16 14 (dk_at dksX6_whoHere_0 21 rfl rfl)
theorem dX6_whoHere_23 : decode cX6_whoHere 23 = .ok (.iconst 5, 1) := dk_8 (dk_at dksX6_whoHere_0 23 rfl rfl)
theorem dX6_whoHere_24 : decode cX6_whoHere 24 = .ok (.bipush 23, 2) := dk_16 23 (dk_at dksX6_whoHere_1 0 rfl rfl)
theorem dX6_whoHere_26 : decode cX6_whoHere 26 = .ok (.iconst 0, 1) := dk_3 (dk_at dksX6_whoHere_1 2 rfl rfl)
theorem dX6_whoHere_27 : decode cX6_whoHere 27 = .ok (.iconst 0, 1) := dk_3 (dk_at dksX6_whoHere_1 3 rfl rfl)
theorem dX6_whoHere_28 : decode cX6_whoHere 28 = .ok (.iconst 0, 1) := dk_3 (dk_at dksX6_whoHere_1 4 rfl rfl)
theorem dX6_whoHere_29 : decode cX6_whoHere 29 = .ok (.invokevirtual 181, 3) := dk_182 0 181 (dk_at dksX6_whoHere_1 5 rfl rfl)
theorem dX6_whoHere_32 : decode cX6_whoHere 32 = .ok (.ifCond .eq 7, 3) := dk_153 0 7 (dk_at dksX6_whoHere_1 8 rfl rfl)
theorem dX6_whoHere_35 : decode cX6_whoHere 35 = .ok (.iconst 1, 1) := dk_4 (dk_at dksX6_whoHere_1 11 rfl rfl)
theorem dX6_whoHere_36 : decode cX6_whoHere 36 = .ok (.goto 23, 3) := dk_167 0 23 (dk_at dksX6_whoHere_1 12 rfl rfl)
theorem dX6_whoHere_39 : decode cX6_whoHere 39 = .ok (.aload_n 0, 1) := dk_42 (dk_at dksX6_whoHere_1 15 rfl rfl)
theorem dX6_whoHere_40 : decode cX6_whoHere 40 = .ok (.bipush 15, 2) := dk_16 15 (dk_at dksX6_whoHere_1 16 rfl rfl)
theorem dX6_whoHere_42 : decode cX6_whoHere 42 = .ok (.bipush 12, 2) := dk_16 12 (dk_at dksX6_whoHere_1 18 rfl rfl)
theorem dX6_whoHere_44 : decode cX6_whoHere 44 = .ok (.iconst 4, 1) := dk_7 (dk_at dksX6_whoHere_1 20 rfl rfl)
theorem dX6_whoHere_45 : decode cX6_whoHere 45 = .ok (.iconst 0, 1) := dk_3 (dk_at dksX6_whoHere_1 21 rfl rfl)
theorem dX6_whoHere_46 : decode cX6_whoHere 46 = .ok (.iconst 0, 1) := dk_3 (dk_at dksX6_whoHere_1 22 rfl rfl)
theorem dX6_whoHere_47 : decode cX6_whoHere 47 = .ok (.iconst 0, 1) := dk_3 (dk_at dksX6_whoHere_1 23 rfl rfl)
theorem dX6_whoHere_48 : decode cX6_whoHere 48 = .ok (.invokevirtual 181, 3) := dk_182 0 181 (dk_at dksX6_whoHere_2 0 rfl rfl)
theorem dX6_whoHere_51 : decode cX6_whoHere 51 = .ok (.ifCond .eq 7, 3) := dk_153 0 7 (dk_at dksX6_whoHere_2 3 rfl rfl)
theorem dX6_whoHere_54 : decode cX6_whoHere 54 = .ok (.iconst 2, 1) := dk_5 (dk_at dksX6_whoHere_2 6 rfl rfl)
theorem dX6_whoHere_55 : decode cX6_whoHere 55 = .ok (.goto 4, 3) := dk_167 0 4 (dk_at dksX6_whoHere_2 7 rfl rfl)
theorem dX6_whoHere_58 : decode cX6_whoHere 58 = .ok (.iconst (-1), 1) := dk_2 (dk_at dksX6_whoHere_2 10 rfl rfl)
theorem dX6_whoHere_59 : decode cX6_whoHere 59 = .ok (.istore_n 1, 1) := dk_60 (dk_at dksX6_whoHere_2 11 rfl rfl)
theorem dX6_whoHere_60 : decode cX6_whoHere 60 = .ok (.iload_n 1, 1) := dk_27 (dk_at dksX6_whoHere_2 12 rfl rfl)
theorem dX6_whoHere_61 : decode cX6_whoHere 61 = .ok (.iconst (-1), 1) := dk_2 (dk_at dksX6_whoHere_2 13 rfl rfl)
theorem dX6_whoHere_62 : decode cX6_whoHere 62 = .ok (.if_icmp .ne 15, 3) := dk_160 0 15 (dk_at dksX6_whoHere_2 14 rfl rfl)
theorem dX6_whoHere_65 : decode cX6_whoHere 65 = .ok (.aload_n 0, 1) := dk_42 (dk_at dksX6_whoHere_2 17 rfl rfl)
theorem dX6_whoHere_66 : decode cX6_whoHere 66 = .ok (.iconst 1, 1) := dk_4 (dk_at dksX6_whoHere_2 18 rfl rfl)
theorem dX6_whoHere_67 : decode cX6_whoHere 67 = .ok (.aload_n 0, 1) := dk_42 (dk_at dksX6_whoHere_2 19 rfl rfl)
theorem dX6_whoHere_68 : decode cX6_whoHere 68 = .ok (.getfield 141, 3) := dk_180 0 141 (dk_at dksX6_whoHere_2 20 rfl rfl)
theorem dX6_whoHere_71 : decode cX6_whoHere 71 = .ok (.invokevirtual 161, 3) := dk_182 0 161 (dk_at dksX6_whoHere_3 0 rfl rfl)
theorem dX6_whoHere_74 : decode cX6_whoHere 74 = .ok (.goto 21, 3) := dk_167 0 21 (dk_at dksX6_whoHere_3 3 rfl rfl)
theorem dX6_whoHere_77 : decode cX6_whoHere 77 = .ok (.aload_n 0, 1) := dk_42 (dk_at dksX6_whoHere_3 6 rfl rfl)
theorem dX6_whoHere_78 : decode cX6_whoHere 78 = .ok (.getfield 283, 3) := dk_180 1 27 (dk_at dksX6_whoHere_3 7 rfl rfl)
theorem dX6_whoHere_81 : decode cX6_whoHere 81 = .ok (.bipush 10, 2) := dk_16 10 (dk_at dksX6_whoHere_3 10 rfl rfl)
theorem dX6_whoHere_83 : decode cX6_whoHere 83 = .ok (.if_icmp .ne 12, 3) := dk_160 0 12 (dk_at dksX6_whoHere_3 12 rfl rfl)
theorem dX6_whoHere_86 : decode cX6_whoHere 86 = .ok (.aload_n 0, 1) := dk_42 (dk_at dksX6_whoHere_3 15 rfl rfl)
theorem dX6_whoHere_87 : decode cX6_whoHere 87 = .ok (.iconst 3, 1) := dk_6 (dk_at dksX6_whoHere_3 16 rfl rfl)
theorem dX6_whoHere_88 : decode cX6_whoHere 88 = .ok (.aload_n 0, 1) := dk_42 (dk_at dksX6_whoHere_3 17 rfl rfl)
theorem dX6_whoHere_89 : decode cX6_whoHere 89 = .ok (.getfield 141, 3) := dk_180 0 141 (dk_at dksX6_whoHere_3 18 rfl rfl)
theorem dX6_whoHere_92 : decode cX6_whoHere 92 = .ok (.invokevirtual 161, 3) := dk_182 0 161 (dk_at dksX6_whoHere_3 21 rfl rfl)
theorem dX6_whoHere_95 : decode cX6_whoHere 95 = .ok (.aload_n 0, 1) := dk_42 (dk_at dksX6_whoHere_4 0 rfl rfl)
theorem dX6_whoHere_96 : decode cX6_whoHere 96 = .ok (.getfield 148, 3) := dk_180 0 148 (dk_at dksX6_whoHere_4 1 rfl rfl)
theorem dX6_whoHere_99 : decode cX6_whoHere 99 = .ok (.ifCond .eq 4, 3) := dk_153 0 4 (dk_at dksX6_whoHere_4 4 rfl rfl)
theorem dX6_whoHere_102 : decode cX6_whoHere 102 = .ok (.return_, 1) := dk_177 (dk_at dksX6_whoHere_4 7 rfl rfl)
theorem dX6_whoHere_103 : decode cX6_whoHere 103 = .ok (.aload_n 0, 1) := dk_42 (dk_at dksX6_whoHere_4 8 rfl rfl)
theorem dX6_whoHere_104 : decode cX6_whoHere 104 = .ok (.invokevirtual 185, 3) := dk_182 0 185 (dk_at dksX6_whoHere_4 9 rfl rfl)
theorem dX6_whoHere_107 : decode cX6_whoHere 107 = .ok (.aload_n 0, 1) := dk_42 (dk_at dksX6_whoHere_4 12 rfl rfl)
theorem dX6_whoHere_108 : decode cX6_whoHere 108 = .ok (.getfield 65, 3) := dk_180 0 65 (dk_at dksX6_whoHere_4 13 rfl rfl)
theorem dX6_whoHere_111 : decode cX6_whoHere 111 = .ok (.aload_n 0, 1) := dk_42 (dk_at dksX6_whoHere_4 16 rfl rfl)
theorem dX6_whoHere_112 : decode cX6_whoHere 112 = .ok (.getfield 283, 3) := dk_180 1 27 (dk_at dksX6_whoHere_4 17 rfl rfl)
theorem dX6_whoHere_115 : decode cX6_whoHere 115 = .ok (.aaload, 1) := dk_50 (dk_at dksX6_whoHere_4 20 rfl rfl)
theorem dX6_whoHere_116 : decode cX6_whoHere 116 = .ok (.iconst 0, 1) := dk_3 (dk_at dksX6_whoHere_4 21 rfl rfl)
theorem dX6_whoHere_117 : decode cX6_whoHere 117 = .ok (.iload_n 1, 1) := dk_27 (dk_at dksX6_whoHere_4 22 rfl rfl)
theorem dX6_whoHere_118 : decode cX6_whoHere 118 = .ok (.iastore, 1) := dk_79 (dk_at dksX6_whoHere_4 23 rfl rfl)
theorem dX6_whoHere_119 : decode cX6_whoHere 119 = .ok (.aload_n 0, 1) := dk_42 (dk_at dksX6_whoHere_5 0 rfl rfl)
theorem dX6_whoHere_120 : decode cX6_whoHere 120 = .ok (.getfield 65, 3) := dk_180 0 65 (dk_at dksX6_whoHere_5 1 rfl rfl)
theorem dX6_whoHere_123 : decode cX6_whoHere 123 = .ok (.aload_n 0, 1) := dk_42 (dk_at dksX6_whoHere_5 4 rfl rfl)
theorem dX6_whoHere_124 : decode cX6_whoHere 124 = .ok (.getfield 283, 3) := dk_180 1 27 (dk_at dksX6_whoHere_5 5 rfl rfl)
theorem dX6_whoHere_127 : decode cX6_whoHere 127 = .ok (.aaload, 1) := dk_50 (dk_at dksX6_whoHere_5 8 rfl rfl)
theorem dX6_whoHere_128 : decode cX6_whoHere 128 = .ok (.iconst 1, 1) := dk_4 (dk_at dksX6_whoHere_5 9 rfl rfl)
theorem dX6_whoHere_129 : decode cX6_whoHere 129 = .ok (.aload_n 0, 1) := dk_42 (dk_at dksX6_whoHere_5 10 rfl rfl)
theorem dX6_whoHere_130 : decode cX6_whoHere 130 = .ok (.getfield 253, 3) := dk_180 0 253 (dk_at dksX6_whoHere_5 11 rfl rfl)
theorem dX6_whoHere_133 : decode cX6_whoHere 133 = .ok (.iastore, 1) := dk_79 (dk_at dksX6_whoHere_5 14 rfl rfl)
theorem dX6_whoHere_134 : decode cX6_whoHere 134 = .ok (.aload_n 0, 1) := dk_42 (dk_at dksX6_whoHere_5 15 rfl rfl)
theorem dX6_whoHere_135 : decode cX6_whoHere 135 = .ok (.invokevirtual 265, 3) := dk_182 1 9 (dk_at dksX6_whoHere_5 16 rfl rfl)
theorem dX6_whoHere_138 : decode cX6_whoHere 138 = .ok (.aload_n 0, 1) := dk_42 (dk_at dksX6_whoHere_5 19 rfl rfl)
theorem dX6_whoHere_139 : decode cX6_whoHere 139 = .ok (.getfield 65, 3) := dk_180 0 65 (dk_at dksX6_whoHere_5 20 rfl rfl)
theorem dX6_whoHere_142 : decode cX6_whoHere 142 = .ok (.aload_n 0, 1) := dk_42 (dk_at dksX6_whoHere_5 23 rfl rfl)
theorem dX6_whoHere_143 : decode cX6_whoHere 143 = .ok (.getfield 283, 3) := dk_180 1 27 (dk_at dksX6_whoHere_6 0 rfl rfl)
theorem dX6_whoHere_146 : decode cX6_whoHere 146 = .ok (.aaload, 1) := dk_50 (dk_at dksX6_whoHere_6 3 rfl rfl)
theorem dX6_whoHere_147 : decode cX6_whoHere 147 = .ok (.iconst 2, 1) := dk_5 (dk_at dksX6_whoHere_6 4 rfl rfl)
theorem dX6_whoHere_148 : decode cX6_whoHere 148 = .ok (.aload_n 0, 1) := dk_42 (dk_at dksX6_whoHere_6 5 rfl rfl)
theorem dX6_whoHere_149 : decode cX6_whoHere 149 = .ok (.getfield 253, 3) := dk_180 0 253 (dk_at dksX6_whoHere_6 6 rfl rfl)
theorem dX6_whoHere_152 : decode cX6_whoHere 152 = .ok (.iastore, 1) := dk_79 (dk_at dksX6_whoHere_6 9 rfl rfl)
theorem dX6_whoHere_153 : decode cX6_whoHere 153 = .ok (.aload_n 0, 1) := dk_42 (dk_at dksX6_whoHere_6 10 rfl rfl)
theorem dX6_whoHere_154 : decode cX6_whoHere 154 = .ok (.dup, 1) := dk_89 (dk_at dksX6_whoHere_6 11 rfl rfl)
theorem dX6_whoHere_155 : decode cX6_whoHere 155 = .ok (.getfield 283, 3) := dk_180 1 27 (dk_at dksX6_whoHere_6 12 rfl rfl)
theorem dX6_whoHere_158 : decode cX6_whoHere 158 = .ok (.iconst 1, 1) := dk_4 (dk_at dksX6_whoHere_6 15 rfl rfl)
theorem dX6_whoHere_159 : decode cX6_whoHere 159 = .ok (.iadd, 1) := dk_96 (dk_at dksX6_whoHere_6 16 rfl rfl)
theorem dX6_whoHere_160 : decode cX6_whoHere 160 = .ok (.putfield 283, 3) := dk_181 1 27 (dk_at dksX6_whoHere_6 17 rfl rfl)
theorem dX6_whoHere_163 : decode cX6_whoHere 163 = .ok (.aload_n 0, 1) := dk_42 (dk_at dksX6_whoHere_6 20 rfl rfl)
theorem dX6_whoHere_164 : decode cX6_whoHere 164 = .ok (.bipush 59, 2) := dk_16 59 (dk_at dksX6_whoHere_6 21 rfl rfl)
theorem dX6_whoHere_166 : decode cX6_whoHere 166 = .ok (.invokevirtual 215, 3) := dk_182 0 215 (dk_at dksX6_whoHere_7 0 rfl rfl)
theorem dX6_whoHere_169 : decode cX6_whoHere 169 = .ok (.return_, 1) := dk_177 (dk_at dksX6_whoHere_7 3 rfl rfl)
abbrev cX6_tongueAny : ByteArray := prog_19_method_35_code
def yX6_tongueAny : MethodName := ⟨RX6, "tongueAny", "()V"⟩
def dkwX6_tongueAny_1 : List UInt8 := [16, 10, 3, 182, 1, 3, 167, 255, 230, 177]
abbrev dktX6_tongueAny_1 : List UInt8 := dkwX6_tongueAny_1 ++ []
def dkwX6_tongueAny_0 : List UInt8 := [42, 182, 1, 0, 42, 16, 15, 16, 18, 3, 3, 3, 3, 182, 0, 198, 153, 0, 17, 42, 182, 1, 0, 42]
abbrev dktX6_tongueAny_0 : List UInt8 := dkwX6_tongueAny_0 ++ dktX6_tongueAny_1
theorem dksX6_tongueAny_0 : cX6_tongueAny.data.toList.drop 0 = dktX6_tongueAny_0 := by decide +kernel
theorem dksX6_tongueAny_1 : cX6_tongueAny.data.toList.drop 24 = dktX6_tongueAny_1 := dk_seg dksX6_tongueAny_0 24 rfl rfl
theorem dX6_tongueAny_0 : decode cX6_tongueAny 0 = .ok (.aload_n 0, 1) := dk_42 (dk_at dksX6_tongueAny_0 0 rfl rfl)
theorem dX6_tongueAny_1 : decode cX6_tongueAny 1 = .ok (.invokevirtual 256, 3) := dk_182 1 0 (dk_at dksX6_tongueAny_0 1 rfl rfl)
theorem dX6_tongueAny_4 : decode cX6_tongueAny 4 = .ok (.aload_n 0, 1) := dk_42 (dk_at dksX6_tongueAny_0 4 rfl rfl)
theorem dX6_tongueAny_5 : decode cX6_tongueAny 5 = .ok (.bipush 15, 2) := dk_16 15 (dk_at dksX6_tongueAny_0 5 rfl rfl)
theorem dX6_tongueAny_7 : decode cX6_tongueAny 7 = .ok (.bipush 18, 2) := dk_16 18 (dk_at dksX6_tongueAny_0 7 rfl rfl)
theorem dX6_tongueAny_9 : decode cX6_tongueAny 9 = .ok (.iconst 0, 1) := dk_3 (dk_at dksX6_tongueAny_0 9 rfl rfl)
theorem dX6_tongueAny_10 : decode cX6_tongueAny 10 = .ok (.iconst 0, 1) := dk_3 (dk_at dksX6_tongueAny_0 10 rfl rfl)
theorem dX6_tongueAny_11 : decode cX6_tongueAny 11 = .ok (.iconst 0, 1) := dk_3 (dk_at dksX6_tongueAny_0 11 rfl rfl)
theorem dX6_tongueAny_12 : decode cX6_tongueAny 12 = .ok (.iconst 0, 1) := dk_3 (dk_at dksX6_tongueAny_0 12 rfl rfl)
theorem dX6_tongueAny_13 : decode cX6_tongueAny 13 = .ok (.invokevirtual 198, 3) := dk_182 0 198 (dk_at dksX6_tongueAny_0 13 rfl rfl)
theorem dX6_tongueAny_16 : decode cX6_tongueAny 16 = .ok (.ifCond .eq 17, 3) := dk_153 0 17 (dk_at dksX6_tongueAny_0 16 rfl rfl)
theorem dX6_tongueAny_19 : decode cX6_tongueAny 19 = .ok (.aload_n 0, 1) := dk_42 (dk_at dksX6_tongueAny_0 19 rfl rfl)
theorem dX6_tongueAny_20 : decode cX6_tongueAny 20 = .ok (.invokevirtual 256, 3) := dk_182 1 0 (dk_at dksX6_tongueAny_0 20 rfl rfl)
theorem dX6_tongueAny_23 : decode cX6_tongueAny 23 = .ok (.aload_n 0, 1) := dk_42 (dk_at dksX6_tongueAny_0 23 rfl rfl)
theorem dX6_tongueAny_24 : decode cX6_tongueAny 24 = .ok (.bipush 10, 2) := dk_16 10 (dk_at dksX6_tongueAny_1 0 rfl rfl)
theorem dX6_tongueAny_26 : decode cX6_tongueAny 26 = .ok (.iconst 0, 1) := dk_3 (dk_at dksX6_tongueAny_1 2 rfl rfl)
theorem dX6_tongueAny_27 : decode cX6_tongueAny 27 = .ok (.invokevirtual 259, 3) := dk_182 1 3 (dk_at dksX6_tongueAny_1 3 rfl rfl)
theorem dX6_tongueAny_30 : decode cX6_tongueAny 30 = .ok (.goto (-26), 3) := dk_167 255 230 (dk_at dksX6_tongueAny_1 6 rfl rfl)
theorem dX6_tongueAny_33 : decode cX6_tongueAny 33 = .ok (.return_, 1) := dk_177 (dk_at dksX6_tongueAny_1 9 rfl rfl)
abbrev cX6_tongueEach : ByteArray := prog_19_method_36_code
def yX6_tongueEach : MethodName := ⟨RX6, "tongueEach", "()V"⟩
def dkwX6_tongueEach_1 : List UInt8 := [16, 9, 3, 182, 1, 3, 167, 255, 231, 177]
abbrev dktX6_tongueEach_1 : List UInt8 := dkwX6_tongueEach_1 ++ []
def dkwX6_tongueEach_0 : List UInt8 := [42, 182, 1, 6, 42, 4, 16, 14, 7, 3, 3, 3, 182, 0, 198, 153, 0, 17, 42, 182, 1, 6, 42]
abbrev dktX6_tongueEach_0 : List UInt8 := dkwX6_tongueEach_0 ++ dktX6_tongueEach_1
theorem dksX6_tongueEach_0 : cX6_tongueEach.data.toList.drop 0 = dktX6_tongueEach_0 := by decide +kernel
theorem dksX6_tongueEach_1 : cX6_tongueEach.data.toList.drop 23 = dktX6_tongueEach_1 := dk_seg dksX6_tongueEach_0 23 rfl rfl
theorem dX6_tongueEach_0 : decode cX6_tongueEach 0 = .ok (.aload_n 0, 1) := dk_42 (dk_at dksX6_tongueEach_0 0 rfl rfl)
theorem dX6_tongueEach_1 : decode cX6_tongueEach 1 = .ok (.invokevirtual 262, 3) := dk_182 1 6 (dk_at dksX6_tongueEach_0 1 rfl rfl)
theorem dX6_tongueEach_4 : decode cX6_tongueEach 4 = .ok (.aload_n 0, 1) := dk_42 (dk_at dksX6_tongueEach_0 4 rfl rfl)
theorem dX6_tongueEach_5 : decode cX6_tongueEach 5 = .ok (.iconst 1, 1) := dk_4 (dk_at dksX6_tongueEach_0 5 rfl rfl)
theorem dX6_tongueEach_6 : decode cX6_tongueEach 6 = .ok (.bipush 14, 2) := dk_16 14 (dk_at dksX6_tongueEach_0 6 rfl rfl)
theorem dX6_tongueEach_8 : decode cX6_tongueEach 8 = .ok (.iconst 4, 1) := dk_7 (dk_at dksX6_tongueEach_0 8 rfl rfl)
theorem dX6_tongueEach_9 : decode cX6_tongueEach 9 = .ok (.iconst 0, 1) := dk_3 (dk_at dksX6_tongueEach_0 9 rfl rfl)
theorem dX6_tongueEach_10 : decode cX6_tongueEach 10 = .ok (.iconst 0, 1) := dk_3 (dk_at dksX6_tongueEach_0 10 rfl rfl)
theorem dX6_tongueEach_11 : decode cX6_tongueEach 11 = .ok (.iconst 0, 1) := dk_3 (dk_at dksX6_tongueEach_0 11 rfl rfl)
theorem dX6_tongueEach_12 : decode cX6_tongueEach 12 = .ok (.invokevirtual 198, 3) := dk_182 0 198 (dk_at dksX6_tongueEach_0 12 rfl rfl)
theorem dX6_tongueEach_15 : decode cX6_tongueEach 15 = .ok (.ifCond .eq 17, 3) := dk_153 0 17 (dk_at dksX6_tongueEach_0 15 rfl rfl)
theorem dX6_tongueEach_18 : decode cX6_tongueEach 18 = .ok (.aload_n 0, 1) := dk_42 (dk_at dksX6_tongueEach_0 18 rfl rfl)
theorem dX6_tongueEach_19 : decode cX6_tongueEach 19 = .ok (.invokevirtual 262, 3) := dk_182 1 6 (dk_at dksX6_tongueEach_0 19 rfl rfl)
theorem dX6_tongueEach_22 : decode cX6_tongueEach 22 = .ok (.aload_n 0, 1) := dk_42 (dk_at dksX6_tongueEach_0 22 rfl rfl)
theorem dX6_tongueEach_23 : decode cX6_tongueEach 23 = .ok (.bipush 9, 2) := dk_16 9 (dk_at dksX6_tongueEach_1 0 rfl rfl)
theorem dX6_tongueEach_25 : decode cX6_tongueEach 25 = .ok (.iconst 0, 1) := dk_3 (dk_at dksX6_tongueEach_1 2 rfl rfl)
theorem dX6_tongueEach_26 : decode cX6_tongueEach 26 = .ok (.invokevirtual 259, 3) := dk_182 1 3 (dk_at dksX6_tongueEach_1 3 rfl rfl)
theorem dX6_tongueEach_29 : decode cX6_tongueEach 29 = .ok (.goto (-25), 3) := dk_167 255 231 (dk_at dksX6_tongueEach_1 6 rfl rfl)
theorem dX6_tongueEach_32 : decode cX6_tongueEach 32 = .ok (.return_, 1) := dk_177 (dk_at dksX6_tongueEach_1 9 rfl rfl)
abbrev cX6_tongueOne : ByteArray := prog_19_method_37_code
def yX6_tongueOne : MethodName := ⟨RX6, "tongueOne", "()V"⟩
def dkwX6_tongueOne_8 : List UInt8 := [177]
abbrev dktX6_tongueOne_8 : List UInt8 := dkwX6_tongueOne_8 ++ []
def dkwX6_tongueOne_7 : List UInt8 := [27, 2, 160, 0, 12, 42, 4, 42, 180, 0, 141, 182, 0, 161, 42, 182, 1, 12, 42, 27, 3, 182, 1, 3]
abbrev dktX6_tongueOne_7 : List UInt8 := dkwX6_tongueOne_7 ++ dktX6_tongueOne_8
def dkwX6_tongueOne_6 : List UInt8 := [153, 0, 8, 16, 6, 167, 0, 18, 42, 16, 61, 182, 1, 15, 153, 0, 8, 16, 7, 167, 0, 4, 2, 60]
abbrev dktX6_tongueOne_6 : List UInt8 := dkwX6_tongueOne_6 ++ dktX6_tongueOne_7
def dkwX6_tongueOne_5 : List UInt8 := [42, 182, 1, 12, 42, 16, 60, 182, 1, 15, 153, 0, 7, 8, 167, 0, 32, 42, 16, 62, 182, 1, 15]
abbrev dktX6_tongueOne_5 : List UInt8 := dkwX6_tongueOne_5 ++ dktX6_tongueOne_6
def dkwX6_tongueOne_4 : List UInt8 := [181, 0, 141, 42, 182, 1, 9, 42, 16, 93, 182, 0, 215, 42, 89, 180, 0, 188, 4, 100, 181, 0, 188, 177]
abbrev dktX6_tongueOne_4 : List UInt8 := dkwX6_tongueOne_4 ++ dktX6_tongueOne_5
def dkwX6_tongueOne_3 : List UInt8 := [182, 0, 144, 16, 91, 160, 0, 42, 42, 182, 0, 208, 154, 0, 4, 177, 42, 89, 180, 0, 141, 4, 96]
abbrev dktX6_tongueOne_3 : List UInt8 := dkwX6_tongueOne_3 ++ dktX6_tongueOne_4
def dkwX6_tongueOne_2 : List UInt8 := [16, 8, 3, 182, 1, 3, 42, 89, 180, 0, 188, 4, 100, 181, 0, 188, 177, 42, 42, 180, 0, 141]
abbrev dktX6_tongueOne_2 : List UInt8 := dkwX6_tongueOne_2 ++ dktX6_tongueOne_3
def dkwX6_tongueOne_1 : List UInt8 := [182, 0, 181, 153, 0, 37, 42, 182, 0, 208, 154, 0, 4, 177, 42, 182, 0, 185, 42, 182, 1, 6, 42]
abbrev dktX6_tongueOne_1 : List UInt8 := dkwX6_tongueOne_1 ++ dktX6_tongueOne_2
def dkwX6_tongueOne_0 : List UInt8 := [42, 180, 0, 148, 153, 0, 4, 177, 42, 182, 0, 154, 42, 16, 14, 16, 15, 16, 20, 3, 3, 3]
abbrev dktX6_tongueOne_0 : List UInt8 := dkwX6_tongueOne_0 ++ dktX6_tongueOne_1
theorem dksX6_tongueOne_0 : cX6_tongueOne.data.toList.drop 0 = dktX6_tongueOne_0 := by decide +kernel
theorem dksX6_tongueOne_1 : cX6_tongueOne.data.toList.drop 22 = dktX6_tongueOne_1 := dk_seg dksX6_tongueOne_0 22 rfl rfl
theorem dksX6_tongueOne_2 : cX6_tongueOne.data.toList.drop 45 = dktX6_tongueOne_2 := dk_seg dksX6_tongueOne_1 23 rfl rfl
theorem dksX6_tongueOne_3 : cX6_tongueOne.data.toList.drop 67 = dktX6_tongueOne_3 := dk_seg dksX6_tongueOne_2 22 rfl rfl
theorem dksX6_tongueOne_4 : cX6_tongueOne.data.toList.drop 90 = dktX6_tongueOne_4 := dk_seg dksX6_tongueOne_3 23 rfl rfl
theorem dksX6_tongueOne_5 : cX6_tongueOne.data.toList.drop 114 = dktX6_tongueOne_5 := dk_seg dksX6_tongueOne_4 24 rfl rfl
theorem dksX6_tongueOne_6 : cX6_tongueOne.data.toList.drop 137 = dktX6_tongueOne_6 := dk_seg dksX6_tongueOne_5 23 rfl rfl
theorem dksX6_tongueOne_7 : cX6_tongueOne.data.toList.drop 161 = dktX6_tongueOne_7 := dk_seg dksX6_tongueOne_6 24 rfl rfl
theorem dksX6_tongueOne_8 : cX6_tongueOne.data.toList.drop 185 = dktX6_tongueOne_8 := dk_seg dksX6_tongueOne_7 24 rfl rfl
theorem dX6_tongueOne_0 : decode cX6_tongueOne 0 = .ok (.aload_n 0, 1) := dk_42 (dk_at dksX6_tongueOne_0 0 rfl rfl)
theorem dX6_tongueOne_1 : decode cX6_tongueOne 1 = .ok (.getfield 148, 3) := dk_180 0 148 (dk_at dksX6_tongueOne_0 1 rfl rfl)
theorem dX6_tongueOne_4 : decode cX6_tongueOne 4 = .ok (.ifCond .eq 4, 3) := dk_153 0 4 (dk_at dksX6_tongueOne_0 4 rfl rfl)
theorem dX6_tongueOne_7 : decode cX6_tongueOne 7 = .ok (.return_, 1) := dk_177 (dk_at dksX6_tongueOne_0 7 rfl rfl)
theorem dX6_tongueOne_8 : decode cX6_tongueOne 8 = .ok (.aload_n 0, 1) := dk_42 (dk_at dksX6_tongueOne_0 8 rfl rfl)
theorem dX6_tongueOne_9 : decode cX6_tongueOne 9 = .ok (.invokevirtual 154, 3) := dk_182 0 154 (dk_at dksX6_tongueOne_0 9 rfl rfl)
theorem dX6_tongueOne_12 : decode cX6_tongueOne 12 = .ok (.aload_n 0, 1) := dk_42 (dk_at dksX6_tongueOne_0 12 rfl rfl)
theorem dX6_tongueOne_13 : decode cX6_tongueOne 13 = .ok (.bipush 14, 2) := dk_16 14 (dk_at dksX6_tongueOne_0 13 rfl rfl)
theorem dX6_tongueOne_15 : decode cX6_tongueOne 15 = .ok (.bipush 15, 2) := dk_16 15 (dk_at dksX6_tongueOne_0 15 rfl rfl)
theorem dX6_tongueOne_17 : decode cX6_tongueOne 17 = .ok (.bipush 20, 2) := dk_16 20 (dk_at dksX6_tongueOne_0 17 rfl rfl)
theorem dX6_tongueOne_19 : decode cX6_tongueOne 19 = .ok (.iconst 0, 1) := dk_3 (dk_at dksX6_tongueOne_0 19 rfl rfl)
theorem dX6_tongueOne_20 : decode cX6_tongueOne 20 = .ok (.iconst 0, 1) := dk_3 (dk_at dksX6_tongueOne_0 20 rfl rfl)
theorem dX6_tongueOne_21 : decode cX6_tongueOne 21 = .ok (.iconst 0, 1) := dk_3 (dk_at dksX6_tongueOne_0 21 rfl rfl)
theorem dX6_tongueOne_22 : decode cX6_tongueOne 22 = .ok (.invokevirtual 181, 3) := dk_182 0 181 (dk_at dksX6_tongueOne_1 0 rfl rfl)
theorem dX6_tongueOne_25 : decode cX6_tongueOne 25 = .ok (.ifCond .eq 37, 3) := dk_153 0 37 (dk_at dksX6_tongueOne_1 3 rfl rfl)
theorem dX6_tongueOne_28 : decode cX6_tongueOne 28 = .ok (.aload_n 0, 1) := dk_42 (dk_at dksX6_tongueOne_1 6 rfl rfl)
theorem dX6_tongueOne_29 : decode cX6_tongueOne 29 = .ok (.invokevirtual 208, 3) := dk_182 0 208 (dk_at dksX6_tongueOne_1 7 rfl rfl)
theorem dX6_tongueOne_32 : decode cX6_tongueOne 32 = .ok (.ifCond .ne 4, 3) := dk_154 0 4 (dk_at dksX6_tongueOne_1 10 rfl rfl)
theorem dX6_tongueOne_35 : decode cX6_tongueOne 35 = .ok (.return_, 1) := dk_177 (dk_at dksX6_tongueOne_1 13 rfl rfl)
theorem dX6_tongueOne_36 : decode cX6_tongueOne 36 = .ok (.aload_n 0, 1) := dk_42 (dk_at dksX6_tongueOne_1 14 rfl rfl)
theorem dX6_tongueOne_37 : decode cX6_tongueOne 37 = .ok (.invokevirtual 185, 3) := dk_182 0 185 (dk_at dksX6_tongueOne_1 15 rfl rfl)
theorem dX6_tongueOne_40 : decode cX6_tongueOne 40 = .ok (.aload_n 0, 1) := dk_42 (dk_at dksX6_tongueOne_1 18 rfl rfl)
theorem dX6_tongueOne_41 : decode cX6_tongueOne 41 = .ok (.invokevirtual 262, 3) := dk_182 1 6 (dk_at dksX6_tongueOne_1 19 rfl rfl)
theorem dX6_tongueOne_44 : decode cX6_tongueOne 44 = .ok (.aload_n 0, 1) := dk_42 (dk_at dksX6_tongueOne_1 22 rfl rfl)
theorem dX6_tongueOne_45 : decode cX6_tongueOne 45 = .ok (.bipush 8, 2) := dk_16 8 (dk_at dksX6_tongueOne_2 0 rfl rfl)
theorem dX6_tongueOne_47 : decode cX6_tongueOne 47 = .ok (.iconst 0, 1) := dk_3 (dk_at dksX6_tongueOne_2 2 rfl rfl)
theorem dX6_tongueOne_48 : decode cX6_tongueOne 48 = .ok (.invokevirtual 259, 3) := dk_182 1 3 (dk_at dksX6_tongueOne_2 3 rfl rfl)
theorem dX6_tongueOne_51 : decode cX6_tongueOne 51 = .ok (.aload_n 0, 1) := dk_42 (dk_at dksX6_tongueOne_2 6 rfl rfl)
theorem dX6_tongueOne_52 : decode cX6_tongueOne 52 = .ok (.dup, 1) := dk_89 (dk_at dksX6_tongueOne_2 7 rfl rfl)
theorem dX6_tongueOne_53 : decode cX6_tongueOne 53 = .ok (.getfield 188, 3) := dk_180 0 188 (dk_at dksX6_tongueOne_2 8 rfl rfl)
theorem dX6_tongueOne_56 : decode cX6_tongueOne 56 = .ok (.iconst 1, 1) := dk_4 (dk_at dksX6_tongueOne_2 11 rfl rfl)
theorem dX6_tongueOne_57 : decode cX6_tongueOne 57 = .ok (.isub, 1) := dk_100 (dk_at dksX6_tongueOne_2 12 rfl rfl)
theorem dX6_tongueOne_58 : decode cX6_tongueOne 58 = .ok (.putfield 188, 3) := dk_181 0 188 (dk_at dksX6_tongueOne_2 13 rfl rfl)
theorem dX6_tongueOne_61 : decode cX6_tongueOne 61 = .ok (.return_, 1) := dk_177 (dk_at dksX6_tongueOne_2 16 rfl rfl)
theorem dX6_tongueOne_62 : decode cX6_tongueOne 62 = .ok (.aload_n 0, 1) := dk_42 (dk_at dksX6_tongueOne_2 17 rfl rfl)
theorem dX6_tongueOne_63 : decode cX6_tongueOne 63 = .ok (.aload_n 0, 1) := dk_42 (dk_at dksX6_tongueOne_2 18 rfl rfl)
theorem dX6_tongueOne_64 : decode cX6_tongueOne 64 = .ok (.getfield 141, 3) := dk_180 0 141 (dk_at dksX6_tongueOne_2 19 rfl rfl)
theorem dX6_tongueOne_67 : decode cX6_tongueOne 67 = .ok (.invokevirtual 144, 3) := dk_182 0 144 (dk_at dksX6_tongueOne_3 0 rfl rfl)
theorem dX6_tongueOne_70 : decode cX6_tongueOne 70 = .ok (.bipush 91, 2) := dk_16 91 (dk_at dksX6_tongueOne_3 3 rfl rfl)
theorem dX6_tongueOne_72 : decode cX6_tongueOne 72 = .ok (.if_icmp .ne 42, 3) := dk_160 0 42 (dk_at dksX6_tongueOne_3 5 rfl rfl)
theorem dX6_tongueOne_75 : decode cX6_tongueOne 75 = .ok (.aload_n 0, 1) := dk_42 (dk_at dksX6_tongueOne_3 8 rfl rfl)
theorem dX6_tongueOne_76 : decode cX6_tongueOne 76 = .ok (.invokevirtual 208, 3) := dk_182 0 208 (dk_at dksX6_tongueOne_3 9 rfl rfl)
theorem dX6_tongueOne_79 : decode cX6_tongueOne 79 = .ok (.ifCond .ne 4, 3) := dk_154 0 4 (dk_at dksX6_tongueOne_3 12 rfl rfl)
theorem dX6_tongueOne_82 : decode cX6_tongueOne 82 = .ok (.return_, 1) := dk_177 (dk_at dksX6_tongueOne_3 15 rfl rfl)
theorem dX6_tongueOne_83 : decode cX6_tongueOne 83 = .ok (.aload_n 0, 1) := dk_42 (dk_at dksX6_tongueOne_3 16 rfl rfl)
theorem dX6_tongueOne_84 : decode cX6_tongueOne 84 = .ok (.dup, 1) := dk_89 (dk_at dksX6_tongueOne_3 17 rfl rfl)
theorem dX6_tongueOne_85 : decode cX6_tongueOne 85 = .ok (.getfield 141, 3) := dk_180 0 141 (dk_at dksX6_tongueOne_3 18 rfl rfl)
theorem dX6_tongueOne_88 : decode cX6_tongueOne 88 = .ok (.iconst 1, 1) := dk_4 (dk_at dksX6_tongueOne_3 21 rfl rfl)
theorem dX6_tongueOne_89 : decode cX6_tongueOne 89 = .ok (.iadd, 1) := dk_96 (dk_at dksX6_tongueOne_3 22 rfl rfl)
theorem dX6_tongueOne_90 : decode cX6_tongueOne 90 = .ok (.putfield 141, 3) := dk_181 0 141 (dk_at dksX6_tongueOne_4 0 rfl rfl)
theorem dX6_tongueOne_93 : decode cX6_tongueOne 93 = .ok (.aload_n 0, 1) := dk_42 (dk_at dksX6_tongueOne_4 3 rfl rfl)
theorem dX6_tongueOne_94 : decode cX6_tongueOne 94 = .ok (.invokevirtual 265, 3) := dk_182 1 9 (dk_at dksX6_tongueOne_4 4 rfl rfl)
theorem dX6_tongueOne_97 : decode cX6_tongueOne 97 = .ok (.aload_n 0, 1) := dk_42 (dk_at dksX6_tongueOne_4 7 rfl rfl)
theorem dX6_tongueOne_98 : decode cX6_tongueOne 98 = .ok (.bipush 93, 2) := dk_16 93 (dk_at dksX6_tongueOne_4 8 rfl rfl)
theorem dX6_tongueOne_100 : decode cX6_tongueOne 100 = .ok (.invokevirtual 215, 3) := dk_182 0 215 (dk_at dksX6_tongueOne_4 10 rfl rfl)
theorem dX6_tongueOne_103 : decode cX6_tongueOne 103 = .ok (.aload_n 0, 1) := dk_42 (dk_at dksX6_tongueOne_4 13 rfl rfl)
theorem dX6_tongueOne_104 : decode cX6_tongueOne 104 = .ok (.dup, 1) := dk_89 (dk_at dksX6_tongueOne_4 14 rfl rfl)
theorem dX6_tongueOne_105 : decode cX6_tongueOne 105 = .ok (.getfield 188, 3) := dk_180 0 188 (dk_at dksX6_tongueOne_4 15 rfl rfl)
theorem dX6_tongueOne_108 : decode cX6_tongueOne 108 = .ok (.iconst 1, 1) := dk_4 (dk_at dksX6_tongueOne_4 18 rfl rfl)
theorem dX6_tongueOne_109 : decode cX6_tongueOne 109 = .ok (.isub, 1) := dk_100 (dk_at dksX6_tongueOne_4 19 rfl rfl)
theorem dX6_tongueOne_110 : decode cX6_tongueOne 110 = .ok (.putfield 188, 3) := dk_181 0 188 (dk_at dksX6_tongueOne_4 20 rfl rfl)
theorem dX6_tongueOne_113 : decode cX6_tongueOne 113 = .ok (.return_, 1) := dk_177 (dk_at dksX6_tongueOne_4 23 rfl rfl)
theorem dX6_tongueOne_114 : decode cX6_tongueOne 114 = .ok (.aload_n 0, 1) := dk_42 (dk_at dksX6_tongueOne_5 0 rfl rfl)
theorem dX6_tongueOne_115 : decode cX6_tongueOne 115 = .ok (.invokevirtual 268, 3) := dk_182 1 12 (dk_at dksX6_tongueOne_5 1 rfl rfl)
theorem dX6_tongueOne_118 : decode cX6_tongueOne 118 = .ok (.aload_n 0, 1) := dk_42 (dk_at dksX6_tongueOne_5 4 rfl rfl)
theorem dX6_tongueOne_119 : decode cX6_tongueOne 119 = .ok (.bipush 60, 2) := dk_16 60 (dk_at dksX6_tongueOne_5 5 rfl rfl)
theorem dX6_tongueOne_121 : decode cX6_tongueOne 121 = .ok (.invokevirtual 271, 3) := dk_182 1 15 (dk_at dksX6_tongueOne_5 7 rfl rfl)
theorem dX6_tongueOne_124 : decode cX6_tongueOne 124 = .ok (.ifCond .eq 7, 3) := dk_153 0 7 (dk_at dksX6_tongueOne_5 10 rfl rfl)
theorem dX6_tongueOne_127 : decode cX6_tongueOne 127 = .ok (.iconst 5, 1) := dk_8 (dk_at dksX6_tongueOne_5 13 rfl rfl)
theorem dX6_tongueOne_128 : decode cX6_tongueOne 128 = .ok (.goto 32, 3) := dk_167 0 32 (dk_at dksX6_tongueOne_5 14 rfl rfl)
theorem dX6_tongueOne_131 : decode cX6_tongueOne 131 = .ok (.aload_n 0, 1) := dk_42 (dk_at dksX6_tongueOne_5 17 rfl rfl)
theorem dX6_tongueOne_132 : decode cX6_tongueOne 132 = .ok (.bipush 62, 2) := dk_16 62 (dk_at dksX6_tongueOne_5 18 rfl rfl)
theorem dX6_tongueOne_134 : decode cX6_tongueOne 134 = .ok (.invokevirtual 271, 3) := dk_182 1 15 (dk_at dksX6_tongueOne_5 20 rfl rfl)
theorem dX6_tongueOne_137 : decode cX6_tongueOne 137 = .ok (.ifCond .eq 8, 3) := dk_153 0 8 (dk_at dksX6_tongueOne_6 0 rfl rfl)
theorem dX6_tongueOne_140 : decode cX6_tongueOne 140 = .ok (.bipush 6, 2) := dk_16 6 (dk_at dksX6_tongueOne_6 3 rfl rfl)
theorem dX6_tongueOne_142 : decode cX6_tongueOne 142 = .ok (.goto 18, 3) := dk_167 0 18 (dk_at dksX6_tongueOne_6 5 rfl rfl)
theorem dX6_tongueOne_145 : decode cX6_tongueOne 145 = .ok (.aload_n 0, 1) := dk_42 (dk_at dksX6_tongueOne_6 8 rfl rfl)
theorem dX6_tongueOne_146 : decode cX6_tongueOne 146 = .ok (.bipush 61, 2) := dk_16 61 (dk_at dksX6_tongueOne_6 9 rfl rfl)
theorem dX6_tongueOne_148 : decode cX6_tongueOne 148 = .ok (.invokevirtual 271, 3) := dk_182 1 15 (dk_at dksX6_tongueOne_6 11 rfl rfl)
theorem dX6_tongueOne_151 : decode cX6_tongueOne 151 = .ok (.ifCond .eq 8, 3) := dk_153 0 8 (dk_at dksX6_tongueOne_6 14 rfl rfl)
theorem dX6_tongueOne_154 : decode cX6_tongueOne 154 = .ok (.bipush 7, 2) := dk_16 7 (dk_at dksX6_tongueOne_6 17 rfl rfl)
theorem dX6_tongueOne_156 : decode cX6_tongueOne 156 = .ok (.goto 4, 3) := dk_167 0 4 (dk_at dksX6_tongueOne_6 19 rfl rfl)
theorem dX6_tongueOne_159 : decode cX6_tongueOne 159 = .ok (.iconst (-1), 1) := dk_2 (dk_at dksX6_tongueOne_6 22 rfl rfl)
theorem dX6_tongueOne_160 : decode cX6_tongueOne 160 = .ok (.istore_n 1, 1) := dk_60 (dk_at dksX6_tongueOne_6 23 rfl rfl)
theorem dX6_tongueOne_161 : decode cX6_tongueOne 161 = .ok (.iload_n 1, 1) := dk_27 (dk_at dksX6_tongueOne_7 0 rfl rfl)
theorem dX6_tongueOne_162 : decode cX6_tongueOne 162 = .ok (.iconst (-1), 1) := dk_2 (dk_at dksX6_tongueOne_7 1 rfl rfl)
theorem dX6_tongueOne_163 : decode cX6_tongueOne 163 = .ok (.if_icmp .ne 12, 3) := dk_160 0 12 (dk_at dksX6_tongueOne_7 2 rfl rfl)
theorem dX6_tongueOne_166 : decode cX6_tongueOne 166 = .ok (.aload_n 0, 1) := dk_42 (dk_at dksX6_tongueOne_7 5 rfl rfl)
theorem dX6_tongueOne_167 : decode cX6_tongueOne 167 = .ok (.iconst 1, 1) := dk_4 (dk_at dksX6_tongueOne_7 6 rfl rfl)
theorem dX6_tongueOne_168 : decode cX6_tongueOne 168 = .ok (.aload_n 0, 1) := dk_42 (dk_at dksX6_tongueOne_7 7 rfl rfl)
theorem dX6_tongueOne_169 : decode cX6_tongueOne 169 = .ok (.getfield 141, 3) := dk_180 0 141 (dk_at dksX6_tongueOne_7 8 rfl rfl)
theorem dX6_tongueOne_172 : decode cX6_tongueOne 172 = .ok (.invokevirtual 161, 3) := dk_182 0 161 (dk_at dksX6_tongueOne_7 11 rfl rfl)
theorem dX6_tongueOne_175 : decode cX6_tongueOne 175 = .ok (.aload_n 0, 1) := dk_42 (dk_at dksX6_tongueOne_7 14 rfl rfl)
theorem dX6_tongueOne_176 : decode cX6_tongueOne 176 = .ok (.invokevirtual 268, 3) := dk_182 1 12 (dk_at dksX6_tongueOne_7 15 rfl rfl)
theorem dX6_tongueOne_179 : decode cX6_tongueOne 179 = .ok (.aload_n 0, 1) := dk_42 (dk_at dksX6_tongueOne_7 18 rfl rfl)
theorem dX6_tongueOne_180 : decode cX6_tongueOne 180 = .ok (.iload_n 1, 1) := dk_27 (dk_at dksX6_tongueOne_7 19 rfl rfl)
theorem dX6_tongueOne_181 : decode cX6_tongueOne 181 = .ok (.iconst 0, 1) := dk_3 (dk_at dksX6_tongueOne_7 20 rfl rfl)
theorem dX6_tongueOne_182 : decode cX6_tongueOne 182 = .ok (.invokevirtual 259, 3) := dk_182 1 3 (dk_at dksX6_tongueOne_7 21 rfl rfl)
theorem dX6_tongueOne_185 : decode cX6_tongueOne 185 = .ok (.return_, 1) := dk_177 (dk_at dksX6_tongueOne_8 0 rfl rfl)
abbrev cX6_says : ByteArray := prog_19_method_34_code
def yX6_says : MethodName := ⟨RX6, "says", "(II)V"⟩
def dkwX6_says_1 : List UInt8 := [42, 180, 0, 253, 50, 4, 28, 79, 42, 89, 180, 0, 253, 4, 96, 181, 0, 253, 177]
abbrev dktX6_says_1 : List UInt8 := dkwX6_says_1 ++ []
def dkwX6_says_0 : List UInt8 := [42, 180, 0, 148, 153, 0, 4, 177, 42, 180, 0, 71, 42, 180, 0, 253, 50, 3, 27, 79, 42, 180, 0, 71]
abbrev dktX6_says_0 : List UInt8 := dkwX6_says_0 ++ dktX6_says_1
theorem dksX6_says_0 : cX6_says.data.toList.drop 0 = dktX6_says_0 := by decide +kernel
theorem dksX6_says_1 : cX6_says.data.toList.drop 24 = dktX6_says_1 := dk_seg dksX6_says_0 24 rfl rfl
theorem dX6_says_0 : decode cX6_says 0 = .ok (.aload_n 0, 1) := dk_42 (dk_at dksX6_says_0 0 rfl rfl)
theorem dX6_says_1 : decode cX6_says 1 = .ok (.getfield 148, 3) := dk_180 0 148 (dk_at dksX6_says_0 1 rfl rfl)
theorem dX6_says_4 : decode cX6_says 4 = .ok (.ifCond .eq 4, 3) := dk_153 0 4 (dk_at dksX6_says_0 4 rfl rfl)
theorem dX6_says_7 : decode cX6_says 7 = .ok (.return_, 1) := dk_177 (dk_at dksX6_says_0 7 rfl rfl)
theorem dX6_says_8 : decode cX6_says 8 = .ok (.aload_n 0, 1) := dk_42 (dk_at dksX6_says_0 8 rfl rfl)
theorem dX6_says_9 : decode cX6_says 9 = .ok (.getfield 71, 3) := dk_180 0 71 (dk_at dksX6_says_0 9 rfl rfl)
theorem dX6_says_12 : decode cX6_says 12 = .ok (.aload_n 0, 1) := dk_42 (dk_at dksX6_says_0 12 rfl rfl)
theorem dX6_says_13 : decode cX6_says 13 = .ok (.getfield 253, 3) := dk_180 0 253 (dk_at dksX6_says_0 13 rfl rfl)
theorem dX6_says_16 : decode cX6_says 16 = .ok (.aaload, 1) := dk_50 (dk_at dksX6_says_0 16 rfl rfl)
theorem dX6_says_17 : decode cX6_says 17 = .ok (.iconst 0, 1) := dk_3 (dk_at dksX6_says_0 17 rfl rfl)
theorem dX6_says_18 : decode cX6_says 18 = .ok (.iload_n 1, 1) := dk_27 (dk_at dksX6_says_0 18 rfl rfl)
theorem dX6_says_19 : decode cX6_says 19 = .ok (.iastore, 1) := dk_79 (dk_at dksX6_says_0 19 rfl rfl)
theorem dX6_says_20 : decode cX6_says 20 = .ok (.aload_n 0, 1) := dk_42 (dk_at dksX6_says_0 20 rfl rfl)
theorem dX6_says_21 : decode cX6_says 21 = .ok (.getfield 71, 3) := dk_180 0 71 (dk_at dksX6_says_0 21 rfl rfl)
theorem dX6_says_24 : decode cX6_says 24 = .ok (.aload_n 0, 1) := dk_42 (dk_at dksX6_says_1 0 rfl rfl)
theorem dX6_says_25 : decode cX6_says 25 = .ok (.getfield 253, 3) := dk_180 0 253 (dk_at dksX6_says_1 1 rfl rfl)
theorem dX6_says_28 : decode cX6_says 28 = .ok (.aaload, 1) := dk_50 (dk_at dksX6_says_1 4 rfl rfl)
theorem dX6_says_29 : decode cX6_says 29 = .ok (.iconst 1, 1) := dk_4 (dk_at dksX6_says_1 5 rfl rfl)
theorem dX6_says_30 : decode cX6_says 30 = .ok (.iload_n 2, 1) := dk_28 (dk_at dksX6_says_1 6 rfl rfl)
theorem dX6_says_31 : decode cX6_says 31 = .ok (.iastore, 1) := dk_79 (dk_at dksX6_says_1 7 rfl rfl)
theorem dX6_says_32 : decode cX6_says 32 = .ok (.aload_n 0, 1) := dk_42 (dk_at dksX6_says_1 8 rfl rfl)
theorem dX6_says_33 : decode cX6_says 33 = .ok (.dup, 1) := dk_89 (dk_at dksX6_says_1 9 rfl rfl)
theorem dX6_says_34 : decode cX6_says 34 = .ok (.getfield 253, 3) := dk_180 0 253 (dk_at dksX6_says_1 10 rfl rfl)
theorem dX6_says_37 : decode cX6_says 37 = .ok (.iconst 1, 1) := dk_4 (dk_at dksX6_says_1 13 rfl rfl)
theorem dX6_says_38 : decode cX6_says 38 = .ok (.iadd, 1) := dk_96 (dk_at dksX6_says_1 14 rfl rfl)
theorem dX6_says_39 : decode cX6_says 39 = .ok (.putfield 253, 3) := dk_181 0 253 (dk_at dksX6_says_1 15 rfl rfl)
theorem dX6_says_42 : decode cX6_says 42 = .ok (.return_, 1) := dk_177 (dk_at dksX6_says_1 18 rfl rfl)
abbrev cX6_sum : ByteArray := prog_19_method_38_code
def yX6_sum : MethodName := ⟨RX6, "sum", "()V"⟩
def dkwX6_sum_2 : List UInt8 := [182, 1, 18, 42, 27, 3, 182, 1, 3, 167, 255, 205, 177]
abbrev dktX6_sum_2 : List UInt8 := dkwX6_sum_2 ++ []
def dkwX6_sum_1 : List UInt8 := [42, 16, 45, 182, 1, 15, 153, 0, 7, 6, 167, 0, 4, 2, 60, 27, 2, 160, 0, 4, 177, 42]
abbrev dktX6_sum_1 : List UInt8 := dkwX6_sum_1 ++ dktX6_sum_2
def dkwX6_sum_0 : List UInt8 := [42, 182, 1, 18, 42, 180, 0, 148, 154, 0, 50, 42, 16, 43, 182, 1, 15, 153, 0, 7, 5, 167, 0, 17]
abbrev dktX6_sum_0 : List UInt8 := dkwX6_sum_0 ++ dktX6_sum_1
theorem dksX6_sum_0 : cX6_sum.data.toList.drop 0 = dktX6_sum_0 := by decide +kernel
theorem dksX6_sum_1 : cX6_sum.data.toList.drop 24 = dktX6_sum_1 := dk_seg dksX6_sum_0 24 rfl rfl
theorem dksX6_sum_2 : cX6_sum.data.toList.drop 46 = dktX6_sum_2 := dk_seg dksX6_sum_1 22 rfl rfl
theorem dX6_sum_0 : decode cX6_sum 0 = .ok (.aload_n 0, 1) := dk_42 (dk_at dksX6_sum_0 0 rfl rfl)
theorem dX6_sum_1 : decode cX6_sum 1 = .ok (.invokevirtual 274, 3) := dk_182 1 18 (dk_at dksX6_sum_0 1 rfl rfl)
theorem dX6_sum_4 : decode cX6_sum 4 = .ok (.aload_n 0, 1) := dk_42 (dk_at dksX6_sum_0 4 rfl rfl)
theorem dX6_sum_5 : decode cX6_sum 5 = .ok (.getfield 148, 3) := dk_180 0 148 (dk_at dksX6_sum_0 5 rfl rfl)
theorem dX6_sum_8 : decode cX6_sum 8 = .ok (.ifCond .ne 50, 3) := dk_154 0 50 (dk_at dksX6_sum_0 8 rfl rfl)
theorem dX6_sum_11 : decode cX6_sum 11 = .ok (.aload_n 0, 1) := dk_42 (dk_at dksX6_sum_0 11 rfl rfl)
theorem dX6_sum_12 : decode cX6_sum 12 = .ok (.bipush 43, 2) := dk_16 43 (dk_at dksX6_sum_0 12 rfl rfl)
theorem dX6_sum_14 : decode cX6_sum 14 = .ok (.invokevirtual 271, 3) := dk_182 1 15 (dk_at dksX6_sum_0 14 rfl rfl)
theorem dX6_sum_17 : decode cX6_sum 17 = .ok (.ifCond .eq 7, 3) := dk_153 0 7 (dk_at dksX6_sum_0 17 rfl rfl)
theorem dX6_sum_20 : decode cX6_sum 20 = .ok (.iconst 2, 1) := dk_5 (dk_at dksX6_sum_0 20 rfl rfl)
theorem dX6_sum_21 : decode cX6_sum 21 = .ok (.goto 17, 3) := dk_167 0 17 (dk_at dksX6_sum_0 21 rfl rfl)
theorem dX6_sum_24 : decode cX6_sum 24 = .ok (.aload_n 0, 1) := dk_42 (dk_at dksX6_sum_1 0 rfl rfl)
theorem dX6_sum_25 : decode cX6_sum 25 = .ok (.bipush 45, 2) := dk_16 45 (dk_at dksX6_sum_1 1 rfl rfl)
theorem dX6_sum_27 : decode cX6_sum 27 = .ok (.invokevirtual 271, 3) := dk_182 1 15 (dk_at dksX6_sum_1 3 rfl rfl)
theorem dX6_sum_30 : decode cX6_sum 30 = .ok (.ifCond .eq 7, 3) := dk_153 0 7 (dk_at dksX6_sum_1 6 rfl rfl)
theorem dX6_sum_33 : decode cX6_sum 33 = .ok (.iconst 3, 1) := dk_6 (dk_at dksX6_sum_1 9 rfl rfl)
theorem dX6_sum_34 : decode cX6_sum 34 = .ok (.goto 4, 3) := dk_167 0 4 (dk_at dksX6_sum_1 10 rfl rfl)
theorem dX6_sum_37 : decode cX6_sum 37 = .ok (.iconst (-1), 1) := dk_2 (dk_at dksX6_sum_1 13 rfl rfl)
theorem dX6_sum_38 : decode cX6_sum 38 = .ok (.istore_n 1, 1) := dk_60 (dk_at dksX6_sum_1 14 rfl rfl)
theorem dX6_sum_39 : decode cX6_sum 39 = .ok (.iload_n 1, 1) := dk_27 (dk_at dksX6_sum_1 15 rfl rfl)
theorem dX6_sum_40 : decode cX6_sum 40 = .ok (.iconst (-1), 1) := dk_2 (dk_at dksX6_sum_1 16 rfl rfl)
theorem dX6_sum_41 : decode cX6_sum 41 = .ok (.if_icmp .ne 4, 3) := dk_160 0 4 (dk_at dksX6_sum_1 17 rfl rfl)
theorem dX6_sum_44 : decode cX6_sum 44 = .ok (.return_, 1) := dk_177 (dk_at dksX6_sum_1 20 rfl rfl)
theorem dX6_sum_45 : decode cX6_sum 45 = .ok (.aload_n 0, 1) := dk_42 (dk_at dksX6_sum_1 21 rfl rfl)
theorem dX6_sum_46 : decode cX6_sum 46 = .ok (.invokevirtual 274, 3) := dk_182 1 18 (dk_at dksX6_sum_2 0 rfl rfl)
theorem dX6_sum_49 : decode cX6_sum 49 = .ok (.aload_n 0, 1) := dk_42 (dk_at dksX6_sum_2 3 rfl rfl)
theorem dX6_sum_50 : decode cX6_sum 50 = .ok (.iload_n 1, 1) := dk_27 (dk_at dksX6_sum_2 4 rfl rfl)
theorem dX6_sum_51 : decode cX6_sum 51 = .ok (.iconst 0, 1) := dk_3 (dk_at dksX6_sum_2 5 rfl rfl)
theorem dX6_sum_52 : decode cX6_sum 52 = .ok (.invokevirtual 259, 3) := dk_182 1 3 (dk_at dksX6_sum_2 6 rfl rfl)
theorem dX6_sum_55 : decode cX6_sum 55 = .ok (.goto (-51), 3) := dk_167 255 205 (dk_at dksX6_sum_2 9 rfl rfl)
theorem dX6_sum_58 : decode cX6_sum 58 = .ok (.return_, 1) := dk_177 (dk_at dksX6_sum_2 12 rfl rfl)
abbrev cX6_product : ByteArray := prog_19_method_39_code
def yX6_product : MethodName := ⟨RX6, "product", "()V"⟩
def dkwX6_product_1 : List UInt8 := [167, 255, 237, 177]
abbrev dktX6_product_1 : List UInt8 := dkwX6_product_1 ++ []
def dkwX6_product_0 : List UInt8 := [42, 182, 1, 21, 42, 16, 42, 182, 1, 15, 153, 0, 16, 42, 182, 1, 21, 42, 7, 3, 182, 1, 3]
abbrev dktX6_product_0 : List UInt8 := dkwX6_product_0 ++ dktX6_product_1
theorem dksX6_product_0 : cX6_product.data.toList.drop 0 = dktX6_product_0 := by decide +kernel
theorem dksX6_product_1 : cX6_product.data.toList.drop 23 = dktX6_product_1 := dk_seg dksX6_product_0 23 rfl rfl
theorem dX6_product_0 : decode cX6_product 0 = .ok (.aload_n 0, 1) := dk_42 (dk_at dksX6_product_0 0 rfl rfl)
theorem dX6_product_1 : decode cX6_product 1 = .ok (.invokevirtual 277, 3) := dk_182 1 21 (dk_at dksX6_product_0 1 rfl rfl)
theorem dX6_product_4 : decode cX6_product 4 = .ok (.aload_n 0, 1) := dk_42 (dk_at dksX6_product_0 4 rfl rfl)
theorem dX6_product_5 : decode cX6_product 5 = .ok (.bipush 42, 2) := dk_16 42 (dk_at dksX6_product_0 5 rfl rfl)
theorem dX6_product_7 : decode cX6_product 7 = .ok (.invokevirtual 271, 3) := dk_182 1 15 (dk_at dksX6_product_0 7 rfl rfl)
theorem dX6_product_10 : decode cX6_product 10 = .ok (.ifCond .eq 16, 3) := dk_153 0 16 (dk_at dksX6_product_0 10 rfl rfl)
theorem dX6_product_13 : decode cX6_product 13 = .ok (.aload_n 0, 1) := dk_42 (dk_at dksX6_product_0 13 rfl rfl)
theorem dX6_product_14 : decode cX6_product 14 = .ok (.invokevirtual 277, 3) := dk_182 1 21 (dk_at dksX6_product_0 14 rfl rfl)
theorem dX6_product_17 : decode cX6_product 17 = .ok (.aload_n 0, 1) := dk_42 (dk_at dksX6_product_0 17 rfl rfl)
theorem dX6_product_18 : decode cX6_product 18 = .ok (.iconst 4, 1) := dk_7 (dk_at dksX6_product_0 18 rfl rfl)
theorem dX6_product_19 : decode cX6_product 19 = .ok (.iconst 0, 1) := dk_3 (dk_at dksX6_product_0 19 rfl rfl)
theorem dX6_product_20 : decode cX6_product 20 = .ok (.invokevirtual 259, 3) := dk_182 1 3 (dk_at dksX6_product_0 20 rfl rfl)
theorem dX6_product_23 : decode cX6_product 23 = .ok (.goto (-19), 3) := dk_167 255 237 (dk_at dksX6_product_1 0 rfl rfl)
theorem dX6_product_26 : decode cX6_product 26 = .ok (.return_, 1) := dk_177 (dk_at dksX6_product_1 3 rfl rfl)
abbrev cX6_oneValue : ByteArray := prog_19_method_41_code
def yX6_oneValue : MethodName := ⟨RX6, "oneValue", "()V"⟩
def dkwX6_oneValue_5 : List UInt8 := [4, 27, 182, 1, 3, 177]
abbrev dktX6_oneValue_5 : List UInt8 := dkwX6_oneValue_5 ++ []
def dkwX6_oneValue_4 : List UInt8 := [182, 1, 3, 177, 42, 182, 1, 24, 60, 27, 2, 160, 0, 12, 42, 4, 42, 180, 0, 141, 182, 0, 161, 42]
abbrev dktX6_oneValue_4 : List UInt8 := dkwX6_oneValue_4 ++ dktX6_oneValue_5
def dkwX6_oneValue_3 : List UInt8 := [180, 0, 141, 182, 0, 144, 184, 0, 157, 153, 0, 17, 42, 3, 42, 3, 17, 3, 231, 182, 0, 229]
abbrev dktX6_oneValue_3 : List UInt8 := dkwX6_oneValue_3 ++ dktX6_oneValue_4
def dkwX6_oneValue_2 : List UInt8 := [182, 1, 12, 42, 16, 41, 182, 0, 215, 42, 89, 180, 0, 188, 4, 100, 181, 0, 188, 177, 42, 42]
abbrev dktX6_oneValue_2 : List UInt8 := dkwX6_oneValue_2 ++ dktX6_oneValue_3
def dkwX6_oneValue_1 : List UInt8 := [160, 0, 42, 42, 182, 0, 208, 154, 0, 4, 177, 42, 89, 180, 0, 141, 4, 96, 181, 0, 141, 42]
abbrev dktX6_oneValue_1 : List UInt8 := dkwX6_oneValue_1 ++ dktX6_oneValue_2
def dkwX6_oneValue_0 : List UInt8 := [42, 180, 0, 148, 153, 0, 4, 177, 42, 182, 0, 154, 42, 42, 180, 0, 141, 182, 0, 144, 16, 40]
abbrev dktX6_oneValue_0 : List UInt8 := dkwX6_oneValue_0 ++ dktX6_oneValue_1
theorem dksX6_oneValue_0 : cX6_oneValue.data.toList.drop 0 = dktX6_oneValue_0 := by decide +kernel
theorem dksX6_oneValue_1 : cX6_oneValue.data.toList.drop 22 = dktX6_oneValue_1 := dk_seg dksX6_oneValue_0 22 rfl rfl
theorem dksX6_oneValue_2 : cX6_oneValue.data.toList.drop 44 = dktX6_oneValue_2 := dk_seg dksX6_oneValue_1 22 rfl rfl
theorem dksX6_oneValue_3 : cX6_oneValue.data.toList.drop 66 = dktX6_oneValue_3 := dk_seg dksX6_oneValue_2 22 rfl rfl
theorem dksX6_oneValue_4 : cX6_oneValue.data.toList.drop 88 = dktX6_oneValue_4 := dk_seg dksX6_oneValue_3 22 rfl rfl
theorem dksX6_oneValue_5 : cX6_oneValue.data.toList.drop 112 = dktX6_oneValue_5 := dk_seg dksX6_oneValue_4 24 rfl rfl
theorem dX6_oneValue_0 : decode cX6_oneValue 0 = .ok (.aload_n 0, 1) := dk_42 (dk_at dksX6_oneValue_0 0 rfl rfl)
theorem dX6_oneValue_1 : decode cX6_oneValue 1 = .ok (.getfield 148, 3) := dk_180 0 148 (dk_at dksX6_oneValue_0 1 rfl rfl)
theorem dX6_oneValue_4 : decode cX6_oneValue 4 = .ok (.ifCond .eq 4, 3) := dk_153 0 4 (dk_at dksX6_oneValue_0 4 rfl rfl)
theorem dX6_oneValue_7 : decode cX6_oneValue 7 = .ok (.return_, 1) := dk_177 (dk_at dksX6_oneValue_0 7 rfl rfl)
theorem dX6_oneValue_8 : decode cX6_oneValue 8 = .ok (.aload_n 0, 1) := dk_42 (dk_at dksX6_oneValue_0 8 rfl rfl)
theorem dX6_oneValue_9 : decode cX6_oneValue 9 = .ok (.invokevirtual 154, 3) := dk_182 0 154 (dk_at dksX6_oneValue_0 9 rfl rfl)
theorem dX6_oneValue_12 : decode cX6_oneValue 12 = .ok (.aload_n 0, 1) := dk_42 (dk_at dksX6_oneValue_0 12 rfl rfl)
theorem dX6_oneValue_13 : decode cX6_oneValue 13 = .ok (.aload_n 0, 1) := dk_42 (dk_at dksX6_oneValue_0 13 rfl rfl)
theorem dX6_oneValue_14 : decode cX6_oneValue 14 = .ok (.getfield 141, 3) := dk_180 0 141 (dk_at dksX6_oneValue_0 14 rfl rfl)
theorem dX6_oneValue_17 : decode cX6_oneValue 17 = .ok (.invokevirtual 144, 3) := dk_182 0 144 (dk_at dksX6_oneValue_0 17 rfl rfl)
theorem dX6_oneValue_20 : decode cX6_oneValue 20 = .ok (.bipush 40, 2) := dk_16 40 (dk_at dksX6_oneValue_0 20 rfl rfl)
theorem dX6_oneValue_22 : decode cX6_oneValue 22 = .ok (.if_icmp .ne 42, 3) := dk_160 0 42 (dk_at dksX6_oneValue_1 0 rfl rfl)
theorem dX6_oneValue_25 : decode cX6_oneValue 25 = .ok (.aload_n 0, 1) := dk_42 (dk_at dksX6_oneValue_1 3 rfl rfl)
theorem dX6_oneValue_26 : decode cX6_oneValue 26 = .ok (.invokevirtual 208, 3) := dk_182 0 208 (dk_at dksX6_oneValue_1 4 rfl rfl)
theorem dX6_oneValue_29 : decode cX6_oneValue 29 = .ok (.ifCond .ne 4, 3) := dk_154 0 4 (dk_at dksX6_oneValue_1 7 rfl rfl)
theorem dX6_oneValue_32 : decode cX6_oneValue 32 = .ok (.return_, 1) := dk_177 (dk_at dksX6_oneValue_1 10 rfl rfl)
theorem dX6_oneValue_33 : decode cX6_oneValue 33 = .ok (.aload_n 0, 1) := dk_42 (dk_at dksX6_oneValue_1 11 rfl rfl)
theorem dX6_oneValue_34 : decode cX6_oneValue 34 = .ok (.dup, 1) := dk_89 (dk_at dksX6_oneValue_1 12 rfl rfl)
theorem dX6_oneValue_35 : decode cX6_oneValue 35 = .ok (.getfield 141, 3) := dk_180 0 141 (dk_at dksX6_oneValue_1 13 rfl rfl)
theorem dX6_oneValue_38 : decode cX6_oneValue 38 = .ok (.iconst 1, 1) := dk_4 (dk_at dksX6_oneValue_1 16 rfl rfl)
theorem dX6_oneValue_39 : decode cX6_oneValue 39 = .ok (.iadd, 1) := dk_96 (dk_at dksX6_oneValue_1 17 rfl rfl)
theorem dX6_oneValue_40 : decode cX6_oneValue 40 = .ok (.putfield 141, 3) := dk_181 0 141 (dk_at dksX6_oneValue_1 18 rfl rfl)
theorem dX6_oneValue_43 : decode cX6_oneValue 43 = .ok (.aload_n 0, 1) := dk_42 (dk_at dksX6_oneValue_1 21 rfl rfl)
theorem dX6_oneValue_44 : decode cX6_oneValue 44 = .ok (.invokevirtual 268, 3) := dk_182 1 12 (dk_at dksX6_oneValue_2 0 rfl rfl)
theorem dX6_oneValue_47 : decode cX6_oneValue 47 = .ok (.aload_n 0, 1) := dk_42 (dk_at dksX6_oneValue_2 3 rfl rfl)
theorem dX6_oneValue_48 : decode cX6_oneValue 48 = .ok (.bipush 41, 2) := dk_16 41 (dk_at dksX6_oneValue_2 4 rfl rfl)
theorem dX6_oneValue_50 : decode cX6_oneValue 50 = .ok (.invokevirtual 215, 3) := dk_182 0 215 (dk_at dksX6_oneValue_2 6 rfl rfl)
theorem dX6_oneValue_53 : decode cX6_oneValue 53 = .ok (.aload_n 0, 1) := dk_42 (dk_at dksX6_oneValue_2 9 rfl rfl)
theorem dX6_oneValue_54 : decode cX6_oneValue 54 = .ok (.dup, 1) := dk_89 (dk_at dksX6_oneValue_2 10 rfl rfl)
theorem dX6_oneValue_55 : decode cX6_oneValue 55 = .ok (.getfield 188, 3) := dk_180 0 188 (dk_at dksX6_oneValue_2 11 rfl rfl)
theorem dX6_oneValue_58 : decode cX6_oneValue 58 = .ok (.iconst 1, 1) := dk_4 (dk_at dksX6_oneValue_2 14 rfl rfl)
theorem dX6_oneValue_59 : decode cX6_oneValue 59 = .ok (.isub, 1) := dk_100 (dk_at dksX6_oneValue_2 15 rfl rfl)
theorem dX6_oneValue_60 : decode cX6_oneValue 60 = .ok (.putfield 188, 3) := dk_181 0 188 (dk_at dksX6_oneValue_2 16 rfl rfl)
theorem dX6_oneValue_63 : decode cX6_oneValue 63 = .ok (.return_, 1) := dk_177 (dk_at dksX6_oneValue_2 19 rfl rfl)
theorem dX6_oneValue_64 : decode cX6_oneValue 64 = .ok (.aload_n 0, 1) := dk_42 (dk_at dksX6_oneValue_2 20 rfl rfl)
theorem dX6_oneValue_65 : decode cX6_oneValue 65 = .ok (.aload_n 0, 1) := dk_42 (dk_at dksX6_oneValue_2 21 rfl rfl)
theorem dX6_oneValue_66 : decode cX6_oneValue 66 = .ok (.getfield 141, 3) := dk_180 0 141 (dk_at dksX6_oneValue_3 0 rfl rfl)
theorem dX6_oneValue_69 : decode cX6_oneValue 69 = .ok (.invokevirtual 144, 3) := dk_182 0 144 (dk_at dksX6_oneValue_3 3 rfl rfl)
theorem dX6_oneValue_72 : decode cX6_oneValue 72 = .ok (.invokestatic 157, 3) := dk_184 0 157 (dk_at dksX6_oneValue_3 6 rfl rfl)
theorem dX6_oneValue_75 : decode cX6_oneValue 75 = .ok (.ifCond .eq 17, 3) := dk_153 0 17 (dk_at dksX6_oneValue_3 9 rfl rfl)
theorem dX6_oneValue_78 : decode cX6_oneValue 78 = .ok (.aload_n 0, 1) := dk_42 (dk_at dksX6_oneValue_3 12 rfl rfl)
theorem dX6_oneValue_79 : decode cX6_oneValue 79 = .ok (.iconst 0, 1) := dk_3 (dk_at dksX6_oneValue_3 13 rfl rfl)
theorem dX6_oneValue_80 : decode cX6_oneValue 80 = .ok (.aload_n 0, 1) := dk_42 (dk_at dksX6_oneValue_3 14 rfl rfl)
theorem dX6_oneValue_81 : decode cX6_oneValue 81 = .ok (.iconst 0, 1) := dk_3 (dk_at dksX6_oneValue_3 15 rfl rfl)
theorem dX6_oneValue_82 : decode cX6_oneValue 82 = .ok (.sipush 999, 3) := dk_17 3 231 (dk_at dksX6_oneValue_3 16 rfl rfl)
theorem dX6_oneValue_85 : decode cX6_oneValue 85 = .ok (.invokevirtual 229, 3) := dk_182 0 229 (dk_at dksX6_oneValue_3 19 rfl rfl)
theorem dX6_oneValue_88 : decode cX6_oneValue 88 = .ok (.invokevirtual 259, 3) := dk_182 1 3 (dk_at dksX6_oneValue_4 0 rfl rfl)
theorem dX6_oneValue_91 : decode cX6_oneValue 91 = .ok (.return_, 1) := dk_177 (dk_at dksX6_oneValue_4 3 rfl rfl)
theorem dX6_oneValue_92 : decode cX6_oneValue 92 = .ok (.aload_n 0, 1) := dk_42 (dk_at dksX6_oneValue_4 4 rfl rfl)
theorem dX6_oneValue_93 : decode cX6_oneValue 93 = .ok (.invokevirtual 280, 3) := dk_182 1 24 (dk_at dksX6_oneValue_4 5 rfl rfl)
theorem dX6_oneValue_96 : decode cX6_oneValue 96 = .ok (.istore_n 1, 1) := dk_60 (dk_at dksX6_oneValue_4 8 rfl rfl)
theorem dX6_oneValue_97 : decode cX6_oneValue 97 = .ok (.iload_n 1, 1) := dk_27 (dk_at dksX6_oneValue_4 9 rfl rfl)
theorem dX6_oneValue_98 : decode cX6_oneValue 98 = .ok (.iconst (-1), 1) := dk_2 (dk_at dksX6_oneValue_4 10 rfl rfl)
theorem dX6_oneValue_99 : decode cX6_oneValue 99 = .ok (.if_icmp .ne 12, 3) := dk_160 0 12 (dk_at dksX6_oneValue_4 11 rfl rfl)
theorem dX6_oneValue_102 : decode cX6_oneValue 102 = .ok (.aload_n 0, 1) := dk_42 (dk_at dksX6_oneValue_4 14 rfl rfl)
theorem dX6_oneValue_103 : decode cX6_oneValue 103 = .ok (.iconst 1, 1) := dk_4 (dk_at dksX6_oneValue_4 15 rfl rfl)
theorem dX6_oneValue_104 : decode cX6_oneValue 104 = .ok (.aload_n 0, 1) := dk_42 (dk_at dksX6_oneValue_4 16 rfl rfl)
theorem dX6_oneValue_105 : decode cX6_oneValue 105 = .ok (.getfield 141, 3) := dk_180 0 141 (dk_at dksX6_oneValue_4 17 rfl rfl)
theorem dX6_oneValue_108 : decode cX6_oneValue 108 = .ok (.invokevirtual 161, 3) := dk_182 0 161 (dk_at dksX6_oneValue_4 20 rfl rfl)
theorem dX6_oneValue_111 : decode cX6_oneValue 111 = .ok (.aload_n 0, 1) := dk_42 (dk_at dksX6_oneValue_4 23 rfl rfl)
theorem dX6_oneValue_112 : decode cX6_oneValue 112 = .ok (.iconst 1, 1) := dk_4 (dk_at dksX6_oneValue_5 0 rfl rfl)
theorem dX6_oneValue_113 : decode cX6_oneValue 113 = .ok (.iload_n 1, 1) := dk_27 (dk_at dksX6_oneValue_5 1 rfl rfl)
theorem dX6_oneValue_114 : decode cX6_oneValue 114 = .ok (.invokevirtual 259, 3) := dk_182 1 3 (dk_at dksX6_oneValue_5 2 rfl rfl)
theorem dX6_oneValue_117 : decode cX6_oneValue 117 = .ok (.return_, 1) := dk_177 (dk_at dksX6_oneValue_5 5 rfl rfl)
abbrev cX6_knownHere : ByteArray := prog_19_method_40_code
def yX6_knownHere : MethodName := ⟨RX6, "knownHere", "()I"⟩
def dkwX6_knownHere_7 : List UInt8 := [16, 19, 16, 8, 4, 16, 18, 8, 7, 182, 0, 198, 153, 0, 8, 16, 9, 167, 0, 4, 2, 172]
abbrev dktX6_knownHere_7 : List UInt8 := dkwX6_knownHere_7 ++ []
def dkwX6_knownHere_6 : List UInt8 := [16, 7, 172, 42, 16, 12, 8, 16, 6, 16, 20, 3, 3, 182, 0, 198, 153, 0, 6, 16, 8, 172, 42]
abbrev dktX6_knownHere_6 : List UInt8 := dkwX6_knownHere_6 ++ dktX6_knownHere_7
def dkwX6_knownHere_5 : List UInt8 := [182, 0, 198, 153, 0, 6, 16, 6, 172, 42, 16, 8, 8, 16, 12, 7, 3, 3, 182, 0, 198, 153, 0, 6]
abbrev dktX6_knownHere_5 : List UInt8 := dkwX6_knownHere_5 ++ dktX6_knownHere_6
def dkwX6_knownHere_4 : List UInt8 := [16, 23, 16, 14, 3, 3, 182, 0, 198, 153, 0, 5, 8, 172, 42, 16, 23, 8, 8, 16, 11, 3, 3]
abbrev dktX6_knownHere_4 : List UInt8 := dkwX6_knownHere_4 ++ dktX6_knownHere_5
def dkwX6_knownHere_3 : List UInt8 := [6, 172, 42, 16, 15, 16, 12, 7, 16, 14, 3, 3, 182, 0, 198, 153, 0, 5, 7, 172, 42, 16, 14, 8]
abbrev dktX6_knownHere_3 : List UInt8 := dkwX6_knownHere_3 ++ dktX6_knownHere_4
def dkwX6_knownHere_2 : List UInt8 := [182, 0, 198, 153, 0, 5, 5, 172, 42, 16, 14, 8, 16, 23, 16, 19, 3, 3, 182, 0, 198, 153, 0, 5]
abbrev dktX6_knownHere_2 : List UInt8 := dkwX6_knownHere_2 ++ dktX6_knownHere_3
def dkwX6_knownHere_1 : List UInt8 := [16, 20, 16, 19, 3, 182, 0, 198, 153, 0, 5, 4, 172, 42, 16, 15, 16, 12, 7, 16, 19, 3, 3]
abbrev dktX6_knownHere_1 : List UInt8 := dkwX6_knownHere_1 ++ dktX6_knownHere_2
def dkwX6_knownHere_0 : List UInt8 := [42, 4, 16, 7, 8, 3, 3, 3, 182, 0, 198, 153, 0, 5, 3, 172, 42, 16, 8, 16, 21, 16, 18]
abbrev dktX6_knownHere_0 : List UInt8 := dkwX6_knownHere_0 ++ dktX6_knownHere_1
theorem dksX6_knownHere_0 : cX6_knownHere.data.toList.drop 0 = dktX6_knownHere_0 := by decide +kernel
theorem dksX6_knownHere_1 : cX6_knownHere.data.toList.drop 23 = dktX6_knownHere_1 := dk_seg dksX6_knownHere_0 23 rfl rfl
theorem dksX6_knownHere_2 : cX6_knownHere.data.toList.drop 46 = dktX6_knownHere_2 := dk_seg dksX6_knownHere_1 23 rfl rfl
theorem dksX6_knownHere_3 : cX6_knownHere.data.toList.drop 70 = dktX6_knownHere_3 := dk_seg dksX6_knownHere_2 24 rfl rfl
theorem dksX6_knownHere_4 : cX6_knownHere.data.toList.drop 94 = dktX6_knownHere_4 := dk_seg dksX6_knownHere_3 24 rfl rfl
theorem dksX6_knownHere_5 : cX6_knownHere.data.toList.drop 117 = dktX6_knownHere_5 := dk_seg dksX6_knownHere_4 23 rfl rfl
theorem dksX6_knownHere_6 : cX6_knownHere.data.toList.drop 141 = dktX6_knownHere_6 := dk_seg dksX6_knownHere_5 24 rfl rfl
theorem dksX6_knownHere_7 : cX6_knownHere.data.toList.drop 164 = dktX6_knownHere_7 := dk_seg dksX6_knownHere_6 23 rfl rfl
theorem dX6_knownHere_0 : decode cX6_knownHere 0 = .ok (.aload_n 0, 1) := dk_42 (dk_at dksX6_knownHere_0 0 rfl rfl)
theorem dX6_knownHere_1 : decode cX6_knownHere 1 = .ok (.iconst 1, 1) := dk_4 (dk_at dksX6_knownHere_0 1 rfl rfl)
theorem dX6_knownHere_2 : decode cX6_knownHere 2 = .ok (.bipush 7, 2) := dk_16 7 (dk_at dksX6_knownHere_0 2 rfl rfl)
theorem dX6_knownHere_4 : decode cX6_knownHere 4 = .ok (.iconst 5, 1) := dk_8 (dk_at dksX6_knownHere_0 4 rfl rfl)
theorem dX6_knownHere_5 : decode cX6_knownHere 5 = .ok (.iconst 0, 1) := dk_3 (dk_at dksX6_knownHere_0 5 rfl rfl)
theorem dX6_knownHere_6 : decode cX6_knownHere 6 = .ok (.iconst 0, 1) := dk_3 (dk_at dksX6_knownHere_0 6 rfl rfl)
theorem dX6_knownHere_7 : decode cX6_knownHere 7 = .ok (.iconst 0, 1) := dk_3 (dk_at dksX6_knownHere_0 7 rfl rfl)
theorem dX6_knownHere_8 : decode cX6_knownHere 8 = .ok (.invokevirtual 198, 3) := dk_182 0 198 (dk_at dksX6_knownHere_0 8 rfl rfl)
theorem dX6_knownHere_11 : decode cX6_knownHere 11 = .ok (.ifCond .eq 5, 3) := dk_153 0 5 (dk_at dksX6_knownHere_0 11 rfl rfl)
theorem dX6_knownHere_14 : decode cX6_knownHere 14 = .ok (.iconst 0, 1) := dk_3 (dk_at dksX6_knownHere_0 14 rfl rfl)
theorem dX6_knownHere_15 : decode cX6_knownHere 15 = .ok (.ireturn, 1) := dk_172 (dk_at dksX6_knownHere_0 15 rfl rfl)
theorem dX6_knownHere_16 : decode cX6_knownHere 16 = .ok (.aload_n 0, 1) := dk_42 (dk_at dksX6_knownHere_0 16 rfl rfl)
theorem dX6_knownHere_17 : decode cX6_knownHere 17 = .ok (.bipush 8, 2) := dk_16 8 (dk_at dksX6_knownHere_0 17 rfl rfl)
theorem dX6_knownHere_19 : decode cX6_knownHere 19 = .ok (.bipush 21, 2) := dk_16 21 (dk_at dksX6_knownHere_0 19 rfl rfl)
theorem dX6_knownHere_21 : decode cX6_knownHere 21 = .ok (.bipush 18, 2) := dk_16 18 (dk_at dksX6_knownHere_0 21 rfl rfl)
theorem dX6_knownHere_23 : decode cX6_knownHere 23 = .ok (.bipush 20, 2) := dk_16 20 (dk_at dksX6_knownHere_1 0 rfl rfl)
theorem dX6_knownHere_25 : decode cX6_knownHere 25 = .ok (.bipush 19, 2) := dk_16 19 (dk_at dksX6_knownHere_1 2 rfl rfl)
theorem dX6_knownHere_27 : decode cX6_knownHere 27 = .ok (.iconst 0, 1) := dk_3 (dk_at dksX6_knownHere_1 4 rfl rfl)
theorem dX6_knownHere_28 : decode cX6_knownHere 28 = .ok (.invokevirtual 198, 3) := dk_182 0 198 (dk_at dksX6_knownHere_1 5 rfl rfl)
theorem dX6_knownHere_31 : decode cX6_knownHere 31 = .ok (.ifCond .eq 5, 3) := dk_153 0 5 (dk_at dksX6_knownHere_1 8 rfl rfl)
theorem dX6_knownHere_34 : decode cX6_knownHere 34 = .ok (.iconst 1, 1) := dk_4 (dk_at dksX6_knownHere_1 11 rfl rfl)
theorem dX6_knownHere_35 : decode cX6_knownHere 35 = .ok (.ireturn, 1) := dk_172 (dk_at dksX6_knownHere_1 12 rfl rfl)
theorem dX6_knownHere_36 : decode cX6_knownHere 36 = .ok (.aload_n 0, 1) := dk_42 (dk_at dksX6_knownHere_1 13 rfl rfl)
theorem dX6_knownHere_37 : decode cX6_knownHere 37 = .ok (.bipush 15, 2) := dk_16 15 (dk_at dksX6_knownHere_1 14 rfl rfl)
theorem dX6_knownHere_39 : decode cX6_knownHere 39 = .ok (.bipush 12, 2) := dk_16 12 (dk_at dksX6_knownHere_1 16 rfl rfl)
theorem dX6_knownHere_41 : decode cX6_knownHere 41 = .ok (.iconst 4, 1) := dk_7 (dk_at dksX6_knownHere_1 18 rfl rfl)
theorem dX6_knownHere_42 : decode cX6_knownHere 42 = .ok (.bipush 19, 2) := dk_16 19 (dk_at dksX6_knownHere_1 19 rfl rfl)
theorem dX6_knownHere_44 : decode cX6_knownHere 44 = .ok (.iconst 0, 1) := dk_3 (dk_at dksX6_knownHere_1 21 rfl rfl)
theorem dX6_knownHere_45 : decode cX6_knownHere 45 = .ok (.iconst 0, 1) := dk_3 (dk_at dksX6_knownHere_1 22 rfl rfl)
theorem dX6_knownHere_46 : decode cX6_knownHere 46 = .ok (.invokevirtual 198, 3) := dk_182 0 198 (dk_at dksX6_knownHere_2 0 rfl rfl)
theorem dX6_knownHere_49 : decode cX6_knownHere 49 = .ok (.ifCond .eq 5, 3) := dk_153 0 5 (dk_at dksX6_knownHere_2 3 rfl rfl)
theorem dX6_knownHere_52 : decode cX6_knownHere 52 = .ok (.iconst 2, 1) := dk_5 (dk_at dksX6_knownHere_2 6 rfl rfl)
theorem dX6_knownHere_53 : decode cX6_knownHere 53 = .ok (.ireturn, 1) := dk_172 (dk_at dksX6_knownHere_2 7 rfl rfl)
theorem dX6_knownHere_54 : decode cX6_knownHere 54 = .ok (.aload_n 0, 1) := dk_42 (dk_at dksX6_knownHere_2 8 rfl rfl)
theorem dX6_knownHere_55 : decode cX6_knownHere 55 = .ok (.bipush 14, 2) := dk_16 14 (dk_at dksX6_knownHere_2 9 rfl rfl)
theorem dX6_knownHere_57 : decode cX6_knownHere 57 = .ok (.iconst 5, 1) := dk_8 (dk_at dksX6_knownHere_2 11 rfl rfl)
theorem dX6_knownHere_58 : decode cX6_knownHere 58 = .ok (.bipush 23, 2) := dk_16 23 (dk_at dksX6_knownHere_2 12 rfl rfl)
theorem dX6_knownHere_60 : decode cX6_knownHere 60 = .ok (.bipush 19, 2) := dk_16 19 (dk_at dksX6_knownHere_2 14 rfl rfl)
theorem dX6_knownHere_62 : decode cX6_knownHere 62 = .ok (.iconst 0, 1) := dk_3 (dk_at dksX6_knownHere_2 16 rfl rfl)
theorem dX6_knownHere_63 : decode cX6_knownHere 63 = .ok (.iconst 0, 1) := dk_3 (dk_at dksX6_knownHere_2 17 rfl rfl)
theorem dX6_knownHere_64 : decode cX6_knownHere 64 = .ok (.invokevirtual 198, 3) := dk_182 0 198 (dk_at dksX6_knownHere_2 18 rfl rfl)
theorem dX6_knownHere_67 : decode cX6_knownHere 67 = .ok (.ifCond .eq 5, 3) := dk_153 0 5 (dk_at dksX6_knownHere_2 21 rfl rfl)
theorem dX6_knownHere_70 : decode cX6_knownHere 70 = .ok (.iconst 3, 1) := dk_6 (dk_at dksX6_knownHere_3 0 rfl rfl)
theorem dX6_knownHere_71 : decode cX6_knownHere 71 = .ok (.ireturn, 1) := dk_172 (dk_at dksX6_knownHere_3 1 rfl rfl)
theorem dX6_knownHere_72 : decode cX6_knownHere 72 = .ok (.aload_n 0, 1) := dk_42 (dk_at dksX6_knownHere_3 2 rfl rfl)
theorem dX6_knownHere_73 : decode cX6_knownHere 73 = .ok (.bipush 15, 2) := dk_16 15 (dk_at dksX6_knownHere_3 3 rfl rfl)
theorem dX6_knownHere_75 : decode cX6_knownHere 75 = .ok (.bipush 12, 2) := dk_16 12 (dk_at dksX6_knownHere_3 5 rfl rfl)
theorem dX6_knownHere_77 : decode cX6_knownHere 77 = .ok (.iconst 4, 1) := dk_7 (dk_at dksX6_knownHere_3 7 rfl rfl)
theorem dX6_knownHere_78 : decode cX6_knownHere 78 = .ok (.bipush 14, 2) := dk_16 14 (dk_at dksX6_knownHere_3 8 rfl rfl)
theorem dX6_knownHere_80 : decode cX6_knownHere 80 = .ok (.iconst 0, 1) := dk_3 (dk_at dksX6_knownHere_3 10 rfl rfl)
theorem dX6_knownHere_81 : decode cX6_knownHere 81 = .ok (.iconst 0, 1) := dk_3 (dk_at dksX6_knownHere_3 11 rfl rfl)
theorem dX6_knownHere_82 : decode cX6_knownHere 82 = .ok (.invokevirtual 198, 3) := dk_182 0 198 (dk_at dksX6_knownHere_3 12 rfl rfl)
theorem dX6_knownHere_85 : decode cX6_knownHere 85 = .ok (.ifCond .eq 5, 3) := dk_153 0 5 (dk_at dksX6_knownHere_3 15 rfl rfl)
theorem dX6_knownHere_88 : decode cX6_knownHere 88 = .ok (.iconst 4, 1) := dk_7 (dk_at dksX6_knownHere_3 18 rfl rfl)
theorem dX6_knownHere_89 : decode cX6_knownHere 89 = .ok (.ireturn, 1) := dk_172 (dk_at dksX6_knownHere_3 19 rfl rfl)
theorem dX6_knownHere_90 : decode cX6_knownHere 90 = .ok (.aload_n 0, 1) := dk_42 (dk_at dksX6_knownHere_3 20 rfl rfl)
theorem dX6_knownHere_91 : decode cX6_knownHere 91 = .ok (.bipush 14, 2) := dk_16 14 (dk_at dksX6_knownHere_3 21 rfl rfl)
theorem dX6_knownHere_93 : decode cX6_knownHere 93 = .ok (.iconst 5, 1) := dk_8 (dk_at dksX6_knownHere_3 23 rfl rfl)
theorem dX6_knownHere_94 : decode cX6_knownHere 94 = .ok (.bipush 23, 2) := dk_16 23 (dk_at dksX6_knownHere_4 0 rfl rfl)
theorem dX6_knownHere_96 : decode cX6_knownHere 96 = .ok (.bipush 14, 2) := dk_16 14 (dk_at dksX6_knownHere_4 2 rfl rfl)
theorem dX6_knownHere_98 : decode cX6_knownHere 98 = .ok (.iconst 0, 1) := dk_3 (dk_at dksX6_knownHere_4 4 rfl rfl)
theorem dX6_knownHere_99 : decode cX6_knownHere 99 = .ok (.iconst 0, 1) := dk_3 (dk_at dksX6_knownHere_4 5 rfl rfl)
theorem dX6_knownHere_100 : decode cX6_knownHere 100 = .ok (.invokevirtual 198, 3) := dk_182 0 198 (dk_at dksX6_knownHere_4 6 rfl rfl)
theorem dX6_knownHere_103 : decode cX6_knownHere 103 = .ok (.ifCond .eq 5, 3) := dk_153 0 5 (dk_at dksX6_knownHere_4 9 rfl rfl)
theorem dX6_knownHere_106 : decode cX6_knownHere 106 = .ok (.iconst 5, 1) := dk_8 (dk_at dksX6_knownHere_4 12 rfl rfl)
theorem dX6_knownHere_107 : decode cX6_knownHere 107 = .ok (.ireturn, 1) := dk_172 (dk_at dksX6_knownHere_4 13 rfl rfl)
theorem dX6_knownHere_108 : decode cX6_knownHere 108 = .ok (.aload_n 0, 1) := dk_42 (dk_at dksX6_knownHere_4 14 rfl rfl)
theorem dX6_knownHere_109 : decode cX6_knownHere 109 = .ok (.bipush 23, 2) := dk_16 23 (dk_at dksX6_knownHere_4 15 rfl rfl)
theorem dX6_knownHere_111 : decode cX6_knownHere 111 = .ok (.iconst 5, 1) := dk_8 (dk_at dksX6_knownHere_4 17 rfl rfl)
theorem dX6_knownHere_112 : decode cX6_knownHere 112 = .ok (.iconst 5, 1) := dk_8 (dk_at dksX6_knownHere_4 18 rfl rfl)
theorem dX6_knownHere_113 : decode cX6_knownHere 113 = .ok (.bipush 11, 2) := dk_16 11 (dk_at dksX6_knownHere_4 19 rfl rfl)
theorem dX6_knownHere_115 : decode cX6_knownHere 115 = .ok (.iconst 0, 1) := dk_3 (dk_at dksX6_knownHere_4 21 rfl rfl)
theorem dX6_knownHere_116 : decode cX6_knownHere 116 = .ok (.iconst 0, 1) := dk_3 (dk_at dksX6_knownHere_4 22 rfl rfl)
theorem dX6_knownHere_117 : decode cX6_knownHere 117 = .ok (.invokevirtual 198, 3) := dk_182 0 198 (dk_at dksX6_knownHere_5 0 rfl rfl)
theorem dX6_knownHere_120 : decode cX6_knownHere 120 = .ok (.ifCond .eq 6, 3) := dk_153 0 6 (dk_at dksX6_knownHere_5 3 rfl rfl)
theorem dX6_knownHere_123 : decode cX6_knownHere 123 = .ok (.bipush 6, 2) := dk_16 6 (dk_at dksX6_knownHere_5 6 rfl rfl)
theorem dX6_knownHere_125 : decode cX6_knownHere 125 = .ok (.ireturn, 1) := dk_172 (dk_at dksX6_knownHere_5 8 rfl rfl)
theorem dX6_knownHere_126 : decode cX6_knownHere 126 = .ok (.aload_n 0, 1) := dk_42 (dk_at dksX6_knownHere_5 9 rfl rfl)
theorem dX6_knownHere_127 : decode cX6_knownHere 127 = .ok (.bipush 8, 2) := dk_16 8 (dk_at dksX6_knownHere_5 10 rfl rfl)
theorem dX6_knownHere_129 : decode cX6_knownHere 129 = .ok (.iconst 5, 1) := dk_8 (dk_at dksX6_knownHere_5 12 rfl rfl)
theorem dX6_knownHere_130 : decode cX6_knownHere 130 = .ok (.bipush 12, 2) := dk_16 12 (dk_at dksX6_knownHere_5 13 rfl rfl)
theorem dX6_knownHere_132 : decode cX6_knownHere 132 = .ok (.iconst 4, 1) := dk_7 (dk_at dksX6_knownHere_5 15 rfl rfl)
theorem dX6_knownHere_133 : decode cX6_knownHere 133 = .ok (.iconst 0, 1) := dk_3 (dk_at dksX6_knownHere_5 16 rfl rfl)
theorem dX6_knownHere_134 : decode cX6_knownHere 134 = .ok (.iconst 0, 1) := dk_3 (dk_at dksX6_knownHere_5 17 rfl rfl)
theorem dX6_knownHere_135 : decode cX6_knownHere 135 = .ok (.invokevirtual 198, 3) := dk_182 0 198 (dk_at dksX6_knownHere_5 18 rfl rfl)
theorem dX6_knownHere_138 : decode cX6_knownHere 138 = .ok (.ifCond .eq 6, 3) := dk_153 0 6 (dk_at dksX6_knownHere_5 21 rfl rfl)
theorem dX6_knownHere_141 : decode cX6_knownHere 141 = .ok (.bipush 7, 2) := dk_16 7 (dk_at dksX6_knownHere_6 0 rfl rfl)
theorem dX6_knownHere_143 : decode cX6_knownHere 143 = .ok (.ireturn, 1) := dk_172 (dk_at dksX6_knownHere_6 2 rfl rfl)
theorem dX6_knownHere_144 : decode cX6_knownHere 144 = .ok (.aload_n 0, 1) := dk_42 (dk_at dksX6_knownHere_6 3 rfl rfl)
theorem dX6_knownHere_145 : decode cX6_knownHere 145 = .ok (.bipush 12, 2) := dk_16 12 (dk_at dksX6_knownHere_6 4 rfl rfl)
theorem dX6_knownHere_147 : decode cX6_knownHere 147 = .ok (.iconst 5, 1) := dk_8 (dk_at dksX6_knownHere_6 6 rfl rfl)
theorem dX6_knownHere_148 : decode cX6_knownHere 148 = .ok (.bipush 6, 2) := dk_16 6 (dk_at dksX6_knownHere_6 7 rfl rfl)
theorem dX6_knownHere_150 : decode cX6_knownHere 150 = .ok (.bipush 20, 2) := dk_16 20 (dk_at dksX6_knownHere_6 9 rfl rfl)
theorem dX6_knownHere_152 : decode cX6_knownHere 152 = .ok (.iconst 0, 1) := dk_3 (dk_at dksX6_knownHere_6 11 rfl rfl)
theorem dX6_knownHere_153 : decode cX6_knownHere 153 = .ok (.iconst 0, 1) := dk_3 (dk_at dksX6_knownHere_6 12 rfl rfl)
theorem dX6_knownHere_154 : decode cX6_knownHere 154 = .ok (.invokevirtual 198, 3) := dk_182 0 198 (dk_at dksX6_knownHere_6 13 rfl rfl)
theorem dX6_knownHere_157 : decode cX6_knownHere 157 = .ok (.ifCond .eq 6, 3) := dk_153 0 6 (dk_at dksX6_knownHere_6 16 rfl rfl)
theorem dX6_knownHere_160 : decode cX6_knownHere 160 = .ok (.bipush 8, 2) := dk_16 8 (dk_at dksX6_knownHere_6 19 rfl rfl)
theorem dX6_knownHere_162 : decode cX6_knownHere 162 = .ok (.ireturn, 1) := dk_172 (dk_at dksX6_knownHere_6 21 rfl rfl)
theorem dX6_knownHere_163 : decode cX6_knownHere 163 = .ok (.aload_n 0, 1) := dk_42 (dk_at dksX6_knownHere_6 22 rfl rfl)
theorem dX6_knownHere_164 : decode cX6_knownHere 164 = .ok (.bipush 19, 2) := dk_16 19 (dk_at dksX6_knownHere_7 0 rfl rfl)
theorem dX6_knownHere_166 : decode cX6_knownHere 166 = .ok (.bipush 8, 2) := dk_16 8 (dk_at dksX6_knownHere_7 2 rfl rfl)
theorem dX6_knownHere_168 : decode cX6_knownHere 168 = .ok (.iconst 1, 1) := dk_4 (dk_at dksX6_knownHere_7 4 rfl rfl)
theorem dX6_knownHere_169 : decode cX6_knownHere 169 = .ok (.bipush 18, 2) := dk_16 18 (dk_at dksX6_knownHere_7 5 rfl rfl)
theorem dX6_knownHere_171 : decode cX6_knownHere 171 = .ok (.iconst 5, 1) := dk_8 (dk_at dksX6_knownHere_7 7 rfl rfl)
theorem dX6_knownHere_172 : decode cX6_knownHere 172 = .ok (.iconst 4, 1) := dk_7 (dk_at dksX6_knownHere_7 8 rfl rfl)
theorem dX6_knownHere_173 : decode cX6_knownHere 173 = .ok (.invokevirtual 198, 3) := dk_182 0 198 (dk_at dksX6_knownHere_7 9 rfl rfl)
theorem dX6_knownHere_176 : decode cX6_knownHere 176 = .ok (.ifCond .eq 8, 3) := dk_153 0 8 (dk_at dksX6_knownHere_7 12 rfl rfl)
theorem dX6_knownHere_179 : decode cX6_knownHere 179 = .ok (.bipush 9, 2) := dk_16 9 (dk_at dksX6_knownHere_7 15 rfl rfl)
theorem dX6_knownHere_181 : decode cX6_knownHere 181 = .ok (.goto 4, 3) := dk_167 0 4 (dk_at dksX6_knownHere_7 17 rfl rfl)
theorem dX6_knownHere_184 : decode cX6_knownHere 184 = .ok (.iconst (-1), 1) := dk_2 (dk_at dksX6_knownHere_7 20 rfl rfl)
theorem dX6_knownHere_185 : decode cX6_knownHere 185 = .ok (.ireturn, 1) := dk_172 (dk_at dksX6_knownHere_7 21 rfl rfl)
abbrev cX6_takesSign : ByteArray := prog_19_method_19_code
def yX6_takesSign : MethodName := ⟨RX6, "takesSign", "(I)Z"⟩
def dkwX6_takesSign_2 : List UInt8 := [172]
abbrev dktX6_takesSign_2 : List UInt8 := dkwX6_takesSign_2 ++ []
def dkwX6_takesSign_1 : List UInt8 := [160, 0, 7, 4, 167, 0, 4, 3, 61, 28, 153, 0, 13, 42, 89, 180, 0, 141, 4, 96, 181, 0, 141, 28]
abbrev dktX6_takesSign_1 : List UInt8 := dkwX6_takesSign_1 ++ dktX6_takesSign_2
def dkwX6_takesSign_0 : List UInt8 := [42, 180, 0, 148, 153, 0, 5, 3, 172, 42, 182, 0, 154, 42, 42, 180, 0, 141, 182, 0, 144, 27]
abbrev dktX6_takesSign_0 : List UInt8 := dkwX6_takesSign_0 ++ dktX6_takesSign_1
theorem dksX6_takesSign_0 : cX6_takesSign.data.toList.drop 0 = dktX6_takesSign_0 := by decide +kernel
theorem dksX6_takesSign_1 : cX6_takesSign.data.toList.drop 22 = dktX6_takesSign_1 := dk_seg dksX6_takesSign_0 22 rfl rfl
theorem dksX6_takesSign_2 : cX6_takesSign.data.toList.drop 46 = dktX6_takesSign_2 := dk_seg dksX6_takesSign_1 24 rfl rfl
theorem dX6_takesSign_0 : decode cX6_takesSign 0 = .ok (.aload_n 0, 1) := dk_42 (dk_at dksX6_takesSign_0 0 rfl rfl)
theorem dX6_takesSign_1 : decode cX6_takesSign 1 = .ok (.getfield 148, 3) := dk_180 0 148 (dk_at dksX6_takesSign_0 1 rfl rfl)
theorem dX6_takesSign_4 : decode cX6_takesSign 4 = .ok (.ifCond .eq 5, 3) := dk_153 0 5 (dk_at dksX6_takesSign_0 4 rfl rfl)
theorem dX6_takesSign_7 : decode cX6_takesSign 7 = .ok (.iconst 0, 1) := dk_3 (dk_at dksX6_takesSign_0 7 rfl rfl)
theorem dX6_takesSign_8 : decode cX6_takesSign 8 = .ok (.ireturn, 1) := dk_172 (dk_at dksX6_takesSign_0 8 rfl rfl)
theorem dX6_takesSign_9 : decode cX6_takesSign 9 = .ok (.aload_n 0, 1) := dk_42 (dk_at dksX6_takesSign_0 9 rfl rfl)
theorem dX6_takesSign_10 : decode cX6_takesSign 10 = .ok (.invokevirtual 154, 3) := dk_182 0 154 (dk_at dksX6_takesSign_0 10 rfl rfl)
theorem dX6_takesSign_13 : decode cX6_takesSign 13 = .ok (.aload_n 0, 1) := dk_42 (dk_at dksX6_takesSign_0 13 rfl rfl)
theorem dX6_takesSign_14 : decode cX6_takesSign 14 = .ok (.aload_n 0, 1) := dk_42 (dk_at dksX6_takesSign_0 14 rfl rfl)
theorem dX6_takesSign_15 : decode cX6_takesSign 15 = .ok (.getfield 141, 3) := dk_180 0 141 (dk_at dksX6_takesSign_0 15 rfl rfl)
theorem dX6_takesSign_18 : decode cX6_takesSign 18 = .ok (.invokevirtual 144, 3) := dk_182 0 144 (dk_at dksX6_takesSign_0 18 rfl rfl)
theorem dX6_takesSign_21 : decode cX6_takesSign 21 = .ok (.iload_n 1, 1) := dk_27 (dk_at dksX6_takesSign_0 21 rfl rfl)
theorem dX6_takesSign_22 : decode cX6_takesSign 22 = .ok (.if_icmp .ne 7, 3) := dk_160 0 7 (dk_at dksX6_takesSign_1 0 rfl rfl)
theorem dX6_takesSign_25 : decode cX6_takesSign 25 = .ok (.iconst 1, 1) := dk_4 (dk_at dksX6_takesSign_1 3 rfl rfl)
theorem dX6_takesSign_26 : decode cX6_takesSign 26 = .ok (.goto 4, 3) := dk_167 0 4 (dk_at dksX6_takesSign_1 4 rfl rfl)
theorem dX6_takesSign_29 : decode cX6_takesSign 29 = .ok (.iconst 0, 1) := dk_3 (dk_at dksX6_takesSign_1 7 rfl rfl)
theorem dX6_takesSign_30 : decode cX6_takesSign 30 = .ok (.istore_n 2, 1) := dk_61 (dk_at dksX6_takesSign_1 8 rfl rfl)
theorem dX6_takesSign_31 : decode cX6_takesSign 31 = .ok (.iload_n 2, 1) := dk_28 (dk_at dksX6_takesSign_1 9 rfl rfl)
theorem dX6_takesSign_32 : decode cX6_takesSign 32 = .ok (.ifCond .eq 13, 3) := dk_153 0 13 (dk_at dksX6_takesSign_1 10 rfl rfl)
theorem dX6_takesSign_35 : decode cX6_takesSign 35 = .ok (.aload_n 0, 1) := dk_42 (dk_at dksX6_takesSign_1 13 rfl rfl)
theorem dX6_takesSign_36 : decode cX6_takesSign 36 = .ok (.dup, 1) := dk_89 (dk_at dksX6_takesSign_1 14 rfl rfl)
theorem dX6_takesSign_37 : decode cX6_takesSign 37 = .ok (.getfield 141, 3) := dk_180 0 141 (dk_at dksX6_takesSign_1 15 rfl rfl)
theorem dX6_takesSign_40 : decode cX6_takesSign 40 = .ok (.iconst 1, 1) := dk_4 (dk_at dksX6_takesSign_1 18 rfl rfl)
theorem dX6_takesSign_41 : decode cX6_takesSign 41 = .ok (.iadd, 1) := dk_96 (dk_at dksX6_takesSign_1 19 rfl rfl)
theorem dX6_takesSign_42 : decode cX6_takesSign 42 = .ok (.putfield 141, 3) := dk_181 0 141 (dk_at dksX6_takesSign_1 20 rfl rfl)
theorem dX6_takesSign_45 : decode cX6_takesSign 45 = .ok (.iload_n 2, 1) := dk_28 (dk_at dksX6_takesSign_1 23 rfl rfl)
theorem dX6_takesSign_46 : decode cX6_takesSign 46 = .ok (.ireturn, 1) := dk_172 (dk_at dksX6_takesSign_2 0 rfl rfl)
abbrev cX6_fault : ByteArray := prog_19_method_48_code
def yX6_fault : MethodName := ⟨RX6, "fault", "()I"⟩
def dkwX6_fault_0 : List UInt8 := [42, 3, 181, 0, 132, 42, 180, 0, 9, 172]
abbrev dktX6_fault_0 : List UInt8 := dkwX6_fault_0 ++ []
theorem dksX6_fault_0 : cX6_fault.data.toList.drop 0 = dktX6_fault_0 := by decide +kernel
theorem dX6_fault_0 : decode cX6_fault 0 = .ok (.aload_n 0, 1) := dk_42 (dk_at dksX6_fault_0 0 rfl rfl)
theorem dX6_fault_1 : decode cX6_fault 1 = .ok (.iconst 0, 1) := dk_3 (dk_at dksX6_fault_0 1 rfl rfl)
theorem dX6_fault_2 : decode cX6_fault 2 = .ok (.putfield 132, 3) := dk_181 0 132 (dk_at dksX6_fault_0 2 rfl rfl)
theorem dX6_fault_5 : decode cX6_fault 5 = .ok (.aload_n 0, 1) := dk_42 (dk_at dksX6_fault_0 5 rfl rfl)
theorem dX6_fault_6 : decode cX6_fault 6 = .ok (.getfield 9, 3) := dk_180 0 9 (dk_at dksX6_fault_0 6 rfl rfl)
theorem dX6_fault_9 : decode cX6_fault 9 = .ok (.ireturn, 1) := dk_172 (dk_at dksX6_fault_0 9 rfl rfl)
abbrev cX6_told : ByteArray := prog_19_method_49_code
def yX6_told : MethodName := ⟨RX6, "told", "(I)I"⟩
def dkwX6_told_1 : List UInt8 := [182, 0, 233, 153, 0, 5, 3, 172, 42, 180, 0, 23, 27, 46, 172]
abbrev dktX6_told_1 : List UInt8 := dkwX6_told_1 ++ []
def dkwX6_told_0 : List UInt8 := [42, 3, 181, 0, 132, 42, 27, 3, 8, 184, 0, 166, 154, 0, 7, 4, 167, 0, 4, 3, 4, 4]
abbrev dktX6_told_0 : List UInt8 := dkwX6_told_0 ++ dktX6_told_1
theorem dksX6_told_0 : cX6_told.data.toList.drop 0 = dktX6_told_0 := by decide +kernel
theorem dksX6_told_1 : cX6_told.data.toList.drop 22 = dktX6_told_1 := dk_seg dksX6_told_0 22 rfl rfl
theorem dX6_told_0 : decode cX6_told 0 = .ok (.aload_n 0, 1) := dk_42 (dk_at dksX6_told_0 0 rfl rfl)
theorem dX6_told_1 : decode cX6_told 1 = .ok (.iconst 0, 1) := dk_3 (dk_at dksX6_told_0 1 rfl rfl)
theorem dX6_told_2 : decode cX6_told 2 = .ok (.putfield 132, 3) := dk_181 0 132 (dk_at dksX6_told_0 2 rfl rfl)
theorem dX6_told_5 : decode cX6_told 5 = .ok (.aload_n 0, 1) := dk_42 (dk_at dksX6_told_0 5 rfl rfl)
theorem dX6_told_6 : decode cX6_told 6 = .ok (.iload_n 1, 1) := dk_27 (dk_at dksX6_told_0 6 rfl rfl)
theorem dX6_told_7 : decode cX6_told 7 = .ok (.iconst 0, 1) := dk_3 (dk_at dksX6_told_0 7 rfl rfl)
theorem dX6_told_8 : decode cX6_told 8 = .ok (.iconst 5, 1) := dk_8 (dk_at dksX6_told_0 8 rfl rfl)
theorem dX6_told_9 : decode cX6_told 9 = .ok (.invokestatic 166, 3) := dk_184 0 166 (dk_at dksX6_told_0 9 rfl rfl)
theorem dX6_told_12 : decode cX6_told 12 = .ok (.ifCond .ne 7, 3) := dk_154 0 7 (dk_at dksX6_told_0 12 rfl rfl)
theorem dX6_told_15 : decode cX6_told 15 = .ok (.iconst 1, 1) := dk_4 (dk_at dksX6_told_0 15 rfl rfl)
theorem dX6_told_16 : decode cX6_told 16 = .ok (.goto 4, 3) := dk_167 0 4 (dk_at dksX6_told_0 16 rfl rfl)
theorem dX6_told_19 : decode cX6_told 19 = .ok (.iconst 0, 1) := dk_3 (dk_at dksX6_told_0 19 rfl rfl)
theorem dX6_told_20 : decode cX6_told 20 = .ok (.iconst 1, 1) := dk_4 (dk_at dksX6_told_0 20 rfl rfl)
theorem dX6_told_21 : decode cX6_told 21 = .ok (.iconst 1, 1) := dk_4 (dk_at dksX6_told_0 21 rfl rfl)
theorem dX6_told_22 : decode cX6_told 22 = .ok (.invokevirtual 233, 3) := dk_182 0 233 (dk_at dksX6_told_1 0 rfl rfl)
theorem dX6_told_25 : decode cX6_told 25 = .ok (.ifCond .eq 5, 3) := dk_153 0 5 (dk_at dksX6_told_1 3 rfl rfl)
theorem dX6_told_28 : decode cX6_told 28 = .ok (.iconst 0, 1) := dk_3 (dk_at dksX6_told_1 6 rfl rfl)
theorem dX6_told_29 : decode cX6_told 29 = .ok (.ireturn, 1) := dk_172 (dk_at dksX6_told_1 7 rfl rfl)
theorem dX6_told_30 : decode cX6_told 30 = .ok (.aload_n 0, 1) := dk_42 (dk_at dksX6_told_1 8 rfl rfl)
theorem dX6_told_31 : decode cX6_told 31 = .ok (.getfield 23, 3) := dk_180 0 23 (dk_at dksX6_told_1 9 rfl rfl)
theorem dX6_told_34 : decode cX6_told 34 = .ok (.iload_n 1, 1) := dk_27 (dk_at dksX6_told_1 12 rfl rfl)
theorem dX6_told_35 : decode cX6_told 35 = .ok (.iaload, 1) := dk_46 (dk_at dksX6_told_1 13 rfl rfl)
theorem dX6_told_36 : decode cX6_told 36 = .ok (.ireturn, 1) := dk_172 (dk_at dksX6_told_1 14 rfl rfl)
abbrev cX6_models : ByteArray := prog_19_method_53_code
def yX6_models : MethodName := ⟨RX6, "models", "(I)J"⟩
def dkwX6_models_1 : List UInt8 := [153, 0, 5, 9, 173, 42, 180, 0, 36, 27, 47, 173]
abbrev dktX6_models_1 : List UInt8 := dkwX6_models_1 ++ []
def dkwX6_models_0 : List UInt8 := [42, 3, 181, 0, 132, 42, 42, 27, 182, 1, 47, 154, 0, 7, 4, 167, 0, 4, 3, 4, 3, 182, 0, 233]
abbrev dktX6_models_0 : List UInt8 := dkwX6_models_0 ++ dktX6_models_1
theorem dksX6_models_0 : cX6_models.data.toList.drop 0 = dktX6_models_0 := by decide +kernel
theorem dksX6_models_1 : cX6_models.data.toList.drop 24 = dktX6_models_1 := dk_seg dksX6_models_0 24 rfl rfl
theorem dX6_models_0 : decode cX6_models 0 = .ok (.aload_n 0, 1) := dk_42 (dk_at dksX6_models_0 0 rfl rfl)
theorem dX6_models_1 : decode cX6_models 1 = .ok (.iconst 0, 1) := dk_3 (dk_at dksX6_models_0 1 rfl rfl)
theorem dX6_models_2 : decode cX6_models 2 = .ok (.putfield 132, 3) := dk_181 0 132 (dk_at dksX6_models_0 2 rfl rfl)
theorem dX6_models_5 : decode cX6_models 5 = .ok (.aload_n 0, 1) := dk_42 (dk_at dksX6_models_0 5 rfl rfl)
theorem dX6_models_6 : decode cX6_models 6 = .ok (.aload_n 0, 1) := dk_42 (dk_at dksX6_models_0 6 rfl rfl)
theorem dX6_models_7 : decode cX6_models 7 = .ok (.iload_n 1, 1) := dk_27 (dk_at dksX6_models_0 7 rfl rfl)
theorem dX6_models_8 : decode cX6_models 8 = .ok (.invokevirtual 303, 3) := dk_182 1 47 (dk_at dksX6_models_0 8 rfl rfl)
theorem dX6_models_11 : decode cX6_models 11 = .ok (.ifCond .ne 7, 3) := dk_154 0 7 (dk_at dksX6_models_0 11 rfl rfl)
theorem dX6_models_14 : decode cX6_models 14 = .ok (.iconst 1, 1) := dk_4 (dk_at dksX6_models_0 14 rfl rfl)
theorem dX6_models_15 : decode cX6_models 15 = .ok (.goto 4, 3) := dk_167 0 4 (dk_at dksX6_models_0 15 rfl rfl)
theorem dX6_models_18 : decode cX6_models 18 = .ok (.iconst 0, 1) := dk_3 (dk_at dksX6_models_0 18 rfl rfl)
theorem dX6_models_19 : decode cX6_models 19 = .ok (.iconst 1, 1) := dk_4 (dk_at dksX6_models_0 19 rfl rfl)
theorem dX6_models_20 : decode cX6_models 20 = .ok (.iconst 0, 1) := dk_3 (dk_at dksX6_models_0 20 rfl rfl)
theorem dX6_models_21 : decode cX6_models 21 = .ok (.invokevirtual 233, 3) := dk_182 0 233 (dk_at dksX6_models_0 21 rfl rfl)
theorem dX6_models_24 : decode cX6_models 24 = .ok (.ifCond .eq 5, 3) := dk_153 0 5 (dk_at dksX6_models_1 0 rfl rfl)
theorem dX6_models_27 : decode cX6_models 27 = .ok (.lconst 0, 1) := dk_9 (dk_at dksX6_models_1 3 rfl rfl)
theorem dX6_models_28 : decode cX6_models 28 = .ok (.lreturn, 1) := dk_173 (dk_at dksX6_models_1 4 rfl rfl)
theorem dX6_models_29 : decode cX6_models 29 = .ok (.aload_n 0, 1) := dk_42 (dk_at dksX6_models_1 5 rfl rfl)
theorem dX6_models_30 : decode cX6_models 30 = .ok (.getfield 36, 3) := dk_180 0 36 (dk_at dksX6_models_1 6 rfl rfl)
theorem dX6_models_33 : decode cX6_models 33 = .ok (.iload_n 1, 1) := dk_27 (dk_at dksX6_models_1 9 rfl rfl)
theorem dX6_models_34 : decode cX6_models 34 = .ok (.laload, 1) := dk_47 (dk_at dksX6_models_1 10 rfl rfl)
theorem dX6_models_35 : decode cX6_models 35 = .ok (.lreturn, 1) := dk_173 (dk_at dksX6_models_1 11 rfl rfl)
abbrev cX6_isSlip : ByteArray := prog_19_method_50_code
def yX6_isSlip : MethodName := ⟨RX6, "isSlip", "(I)Z"⟩
def dkwX6_isSlip_0 : List UInt8 := [27, 3, 42, 180, 0, 23, 4, 46, 4, 100, 184, 0, 166, 172]
abbrev dktX6_isSlip_0 : List UInt8 := dkwX6_isSlip_0 ++ []
theorem dksX6_isSlip_0 : cX6_isSlip.data.toList.drop 0 = dktX6_isSlip_0 := by decide +kernel
theorem dX6_isSlip_0 : decode cX6_isSlip 0 = .ok (.iload_n 1, 1) := dk_27 (dk_at dksX6_isSlip_0 0 rfl rfl)
theorem dX6_isSlip_1 : decode cX6_isSlip 1 = .ok (.iconst 0, 1) := dk_3 (dk_at dksX6_isSlip_0 1 rfl rfl)
theorem dX6_isSlip_2 : decode cX6_isSlip 2 = .ok (.aload_n 0, 1) := dk_42 (dk_at dksX6_isSlip_0 2 rfl rfl)
theorem dX6_isSlip_3 : decode cX6_isSlip 3 = .ok (.getfield 23, 3) := dk_180 0 23 (dk_at dksX6_isSlip_0 3 rfl rfl)
theorem dX6_isSlip_6 : decode cX6_isSlip 6 = .ok (.iconst 1, 1) := dk_4 (dk_at dksX6_isSlip_0 6 rfl rfl)
theorem dX6_isSlip_7 : decode cX6_isSlip 7 = .ok (.iaload, 1) := dk_46 (dk_at dksX6_isSlip_0 7 rfl rfl)
theorem dX6_isSlip_8 : decode cX6_isSlip 8 = .ok (.iconst 1, 1) := dk_4 (dk_at dksX6_isSlip_0 8 rfl rfl)
theorem dX6_isSlip_9 : decode cX6_isSlip 9 = .ok (.isub, 1) := dk_100 (dk_at dksX6_isSlip_0 9 rfl rfl)
theorem dX6_isSlip_10 : decode cX6_isSlip 10 = .ok (.invokestatic 166, 3) := dk_184 0 166 (dk_at dksX6_isSlip_0 10 rfl rfl)
theorem dX6_isSlip_13 : decode cX6_isSlip 13 = .ok (.ireturn, 1) := dk_172 (dk_at dksX6_isSlip_0 13 rfl rfl)
abbrev cX6_seen : ByteArray := prog_19_method_54_code
def yX6_seen : MethodName := ⟨RX6, "seen", "(I)J"⟩
def dkwX6_seen_1 : List UInt8 := [167, 0, 4, 3, 4, 3, 182, 0, 233, 153, 0, 5, 9, 173, 42, 180, 0, 42, 27, 47, 173]
abbrev dktX6_seen_1 : List UInt8 := dkwX6_seen_1 ++ []
def dkwX6_seen_0 : List UInt8 := [42, 3, 181, 0, 132, 42, 27, 3, 42, 180, 0, 23, 5, 46, 4, 100, 184, 0, 166, 154, 0, 7, 4]
abbrev dktX6_seen_0 : List UInt8 := dkwX6_seen_0 ++ dktX6_seen_1
theorem dksX6_seen_0 : cX6_seen.data.toList.drop 0 = dktX6_seen_0 := by decide +kernel
theorem dksX6_seen_1 : cX6_seen.data.toList.drop 23 = dktX6_seen_1 := dk_seg dksX6_seen_0 23 rfl rfl
theorem dX6_seen_0 : decode cX6_seen 0 = .ok (.aload_n 0, 1) := dk_42 (dk_at dksX6_seen_0 0 rfl rfl)
theorem dX6_seen_1 : decode cX6_seen 1 = .ok (.iconst 0, 1) := dk_3 (dk_at dksX6_seen_0 1 rfl rfl)
theorem dX6_seen_2 : decode cX6_seen 2 = .ok (.putfield 132, 3) := dk_181 0 132 (dk_at dksX6_seen_0 2 rfl rfl)
theorem dX6_seen_5 : decode cX6_seen 5 = .ok (.aload_n 0, 1) := dk_42 (dk_at dksX6_seen_0 5 rfl rfl)
theorem dX6_seen_6 : decode cX6_seen 6 = .ok (.iload_n 1, 1) := dk_27 (dk_at dksX6_seen_0 6 rfl rfl)
theorem dX6_seen_7 : decode cX6_seen 7 = .ok (.iconst 0, 1) := dk_3 (dk_at dksX6_seen_0 7 rfl rfl)
theorem dX6_seen_8 : decode cX6_seen 8 = .ok (.aload_n 0, 1) := dk_42 (dk_at dksX6_seen_0 8 rfl rfl)
theorem dX6_seen_9 : decode cX6_seen 9 = .ok (.getfield 23, 3) := dk_180 0 23 (dk_at dksX6_seen_0 9 rfl rfl)
theorem dX6_seen_12 : decode cX6_seen 12 = .ok (.iconst 2, 1) := dk_5 (dk_at dksX6_seen_0 12 rfl rfl)
theorem dX6_seen_13 : decode cX6_seen 13 = .ok (.iaload, 1) := dk_46 (dk_at dksX6_seen_0 13 rfl rfl)
theorem dX6_seen_14 : decode cX6_seen 14 = .ok (.iconst 1, 1) := dk_4 (dk_at dksX6_seen_0 14 rfl rfl)
theorem dX6_seen_15 : decode cX6_seen 15 = .ok (.isub, 1) := dk_100 (dk_at dksX6_seen_0 15 rfl rfl)
theorem dX6_seen_16 : decode cX6_seen 16 = .ok (.invokestatic 166, 3) := dk_184 0 166 (dk_at dksX6_seen_0 16 rfl rfl)
theorem dX6_seen_19 : decode cX6_seen 19 = .ok (.ifCond .ne 7, 3) := dk_154 0 7 (dk_at dksX6_seen_0 19 rfl rfl)
theorem dX6_seen_22 : decode cX6_seen 22 = .ok (.iconst 1, 1) := dk_4 (dk_at dksX6_seen_0 22 rfl rfl)
theorem dX6_seen_23 : decode cX6_seen 23 = .ok (.goto 4, 3) := dk_167 0 4 (dk_at dksX6_seen_1 0 rfl rfl)
theorem dX6_seen_26 : decode cX6_seen 26 = .ok (.iconst 0, 1) := dk_3 (dk_at dksX6_seen_1 3 rfl rfl)
theorem dX6_seen_27 : decode cX6_seen 27 = .ok (.iconst 1, 1) := dk_4 (dk_at dksX6_seen_1 4 rfl rfl)
theorem dX6_seen_28 : decode cX6_seen 28 = .ok (.iconst 0, 1) := dk_3 (dk_at dksX6_seen_1 5 rfl rfl)
theorem dX6_seen_29 : decode cX6_seen 29 = .ok (.invokevirtual 233, 3) := dk_182 0 233 (dk_at dksX6_seen_1 6 rfl rfl)
theorem dX6_seen_32 : decode cX6_seen 32 = .ok (.ifCond .eq 5, 3) := dk_153 0 5 (dk_at dksX6_seen_1 9 rfl rfl)
theorem dX6_seen_35 : decode cX6_seen 35 = .ok (.lconst 0, 1) := dk_9 (dk_at dksX6_seen_1 12 rfl rfl)
theorem dX6_seen_36 : decode cX6_seen 36 = .ok (.lreturn, 1) := dk_173 (dk_at dksX6_seen_1 13 rfl rfl)
theorem dX6_seen_37 : decode cX6_seen 37 = .ok (.aload_n 0, 1) := dk_42 (dk_at dksX6_seen_1 14 rfl rfl)
theorem dX6_seen_38 : decode cX6_seen 38 = .ok (.getfield 42, 3) := dk_180 0 42 (dk_at dksX6_seen_1 15 rfl rfl)
theorem dX6_seen_41 : decode cX6_seen 41 = .ok (.iload_n 1, 1) := dk_27 (dk_at dksX6_seen_1 18 rfl rfl)
theorem dX6_seen_42 : decode cX6_seen 42 = .ok (.laload, 1) := dk_47 (dk_at dksX6_seen_1 19 rfl rfl)
theorem dX6_seen_43 : decode cX6_seen 43 = .ok (.lreturn, 1) := dk_173 (dk_at dksX6_seen_1 20 rfl rfl)
abbrev cX6_left : ByteArray := prog_19_method_55_code
def yX6_left : MethodName := ⟨RX6, "left", "(I)J"⟩
def dkwX6_left_1 : List UInt8 := [153, 0, 5, 9, 173, 42, 180, 0, 45, 27, 47, 173]
abbrev dktX6_left_1 : List UInt8 := dkwX6_left_1 ++ []
def dkwX6_left_0 : List UInt8 := [42, 3, 181, 0, 132, 42, 27, 184, 1, 50, 154, 0, 7, 4, 167, 0, 4, 3, 4, 4, 182, 0, 233]
abbrev dktX6_left_0 : List UInt8 := dkwX6_left_0 ++ dktX6_left_1
theorem dksX6_left_0 : cX6_left.data.toList.drop 0 = dktX6_left_0 := by decide +kernel
theorem dksX6_left_1 : cX6_left.data.toList.drop 23 = dktX6_left_1 := dk_seg dksX6_left_0 23 rfl rfl
theorem dX6_left_0 : decode cX6_left 0 = .ok (.aload_n 0, 1) := dk_42 (dk_at dksX6_left_0 0 rfl rfl)
theorem dX6_left_1 : decode cX6_left 1 = .ok (.iconst 0, 1) := dk_3 (dk_at dksX6_left_0 1 rfl rfl)
theorem dX6_left_2 : decode cX6_left 2 = .ok (.putfield 132, 3) := dk_181 0 132 (dk_at dksX6_left_0 2 rfl rfl)
theorem dX6_left_5 : decode cX6_left 5 = .ok (.aload_n 0, 1) := dk_42 (dk_at dksX6_left_0 5 rfl rfl)
theorem dX6_left_6 : decode cX6_left 6 = .ok (.iload_n 1, 1) := dk_27 (dk_at dksX6_left_0 6 rfl rfl)
theorem dX6_left_7 : decode cX6_left 7 = .ok (.invokestatic 306, 3) := dk_184 1 50 (dk_at dksX6_left_0 7 rfl rfl)
theorem dX6_left_10 : decode cX6_left 10 = .ok (.ifCond .ne 7, 3) := dk_154 0 7 (dk_at dksX6_left_0 10 rfl rfl)
theorem dX6_left_13 : decode cX6_left 13 = .ok (.iconst 1, 1) := dk_4 (dk_at dksX6_left_0 13 rfl rfl)
theorem dX6_left_14 : decode cX6_left 14 = .ok (.goto 4, 3) := dk_167 0 4 (dk_at dksX6_left_0 14 rfl rfl)
theorem dX6_left_17 : decode cX6_left 17 = .ok (.iconst 0, 1) := dk_3 (dk_at dksX6_left_0 17 rfl rfl)
theorem dX6_left_18 : decode cX6_left 18 = .ok (.iconst 1, 1) := dk_4 (dk_at dksX6_left_0 18 rfl rfl)
theorem dX6_left_19 : decode cX6_left 19 = .ok (.iconst 1, 1) := dk_4 (dk_at dksX6_left_0 19 rfl rfl)
theorem dX6_left_20 : decode cX6_left 20 = .ok (.invokevirtual 233, 3) := dk_182 0 233 (dk_at dksX6_left_0 20 rfl rfl)
theorem dX6_left_23 : decode cX6_left 23 = .ok (.ifCond .eq 5, 3) := dk_153 0 5 (dk_at dksX6_left_1 0 rfl rfl)
theorem dX6_left_26 : decode cX6_left 26 = .ok (.lconst 0, 1) := dk_9 (dk_at dksX6_left_1 3 rfl rfl)
theorem dX6_left_27 : decode cX6_left 27 = .ok (.lreturn, 1) := dk_173 (dk_at dksX6_left_1 4 rfl rfl)
theorem dX6_left_28 : decode cX6_left 28 = .ok (.aload_n 0, 1) := dk_42 (dk_at dksX6_left_1 5 rfl rfl)
theorem dX6_left_29 : decode cX6_left 29 = .ok (.getfield 45, 3) := dk_180 0 45 (dk_at dksX6_left_1 6 rfl rfl)
theorem dX6_left_32 : decode cX6_left 32 = .ok (.iload_n 1, 1) := dk_27 (dk_at dksX6_left_1 9 rfl rfl)
theorem dX6_left_33 : decode cX6_left 33 = .ok (.laload, 1) := dk_47 (dk_at dksX6_left_1 10 rfl rfl)
theorem dX6_left_34 : decode cX6_left 34 = .ok (.lreturn, 1) := dk_173 (dk_at dksX6_left_1 11 rfl rfl)
abbrev cX6_isWeek : ByteArray := prog_19_method_51_code
def yX6_isWeek : MethodName := ⟨RX6, "isWeek", "(I)Z"⟩
def dkwX6_isWeek_0 : List UInt8 := [26, 3, 16, 51, 184, 0, 166, 172]
abbrev dktX6_isWeek_0 : List UInt8 := dkwX6_isWeek_0 ++ []
theorem dksX6_isWeek_0 : cX6_isWeek.data.toList.drop 0 = dktX6_isWeek_0 := by decide +kernel
theorem dX6_isWeek_0 : decode cX6_isWeek 0 = .ok (.iload_n 0, 1) := dk_26 (dk_at dksX6_isWeek_0 0 rfl rfl)
theorem dX6_isWeek_1 : decode cX6_isWeek 1 = .ok (.iconst 0, 1) := dk_3 (dk_at dksX6_isWeek_0 1 rfl rfl)
theorem dX6_isWeek_2 : decode cX6_isWeek 2 = .ok (.bipush 51, 2) := dk_16 51 (dk_at dksX6_isWeek_0 2 rfl rfl)
theorem dX6_isWeek_4 : decode cX6_isWeek 4 = .ok (.invokestatic 166, 3) := dk_184 0 166 (dk_at dksX6_isWeek_0 4 rfl rfl)
theorem dX6_isWeek_7 : decode cX6_isWeek 7 = .ok (.ireturn, 1) := dk_172 (dk_at dksX6_isWeek_0 7 rfl rfl)
abbrev cX6_kin : ByteArray := prog_19_method_56_code
def yX6_kin : MethodName := ⟨RX6, "kin", "(II)I"⟩
def dkwX6_kin_4 : List UInt8 := [154, 0, 7, 5, 167, 0, 14, 33, 9, 148, 154, 0, 7, 6, 167, 0, 4, 7, 172]
abbrev dktX6_kin_4 : List UInt8 := dkwX6_kin_4 ++ []
def dkwX6_kin_3 : List UInt8 := [33, 42, 180, 0, 36, 27, 47, 148, 154, 0, 7, 4, 167, 0, 29, 33, 42, 180, 0, 36, 28, 47, 148]
abbrev dktX6_kin_3 : List UInt8 := dkwX6_kin_3 ++ dktX6_kin_4
def dkwX6_kin_2 : List UInt8 := [28, 47, 127, 66, 42, 180, 0, 36, 27, 47, 42, 180, 0, 36, 28, 47, 148, 154, 0, 7, 3, 167, 0, 44]
abbrev dktX6_kin_2 : List UInt8 := dkwX6_kin_2 ++ dktX6_kin_3
def dkwX6_kin_1 : List UInt8 := [167, 0, 4, 3, 4, 3, 182, 0, 233, 153, 0, 5, 3, 172, 42, 180, 0, 36, 27, 47, 42, 180, 0, 36]
abbrev dktX6_kin_1 : List UInt8 := dkwX6_kin_1 ++ dktX6_kin_2
def dkwX6_kin_0 : List UInt8 := [42, 3, 181, 0, 132, 42, 42, 27, 182, 1, 47, 153, 0, 11, 42, 28, 182, 1, 47, 154, 0, 7, 4]
abbrev dktX6_kin_0 : List UInt8 := dkwX6_kin_0 ++ dktX6_kin_1
theorem dksX6_kin_0 : cX6_kin.data.toList.drop 0 = dktX6_kin_0 := by decide +kernel
theorem dksX6_kin_1 : cX6_kin.data.toList.drop 23 = dktX6_kin_1 := dk_seg dksX6_kin_0 23 rfl rfl
theorem dksX6_kin_2 : cX6_kin.data.toList.drop 47 = dktX6_kin_2 := dk_seg dksX6_kin_1 24 rfl rfl
theorem dksX6_kin_3 : cX6_kin.data.toList.drop 71 = dktX6_kin_3 := dk_seg dksX6_kin_2 24 rfl rfl
theorem dksX6_kin_4 : cX6_kin.data.toList.drop 94 = dktX6_kin_4 := dk_seg dksX6_kin_3 23 rfl rfl
theorem dX6_kin_0 : decode cX6_kin 0 = .ok (.aload_n 0, 1) := dk_42 (dk_at dksX6_kin_0 0 rfl rfl)
theorem dX6_kin_1 : decode cX6_kin 1 = .ok (.iconst 0, 1) := dk_3 (dk_at dksX6_kin_0 1 rfl rfl)
theorem dX6_kin_2 : decode cX6_kin 2 = .ok (.putfield 132, 3) := dk_181 0 132 (dk_at dksX6_kin_0 2 rfl rfl)
theorem dX6_kin_5 : decode cX6_kin 5 = .ok (.aload_n 0, 1) := dk_42 (dk_at dksX6_kin_0 5 rfl rfl)
theorem dX6_kin_6 : decode cX6_kin 6 = .ok (.aload_n 0, 1) := dk_42 (dk_at dksX6_kin_0 6 rfl rfl)
theorem dX6_kin_7 : decode cX6_kin 7 = .ok (.iload_n 1, 1) := dk_27 (dk_at dksX6_kin_0 7 rfl rfl)
theorem dX6_kin_8 : decode cX6_kin 8 = .ok (.invokevirtual 303, 3) := dk_182 1 47 (dk_at dksX6_kin_0 8 rfl rfl)
theorem dX6_kin_11 : decode cX6_kin 11 = .ok (.ifCond .eq 11, 3) := dk_153 0 11 (dk_at dksX6_kin_0 11 rfl rfl)
theorem dX6_kin_14 : decode cX6_kin 14 = .ok (.aload_n 0, 1) := dk_42 (dk_at dksX6_kin_0 14 rfl rfl)
theorem dX6_kin_15 : decode cX6_kin 15 = .ok (.iload_n 2, 1) := dk_28 (dk_at dksX6_kin_0 15 rfl rfl)
theorem dX6_kin_16 : decode cX6_kin 16 = .ok (.invokevirtual 303, 3) := dk_182 1 47 (dk_at dksX6_kin_0 16 rfl rfl)
theorem dX6_kin_19 : decode cX6_kin 19 = .ok (.ifCond .ne 7, 3) := dk_154 0 7 (dk_at dksX6_kin_0 19 rfl rfl)
theorem dX6_kin_22 : decode cX6_kin 22 = .ok (.iconst 1, 1) := dk_4 (dk_at dksX6_kin_0 22 rfl rfl)
theorem dX6_kin_23 : decode cX6_kin 23 = .ok (.goto 4, 3) := dk_167 0 4 (dk_at dksX6_kin_1 0 rfl rfl)
theorem dX6_kin_26 : decode cX6_kin 26 = .ok (.iconst 0, 1) := dk_3 (dk_at dksX6_kin_1 3 rfl rfl)
theorem dX6_kin_27 : decode cX6_kin 27 = .ok (.iconst 1, 1) := dk_4 (dk_at dksX6_kin_1 4 rfl rfl)
theorem dX6_kin_28 : decode cX6_kin 28 = .ok (.iconst 0, 1) := dk_3 (dk_at dksX6_kin_1 5 rfl rfl)
theorem dX6_kin_29 : decode cX6_kin 29 = .ok (.invokevirtual 233, 3) := dk_182 0 233 (dk_at dksX6_kin_1 6 rfl rfl)
theorem dX6_kin_32 : decode cX6_kin 32 = .ok (.ifCond .eq 5, 3) := dk_153 0 5 (dk_at dksX6_kin_1 9 rfl rfl)
theorem dX6_kin_35 : decode cX6_kin 35 = .ok (.iconst 0, 1) := dk_3 (dk_at dksX6_kin_1 12 rfl rfl)
theorem dX6_kin_36 : decode cX6_kin 36 = .ok (.ireturn, 1) := dk_172 (dk_at dksX6_kin_1 13 rfl rfl)
theorem dX6_kin_37 : decode cX6_kin 37 = .ok (.aload_n 0, 1) := dk_42 (dk_at dksX6_kin_1 14 rfl rfl)
theorem dX6_kin_38 : decode cX6_kin 38 = .ok (.getfield 36, 3) := dk_180 0 36 (dk_at dksX6_kin_1 15 rfl rfl)
theorem dX6_kin_41 : decode cX6_kin 41 = .ok (.iload_n 1, 1) := dk_27 (dk_at dksX6_kin_1 18 rfl rfl)
theorem dX6_kin_42 : decode cX6_kin 42 = .ok (.laload, 1) := dk_47 (dk_at dksX6_kin_1 19 rfl rfl)
theorem dX6_kin_43 : decode cX6_kin 43 = .ok (.aload_n 0, 1) := dk_42 (dk_at dksX6_kin_1 20 rfl rfl)
theorem dX6_kin_44 : decode cX6_kin 44 = .ok (.getfield 36, 3) := dk_180 0 36 (dk_at dksX6_kin_1 21 rfl rfl)
theorem dX6_kin_47 : decode cX6_kin 47 = .ok (.iload_n 2, 1) := dk_28 (dk_at dksX6_kin_2 0 rfl rfl)
theorem dX6_kin_48 : decode cX6_kin 48 = .ok (.laload, 1) := dk_47 (dk_at dksX6_kin_2 1 rfl rfl)
theorem dX6_kin_49 : decode cX6_kin 49 = .ok (.land, 1) := dk_127 (dk_at dksX6_kin_2 2 rfl rfl)
theorem dX6_kin_50 : decode cX6_kin 50 = .ok (.lstore_n 3, 1) := dk_66 (dk_at dksX6_kin_2 3 rfl rfl)
theorem dX6_kin_51 : decode cX6_kin 51 = .ok (.aload_n 0, 1) := dk_42 (dk_at dksX6_kin_2 4 rfl rfl)
theorem dX6_kin_52 : decode cX6_kin 52 = .ok (.getfield 36, 3) := dk_180 0 36 (dk_at dksX6_kin_2 5 rfl rfl)
theorem dX6_kin_55 : decode cX6_kin 55 = .ok (.iload_n 1, 1) := dk_27 (dk_at dksX6_kin_2 8 rfl rfl)
theorem dX6_kin_56 : decode cX6_kin 56 = .ok (.laload, 1) := dk_47 (dk_at dksX6_kin_2 9 rfl rfl)
theorem dX6_kin_57 : decode cX6_kin 57 = .ok (.aload_n 0, 1) := dk_42 (dk_at dksX6_kin_2 10 rfl rfl)
theorem dX6_kin_58 : decode cX6_kin 58 = .ok (.getfield 36, 3) := dk_180 0 36 (dk_at dksX6_kin_2 11 rfl rfl)
theorem dX6_kin_61 : decode cX6_kin 61 = .ok (.iload_n 2, 1) := dk_28 (dk_at dksX6_kin_2 14 rfl rfl)
theorem dX6_kin_62 : decode cX6_kin 62 = .ok (.laload, 1) := dk_47 (dk_at dksX6_kin_2 15 rfl rfl)
theorem dX6_kin_63 : decode cX6_kin 63 = .ok (.lcmp, 1) := dk_148 (dk_at dksX6_kin_2 16 rfl rfl)
theorem dX6_kin_64 : decode cX6_kin 64 = .ok (.ifCond .ne 7, 3) := dk_154 0 7 (dk_at dksX6_kin_2 17 rfl rfl)
theorem dX6_kin_67 : decode cX6_kin 67 = .ok (.iconst 0, 1) := dk_3 (dk_at dksX6_kin_2 20 rfl rfl)
theorem dX6_kin_68 : decode cX6_kin 68 = .ok (.goto 44, 3) := dk_167 0 44 (dk_at dksX6_kin_2 21 rfl rfl)
theorem dX6_kin_71 : decode cX6_kin 71 = .ok (.lload_n 3, 1) := dk_33 (dk_at dksX6_kin_3 0 rfl rfl)
theorem dX6_kin_72 : decode cX6_kin 72 = .ok (.aload_n 0, 1) := dk_42 (dk_at dksX6_kin_3 1 rfl rfl)
theorem dX6_kin_73 : decode cX6_kin 73 = .ok (.getfield 36, 3) := dk_180 0 36 (dk_at dksX6_kin_3 2 rfl rfl)
theorem dX6_kin_76 : decode cX6_kin 76 = .ok (.iload_n 1, 1) := dk_27 (dk_at dksX6_kin_3 5 rfl rfl)
theorem dX6_kin_77 : decode cX6_kin 77 = .ok (.laload, 1) := dk_47 (dk_at dksX6_kin_3 6 rfl rfl)
theorem dX6_kin_78 : decode cX6_kin 78 = .ok (.lcmp, 1) := dk_148 (dk_at dksX6_kin_3 7 rfl rfl)
theorem dX6_kin_79 : decode cX6_kin 79 = .ok (.ifCond .ne 7, 3) := dk_154 0 7 (dk_at dksX6_kin_3 8 rfl rfl)
theorem dX6_kin_82 : decode cX6_kin 82 = .ok (.iconst 1, 1) := dk_4 (dk_at dksX6_kin_3 11 rfl rfl)
theorem dX6_kin_83 : decode cX6_kin 83 = .ok (.goto 29, 3) := dk_167 0 29 (dk_at dksX6_kin_3 12 rfl rfl)
theorem dX6_kin_86 : decode cX6_kin 86 = .ok (.lload_n 3, 1) := dk_33 (dk_at dksX6_kin_3 15 rfl rfl)
theorem dX6_kin_87 : decode cX6_kin 87 = .ok (.aload_n 0, 1) := dk_42 (dk_at dksX6_kin_3 16 rfl rfl)
theorem dX6_kin_88 : decode cX6_kin 88 = .ok (.getfield 36, 3) := dk_180 0 36 (dk_at dksX6_kin_3 17 rfl rfl)
theorem dX6_kin_91 : decode cX6_kin 91 = .ok (.iload_n 2, 1) := dk_28 (dk_at dksX6_kin_3 20 rfl rfl)
theorem dX6_kin_92 : decode cX6_kin 92 = .ok (.laload, 1) := dk_47 (dk_at dksX6_kin_3 21 rfl rfl)
theorem dX6_kin_93 : decode cX6_kin 93 = .ok (.lcmp, 1) := dk_148 (dk_at dksX6_kin_3 22 rfl rfl)
theorem dX6_kin_94 : decode cX6_kin 94 = .ok (.ifCond .ne 7, 3) := dk_154 0 7 (dk_at dksX6_kin_4 0 rfl rfl)
theorem dX6_kin_97 : decode cX6_kin 97 = .ok (.iconst 2, 1) := dk_5 (dk_at dksX6_kin_4 3 rfl rfl)
theorem dX6_kin_98 : decode cX6_kin 98 = .ok (.goto 14, 3) := dk_167 0 14 (dk_at dksX6_kin_4 4 rfl rfl)
theorem dX6_kin_101 : decode cX6_kin 101 = .ok (.lload_n 3, 1) := dk_33 (dk_at dksX6_kin_4 7 rfl rfl)
theorem dX6_kin_102 : decode cX6_kin 102 = .ok (.lconst 0, 1) := dk_9 (dk_at dksX6_kin_4 8 rfl rfl)
theorem dX6_kin_103 : decode cX6_kin 103 = .ok (.lcmp, 1) := dk_148 (dk_at dksX6_kin_4 9 rfl rfl)
theorem dX6_kin_104 : decode cX6_kin 104 = .ok (.ifCond .ne 7, 3) := dk_154 0 7 (dk_at dksX6_kin_4 10 rfl rfl)
theorem dX6_kin_107 : decode cX6_kin 107 = .ok (.iconst 3, 1) := dk_6 (dk_at dksX6_kin_4 13 rfl rfl)
theorem dX6_kin_108 : decode cX6_kin 108 = .ok (.goto 4, 3) := dk_167 0 4 (dk_at dksX6_kin_4 14 rfl rfl)
theorem dX6_kin_111 : decode cX6_kin 111 = .ok (.iconst 4, 1) := dk_7 (dk_at dksX6_kin_4 17 rfl rfl)
theorem dX6_kin_112 : decode cX6_kin 112 = .ok (.ireturn, 1) := dk_172 (dk_at dksX6_kin_4 18 rfl rfl)
abbrev cX6_fallOut : ByteArray := prog_19_method_58_code
def yX6_fallOut : MethodName := ⟨RX6, "fallOut", "(III)Z"⟩
def dkwX6_fallOut_2 : List UInt8 := [3, 5, 4, 182, 0, 233, 153, 0, 5, 3, 172, 42, 27, 28, 29, 182, 1, 53, 172]
abbrev dktX6_fallOut_2 : List UInt8 := dkwX6_fallOut_2 ++ []
def dkwX6_fallOut_1 : List UInt8 := [167, 0, 4, 3, 4, 3, 182, 0, 233, 154, 0, 24, 42, 29, 184, 1, 50, 154, 0, 7, 4, 167, 0, 4]
abbrev dktX6_fallOut_1 : List UInt8 := dkwX6_fallOut_1 ++ dktX6_fallOut_2
def dkwX6_fallOut_0 : List UInt8 := [42, 3, 181, 0, 132, 42, 42, 27, 182, 1, 47, 153, 0, 11, 42, 28, 182, 1, 47, 154, 0, 7, 4]
abbrev dktX6_fallOut_0 : List UInt8 := dkwX6_fallOut_0 ++ dktX6_fallOut_1
theorem dksX6_fallOut_0 : cX6_fallOut.data.toList.drop 0 = dktX6_fallOut_0 := by decide +kernel
theorem dksX6_fallOut_1 : cX6_fallOut.data.toList.drop 23 = dktX6_fallOut_1 := dk_seg dksX6_fallOut_0 23 rfl rfl
theorem dksX6_fallOut_2 : cX6_fallOut.data.toList.drop 47 = dktX6_fallOut_2 := dk_seg dksX6_fallOut_1 24 rfl rfl
theorem dX6_fallOut_0 : decode cX6_fallOut 0 = .ok (.aload_n 0, 1) := dk_42 (dk_at dksX6_fallOut_0 0 rfl rfl)
theorem dX6_fallOut_1 : decode cX6_fallOut 1 = .ok (.iconst 0, 1) := dk_3 (dk_at dksX6_fallOut_0 1 rfl rfl)
theorem dX6_fallOut_2 : decode cX6_fallOut 2 = .ok (.putfield 132, 3) := dk_181 0 132 (dk_at dksX6_fallOut_0 2 rfl rfl)
theorem dX6_fallOut_5 : decode cX6_fallOut 5 = .ok (.aload_n 0, 1) := dk_42 (dk_at dksX6_fallOut_0 5 rfl rfl)
theorem dX6_fallOut_6 : decode cX6_fallOut 6 = .ok (.aload_n 0, 1) := dk_42 (dk_at dksX6_fallOut_0 6 rfl rfl)
theorem dX6_fallOut_7 : decode cX6_fallOut 7 = .ok (.iload_n 1, 1) := dk_27 (dk_at dksX6_fallOut_0 7 rfl rfl)
theorem dX6_fallOut_8 : decode cX6_fallOut 8 = .ok (.invokevirtual 303, 3) := dk_182 1 47 (dk_at dksX6_fallOut_0 8 rfl rfl)
theorem dX6_fallOut_11 : decode cX6_fallOut 11 = .ok (.ifCond .eq 11, 3) := dk_153 0 11 (dk_at dksX6_fallOut_0 11 rfl rfl)
theorem dX6_fallOut_14 : decode cX6_fallOut 14 = .ok (.aload_n 0, 1) := dk_42 (dk_at dksX6_fallOut_0 14 rfl rfl)
theorem dX6_fallOut_15 : decode cX6_fallOut 15 = .ok (.iload_n 2, 1) := dk_28 (dk_at dksX6_fallOut_0 15 rfl rfl)
theorem dX6_fallOut_16 : decode cX6_fallOut 16 = .ok (.invokevirtual 303, 3) := dk_182 1 47 (dk_at dksX6_fallOut_0 16 rfl rfl)
theorem dX6_fallOut_19 : decode cX6_fallOut 19 = .ok (.ifCond .ne 7, 3) := dk_154 0 7 (dk_at dksX6_fallOut_0 19 rfl rfl)
theorem dX6_fallOut_22 : decode cX6_fallOut 22 = .ok (.iconst 1, 1) := dk_4 (dk_at dksX6_fallOut_0 22 rfl rfl)
theorem dX6_fallOut_23 : decode cX6_fallOut 23 = .ok (.goto 4, 3) := dk_167 0 4 (dk_at dksX6_fallOut_1 0 rfl rfl)
theorem dX6_fallOut_26 : decode cX6_fallOut 26 = .ok (.iconst 0, 1) := dk_3 (dk_at dksX6_fallOut_1 3 rfl rfl)
theorem dX6_fallOut_27 : decode cX6_fallOut 27 = .ok (.iconst 1, 1) := dk_4 (dk_at dksX6_fallOut_1 4 rfl rfl)
theorem dX6_fallOut_28 : decode cX6_fallOut 28 = .ok (.iconst 0, 1) := dk_3 (dk_at dksX6_fallOut_1 5 rfl rfl)
theorem dX6_fallOut_29 : decode cX6_fallOut 29 = .ok (.invokevirtual 233, 3) := dk_182 0 233 (dk_at dksX6_fallOut_1 6 rfl rfl)
theorem dX6_fallOut_32 : decode cX6_fallOut 32 = .ok (.ifCond .ne 24, 3) := dk_154 0 24 (dk_at dksX6_fallOut_1 9 rfl rfl)
theorem dX6_fallOut_35 : decode cX6_fallOut 35 = .ok (.aload_n 0, 1) := dk_42 (dk_at dksX6_fallOut_1 12 rfl rfl)
theorem dX6_fallOut_36 : decode cX6_fallOut 36 = .ok (.iload_n 3, 1) := dk_29 (dk_at dksX6_fallOut_1 13 rfl rfl)
theorem dX6_fallOut_37 : decode cX6_fallOut 37 = .ok (.invokestatic 306, 3) := dk_184 1 50 (dk_at dksX6_fallOut_1 14 rfl rfl)
theorem dX6_fallOut_40 : decode cX6_fallOut 40 = .ok (.ifCond .ne 7, 3) := dk_154 0 7 (dk_at dksX6_fallOut_1 17 rfl rfl)
theorem dX6_fallOut_43 : decode cX6_fallOut 43 = .ok (.iconst 1, 1) := dk_4 (dk_at dksX6_fallOut_1 20 rfl rfl)
theorem dX6_fallOut_44 : decode cX6_fallOut 44 = .ok (.goto 4, 3) := dk_167 0 4 (dk_at dksX6_fallOut_1 21 rfl rfl)
theorem dX6_fallOut_47 : decode cX6_fallOut 47 = .ok (.iconst 0, 1) := dk_3 (dk_at dksX6_fallOut_2 0 rfl rfl)
theorem dX6_fallOut_48 : decode cX6_fallOut 48 = .ok (.iconst 2, 1) := dk_5 (dk_at dksX6_fallOut_2 1 rfl rfl)
theorem dX6_fallOut_49 : decode cX6_fallOut 49 = .ok (.iconst 1, 1) := dk_4 (dk_at dksX6_fallOut_2 2 rfl rfl)
theorem dX6_fallOut_50 : decode cX6_fallOut 50 = .ok (.invokevirtual 233, 3) := dk_182 0 233 (dk_at dksX6_fallOut_2 3 rfl rfl)
theorem dX6_fallOut_53 : decode cX6_fallOut 53 = .ok (.ifCond .eq 5, 3) := dk_153 0 5 (dk_at dksX6_fallOut_2 6 rfl rfl)
theorem dX6_fallOut_56 : decode cX6_fallOut 56 = .ok (.iconst 0, 1) := dk_3 (dk_at dksX6_fallOut_2 9 rfl rfl)
theorem dX6_fallOut_57 : decode cX6_fallOut 57 = .ok (.ireturn, 1) := dk_172 (dk_at dksX6_fallOut_2 10 rfl rfl)
theorem dX6_fallOut_58 : decode cX6_fallOut 58 = .ok (.aload_n 0, 1) := dk_42 (dk_at dksX6_fallOut_2 11 rfl rfl)
theorem dX6_fallOut_59 : decode cX6_fallOut 59 = .ok (.iload_n 1, 1) := dk_27 (dk_at dksX6_fallOut_2 12 rfl rfl)
theorem dX6_fallOut_60 : decode cX6_fallOut 60 = .ok (.iload_n 2, 1) := dk_28 (dk_at dksX6_fallOut_2 13 rfl rfl)
theorem dX6_fallOut_61 : decode cX6_fallOut 61 = .ok (.iload_n 3, 1) := dk_29 (dk_at dksX6_fallOut_2 14 rfl rfl)
theorem dX6_fallOut_62 : decode cX6_fallOut 62 = .ok (.invokevirtual 309, 3) := dk_182 1 53 (dk_at dksX6_fallOut_2 15 rfl rfl)
theorem dX6_fallOut_65 : decode cX6_fallOut 65 = .ok (.ireturn, 1) := dk_172 (dk_at dksX6_fallOut_2 18 rfl rfl)
abbrev cX6_falls : ByteArray := prog_19_method_57_code
def yX6_falls : MethodName := ⟨RX6, "falls", "(III)Z"⟩
def dkwX6_falls_1 : List UInt8 := [154, 0, 7, 4, 167, 0, 4, 3, 172]
abbrev dktX6_falls_1 : List UInt8 := dkwX6_falls_1 ++ []
def dkwX6_falls_0 : List UInt8 := [42, 180, 0, 36, 27, 47, 42, 180, 0, 36, 28, 47, 127, 42, 180, 0, 45, 29, 47, 127, 9, 148]
abbrev dktX6_falls_0 : List UInt8 := dkwX6_falls_0 ++ dktX6_falls_1
theorem dksX6_falls_0 : cX6_falls.data.toList.drop 0 = dktX6_falls_0 := by decide +kernel
theorem dksX6_falls_1 : cX6_falls.data.toList.drop 22 = dktX6_falls_1 := dk_seg dksX6_falls_0 22 rfl rfl
theorem dX6_falls_0 : decode cX6_falls 0 = .ok (.aload_n 0, 1) := dk_42 (dk_at dksX6_falls_0 0 rfl rfl)
theorem dX6_falls_1 : decode cX6_falls 1 = .ok (.getfield 36, 3) := dk_180 0 36 (dk_at dksX6_falls_0 1 rfl rfl)
theorem dX6_falls_4 : decode cX6_falls 4 = .ok (.iload_n 1, 1) := dk_27 (dk_at dksX6_falls_0 4 rfl rfl)
theorem dX6_falls_5 : decode cX6_falls 5 = .ok (.laload, 1) := dk_47 (dk_at dksX6_falls_0 5 rfl rfl)
theorem dX6_falls_6 : decode cX6_falls 6 = .ok (.aload_n 0, 1) := dk_42 (dk_at dksX6_falls_0 6 rfl rfl)
theorem dX6_falls_7 : decode cX6_falls 7 = .ok (.getfield 36, 3) := dk_180 0 36 (dk_at dksX6_falls_0 7 rfl rfl)
theorem dX6_falls_10 : decode cX6_falls 10 = .ok (.iload_n 2, 1) := dk_28 (dk_at dksX6_falls_0 10 rfl rfl)
theorem dX6_falls_11 : decode cX6_falls 11 = .ok (.laload, 1) := dk_47 (dk_at dksX6_falls_0 11 rfl rfl)
theorem dX6_falls_12 : decode cX6_falls 12 = .ok (.land, 1) := dk_127 (dk_at dksX6_falls_0 12 rfl rfl)
theorem dX6_falls_13 : decode cX6_falls 13 = .ok (.aload_n 0, 1) := dk_42 (dk_at dksX6_falls_0 13 rfl rfl)
theorem dX6_falls_14 : decode cX6_falls 14 = .ok (.getfield 45, 3) := dk_180 0 45 (dk_at dksX6_falls_0 14 rfl rfl)
theorem dX6_falls_17 : decode cX6_falls 17 = .ok (.iload_n 3, 1) := dk_29 (dk_at dksX6_falls_0 17 rfl rfl)
theorem dX6_falls_18 : decode cX6_falls 18 = .ok (.laload, 1) := dk_47 (dk_at dksX6_falls_0 18 rfl rfl)
theorem dX6_falls_19 : decode cX6_falls 19 = .ok (.land, 1) := dk_127 (dk_at dksX6_falls_0 19 rfl rfl)
theorem dX6_falls_20 : decode cX6_falls 20 = .ok (.lconst 0, 1) := dk_9 (dk_at dksX6_falls_0 20 rfl rfl)
theorem dX6_falls_21 : decode cX6_falls 21 = .ok (.lcmp, 1) := dk_148 (dk_at dksX6_falls_0 21 rfl rfl)
theorem dX6_falls_22 : decode cX6_falls 22 = .ok (.ifCond .ne 7, 3) := dk_154 0 7 (dk_at dksX6_falls_1 0 rfl rfl)
theorem dX6_falls_25 : decode cX6_falls 25 = .ok (.iconst 1, 1) := dk_4 (dk_at dksX6_falls_1 3 rfl rfl)
theorem dX6_falls_26 : decode cX6_falls 26 = .ok (.goto 4, 3) := dk_167 0 4 (dk_at dksX6_falls_1 4 rfl rfl)
theorem dX6_falls_29 : decode cX6_falls 29 = .ok (.iconst 0, 1) := dk_3 (dk_at dksX6_falls_1 7 rfl rfl)
theorem dX6_falls_30 : decode cX6_falls 30 = .ok (.ireturn, 1) := dk_172 (dk_at dksX6_falls_1 8 rfl rfl)
abbrev cX6_truths : ByteArray := prog_19_method_61_code
def yX6_truths : MethodName := ⟨RX6, "truths", "()I"⟩
def dkwX6_truths_0 : List UInt8 := [42, 3, 181, 0, 132, 42, 182, 1, 59, 172]
abbrev dktX6_truths_0 : List UInt8 := dkwX6_truths_0 ++ []
theorem dksX6_truths_0 : cX6_truths.data.toList.drop 0 = dktX6_truths_0 := by decide +kernel
theorem dX6_truths_0 : decode cX6_truths 0 = .ok (.aload_n 0, 1) := dk_42 (dk_at dksX6_truths_0 0 rfl rfl)
theorem dX6_truths_1 : decode cX6_truths 1 = .ok (.iconst 0, 1) := dk_3 (dk_at dksX6_truths_0 1 rfl rfl)
theorem dX6_truths_2 : decode cX6_truths 2 = .ok (.putfield 132, 3) := dk_181 0 132 (dk_at dksX6_truths_0 2 rfl rfl)
theorem dX6_truths_5 : decode cX6_truths 5 = .ok (.aload_n 0, 1) := dk_42 (dk_at dksX6_truths_0 5 rfl rfl)
theorem dX6_truths_6 : decode cX6_truths 6 = .ok (.invokevirtual 315, 3) := dk_182 1 59 (dk_at dksX6_truths_0 6 rfl rfl)
theorem dX6_truths_9 : decode cX6_truths 9 = .ok (.ireturn, 1) := dk_172 (dk_at dksX6_truths_0 9 rfl rfl)
abbrev cX6_truthsNow : ByteArray := prog_19_method_60_code
def yX6_truthsNow : MethodName := ⟨RX6, "truthsNow", "()I"⟩
def dkwX6_truthsNow_1 : List UInt8 := [28, 120, 167, 0, 4, 3, 128, 60, 132, 2, 1, 167, 255, 225, 27, 172]
abbrev dktX6_truthsNow_1 : List UInt8 := dkwX6_truthsNow_1 ++ []
def dkwX6_truthsNow_0 : List UInt8 := [3, 60, 3, 61, 28, 42, 180, 0, 23, 4, 46, 162, 0, 27, 27, 42, 28, 182, 1, 56, 153, 0, 9, 4]
abbrev dktX6_truthsNow_0 : List UInt8 := dkwX6_truthsNow_0 ++ dktX6_truthsNow_1
theorem dksX6_truthsNow_0 : cX6_truthsNow.data.toList.drop 0 = dktX6_truthsNow_0 := by decide +kernel
theorem dksX6_truthsNow_1 : cX6_truthsNow.data.toList.drop 24 = dktX6_truthsNow_1 := dk_seg dksX6_truthsNow_0 24 rfl rfl
theorem dX6_truthsNow_0 : decode cX6_truthsNow 0 = .ok (.iconst 0, 1) := dk_3 (dk_at dksX6_truthsNow_0 0 rfl rfl)
theorem dX6_truthsNow_1 : decode cX6_truthsNow 1 = .ok (.istore_n 1, 1) := dk_60 (dk_at dksX6_truthsNow_0 1 rfl rfl)
theorem dX6_truthsNow_2 : decode cX6_truthsNow 2 = .ok (.iconst 0, 1) := dk_3 (dk_at dksX6_truthsNow_0 2 rfl rfl)
theorem dX6_truthsNow_3 : decode cX6_truthsNow 3 = .ok (.istore_n 2, 1) := dk_61 (dk_at dksX6_truthsNow_0 3 rfl rfl)
theorem dX6_truthsNow_4 : decode cX6_truthsNow 4 = .ok (.iload_n 2, 1) := dk_28 (dk_at dksX6_truthsNow_0 4 rfl rfl)
theorem dX6_truthsNow_5 : decode cX6_truthsNow 5 = .ok (.aload_n 0, 1) := dk_42 (dk_at dksX6_truthsNow_0 5 rfl rfl)
theorem dX6_truthsNow_6 : decode cX6_truthsNow 6 = .ok (.getfield 23, 3) := dk_180 0 23 (dk_at dksX6_truthsNow_0 6 rfl rfl)
theorem dX6_truthsNow_9 : decode cX6_truthsNow 9 = .ok (.iconst 1, 1) := dk_4 (dk_at dksX6_truthsNow_0 9 rfl rfl)
theorem dX6_truthsNow_10 : decode cX6_truthsNow 10 = .ok (.iaload, 1) := dk_46 (dk_at dksX6_truthsNow_0 10 rfl rfl)
theorem dX6_truthsNow_11 : decode cX6_truthsNow 11 = .ok (.if_icmp .ge 27, 3) := dk_162 0 27 (dk_at dksX6_truthsNow_0 11 rfl rfl)
theorem dX6_truthsNow_14 : decode cX6_truthsNow 14 = .ok (.iload_n 1, 1) := dk_27 (dk_at dksX6_truthsNow_0 14 rfl rfl)
theorem dX6_truthsNow_15 : decode cX6_truthsNow 15 = .ok (.aload_n 0, 1) := dk_42 (dk_at dksX6_truthsNow_0 15 rfl rfl)
theorem dX6_truthsNow_16 : decode cX6_truthsNow 16 = .ok (.iload_n 2, 1) := dk_28 (dk_at dksX6_truthsNow_0 16 rfl rfl)
theorem dX6_truthsNow_17 : decode cX6_truthsNow 17 = .ok (.invokevirtual 312, 3) := dk_182 1 56 (dk_at dksX6_truthsNow_0 17 rfl rfl)
theorem dX6_truthsNow_20 : decode cX6_truthsNow 20 = .ok (.ifCond .eq 9, 3) := dk_153 0 9 (dk_at dksX6_truthsNow_0 20 rfl rfl)
theorem dX6_truthsNow_23 : decode cX6_truthsNow 23 = .ok (.iconst 1, 1) := dk_4 (dk_at dksX6_truthsNow_0 23 rfl rfl)
theorem dX6_truthsNow_24 : decode cX6_truthsNow 24 = .ok (.iload_n 2, 1) := dk_28 (dk_at dksX6_truthsNow_1 0 rfl rfl)
theorem dX6_truthsNow_25 : decode cX6_truthsNow 25 = .ok (.ishl, 1) := dk_120 (dk_at dksX6_truthsNow_1 1 rfl rfl)
theorem dX6_truthsNow_26 : decode cX6_truthsNow 26 = .ok (.goto 4, 3) := dk_167 0 4 (dk_at dksX6_truthsNow_1 2 rfl rfl)
theorem dX6_truthsNow_29 : decode cX6_truthsNow 29 = .ok (.iconst 0, 1) := dk_3 (dk_at dksX6_truthsNow_1 5 rfl rfl)
theorem dX6_truthsNow_30 : decode cX6_truthsNow 30 = .ok (.ior, 1) := dk_128 (dk_at dksX6_truthsNow_1 6 rfl rfl)
theorem dX6_truthsNow_31 : decode cX6_truthsNow 31 = .ok (.istore_n 1, 1) := dk_60 (dk_at dksX6_truthsNow_1 7 rfl rfl)
theorem dX6_truthsNow_32 : decode cX6_truthsNow 32 = .ok (.iinc 2 1, 3) := dk_132 2 1 (dk_at dksX6_truthsNow_1 8 rfl rfl)
theorem dX6_truthsNow_35 : decode cX6_truthsNow 35 = .ok (.goto (-31), 3) := dk_167 255 225 (dk_at dksX6_truthsNow_1 11 rfl rfl)
theorem dX6_truthsNow_38 : decode cX6_truthsNow 38 = .ok (.iload_n 1, 1) := dk_27 (dk_at dksX6_truthsNow_1 14 rfl rfl)
theorem dX6_truthsNow_39 : decode cX6_truthsNow 39 = .ok (.ireturn, 1) := dk_172 (dk_at dksX6_truthsNow_1 15 rfl rfl)
abbrev cX6_isTrue : ByteArray := prog_19_method_59_code
def yX6_isTrue : MethodName := ⟨RX6, "isTrue", "(I)Z"⟩
def dkwX6_isTrue_1 : List UInt8 := [3, 172]
abbrev dktX6_isTrue_1 : List UInt8 := dkwX6_isTrue_1 ++ []
def dkwX6_isTrue_0 : List UInt8 := [42, 180, 0, 36, 27, 47, 42, 180, 0, 23, 7, 46, 123, 10, 127, 10, 148, 154, 0, 7, 4, 167, 0, 4]
abbrev dktX6_isTrue_0 : List UInt8 := dkwX6_isTrue_0 ++ dktX6_isTrue_1
theorem dksX6_isTrue_0 : cX6_isTrue.data.toList.drop 0 = dktX6_isTrue_0 := by decide +kernel
theorem dksX6_isTrue_1 : cX6_isTrue.data.toList.drop 24 = dktX6_isTrue_1 := dk_seg dksX6_isTrue_0 24 rfl rfl
theorem dX6_isTrue_0 : decode cX6_isTrue 0 = .ok (.aload_n 0, 1) := dk_42 (dk_at dksX6_isTrue_0 0 rfl rfl)
theorem dX6_isTrue_1 : decode cX6_isTrue 1 = .ok (.getfield 36, 3) := dk_180 0 36 (dk_at dksX6_isTrue_0 1 rfl rfl)
theorem dX6_isTrue_4 : decode cX6_isTrue 4 = .ok (.iload_n 1, 1) := dk_27 (dk_at dksX6_isTrue_0 4 rfl rfl)
theorem dX6_isTrue_5 : decode cX6_isTrue 5 = .ok (.laload, 1) := dk_47 (dk_at dksX6_isTrue_0 5 rfl rfl)
theorem dX6_isTrue_6 : decode cX6_isTrue 6 = .ok (.aload_n 0, 1) := dk_42 (dk_at dksX6_isTrue_0 6 rfl rfl)
theorem dX6_isTrue_7 : decode cX6_isTrue 7 = .ok (.getfield 23, 3) := dk_180 0 23 (dk_at dksX6_isTrue_0 7 rfl rfl)
theorem dX6_isTrue_10 : decode cX6_isTrue 10 = .ok (.iconst 4, 1) := dk_7 (dk_at dksX6_isTrue_0 10 rfl rfl)
theorem dX6_isTrue_11 : decode cX6_isTrue 11 = .ok (.iaload, 1) := dk_46 (dk_at dksX6_isTrue_0 11 rfl rfl)
theorem dX6_isTrue_12 : decode cX6_isTrue 12 = .ok (.lshr, 1) := dk_123 (dk_at dksX6_isTrue_0 12 rfl rfl)
theorem dX6_isTrue_13 : decode cX6_isTrue 13 = .ok (.lconst 1, 1) := dk_10 (dk_at dksX6_isTrue_0 13 rfl rfl)
theorem dX6_isTrue_14 : decode cX6_isTrue 14 = .ok (.land, 1) := dk_127 (dk_at dksX6_isTrue_0 14 rfl rfl)
theorem dX6_isTrue_15 : decode cX6_isTrue 15 = .ok (.lconst 1, 1) := dk_10 (dk_at dksX6_isTrue_0 15 rfl rfl)
theorem dX6_isTrue_16 : decode cX6_isTrue 16 = .ok (.lcmp, 1) := dk_148 (dk_at dksX6_isTrue_0 16 rfl rfl)
theorem dX6_isTrue_17 : decode cX6_isTrue 17 = .ok (.ifCond .ne 7, 3) := dk_154 0 7 (dk_at dksX6_isTrue_0 17 rfl rfl)
theorem dX6_isTrue_20 : decode cX6_isTrue 20 = .ok (.iconst 1, 1) := dk_4 (dk_at dksX6_isTrue_0 20 rfl rfl)
theorem dX6_isTrue_21 : decode cX6_isTrue 21 = .ok (.goto 4, 3) := dk_167 0 4 (dk_at dksX6_isTrue_0 21 rfl rfl)
theorem dX6_isTrue_24 : decode cX6_isTrue 24 = .ok (.iconst 0, 1) := dk_3 (dk_at dksX6_isTrue_1 0 rfl rfl)
theorem dX6_isTrue_25 : decode cX6_isTrue 25 = .ok (.ireturn, 1) := dk_172 (dk_at dksX6_isTrue_1 1 rfl rfl)
abbrev cX6_dull : ByteArray := prog_19_method_62_code
def yX6_dull : MethodName := ⟨RX6, "dull", "()I"⟩
def dkwX6_dull_2 : List UInt8 := [132, 2, 1, 167, 255, 214, 27, 172]
abbrev dktX6_dull_2 : List UInt8 := dkwX6_dull_2 ++ []
def dkwX6_dull_1 : List UInt8 := [28, 47, 42, 180, 0, 45, 16, 51, 47, 127, 9, 148, 153, 0, 9, 4, 28, 120, 167, 0, 4, 3, 128, 60]
abbrev dktX6_dull_1 : List UInt8 := dkwX6_dull_1 ++ dktX6_dull_2
def dkwX6_dull_0 : List UInt8 := [42, 3, 181, 0, 132, 3, 60, 3, 61, 28, 42, 180, 0, 23, 4, 46, 162, 0, 38, 27, 42, 180, 0, 36]
abbrev dktX6_dull_0 : List UInt8 := dkwX6_dull_0 ++ dktX6_dull_1
theorem dksX6_dull_0 : cX6_dull.data.toList.drop 0 = dktX6_dull_0 := by decide +kernel
theorem dksX6_dull_1 : cX6_dull.data.toList.drop 24 = dktX6_dull_1 := dk_seg dksX6_dull_0 24 rfl rfl
theorem dksX6_dull_2 : cX6_dull.data.toList.drop 48 = dktX6_dull_2 := dk_seg dksX6_dull_1 24 rfl rfl
theorem dX6_dull_0 : decode cX6_dull 0 = .ok (.aload_n 0, 1) := dk_42 (dk_at dksX6_dull_0 0 rfl rfl)
theorem dX6_dull_1 : decode cX6_dull 1 = .ok (.iconst 0, 1) := dk_3 (dk_at dksX6_dull_0 1 rfl rfl)
theorem dX6_dull_2 : decode cX6_dull 2 = .ok (.putfield 132, 3) := dk_181 0 132 (dk_at dksX6_dull_0 2 rfl rfl)
theorem dX6_dull_5 : decode cX6_dull 5 = .ok (.iconst 0, 1) := dk_3 (dk_at dksX6_dull_0 5 rfl rfl)
theorem dX6_dull_6 : decode cX6_dull 6 = .ok (.istore_n 1, 1) := dk_60 (dk_at dksX6_dull_0 6 rfl rfl)
theorem dX6_dull_7 : decode cX6_dull 7 = .ok (.iconst 0, 1) := dk_3 (dk_at dksX6_dull_0 7 rfl rfl)
theorem dX6_dull_8 : decode cX6_dull 8 = .ok (.istore_n 2, 1) := dk_61 (dk_at dksX6_dull_0 8 rfl rfl)
theorem dX6_dull_9 : decode cX6_dull 9 = .ok (.iload_n 2, 1) := dk_28 (dk_at dksX6_dull_0 9 rfl rfl)
theorem dX6_dull_10 : decode cX6_dull 10 = .ok (.aload_n 0, 1) := dk_42 (dk_at dksX6_dull_0 10 rfl rfl)
theorem dX6_dull_11 : decode cX6_dull 11 = .ok (.getfield 23, 3) := dk_180 0 23 (dk_at dksX6_dull_0 11 rfl rfl)
theorem dX6_dull_14 : decode cX6_dull 14 = .ok (.iconst 1, 1) := dk_4 (dk_at dksX6_dull_0 14 rfl rfl)
theorem dX6_dull_15 : decode cX6_dull 15 = .ok (.iaload, 1) := dk_46 (dk_at dksX6_dull_0 15 rfl rfl)
theorem dX6_dull_16 : decode cX6_dull 16 = .ok (.if_icmp .ge 38, 3) := dk_162 0 38 (dk_at dksX6_dull_0 16 rfl rfl)
theorem dX6_dull_19 : decode cX6_dull 19 = .ok (.iload_n 1, 1) := dk_27 (dk_at dksX6_dull_0 19 rfl rfl)
theorem dX6_dull_20 : decode cX6_dull 20 = .ok (.aload_n 0, 1) := dk_42 (dk_at dksX6_dull_0 20 rfl rfl)
theorem dX6_dull_21 : decode cX6_dull 21 = .ok (.getfield 36, 3) := dk_180 0 36 (dk_at dksX6_dull_0 21 rfl rfl)
theorem dX6_dull_24 : decode cX6_dull 24 = .ok (.iload_n 2, 1) := dk_28 (dk_at dksX6_dull_1 0 rfl rfl)
theorem dX6_dull_25 : decode cX6_dull 25 = .ok (.laload, 1) := dk_47 (dk_at dksX6_dull_1 1 rfl rfl)
theorem dX6_dull_26 : decode cX6_dull 26 = .ok (.aload_n 0, 1) := dk_42 (dk_at dksX6_dull_1 2 rfl rfl)
theorem dX6_dull_27 : decode cX6_dull 27 = .ok (.getfield 45, 3) := dk_180 0 45 (dk_at dksX6_dull_1 3 rfl rfl)
theorem dX6_dull_30 : decode cX6_dull 30 = .ok (.bipush 51, 2) := dk_16 51 (dk_at dksX6_dull_1 6 rfl rfl)
theorem dX6_dull_32 : decode cX6_dull 32 = .ok (.laload, 1) := dk_47 (dk_at dksX6_dull_1 8 rfl rfl)
theorem dX6_dull_33 : decode cX6_dull 33 = .ok (.land, 1) := dk_127 (dk_at dksX6_dull_1 9 rfl rfl)
theorem dX6_dull_34 : decode cX6_dull 34 = .ok (.lconst 0, 1) := dk_9 (dk_at dksX6_dull_1 10 rfl rfl)
theorem dX6_dull_35 : decode cX6_dull 35 = .ok (.lcmp, 1) := dk_148 (dk_at dksX6_dull_1 11 rfl rfl)
theorem dX6_dull_36 : decode cX6_dull 36 = .ok (.ifCond .eq 9, 3) := dk_153 0 9 (dk_at dksX6_dull_1 12 rfl rfl)
theorem dX6_dull_39 : decode cX6_dull 39 = .ok (.iconst 1, 1) := dk_4 (dk_at dksX6_dull_1 15 rfl rfl)
theorem dX6_dull_40 : decode cX6_dull 40 = .ok (.iload_n 2, 1) := dk_28 (dk_at dksX6_dull_1 16 rfl rfl)
theorem dX6_dull_41 : decode cX6_dull 41 = .ok (.ishl, 1) := dk_120 (dk_at dksX6_dull_1 17 rfl rfl)
theorem dX6_dull_42 : decode cX6_dull 42 = .ok (.goto 4, 3) := dk_167 0 4 (dk_at dksX6_dull_1 18 rfl rfl)
theorem dX6_dull_45 : decode cX6_dull 45 = .ok (.iconst 0, 1) := dk_3 (dk_at dksX6_dull_1 21 rfl rfl)
theorem dX6_dull_46 : decode cX6_dull 46 = .ok (.ior, 1) := dk_128 (dk_at dksX6_dull_1 22 rfl rfl)
theorem dX6_dull_47 : decode cX6_dull 47 = .ok (.istore_n 1, 1) := dk_60 (dk_at dksX6_dull_1 23 rfl rfl)
theorem dX6_dull_48 : decode cX6_dull 48 = .ok (.iinc 2 1, 3) := dk_132 2 1 (dk_at dksX6_dull_2 0 rfl rfl)
theorem dX6_dull_51 : decode cX6_dull 51 = .ok (.goto (-42), 3) := dk_167 255 214 (dk_at dksX6_dull_2 3 rfl rfl)
theorem dX6_dull_54 : decode cX6_dull 54 = .ok (.iload_n 1, 1) := dk_27 (dk_at dksX6_dull_2 6 rfl rfl)
theorem dX6_dull_55 : decode cX6_dull 55 = .ok (.ireturn, 1) := dk_172 (dk_at dksX6_dull_2 7 rfl rfl)
abbrev cX6_order : ByteArray := prog_19_method_63_code
def yX6_order : MethodName := ⟨RX6, "order", "(J)I"⟩
def dkwX6_order_6 : List UInt8 := [167, 255, 228, 4, 172]
abbrev dktX6_order_6 : List UInt8 := dkwX6_order_6 ++ []
def dkwX6_order_5 : List UInt8 := [4, 46, 162, 0, 23, 42, 180, 0, 54, 21, 6, 42, 180, 0, 77, 21, 6, 46, 79, 132, 6, 1]
abbrev dktX6_order_5 : List UInt8 := dkwX6_order_5 ++ dktX6_order_6
def dkwX6_order_4 : List UInt8 := [4, 42, 180, 0, 23, 4, 46, 120, 4, 100, 159, 0, 5, 3, 172, 3, 54, 6, 21, 6, 42, 180, 0, 23]
abbrev dktX6_order_4 : List UInt8 := dkwX6_order_4 ++ dktX6_order_5
def dkwX6_order_3 : List UInt8 := [3, 128, 54, 5, 132, 6, 255, 167, 255, 199, 31, 9, 148, 155, 0, 24, 33, 9, 148, 154, 0, 18, 21, 5]
abbrev dktX6_order_3 : List UInt8 := dkwX6_order_3 ++ dktX6_order_4
def dkwX6_order_2 : List UInt8 := [180, 0, 77, 21, 6, 46, 182, 1, 47, 153, 0, 15, 4, 42, 180, 0, 77, 21, 6, 46, 120, 167, 0, 4]
abbrev dktX6_order_2 : List UInt8 := dkwX6_order_2 ++ dktX6_order_3
def dkwX6_order_1 : List UInt8 := [155, 0, 58, 42, 180, 0, 77, 21, 6, 33, 20, 1, 62, 127, 136, 79, 33, 7, 123, 66, 21, 5, 42, 42]
abbrev dktX6_order_1 : List UInt8 := dkwX6_order_1 ++ dktX6_order_2
def dkwX6_order_0 : List UInt8 := [42, 3, 181, 0, 132, 31, 66, 3, 54, 5, 42, 180, 0, 23, 4, 46, 4, 100, 54, 6, 21, 6]
abbrev dktX6_order_0 : List UInt8 := dkwX6_order_0 ++ dktX6_order_1
theorem dksX6_order_0 : cX6_order.data.toList.drop 0 = dktX6_order_0 := by decide +kernel
theorem dksX6_order_1 : cX6_order.data.toList.drop 22 = dktX6_order_1 := dk_seg dksX6_order_0 22 rfl rfl
theorem dksX6_order_2 : cX6_order.data.toList.drop 46 = dktX6_order_2 := dk_seg dksX6_order_1 24 rfl rfl
theorem dksX6_order_3 : cX6_order.data.toList.drop 70 = dktX6_order_3 := dk_seg dksX6_order_2 24 rfl rfl
theorem dksX6_order_4 : cX6_order.data.toList.drop 94 = dktX6_order_4 := dk_seg dksX6_order_3 24 rfl rfl
theorem dksX6_order_5 : cX6_order.data.toList.drop 118 = dktX6_order_5 := dk_seg dksX6_order_4 24 rfl rfl
theorem dksX6_order_6 : cX6_order.data.toList.drop 140 = dktX6_order_6 := dk_seg dksX6_order_5 22 rfl rfl
theorem dX6_order_0 : decode cX6_order 0 = .ok (.aload_n 0, 1) := dk_42 (dk_at dksX6_order_0 0 rfl rfl)
theorem dX6_order_1 : decode cX6_order 1 = .ok (.iconst 0, 1) := dk_3 (dk_at dksX6_order_0 1 rfl rfl)
theorem dX6_order_2 : decode cX6_order 2 = .ok (.putfield 132, 3) := dk_181 0 132 (dk_at dksX6_order_0 2 rfl rfl)
theorem dX6_order_5 : decode cX6_order 5 = .ok (.lload_n 1, 1) := dk_31 (dk_at dksX6_order_0 5 rfl rfl)
theorem dX6_order_6 : decode cX6_order 6 = .ok (.lstore_n 3, 1) := dk_66 (dk_at dksX6_order_0 6 rfl rfl)
theorem dX6_order_7 : decode cX6_order 7 = .ok (.iconst 0, 1) := dk_3 (dk_at dksX6_order_0 7 rfl rfl)
theorem dX6_order_8 : decode cX6_order 8 = .ok (.istore 5, 2) := dk_54 5 (dk_at dksX6_order_0 8 rfl rfl)
theorem dX6_order_10 : decode cX6_order 10 = .ok (.aload_n 0, 1) := dk_42 (dk_at dksX6_order_0 10 rfl rfl)
theorem dX6_order_11 : decode cX6_order 11 = .ok (.getfield 23, 3) := dk_180 0 23 (dk_at dksX6_order_0 11 rfl rfl)
theorem dX6_order_14 : decode cX6_order 14 = .ok (.iconst 1, 1) := dk_4 (dk_at dksX6_order_0 14 rfl rfl)
theorem dX6_order_15 : decode cX6_order 15 = .ok (.iaload, 1) := dk_46 (dk_at dksX6_order_0 15 rfl rfl)
theorem dX6_order_16 : decode cX6_order 16 = .ok (.iconst 1, 1) := dk_4 (dk_at dksX6_order_0 16 rfl rfl)
theorem dX6_order_17 : decode cX6_order 17 = .ok (.isub, 1) := dk_100 (dk_at dksX6_order_0 17 rfl rfl)
theorem dX6_order_18 : decode cX6_order 18 = .ok (.istore 6, 2) := dk_54 6 (dk_at dksX6_order_0 18 rfl rfl)
theorem dX6_order_20 : decode cX6_order 20 = .ok (.iload 6, 2) := dk_21 6 (dk_at dksX6_order_0 20 rfl rfl)
theorem dX6_order_22 : decode cX6_order 22 = .ok (.ifCond .lt 58, 3) := dk_155 0 58 (dk_at dksX6_order_1 0 rfl rfl)
theorem dX6_order_25 : decode cX6_order 25 = .ok (.aload_n 0, 1) := dk_42 (dk_at dksX6_order_1 3 rfl rfl)
theorem dX6_order_26 : decode cX6_order 26 = .ok (.getfield 77, 3) := dk_180 0 77 (dk_at dksX6_order_1 4 rfl rfl)
theorem dX6_order_29 : decode cX6_order 29 = .ok (.iload 6, 2) := dk_21 6 (dk_at dksX6_order_1 7 rfl rfl)
theorem dX6_order_31 : decode cX6_order 31 = .ok (.lload_n 3, 1) := dk_33 (dk_at dksX6_order_1 9 rfl rfl)
theorem dX6_order_32 : decode cX6_order 32 = .ok (.ldc2_w 318, 3) := dk_20 1 62 (dk_at dksX6_order_1 10 rfl rfl)
theorem dX6_order_35 : decode cX6_order 35 = .ok (.land, 1) := dk_127 (dk_at dksX6_order_1 13 rfl rfl)
theorem dX6_order_36 : decode cX6_order 36 = .ok (.l2i, 1) := dk_136 (dk_at dksX6_order_1 14 rfl rfl)
theorem dX6_order_37 : decode cX6_order 37 = .ok (.iastore, 1) := dk_79 (dk_at dksX6_order_1 15 rfl rfl)
theorem dX6_order_38 : decode cX6_order 38 = .ok (.lload_n 3, 1) := dk_33 (dk_at dksX6_order_1 16 rfl rfl)
theorem dX6_order_39 : decode cX6_order 39 = .ok (.iconst 4, 1) := dk_7 (dk_at dksX6_order_1 17 rfl rfl)
theorem dX6_order_40 : decode cX6_order 40 = .ok (.lshr, 1) := dk_123 (dk_at dksX6_order_1 18 rfl rfl)
theorem dX6_order_41 : decode cX6_order 41 = .ok (.lstore_n 3, 1) := dk_66 (dk_at dksX6_order_1 19 rfl rfl)
theorem dX6_order_42 : decode cX6_order 42 = .ok (.iload 5, 2) := dk_21 5 (dk_at dksX6_order_1 20 rfl rfl)
theorem dX6_order_44 : decode cX6_order 44 = .ok (.aload_n 0, 1) := dk_42 (dk_at dksX6_order_1 22 rfl rfl)
theorem dX6_order_45 : decode cX6_order 45 = .ok (.aload_n 0, 1) := dk_42 (dk_at dksX6_order_1 23 rfl rfl)
theorem dX6_order_46 : decode cX6_order 46 = .ok (.getfield 77, 3) := dk_180 0 77 (dk_at dksX6_order_2 0 rfl rfl)
theorem dX6_order_49 : decode cX6_order 49 = .ok (.iload 6, 2) := dk_21 6 (dk_at dksX6_order_2 3 rfl rfl)
theorem dX6_order_51 : decode cX6_order 51 = .ok (.iaload, 1) := dk_46 (dk_at dksX6_order_2 5 rfl rfl)
theorem dX6_order_52 : decode cX6_order 52 = .ok (.invokevirtual 303, 3) := dk_182 1 47 (dk_at dksX6_order_2 6 rfl rfl)
theorem dX6_order_55 : decode cX6_order 55 = .ok (.ifCond .eq 15, 3) := dk_153 0 15 (dk_at dksX6_order_2 9 rfl rfl)
theorem dX6_order_58 : decode cX6_order 58 = .ok (.iconst 1, 1) := dk_4 (dk_at dksX6_order_2 12 rfl rfl)
theorem dX6_order_59 : decode cX6_order 59 = .ok (.aload_n 0, 1) := dk_42 (dk_at dksX6_order_2 13 rfl rfl)
theorem dX6_order_60 : decode cX6_order 60 = .ok (.getfield 77, 3) := dk_180 0 77 (dk_at dksX6_order_2 14 rfl rfl)
theorem dX6_order_63 : decode cX6_order 63 = .ok (.iload 6, 2) := dk_21 6 (dk_at dksX6_order_2 17 rfl rfl)
theorem dX6_order_65 : decode cX6_order 65 = .ok (.iaload, 1) := dk_46 (dk_at dksX6_order_2 19 rfl rfl)
theorem dX6_order_66 : decode cX6_order 66 = .ok (.ishl, 1) := dk_120 (dk_at dksX6_order_2 20 rfl rfl)
theorem dX6_order_67 : decode cX6_order 67 = .ok (.goto 4, 3) := dk_167 0 4 (dk_at dksX6_order_2 21 rfl rfl)
theorem dX6_order_70 : decode cX6_order 70 = .ok (.iconst 0, 1) := dk_3 (dk_at dksX6_order_3 0 rfl rfl)
theorem dX6_order_71 : decode cX6_order 71 = .ok (.ior, 1) := dk_128 (dk_at dksX6_order_3 1 rfl rfl)
theorem dX6_order_72 : decode cX6_order 72 = .ok (.istore 5, 2) := dk_54 5 (dk_at dksX6_order_3 2 rfl rfl)
theorem dX6_order_74 : decode cX6_order 74 = .ok (.iinc 6 (-1), 3) := dk_132 6 255 (dk_at dksX6_order_3 4 rfl rfl)
theorem dX6_order_77 : decode cX6_order 77 = .ok (.goto (-57), 3) := dk_167 255 199 (dk_at dksX6_order_3 7 rfl rfl)
theorem dX6_order_80 : decode cX6_order 80 = .ok (.lload_n 1, 1) := dk_31 (dk_at dksX6_order_3 10 rfl rfl)
theorem dX6_order_81 : decode cX6_order 81 = .ok (.lconst 0, 1) := dk_9 (dk_at dksX6_order_3 11 rfl rfl)
theorem dX6_order_82 : decode cX6_order 82 = .ok (.lcmp, 1) := dk_148 (dk_at dksX6_order_3 12 rfl rfl)
theorem dX6_order_83 : decode cX6_order 83 = .ok (.ifCond .lt 24, 3) := dk_155 0 24 (dk_at dksX6_order_3 13 rfl rfl)
theorem dX6_order_86 : decode cX6_order 86 = .ok (.lload_n 3, 1) := dk_33 (dk_at dksX6_order_3 16 rfl rfl)
theorem dX6_order_87 : decode cX6_order 87 = .ok (.lconst 0, 1) := dk_9 (dk_at dksX6_order_3 17 rfl rfl)
theorem dX6_order_88 : decode cX6_order 88 = .ok (.lcmp, 1) := dk_148 (dk_at dksX6_order_3 18 rfl rfl)
theorem dX6_order_89 : decode cX6_order 89 = .ok (.ifCond .ne 18, 3) := dk_154 0 18 (dk_at dksX6_order_3 19 rfl rfl)
theorem dX6_order_92 : decode cX6_order 92 = .ok (.iload 5, 2) := dk_21 5 (dk_at dksX6_order_3 22 rfl rfl)
theorem dX6_order_94 : decode cX6_order 94 = .ok (.iconst 1, 1) := dk_4 (dk_at dksX6_order_4 0 rfl rfl)
theorem dX6_order_95 : decode cX6_order 95 = .ok (.aload_n 0, 1) := dk_42 (dk_at dksX6_order_4 1 rfl rfl)
theorem dX6_order_96 : decode cX6_order 96 = .ok (.getfield 23, 3) := dk_180 0 23 (dk_at dksX6_order_4 2 rfl rfl)
theorem dX6_order_99 : decode cX6_order 99 = .ok (.iconst 1, 1) := dk_4 (dk_at dksX6_order_4 5 rfl rfl)
theorem dX6_order_100 : decode cX6_order 100 = .ok (.iaload, 1) := dk_46 (dk_at dksX6_order_4 6 rfl rfl)
theorem dX6_order_101 : decode cX6_order 101 = .ok (.ishl, 1) := dk_120 (dk_at dksX6_order_4 7 rfl rfl)
theorem dX6_order_102 : decode cX6_order 102 = .ok (.iconst 1, 1) := dk_4 (dk_at dksX6_order_4 8 rfl rfl)
theorem dX6_order_103 : decode cX6_order 103 = .ok (.isub, 1) := dk_100 (dk_at dksX6_order_4 9 rfl rfl)
theorem dX6_order_104 : decode cX6_order 104 = .ok (.if_icmp .eq 5, 3) := dk_159 0 5 (dk_at dksX6_order_4 10 rfl rfl)
theorem dX6_order_107 : decode cX6_order 107 = .ok (.iconst 0, 1) := dk_3 (dk_at dksX6_order_4 13 rfl rfl)
theorem dX6_order_108 : decode cX6_order 108 = .ok (.ireturn, 1) := dk_172 (dk_at dksX6_order_4 14 rfl rfl)
theorem dX6_order_109 : decode cX6_order 109 = .ok (.iconst 0, 1) := dk_3 (dk_at dksX6_order_4 15 rfl rfl)
theorem dX6_order_110 : decode cX6_order 110 = .ok (.istore 6, 2) := dk_54 6 (dk_at dksX6_order_4 16 rfl rfl)
theorem dX6_order_112 : decode cX6_order 112 = .ok (.iload 6, 2) := dk_21 6 (dk_at dksX6_order_4 18 rfl rfl)
theorem dX6_order_114 : decode cX6_order 114 = .ok (.aload_n 0, 1) := dk_42 (dk_at dksX6_order_4 20 rfl rfl)
theorem dX6_order_115 : decode cX6_order 115 = .ok (.getfield 23, 3) := dk_180 0 23 (dk_at dksX6_order_4 21 rfl rfl)
theorem dX6_order_118 : decode cX6_order 118 = .ok (.iconst 1, 1) := dk_4 (dk_at dksX6_order_5 0 rfl rfl)
theorem dX6_order_119 : decode cX6_order 119 = .ok (.iaload, 1) := dk_46 (dk_at dksX6_order_5 1 rfl rfl)
theorem dX6_order_120 : decode cX6_order 120 = .ok (.if_icmp .ge 23, 3) := dk_162 0 23 (dk_at dksX6_order_5 2 rfl rfl)
theorem dX6_order_123 : decode cX6_order 123 = .ok (.aload_n 0, 1) := dk_42 (dk_at dksX6_order_5 5 rfl rfl)
theorem dX6_order_124 : decode cX6_order 124 = .ok (.getfield 54, 3) := dk_180 0 54 (dk_at dksX6_order_5 6 rfl rfl)
theorem dX6_order_127 : decode cX6_order 127 = .ok (.iload 6, 2) := dk_21 6 (dk_at dksX6_order_5 9 rfl rfl)
theorem dX6_order_129 : decode cX6_order 129 = .ok (.aload_n 0, 1) := dk_42 (dk_at dksX6_order_5 11 rfl rfl)
theorem dX6_order_130 : decode cX6_order 130 = .ok (.getfield 77, 3) := dk_180 0 77 (dk_at dksX6_order_5 12 rfl rfl)
theorem dX6_order_133 : decode cX6_order 133 = .ok (.iload 6, 2) := dk_21 6 (dk_at dksX6_order_5 15 rfl rfl)
theorem dX6_order_135 : decode cX6_order 135 = .ok (.iaload, 1) := dk_46 (dk_at dksX6_order_5 17 rfl rfl)
theorem dX6_order_136 : decode cX6_order 136 = .ok (.iastore, 1) := dk_79 (dk_at dksX6_order_5 18 rfl rfl)
theorem dX6_order_137 : decode cX6_order 137 = .ok (.iinc 6 1, 3) := dk_132 6 1 (dk_at dksX6_order_5 19 rfl rfl)
theorem dX6_order_140 : decode cX6_order 140 = .ok (.goto (-28), 3) := dk_167 255 228 (dk_at dksX6_order_6 0 rfl rfl)
theorem dX6_order_143 : decode cX6_order 143 = .ok (.iconst 1, 1) := dk_4 (dk_at dksX6_order_6 3 rfl rfl)
theorem dX6_order_144 : decode cX6_order 144 = .ok (.ireturn, 1) := dk_172 (dk_at dksX6_order_6 4 rfl rfl)
abbrev cX6_at : ByteArray := prog_19_method_64_code
def yX6_at : MethodName := ⟨RX6, "at", "(I)I"⟩
def dkwX6_at_1 : List UInt8 := [180, 0, 54, 27, 46, 167, 0, 4, 2, 172]
abbrev dktX6_at_1 : List UInt8 := dkwX6_at_1 ++ []
def dkwX6_at_0 : List UInt8 := [42, 3, 181, 0, 132, 27, 3, 42, 180, 0, 23, 4, 46, 4, 100, 184, 0, 166, 153, 0, 12, 42]
abbrev dktX6_at_0 : List UInt8 := dkwX6_at_0 ++ dktX6_at_1
theorem dksX6_at_0 : cX6_at.data.toList.drop 0 = dktX6_at_0 := by decide +kernel
theorem dksX6_at_1 : cX6_at.data.toList.drop 22 = dktX6_at_1 := dk_seg dksX6_at_0 22 rfl rfl
theorem dX6_at_0 : decode cX6_at 0 = .ok (.aload_n 0, 1) := dk_42 (dk_at dksX6_at_0 0 rfl rfl)
theorem dX6_at_1 : decode cX6_at 1 = .ok (.iconst 0, 1) := dk_3 (dk_at dksX6_at_0 1 rfl rfl)
theorem dX6_at_2 : decode cX6_at 2 = .ok (.putfield 132, 3) := dk_181 0 132 (dk_at dksX6_at_0 2 rfl rfl)
theorem dX6_at_5 : decode cX6_at 5 = .ok (.iload_n 1, 1) := dk_27 (dk_at dksX6_at_0 5 rfl rfl)
theorem dX6_at_6 : decode cX6_at 6 = .ok (.iconst 0, 1) := dk_3 (dk_at dksX6_at_0 6 rfl rfl)
theorem dX6_at_7 : decode cX6_at 7 = .ok (.aload_n 0, 1) := dk_42 (dk_at dksX6_at_0 7 rfl rfl)
theorem dX6_at_8 : decode cX6_at 8 = .ok (.getfield 23, 3) := dk_180 0 23 (dk_at dksX6_at_0 8 rfl rfl)
theorem dX6_at_11 : decode cX6_at 11 = .ok (.iconst 1, 1) := dk_4 (dk_at dksX6_at_0 11 rfl rfl)
theorem dX6_at_12 : decode cX6_at 12 = .ok (.iaload, 1) := dk_46 (dk_at dksX6_at_0 12 rfl rfl)
theorem dX6_at_13 : decode cX6_at 13 = .ok (.iconst 1, 1) := dk_4 (dk_at dksX6_at_0 13 rfl rfl)
theorem dX6_at_14 : decode cX6_at 14 = .ok (.isub, 1) := dk_100 (dk_at dksX6_at_0 14 rfl rfl)
theorem dX6_at_15 : decode cX6_at 15 = .ok (.invokestatic 166, 3) := dk_184 0 166 (dk_at dksX6_at_0 15 rfl rfl)
theorem dX6_at_18 : decode cX6_at 18 = .ok (.ifCond .eq 12, 3) := dk_153 0 12 (dk_at dksX6_at_0 18 rfl rfl)
theorem dX6_at_21 : decode cX6_at 21 = .ok (.aload_n 0, 1) := dk_42 (dk_at dksX6_at_0 21 rfl rfl)
theorem dX6_at_22 : decode cX6_at 22 = .ok (.getfield 54, 3) := dk_180 0 54 (dk_at dksX6_at_1 0 rfl rfl)
theorem dX6_at_25 : decode cX6_at 25 = .ok (.iload_n 1, 1) := dk_27 (dk_at dksX6_at_1 3 rfl rfl)
theorem dX6_at_26 : decode cX6_at 26 = .ok (.iaload, 1) := dk_46 (dk_at dksX6_at_1 4 rfl rfl)
theorem dX6_at_27 : decode cX6_at 27 = .ok (.goto 4, 3) := dk_167 0 4 (dk_at dksX6_at_1 5 rfl rfl)
theorem dX6_at_30 : decode cX6_at 30 = .ok (.iconst (-1), 1) := dk_2 (dk_at dksX6_at_1 8 rfl rfl)
theorem dX6_at_31 : decode cX6_at 31 = .ok (.ireturn, 1) := dk_172 (dk_at dksX6_at_1 9 rfl rfl)
abbrev cX6_law : ByteArray := prog_19_method_65_code
def yX6_law : MethodName := ⟨RX6, "law", "(I)I"⟩
def dkwX6_law_1 : List UInt8 := [182, 0, 233, 153, 0, 5, 3, 172, 42, 180, 0, 23, 8, 46, 61, 42, 180, 0, 23, 8, 27, 79, 28, 172]
abbrev dktX6_law_1 : List UInt8 := dkwX6_law_1 ++ []
def dkwX6_law_0 : List UInt8 := [42, 3, 181, 0, 132, 42, 27, 3, 7, 184, 0, 166, 154, 0, 7, 4, 167, 0, 4, 3, 4, 4]
abbrev dktX6_law_0 : List UInt8 := dkwX6_law_0 ++ dktX6_law_1
theorem dksX6_law_0 : cX6_law.data.toList.drop 0 = dktX6_law_0 := by decide +kernel
theorem dksX6_law_1 : cX6_law.data.toList.drop 22 = dktX6_law_1 := dk_seg dksX6_law_0 22 rfl rfl
theorem dX6_law_0 : decode cX6_law 0 = .ok (.aload_n 0, 1) := dk_42 (dk_at dksX6_law_0 0 rfl rfl)
theorem dX6_law_1 : decode cX6_law 1 = .ok (.iconst 0, 1) := dk_3 (dk_at dksX6_law_0 1 rfl rfl)
theorem dX6_law_2 : decode cX6_law 2 = .ok (.putfield 132, 3) := dk_181 0 132 (dk_at dksX6_law_0 2 rfl rfl)
theorem dX6_law_5 : decode cX6_law 5 = .ok (.aload_n 0, 1) := dk_42 (dk_at dksX6_law_0 5 rfl rfl)
theorem dX6_law_6 : decode cX6_law 6 = .ok (.iload_n 1, 1) := dk_27 (dk_at dksX6_law_0 6 rfl rfl)
theorem dX6_law_7 : decode cX6_law 7 = .ok (.iconst 0, 1) := dk_3 (dk_at dksX6_law_0 7 rfl rfl)
theorem dX6_law_8 : decode cX6_law 8 = .ok (.iconst 4, 1) := dk_7 (dk_at dksX6_law_0 8 rfl rfl)
theorem dX6_law_9 : decode cX6_law 9 = .ok (.invokestatic 166, 3) := dk_184 0 166 (dk_at dksX6_law_0 9 rfl rfl)
theorem dX6_law_12 : decode cX6_law 12 = .ok (.ifCond .ne 7, 3) := dk_154 0 7 (dk_at dksX6_law_0 12 rfl rfl)
theorem dX6_law_15 : decode cX6_law 15 = .ok (.iconst 1, 1) := dk_4 (dk_at dksX6_law_0 15 rfl rfl)
theorem dX6_law_16 : decode cX6_law 16 = .ok (.goto 4, 3) := dk_167 0 4 (dk_at dksX6_law_0 16 rfl rfl)
theorem dX6_law_19 : decode cX6_law 19 = .ok (.iconst 0, 1) := dk_3 (dk_at dksX6_law_0 19 rfl rfl)
theorem dX6_law_20 : decode cX6_law 20 = .ok (.iconst 1, 1) := dk_4 (dk_at dksX6_law_0 20 rfl rfl)
theorem dX6_law_21 : decode cX6_law 21 = .ok (.iconst 1, 1) := dk_4 (dk_at dksX6_law_0 21 rfl rfl)
theorem dX6_law_22 : decode cX6_law 22 = .ok (.invokevirtual 233, 3) := dk_182 0 233 (dk_at dksX6_law_1 0 rfl rfl)
theorem dX6_law_25 : decode cX6_law 25 = .ok (.ifCond .eq 5, 3) := dk_153 0 5 (dk_at dksX6_law_1 3 rfl rfl)
theorem dX6_law_28 : decode cX6_law 28 = .ok (.iconst 0, 1) := dk_3 (dk_at dksX6_law_1 6 rfl rfl)
theorem dX6_law_29 : decode cX6_law 29 = .ok (.ireturn, 1) := dk_172 (dk_at dksX6_law_1 7 rfl rfl)
theorem dX6_law_30 : decode cX6_law 30 = .ok (.aload_n 0, 1) := dk_42 (dk_at dksX6_law_1 8 rfl rfl)
theorem dX6_law_31 : decode cX6_law 31 = .ok (.getfield 23, 3) := dk_180 0 23 (dk_at dksX6_law_1 9 rfl rfl)
theorem dX6_law_34 : decode cX6_law 34 = .ok (.iconst 5, 1) := dk_8 (dk_at dksX6_law_1 12 rfl rfl)
theorem dX6_law_35 : decode cX6_law 35 = .ok (.iaload, 1) := dk_46 (dk_at dksX6_law_1 13 rfl rfl)
theorem dX6_law_36 : decode cX6_law 36 = .ok (.istore_n 2, 1) := dk_61 (dk_at dksX6_law_1 14 rfl rfl)
theorem dX6_law_37 : decode cX6_law 37 = .ok (.aload_n 0, 1) := dk_42 (dk_at dksX6_law_1 15 rfl rfl)
theorem dX6_law_38 : decode cX6_law 38 = .ok (.getfield 23, 3) := dk_180 0 23 (dk_at dksX6_law_1 16 rfl rfl)
theorem dX6_law_41 : decode cX6_law 41 = .ok (.iconst 5, 1) := dk_8 (dk_at dksX6_law_1 19 rfl rfl)
theorem dX6_law_42 : decode cX6_law 42 = .ok (.iload_n 1, 1) := dk_27 (dk_at dksX6_law_1 20 rfl rfl)
theorem dX6_law_43 : decode cX6_law 43 = .ok (.iastore, 1) := dk_79 (dk_at dksX6_law_1 21 rfl rfl)
theorem dX6_law_44 : decode cX6_law 44 = .ok (.iload_n 2, 1) := dk_28 (dk_at dksX6_law_1 22 rfl rfl)
theorem dX6_law_45 : decode cX6_law 45 = .ok (.ireturn, 1) := dk_172 (dk_at dksX6_law_1 23 rfl rfl)
abbrev cX6_world : ByteArray := prog_19_method_66_code
def yX6_world : MethodName := ⟨RX6, "world", "(I)I"⟩
def dkwX6_world_2 : List UInt8 := [180, 0, 23, 7, 27, 79, 28, 172]
abbrev dktX6_world_2 : List UInt8 := dkwX6_world_2 ++ []
def dkwX6_world_1 : List UInt8 := [4, 167, 0, 4, 3, 4, 4, 182, 0, 233, 153, 0, 5, 3, 172, 42, 180, 0, 23, 7, 46, 61, 42]
abbrev dktX6_world_1 : List UInt8 := dkwX6_world_1 ++ dktX6_world_2
def dkwX6_world_0 : List UInt8 := [42, 3, 181, 0, 132, 42, 27, 3, 4, 42, 180, 0, 23, 3, 46, 120, 4, 100, 184, 0, 166, 154, 0, 7]
abbrev dktX6_world_0 : List UInt8 := dkwX6_world_0 ++ dktX6_world_1
theorem dksX6_world_0 : cX6_world.data.toList.drop 0 = dktX6_world_0 := by decide +kernel
theorem dksX6_world_1 : cX6_world.data.toList.drop 24 = dktX6_world_1 := dk_seg dksX6_world_0 24 rfl rfl
theorem dksX6_world_2 : cX6_world.data.toList.drop 47 = dktX6_world_2 := dk_seg dksX6_world_1 23 rfl rfl
theorem dX6_world_0 : decode cX6_world 0 = .ok (.aload_n 0, 1) := dk_42 (dk_at dksX6_world_0 0 rfl rfl)
theorem dX6_world_1 : decode cX6_world 1 = .ok (.iconst 0, 1) := dk_3 (dk_at dksX6_world_0 1 rfl rfl)
theorem dX6_world_2 : decode cX6_world 2 = .ok (.putfield 132, 3) := dk_181 0 132 (dk_at dksX6_world_0 2 rfl rfl)
theorem dX6_world_5 : decode cX6_world 5 = .ok (.aload_n 0, 1) := dk_42 (dk_at dksX6_world_0 5 rfl rfl)
theorem dX6_world_6 : decode cX6_world 6 = .ok (.iload_n 1, 1) := dk_27 (dk_at dksX6_world_0 6 rfl rfl)
theorem dX6_world_7 : decode cX6_world 7 = .ok (.iconst 0, 1) := dk_3 (dk_at dksX6_world_0 7 rfl rfl)
theorem dX6_world_8 : decode cX6_world 8 = .ok (.iconst 1, 1) := dk_4 (dk_at dksX6_world_0 8 rfl rfl)
theorem dX6_world_9 : decode cX6_world 9 = .ok (.aload_n 0, 1) := dk_42 (dk_at dksX6_world_0 9 rfl rfl)
theorem dX6_world_10 : decode cX6_world 10 = .ok (.getfield 23, 3) := dk_180 0 23 (dk_at dksX6_world_0 10 rfl rfl)
theorem dX6_world_13 : decode cX6_world 13 = .ok (.iconst 0, 1) := dk_3 (dk_at dksX6_world_0 13 rfl rfl)
theorem dX6_world_14 : decode cX6_world 14 = .ok (.iaload, 1) := dk_46 (dk_at dksX6_world_0 14 rfl rfl)
theorem dX6_world_15 : decode cX6_world 15 = .ok (.ishl, 1) := dk_120 (dk_at dksX6_world_0 15 rfl rfl)
theorem dX6_world_16 : decode cX6_world 16 = .ok (.iconst 1, 1) := dk_4 (dk_at dksX6_world_0 16 rfl rfl)
theorem dX6_world_17 : decode cX6_world 17 = .ok (.isub, 1) := dk_100 (dk_at dksX6_world_0 17 rfl rfl)
theorem dX6_world_18 : decode cX6_world 18 = .ok (.invokestatic 166, 3) := dk_184 0 166 (dk_at dksX6_world_0 18 rfl rfl)
theorem dX6_world_21 : decode cX6_world 21 = .ok (.ifCond .ne 7, 3) := dk_154 0 7 (dk_at dksX6_world_0 21 rfl rfl)
theorem dX6_world_24 : decode cX6_world 24 = .ok (.iconst 1, 1) := dk_4 (dk_at dksX6_world_1 0 rfl rfl)
theorem dX6_world_25 : decode cX6_world 25 = .ok (.goto 4, 3) := dk_167 0 4 (dk_at dksX6_world_1 1 rfl rfl)
theorem dX6_world_28 : decode cX6_world 28 = .ok (.iconst 0, 1) := dk_3 (dk_at dksX6_world_1 4 rfl rfl)
theorem dX6_world_29 : decode cX6_world 29 = .ok (.iconst 1, 1) := dk_4 (dk_at dksX6_world_1 5 rfl rfl)
theorem dX6_world_30 : decode cX6_world 30 = .ok (.iconst 1, 1) := dk_4 (dk_at dksX6_world_1 6 rfl rfl)
theorem dX6_world_31 : decode cX6_world 31 = .ok (.invokevirtual 233, 3) := dk_182 0 233 (dk_at dksX6_world_1 7 rfl rfl)
theorem dX6_world_34 : decode cX6_world 34 = .ok (.ifCond .eq 5, 3) := dk_153 0 5 (dk_at dksX6_world_1 10 rfl rfl)
theorem dX6_world_37 : decode cX6_world 37 = .ok (.iconst 0, 1) := dk_3 (dk_at dksX6_world_1 13 rfl rfl)
theorem dX6_world_38 : decode cX6_world 38 = .ok (.ireturn, 1) := dk_172 (dk_at dksX6_world_1 14 rfl rfl)
theorem dX6_world_39 : decode cX6_world 39 = .ok (.aload_n 0, 1) := dk_42 (dk_at dksX6_world_1 15 rfl rfl)
theorem dX6_world_40 : decode cX6_world 40 = .ok (.getfield 23, 3) := dk_180 0 23 (dk_at dksX6_world_1 16 rfl rfl)
theorem dX6_world_43 : decode cX6_world 43 = .ok (.iconst 4, 1) := dk_7 (dk_at dksX6_world_1 19 rfl rfl)
theorem dX6_world_44 : decode cX6_world 44 = .ok (.iaload, 1) := dk_46 (dk_at dksX6_world_1 20 rfl rfl)
theorem dX6_world_45 : decode cX6_world 45 = .ok (.istore_n 2, 1) := dk_61 (dk_at dksX6_world_1 21 rfl rfl)
theorem dX6_world_46 : decode cX6_world 46 = .ok (.aload_n 0, 1) := dk_42 (dk_at dksX6_world_1 22 rfl rfl)
theorem dX6_world_47 : decode cX6_world 47 = .ok (.getfield 23, 3) := dk_180 0 23 (dk_at dksX6_world_2 0 rfl rfl)
theorem dX6_world_50 : decode cX6_world 50 = .ok (.iconst 4, 1) := dk_7 (dk_at dksX6_world_2 3 rfl rfl)
theorem dX6_world_51 : decode cX6_world 51 = .ok (.iload_n 1, 1) := dk_27 (dk_at dksX6_world_2 4 rfl rfl)
theorem dX6_world_52 : decode cX6_world 52 = .ok (.iastore, 1) := dk_79 (dk_at dksX6_world_2 5 rfl rfl)
theorem dX6_world_53 : decode cX6_world 53 = .ok (.iload_n 2, 1) := dk_28 (dk_at dksX6_world_2 6 rfl rfl)
theorem dX6_world_54 : decode cX6_world 54 = .ok (.ireturn, 1) := dk_172 (dk_at dksX6_world_2 7 rfl rfl)
abbrev cX6_held : ByteArray := prog_19_method_79_code
def yX6_held : MethodName := ⟨RX6, "held", "(I)I"⟩
def dkwX6_held_1 : List UInt8 := [153, 0, 5, 3, 172, 42, 182, 1, 119, 87, 42, 180, 0, 98, 27, 46, 172]
abbrev dktX6_held_1 : List UInt8 := dkwX6_held_1 ++ []
def dkwX6_held_0 : List UInt8 := [42, 3, 181, 0, 132, 42, 27, 184, 1, 50, 154, 0, 7, 4, 167, 0, 4, 3, 4, 4, 182, 0, 233]
abbrev dktX6_held_0 : List UInt8 := dkwX6_held_0 ++ dktX6_held_1
theorem dksX6_held_0 : cX6_held.data.toList.drop 0 = dktX6_held_0 := by decide +kernel
theorem dksX6_held_1 : cX6_held.data.toList.drop 23 = dktX6_held_1 := dk_seg dksX6_held_0 23 rfl rfl
theorem dX6_held_0 : decode cX6_held 0 = .ok (.aload_n 0, 1) := dk_42 (dk_at dksX6_held_0 0 rfl rfl)
theorem dX6_held_1 : decode cX6_held 1 = .ok (.iconst 0, 1) := dk_3 (dk_at dksX6_held_0 1 rfl rfl)
theorem dX6_held_2 : decode cX6_held 2 = .ok (.putfield 132, 3) := dk_181 0 132 (dk_at dksX6_held_0 2 rfl rfl)
theorem dX6_held_5 : decode cX6_held 5 = .ok (.aload_n 0, 1) := dk_42 (dk_at dksX6_held_0 5 rfl rfl)
theorem dX6_held_6 : decode cX6_held 6 = .ok (.iload_n 1, 1) := dk_27 (dk_at dksX6_held_0 6 rfl rfl)
theorem dX6_held_7 : decode cX6_held 7 = .ok (.invokestatic 306, 3) := dk_184 1 50 (dk_at dksX6_held_0 7 rfl rfl)
theorem dX6_held_10 : decode cX6_held 10 = .ok (.ifCond .ne 7, 3) := dk_154 0 7 (dk_at dksX6_held_0 10 rfl rfl)
theorem dX6_held_13 : decode cX6_held 13 = .ok (.iconst 1, 1) := dk_4 (dk_at dksX6_held_0 13 rfl rfl)
theorem dX6_held_14 : decode cX6_held 14 = .ok (.goto 4, 3) := dk_167 0 4 (dk_at dksX6_held_0 14 rfl rfl)
theorem dX6_held_17 : decode cX6_held 17 = .ok (.iconst 0, 1) := dk_3 (dk_at dksX6_held_0 17 rfl rfl)
theorem dX6_held_18 : decode cX6_held 18 = .ok (.iconst 1, 1) := dk_4 (dk_at dksX6_held_0 18 rfl rfl)
theorem dX6_held_19 : decode cX6_held 19 = .ok (.iconst 1, 1) := dk_4 (dk_at dksX6_held_0 19 rfl rfl)
theorem dX6_held_20 : decode cX6_held 20 = .ok (.invokevirtual 233, 3) := dk_182 0 233 (dk_at dksX6_held_0 20 rfl rfl)
theorem dX6_held_23 : decode cX6_held 23 = .ok (.ifCond .eq 5, 3) := dk_153 0 5 (dk_at dksX6_held_1 0 rfl rfl)
theorem dX6_held_26 : decode cX6_held 26 = .ok (.iconst 0, 1) := dk_3 (dk_at dksX6_held_1 3 rfl rfl)
theorem dX6_held_27 : decode cX6_held 27 = .ok (.ireturn, 1) := dk_172 (dk_at dksX6_held_1 4 rfl rfl)
theorem dX6_held_28 : decode cX6_held 28 = .ok (.aload_n 0, 1) := dk_42 (dk_at dksX6_held_1 5 rfl rfl)
theorem dX6_held_29 : decode cX6_held 29 = .ok (.invokevirtual 375, 3) := dk_182 1 119 (dk_at dksX6_held_1 6 rfl rfl)
theorem dX6_held_32 : decode cX6_held 32 = .ok (.pop, 1) := dk_87 (dk_at dksX6_held_1 9 rfl rfl)
theorem dX6_held_33 : decode cX6_held 33 = .ok (.aload_n 0, 1) := dk_42 (dk_at dksX6_held_1 10 rfl rfl)
theorem dX6_held_34 : decode cX6_held 34 = .ok (.getfield 98, 3) := dk_180 0 98 (dk_at dksX6_held_1 11 rfl rfl)
theorem dX6_held_37 : decode cX6_held 37 = .ok (.iload_n 1, 1) := dk_27 (dk_at dksX6_held_1 14 rfl rfl)
theorem dX6_held_38 : decode cX6_held 38 = .ok (.iaload, 1) := dk_46 (dk_at dksX6_held_1 15 rfl rfl)
theorem dX6_held_39 : decode cX6_held 39 = .ok (.ireturn, 1) := dk_172 (dk_at dksX6_held_1 16 rfl rfl)
abbrev cX6_goesNow : ByteArray := prog_19_method_78_code
def yX6_goesNow : MethodName := ⟨RX6, "goesNow", "()I"⟩
def dkwX6_goesNow_0 : List UInt8 := [42, 182, 1, 113, 42, 42, 180, 0, 23, 8, 46, 182, 1, 116, 172]
abbrev dktX6_goesNow_0 : List UInt8 := dkwX6_goesNow_0 ++ []
theorem dksX6_goesNow_0 : cX6_goesNow.data.toList.drop 0 = dktX6_goesNow_0 := by decide +kernel
theorem dX6_goesNow_0 : decode cX6_goesNow 0 = .ok (.aload_n 0, 1) := dk_42 (dk_at dksX6_goesNow_0 0 rfl rfl)
theorem dX6_goesNow_1 : decode cX6_goesNow 1 = .ok (.invokevirtual 369, 3) := dk_182 1 113 (dk_at dksX6_goesNow_0 1 rfl rfl)
theorem dX6_goesNow_4 : decode cX6_goesNow 4 = .ok (.aload_n 0, 1) := dk_42 (dk_at dksX6_goesNow_0 4 rfl rfl)
theorem dX6_goesNow_5 : decode cX6_goesNow 5 = .ok (.aload_n 0, 1) := dk_42 (dk_at dksX6_goesNow_0 5 rfl rfl)
theorem dX6_goesNow_6 : decode cX6_goesNow 6 = .ok (.getfield 23, 3) := dk_180 0 23 (dk_at dksX6_goesNow_0 6 rfl rfl)
theorem dX6_goesNow_9 : decode cX6_goesNow 9 = .ok (.iconst 5, 1) := dk_8 (dk_at dksX6_goesNow_0 9 rfl rfl)
theorem dX6_goesNow_10 : decode cX6_goesNow 10 = .ok (.iaload, 1) := dk_46 (dk_at dksX6_goesNow_0 10 rfl rfl)
theorem dX6_goesNow_11 : decode cX6_goesNow 11 = .ok (.invokevirtual 372, 3) := dk_182 1 116 (dk_at dksX6_goesNow_0 11 rfl rfl)
theorem dX6_goesNow_14 : decode cX6_goesNow 14 = .ok (.ireturn, 1) := dk_172 (dk_at dksX6_goesNow_0 14 rfl rfl)
abbrev cX6_rowAsOrder : ByteArray := prog_19_method_77_code
def yX6_rowAsOrder : MethodName := ⟨RX6, "rowAsOrder", "()V"⟩
def dkwX6_rowAsOrder_1 : List UInt8 := [27, 42, 180, 0, 54, 27, 46, 79, 132, 1, 1, 167, 255, 233, 177]
abbrev dktX6_rowAsOrder_1 : List UInt8 := dkwX6_rowAsOrder_1 ++ []
def dkwX6_rowAsOrder_0 : List UInt8 := [42, 42, 180, 0, 23, 4, 46, 181, 1, 101, 3, 60, 27, 42, 180, 1, 101, 162, 0, 21, 42, 180, 0, 77]
abbrev dktX6_rowAsOrder_0 : List UInt8 := dkwX6_rowAsOrder_0 ++ dktX6_rowAsOrder_1
theorem dksX6_rowAsOrder_0 : cX6_rowAsOrder.data.toList.drop 0 = dktX6_rowAsOrder_0 := by decide +kernel
theorem dksX6_rowAsOrder_1 : cX6_rowAsOrder.data.toList.drop 24 = dktX6_rowAsOrder_1 := dk_seg dksX6_rowAsOrder_0 24 rfl rfl
theorem dX6_rowAsOrder_0 : decode cX6_rowAsOrder 0 = .ok (.aload_n 0, 1) := dk_42 (dk_at dksX6_rowAsOrder_0 0 rfl rfl)
theorem dX6_rowAsOrder_1 : decode cX6_rowAsOrder 1 = .ok (.aload_n 0, 1) := dk_42 (dk_at dksX6_rowAsOrder_0 1 rfl rfl)
theorem dX6_rowAsOrder_2 : decode cX6_rowAsOrder 2 = .ok (.getfield 23, 3) := dk_180 0 23 (dk_at dksX6_rowAsOrder_0 2 rfl rfl)
theorem dX6_rowAsOrder_5 : decode cX6_rowAsOrder 5 = .ok (.iconst 1, 1) := dk_4 (dk_at dksX6_rowAsOrder_0 5 rfl rfl)
theorem dX6_rowAsOrder_6 : decode cX6_rowAsOrder 6 = .ok (.iaload, 1) := dk_46 (dk_at dksX6_rowAsOrder_0 6 rfl rfl)
theorem dX6_rowAsOrder_7 : decode cX6_rowAsOrder 7 = .ok (.putfield 357, 3) := dk_181 1 101 (dk_at dksX6_rowAsOrder_0 7 rfl rfl)
theorem dX6_rowAsOrder_10 : decode cX6_rowAsOrder 10 = .ok (.iconst 0, 1) := dk_3 (dk_at dksX6_rowAsOrder_0 10 rfl rfl)
theorem dX6_rowAsOrder_11 : decode cX6_rowAsOrder 11 = .ok (.istore_n 1, 1) := dk_60 (dk_at dksX6_rowAsOrder_0 11 rfl rfl)
theorem dX6_rowAsOrder_12 : decode cX6_rowAsOrder 12 = .ok (.iload_n 1, 1) := dk_27 (dk_at dksX6_rowAsOrder_0 12 rfl rfl)
theorem dX6_rowAsOrder_13 : decode cX6_rowAsOrder 13 = .ok (.aload_n 0, 1) := dk_42 (dk_at dksX6_rowAsOrder_0 13 rfl rfl)
theorem dX6_rowAsOrder_14 : decode cX6_rowAsOrder 14 = .ok (.getfield 357, 3) := dk_180 1 101 (dk_at dksX6_rowAsOrder_0 14 rfl rfl)
theorem dX6_rowAsOrder_17 : decode cX6_rowAsOrder 17 = .ok (.if_icmp .ge 21, 3) := dk_162 0 21 (dk_at dksX6_rowAsOrder_0 17 rfl rfl)
theorem dX6_rowAsOrder_20 : decode cX6_rowAsOrder 20 = .ok (.aload_n 0, 1) := dk_42 (dk_at dksX6_rowAsOrder_0 20 rfl rfl)
theorem dX6_rowAsOrder_21 : decode cX6_rowAsOrder 21 = .ok (.getfield 77, 3) := dk_180 0 77 (dk_at dksX6_rowAsOrder_0 21 rfl rfl)
theorem dX6_rowAsOrder_24 : decode cX6_rowAsOrder 24 = .ok (.iload_n 1, 1) := dk_27 (dk_at dksX6_rowAsOrder_1 0 rfl rfl)
theorem dX6_rowAsOrder_25 : decode cX6_rowAsOrder 25 = .ok (.aload_n 0, 1) := dk_42 (dk_at dksX6_rowAsOrder_1 1 rfl rfl)
theorem dX6_rowAsOrder_26 : decode cX6_rowAsOrder 26 = .ok (.getfield 54, 3) := dk_180 0 54 (dk_at dksX6_rowAsOrder_1 2 rfl rfl)
theorem dX6_rowAsOrder_29 : decode cX6_rowAsOrder 29 = .ok (.iload_n 1, 1) := dk_27 (dk_at dksX6_rowAsOrder_1 5 rfl rfl)
theorem dX6_rowAsOrder_30 : decode cX6_rowAsOrder 30 = .ok (.iaload, 1) := dk_46 (dk_at dksX6_rowAsOrder_1 6 rfl rfl)
theorem dX6_rowAsOrder_31 : decode cX6_rowAsOrder 31 = .ok (.iastore, 1) := dk_79 (dk_at dksX6_rowAsOrder_1 7 rfl rfl)
theorem dX6_rowAsOrder_32 : decode cX6_rowAsOrder 32 = .ok (.iinc 1 1, 3) := dk_132 1 1 (dk_at dksX6_rowAsOrder_1 8 rfl rfl)
theorem dX6_rowAsOrder_35 : decode cX6_rowAsOrder 35 = .ok (.goto (-23), 3) := dk_167 255 233 (dk_at dksX6_rowAsOrder_1 11 rfl rfl)
theorem dX6_rowAsOrder_38 : decode cX6_rowAsOrder 38 = .ok (.return_, 1) := dk_177 (dk_at dksX6_rowAsOrder_1 14 rfl rfl)
abbrev cX6_goes : ByteArray := prog_19_method_76_code
def yX6_goes : MethodName := ⟨RX6, "goes", "(I)I"⟩
def dkwX6_goes_3 : List UInt8 := [3, 46, 79, 132, 2, 1, 167, 255, 186, 42, 180, 0, 98, 16, 51, 46, 17, 15, 255, 126, 172]
abbrev dktX6_goes_3 : List UInt8 := dkwX6_goes_3 ++ []
def dkwX6_goes_2 : List UInt8 := [182, 1, 110, 79, 42, 180, 0, 101, 28, 42, 180, 1, 67, 154, 0, 7, 2, 167, 0, 9, 42, 180, 0, 80]
abbrev dktX6_goes_2 : List UInt8 := dkwX6_goes_2 ++ dktX6_goes_3
def dkwX6_goes_1 : List UInt8 := [162, 0, 14, 42, 42, 180, 0, 77, 28, 46, 28, 182, 1, 104, 42, 182, 1, 107, 42, 180, 0, 98, 28, 42]
abbrev dktX6_goes_1 : List UInt8 := dkwX6_goes_1 ++ dktX6_goes_2
def dkwX6_goes_0 : List UInt8 := [42, 27, 182, 1, 95, 3, 61, 28, 16, 52, 162, 0, 70, 42, 28, 182, 1, 98, 28, 42, 180, 1, 101]
abbrev dktX6_goes_0 : List UInt8 := dkwX6_goes_0 ++ dktX6_goes_1
theorem dksX6_goes_0 : cX6_goes.data.toList.drop 0 = dktX6_goes_0 := by decide +kernel
theorem dksX6_goes_1 : cX6_goes.data.toList.drop 23 = dktX6_goes_1 := dk_seg dksX6_goes_0 23 rfl rfl
theorem dksX6_goes_2 : cX6_goes.data.toList.drop 47 = dktX6_goes_2 := dk_seg dksX6_goes_1 24 rfl rfl
theorem dksX6_goes_3 : cX6_goes.data.toList.drop 71 = dktX6_goes_3 := dk_seg dksX6_goes_2 24 rfl rfl
theorem dX6_goes_0 : decode cX6_goes 0 = .ok (.aload_n 0, 1) := dk_42 (dk_at dksX6_goes_0 0 rfl rfl)
theorem dX6_goes_1 : decode cX6_goes 1 = .ok (.iload_n 1, 1) := dk_27 (dk_at dksX6_goes_0 1 rfl rfl)
theorem dX6_goes_2 : decode cX6_goes 2 = .ok (.invokevirtual 351, 3) := dk_182 1 95 (dk_at dksX6_goes_0 2 rfl rfl)
theorem dX6_goes_5 : decode cX6_goes 5 = .ok (.iconst 0, 1) := dk_3 (dk_at dksX6_goes_0 5 rfl rfl)
theorem dX6_goes_6 : decode cX6_goes 6 = .ok (.istore_n 2, 1) := dk_61 (dk_at dksX6_goes_0 6 rfl rfl)
theorem dX6_goes_7 : decode cX6_goes 7 = .ok (.iload_n 2, 1) := dk_28 (dk_at dksX6_goes_0 7 rfl rfl)
theorem dX6_goes_8 : decode cX6_goes 8 = .ok (.bipush 52, 2) := dk_16 52 (dk_at dksX6_goes_0 8 rfl rfl)
theorem dX6_goes_10 : decode cX6_goes 10 = .ok (.if_icmp .ge 70, 3) := dk_162 0 70 (dk_at dksX6_goes_0 10 rfl rfl)
theorem dX6_goes_13 : decode cX6_goes 13 = .ok (.aload_n 0, 1) := dk_42 (dk_at dksX6_goes_0 13 rfl rfl)
theorem dX6_goes_14 : decode cX6_goes 14 = .ok (.iload_n 2, 1) := dk_28 (dk_at dksX6_goes_0 14 rfl rfl)
theorem dX6_goes_15 : decode cX6_goes 15 = .ok (.invokevirtual 354, 3) := dk_182 1 98 (dk_at dksX6_goes_0 15 rfl rfl)
theorem dX6_goes_18 : decode cX6_goes 18 = .ok (.iload_n 2, 1) := dk_28 (dk_at dksX6_goes_0 18 rfl rfl)
theorem dX6_goes_19 : decode cX6_goes 19 = .ok (.aload_n 0, 1) := dk_42 (dk_at dksX6_goes_0 19 rfl rfl)
theorem dX6_goes_20 : decode cX6_goes 20 = .ok (.getfield 357, 3) := dk_180 1 101 (dk_at dksX6_goes_0 20 rfl rfl)
theorem dX6_goes_23 : decode cX6_goes 23 = .ok (.if_icmp .ge 14, 3) := dk_162 0 14 (dk_at dksX6_goes_1 0 rfl rfl)
theorem dX6_goes_26 : decode cX6_goes 26 = .ok (.aload_n 0, 1) := dk_42 (dk_at dksX6_goes_1 3 rfl rfl)
theorem dX6_goes_27 : decode cX6_goes 27 = .ok (.aload_n 0, 1) := dk_42 (dk_at dksX6_goes_1 4 rfl rfl)
theorem dX6_goes_28 : decode cX6_goes 28 = .ok (.getfield 77, 3) := dk_180 0 77 (dk_at dksX6_goes_1 5 rfl rfl)
theorem dX6_goes_31 : decode cX6_goes 31 = .ok (.iload_n 2, 1) := dk_28 (dk_at dksX6_goes_1 8 rfl rfl)
theorem dX6_goes_32 : decode cX6_goes 32 = .ok (.iaload, 1) := dk_46 (dk_at dksX6_goes_1 9 rfl rfl)
theorem dX6_goes_33 : decode cX6_goes 33 = .ok (.iload_n 2, 1) := dk_28 (dk_at dksX6_goes_1 10 rfl rfl)
theorem dX6_goes_34 : decode cX6_goes 34 = .ok (.invokevirtual 360, 3) := dk_182 1 104 (dk_at dksX6_goes_1 11 rfl rfl)
theorem dX6_goes_37 : decode cX6_goes 37 = .ok (.aload_n 0, 1) := dk_42 (dk_at dksX6_goes_1 14 rfl rfl)
theorem dX6_goes_38 : decode cX6_goes 38 = .ok (.invokevirtual 363, 3) := dk_182 1 107 (dk_at dksX6_goes_1 15 rfl rfl)
theorem dX6_goes_41 : decode cX6_goes 41 = .ok (.aload_n 0, 1) := dk_42 (dk_at dksX6_goes_1 18 rfl rfl)
theorem dX6_goes_42 : decode cX6_goes 42 = .ok (.getfield 98, 3) := dk_180 0 98 (dk_at dksX6_goes_1 19 rfl rfl)
theorem dX6_goes_45 : decode cX6_goes 45 = .ok (.iload_n 2, 1) := dk_28 (dk_at dksX6_goes_1 22 rfl rfl)
theorem dX6_goes_46 : decode cX6_goes 46 = .ok (.aload_n 0, 1) := dk_42 (dk_at dksX6_goes_1 23 rfl rfl)
theorem dX6_goes_47 : decode cX6_goes 47 = .ok (.invokevirtual 366, 3) := dk_182 1 110 (dk_at dksX6_goes_2 0 rfl rfl)
theorem dX6_goes_50 : decode cX6_goes 50 = .ok (.iastore, 1) := dk_79 (dk_at dksX6_goes_2 3 rfl rfl)
theorem dX6_goes_51 : decode cX6_goes 51 = .ok (.aload_n 0, 1) := dk_42 (dk_at dksX6_goes_2 4 rfl rfl)
theorem dX6_goes_52 : decode cX6_goes 52 = .ok (.getfield 101, 3) := dk_180 0 101 (dk_at dksX6_goes_2 5 rfl rfl)
theorem dX6_goes_55 : decode cX6_goes 55 = .ok (.iload_n 2, 1) := dk_28 (dk_at dksX6_goes_2 8 rfl rfl)
theorem dX6_goes_56 : decode cX6_goes 56 = .ok (.aload_n 0, 1) := dk_42 (dk_at dksX6_goes_2 9 rfl rfl)
theorem dX6_goes_57 : decode cX6_goes 57 = .ok (.getfield 323, 3) := dk_180 1 67 (dk_at dksX6_goes_2 10 rfl rfl)
theorem dX6_goes_60 : decode cX6_goes 60 = .ok (.ifCond .ne 7, 3) := dk_154 0 7 (dk_at dksX6_goes_2 13 rfl rfl)
theorem dX6_goes_63 : decode cX6_goes 63 = .ok (.iconst (-1), 1) := dk_2 (dk_at dksX6_goes_2 16 rfl rfl)
theorem dX6_goes_64 : decode cX6_goes 64 = .ok (.goto 9, 3) := dk_167 0 9 (dk_at dksX6_goes_2 17 rfl rfl)
theorem dX6_goes_67 : decode cX6_goes 67 = .ok (.aload_n 0, 1) := dk_42 (dk_at dksX6_goes_2 20 rfl rfl)
theorem dX6_goes_68 : decode cX6_goes 68 = .ok (.getfield 80, 3) := dk_180 0 80 (dk_at dksX6_goes_2 21 rfl rfl)
theorem dX6_goes_71 : decode cX6_goes 71 = .ok (.iconst 0, 1) := dk_3 (dk_at dksX6_goes_3 0 rfl rfl)
theorem dX6_goes_72 : decode cX6_goes 72 = .ok (.iaload, 1) := dk_46 (dk_at dksX6_goes_3 1 rfl rfl)
theorem dX6_goes_73 : decode cX6_goes 73 = .ok (.iastore, 1) := dk_79 (dk_at dksX6_goes_3 2 rfl rfl)
theorem dX6_goes_74 : decode cX6_goes 74 = .ok (.iinc 2 1, 3) := dk_132 2 1 (dk_at dksX6_goes_3 3 rfl rfl)
theorem dX6_goes_77 : decode cX6_goes 77 = .ok (.goto (-70), 3) := dk_167 255 186 (dk_at dksX6_goes_3 6 rfl rfl)
theorem dX6_goes_80 : decode cX6_goes 80 = .ok (.aload_n 0, 1) := dk_42 (dk_at dksX6_goes_3 9 rfl rfl)
theorem dX6_goes_81 : decode cX6_goes 81 = .ok (.getfield 98, 3) := dk_180 0 98 (dk_at dksX6_goes_3 10 rfl rfl)
theorem dX6_goes_84 : decode cX6_goes 84 = .ok (.bipush 51, 2) := dk_16 51 (dk_at dksX6_goes_3 13 rfl rfl)
theorem dX6_goes_86 : decode cX6_goes 86 = .ok (.iaload, 1) := dk_46 (dk_at dksX6_goes_3 15 rfl rfl)
theorem dX6_goes_87 : decode cX6_goes 87 = .ok (.sipush 4095, 3) := dk_17 15 255 (dk_at dksX6_goes_3 16 rfl rfl)
theorem dX6_goes_90 : decode cX6_goes 90 = .ok (.iand, 1) := dk_126 (dk_at dksX6_goes_3 19 rfl rfl)
theorem dX6_goes_91 : decode cX6_goes 91 = .ok (.ireturn, 1) := dk_172 (dk_at dksX6_goes_3 20 rfl rfl)
abbrev cX6_begins : ByteArray := prog_19_method_67_code
def yX6_begins : MethodName := ⟨RX6, "begins", "(I)V"⟩
def dkwX6_begins_3 : List UInt8 := [132, 2, 1, 167, 255, 212, 177]
abbrev dktX6_begins_3 : List UInt8 := dkwX6_begins_3 ++ []
def dkwX6_begins_2 : List UInt8 := [79, 42, 180, 0, 89, 28, 2, 79, 42, 180, 0, 92, 28, 3, 79, 42, 180, 0, 95, 28, 3, 79]
abbrev dktX6_begins_2 : List UInt8 := dkwX6_begins_2 ++ dktX6_begins_3
def dkwX6_begins_1 : List UInt8 := [181, 1, 76, 3, 61, 28, 16, 17, 162, 0, 44, 42, 180, 0, 83, 28, 2, 79, 42, 180, 0, 86, 28, 2]
abbrev dktX6_begins_1 : List UInt8 := dkwX6_begins_1 ++ dktX6_begins_2
def dkwX6_begins_0 : List UInt8 := [42, 27, 181, 1, 64, 42, 3, 181, 1, 67, 42, 3, 181, 1, 70, 42, 3, 181, 1, 73, 42, 3]
abbrev dktX6_begins_0 : List UInt8 := dkwX6_begins_0 ++ dktX6_begins_1
theorem dksX6_begins_0 : cX6_begins.data.toList.drop 0 = dktX6_begins_0 := by decide +kernel
theorem dksX6_begins_1 : cX6_begins.data.toList.drop 22 = dktX6_begins_1 := dk_seg dksX6_begins_0 22 rfl rfl
theorem dksX6_begins_2 : cX6_begins.data.toList.drop 46 = dktX6_begins_2 := dk_seg dksX6_begins_1 24 rfl rfl
theorem dksX6_begins_3 : cX6_begins.data.toList.drop 68 = dktX6_begins_3 := dk_seg dksX6_begins_2 22 rfl rfl
theorem dX6_begins_0 : decode cX6_begins 0 = .ok (.aload_n 0, 1) := dk_42 (dk_at dksX6_begins_0 0 rfl rfl)
theorem dX6_begins_1 : decode cX6_begins 1 = .ok (.iload_n 1, 1) := dk_27 (dk_at dksX6_begins_0 1 rfl rfl)
theorem dX6_begins_2 : decode cX6_begins 2 = .ok (.putfield 320, 3) := dk_181 1 64 (dk_at dksX6_begins_0 2 rfl rfl)
theorem dX6_begins_5 : decode cX6_begins 5 = .ok (.aload_n 0, 1) := dk_42 (dk_at dksX6_begins_0 5 rfl rfl)
theorem dX6_begins_6 : decode cX6_begins 6 = .ok (.iconst 0, 1) := dk_3 (dk_at dksX6_begins_0 6 rfl rfl)
theorem dX6_begins_7 : decode cX6_begins 7 = .ok (.putfield 323, 3) := dk_181 1 67 (dk_at dksX6_begins_0 7 rfl rfl)
theorem dX6_begins_10 : decode cX6_begins 10 = .ok (.aload_n 0, 1) := dk_42 (dk_at dksX6_begins_0 10 rfl rfl)
theorem dX6_begins_11 : decode cX6_begins 11 = .ok (.iconst 0, 1) := dk_3 (dk_at dksX6_begins_0 11 rfl rfl)
theorem dX6_begins_12 : decode cX6_begins 12 = .ok (.putfield 326, 3) := dk_181 1 70 (dk_at dksX6_begins_0 12 rfl rfl)
theorem dX6_begins_15 : decode cX6_begins 15 = .ok (.aload_n 0, 1) := dk_42 (dk_at dksX6_begins_0 15 rfl rfl)
theorem dX6_begins_16 : decode cX6_begins 16 = .ok (.iconst 0, 1) := dk_3 (dk_at dksX6_begins_0 16 rfl rfl)
theorem dX6_begins_17 : decode cX6_begins 17 = .ok (.putfield 329, 3) := dk_181 1 73 (dk_at dksX6_begins_0 17 rfl rfl)
theorem dX6_begins_20 : decode cX6_begins 20 = .ok (.aload_n 0, 1) := dk_42 (dk_at dksX6_begins_0 20 rfl rfl)
theorem dX6_begins_21 : decode cX6_begins 21 = .ok (.iconst 0, 1) := dk_3 (dk_at dksX6_begins_0 21 rfl rfl)
theorem dX6_begins_22 : decode cX6_begins 22 = .ok (.putfield 332, 3) := dk_181 1 76 (dk_at dksX6_begins_1 0 rfl rfl)
theorem dX6_begins_25 : decode cX6_begins 25 = .ok (.iconst 0, 1) := dk_3 (dk_at dksX6_begins_1 3 rfl rfl)
theorem dX6_begins_26 : decode cX6_begins 26 = .ok (.istore_n 2, 1) := dk_61 (dk_at dksX6_begins_1 4 rfl rfl)
theorem dX6_begins_27 : decode cX6_begins 27 = .ok (.iload_n 2, 1) := dk_28 (dk_at dksX6_begins_1 5 rfl rfl)
theorem dX6_begins_28 : decode cX6_begins 28 = .ok (.bipush 17, 2) := dk_16 17 (dk_at dksX6_begins_1 6 rfl rfl)
theorem dX6_begins_30 : decode cX6_begins 30 = .ok (.if_icmp .ge 44, 3) := dk_162 0 44 (dk_at dksX6_begins_1 8 rfl rfl)
theorem dX6_begins_33 : decode cX6_begins 33 = .ok (.aload_n 0, 1) := dk_42 (dk_at dksX6_begins_1 11 rfl rfl)
theorem dX6_begins_34 : decode cX6_begins 34 = .ok (.getfield 83, 3) := dk_180 0 83 (dk_at dksX6_begins_1 12 rfl rfl)
theorem dX6_begins_37 : decode cX6_begins 37 = .ok (.iload_n 2, 1) := dk_28 (dk_at dksX6_begins_1 15 rfl rfl)
theorem dX6_begins_38 : decode cX6_begins 38 = .ok (.iconst (-1), 1) := dk_2 (dk_at dksX6_begins_1 16 rfl rfl)
theorem dX6_begins_39 : decode cX6_begins 39 = .ok (.iastore, 1) := dk_79 (dk_at dksX6_begins_1 17 rfl rfl)
theorem dX6_begins_40 : decode cX6_begins 40 = .ok (.aload_n 0, 1) := dk_42 (dk_at dksX6_begins_1 18 rfl rfl)
theorem dX6_begins_41 : decode cX6_begins 41 = .ok (.getfield 86, 3) := dk_180 0 86 (dk_at dksX6_begins_1 19 rfl rfl)
theorem dX6_begins_44 : decode cX6_begins 44 = .ok (.iload_n 2, 1) := dk_28 (dk_at dksX6_begins_1 22 rfl rfl)
theorem dX6_begins_45 : decode cX6_begins 45 = .ok (.iconst (-1), 1) := dk_2 (dk_at dksX6_begins_1 23 rfl rfl)
theorem dX6_begins_46 : decode cX6_begins 46 = .ok (.iastore, 1) := dk_79 (dk_at dksX6_begins_2 0 rfl rfl)
theorem dX6_begins_47 : decode cX6_begins 47 = .ok (.aload_n 0, 1) := dk_42 (dk_at dksX6_begins_2 1 rfl rfl)
theorem dX6_begins_48 : decode cX6_begins 48 = .ok (.getfield 89, 3) := dk_180 0 89 (dk_at dksX6_begins_2 2 rfl rfl)
theorem dX6_begins_51 : decode cX6_begins 51 = .ok (.iload_n 2, 1) := dk_28 (dk_at dksX6_begins_2 5 rfl rfl)
theorem dX6_begins_52 : decode cX6_begins 52 = .ok (.iconst (-1), 1) := dk_2 (dk_at dksX6_begins_2 6 rfl rfl)
theorem dX6_begins_53 : decode cX6_begins 53 = .ok (.iastore, 1) := dk_79 (dk_at dksX6_begins_2 7 rfl rfl)
theorem dX6_begins_54 : decode cX6_begins 54 = .ok (.aload_n 0, 1) := dk_42 (dk_at dksX6_begins_2 8 rfl rfl)
theorem dX6_begins_55 : decode cX6_begins 55 = .ok (.getfield 92, 3) := dk_180 0 92 (dk_at dksX6_begins_2 9 rfl rfl)
theorem dX6_begins_58 : decode cX6_begins 58 = .ok (.iload_n 2, 1) := dk_28 (dk_at dksX6_begins_2 12 rfl rfl)
theorem dX6_begins_59 : decode cX6_begins 59 = .ok (.iconst 0, 1) := dk_3 (dk_at dksX6_begins_2 13 rfl rfl)
theorem dX6_begins_60 : decode cX6_begins 60 = .ok (.iastore, 1) := dk_79 (dk_at dksX6_begins_2 14 rfl rfl)
theorem dX6_begins_61 : decode cX6_begins 61 = .ok (.aload_n 0, 1) := dk_42 (dk_at dksX6_begins_2 15 rfl rfl)
theorem dX6_begins_62 : decode cX6_begins 62 = .ok (.getfield 95, 3) := dk_180 0 95 (dk_at dksX6_begins_2 16 rfl rfl)
theorem dX6_begins_65 : decode cX6_begins 65 = .ok (.iload_n 2, 1) := dk_28 (dk_at dksX6_begins_2 19 rfl rfl)
theorem dX6_begins_66 : decode cX6_begins 66 = .ok (.iconst 0, 1) := dk_3 (dk_at dksX6_begins_2 20 rfl rfl)
theorem dX6_begins_67 : decode cX6_begins 67 = .ok (.iastore, 1) := dk_79 (dk_at dksX6_begins_2 21 rfl rfl)
theorem dX6_begins_68 : decode cX6_begins 68 = .ok (.iinc 2 1, 3) := dk_132 2 1 (dk_at dksX6_begins_3 0 rfl rfl)
theorem dX6_begins_71 : decode cX6_begins 71 = .ok (.goto (-44), 3) := dk_167 255 212 (dk_at dksX6_begins_3 3 rfl rfl)
theorem dX6_begins_74 : decode cX6_begins 74 = .ok (.return_, 1) := dk_177 (dk_at dksX6_begins_3 6 rfl rfl)
abbrev cX6_kills : ByteArray := prog_19_method_70_code
def yX6_kills : MethodName := ⟨RX6, "kills", "(I)V"⟩
def dkwX6_kills_2 : List UInt8 := [182, 1, 82, 167, 0, 6, 132, 2, 1, 167, 255, 204, 177]
abbrev dktX6_kills_2 : List UInt8 := dkwX6_kills_2 ++ []
def dkwX6_kills_1 : List UInt8 := [153, 0, 28, 42, 180, 0, 86, 29, 27, 79, 42, 89, 180, 1, 73, 4, 96, 181, 1, 73, 42, 28]
abbrev dktX6_kills_1 : List UInt8 := dkwX6_kills_1 ++ dktX6_kills_2
def dkwX6_kills_0 : List UInt8 := [3, 61, 28, 42, 180, 1, 67, 162, 0, 50, 42, 180, 0, 80, 28, 46, 62, 42, 29, 27, 182, 1, 79]
abbrev dktX6_kills_0 : List UInt8 := dkwX6_kills_0 ++ dktX6_kills_1
theorem dksX6_kills_0 : cX6_kills.data.toList.drop 0 = dktX6_kills_0 := by decide +kernel
theorem dksX6_kills_1 : cX6_kills.data.toList.drop 23 = dktX6_kills_1 := dk_seg dksX6_kills_0 23 rfl rfl
theorem dksX6_kills_2 : cX6_kills.data.toList.drop 45 = dktX6_kills_2 := dk_seg dksX6_kills_1 22 rfl rfl
theorem dX6_kills_0 : decode cX6_kills 0 = .ok (.iconst 0, 1) := dk_3 (dk_at dksX6_kills_0 0 rfl rfl)
theorem dX6_kills_1 : decode cX6_kills 1 = .ok (.istore_n 2, 1) := dk_61 (dk_at dksX6_kills_0 1 rfl rfl)
theorem dX6_kills_2 : decode cX6_kills 2 = .ok (.iload_n 2, 1) := dk_28 (dk_at dksX6_kills_0 2 rfl rfl)
theorem dX6_kills_3 : decode cX6_kills 3 = .ok (.aload_n 0, 1) := dk_42 (dk_at dksX6_kills_0 3 rfl rfl)
theorem dX6_kills_4 : decode cX6_kills 4 = .ok (.getfield 323, 3) := dk_180 1 67 (dk_at dksX6_kills_0 4 rfl rfl)
theorem dX6_kills_7 : decode cX6_kills 7 = .ok (.if_icmp .ge 50, 3) := dk_162 0 50 (dk_at dksX6_kills_0 7 rfl rfl)
theorem dX6_kills_10 : decode cX6_kills 10 = .ok (.aload_n 0, 1) := dk_42 (dk_at dksX6_kills_0 10 rfl rfl)
theorem dX6_kills_11 : decode cX6_kills 11 = .ok (.getfield 80, 3) := dk_180 0 80 (dk_at dksX6_kills_0 11 rfl rfl)
theorem dX6_kills_14 : decode cX6_kills 14 = .ok (.iload_n 2, 1) := dk_28 (dk_at dksX6_kills_0 14 rfl rfl)
theorem dX6_kills_15 : decode cX6_kills 15 = .ok (.iaload, 1) := dk_46 (dk_at dksX6_kills_0 15 rfl rfl)
theorem dX6_kills_16 : decode cX6_kills 16 = .ok (.istore_n 3, 1) := dk_62 (dk_at dksX6_kills_0 16 rfl rfl)
theorem dX6_kills_17 : decode cX6_kills 17 = .ok (.aload_n 0, 1) := dk_42 (dk_at dksX6_kills_0 17 rfl rfl)
theorem dX6_kills_18 : decode cX6_kills 18 = .ok (.iload_n 3, 1) := dk_29 (dk_at dksX6_kills_0 18 rfl rfl)
theorem dX6_kills_19 : decode cX6_kills 19 = .ok (.iload_n 1, 1) := dk_27 (dk_at dksX6_kills_0 19 rfl rfl)
theorem dX6_kills_20 : decode cX6_kills 20 = .ok (.invokevirtual 335, 3) := dk_182 1 79 (dk_at dksX6_kills_0 20 rfl rfl)
theorem dX6_kills_23 : decode cX6_kills 23 = .ok (.ifCond .eq 28, 3) := dk_153 0 28 (dk_at dksX6_kills_1 0 rfl rfl)
theorem dX6_kills_26 : decode cX6_kills 26 = .ok (.aload_n 0, 1) := dk_42 (dk_at dksX6_kills_1 3 rfl rfl)
theorem dX6_kills_27 : decode cX6_kills 27 = .ok (.getfield 86, 3) := dk_180 0 86 (dk_at dksX6_kills_1 4 rfl rfl)
theorem dX6_kills_30 : decode cX6_kills 30 = .ok (.iload_n 3, 1) := dk_29 (dk_at dksX6_kills_1 7 rfl rfl)
theorem dX6_kills_31 : decode cX6_kills 31 = .ok (.iload_n 1, 1) := dk_27 (dk_at dksX6_kills_1 8 rfl rfl)
theorem dX6_kills_32 : decode cX6_kills 32 = .ok (.iastore, 1) := dk_79 (dk_at dksX6_kills_1 9 rfl rfl)
theorem dX6_kills_33 : decode cX6_kills 33 = .ok (.aload_n 0, 1) := dk_42 (dk_at dksX6_kills_1 10 rfl rfl)
theorem dX6_kills_34 : decode cX6_kills 34 = .ok (.dup, 1) := dk_89 (dk_at dksX6_kills_1 11 rfl rfl)
theorem dX6_kills_35 : decode cX6_kills 35 = .ok (.getfield 329, 3) := dk_180 1 73 (dk_at dksX6_kills_1 12 rfl rfl)
theorem dX6_kills_38 : decode cX6_kills 38 = .ok (.iconst 1, 1) := dk_4 (dk_at dksX6_kills_1 15 rfl rfl)
theorem dX6_kills_39 : decode cX6_kills 39 = .ok (.iadd, 1) := dk_96 (dk_at dksX6_kills_1 16 rfl rfl)
theorem dX6_kills_40 : decode cX6_kills 40 = .ok (.putfield 329, 3) := dk_181 1 73 (dk_at dksX6_kills_1 17 rfl rfl)
theorem dX6_kills_43 : decode cX6_kills 43 = .ok (.aload_n 0, 1) := dk_42 (dk_at dksX6_kills_1 20 rfl rfl)
theorem dX6_kills_44 : decode cX6_kills 44 = .ok (.iload_n 2, 1) := dk_28 (dk_at dksX6_kills_1 21 rfl rfl)
theorem dX6_kills_45 : decode cX6_kills 45 = .ok (.invokevirtual 338, 3) := dk_182 1 82 (dk_at dksX6_kills_2 0 rfl rfl)
theorem dX6_kills_48 : decode cX6_kills 48 = .ok (.goto 6, 3) := dk_167 0 6 (dk_at dksX6_kills_2 3 rfl rfl)
theorem dX6_kills_51 : decode cX6_kills 51 = .ok (.iinc 2 1, 3) := dk_132 2 1 (dk_at dksX6_kills_2 6 rfl rfl)
theorem dX6_kills_54 : decode cX6_kills 54 = .ok (.goto (-52), 3) := dk_167 255 204 (dk_at dksX6_kills_2 9 rfl rfl)
theorem dX6_kills_57 : decode cX6_kills 57 = .ok (.return_, 1) := dk_177 (dk_at dksX6_kills_2 12 rfl rfl)
abbrev cX6_isDead : ByteArray := prog_19_method_68_code
def yX6_isDead : MethodName := ⟨RX6, "isDead", "(II)Z"⟩
def dkwX6_isDead_0 : List UInt8 := [42, 180, 0, 36, 27, 47, 42, 180, 0, 45, 28, 47, 127, 9, 148, 154, 0, 7, 4, 167, 0, 4, 3, 172]
abbrev dktX6_isDead_0 : List UInt8 := dkwX6_isDead_0 ++ []
theorem dksX6_isDead_0 : cX6_isDead.data.toList.drop 0 = dktX6_isDead_0 := by decide +kernel
theorem dX6_isDead_0 : decode cX6_isDead 0 = .ok (.aload_n 0, 1) := dk_42 (dk_at dksX6_isDead_0 0 rfl rfl)
theorem dX6_isDead_1 : decode cX6_isDead 1 = .ok (.getfield 36, 3) := dk_180 0 36 (dk_at dksX6_isDead_0 1 rfl rfl)
theorem dX6_isDead_4 : decode cX6_isDead 4 = .ok (.iload_n 1, 1) := dk_27 (dk_at dksX6_isDead_0 4 rfl rfl)
theorem dX6_isDead_5 : decode cX6_isDead 5 = .ok (.laload, 1) := dk_47 (dk_at dksX6_isDead_0 5 rfl rfl)
theorem dX6_isDead_6 : decode cX6_isDead 6 = .ok (.aload_n 0, 1) := dk_42 (dk_at dksX6_isDead_0 6 rfl rfl)
theorem dX6_isDead_7 : decode cX6_isDead 7 = .ok (.getfield 45, 3) := dk_180 0 45 (dk_at dksX6_isDead_0 7 rfl rfl)
theorem dX6_isDead_10 : decode cX6_isDead 10 = .ok (.iload_n 2, 1) := dk_28 (dk_at dksX6_isDead_0 10 rfl rfl)
theorem dX6_isDead_11 : decode cX6_isDead 11 = .ok (.laload, 1) := dk_47 (dk_at dksX6_isDead_0 11 rfl rfl)
theorem dX6_isDead_12 : decode cX6_isDead 12 = .ok (.land, 1) := dk_127 (dk_at dksX6_isDead_0 12 rfl rfl)
theorem dX6_isDead_13 : decode cX6_isDead 13 = .ok (.lconst 0, 1) := dk_9 (dk_at dksX6_isDead_0 13 rfl rfl)
theorem dX6_isDead_14 : decode cX6_isDead 14 = .ok (.lcmp, 1) := dk_148 (dk_at dksX6_isDead_0 14 rfl rfl)
theorem dX6_isDead_15 : decode cX6_isDead 15 = .ok (.ifCond .ne 7, 3) := dk_154 0 7 (dk_at dksX6_isDead_0 15 rfl rfl)
theorem dX6_isDead_18 : decode cX6_isDead 18 = .ok (.iconst 1, 1) := dk_4 (dk_at dksX6_isDead_0 18 rfl rfl)
theorem dX6_isDead_19 : decode cX6_isDead 19 = .ok (.goto 4, 3) := dk_167 0 4 (dk_at dksX6_isDead_0 19 rfl rfl)
theorem dX6_isDead_22 : decode cX6_isDead 22 = .ok (.iconst 0, 1) := dk_3 (dk_at dksX6_isDead_0 22 rfl rfl)
theorem dX6_isDead_23 : decode cX6_isDead 23 = .ok (.ireturn, 1) := dk_172 (dk_at dksX6_isDead_0 23 rfl rfl)
abbrev cX6_leaves : ByteArray := prog_19_method_69_code
def yX6_leaves : MethodName := ⟨RX6, "leaves", "(I)V"⟩
def dkwX6_leaves_1 : List UInt8 := [28, 42, 180, 0, 80, 28, 4, 96, 46, 79, 132, 2, 1, 167, 255, 231, 177]
abbrev dktX6_leaves_1 : List UInt8 := dkwX6_leaves_1 ++ []
def dkwX6_leaves_0 : List UInt8 := [42, 89, 180, 1, 67, 4, 100, 181, 1, 67, 27, 61, 28, 42, 180, 1, 67, 162, 0, 23, 42, 180, 0, 80]
abbrev dktX6_leaves_0 : List UInt8 := dkwX6_leaves_0 ++ dktX6_leaves_1
theorem dksX6_leaves_0 : cX6_leaves.data.toList.drop 0 = dktX6_leaves_0 := by decide +kernel
theorem dksX6_leaves_1 : cX6_leaves.data.toList.drop 24 = dktX6_leaves_1 := dk_seg dksX6_leaves_0 24 rfl rfl
theorem dX6_leaves_0 : decode cX6_leaves 0 = .ok (.aload_n 0, 1) := dk_42 (dk_at dksX6_leaves_0 0 rfl rfl)
theorem dX6_leaves_1 : decode cX6_leaves 1 = .ok (.dup, 1) := dk_89 (dk_at dksX6_leaves_0 1 rfl rfl)
theorem dX6_leaves_2 : decode cX6_leaves 2 = .ok (.getfield 323, 3) := dk_180 1 67 (dk_at dksX6_leaves_0 2 rfl rfl)
theorem dX6_leaves_5 : decode cX6_leaves 5 = .ok (.iconst 1, 1) := dk_4 (dk_at dksX6_leaves_0 5 rfl rfl)
theorem dX6_leaves_6 : decode cX6_leaves 6 = .ok (.isub, 1) := dk_100 (dk_at dksX6_leaves_0 6 rfl rfl)
theorem dX6_leaves_7 : decode cX6_leaves 7 = .ok (.putfield 323, 3) := dk_181 1 67 (dk_at dksX6_leaves_0 7 rfl rfl)
theorem dX6_leaves_10 : decode cX6_leaves 10 = .ok (.iload_n 1, 1) := dk_27 (dk_at dksX6_leaves_0 10 rfl rfl)
theorem dX6_leaves_11 : decode cX6_leaves 11 = .ok (.istore_n 2, 1) := dk_61 (dk_at dksX6_leaves_0 11 rfl rfl)
theorem dX6_leaves_12 : decode cX6_leaves 12 = .ok (.iload_n 2, 1) := dk_28 (dk_at dksX6_leaves_0 12 rfl rfl)
theorem dX6_leaves_13 : decode cX6_leaves 13 = .ok (.aload_n 0, 1) := dk_42 (dk_at dksX6_leaves_0 13 rfl rfl)
theorem dX6_leaves_14 : decode cX6_leaves 14 = .ok (.getfield 323, 3) := dk_180 1 67 (dk_at dksX6_leaves_0 14 rfl rfl)
theorem dX6_leaves_17 : decode cX6_leaves 17 = .ok (.if_icmp .ge 23, 3) := dk_162 0 23 (dk_at dksX6_leaves_0 17 rfl rfl)
theorem dX6_leaves_20 : decode cX6_leaves 20 = .ok (.aload_n 0, 1) := dk_42 (dk_at dksX6_leaves_0 20 rfl rfl)
theorem dX6_leaves_21 : decode cX6_leaves 21 = .ok (.getfield 80, 3) := dk_180 0 80 (dk_at dksX6_leaves_0 21 rfl rfl)
theorem dX6_leaves_24 : decode cX6_leaves 24 = .ok (.iload_n 2, 1) := dk_28 (dk_at dksX6_leaves_1 0 rfl rfl)
theorem dX6_leaves_25 : decode cX6_leaves 25 = .ok (.aload_n 0, 1) := dk_42 (dk_at dksX6_leaves_1 1 rfl rfl)
theorem dX6_leaves_26 : decode cX6_leaves 26 = .ok (.getfield 80, 3) := dk_180 0 80 (dk_at dksX6_leaves_1 2 rfl rfl)
theorem dX6_leaves_29 : decode cX6_leaves 29 = .ok (.iload_n 2, 1) := dk_28 (dk_at dksX6_leaves_1 5 rfl rfl)
theorem dX6_leaves_30 : decode cX6_leaves 30 = .ok (.iconst 1, 1) := dk_4 (dk_at dksX6_leaves_1 6 rfl rfl)
theorem dX6_leaves_31 : decode cX6_leaves 31 = .ok (.iadd, 1) := dk_96 (dk_at dksX6_leaves_1 7 rfl rfl)
theorem dX6_leaves_32 : decode cX6_leaves 32 = .ok (.iaload, 1) := dk_46 (dk_at dksX6_leaves_1 8 rfl rfl)
theorem dX6_leaves_33 : decode cX6_leaves 33 = .ok (.iastore, 1) := dk_79 (dk_at dksX6_leaves_1 9 rfl rfl)
theorem dX6_leaves_34 : decode cX6_leaves 34 = .ok (.iinc 2 1, 3) := dk_132 2 1 (dk_at dksX6_leaves_1 10 rfl rfl)
theorem dX6_leaves_37 : decode cX6_leaves 37 = .ok (.goto (-25), 3) := dk_167 255 231 (dk_at dksX6_leaves_1 13 rfl rfl)
theorem dX6_leaves_40 : decode cX6_leaves 40 = .ok (.return_, 1) := dk_177 (dk_at dksX6_leaves_1 16 rfl rfl)
abbrev cX6_draws : ByteArray := prog_19_method_73_code
def yX6_draws : MethodName := ⟨RX6, "draws", "(II)V"⟩
def dkwX6_draws_7 : List UInt8 := [177]
abbrev dktX6_draws_7 : List UInt8 := dkwX6_draws_7 ++ []
def dkwX6_draws_6 : List UInt8 := [159, 0, 4, 177, 42, 180, 0, 80, 42, 180, 1, 67, 27, 79, 42, 89, 180, 1, 67, 4, 96, 181, 1, 67]
abbrev dktX6_draws_6 : List UInt8 := dkwX6_draws_6 ++ dktX6_draws_7
def dkwX6_draws_5 : List UInt8 := [21, 4, 27, 28, 182, 1, 91, 42, 29, 182, 1, 82, 167, 255, 164, 42, 180, 0, 86, 27, 46, 2]
abbrev dktX6_draws_5 : List UInt8 := dkwX6_draws_5 ++ dktX6_draws_6
def dkwX6_draws_4 : List UInt8 := [159, 0, 11, 42, 27, 21, 4, 28, 182, 1, 91, 21, 5, 4, 160, 0, 9, 132, 3, 1, 167, 255, 180, 42]
abbrev dktX6_draws_4 : List UInt8 := dkwX6_draws_4 ++ dktX6_draws_5
def dkwX6_draws_3 : List UInt8 := [154, 0, 9, 132, 3, 1, 167, 255, 216, 42, 21, 4, 27, 28, 182, 1, 88, 54, 5, 21, 5, 5]
abbrev dktX6_draws_3 : List UInt8 := dkwX6_draws_3 ++ dktX6_draws_4
def dkwX6_draws_2 : List UInt8 := [27, 46, 2, 160, 0, 80, 42, 180, 0, 80, 29, 46, 54, 4, 42, 21, 4, 27, 28, 182, 1, 53]
abbrev dktX6_draws_2 : List UInt8 := dkwX6_draws_2 ++ dktX6_draws_3
def dkwX6_draws_1 : List UInt8 := [89, 180, 1, 73, 4, 96, 181, 1, 73, 177, 3, 62, 29, 42, 180, 1, 67, 162, 0, 90, 42, 180, 0, 86]
abbrev dktX6_draws_1 : List UInt8 := dkwX6_draws_1 ++ dktX6_draws_2
def dkwX6_draws_0 : List UInt8 := [42, 180, 0, 83, 27, 28, 79, 42, 27, 28, 182, 1, 79, 153, 0, 21, 42, 180, 0, 86, 27, 28, 79, 42]
abbrev dktX6_draws_0 : List UInt8 := dkwX6_draws_0 ++ dktX6_draws_1
theorem dksX6_draws_0 : cX6_draws.data.toList.drop 0 = dktX6_draws_0 := by decide +kernel
theorem dksX6_draws_1 : cX6_draws.data.toList.drop 24 = dktX6_draws_1 := dk_seg dksX6_draws_0 24 rfl rfl
theorem dksX6_draws_2 : cX6_draws.data.toList.drop 48 = dktX6_draws_2 := dk_seg dksX6_draws_1 24 rfl rfl
theorem dksX6_draws_3 : cX6_draws.data.toList.drop 70 = dktX6_draws_3 := dk_seg dksX6_draws_2 22 rfl rfl
theorem dksX6_draws_4 : cX6_draws.data.toList.drop 92 = dktX6_draws_4 := dk_seg dksX6_draws_3 22 rfl rfl
theorem dksX6_draws_5 : cX6_draws.data.toList.drop 116 = dktX6_draws_5 := dk_seg dksX6_draws_4 24 rfl rfl
theorem dksX6_draws_6 : cX6_draws.data.toList.drop 138 = dktX6_draws_6 := dk_seg dksX6_draws_5 22 rfl rfl
theorem dksX6_draws_7 : cX6_draws.data.toList.drop 162 = dktX6_draws_7 := dk_seg dksX6_draws_6 24 rfl rfl
theorem dX6_draws_0 : decode cX6_draws 0 = .ok (.aload_n 0, 1) := dk_42 (dk_at dksX6_draws_0 0 rfl rfl)
theorem dX6_draws_1 : decode cX6_draws 1 = .ok (.getfield 83, 3) := dk_180 0 83 (dk_at dksX6_draws_0 1 rfl rfl)
theorem dX6_draws_4 : decode cX6_draws 4 = .ok (.iload_n 1, 1) := dk_27 (dk_at dksX6_draws_0 4 rfl rfl)
theorem dX6_draws_5 : decode cX6_draws 5 = .ok (.iload_n 2, 1) := dk_28 (dk_at dksX6_draws_0 5 rfl rfl)
theorem dX6_draws_6 : decode cX6_draws 6 = .ok (.iastore, 1) := dk_79 (dk_at dksX6_draws_0 6 rfl rfl)
theorem dX6_draws_7 : decode cX6_draws 7 = .ok (.aload_n 0, 1) := dk_42 (dk_at dksX6_draws_0 7 rfl rfl)
theorem dX6_draws_8 : decode cX6_draws 8 = .ok (.iload_n 1, 1) := dk_27 (dk_at dksX6_draws_0 8 rfl rfl)
theorem dX6_draws_9 : decode cX6_draws 9 = .ok (.iload_n 2, 1) := dk_28 (dk_at dksX6_draws_0 9 rfl rfl)
theorem dX6_draws_10 : decode cX6_draws 10 = .ok (.invokevirtual 335, 3) := dk_182 1 79 (dk_at dksX6_draws_0 10 rfl rfl)
theorem dX6_draws_13 : decode cX6_draws 13 = .ok (.ifCond .eq 21, 3) := dk_153 0 21 (dk_at dksX6_draws_0 13 rfl rfl)
theorem dX6_draws_16 : decode cX6_draws 16 = .ok (.aload_n 0, 1) := dk_42 (dk_at dksX6_draws_0 16 rfl rfl)
theorem dX6_draws_17 : decode cX6_draws 17 = .ok (.getfield 86, 3) := dk_180 0 86 (dk_at dksX6_draws_0 17 rfl rfl)
theorem dX6_draws_20 : decode cX6_draws 20 = .ok (.iload_n 1, 1) := dk_27 (dk_at dksX6_draws_0 20 rfl rfl)
theorem dX6_draws_21 : decode cX6_draws 21 = .ok (.iload_n 2, 1) := dk_28 (dk_at dksX6_draws_0 21 rfl rfl)
theorem dX6_draws_22 : decode cX6_draws 22 = .ok (.iastore, 1) := dk_79 (dk_at dksX6_draws_0 22 rfl rfl)
theorem dX6_draws_23 : decode cX6_draws 23 = .ok (.aload_n 0, 1) := dk_42 (dk_at dksX6_draws_0 23 rfl rfl)
theorem dX6_draws_24 : decode cX6_draws 24 = .ok (.dup, 1) := dk_89 (dk_at dksX6_draws_1 0 rfl rfl)
theorem dX6_draws_25 : decode cX6_draws 25 = .ok (.getfield 329, 3) := dk_180 1 73 (dk_at dksX6_draws_1 1 rfl rfl)
theorem dX6_draws_28 : decode cX6_draws 28 = .ok (.iconst 1, 1) := dk_4 (dk_at dksX6_draws_1 4 rfl rfl)
theorem dX6_draws_29 : decode cX6_draws 29 = .ok (.iadd, 1) := dk_96 (dk_at dksX6_draws_1 5 rfl rfl)
theorem dX6_draws_30 : decode cX6_draws 30 = .ok (.putfield 329, 3) := dk_181 1 73 (dk_at dksX6_draws_1 6 rfl rfl)
theorem dX6_draws_33 : decode cX6_draws 33 = .ok (.return_, 1) := dk_177 (dk_at dksX6_draws_1 9 rfl rfl)
theorem dX6_draws_34 : decode cX6_draws 34 = .ok (.iconst 0, 1) := dk_3 (dk_at dksX6_draws_1 10 rfl rfl)
theorem dX6_draws_35 : decode cX6_draws 35 = .ok (.istore_n 3, 1) := dk_62 (dk_at dksX6_draws_1 11 rfl rfl)
theorem dX6_draws_36 : decode cX6_draws 36 = .ok (.iload_n 3, 1) := dk_29 (dk_at dksX6_draws_1 12 rfl rfl)
theorem dX6_draws_37 : decode cX6_draws 37 = .ok (.aload_n 0, 1) := dk_42 (dk_at dksX6_draws_1 13 rfl rfl)
theorem dX6_draws_38 : decode cX6_draws 38 = .ok (.getfield 323, 3) := dk_180 1 67 (dk_at dksX6_draws_1 14 rfl rfl)
theorem dX6_draws_41 : decode cX6_draws 41 = .ok (.if_icmp .ge 90, 3) := dk_162 0 90 (dk_at dksX6_draws_1 17 rfl rfl)
theorem dX6_draws_44 : decode cX6_draws 44 = .ok (.aload_n 0, 1) := dk_42 (dk_at dksX6_draws_1 20 rfl rfl)
theorem dX6_draws_45 : decode cX6_draws 45 = .ok (.getfield 86, 3) := dk_180 0 86 (dk_at dksX6_draws_1 21 rfl rfl)
theorem dX6_draws_48 : decode cX6_draws 48 = .ok (.iload_n 1, 1) := dk_27 (dk_at dksX6_draws_2 0 rfl rfl)
theorem dX6_draws_49 : decode cX6_draws 49 = .ok (.iaload, 1) := dk_46 (dk_at dksX6_draws_2 1 rfl rfl)
theorem dX6_draws_50 : decode cX6_draws 50 = .ok (.iconst (-1), 1) := dk_2 (dk_at dksX6_draws_2 2 rfl rfl)
theorem dX6_draws_51 : decode cX6_draws 51 = .ok (.if_icmp .ne 80, 3) := dk_160 0 80 (dk_at dksX6_draws_2 3 rfl rfl)
theorem dX6_draws_54 : decode cX6_draws 54 = .ok (.aload_n 0, 1) := dk_42 (dk_at dksX6_draws_2 6 rfl rfl)
theorem dX6_draws_55 : decode cX6_draws 55 = .ok (.getfield 80, 3) := dk_180 0 80 (dk_at dksX6_draws_2 7 rfl rfl)
theorem dX6_draws_58 : decode cX6_draws 58 = .ok (.iload_n 3, 1) := dk_29 (dk_at dksX6_draws_2 10 rfl rfl)
theorem dX6_draws_59 : decode cX6_draws 59 = .ok (.iaload, 1) := dk_46 (dk_at dksX6_draws_2 11 rfl rfl)
theorem dX6_draws_60 : decode cX6_draws 60 = .ok (.istore 4, 2) := dk_54 4 (dk_at dksX6_draws_2 12 rfl rfl)
theorem dX6_draws_62 : decode cX6_draws 62 = .ok (.aload_n 0, 1) := dk_42 (dk_at dksX6_draws_2 14 rfl rfl)
theorem dX6_draws_63 : decode cX6_draws 63 = .ok (.iload 4, 2) := dk_21 4 (dk_at dksX6_draws_2 15 rfl rfl)
theorem dX6_draws_65 : decode cX6_draws 65 = .ok (.iload_n 1, 1) := dk_27 (dk_at dksX6_draws_2 17 rfl rfl)
theorem dX6_draws_66 : decode cX6_draws 66 = .ok (.iload_n 2, 1) := dk_28 (dk_at dksX6_draws_2 18 rfl rfl)
theorem dX6_draws_67 : decode cX6_draws 67 = .ok (.invokevirtual 309, 3) := dk_182 1 53 (dk_at dksX6_draws_2 19 rfl rfl)
theorem dX6_draws_70 : decode cX6_draws 70 = .ok (.ifCond .ne 9, 3) := dk_154 0 9 (dk_at dksX6_draws_3 0 rfl rfl)
theorem dX6_draws_73 : decode cX6_draws 73 = .ok (.iinc 3 1, 3) := dk_132 3 1 (dk_at dksX6_draws_3 3 rfl rfl)
theorem dX6_draws_76 : decode cX6_draws 76 = .ok (.goto (-40), 3) := dk_167 255 216 (dk_at dksX6_draws_3 6 rfl rfl)
theorem dX6_draws_79 : decode cX6_draws 79 = .ok (.aload_n 0, 1) := dk_42 (dk_at dksX6_draws_3 9 rfl rfl)
theorem dX6_draws_80 : decode cX6_draws 80 = .ok (.iload 4, 2) := dk_21 4 (dk_at dksX6_draws_3 10 rfl rfl)
theorem dX6_draws_82 : decode cX6_draws 82 = .ok (.iload_n 1, 1) := dk_27 (dk_at dksX6_draws_3 12 rfl rfl)
theorem dX6_draws_83 : decode cX6_draws 83 = .ok (.iload_n 2, 1) := dk_28 (dk_at dksX6_draws_3 13 rfl rfl)
theorem dX6_draws_84 : decode cX6_draws 84 = .ok (.invokevirtual 344, 3) := dk_182 1 88 (dk_at dksX6_draws_3 14 rfl rfl)
theorem dX6_draws_87 : decode cX6_draws 87 = .ok (.istore 5, 2) := dk_54 5 (dk_at dksX6_draws_3 17 rfl rfl)
theorem dX6_draws_89 : decode cX6_draws 89 = .ok (.iload 5, 2) := dk_21 5 (dk_at dksX6_draws_3 19 rfl rfl)
theorem dX6_draws_91 : decode cX6_draws 91 = .ok (.iconst 2, 1) := dk_5 (dk_at dksX6_draws_3 21 rfl rfl)
theorem dX6_draws_92 : decode cX6_draws 92 = .ok (.if_icmp .eq 11, 3) := dk_159 0 11 (dk_at dksX6_draws_4 0 rfl rfl)
theorem dX6_draws_95 : decode cX6_draws 95 = .ok (.aload_n 0, 1) := dk_42 (dk_at dksX6_draws_4 3 rfl rfl)
theorem dX6_draws_96 : decode cX6_draws 96 = .ok (.iload_n 1, 1) := dk_27 (dk_at dksX6_draws_4 4 rfl rfl)
theorem dX6_draws_97 : decode cX6_draws 97 = .ok (.iload 4, 2) := dk_21 4 (dk_at dksX6_draws_4 5 rfl rfl)
theorem dX6_draws_99 : decode cX6_draws 99 = .ok (.iload_n 2, 1) := dk_28 (dk_at dksX6_draws_4 7 rfl rfl)
theorem dX6_draws_100 : decode cX6_draws 100 = .ok (.invokevirtual 347, 3) := dk_182 1 91 (dk_at dksX6_draws_4 8 rfl rfl)
theorem dX6_draws_103 : decode cX6_draws 103 = .ok (.iload 5, 2) := dk_21 5 (dk_at dksX6_draws_4 11 rfl rfl)
theorem dX6_draws_105 : decode cX6_draws 105 = .ok (.iconst 1, 1) := dk_4 (dk_at dksX6_draws_4 13 rfl rfl)
theorem dX6_draws_106 : decode cX6_draws 106 = .ok (.if_icmp .ne 9, 3) := dk_160 0 9 (dk_at dksX6_draws_4 14 rfl rfl)
theorem dX6_draws_109 : decode cX6_draws 109 = .ok (.iinc 3 1, 3) := dk_132 3 1 (dk_at dksX6_draws_4 17 rfl rfl)
theorem dX6_draws_112 : decode cX6_draws 112 = .ok (.goto (-76), 3) := dk_167 255 180 (dk_at dksX6_draws_4 20 rfl rfl)
theorem dX6_draws_115 : decode cX6_draws 115 = .ok (.aload_n 0, 1) := dk_42 (dk_at dksX6_draws_4 23 rfl rfl)
theorem dX6_draws_116 : decode cX6_draws 116 = .ok (.iload 4, 2) := dk_21 4 (dk_at dksX6_draws_5 0 rfl rfl)
theorem dX6_draws_118 : decode cX6_draws 118 = .ok (.iload_n 1, 1) := dk_27 (dk_at dksX6_draws_5 2 rfl rfl)
theorem dX6_draws_119 : decode cX6_draws 119 = .ok (.iload_n 2, 1) := dk_28 (dk_at dksX6_draws_5 3 rfl rfl)
theorem dX6_draws_120 : decode cX6_draws 120 = .ok (.invokevirtual 347, 3) := dk_182 1 91 (dk_at dksX6_draws_5 4 rfl rfl)
theorem dX6_draws_123 : decode cX6_draws 123 = .ok (.aload_n 0, 1) := dk_42 (dk_at dksX6_draws_5 7 rfl rfl)
theorem dX6_draws_124 : decode cX6_draws 124 = .ok (.iload_n 3, 1) := dk_29 (dk_at dksX6_draws_5 8 rfl rfl)
theorem dX6_draws_125 : decode cX6_draws 125 = .ok (.invokevirtual 338, 3) := dk_182 1 82 (dk_at dksX6_draws_5 9 rfl rfl)
theorem dX6_draws_128 : decode cX6_draws 128 = .ok (.goto (-92), 3) := dk_167 255 164 (dk_at dksX6_draws_5 12 rfl rfl)
theorem dX6_draws_131 : decode cX6_draws 131 = .ok (.aload_n 0, 1) := dk_42 (dk_at dksX6_draws_5 15 rfl rfl)
theorem dX6_draws_132 : decode cX6_draws 132 = .ok (.getfield 86, 3) := dk_180 0 86 (dk_at dksX6_draws_5 16 rfl rfl)
theorem dX6_draws_135 : decode cX6_draws 135 = .ok (.iload_n 1, 1) := dk_27 (dk_at dksX6_draws_5 19 rfl rfl)
theorem dX6_draws_136 : decode cX6_draws 136 = .ok (.iaload, 1) := dk_46 (dk_at dksX6_draws_5 20 rfl rfl)
theorem dX6_draws_137 : decode cX6_draws 137 = .ok (.iconst (-1), 1) := dk_2 (dk_at dksX6_draws_5 21 rfl rfl)
theorem dX6_draws_138 : decode cX6_draws 138 = .ok (.if_icmp .eq 4, 3) := dk_159 0 4 (dk_at dksX6_draws_6 0 rfl rfl)
theorem dX6_draws_141 : decode cX6_draws 141 = .ok (.return_, 1) := dk_177 (dk_at dksX6_draws_6 3 rfl rfl)
theorem dX6_draws_142 : decode cX6_draws 142 = .ok (.aload_n 0, 1) := dk_42 (dk_at dksX6_draws_6 4 rfl rfl)
theorem dX6_draws_143 : decode cX6_draws 143 = .ok (.getfield 80, 3) := dk_180 0 80 (dk_at dksX6_draws_6 5 rfl rfl)
theorem dX6_draws_146 : decode cX6_draws 146 = .ok (.aload_n 0, 1) := dk_42 (dk_at dksX6_draws_6 8 rfl rfl)
theorem dX6_draws_147 : decode cX6_draws 147 = .ok (.getfield 323, 3) := dk_180 1 67 (dk_at dksX6_draws_6 9 rfl rfl)
theorem dX6_draws_150 : decode cX6_draws 150 = .ok (.iload_n 1, 1) := dk_27 (dk_at dksX6_draws_6 12 rfl rfl)
theorem dX6_draws_151 : decode cX6_draws 151 = .ok (.iastore, 1) := dk_79 (dk_at dksX6_draws_6 13 rfl rfl)
theorem dX6_draws_152 : decode cX6_draws 152 = .ok (.aload_n 0, 1) := dk_42 (dk_at dksX6_draws_6 14 rfl rfl)
theorem dX6_draws_153 : decode cX6_draws 153 = .ok (.dup, 1) := dk_89 (dk_at dksX6_draws_6 15 rfl rfl)
theorem dX6_draws_154 : decode cX6_draws 154 = .ok (.getfield 323, 3) := dk_180 1 67 (dk_at dksX6_draws_6 16 rfl rfl)
theorem dX6_draws_157 : decode cX6_draws 157 = .ok (.iconst 1, 1) := dk_4 (dk_at dksX6_draws_6 19 rfl rfl)
theorem dX6_draws_158 : decode cX6_draws 158 = .ok (.iadd, 1) := dk_96 (dk_at dksX6_draws_6 20 rfl rfl)
theorem dX6_draws_159 : decode cX6_draws 159 = .ok (.putfield 323, 3) := dk_181 1 67 (dk_at dksX6_draws_6 21 rfl rfl)
theorem dX6_draws_162 : decode cX6_draws 162 = .ok (.return_, 1) := dk_177 (dk_at dksX6_draws_7 0 rfl rfl)
abbrev cX6_whoFalls : ByteArray := prog_19_method_71_code
def yX6_whoFalls : MethodName := ⟨RX6, "whoFalls", "(III)I"⟩
def dkwX6_whoFalls_4 : List UInt8 := [42, 180, 1, 67, 29, 182, 1, 85, 172]
abbrev dktX6_whoFalls_4 : List UInt8 := dkwX6_whoFalls_4 ++ []
def dkwX6_whoFalls_3 : List UInt8 := [162, 0, 7, 5, 167, 0, 4, 4, 172, 42, 27, 28, 42, 180, 0, 92, 27, 46, 42, 180, 0, 95, 27, 46]
abbrev dktX6_whoFalls_3 : List UInt8 := dkwX6_whoFalls_3 ++ dktX6_whoFalls_4
def dkwX6_whoFalls_2 : List UInt8 := [3, 172, 4, 172, 5, 172, 42, 180, 0, 36, 27, 47, 184, 0, 249, 42, 180, 0, 36, 28, 47, 184, 0, 249]
abbrev dktX6_whoFalls_2 : List UInt8 := dkwX6_whoFalls_2 ++ dktX6_whoFalls_3
def dkwX6_whoFalls_1 : List UInt8 := [170, 0, 0, 0, 0, 0, 0, 65, 0, 0, 0, 0, 0, 0, 0, 3, 0, 0, 0, 32, 0, 0, 0, 34, 0, 0, 0, 36, 0, 0, 0, 38]
abbrev dktX6_whoFalls_1 : List UInt8 := dkwX6_whoFalls_1 ++ dktX6_whoFalls_2
def dkwX6_whoFalls_0 : List UInt8 := [42, 180, 1, 64]
abbrev dktX6_whoFalls_0 : List UInt8 := dkwX6_whoFalls_0 ++ dktX6_whoFalls_1
theorem dksX6_whoFalls_0 : cX6_whoFalls.data.toList.drop 0 = dktX6_whoFalls_0 := by decide +kernel
theorem dksX6_whoFalls_1 : cX6_whoFalls.data.toList.drop 4 = dktX6_whoFalls_1 := dk_seg dksX6_whoFalls_0 4 rfl rfl
theorem dksX6_whoFalls_2 : cX6_whoFalls.data.toList.drop 36 = dktX6_whoFalls_2 := dk_seg dksX6_whoFalls_1 32 rfl rfl
theorem dksX6_whoFalls_3 : cX6_whoFalls.data.toList.drop 60 = dktX6_whoFalls_3 := dk_seg dksX6_whoFalls_2 24 rfl rfl
theorem dksX6_whoFalls_4 : cX6_whoFalls.data.toList.drop 84 = dktX6_whoFalls_4 := dk_seg dksX6_whoFalls_3 24 rfl rfl
theorem dX6_whoFalls_0 : decode cX6_whoFalls 0 = .ok (.aload_n 0, 1) := dk_42 (dk_at dksX6_whoFalls_0 0 rfl rfl)
theorem dX6_whoFalls_1 : decode cX6_whoFalls 1 = .ok (.getfield 320, 3) := dk_180 1 64 (dk_at dksX6_whoFalls_0 1 rfl rfl)
theorem dX6_whoFalls_4 : decode cX6_whoFalls 4 = .ok (.tableswitch 65 0 3 #[32, 34, 36, 38], 32) := by decide +kernel
theorem dX6_whoFalls_36 : decode cX6_whoFalls 36 = .ok (.iconst 0, 1) := dk_3 (dk_at dksX6_whoFalls_2 0 rfl rfl)
theorem dX6_whoFalls_37 : decode cX6_whoFalls 37 = .ok (.ireturn, 1) := dk_172 (dk_at dksX6_whoFalls_2 1 rfl rfl)
theorem dX6_whoFalls_38 : decode cX6_whoFalls 38 = .ok (.iconst 1, 1) := dk_4 (dk_at dksX6_whoFalls_2 2 rfl rfl)
theorem dX6_whoFalls_39 : decode cX6_whoFalls 39 = .ok (.ireturn, 1) := dk_172 (dk_at dksX6_whoFalls_2 3 rfl rfl)
theorem dX6_whoFalls_40 : decode cX6_whoFalls 40 = .ok (.iconst 2, 1) := dk_5 (dk_at dksX6_whoFalls_2 4 rfl rfl)
theorem dX6_whoFalls_41 : decode cX6_whoFalls 41 = .ok (.ireturn, 1) := dk_172 (dk_at dksX6_whoFalls_2 5 rfl rfl)
theorem dX6_whoFalls_42 : decode cX6_whoFalls 42 = .ok (.aload_n 0, 1) := dk_42 (dk_at dksX6_whoFalls_2 6 rfl rfl)
theorem dX6_whoFalls_43 : decode cX6_whoFalls 43 = .ok (.getfield 36, 3) := dk_180 0 36 (dk_at dksX6_whoFalls_2 7 rfl rfl)
theorem dX6_whoFalls_46 : decode cX6_whoFalls 46 = .ok (.iload_n 1, 1) := dk_27 (dk_at dksX6_whoFalls_2 10 rfl rfl)
theorem dX6_whoFalls_47 : decode cX6_whoFalls 47 = .ok (.laload, 1) := dk_47 (dk_at dksX6_whoFalls_2 11 rfl rfl)
theorem dX6_whoFalls_48 : decode cX6_whoFalls 48 = .ok (.invokestatic 249, 3) := dk_184 0 249 (dk_at dksX6_whoFalls_2 12 rfl rfl)
theorem dX6_whoFalls_51 : decode cX6_whoFalls 51 = .ok (.aload_n 0, 1) := dk_42 (dk_at dksX6_whoFalls_2 15 rfl rfl)
theorem dX6_whoFalls_52 : decode cX6_whoFalls 52 = .ok (.getfield 36, 3) := dk_180 0 36 (dk_at dksX6_whoFalls_2 16 rfl rfl)
theorem dX6_whoFalls_55 : decode cX6_whoFalls 55 = .ok (.iload_n 2, 1) := dk_28 (dk_at dksX6_whoFalls_2 19 rfl rfl)
theorem dX6_whoFalls_56 : decode cX6_whoFalls 56 = .ok (.laload, 1) := dk_47 (dk_at dksX6_whoFalls_2 20 rfl rfl)
theorem dX6_whoFalls_57 : decode cX6_whoFalls 57 = .ok (.invokestatic 249, 3) := dk_184 0 249 (dk_at dksX6_whoFalls_2 21 rfl rfl)
theorem dX6_whoFalls_60 : decode cX6_whoFalls 60 = .ok (.if_icmp .ge 7, 3) := dk_162 0 7 (dk_at dksX6_whoFalls_3 0 rfl rfl)
theorem dX6_whoFalls_63 : decode cX6_whoFalls 63 = .ok (.iconst 2, 1) := dk_5 (dk_at dksX6_whoFalls_3 3 rfl rfl)
theorem dX6_whoFalls_64 : decode cX6_whoFalls 64 = .ok (.goto 4, 3) := dk_167 0 4 (dk_at dksX6_whoFalls_3 4 rfl rfl)
theorem dX6_whoFalls_67 : decode cX6_whoFalls 67 = .ok (.iconst 1, 1) := dk_4 (dk_at dksX6_whoFalls_3 7 rfl rfl)
theorem dX6_whoFalls_68 : decode cX6_whoFalls 68 = .ok (.ireturn, 1) := dk_172 (dk_at dksX6_whoFalls_3 8 rfl rfl)
theorem dX6_whoFalls_69 : decode cX6_whoFalls 69 = .ok (.aload_n 0, 1) := dk_42 (dk_at dksX6_whoFalls_3 9 rfl rfl)
theorem dX6_whoFalls_70 : decode cX6_whoFalls 70 = .ok (.iload_n 1, 1) := dk_27 (dk_at dksX6_whoFalls_3 10 rfl rfl)
theorem dX6_whoFalls_71 : decode cX6_whoFalls 71 = .ok (.iload_n 2, 1) := dk_28 (dk_at dksX6_whoFalls_3 11 rfl rfl)
theorem dX6_whoFalls_72 : decode cX6_whoFalls 72 = .ok (.aload_n 0, 1) := dk_42 (dk_at dksX6_whoFalls_3 12 rfl rfl)
theorem dX6_whoFalls_73 : decode cX6_whoFalls 73 = .ok (.getfield 92, 3) := dk_180 0 92 (dk_at dksX6_whoFalls_3 13 rfl rfl)
theorem dX6_whoFalls_76 : decode cX6_whoFalls 76 = .ok (.iload_n 1, 1) := dk_27 (dk_at dksX6_whoFalls_3 16 rfl rfl)
theorem dX6_whoFalls_77 : decode cX6_whoFalls 77 = .ok (.iaload, 1) := dk_46 (dk_at dksX6_whoFalls_3 17 rfl rfl)
theorem dX6_whoFalls_78 : decode cX6_whoFalls 78 = .ok (.aload_n 0, 1) := dk_42 (dk_at dksX6_whoFalls_3 18 rfl rfl)
theorem dX6_whoFalls_79 : decode cX6_whoFalls 79 = .ok (.getfield 95, 3) := dk_180 0 95 (dk_at dksX6_whoFalls_3 19 rfl rfl)
theorem dX6_whoFalls_82 : decode cX6_whoFalls 82 = .ok (.iload_n 1, 1) := dk_27 (dk_at dksX6_whoFalls_3 22 rfl rfl)
theorem dX6_whoFalls_83 : decode cX6_whoFalls 83 = .ok (.iaload, 1) := dk_46 (dk_at dksX6_whoFalls_3 23 rfl rfl)
theorem dX6_whoFalls_84 : decode cX6_whoFalls 84 = .ok (.aload_n 0, 1) := dk_42 (dk_at dksX6_whoFalls_4 0 rfl rfl)
theorem dX6_whoFalls_85 : decode cX6_whoFalls 85 = .ok (.getfield 323, 3) := dk_180 1 67 (dk_at dksX6_whoFalls_4 1 rfl rfl)
theorem dX6_whoFalls_88 : decode cX6_whoFalls 88 = .ok (.iload_n 3, 1) := dk_29 (dk_at dksX6_whoFalls_4 4 rfl rfl)
theorem dX6_whoFalls_89 : decode cX6_whoFalls 89 = .ok (.invokevirtual 341, 3) := dk_182 1 85 (dk_at dksX6_whoFalls_4 5 rfl rfl)
theorem dX6_whoFalls_92 : decode cX6_whoFalls 92 = .ok (.ireturn, 1) := dk_172 (dk_at dksX6_whoFalls_4 8 rfl rfl)
abbrev cX6_byTongue : ByteArray := prog_19_method_47_code
def yX6_byTongue : MethodName := ⟨RX6, "byTongue", "(IIIIII)I"⟩
def dkwX6_byTongue_4 : List UInt8 := [132, 7, 1, 167, 255, 209, 3, 172]
abbrev dktX6_byTongue_4 : List UInt8 := dkwX6_byTongue_4 ++ []
def dkwX6_byTongue_3 : List UInt8 := [180, 0, 62, 21, 7, 50, 5, 46, 182, 1, 43, 153, 0, 13, 42, 180, 0, 62, 21, 7, 50, 3, 46, 172]
abbrev dktX6_byTongue_3 : List UInt8 := dkwX6_byTongue_3 ++ dktX6_byTongue_4
def dkwX6_byTongue_2 : List UInt8 := [54, 7, 21, 7, 42, 180, 0, 243, 162, 0, 44, 42, 42, 180, 0, 62, 21, 7, 50, 4, 46, 42]
abbrev dktX6_byTongue_2 : List UInt8 := dkwX6_byTongue_2 ++ dktX6_byTongue_3
def dkwX6_byTongue_1 : List UInt8 := [180, 0, 104, 6, 21, 4, 79, 42, 180, 0, 104, 7, 21, 5, 79, 42, 180, 0, 104, 8, 21, 6, 79, 3]
abbrev dktX6_byTongue_1 : List UInt8 := dkwX6_byTongue_1 ++ dktX6_byTongue_2
def dkwX6_byTongue_0 : List UInt8 := [42, 180, 0, 104, 3, 27, 79, 42, 180, 0, 104, 4, 28, 79, 42, 180, 0, 104, 5, 29, 79, 42]
abbrev dktX6_byTongue_0 : List UInt8 := dkwX6_byTongue_0 ++ dktX6_byTongue_1
theorem dksX6_byTongue_0 : cX6_byTongue.data.toList.drop 0 = dktX6_byTongue_0 := by decide +kernel
theorem dksX6_byTongue_1 : cX6_byTongue.data.toList.drop 22 = dktX6_byTongue_1 := dk_seg dksX6_byTongue_0 22 rfl rfl
theorem dksX6_byTongue_2 : cX6_byTongue.data.toList.drop 46 = dktX6_byTongue_2 := dk_seg dksX6_byTongue_1 24 rfl rfl
theorem dksX6_byTongue_3 : cX6_byTongue.data.toList.drop 68 = dktX6_byTongue_3 := dk_seg dksX6_byTongue_2 22 rfl rfl
theorem dksX6_byTongue_4 : cX6_byTongue.data.toList.drop 92 = dktX6_byTongue_4 := dk_seg dksX6_byTongue_3 24 rfl rfl
theorem dX6_byTongue_0 : decode cX6_byTongue 0 = .ok (.aload_n 0, 1) := dk_42 (dk_at dksX6_byTongue_0 0 rfl rfl)
theorem dX6_byTongue_1 : decode cX6_byTongue 1 = .ok (.getfield 104, 3) := dk_180 0 104 (dk_at dksX6_byTongue_0 1 rfl rfl)
theorem dX6_byTongue_4 : decode cX6_byTongue 4 = .ok (.iconst 0, 1) := dk_3 (dk_at dksX6_byTongue_0 4 rfl rfl)
theorem dX6_byTongue_5 : decode cX6_byTongue 5 = .ok (.iload_n 1, 1) := dk_27 (dk_at dksX6_byTongue_0 5 rfl rfl)
theorem dX6_byTongue_6 : decode cX6_byTongue 6 = .ok (.iastore, 1) := dk_79 (dk_at dksX6_byTongue_0 6 rfl rfl)
theorem dX6_byTongue_7 : decode cX6_byTongue 7 = .ok (.aload_n 0, 1) := dk_42 (dk_at dksX6_byTongue_0 7 rfl rfl)
theorem dX6_byTongue_8 : decode cX6_byTongue 8 = .ok (.getfield 104, 3) := dk_180 0 104 (dk_at dksX6_byTongue_0 8 rfl rfl)
theorem dX6_byTongue_11 : decode cX6_byTongue 11 = .ok (.iconst 1, 1) := dk_4 (dk_at dksX6_byTongue_0 11 rfl rfl)
theorem dX6_byTongue_12 : decode cX6_byTongue 12 = .ok (.iload_n 2, 1) := dk_28 (dk_at dksX6_byTongue_0 12 rfl rfl)
theorem dX6_byTongue_13 : decode cX6_byTongue 13 = .ok (.iastore, 1) := dk_79 (dk_at dksX6_byTongue_0 13 rfl rfl)
theorem dX6_byTongue_14 : decode cX6_byTongue 14 = .ok (.aload_n 0, 1) := dk_42 (dk_at dksX6_byTongue_0 14 rfl rfl)
theorem dX6_byTongue_15 : decode cX6_byTongue 15 = .ok (.getfield 104, 3) := dk_180 0 104 (dk_at dksX6_byTongue_0 15 rfl rfl)
theorem dX6_byTongue_18 : decode cX6_byTongue 18 = .ok (.iconst 2, 1) := dk_5 (dk_at dksX6_byTongue_0 18 rfl rfl)
theorem dX6_byTongue_19 : decode cX6_byTongue 19 = .ok (.iload_n 3, 1) := dk_29 (dk_at dksX6_byTongue_0 19 rfl rfl)
theorem dX6_byTongue_20 : decode cX6_byTongue 20 = .ok (.iastore, 1) := dk_79 (dk_at dksX6_byTongue_0 20 rfl rfl)
theorem dX6_byTongue_21 : decode cX6_byTongue 21 = .ok (.aload_n 0, 1) := dk_42 (dk_at dksX6_byTongue_0 21 rfl rfl)
theorem dX6_byTongue_22 : decode cX6_byTongue 22 = .ok (.getfield 104, 3) := dk_180 0 104 (dk_at dksX6_byTongue_1 0 rfl rfl)
theorem dX6_byTongue_25 : decode cX6_byTongue 25 = .ok (.iconst 3, 1) := dk_6 (dk_at dksX6_byTongue_1 3 rfl rfl)
theorem dX6_byTongue_26 : decode cX6_byTongue 26 = .ok (.iload 4, 2) := dk_21 4 (dk_at dksX6_byTongue_1 4 rfl rfl)
theorem dX6_byTongue_28 : decode cX6_byTongue 28 = .ok (.iastore, 1) := dk_79 (dk_at dksX6_byTongue_1 6 rfl rfl)
theorem dX6_byTongue_29 : decode cX6_byTongue 29 = .ok (.aload_n 0, 1) := dk_42 (dk_at dksX6_byTongue_1 7 rfl rfl)
theorem dX6_byTongue_30 : decode cX6_byTongue 30 = .ok (.getfield 104, 3) := dk_180 0 104 (dk_at dksX6_byTongue_1 8 rfl rfl)
theorem dX6_byTongue_33 : decode cX6_byTongue 33 = .ok (.iconst 4, 1) := dk_7 (dk_at dksX6_byTongue_1 11 rfl rfl)
theorem dX6_byTongue_34 : decode cX6_byTongue 34 = .ok (.iload 5, 2) := dk_21 5 (dk_at dksX6_byTongue_1 12 rfl rfl)
theorem dX6_byTongue_36 : decode cX6_byTongue 36 = .ok (.iastore, 1) := dk_79 (dk_at dksX6_byTongue_1 14 rfl rfl)
theorem dX6_byTongue_37 : decode cX6_byTongue 37 = .ok (.aload_n 0, 1) := dk_42 (dk_at dksX6_byTongue_1 15 rfl rfl)
theorem dX6_byTongue_38 : decode cX6_byTongue 38 = .ok (.getfield 104, 3) := dk_180 0 104 (dk_at dksX6_byTongue_1 16 rfl rfl)
theorem dX6_byTongue_41 : decode cX6_byTongue 41 = .ok (.iconst 5, 1) := dk_8 (dk_at dksX6_byTongue_1 19 rfl rfl)
theorem dX6_byTongue_42 : decode cX6_byTongue 42 = .ok (.iload 6, 2) := dk_21 6 (dk_at dksX6_byTongue_1 20 rfl rfl)
theorem dX6_byTongue_44 : decode cX6_byTongue 44 = .ok (.iastore, 1) := dk_79 (dk_at dksX6_byTongue_1 22 rfl rfl)
theorem dX6_byTongue_45 : decode cX6_byTongue 45 = .ok (.iconst 0, 1) := dk_3 (dk_at dksX6_byTongue_1 23 rfl rfl)
theorem dX6_byTongue_46 : decode cX6_byTongue 46 = .ok (.istore 7, 2) := dk_54 7 (dk_at dksX6_byTongue_2 0 rfl rfl)
theorem dX6_byTongue_48 : decode cX6_byTongue 48 = .ok (.iload 7, 2) := dk_21 7 (dk_at dksX6_byTongue_2 2 rfl rfl)
theorem dX6_byTongue_50 : decode cX6_byTongue 50 = .ok (.aload_n 0, 1) := dk_42 (dk_at dksX6_byTongue_2 4 rfl rfl)
theorem dX6_byTongue_51 : decode cX6_byTongue 51 = .ok (.getfield 243, 3) := dk_180 0 243 (dk_at dksX6_byTongue_2 5 rfl rfl)
theorem dX6_byTongue_54 : decode cX6_byTongue 54 = .ok (.if_icmp .ge 44, 3) := dk_162 0 44 (dk_at dksX6_byTongue_2 8 rfl rfl)
theorem dX6_byTongue_57 : decode cX6_byTongue 57 = .ok (.aload_n 0, 1) := dk_42 (dk_at dksX6_byTongue_2 11 rfl rfl)
theorem dX6_byTongue_58 : decode cX6_byTongue 58 = .ok (.aload_n 0, 1) := dk_42 (dk_at dksX6_byTongue_2 12 rfl rfl)
theorem dX6_byTongue_59 : decode cX6_byTongue 59 = .ok (.getfield 62, 3) := dk_180 0 62 (dk_at dksX6_byTongue_2 13 rfl rfl)
theorem dX6_byTongue_62 : decode cX6_byTongue 62 = .ok (.iload 7, 2) := dk_21 7 (dk_at dksX6_byTongue_2 16 rfl rfl)
theorem dX6_byTongue_64 : decode cX6_byTongue 64 = .ok (.aaload, 1) := dk_50 (dk_at dksX6_byTongue_2 18 rfl rfl)
theorem dX6_byTongue_65 : decode cX6_byTongue 65 = .ok (.iconst 1, 1) := dk_4 (dk_at dksX6_byTongue_2 19 rfl rfl)
theorem dX6_byTongue_66 : decode cX6_byTongue 66 = .ok (.iaload, 1) := dk_46 (dk_at dksX6_byTongue_2 20 rfl rfl)
theorem dX6_byTongue_67 : decode cX6_byTongue 67 = .ok (.aload_n 0, 1) := dk_42 (dk_at dksX6_byTongue_2 21 rfl rfl)
theorem dX6_byTongue_68 : decode cX6_byTongue 68 = .ok (.getfield 62, 3) := dk_180 0 62 (dk_at dksX6_byTongue_3 0 rfl rfl)
theorem dX6_byTongue_71 : decode cX6_byTongue 71 = .ok (.iload 7, 2) := dk_21 7 (dk_at dksX6_byTongue_3 3 rfl rfl)
theorem dX6_byTongue_73 : decode cX6_byTongue 73 = .ok (.aaload, 1) := dk_50 (dk_at dksX6_byTongue_3 5 rfl rfl)
theorem dX6_byTongue_74 : decode cX6_byTongue 74 = .ok (.iconst 2, 1) := dk_5 (dk_at dksX6_byTongue_3 6 rfl rfl)
theorem dX6_byTongue_75 : decode cX6_byTongue 75 = .ok (.iaload, 1) := dk_46 (dk_at dksX6_byTongue_3 7 rfl rfl)
theorem dX6_byTongue_76 : decode cX6_byTongue 76 = .ok (.invokevirtual 299, 3) := dk_182 1 43 (dk_at dksX6_byTongue_3 8 rfl rfl)
theorem dX6_byTongue_79 : decode cX6_byTongue 79 = .ok (.ifCond .eq 13, 3) := dk_153 0 13 (dk_at dksX6_byTongue_3 11 rfl rfl)
theorem dX6_byTongue_82 : decode cX6_byTongue 82 = .ok (.aload_n 0, 1) := dk_42 (dk_at dksX6_byTongue_3 14 rfl rfl)
theorem dX6_byTongue_83 : decode cX6_byTongue 83 = .ok (.getfield 62, 3) := dk_180 0 62 (dk_at dksX6_byTongue_3 15 rfl rfl)
theorem dX6_byTongue_86 : decode cX6_byTongue 86 = .ok (.iload 7, 2) := dk_21 7 (dk_at dksX6_byTongue_3 18 rfl rfl)
theorem dX6_byTongue_88 : decode cX6_byTongue 88 = .ok (.aaload, 1) := dk_50 (dk_at dksX6_byTongue_3 20 rfl rfl)
theorem dX6_byTongue_89 : decode cX6_byTongue 89 = .ok (.iconst 0, 1) := dk_3 (dk_at dksX6_byTongue_3 21 rfl rfl)
theorem dX6_byTongue_90 : decode cX6_byTongue 90 = .ok (.iaload, 1) := dk_46 (dk_at dksX6_byTongue_3 22 rfl rfl)
theorem dX6_byTongue_91 : decode cX6_byTongue 91 = .ok (.ireturn, 1) := dk_172 (dk_at dksX6_byTongue_3 23 rfl rfl)
theorem dX6_byTongue_92 : decode cX6_byTongue 92 = .ok (.iinc 7 1, 3) := dk_132 7 1 (dk_at dksX6_byTongue_4 0 rfl rfl)
theorem dX6_byTongue_95 : decode cX6_byTongue 95 = .ok (.goto (-47), 3) := dk_167 255 209 (dk_at dksX6_byTongue_4 3 rfl rfl)
theorem dX6_byTongue_98 : decode cX6_byTongue 98 = .ok (.iconst 0, 1) := dk_3 (dk_at dksX6_byTongue_4 6 rfl rfl)
theorem dX6_byTongue_99 : decode cX6_byTongue 99 = .ok (.ireturn, 1) := dk_172 (dk_at dksX6_byTongue_4 7 rfl rfl)
abbrev cX6_isSo : ByteArray := prog_19_method_46_code
def yX6_isSo : MethodName := ⟨RX6, "isSo", "(II)Z"⟩
def dkwX6_isSo_6 : List UInt8 := [160, 0, 7, 4, 167, 0, 4, 3, 172]
abbrev dktX6_isSo_6 : List UInt8 := dkwX6_isSo_6 ++ []
def dkwX6_isSo_5 : List UInt8 := [42, 180, 0, 74, 29, 46, 184, 1, 39, 79, 132, 4, 1, 167, 255, 130, 42, 180, 0, 74, 3, 46, 4]
abbrev dktX6_isSo_5 : List UInt8 := dkwX6_isSo_5 ++ dktX6_isSo_6
def dkwX6_isSo_4 : List UInt8 := [79, 167, 0, 33, 132, 3, 255, 42, 180, 0, 74, 29, 4, 100, 21, 5, 42, 180, 0, 74, 29, 4, 100, 46]
abbrev dktX6_isSo_4 : List UInt8 := dkwX6_isSo_4 ++ dktX6_isSo_5
def dkwX6_isSo_3 : List UInt8 := [21, 5, 16, 8, 160, 0, 24, 42, 180, 0, 74, 29, 4, 100, 4, 42, 180, 0, 74, 29, 4, 100, 46, 100]
abbrev dktX6_isSo_3 : List UInt8 := dkwX6_isSo_3 ++ dktX6_isSo_4
def dkwX6_isSo_2 : List UInt8 := [167, 0, 16, 42, 42, 180, 0, 68, 21, 4, 50, 4, 46, 182, 1, 36, 79, 132, 3, 1, 167, 0, 61]
abbrev dktX6_isSo_2 : List UInt8 := dkwX6_isSo_2 ++ dktX6_isSo_3
def dkwX6_isSo_1 : List UInt8 := [5, 162, 0, 45, 42, 180, 0, 74, 29, 21, 5, 154, 0, 15, 42, 180, 0, 68, 21, 4, 50, 4, 46]
abbrev dktX6_isSo_1 : List UInt8 := dkwX6_isSo_1 ++ dktX6_isSo_2
def dkwX6_isSo_0 : List UInt8 := [3, 62, 27, 54, 4, 21, 4, 28, 162, 0, 126, 42, 180, 0, 68, 21, 4, 50, 3, 46, 54, 5, 21, 5]
abbrev dktX6_isSo_0 : List UInt8 := dkwX6_isSo_0 ++ dktX6_isSo_1
theorem dksX6_isSo_0 : cX6_isSo.data.toList.drop 0 = dktX6_isSo_0 := by decide +kernel
theorem dksX6_isSo_1 : cX6_isSo.data.toList.drop 24 = dktX6_isSo_1 := dk_seg dksX6_isSo_0 24 rfl rfl
theorem dksX6_isSo_2 : cX6_isSo.data.toList.drop 47 = dktX6_isSo_2 := dk_seg dksX6_isSo_1 23 rfl rfl
theorem dksX6_isSo_3 : cX6_isSo.data.toList.drop 70 = dktX6_isSo_3 := dk_seg dksX6_isSo_2 23 rfl rfl
theorem dksX6_isSo_4 : cX6_isSo.data.toList.drop 94 = dktX6_isSo_4 := dk_seg dksX6_isSo_3 24 rfl rfl
theorem dksX6_isSo_5 : cX6_isSo.data.toList.drop 118 = dktX6_isSo_5 := dk_seg dksX6_isSo_4 24 rfl rfl
theorem dksX6_isSo_6 : cX6_isSo.data.toList.drop 141 = dktX6_isSo_6 := dk_seg dksX6_isSo_5 23 rfl rfl
theorem dX6_isSo_0 : decode cX6_isSo 0 = .ok (.iconst 0, 1) := dk_3 (dk_at dksX6_isSo_0 0 rfl rfl)
theorem dX6_isSo_1 : decode cX6_isSo 1 = .ok (.istore_n 3, 1) := dk_62 (dk_at dksX6_isSo_0 1 rfl rfl)
theorem dX6_isSo_2 : decode cX6_isSo 2 = .ok (.iload_n 1, 1) := dk_27 (dk_at dksX6_isSo_0 2 rfl rfl)
theorem dX6_isSo_3 : decode cX6_isSo 3 = .ok (.istore 4, 2) := dk_54 4 (dk_at dksX6_isSo_0 3 rfl rfl)
theorem dX6_isSo_5 : decode cX6_isSo 5 = .ok (.iload 4, 2) := dk_21 4 (dk_at dksX6_isSo_0 5 rfl rfl)
theorem dX6_isSo_7 : decode cX6_isSo 7 = .ok (.iload_n 2, 1) := dk_28 (dk_at dksX6_isSo_0 7 rfl rfl)
theorem dX6_isSo_8 : decode cX6_isSo 8 = .ok (.if_icmp .ge 126, 3) := dk_162 0 126 (dk_at dksX6_isSo_0 8 rfl rfl)
theorem dX6_isSo_11 : decode cX6_isSo 11 = .ok (.aload_n 0, 1) := dk_42 (dk_at dksX6_isSo_0 11 rfl rfl)
theorem dX6_isSo_12 : decode cX6_isSo 12 = .ok (.getfield 68, 3) := dk_180 0 68 (dk_at dksX6_isSo_0 12 rfl rfl)
theorem dX6_isSo_15 : decode cX6_isSo 15 = .ok (.iload 4, 2) := dk_21 4 (dk_at dksX6_isSo_0 15 rfl rfl)
theorem dX6_isSo_17 : decode cX6_isSo 17 = .ok (.aaload, 1) := dk_50 (dk_at dksX6_isSo_0 17 rfl rfl)
theorem dX6_isSo_18 : decode cX6_isSo 18 = .ok (.iconst 0, 1) := dk_3 (dk_at dksX6_isSo_0 18 rfl rfl)
theorem dX6_isSo_19 : decode cX6_isSo 19 = .ok (.iaload, 1) := dk_46 (dk_at dksX6_isSo_0 19 rfl rfl)
theorem dX6_isSo_20 : decode cX6_isSo 20 = .ok (.istore 5, 2) := dk_54 5 (dk_at dksX6_isSo_0 20 rfl rfl)
theorem dX6_isSo_22 : decode cX6_isSo 22 = .ok (.iload 5, 2) := dk_21 5 (dk_at dksX6_isSo_0 22 rfl rfl)
theorem dX6_isSo_24 : decode cX6_isSo 24 = .ok (.iconst 2, 1) := dk_5 (dk_at dksX6_isSo_1 0 rfl rfl)
theorem dX6_isSo_25 : decode cX6_isSo 25 = .ok (.if_icmp .ge 45, 3) := dk_162 0 45 (dk_at dksX6_isSo_1 1 rfl rfl)
theorem dX6_isSo_28 : decode cX6_isSo 28 = .ok (.aload_n 0, 1) := dk_42 (dk_at dksX6_isSo_1 4 rfl rfl)
theorem dX6_isSo_29 : decode cX6_isSo 29 = .ok (.getfield 74, 3) := dk_180 0 74 (dk_at dksX6_isSo_1 5 rfl rfl)
theorem dX6_isSo_32 : decode cX6_isSo 32 = .ok (.iload_n 3, 1) := dk_29 (dk_at dksX6_isSo_1 8 rfl rfl)
theorem dX6_isSo_33 : decode cX6_isSo 33 = .ok (.iload 5, 2) := dk_21 5 (dk_at dksX6_isSo_1 9 rfl rfl)
theorem dX6_isSo_35 : decode cX6_isSo 35 = .ok (.ifCond .ne 15, 3) := dk_154 0 15 (dk_at dksX6_isSo_1 11 rfl rfl)
theorem dX6_isSo_38 : decode cX6_isSo 38 = .ok (.aload_n 0, 1) := dk_42 (dk_at dksX6_isSo_1 14 rfl rfl)
theorem dX6_isSo_39 : decode cX6_isSo 39 = .ok (.getfield 68, 3) := dk_180 0 68 (dk_at dksX6_isSo_1 15 rfl rfl)
theorem dX6_isSo_42 : decode cX6_isSo 42 = .ok (.iload 4, 2) := dk_21 4 (dk_at dksX6_isSo_1 18 rfl rfl)
theorem dX6_isSo_44 : decode cX6_isSo 44 = .ok (.aaload, 1) := dk_50 (dk_at dksX6_isSo_1 20 rfl rfl)
theorem dX6_isSo_45 : decode cX6_isSo 45 = .ok (.iconst 1, 1) := dk_4 (dk_at dksX6_isSo_1 21 rfl rfl)
theorem dX6_isSo_46 : decode cX6_isSo 46 = .ok (.iaload, 1) := dk_46 (dk_at dksX6_isSo_1 22 rfl rfl)
theorem dX6_isSo_47 : decode cX6_isSo 47 = .ok (.goto 16, 3) := dk_167 0 16 (dk_at dksX6_isSo_2 0 rfl rfl)
theorem dX6_isSo_50 : decode cX6_isSo 50 = .ok (.aload_n 0, 1) := dk_42 (dk_at dksX6_isSo_2 3 rfl rfl)
theorem dX6_isSo_51 : decode cX6_isSo 51 = .ok (.aload_n 0, 1) := dk_42 (dk_at dksX6_isSo_2 4 rfl rfl)
theorem dX6_isSo_52 : decode cX6_isSo 52 = .ok (.getfield 68, 3) := dk_180 0 68 (dk_at dksX6_isSo_2 5 rfl rfl)
theorem dX6_isSo_55 : decode cX6_isSo 55 = .ok (.iload 4, 2) := dk_21 4 (dk_at dksX6_isSo_2 8 rfl rfl)
theorem dX6_isSo_57 : decode cX6_isSo 57 = .ok (.aaload, 1) := dk_50 (dk_at dksX6_isSo_2 10 rfl rfl)
theorem dX6_isSo_58 : decode cX6_isSo 58 = .ok (.iconst 1, 1) := dk_4 (dk_at dksX6_isSo_2 11 rfl rfl)
theorem dX6_isSo_59 : decode cX6_isSo 59 = .ok (.iaload, 1) := dk_46 (dk_at dksX6_isSo_2 12 rfl rfl)
theorem dX6_isSo_60 : decode cX6_isSo 60 = .ok (.invokevirtual 292, 3) := dk_182 1 36 (dk_at dksX6_isSo_2 13 rfl rfl)
theorem dX6_isSo_63 : decode cX6_isSo 63 = .ok (.iastore, 1) := dk_79 (dk_at dksX6_isSo_2 16 rfl rfl)
theorem dX6_isSo_64 : decode cX6_isSo 64 = .ok (.iinc 3 1, 3) := dk_132 3 1 (dk_at dksX6_isSo_2 17 rfl rfl)
theorem dX6_isSo_67 : decode cX6_isSo 67 = .ok (.goto 61, 3) := dk_167 0 61 (dk_at dksX6_isSo_2 20 rfl rfl)
theorem dX6_isSo_70 : decode cX6_isSo 70 = .ok (.iload 5, 2) := dk_21 5 (dk_at dksX6_isSo_3 0 rfl rfl)
theorem dX6_isSo_72 : decode cX6_isSo 72 = .ok (.bipush 8, 2) := dk_16 8 (dk_at dksX6_isSo_3 2 rfl rfl)
theorem dX6_isSo_74 : decode cX6_isSo 74 = .ok (.if_icmp .ne 24, 3) := dk_160 0 24 (dk_at dksX6_isSo_3 4 rfl rfl)
theorem dX6_isSo_77 : decode cX6_isSo 77 = .ok (.aload_n 0, 1) := dk_42 (dk_at dksX6_isSo_3 7 rfl rfl)
theorem dX6_isSo_78 : decode cX6_isSo 78 = .ok (.getfield 74, 3) := dk_180 0 74 (dk_at dksX6_isSo_3 8 rfl rfl)
theorem dX6_isSo_81 : decode cX6_isSo 81 = .ok (.iload_n 3, 1) := dk_29 (dk_at dksX6_isSo_3 11 rfl rfl)
theorem dX6_isSo_82 : decode cX6_isSo 82 = .ok (.iconst 1, 1) := dk_4 (dk_at dksX6_isSo_3 12 rfl rfl)
theorem dX6_isSo_83 : decode cX6_isSo 83 = .ok (.isub, 1) := dk_100 (dk_at dksX6_isSo_3 13 rfl rfl)
theorem dX6_isSo_84 : decode cX6_isSo 84 = .ok (.iconst 1, 1) := dk_4 (dk_at dksX6_isSo_3 14 rfl rfl)
theorem dX6_isSo_85 : decode cX6_isSo 85 = .ok (.aload_n 0, 1) := dk_42 (dk_at dksX6_isSo_3 15 rfl rfl)
theorem dX6_isSo_86 : decode cX6_isSo 86 = .ok (.getfield 74, 3) := dk_180 0 74 (dk_at dksX6_isSo_3 16 rfl rfl)
theorem dX6_isSo_89 : decode cX6_isSo 89 = .ok (.iload_n 3, 1) := dk_29 (dk_at dksX6_isSo_3 19 rfl rfl)
theorem dX6_isSo_90 : decode cX6_isSo 90 = .ok (.iconst 1, 1) := dk_4 (dk_at dksX6_isSo_3 20 rfl rfl)
theorem dX6_isSo_91 : decode cX6_isSo 91 = .ok (.isub, 1) := dk_100 (dk_at dksX6_isSo_3 21 rfl rfl)
theorem dX6_isSo_92 : decode cX6_isSo 92 = .ok (.iaload, 1) := dk_46 (dk_at dksX6_isSo_3 22 rfl rfl)
theorem dX6_isSo_93 : decode cX6_isSo 93 = .ok (.isub, 1) := dk_100 (dk_at dksX6_isSo_3 23 rfl rfl)
theorem dX6_isSo_94 : decode cX6_isSo 94 = .ok (.iastore, 1) := dk_79 (dk_at dksX6_isSo_4 0 rfl rfl)
theorem dX6_isSo_95 : decode cX6_isSo 95 = .ok (.goto 33, 3) := dk_167 0 33 (dk_at dksX6_isSo_4 1 rfl rfl)
theorem dX6_isSo_98 : decode cX6_isSo 98 = .ok (.iinc 3 (-1), 3) := dk_132 3 255 (dk_at dksX6_isSo_4 4 rfl rfl)
theorem dX6_isSo_101 : decode cX6_isSo 101 = .ok (.aload_n 0, 1) := dk_42 (dk_at dksX6_isSo_4 7 rfl rfl)
theorem dX6_isSo_102 : decode cX6_isSo 102 = .ok (.getfield 74, 3) := dk_180 0 74 (dk_at dksX6_isSo_4 8 rfl rfl)
theorem dX6_isSo_105 : decode cX6_isSo 105 = .ok (.iload_n 3, 1) := dk_29 (dk_at dksX6_isSo_4 11 rfl rfl)
theorem dX6_isSo_106 : decode cX6_isSo 106 = .ok (.iconst 1, 1) := dk_4 (dk_at dksX6_isSo_4 12 rfl rfl)
theorem dX6_isSo_107 : decode cX6_isSo 107 = .ok (.isub, 1) := dk_100 (dk_at dksX6_isSo_4 13 rfl rfl)
theorem dX6_isSo_108 : decode cX6_isSo 108 = .ok (.iload 5, 2) := dk_21 5 (dk_at dksX6_isSo_4 14 rfl rfl)
theorem dX6_isSo_110 : decode cX6_isSo 110 = .ok (.aload_n 0, 1) := dk_42 (dk_at dksX6_isSo_4 16 rfl rfl)
theorem dX6_isSo_111 : decode cX6_isSo 111 = .ok (.getfield 74, 3) := dk_180 0 74 (dk_at dksX6_isSo_4 17 rfl rfl)
theorem dX6_isSo_114 : decode cX6_isSo 114 = .ok (.iload_n 3, 1) := dk_29 (dk_at dksX6_isSo_4 20 rfl rfl)
theorem dX6_isSo_115 : decode cX6_isSo 115 = .ok (.iconst 1, 1) := dk_4 (dk_at dksX6_isSo_4 21 rfl rfl)
theorem dX6_isSo_116 : decode cX6_isSo 116 = .ok (.isub, 1) := dk_100 (dk_at dksX6_isSo_4 22 rfl rfl)
theorem dX6_isSo_117 : decode cX6_isSo 117 = .ok (.iaload, 1) := dk_46 (dk_at dksX6_isSo_4 23 rfl rfl)
theorem dX6_isSo_118 : decode cX6_isSo 118 = .ok (.aload_n 0, 1) := dk_42 (dk_at dksX6_isSo_5 0 rfl rfl)
theorem dX6_isSo_119 : decode cX6_isSo 119 = .ok (.getfield 74, 3) := dk_180 0 74 (dk_at dksX6_isSo_5 1 rfl rfl)
theorem dX6_isSo_122 : decode cX6_isSo 122 = .ok (.iload_n 3, 1) := dk_29 (dk_at dksX6_isSo_5 4 rfl rfl)
theorem dX6_isSo_123 : decode cX6_isSo 123 = .ok (.iaload, 1) := dk_46 (dk_at dksX6_isSo_5 5 rfl rfl)
theorem dX6_isSo_124 : decode cX6_isSo 124 = .ok (.invokestatic 295, 3) := dk_184 1 39 (dk_at dksX6_isSo_5 6 rfl rfl)
theorem dX6_isSo_127 : decode cX6_isSo 127 = .ok (.iastore, 1) := dk_79 (dk_at dksX6_isSo_5 9 rfl rfl)
theorem dX6_isSo_128 : decode cX6_isSo 128 = .ok (.iinc 4 1, 3) := dk_132 4 1 (dk_at dksX6_isSo_5 10 rfl rfl)
theorem dX6_isSo_131 : decode cX6_isSo 131 = .ok (.goto (-126), 3) := dk_167 255 130 (dk_at dksX6_isSo_5 13 rfl rfl)
theorem dX6_isSo_134 : decode cX6_isSo 134 = .ok (.aload_n 0, 1) := dk_42 (dk_at dksX6_isSo_5 16 rfl rfl)
theorem dX6_isSo_135 : decode cX6_isSo 135 = .ok (.getfield 74, 3) := dk_180 0 74 (dk_at dksX6_isSo_5 17 rfl rfl)
theorem dX6_isSo_138 : decode cX6_isSo 138 = .ok (.iconst 0, 1) := dk_3 (dk_at dksX6_isSo_5 20 rfl rfl)
theorem dX6_isSo_139 : decode cX6_isSo 139 = .ok (.iaload, 1) := dk_46 (dk_at dksX6_isSo_5 21 rfl rfl)
theorem dX6_isSo_140 : decode cX6_isSo 140 = .ok (.iconst 1, 1) := dk_4 (dk_at dksX6_isSo_5 22 rfl rfl)
theorem dX6_isSo_141 : decode cX6_isSo 141 = .ok (.if_icmp .ne 7, 3) := dk_160 0 7 (dk_at dksX6_isSo_6 0 rfl rfl)
theorem dX6_isSo_144 : decode cX6_isSo 144 = .ok (.iconst 1, 1) := dk_4 (dk_at dksX6_isSo_6 3 rfl rfl)
theorem dX6_isSo_145 : decode cX6_isSo 145 = .ok (.goto 4, 3) := dk_167 0 4 (dk_at dksX6_isSo_6 4 rfl rfl)
theorem dX6_isSo_148 : decode cX6_isSo 148 = .ok (.iconst 0, 1) := dk_3 (dk_at dksX6_isSo_6 7 rfl rfl)
theorem dX6_isSo_149 : decode cX6_isSo 149 = .ok (.ireturn, 1) := dk_172 (dk_at dksX6_isSo_6 8 rfl rfl)
abbrev cX6_valueOf : ByteArray := prog_19_method_44_code
def yX6_valueOf : MethodName := ⟨RX6, "valueOf", "(I)I"⟩
def dkwX6_valueOf_6 : List UInt8 := [46, 47, 42, 180, 0, 36, 42, 180, 0, 104, 4, 46, 47, 127, 184, 0, 249, 172]
abbrev dktX6_valueOf_6 : List UInt8 := dkwX6_valueOf_6 ++ []
def dkwX6_valueOf_5 : List UInt8 := [42, 180, 0, 45, 42, 180, 0, 104, 8, 46, 47, 184, 0, 249, 172, 42, 180, 0, 36, 42, 180, 0, 104, 3]
abbrev dktX6_valueOf_5 : List UInt8 := dkwX6_valueOf_5 ++ dktX6_valueOf_6
def dkwX6_valueOf_4 : List UInt8 := [3, 46, 172, 42, 180, 0, 104, 4, 46, 172, 42, 180, 0, 104, 8, 46, 172, 42, 180, 0, 104, 7, 46, 172]
abbrev dktX6_valueOf_4 : List UInt8 := dkwX6_valueOf_4 ++ dktX6_valueOf_5
def dkwX6_valueOf_3 : List UInt8 := [47, 184, 0, 249, 172, 42, 180, 0, 36, 42, 180, 0, 104, 4, 46, 47, 184, 0, 249, 172, 42, 180, 0, 104]
abbrev dktX6_valueOf_3 : List UInt8 := dkwX6_valueOf_3 ++ dktX6_valueOf_4
def dkwX6_valueOf_2 : List UInt8 := [42, 180, 0, 104, 5, 46, 172, 42, 180, 0, 104, 6, 46, 172, 42, 180, 0, 36, 42, 180, 0, 104, 3, 46]
abbrev dktX6_valueOf_2 : List UInt8 := dkwX6_valueOf_2 ++ dktX6_valueOf_3
def dkwX6_valueOf_1 : List UInt8 := [170, 0, 0, 0, 0, 0, 138, 0, 0, 0, 0, 0, 0, 0, 8, 0, 0, 0, 51, 0, 0, 0, 58, 0, 0, 0, 65, 0, 0, 0, 80, 0, 0, 0, 95, 0, 0, 0, 102, 0, 0, 0, 109, 0, 0, 0, 116, 0, 0, 0, 123]
abbrev dktX6_valueOf_1 : List UInt8 := dkwX6_valueOf_1 ++ dktX6_valueOf_2
def dkwX6_valueOf_0 : List UInt8 := [27]
abbrev dktX6_valueOf_0 : List UInt8 := dkwX6_valueOf_0 ++ dktX6_valueOf_1
theorem dksX6_valueOf_0 : cX6_valueOf.data.toList.drop 0 = dktX6_valueOf_0 := by decide +kernel
theorem dksX6_valueOf_1 : cX6_valueOf.data.toList.drop 1 = dktX6_valueOf_1 := dk_seg dksX6_valueOf_0 1 rfl rfl
theorem dksX6_valueOf_2 : cX6_valueOf.data.toList.drop 52 = dktX6_valueOf_2 := dk_seg dksX6_valueOf_1 51 rfl rfl
theorem dksX6_valueOf_3 : cX6_valueOf.data.toList.drop 76 = dktX6_valueOf_3 := dk_seg dksX6_valueOf_2 24 rfl rfl
theorem dksX6_valueOf_4 : cX6_valueOf.data.toList.drop 100 = dktX6_valueOf_4 := dk_seg dksX6_valueOf_3 24 rfl rfl
theorem dksX6_valueOf_5 : cX6_valueOf.data.toList.drop 124 = dktX6_valueOf_5 := dk_seg dksX6_valueOf_4 24 rfl rfl
theorem dksX6_valueOf_6 : cX6_valueOf.data.toList.drop 148 = dktX6_valueOf_6 := dk_seg dksX6_valueOf_5 24 rfl rfl
theorem dX6_valueOf_0 : decode cX6_valueOf 0 = .ok (.iload_n 1, 1) := dk_27 (dk_at dksX6_valueOf_0 0 rfl rfl)
theorem dX6_valueOf_1 : decode cX6_valueOf 1 = .ok (.tableswitch 138 0 8 #[51, 58, 65, 80, 95, 102, 109, 116, 123], 51) := by decide +kernel
theorem dX6_valueOf_52 : decode cX6_valueOf 52 = .ok (.aload_n 0, 1) := dk_42 (dk_at dksX6_valueOf_2 0 rfl rfl)
theorem dX6_valueOf_53 : decode cX6_valueOf 53 = .ok (.getfield 104, 3) := dk_180 0 104 (dk_at dksX6_valueOf_2 1 rfl rfl)
theorem dX6_valueOf_56 : decode cX6_valueOf 56 = .ok (.iconst 2, 1) := dk_5 (dk_at dksX6_valueOf_2 4 rfl rfl)
theorem dX6_valueOf_57 : decode cX6_valueOf 57 = .ok (.iaload, 1) := dk_46 (dk_at dksX6_valueOf_2 5 rfl rfl)
theorem dX6_valueOf_58 : decode cX6_valueOf 58 = .ok (.ireturn, 1) := dk_172 (dk_at dksX6_valueOf_2 6 rfl rfl)
theorem dX6_valueOf_59 : decode cX6_valueOf 59 = .ok (.aload_n 0, 1) := dk_42 (dk_at dksX6_valueOf_2 7 rfl rfl)
theorem dX6_valueOf_60 : decode cX6_valueOf 60 = .ok (.getfield 104, 3) := dk_180 0 104 (dk_at dksX6_valueOf_2 8 rfl rfl)
theorem dX6_valueOf_63 : decode cX6_valueOf 63 = .ok (.iconst 3, 1) := dk_6 (dk_at dksX6_valueOf_2 11 rfl rfl)
theorem dX6_valueOf_64 : decode cX6_valueOf 64 = .ok (.iaload, 1) := dk_46 (dk_at dksX6_valueOf_2 12 rfl rfl)
theorem dX6_valueOf_65 : decode cX6_valueOf 65 = .ok (.ireturn, 1) := dk_172 (dk_at dksX6_valueOf_2 13 rfl rfl)
theorem dX6_valueOf_66 : decode cX6_valueOf 66 = .ok (.aload_n 0, 1) := dk_42 (dk_at dksX6_valueOf_2 14 rfl rfl)
theorem dX6_valueOf_67 : decode cX6_valueOf 67 = .ok (.getfield 36, 3) := dk_180 0 36 (dk_at dksX6_valueOf_2 15 rfl rfl)
theorem dX6_valueOf_70 : decode cX6_valueOf 70 = .ok (.aload_n 0, 1) := dk_42 (dk_at dksX6_valueOf_2 18 rfl rfl)
theorem dX6_valueOf_71 : decode cX6_valueOf 71 = .ok (.getfield 104, 3) := dk_180 0 104 (dk_at dksX6_valueOf_2 19 rfl rfl)
theorem dX6_valueOf_74 : decode cX6_valueOf 74 = .ok (.iconst 0, 1) := dk_3 (dk_at dksX6_valueOf_2 22 rfl rfl)
theorem dX6_valueOf_75 : decode cX6_valueOf 75 = .ok (.iaload, 1) := dk_46 (dk_at dksX6_valueOf_2 23 rfl rfl)
theorem dX6_valueOf_76 : decode cX6_valueOf 76 = .ok (.laload, 1) := dk_47 (dk_at dksX6_valueOf_3 0 rfl rfl)
theorem dX6_valueOf_77 : decode cX6_valueOf 77 = .ok (.invokestatic 249, 3) := dk_184 0 249 (dk_at dksX6_valueOf_3 1 rfl rfl)
theorem dX6_valueOf_80 : decode cX6_valueOf 80 = .ok (.ireturn, 1) := dk_172 (dk_at dksX6_valueOf_3 4 rfl rfl)
theorem dX6_valueOf_81 : decode cX6_valueOf 81 = .ok (.aload_n 0, 1) := dk_42 (dk_at dksX6_valueOf_3 5 rfl rfl)
theorem dX6_valueOf_82 : decode cX6_valueOf 82 = .ok (.getfield 36, 3) := dk_180 0 36 (dk_at dksX6_valueOf_3 6 rfl rfl)
theorem dX6_valueOf_85 : decode cX6_valueOf 85 = .ok (.aload_n 0, 1) := dk_42 (dk_at dksX6_valueOf_3 9 rfl rfl)
theorem dX6_valueOf_86 : decode cX6_valueOf 86 = .ok (.getfield 104, 3) := dk_180 0 104 (dk_at dksX6_valueOf_3 10 rfl rfl)
theorem dX6_valueOf_89 : decode cX6_valueOf 89 = .ok (.iconst 1, 1) := dk_4 (dk_at dksX6_valueOf_3 13 rfl rfl)
theorem dX6_valueOf_90 : decode cX6_valueOf 90 = .ok (.iaload, 1) := dk_46 (dk_at dksX6_valueOf_3 14 rfl rfl)
theorem dX6_valueOf_91 : decode cX6_valueOf 91 = .ok (.laload, 1) := dk_47 (dk_at dksX6_valueOf_3 15 rfl rfl)
theorem dX6_valueOf_92 : decode cX6_valueOf 92 = .ok (.invokestatic 249, 3) := dk_184 0 249 (dk_at dksX6_valueOf_3 16 rfl rfl)
theorem dX6_valueOf_95 : decode cX6_valueOf 95 = .ok (.ireturn, 1) := dk_172 (dk_at dksX6_valueOf_3 19 rfl rfl)
theorem dX6_valueOf_96 : decode cX6_valueOf 96 = .ok (.aload_n 0, 1) := dk_42 (dk_at dksX6_valueOf_3 20 rfl rfl)
theorem dX6_valueOf_97 : decode cX6_valueOf 97 = .ok (.getfield 104, 3) := dk_180 0 104 (dk_at dksX6_valueOf_3 21 rfl rfl)
theorem dX6_valueOf_100 : decode cX6_valueOf 100 = .ok (.iconst 0, 1) := dk_3 (dk_at dksX6_valueOf_4 0 rfl rfl)
theorem dX6_valueOf_101 : decode cX6_valueOf 101 = .ok (.iaload, 1) := dk_46 (dk_at dksX6_valueOf_4 1 rfl rfl)
theorem dX6_valueOf_102 : decode cX6_valueOf 102 = .ok (.ireturn, 1) := dk_172 (dk_at dksX6_valueOf_4 2 rfl rfl)
theorem dX6_valueOf_103 : decode cX6_valueOf 103 = .ok (.aload_n 0, 1) := dk_42 (dk_at dksX6_valueOf_4 3 rfl rfl)
theorem dX6_valueOf_104 : decode cX6_valueOf 104 = .ok (.getfield 104, 3) := dk_180 0 104 (dk_at dksX6_valueOf_4 4 rfl rfl)
theorem dX6_valueOf_107 : decode cX6_valueOf 107 = .ok (.iconst 1, 1) := dk_4 (dk_at dksX6_valueOf_4 7 rfl rfl)
theorem dX6_valueOf_108 : decode cX6_valueOf 108 = .ok (.iaload, 1) := dk_46 (dk_at dksX6_valueOf_4 8 rfl rfl)
theorem dX6_valueOf_109 : decode cX6_valueOf 109 = .ok (.ireturn, 1) := dk_172 (dk_at dksX6_valueOf_4 9 rfl rfl)
theorem dX6_valueOf_110 : decode cX6_valueOf 110 = .ok (.aload_n 0, 1) := dk_42 (dk_at dksX6_valueOf_4 10 rfl rfl)
theorem dX6_valueOf_111 : decode cX6_valueOf 111 = .ok (.getfield 104, 3) := dk_180 0 104 (dk_at dksX6_valueOf_4 11 rfl rfl)
theorem dX6_valueOf_114 : decode cX6_valueOf 114 = .ok (.iconst 5, 1) := dk_8 (dk_at dksX6_valueOf_4 14 rfl rfl)
theorem dX6_valueOf_115 : decode cX6_valueOf 115 = .ok (.iaload, 1) := dk_46 (dk_at dksX6_valueOf_4 15 rfl rfl)
theorem dX6_valueOf_116 : decode cX6_valueOf 116 = .ok (.ireturn, 1) := dk_172 (dk_at dksX6_valueOf_4 16 rfl rfl)
theorem dX6_valueOf_117 : decode cX6_valueOf 117 = .ok (.aload_n 0, 1) := dk_42 (dk_at dksX6_valueOf_4 17 rfl rfl)
theorem dX6_valueOf_118 : decode cX6_valueOf 118 = .ok (.getfield 104, 3) := dk_180 0 104 (dk_at dksX6_valueOf_4 18 rfl rfl)
theorem dX6_valueOf_121 : decode cX6_valueOf 121 = .ok (.iconst 4, 1) := dk_7 (dk_at dksX6_valueOf_4 21 rfl rfl)
theorem dX6_valueOf_122 : decode cX6_valueOf 122 = .ok (.iaload, 1) := dk_46 (dk_at dksX6_valueOf_4 22 rfl rfl)
theorem dX6_valueOf_123 : decode cX6_valueOf 123 = .ok (.ireturn, 1) := dk_172 (dk_at dksX6_valueOf_4 23 rfl rfl)
theorem dX6_valueOf_124 : decode cX6_valueOf 124 = .ok (.aload_n 0, 1) := dk_42 (dk_at dksX6_valueOf_5 0 rfl rfl)
theorem dX6_valueOf_125 : decode cX6_valueOf 125 = .ok (.getfield 45, 3) := dk_180 0 45 (dk_at dksX6_valueOf_5 1 rfl rfl)
theorem dX6_valueOf_128 : decode cX6_valueOf 128 = .ok (.aload_n 0, 1) := dk_42 (dk_at dksX6_valueOf_5 4 rfl rfl)
theorem dX6_valueOf_129 : decode cX6_valueOf 129 = .ok (.getfield 104, 3) := dk_180 0 104 (dk_at dksX6_valueOf_5 5 rfl rfl)
theorem dX6_valueOf_132 : decode cX6_valueOf 132 = .ok (.iconst 5, 1) := dk_8 (dk_at dksX6_valueOf_5 8 rfl rfl)
theorem dX6_valueOf_133 : decode cX6_valueOf 133 = .ok (.iaload, 1) := dk_46 (dk_at dksX6_valueOf_5 9 rfl rfl)
theorem dX6_valueOf_134 : decode cX6_valueOf 134 = .ok (.laload, 1) := dk_47 (dk_at dksX6_valueOf_5 10 rfl rfl)
theorem dX6_valueOf_135 : decode cX6_valueOf 135 = .ok (.invokestatic 249, 3) := dk_184 0 249 (dk_at dksX6_valueOf_5 11 rfl rfl)
theorem dX6_valueOf_138 : decode cX6_valueOf 138 = .ok (.ireturn, 1) := dk_172 (dk_at dksX6_valueOf_5 14 rfl rfl)
theorem dX6_valueOf_139 : decode cX6_valueOf 139 = .ok (.aload_n 0, 1) := dk_42 (dk_at dksX6_valueOf_5 15 rfl rfl)
theorem dX6_valueOf_140 : decode cX6_valueOf 140 = .ok (.getfield 36, 3) := dk_180 0 36 (dk_at dksX6_valueOf_5 16 rfl rfl)
theorem dX6_valueOf_143 : decode cX6_valueOf 143 = .ok (.aload_n 0, 1) := dk_42 (dk_at dksX6_valueOf_5 19 rfl rfl)
theorem dX6_valueOf_144 : decode cX6_valueOf 144 = .ok (.getfield 104, 3) := dk_180 0 104 (dk_at dksX6_valueOf_5 20 rfl rfl)
theorem dX6_valueOf_147 : decode cX6_valueOf 147 = .ok (.iconst 0, 1) := dk_3 (dk_at dksX6_valueOf_5 23 rfl rfl)
theorem dX6_valueOf_148 : decode cX6_valueOf 148 = .ok (.iaload, 1) := dk_46 (dk_at dksX6_valueOf_6 0 rfl rfl)
theorem dX6_valueOf_149 : decode cX6_valueOf 149 = .ok (.laload, 1) := dk_47 (dk_at dksX6_valueOf_6 1 rfl rfl)
theorem dX6_valueOf_150 : decode cX6_valueOf 150 = .ok (.aload_n 0, 1) := dk_42 (dk_at dksX6_valueOf_6 2 rfl rfl)
theorem dX6_valueOf_151 : decode cX6_valueOf 151 = .ok (.getfield 36, 3) := dk_180 0 36 (dk_at dksX6_valueOf_6 3 rfl rfl)
theorem dX6_valueOf_154 : decode cX6_valueOf 154 = .ok (.aload_n 0, 1) := dk_42 (dk_at dksX6_valueOf_6 6 rfl rfl)
theorem dX6_valueOf_155 : decode cX6_valueOf 155 = .ok (.getfield 104, 3) := dk_180 0 104 (dk_at dksX6_valueOf_6 7 rfl rfl)
theorem dX6_valueOf_158 : decode cX6_valueOf 158 = .ok (.iconst 1, 1) := dk_4 (dk_at dksX6_valueOf_6 10 rfl rfl)
theorem dX6_valueOf_159 : decode cX6_valueOf 159 = .ok (.iaload, 1) := dk_46 (dk_at dksX6_valueOf_6 11 rfl rfl)
theorem dX6_valueOf_160 : decode cX6_valueOf 160 = .ok (.laload, 1) := dk_47 (dk_at dksX6_valueOf_6 12 rfl rfl)
theorem dX6_valueOf_161 : decode cX6_valueOf 161 = .ok (.land, 1) := dk_127 (dk_at dksX6_valueOf_6 13 rfl rfl)
theorem dX6_valueOf_162 : decode cX6_valueOf 162 = .ok (.invokestatic 249, 3) := dk_184 0 249 (dk_at dksX6_valueOf_6 14 rfl rfl)
theorem dX6_valueOf_165 : decode cX6_valueOf 165 = .ok (.ireturn, 1) := dk_172 (dk_at dksX6_valueOf_6 17 rfl rfl)
abbrev cX6_by : ByteArray := prog_19_method_45_code
def yX6_by : MethodName := ⟨RX6, "by", "(III)I"⟩
def dkwX6_by_4 : List UInt8 := [172, 27, 28, 96, 158, 0, 7, 4, 167, 0, 4, 3, 172]
abbrev dktX6_by_4 : List UInt8 := dkwX6_by_4 ++ []
def dkwX6_by_3 : List UInt8 := [28, 164, 0, 7, 4, 167, 0, 4, 3, 172, 27, 28, 160, 0, 7, 4, 167, 0, 4, 3, 172, 27, 28, 104]
abbrev dktX6_by_3 : List UInt8 := dkwX6_by_3 ++ dktX6_by_4
def dkwX6_by_2 : List UInt8 := [27, 28, 96, 172, 27, 28, 100, 172, 27, 28, 104, 172, 27, 28, 162, 0, 7, 4, 167, 0, 4, 3, 172, 27]
abbrev dktX6_by_2 : List UInt8 := dkwX6_by_2 ++ dktX6_by_3
def dkwX6_by_1 : List UInt8 := [170, 0, 0, 0, 0, 0, 96, 0, 0, 0, 2, 0, 0, 0, 9, 0, 0, 0, 47, 0, 0, 0, 51, 0, 0, 0, 55, 0, 0, 0, 59, 0, 0, 0, 70, 0, 0, 0, 81, 0, 0, 0, 96, 0, 0, 0, 92]
abbrev dktX6_by_1 : List UInt8 := dkwX6_by_1 ++ dktX6_by_2
def dkwX6_by_0 : List UInt8 := [26]
abbrev dktX6_by_0 : List UInt8 := dkwX6_by_0 ++ dktX6_by_1
theorem dksX6_by_0 : cX6_by.data.toList.drop 0 = dktX6_by_0 := by decide +kernel
theorem dksX6_by_1 : cX6_by.data.toList.drop 1 = dktX6_by_1 := dk_seg dksX6_by_0 1 rfl rfl
theorem dksX6_by_2 : cX6_by.data.toList.drop 48 = dktX6_by_2 := dk_seg dksX6_by_1 47 rfl rfl
theorem dksX6_by_3 : cX6_by.data.toList.drop 72 = dktX6_by_3 := dk_seg dksX6_by_2 24 rfl rfl
theorem dksX6_by_4 : cX6_by.data.toList.drop 96 = dktX6_by_4 := dk_seg dksX6_by_3 24 rfl rfl
theorem dX6_by_0 : decode cX6_by 0 = .ok (.iload_n 0, 1) := dk_26 (dk_at dksX6_by_0 0 rfl rfl)
theorem dX6_by_1 : decode cX6_by 1 = .ok (.tableswitch 96 2 9 #[47, 51, 55, 59, 70, 81, 96, 92], 47) := by decide +kernel
theorem dX6_by_48 : decode cX6_by 48 = .ok (.iload_n 1, 1) := dk_27 (dk_at dksX6_by_2 0 rfl rfl)
theorem dX6_by_49 : decode cX6_by 49 = .ok (.iload_n 2, 1) := dk_28 (dk_at dksX6_by_2 1 rfl rfl)
theorem dX6_by_50 : decode cX6_by 50 = .ok (.iadd, 1) := dk_96 (dk_at dksX6_by_2 2 rfl rfl)
theorem dX6_by_51 : decode cX6_by 51 = .ok (.ireturn, 1) := dk_172 (dk_at dksX6_by_2 3 rfl rfl)
theorem dX6_by_52 : decode cX6_by 52 = .ok (.iload_n 1, 1) := dk_27 (dk_at dksX6_by_2 4 rfl rfl)
theorem dX6_by_53 : decode cX6_by 53 = .ok (.iload_n 2, 1) := dk_28 (dk_at dksX6_by_2 5 rfl rfl)
theorem dX6_by_54 : decode cX6_by 54 = .ok (.isub, 1) := dk_100 (dk_at dksX6_by_2 6 rfl rfl)
theorem dX6_by_55 : decode cX6_by 55 = .ok (.ireturn, 1) := dk_172 (dk_at dksX6_by_2 7 rfl rfl)
theorem dX6_by_56 : decode cX6_by 56 = .ok (.iload_n 1, 1) := dk_27 (dk_at dksX6_by_2 8 rfl rfl)
theorem dX6_by_57 : decode cX6_by 57 = .ok (.iload_n 2, 1) := dk_28 (dk_at dksX6_by_2 9 rfl rfl)
theorem dX6_by_58 : decode cX6_by 58 = .ok (.imul, 1) := dk_104 (dk_at dksX6_by_2 10 rfl rfl)
theorem dX6_by_59 : decode cX6_by 59 = .ok (.ireturn, 1) := dk_172 (dk_at dksX6_by_2 11 rfl rfl)
theorem dX6_by_60 : decode cX6_by 60 = .ok (.iload_n 1, 1) := dk_27 (dk_at dksX6_by_2 12 rfl rfl)
theorem dX6_by_61 : decode cX6_by 61 = .ok (.iload_n 2, 1) := dk_28 (dk_at dksX6_by_2 13 rfl rfl)
theorem dX6_by_62 : decode cX6_by 62 = .ok (.if_icmp .ge 7, 3) := dk_162 0 7 (dk_at dksX6_by_2 14 rfl rfl)
theorem dX6_by_65 : decode cX6_by 65 = .ok (.iconst 1, 1) := dk_4 (dk_at dksX6_by_2 17 rfl rfl)
theorem dX6_by_66 : decode cX6_by 66 = .ok (.goto 4, 3) := dk_167 0 4 (dk_at dksX6_by_2 18 rfl rfl)
theorem dX6_by_69 : decode cX6_by 69 = .ok (.iconst 0, 1) := dk_3 (dk_at dksX6_by_2 21 rfl rfl)
theorem dX6_by_70 : decode cX6_by 70 = .ok (.ireturn, 1) := dk_172 (dk_at dksX6_by_2 22 rfl rfl)
theorem dX6_by_71 : decode cX6_by 71 = .ok (.iload_n 1, 1) := dk_27 (dk_at dksX6_by_2 23 rfl rfl)
theorem dX6_by_72 : decode cX6_by 72 = .ok (.iload_n 2, 1) := dk_28 (dk_at dksX6_by_3 0 rfl rfl)
theorem dX6_by_73 : decode cX6_by 73 = .ok (.if_icmp .le 7, 3) := dk_164 0 7 (dk_at dksX6_by_3 1 rfl rfl)
theorem dX6_by_76 : decode cX6_by 76 = .ok (.iconst 1, 1) := dk_4 (dk_at dksX6_by_3 4 rfl rfl)
theorem dX6_by_77 : decode cX6_by 77 = .ok (.goto 4, 3) := dk_167 0 4 (dk_at dksX6_by_3 5 rfl rfl)
theorem dX6_by_80 : decode cX6_by 80 = .ok (.iconst 0, 1) := dk_3 (dk_at dksX6_by_3 8 rfl rfl)
theorem dX6_by_81 : decode cX6_by 81 = .ok (.ireturn, 1) := dk_172 (dk_at dksX6_by_3 9 rfl rfl)
theorem dX6_by_82 : decode cX6_by 82 = .ok (.iload_n 1, 1) := dk_27 (dk_at dksX6_by_3 10 rfl rfl)
theorem dX6_by_83 : decode cX6_by 83 = .ok (.iload_n 2, 1) := dk_28 (dk_at dksX6_by_3 11 rfl rfl)
theorem dX6_by_84 : decode cX6_by 84 = .ok (.if_icmp .ne 7, 3) := dk_160 0 7 (dk_at dksX6_by_3 12 rfl rfl)
theorem dX6_by_87 : decode cX6_by 87 = .ok (.iconst 1, 1) := dk_4 (dk_at dksX6_by_3 15 rfl rfl)
theorem dX6_by_88 : decode cX6_by 88 = .ok (.goto 4, 3) := dk_167 0 4 (dk_at dksX6_by_3 16 rfl rfl)
theorem dX6_by_91 : decode cX6_by 91 = .ok (.iconst 0, 1) := dk_3 (dk_at dksX6_by_3 19 rfl rfl)
theorem dX6_by_92 : decode cX6_by 92 = .ok (.ireturn, 1) := dk_172 (dk_at dksX6_by_3 20 rfl rfl)
theorem dX6_by_93 : decode cX6_by 93 = .ok (.iload_n 1, 1) := dk_27 (dk_at dksX6_by_3 21 rfl rfl)
theorem dX6_by_94 : decode cX6_by 94 = .ok (.iload_n 2, 1) := dk_28 (dk_at dksX6_by_3 22 rfl rfl)
theorem dX6_by_95 : decode cX6_by 95 = .ok (.imul, 1) := dk_104 (dk_at dksX6_by_3 23 rfl rfl)
theorem dX6_by_96 : decode cX6_by 96 = .ok (.ireturn, 1) := dk_172 (dk_at dksX6_by_4 0 rfl rfl)
theorem dX6_by_97 : decode cX6_by 97 = .ok (.iload_n 1, 1) := dk_27 (dk_at dksX6_by_4 1 rfl rfl)
theorem dX6_by_98 : decode cX6_by 98 = .ok (.iload_n 2, 1) := dk_28 (dk_at dksX6_by_4 2 rfl rfl)
theorem dX6_by_99 : decode cX6_by 99 = .ok (.iadd, 1) := dk_96 (dk_at dksX6_by_4 3 rfl rfl)
theorem dX6_by_100 : decode cX6_by 100 = .ok (.ifCond .le 7, 3) := dk_158 0 7 (dk_at dksX6_by_4 4 rfl rfl)
theorem dX6_by_103 : decode cX6_by 103 = .ok (.iconst 1, 1) := dk_4 (dk_at dksX6_by_4 7 rfl rfl)
theorem dX6_by_104 : decode cX6_by 104 = .ok (.goto 4, 3) := dk_167 0 4 (dk_at dksX6_by_4 8 rfl rfl)
theorem dX6_by_107 : decode cX6_by 107 = .ok (.iconst 0, 1) := dk_3 (dk_at dksX6_by_4 11 rfl rfl)
theorem dX6_by_108 : decode cX6_by 108 = .ok (.ireturn, 1) := dk_172 (dk_at dksX6_by_4 12 rfl rfl)
abbrev cX6_drops : ByteArray := prog_19_method_72_code
def yX6_drops : MethodName := ⟨RX6, "drops", "(III)V"⟩
def dkwX6_drops_1 : List UInt8 := [177]
abbrev dktX6_drops_1 : List UInt8 := dkwX6_drops_1 ++ []
def dkwX6_drops_0 : List UInt8 := [42, 180, 0, 86, 27, 29, 79, 42, 180, 0, 89, 27, 28, 79, 42, 89, 180, 1, 70, 4, 96, 181, 1, 70]
abbrev dktX6_drops_0 : List UInt8 := dkwX6_drops_0 ++ dktX6_drops_1
theorem dksX6_drops_0 : cX6_drops.data.toList.drop 0 = dktX6_drops_0 := by decide +kernel
theorem dksX6_drops_1 : cX6_drops.data.toList.drop 24 = dktX6_drops_1 := dk_seg dksX6_drops_0 24 rfl rfl
theorem dX6_drops_0 : decode cX6_drops 0 = .ok (.aload_n 0, 1) := dk_42 (dk_at dksX6_drops_0 0 rfl rfl)
theorem dX6_drops_1 : decode cX6_drops 1 = .ok (.getfield 86, 3) := dk_180 0 86 (dk_at dksX6_drops_0 1 rfl rfl)
theorem dX6_drops_4 : decode cX6_drops 4 = .ok (.iload_n 1, 1) := dk_27 (dk_at dksX6_drops_0 4 rfl rfl)
theorem dX6_drops_5 : decode cX6_drops 5 = .ok (.iload_n 3, 1) := dk_29 (dk_at dksX6_drops_0 5 rfl rfl)
theorem dX6_drops_6 : decode cX6_drops 6 = .ok (.iastore, 1) := dk_79 (dk_at dksX6_drops_0 6 rfl rfl)
theorem dX6_drops_7 : decode cX6_drops 7 = .ok (.aload_n 0, 1) := dk_42 (dk_at dksX6_drops_0 7 rfl rfl)
theorem dX6_drops_8 : decode cX6_drops 8 = .ok (.getfield 89, 3) := dk_180 0 89 (dk_at dksX6_drops_0 8 rfl rfl)
theorem dX6_drops_11 : decode cX6_drops 11 = .ok (.iload_n 1, 1) := dk_27 (dk_at dksX6_drops_0 11 rfl rfl)
theorem dX6_drops_12 : decode cX6_drops 12 = .ok (.iload_n 2, 1) := dk_28 (dk_at dksX6_drops_0 12 rfl rfl)
theorem dX6_drops_13 : decode cX6_drops 13 = .ok (.iastore, 1) := dk_79 (dk_at dksX6_drops_0 13 rfl rfl)
theorem dX6_drops_14 : decode cX6_drops 14 = .ok (.aload_n 0, 1) := dk_42 (dk_at dksX6_drops_0 14 rfl rfl)
theorem dX6_drops_15 : decode cX6_drops 15 = .ok (.dup, 1) := dk_89 (dk_at dksX6_drops_0 15 rfl rfl)
theorem dX6_drops_16 : decode cX6_drops 16 = .ok (.getfield 326, 3) := dk_180 1 70 (dk_at dksX6_drops_0 16 rfl rfl)
theorem dX6_drops_19 : decode cX6_drops 19 = .ok (.iconst 1, 1) := dk_4 (dk_at dksX6_drops_0 19 rfl rfl)
theorem dX6_drops_20 : decode cX6_drops 20 = .ok (.iadd, 1) := dk_96 (dk_at dksX6_drops_0 20 rfl rfl)
theorem dX6_drops_21 : decode cX6_drops 21 = .ok (.putfield 326, 3) := dk_181 1 70 (dk_at dksX6_drops_0 21 rfl rfl)
theorem dX6_drops_24 : decode cX6_drops 24 = .ok (.return_, 1) := dk_177 (dk_at dksX6_drops_1 0 rfl rfl)
abbrev cX6_ages : ByteArray := prog_19_method_74_code
def yX6_ages : MethodName := ⟨RX6, "ages", "()V"⟩
def dkwX6_ages_2 : List UInt8 := [42, 89, 180, 1, 76, 4, 96, 181, 1, 76, 132, 1, 1, 167, 255, 197, 177]
abbrev dktX6_ages_2 : List UInt8 := dkwX6_ages_2 ++ []
def dkwX6_ages_1 : List UInt8 := [4, 96, 79, 42, 28, 182, 1, 56, 153, 0, 6, 167, 0, 23, 42, 180, 0, 95, 28, 92, 46, 4, 96, 79]
abbrev dktX6_ages_1 : List UInt8 := dkwX6_ages_1 ++ dktX6_ages_2
def dkwX6_ages_0 : List UInt8 := [3, 60, 27, 42, 180, 1, 67, 162, 0, 57, 42, 180, 0, 80, 27, 46, 61, 42, 180, 0, 92, 28, 92, 46]
abbrev dktX6_ages_0 : List UInt8 := dkwX6_ages_0 ++ dktX6_ages_1
theorem dksX6_ages_0 : cX6_ages.data.toList.drop 0 = dktX6_ages_0 := by decide +kernel
theorem dksX6_ages_1 : cX6_ages.data.toList.drop 24 = dktX6_ages_1 := dk_seg dksX6_ages_0 24 rfl rfl
theorem dksX6_ages_2 : cX6_ages.data.toList.drop 48 = dktX6_ages_2 := dk_seg dksX6_ages_1 24 rfl rfl
theorem dX6_ages_0 : decode cX6_ages 0 = .ok (.iconst 0, 1) := dk_3 (dk_at dksX6_ages_0 0 rfl rfl)
theorem dX6_ages_1 : decode cX6_ages 1 = .ok (.istore_n 1, 1) := dk_60 (dk_at dksX6_ages_0 1 rfl rfl)
theorem dX6_ages_2 : decode cX6_ages 2 = .ok (.iload_n 1, 1) := dk_27 (dk_at dksX6_ages_0 2 rfl rfl)
theorem dX6_ages_3 : decode cX6_ages 3 = .ok (.aload_n 0, 1) := dk_42 (dk_at dksX6_ages_0 3 rfl rfl)
theorem dX6_ages_4 : decode cX6_ages 4 = .ok (.getfield 323, 3) := dk_180 1 67 (dk_at dksX6_ages_0 4 rfl rfl)
theorem dX6_ages_7 : decode cX6_ages 7 = .ok (.if_icmp .ge 57, 3) := dk_162 0 57 (dk_at dksX6_ages_0 7 rfl rfl)
theorem dX6_ages_10 : decode cX6_ages 10 = .ok (.aload_n 0, 1) := dk_42 (dk_at dksX6_ages_0 10 rfl rfl)
theorem dX6_ages_11 : decode cX6_ages 11 = .ok (.getfield 80, 3) := dk_180 0 80 (dk_at dksX6_ages_0 11 rfl rfl)
theorem dX6_ages_14 : decode cX6_ages 14 = .ok (.iload_n 1, 1) := dk_27 (dk_at dksX6_ages_0 14 rfl rfl)
theorem dX6_ages_15 : decode cX6_ages 15 = .ok (.iaload, 1) := dk_46 (dk_at dksX6_ages_0 15 rfl rfl)
theorem dX6_ages_16 : decode cX6_ages 16 = .ok (.istore_n 2, 1) := dk_61 (dk_at dksX6_ages_0 16 rfl rfl)
theorem dX6_ages_17 : decode cX6_ages 17 = .ok (.aload_n 0, 1) := dk_42 (dk_at dksX6_ages_0 17 rfl rfl)
theorem dX6_ages_18 : decode cX6_ages 18 = .ok (.getfield 92, 3) := dk_180 0 92 (dk_at dksX6_ages_0 18 rfl rfl)
theorem dX6_ages_21 : decode cX6_ages 21 = .ok (.iload_n 2, 1) := dk_28 (dk_at dksX6_ages_0 21 rfl rfl)
theorem dX6_ages_22 : decode cX6_ages 22 = .ok (.dup2, 1) := dk_92 (dk_at dksX6_ages_0 22 rfl rfl)
theorem dX6_ages_23 : decode cX6_ages 23 = .ok (.iaload, 1) := dk_46 (dk_at dksX6_ages_0 23 rfl rfl)
theorem dX6_ages_24 : decode cX6_ages 24 = .ok (.iconst 1, 1) := dk_4 (dk_at dksX6_ages_1 0 rfl rfl)
theorem dX6_ages_25 : decode cX6_ages 25 = .ok (.iadd, 1) := dk_96 (dk_at dksX6_ages_1 1 rfl rfl)
theorem dX6_ages_26 : decode cX6_ages 26 = .ok (.iastore, 1) := dk_79 (dk_at dksX6_ages_1 2 rfl rfl)
theorem dX6_ages_27 : decode cX6_ages 27 = .ok (.aload_n 0, 1) := dk_42 (dk_at dksX6_ages_1 3 rfl rfl)
theorem dX6_ages_28 : decode cX6_ages 28 = .ok (.iload_n 2, 1) := dk_28 (dk_at dksX6_ages_1 4 rfl rfl)
theorem dX6_ages_29 : decode cX6_ages 29 = .ok (.invokevirtual 312, 3) := dk_182 1 56 (dk_at dksX6_ages_1 5 rfl rfl)
theorem dX6_ages_32 : decode cX6_ages 32 = .ok (.ifCond .eq 6, 3) := dk_153 0 6 (dk_at dksX6_ages_1 8 rfl rfl)
theorem dX6_ages_35 : decode cX6_ages 35 = .ok (.goto 23, 3) := dk_167 0 23 (dk_at dksX6_ages_1 11 rfl rfl)
theorem dX6_ages_38 : decode cX6_ages 38 = .ok (.aload_n 0, 1) := dk_42 (dk_at dksX6_ages_1 14 rfl rfl)
theorem dX6_ages_39 : decode cX6_ages 39 = .ok (.getfield 95, 3) := dk_180 0 95 (dk_at dksX6_ages_1 15 rfl rfl)
theorem dX6_ages_42 : decode cX6_ages 42 = .ok (.iload_n 2, 1) := dk_28 (dk_at dksX6_ages_1 18 rfl rfl)
theorem dX6_ages_43 : decode cX6_ages 43 = .ok (.dup2, 1) := dk_92 (dk_at dksX6_ages_1 19 rfl rfl)
theorem dX6_ages_44 : decode cX6_ages 44 = .ok (.iaload, 1) := dk_46 (dk_at dksX6_ages_1 20 rfl rfl)
theorem dX6_ages_45 : decode cX6_ages 45 = .ok (.iconst 1, 1) := dk_4 (dk_at dksX6_ages_1 21 rfl rfl)
theorem dX6_ages_46 : decode cX6_ages 46 = .ok (.iadd, 1) := dk_96 (dk_at dksX6_ages_1 22 rfl rfl)
theorem dX6_ages_47 : decode cX6_ages 47 = .ok (.iastore, 1) := dk_79 (dk_at dksX6_ages_1 23 rfl rfl)
theorem dX6_ages_48 : decode cX6_ages 48 = .ok (.aload_n 0, 1) := dk_42 (dk_at dksX6_ages_2 0 rfl rfl)
theorem dX6_ages_49 : decode cX6_ages 49 = .ok (.dup, 1) := dk_89 (dk_at dksX6_ages_2 1 rfl rfl)
theorem dX6_ages_50 : decode cX6_ages 50 = .ok (.getfield 332, 3) := dk_180 1 76 (dk_at dksX6_ages_2 2 rfl rfl)
theorem dX6_ages_53 : decode cX6_ages 53 = .ok (.iconst 1, 1) := dk_4 (dk_at dksX6_ages_2 5 rfl rfl)
theorem dX6_ages_54 : decode cX6_ages 54 = .ok (.iadd, 1) := dk_96 (dk_at dksX6_ages_2 6 rfl rfl)
theorem dX6_ages_55 : decode cX6_ages 55 = .ok (.putfield 332, 3) := dk_181 1 76 (dk_at dksX6_ages_2 7 rfl rfl)
theorem dX6_ages_58 : decode cX6_ages 58 = .ok (.iinc 1 1, 3) := dk_132 1 1 (dk_at dksX6_ages_2 10 rfl rfl)
theorem dX6_ages_61 : decode cX6_ages 61 = .ok (.goto (-59), 3) := dk_167 255 197 (dk_at dksX6_ages_2 13 rfl rfl)
theorem dX6_ages_64 : decode cX6_ages 64 = .ok (.return_, 1) := dk_177 (dk_at dksX6_ages_2 16 rfl rfl)
abbrev cX6_heldNow : ByteArray := prog_19_method_75_code
def yX6_heldNow : MethodName := ⟨RX6, "heldNow", "()I"⟩
def dkwX6_heldNow_1 : List UInt8 := [132, 2, 1, 167, 255, 234, 27, 172]
abbrev dktX6_heldNow_1 : List UInt8 := dkwX6_heldNow_1 ++ []
def dkwX6_heldNow_0 : List UInt8 := [3, 60, 3, 61, 28, 42, 180, 1, 67, 162, 0, 20, 27, 4, 42, 180, 0, 80, 28, 46, 120, 128, 60]
abbrev dktX6_heldNow_0 : List UInt8 := dkwX6_heldNow_0 ++ dktX6_heldNow_1
theorem dksX6_heldNow_0 : cX6_heldNow.data.toList.drop 0 = dktX6_heldNow_0 := by decide +kernel
theorem dksX6_heldNow_1 : cX6_heldNow.data.toList.drop 23 = dktX6_heldNow_1 := dk_seg dksX6_heldNow_0 23 rfl rfl
theorem dX6_heldNow_0 : decode cX6_heldNow 0 = .ok (.iconst 0, 1) := dk_3 (dk_at dksX6_heldNow_0 0 rfl rfl)
theorem dX6_heldNow_1 : decode cX6_heldNow 1 = .ok (.istore_n 1, 1) := dk_60 (dk_at dksX6_heldNow_0 1 rfl rfl)
theorem dX6_heldNow_2 : decode cX6_heldNow 2 = .ok (.iconst 0, 1) := dk_3 (dk_at dksX6_heldNow_0 2 rfl rfl)
theorem dX6_heldNow_3 : decode cX6_heldNow 3 = .ok (.istore_n 2, 1) := dk_61 (dk_at dksX6_heldNow_0 3 rfl rfl)
theorem dX6_heldNow_4 : decode cX6_heldNow 4 = .ok (.iload_n 2, 1) := dk_28 (dk_at dksX6_heldNow_0 4 rfl rfl)
theorem dX6_heldNow_5 : decode cX6_heldNow 5 = .ok (.aload_n 0, 1) := dk_42 (dk_at dksX6_heldNow_0 5 rfl rfl)
theorem dX6_heldNow_6 : decode cX6_heldNow 6 = .ok (.getfield 323, 3) := dk_180 1 67 (dk_at dksX6_heldNow_0 6 rfl rfl)
theorem dX6_heldNow_9 : decode cX6_heldNow 9 = .ok (.if_icmp .ge 20, 3) := dk_162 0 20 (dk_at dksX6_heldNow_0 9 rfl rfl)
theorem dX6_heldNow_12 : decode cX6_heldNow 12 = .ok (.iload_n 1, 1) := dk_27 (dk_at dksX6_heldNow_0 12 rfl rfl)
theorem dX6_heldNow_13 : decode cX6_heldNow 13 = .ok (.iconst 1, 1) := dk_4 (dk_at dksX6_heldNow_0 13 rfl rfl)
theorem dX6_heldNow_14 : decode cX6_heldNow 14 = .ok (.aload_n 0, 1) := dk_42 (dk_at dksX6_heldNow_0 14 rfl rfl)
theorem dX6_heldNow_15 : decode cX6_heldNow 15 = .ok (.getfield 80, 3) := dk_180 0 80 (dk_at dksX6_heldNow_0 15 rfl rfl)
theorem dX6_heldNow_18 : decode cX6_heldNow 18 = .ok (.iload_n 2, 1) := dk_28 (dk_at dksX6_heldNow_0 18 rfl rfl)
theorem dX6_heldNow_19 : decode cX6_heldNow 19 = .ok (.iaload, 1) := dk_46 (dk_at dksX6_heldNow_0 19 rfl rfl)
theorem dX6_heldNow_20 : decode cX6_heldNow 20 = .ok (.ishl, 1) := dk_120 (dk_at dksX6_heldNow_0 20 rfl rfl)
theorem dX6_heldNow_21 : decode cX6_heldNow 21 = .ok (.ior, 1) := dk_128 (dk_at dksX6_heldNow_0 21 rfl rfl)
theorem dX6_heldNow_22 : decode cX6_heldNow 22 = .ok (.istore_n 1, 1) := dk_60 (dk_at dksX6_heldNow_0 22 rfl rfl)
theorem dX6_heldNow_23 : decode cX6_heldNow 23 = .ok (.iinc 2 1, 3) := dk_132 2 1 (dk_at dksX6_heldNow_1 0 rfl rfl)
theorem dX6_heldNow_26 : decode cX6_heldNow 26 = .ok (.goto (-22), 3) := dk_167 255 234 (dk_at dksX6_heldNow_1 3 rfl rfl)
theorem dX6_heldNow_29 : decode cX6_heldNow 29 = .ok (.iload_n 1, 1) := dk_27 (dk_at dksX6_heldNow_1 6 rfl rfl)
theorem dX6_heldNow_30 : decode cX6_heldNow 30 = .ok (.ireturn, 1) := dk_172 (dk_at dksX6_heldNow_1 7 rfl rfl)
abbrev cX6_eldest : ByteArray := prog_19_method_80_code
def yX6_eldest : MethodName := ⟨RX6, "eldest", "(I)I"⟩
def dkwX6_eldest_1 : List UInt8 := [153, 0, 5, 3, 172, 42, 182, 1, 119, 87, 42, 180, 0, 101, 27, 46, 172]
abbrev dktX6_eldest_1 : List UInt8 := dkwX6_eldest_1 ++ []
def dkwX6_eldest_0 : List UInt8 := [42, 3, 181, 0, 132, 42, 27, 184, 1, 50, 154, 0, 7, 4, 167, 0, 4, 3, 4, 4, 182, 0, 233]
abbrev dktX6_eldest_0 : List UInt8 := dkwX6_eldest_0 ++ dktX6_eldest_1
theorem dksX6_eldest_0 : cX6_eldest.data.toList.drop 0 = dktX6_eldest_0 := by decide +kernel
theorem dksX6_eldest_1 : cX6_eldest.data.toList.drop 23 = dktX6_eldest_1 := dk_seg dksX6_eldest_0 23 rfl rfl
theorem dX6_eldest_0 : decode cX6_eldest 0 = .ok (.aload_n 0, 1) := dk_42 (dk_at dksX6_eldest_0 0 rfl rfl)
theorem dX6_eldest_1 : decode cX6_eldest 1 = .ok (.iconst 0, 1) := dk_3 (dk_at dksX6_eldest_0 1 rfl rfl)
theorem dX6_eldest_2 : decode cX6_eldest 2 = .ok (.putfield 132, 3) := dk_181 0 132 (dk_at dksX6_eldest_0 2 rfl rfl)
theorem dX6_eldest_5 : decode cX6_eldest 5 = .ok (.aload_n 0, 1) := dk_42 (dk_at dksX6_eldest_0 5 rfl rfl)
theorem dX6_eldest_6 : decode cX6_eldest 6 = .ok (.iload_n 1, 1) := dk_27 (dk_at dksX6_eldest_0 6 rfl rfl)
theorem dX6_eldest_7 : decode cX6_eldest 7 = .ok (.invokestatic 306, 3) := dk_184 1 50 (dk_at dksX6_eldest_0 7 rfl rfl)
theorem dX6_eldest_10 : decode cX6_eldest 10 = .ok (.ifCond .ne 7, 3) := dk_154 0 7 (dk_at dksX6_eldest_0 10 rfl rfl)
theorem dX6_eldest_13 : decode cX6_eldest 13 = .ok (.iconst 1, 1) := dk_4 (dk_at dksX6_eldest_0 13 rfl rfl)
theorem dX6_eldest_14 : decode cX6_eldest 14 = .ok (.goto 4, 3) := dk_167 0 4 (dk_at dksX6_eldest_0 14 rfl rfl)
theorem dX6_eldest_17 : decode cX6_eldest 17 = .ok (.iconst 0, 1) := dk_3 (dk_at dksX6_eldest_0 17 rfl rfl)
theorem dX6_eldest_18 : decode cX6_eldest 18 = .ok (.iconst 1, 1) := dk_4 (dk_at dksX6_eldest_0 18 rfl rfl)
theorem dX6_eldest_19 : decode cX6_eldest 19 = .ok (.iconst 1, 1) := dk_4 (dk_at dksX6_eldest_0 19 rfl rfl)
theorem dX6_eldest_20 : decode cX6_eldest 20 = .ok (.invokevirtual 233, 3) := dk_182 0 233 (dk_at dksX6_eldest_0 20 rfl rfl)
theorem dX6_eldest_23 : decode cX6_eldest 23 = .ok (.ifCond .eq 5, 3) := dk_153 0 5 (dk_at dksX6_eldest_1 0 rfl rfl)
theorem dX6_eldest_26 : decode cX6_eldest 26 = .ok (.iconst 0, 1) := dk_3 (dk_at dksX6_eldest_1 3 rfl rfl)
theorem dX6_eldest_27 : decode cX6_eldest 27 = .ok (.ireturn, 1) := dk_172 (dk_at dksX6_eldest_1 4 rfl rfl)
theorem dX6_eldest_28 : decode cX6_eldest 28 = .ok (.aload_n 0, 1) := dk_42 (dk_at dksX6_eldest_1 5 rfl rfl)
theorem dX6_eldest_29 : decode cX6_eldest 29 = .ok (.invokevirtual 375, 3) := dk_182 1 119 (dk_at dksX6_eldest_1 6 rfl rfl)
theorem dX6_eldest_32 : decode cX6_eldest 32 = .ok (.pop, 1) := dk_87 (dk_at dksX6_eldest_1 9 rfl rfl)
theorem dX6_eldest_33 : decode cX6_eldest 33 = .ok (.aload_n 0, 1) := dk_42 (dk_at dksX6_eldest_1 10 rfl rfl)
theorem dX6_eldest_34 : decode cX6_eldest 34 = .ok (.getfield 101, 3) := dk_180 0 101 (dk_at dksX6_eldest_1 11 rfl rfl)
theorem dX6_eldest_37 : decode cX6_eldest 37 = .ok (.iload_n 1, 1) := dk_27 (dk_at dksX6_eldest_1 14 rfl rfl)
theorem dX6_eldest_38 : decode cX6_eldest 38 = .ok (.iaload, 1) := dk_46 (dk_at dksX6_eldest_1 15 rfl rfl)
theorem dX6_eldest_39 : decode cX6_eldest 39 = .ok (.ireturn, 1) := dk_172 (dk_at dksX6_eldest_1 16 rfl rfl)
abbrev cX6_fate : ByteArray := prog_19_method_81_code
def yX6_fate : MethodName := ⟨RX6, "fate", "(II)I"⟩
def dkwX6_fate_5 : List UInt8 := [180, 0, 92, 27, 46, 172, 42, 180, 0, 95, 27, 46, 172]
abbrev dktX6_fate_5 : List UInt8 := dkwX6_fate_5 ++ []
def dkwX6_fate_4 : List UInt8 := [42, 180, 0, 83, 27, 46, 172, 42, 180, 0, 86, 27, 46, 172, 42, 180, 0, 89, 27, 46, 172, 42]
abbrev dktX6_fate_4 : List UInt8 := dkwX6_fate_4 ++ dktX6_fate_5
def dkwX6_fate_3 : List UInt8 := [170, 0, 0, 0, 0, 58, 0, 0, 0, 0, 0, 0, 0, 3, 0, 0, 0, 30, 0, 0, 0, 37, 0, 0, 0, 44, 0, 0, 0, 51]
abbrev dktX6_fate_3 : List UInt8 := dkwX6_fate_3 ++ dktX6_fate_4
def dkwX6_fate_2 : List UInt8 := [153, 0, 5, 3, 172, 42, 182, 1, 119, 87, 28]
abbrev dktX6_fate_2 : List UInt8 := dkwX6_fate_2 ++ dktX6_fate_3
def dkwX6_fate_1 : List UInt8 := [154, 0, 26, 42, 28, 3, 7, 184, 0, 166, 154, 0, 7, 4, 167, 0, 4, 3, 5, 4, 182, 0, 233]
abbrev dktX6_fate_1 : List UInt8 := dkwX6_fate_1 ++ dktX6_fate_2
def dkwX6_fate_0 : List UInt8 := [42, 3, 181, 0, 132, 42, 42, 27, 182, 1, 47, 154, 0, 7, 4, 167, 0, 4, 3, 4, 3, 182, 0, 233]
abbrev dktX6_fate_0 : List UInt8 := dkwX6_fate_0 ++ dktX6_fate_1
theorem dksX6_fate_0 : cX6_fate.data.toList.drop 0 = dktX6_fate_0 := by decide +kernel
theorem dksX6_fate_1 : cX6_fate.data.toList.drop 24 = dktX6_fate_1 := dk_seg dksX6_fate_0 24 rfl rfl
theorem dksX6_fate_2 : cX6_fate.data.toList.drop 47 = dktX6_fate_2 := dk_seg dksX6_fate_1 23 rfl rfl
theorem dksX6_fate_3 : cX6_fate.data.toList.drop 58 = dktX6_fate_3 := dk_seg dksX6_fate_2 11 rfl rfl
theorem dksX6_fate_4 : cX6_fate.data.toList.drop 88 = dktX6_fate_4 := dk_seg dksX6_fate_3 30 rfl rfl
theorem dksX6_fate_5 : cX6_fate.data.toList.drop 110 = dktX6_fate_5 := dk_seg dksX6_fate_4 22 rfl rfl
theorem dX6_fate_0 : decode cX6_fate 0 = .ok (.aload_n 0, 1) := dk_42 (dk_at dksX6_fate_0 0 rfl rfl)
theorem dX6_fate_1 : decode cX6_fate 1 = .ok (.iconst 0, 1) := dk_3 (dk_at dksX6_fate_0 1 rfl rfl)
theorem dX6_fate_2 : decode cX6_fate 2 = .ok (.putfield 132, 3) := dk_181 0 132 (dk_at dksX6_fate_0 2 rfl rfl)
theorem dX6_fate_5 : decode cX6_fate 5 = .ok (.aload_n 0, 1) := dk_42 (dk_at dksX6_fate_0 5 rfl rfl)
theorem dX6_fate_6 : decode cX6_fate 6 = .ok (.aload_n 0, 1) := dk_42 (dk_at dksX6_fate_0 6 rfl rfl)
theorem dX6_fate_7 : decode cX6_fate 7 = .ok (.iload_n 1, 1) := dk_27 (dk_at dksX6_fate_0 7 rfl rfl)
theorem dX6_fate_8 : decode cX6_fate 8 = .ok (.invokevirtual 303, 3) := dk_182 1 47 (dk_at dksX6_fate_0 8 rfl rfl)
theorem dX6_fate_11 : decode cX6_fate 11 = .ok (.ifCond .ne 7, 3) := dk_154 0 7 (dk_at dksX6_fate_0 11 rfl rfl)
theorem dX6_fate_14 : decode cX6_fate 14 = .ok (.iconst 1, 1) := dk_4 (dk_at dksX6_fate_0 14 rfl rfl)
theorem dX6_fate_15 : decode cX6_fate 15 = .ok (.goto 4, 3) := dk_167 0 4 (dk_at dksX6_fate_0 15 rfl rfl)
theorem dX6_fate_18 : decode cX6_fate 18 = .ok (.iconst 0, 1) := dk_3 (dk_at dksX6_fate_0 18 rfl rfl)
theorem dX6_fate_19 : decode cX6_fate 19 = .ok (.iconst 1, 1) := dk_4 (dk_at dksX6_fate_0 19 rfl rfl)
theorem dX6_fate_20 : decode cX6_fate 20 = .ok (.iconst 0, 1) := dk_3 (dk_at dksX6_fate_0 20 rfl rfl)
theorem dX6_fate_21 : decode cX6_fate 21 = .ok (.invokevirtual 233, 3) := dk_182 0 233 (dk_at dksX6_fate_0 21 rfl rfl)
theorem dX6_fate_24 : decode cX6_fate 24 = .ok (.ifCond .ne 26, 3) := dk_154 0 26 (dk_at dksX6_fate_1 0 rfl rfl)
theorem dX6_fate_27 : decode cX6_fate 27 = .ok (.aload_n 0, 1) := dk_42 (dk_at dksX6_fate_1 3 rfl rfl)
theorem dX6_fate_28 : decode cX6_fate 28 = .ok (.iload_n 2, 1) := dk_28 (dk_at dksX6_fate_1 4 rfl rfl)
theorem dX6_fate_29 : decode cX6_fate 29 = .ok (.iconst 0, 1) := dk_3 (dk_at dksX6_fate_1 5 rfl rfl)
theorem dX6_fate_30 : decode cX6_fate 30 = .ok (.iconst 4, 1) := dk_7 (dk_at dksX6_fate_1 6 rfl rfl)
theorem dX6_fate_31 : decode cX6_fate 31 = .ok (.invokestatic 166, 3) := dk_184 0 166 (dk_at dksX6_fate_1 7 rfl rfl)
theorem dX6_fate_34 : decode cX6_fate 34 = .ok (.ifCond .ne 7, 3) := dk_154 0 7 (dk_at dksX6_fate_1 10 rfl rfl)
theorem dX6_fate_37 : decode cX6_fate 37 = .ok (.iconst 1, 1) := dk_4 (dk_at dksX6_fate_1 13 rfl rfl)
theorem dX6_fate_38 : decode cX6_fate 38 = .ok (.goto 4, 3) := dk_167 0 4 (dk_at dksX6_fate_1 14 rfl rfl)
theorem dX6_fate_41 : decode cX6_fate 41 = .ok (.iconst 0, 1) := dk_3 (dk_at dksX6_fate_1 17 rfl rfl)
theorem dX6_fate_42 : decode cX6_fate 42 = .ok (.iconst 2, 1) := dk_5 (dk_at dksX6_fate_1 18 rfl rfl)
theorem dX6_fate_43 : decode cX6_fate 43 = .ok (.iconst 1, 1) := dk_4 (dk_at dksX6_fate_1 19 rfl rfl)
theorem dX6_fate_44 : decode cX6_fate 44 = .ok (.invokevirtual 233, 3) := dk_182 0 233 (dk_at dksX6_fate_1 20 rfl rfl)
theorem dX6_fate_47 : decode cX6_fate 47 = .ok (.ifCond .eq 5, 3) := dk_153 0 5 (dk_at dksX6_fate_2 0 rfl rfl)
theorem dX6_fate_50 : decode cX6_fate 50 = .ok (.iconst 0, 1) := dk_3 (dk_at dksX6_fate_2 3 rfl rfl)
theorem dX6_fate_51 : decode cX6_fate 51 = .ok (.ireturn, 1) := dk_172 (dk_at dksX6_fate_2 4 rfl rfl)
theorem dX6_fate_52 : decode cX6_fate 52 = .ok (.aload_n 0, 1) := dk_42 (dk_at dksX6_fate_2 5 rfl rfl)
theorem dX6_fate_53 : decode cX6_fate 53 = .ok (.invokevirtual 375, 3) := dk_182 1 119 (dk_at dksX6_fate_2 6 rfl rfl)
theorem dX6_fate_56 : decode cX6_fate 56 = .ok (.pop, 1) := dk_87 (dk_at dksX6_fate_2 9 rfl rfl)
theorem dX6_fate_57 : decode cX6_fate 57 = .ok (.iload_n 2, 1) := dk_28 (dk_at dksX6_fate_2 10 rfl rfl)
theorem dX6_fate_58 : decode cX6_fate 58 = .ok (.tableswitch 58 0 3 #[30, 37, 44, 51], 30) := by decide +kernel
theorem dX6_fate_88 : decode cX6_fate 88 = .ok (.aload_n 0, 1) := dk_42 (dk_at dksX6_fate_4 0 rfl rfl)
theorem dX6_fate_89 : decode cX6_fate 89 = .ok (.getfield 83, 3) := dk_180 0 83 (dk_at dksX6_fate_4 1 rfl rfl)
theorem dX6_fate_92 : decode cX6_fate 92 = .ok (.iload_n 1, 1) := dk_27 (dk_at dksX6_fate_4 4 rfl rfl)
theorem dX6_fate_93 : decode cX6_fate 93 = .ok (.iaload, 1) := dk_46 (dk_at dksX6_fate_4 5 rfl rfl)
theorem dX6_fate_94 : decode cX6_fate 94 = .ok (.ireturn, 1) := dk_172 (dk_at dksX6_fate_4 6 rfl rfl)
theorem dX6_fate_95 : decode cX6_fate 95 = .ok (.aload_n 0, 1) := dk_42 (dk_at dksX6_fate_4 7 rfl rfl)
theorem dX6_fate_96 : decode cX6_fate 96 = .ok (.getfield 86, 3) := dk_180 0 86 (dk_at dksX6_fate_4 8 rfl rfl)
theorem dX6_fate_99 : decode cX6_fate 99 = .ok (.iload_n 1, 1) := dk_27 (dk_at dksX6_fate_4 11 rfl rfl)
theorem dX6_fate_100 : decode cX6_fate 100 = .ok (.iaload, 1) := dk_46 (dk_at dksX6_fate_4 12 rfl rfl)
theorem dX6_fate_101 : decode cX6_fate 101 = .ok (.ireturn, 1) := dk_172 (dk_at dksX6_fate_4 13 rfl rfl)
theorem dX6_fate_102 : decode cX6_fate 102 = .ok (.aload_n 0, 1) := dk_42 (dk_at dksX6_fate_4 14 rfl rfl)
theorem dX6_fate_103 : decode cX6_fate 103 = .ok (.getfield 89, 3) := dk_180 0 89 (dk_at dksX6_fate_4 15 rfl rfl)
theorem dX6_fate_106 : decode cX6_fate 106 = .ok (.iload_n 1, 1) := dk_27 (dk_at dksX6_fate_4 18 rfl rfl)
theorem dX6_fate_107 : decode cX6_fate 107 = .ok (.iaload, 1) := dk_46 (dk_at dksX6_fate_4 19 rfl rfl)
theorem dX6_fate_108 : decode cX6_fate 108 = .ok (.ireturn, 1) := dk_172 (dk_at dksX6_fate_4 20 rfl rfl)
theorem dX6_fate_109 : decode cX6_fate 109 = .ok (.aload_n 0, 1) := dk_42 (dk_at dksX6_fate_4 21 rfl rfl)
theorem dX6_fate_110 : decode cX6_fate 110 = .ok (.getfield 92, 3) := dk_180 0 92 (dk_at dksX6_fate_5 0 rfl rfl)
theorem dX6_fate_113 : decode cX6_fate 113 = .ok (.iload_n 1, 1) := dk_27 (dk_at dksX6_fate_5 3 rfl rfl)
theorem dX6_fate_114 : decode cX6_fate 114 = .ok (.iaload, 1) := dk_46 (dk_at dksX6_fate_5 4 rfl rfl)
theorem dX6_fate_115 : decode cX6_fate 115 = .ok (.ireturn, 1) := dk_172 (dk_at dksX6_fate_5 5 rfl rfl)
theorem dX6_fate_116 : decode cX6_fate 116 = .ok (.aload_n 0, 1) := dk_42 (dk_at dksX6_fate_5 6 rfl rfl)
theorem dX6_fate_117 : decode cX6_fate 117 = .ok (.getfield 95, 3) := dk_180 0 95 (dk_at dksX6_fate_5 7 rfl rfl)
theorem dX6_fate_120 : decode cX6_fate 120 = .ok (.iload_n 1, 1) := dk_27 (dk_at dksX6_fate_5 10 rfl rfl)
theorem dX6_fate_121 : decode cX6_fate 121 = .ok (.iaload, 1) := dk_46 (dk_at dksX6_fate_5 11 rfl rfl)
theorem dX6_fate_122 : decode cX6_fate 122 = .ok (.ireturn, 1) := dk_172 (dk_at dksX6_fate_5 12 rfl rfl)
abbrev cX6_year : ByteArray := prog_19_method_83_code
def yX6_year : MethodName := ⟨RX6, "year", "(I)I"⟩
def dkwX6_year_4 : List UInt8 := [184, 0, 249, 172, 42, 28, 16, 51, 182, 1, 122, 9, 148, 153, 0, 7, 4, 167, 0, 4, 3, 172]
abbrev dktX6_year_4 : List UInt8 := dkwX6_year_4 ++ []
def dkwX6_year_3 : List UInt8 := [28, 172, 42, 180, 1, 70, 172, 42, 180, 1, 73, 172, 42, 180, 1, 76, 172, 28, 42, 182, 1, 59, 126, 133]
abbrev dktX6_year_3 : List UInt8 := dkwX6_year_3 ++ dktX6_year_4
def dkwX6_year_2 : List UInt8 := [170, 0, 0, 0, 0, 0, 0, 64, 0, 0, 0, 0, 0, 0, 0, 4, 0, 0, 0, 36, 0, 0, 0, 38, 0, 0, 0, 43, 0, 0, 0, 48, 0, 0, 0, 53]
abbrev dktX6_year_2 : List UInt8 := dkwX6_year_2 ++ dktX6_year_3
def dkwX6_year_1 : List UInt8 := [182, 0, 233, 153, 0, 5, 3, 172, 42, 182, 1, 119, 61, 27]
abbrev dktX6_year_1 : List UInt8 := dkwX6_year_1 ++ dktX6_year_2
def dkwX6_year_0 : List UInt8 := [42, 3, 181, 0, 132, 42, 27, 3, 8, 184, 0, 166, 154, 0, 7, 4, 167, 0, 4, 3, 4, 4]
abbrev dktX6_year_0 : List UInt8 := dkwX6_year_0 ++ dktX6_year_1
theorem dksX6_year_0 : cX6_year.data.toList.drop 0 = dktX6_year_0 := by decide +kernel
theorem dksX6_year_1 : cX6_year.data.toList.drop 22 = dktX6_year_1 := dk_seg dksX6_year_0 22 rfl rfl
theorem dksX6_year_2 : cX6_year.data.toList.drop 36 = dktX6_year_2 := dk_seg dksX6_year_1 14 rfl rfl
theorem dksX6_year_3 : cX6_year.data.toList.drop 72 = dktX6_year_3 := dk_seg dksX6_year_2 36 rfl rfl
theorem dksX6_year_4 : cX6_year.data.toList.drop 96 = dktX6_year_4 := dk_seg dksX6_year_3 24 rfl rfl
theorem dX6_year_0 : decode cX6_year 0 = .ok (.aload_n 0, 1) := dk_42 (dk_at dksX6_year_0 0 rfl rfl)
theorem dX6_year_1 : decode cX6_year 1 = .ok (.iconst 0, 1) := dk_3 (dk_at dksX6_year_0 1 rfl rfl)
theorem dX6_year_2 : decode cX6_year 2 = .ok (.putfield 132, 3) := dk_181 0 132 (dk_at dksX6_year_0 2 rfl rfl)
theorem dX6_year_5 : decode cX6_year 5 = .ok (.aload_n 0, 1) := dk_42 (dk_at dksX6_year_0 5 rfl rfl)
theorem dX6_year_6 : decode cX6_year 6 = .ok (.iload_n 1, 1) := dk_27 (dk_at dksX6_year_0 6 rfl rfl)
theorem dX6_year_7 : decode cX6_year 7 = .ok (.iconst 0, 1) := dk_3 (dk_at dksX6_year_0 7 rfl rfl)
theorem dX6_year_8 : decode cX6_year 8 = .ok (.iconst 5, 1) := dk_8 (dk_at dksX6_year_0 8 rfl rfl)
theorem dX6_year_9 : decode cX6_year 9 = .ok (.invokestatic 166, 3) := dk_184 0 166 (dk_at dksX6_year_0 9 rfl rfl)
theorem dX6_year_12 : decode cX6_year 12 = .ok (.ifCond .ne 7, 3) := dk_154 0 7 (dk_at dksX6_year_0 12 rfl rfl)
theorem dX6_year_15 : decode cX6_year 15 = .ok (.iconst 1, 1) := dk_4 (dk_at dksX6_year_0 15 rfl rfl)
theorem dX6_year_16 : decode cX6_year 16 = .ok (.goto 4, 3) := dk_167 0 4 (dk_at dksX6_year_0 16 rfl rfl)
theorem dX6_year_19 : decode cX6_year 19 = .ok (.iconst 0, 1) := dk_3 (dk_at dksX6_year_0 19 rfl rfl)
theorem dX6_year_20 : decode cX6_year 20 = .ok (.iconst 1, 1) := dk_4 (dk_at dksX6_year_0 20 rfl rfl)
theorem dX6_year_21 : decode cX6_year 21 = .ok (.iconst 1, 1) := dk_4 (dk_at dksX6_year_0 21 rfl rfl)
theorem dX6_year_22 : decode cX6_year 22 = .ok (.invokevirtual 233, 3) := dk_182 0 233 (dk_at dksX6_year_1 0 rfl rfl)
theorem dX6_year_25 : decode cX6_year 25 = .ok (.ifCond .eq 5, 3) := dk_153 0 5 (dk_at dksX6_year_1 3 rfl rfl)
theorem dX6_year_28 : decode cX6_year 28 = .ok (.iconst 0, 1) := dk_3 (dk_at dksX6_year_1 6 rfl rfl)
theorem dX6_year_29 : decode cX6_year 29 = .ok (.ireturn, 1) := dk_172 (dk_at dksX6_year_1 7 rfl rfl)
theorem dX6_year_30 : decode cX6_year 30 = .ok (.aload_n 0, 1) := dk_42 (dk_at dksX6_year_1 8 rfl rfl)
theorem dX6_year_31 : decode cX6_year 31 = .ok (.invokevirtual 375, 3) := dk_182 1 119 (dk_at dksX6_year_1 9 rfl rfl)
theorem dX6_year_34 : decode cX6_year 34 = .ok (.istore_n 2, 1) := dk_61 (dk_at dksX6_year_1 12 rfl rfl)
theorem dX6_year_35 : decode cX6_year 35 = .ok (.iload_n 1, 1) := dk_27 (dk_at dksX6_year_1 13 rfl rfl)
theorem dX6_year_36 : decode cX6_year 36 = .ok (.tableswitch 64 0 4 #[36, 38, 43, 48, 53], 36) := by decide +kernel
theorem dX6_year_72 : decode cX6_year 72 = .ok (.iload_n 2, 1) := dk_28 (dk_at dksX6_year_3 0 rfl rfl)
theorem dX6_year_73 : decode cX6_year 73 = .ok (.ireturn, 1) := dk_172 (dk_at dksX6_year_3 1 rfl rfl)
theorem dX6_year_74 : decode cX6_year 74 = .ok (.aload_n 0, 1) := dk_42 (dk_at dksX6_year_3 2 rfl rfl)
theorem dX6_year_75 : decode cX6_year 75 = .ok (.getfield 326, 3) := dk_180 1 70 (dk_at dksX6_year_3 3 rfl rfl)
theorem dX6_year_78 : decode cX6_year 78 = .ok (.ireturn, 1) := dk_172 (dk_at dksX6_year_3 6 rfl rfl)
theorem dX6_year_79 : decode cX6_year 79 = .ok (.aload_n 0, 1) := dk_42 (dk_at dksX6_year_3 7 rfl rfl)
theorem dX6_year_80 : decode cX6_year 80 = .ok (.getfield 329, 3) := dk_180 1 73 (dk_at dksX6_year_3 8 rfl rfl)
theorem dX6_year_83 : decode cX6_year 83 = .ok (.ireturn, 1) := dk_172 (dk_at dksX6_year_3 11 rfl rfl)
theorem dX6_year_84 : decode cX6_year 84 = .ok (.aload_n 0, 1) := dk_42 (dk_at dksX6_year_3 12 rfl rfl)
theorem dX6_year_85 : decode cX6_year 85 = .ok (.getfield 332, 3) := dk_180 1 76 (dk_at dksX6_year_3 13 rfl rfl)
theorem dX6_year_88 : decode cX6_year 88 = .ok (.ireturn, 1) := dk_172 (dk_at dksX6_year_3 16 rfl rfl)
theorem dX6_year_89 : decode cX6_year 89 = .ok (.iload_n 2, 1) := dk_28 (dk_at dksX6_year_3 17 rfl rfl)
theorem dX6_year_90 : decode cX6_year 90 = .ok (.aload_n 0, 1) := dk_42 (dk_at dksX6_year_3 18 rfl rfl)
theorem dX6_year_91 : decode cX6_year 91 = .ok (.invokevirtual 315, 3) := dk_182 1 59 (dk_at dksX6_year_3 19 rfl rfl)
theorem dX6_year_94 : decode cX6_year 94 = .ok (.iand, 1) := dk_126 (dk_at dksX6_year_3 22 rfl rfl)
theorem dX6_year_95 : decode cX6_year 95 = .ok (.i2l, 1) := dk_133 (dk_at dksX6_year_3 23 rfl rfl)
theorem dX6_year_96 : decode cX6_year 96 = .ok (.invokestatic 249, 3) := dk_184 0 249 (dk_at dksX6_year_4 0 rfl rfl)
theorem dX6_year_99 : decode cX6_year 99 = .ok (.ireturn, 1) := dk_172 (dk_at dksX6_year_4 3 rfl rfl)
theorem dX6_year_100 : decode cX6_year 100 = .ok (.aload_n 0, 1) := dk_42 (dk_at dksX6_year_4 4 rfl rfl)
theorem dX6_year_101 : decode cX6_year 101 = .ok (.iload_n 2, 1) := dk_28 (dk_at dksX6_year_4 5 rfl rfl)
theorem dX6_year_102 : decode cX6_year 102 = .ok (.bipush 51, 2) := dk_16 51 (dk_at dksX6_year_4 6 rfl rfl)
theorem dX6_year_104 : decode cX6_year 104 = .ok (.invokevirtual 378, 3) := dk_182 1 122 (dk_at dksX6_year_4 8 rfl rfl)
theorem dX6_year_107 : decode cX6_year 107 = .ok (.lconst 0, 1) := dk_9 (dk_at dksX6_year_4 11 rfl rfl)
theorem dX6_year_108 : decode cX6_year 108 = .ok (.lcmp, 1) := dk_148 (dk_at dksX6_year_4 12 rfl rfl)
theorem dX6_year_109 : decode cX6_year 109 = .ok (.ifCond .eq 7, 3) := dk_153 0 7 (dk_at dksX6_year_4 13 rfl rfl)
theorem dX6_year_112 : decode cX6_year 112 = .ok (.iconst 1, 1) := dk_4 (dk_at dksX6_year_4 16 rfl rfl)
theorem dX6_year_113 : decode cX6_year 113 = .ok (.goto 4, 3) := dk_167 0 4 (dk_at dksX6_year_4 17 rfl rfl)
theorem dX6_year_116 : decode cX6_year 116 = .ok (.iconst 0, 1) := dk_3 (dk_at dksX6_year_4 20 rfl rfl)
theorem dX6_year_117 : decode cX6_year 117 = .ok (.ireturn, 1) := dk_172 (dk_at dksX6_year_4 21 rfl rfl)
abbrev cX6_togetherIn : ByteArray := prog_19_method_82_code
def yX6_togetherIn : MethodName := ⟨RX6, "togetherIn", "(II)J"⟩
def dkwX6_togetherIn_2 : List UInt8 := [132, 5, 1, 167, 255, 216, 33, 173]
abbrev dktX6_togetherIn_2 : List UInt8 := dkwX6_togetherIn_2 ++ []
def dkwX6_togetherIn_1 : List UInt8 := [21, 5, 122, 4, 126, 4, 160, 0, 13, 42, 180, 0, 36, 21, 5, 47, 167, 0, 6, 20, 0, 48, 127, 66]
abbrev dktX6_togetherIn_1 : List UInt8 := dkwX6_togetherIn_1 ++ dktX6_togetherIn_2
def dkwX6_togetherIn_0 : List UInt8 := [42, 180, 0, 45, 28, 47, 66, 3, 54, 5, 21, 5, 42, 180, 0, 23, 4, 46, 162, 0, 35, 33, 27]
abbrev dktX6_togetherIn_0 : List UInt8 := dkwX6_togetherIn_0 ++ dktX6_togetherIn_1
theorem dksX6_togetherIn_0 : cX6_togetherIn.data.toList.drop 0 = dktX6_togetherIn_0 := by decide +kernel
theorem dksX6_togetherIn_1 : cX6_togetherIn.data.toList.drop 23 = dktX6_togetherIn_1 := dk_seg dksX6_togetherIn_0 23 rfl rfl
theorem dksX6_togetherIn_2 : cX6_togetherIn.data.toList.drop 47 = dktX6_togetherIn_2 := dk_seg dksX6_togetherIn_1 24 rfl rfl
theorem dX6_togetherIn_0 : decode cX6_togetherIn 0 = .ok (.aload_n 0, 1) := dk_42 (dk_at dksX6_togetherIn_0 0 rfl rfl)
theorem dX6_togetherIn_1 : decode cX6_togetherIn 1 = .ok (.getfield 45, 3) := dk_180 0 45 (dk_at dksX6_togetherIn_0 1 rfl rfl)
theorem dX6_togetherIn_4 : decode cX6_togetherIn 4 = .ok (.iload_n 2, 1) := dk_28 (dk_at dksX6_togetherIn_0 4 rfl rfl)
theorem dX6_togetherIn_5 : decode cX6_togetherIn 5 = .ok (.laload, 1) := dk_47 (dk_at dksX6_togetherIn_0 5 rfl rfl)
theorem dX6_togetherIn_6 : decode cX6_togetherIn 6 = .ok (.lstore_n 3, 1) := dk_66 (dk_at dksX6_togetherIn_0 6 rfl rfl)
theorem dX6_togetherIn_7 : decode cX6_togetherIn 7 = .ok (.iconst 0, 1) := dk_3 (dk_at dksX6_togetherIn_0 7 rfl rfl)
theorem dX6_togetherIn_8 : decode cX6_togetherIn 8 = .ok (.istore 5, 2) := dk_54 5 (dk_at dksX6_togetherIn_0 8 rfl rfl)
theorem dX6_togetherIn_10 : decode cX6_togetherIn 10 = .ok (.iload 5, 2) := dk_21 5 (dk_at dksX6_togetherIn_0 10 rfl rfl)
theorem dX6_togetherIn_12 : decode cX6_togetherIn 12 = .ok (.aload_n 0, 1) := dk_42 (dk_at dksX6_togetherIn_0 12 rfl rfl)
theorem dX6_togetherIn_13 : decode cX6_togetherIn 13 = .ok (.getfield 23, 3) := dk_180 0 23 (dk_at dksX6_togetherIn_0 13 rfl rfl)
theorem dX6_togetherIn_16 : decode cX6_togetherIn 16 = .ok (.iconst 1, 1) := dk_4 (dk_at dksX6_togetherIn_0 16 rfl rfl)
theorem dX6_togetherIn_17 : decode cX6_togetherIn 17 = .ok (.iaload, 1) := dk_46 (dk_at dksX6_togetherIn_0 17 rfl rfl)
theorem dX6_togetherIn_18 : decode cX6_togetherIn 18 = .ok (.if_icmp .ge 35, 3) := dk_162 0 35 (dk_at dksX6_togetherIn_0 18 rfl rfl)
theorem dX6_togetherIn_21 : decode cX6_togetherIn 21 = .ok (.lload_n 3, 1) := dk_33 (dk_at dksX6_togetherIn_0 21 rfl rfl)
theorem dX6_togetherIn_22 : decode cX6_togetherIn 22 = .ok (.iload_n 1, 1) := dk_27 (dk_at dksX6_togetherIn_0 22 rfl rfl)
theorem dX6_togetherIn_23 : decode cX6_togetherIn 23 = .ok (.iload 5, 2) := dk_21 5 (dk_at dksX6_togetherIn_1 0 rfl rfl)
theorem dX6_togetherIn_25 : decode cX6_togetherIn 25 = .ok (.ishr, 1) := dk_122 (dk_at dksX6_togetherIn_1 2 rfl rfl)
theorem dX6_togetherIn_26 : decode cX6_togetherIn 26 = .ok (.iconst 1, 1) := dk_4 (dk_at dksX6_togetherIn_1 3 rfl rfl)
theorem dX6_togetherIn_27 : decode cX6_togetherIn 27 = .ok (.iand, 1) := dk_126 (dk_at dksX6_togetherIn_1 4 rfl rfl)
theorem dX6_togetherIn_28 : decode cX6_togetherIn 28 = .ok (.iconst 1, 1) := dk_4 (dk_at dksX6_togetherIn_1 5 rfl rfl)
theorem dX6_togetherIn_29 : decode cX6_togetherIn 29 = .ok (.if_icmp .ne 13, 3) := dk_160 0 13 (dk_at dksX6_togetherIn_1 6 rfl rfl)
theorem dX6_togetherIn_32 : decode cX6_togetherIn 32 = .ok (.aload_n 0, 1) := dk_42 (dk_at dksX6_togetherIn_1 9 rfl rfl)
theorem dX6_togetherIn_33 : decode cX6_togetherIn 33 = .ok (.getfield 36, 3) := dk_180 0 36 (dk_at dksX6_togetherIn_1 10 rfl rfl)
theorem dX6_togetherIn_36 : decode cX6_togetherIn 36 = .ok (.iload 5, 2) := dk_21 5 (dk_at dksX6_togetherIn_1 13 rfl rfl)
theorem dX6_togetherIn_38 : decode cX6_togetherIn 38 = .ok (.laload, 1) := dk_47 (dk_at dksX6_togetherIn_1 15 rfl rfl)
theorem dX6_togetherIn_39 : decode cX6_togetherIn 39 = .ok (.goto 6, 3) := dk_167 0 6 (dk_at dksX6_togetherIn_1 16 rfl rfl)
theorem dX6_togetherIn_42 : decode cX6_togetherIn 42 = .ok (.ldc2_w 48, 3) := dk_20 0 48 (dk_at dksX6_togetherIn_1 19 rfl rfl)
theorem dX6_togetherIn_45 : decode cX6_togetherIn 45 = .ok (.land, 1) := dk_127 (dk_at dksX6_togetherIn_1 22 rfl rfl)
theorem dX6_togetherIn_46 : decode cX6_togetherIn 46 = .ok (.lstore_n 3, 1) := dk_66 (dk_at dksX6_togetherIn_1 23 rfl rfl)
theorem dX6_togetherIn_47 : decode cX6_togetherIn 47 = .ok (.iinc 5 1, 3) := dk_132 5 1 (dk_at dksX6_togetherIn_2 0 rfl rfl)
theorem dX6_togetherIn_50 : decode cX6_togetherIn 50 = .ok (.goto (-40), 3) := dk_167 255 216 (dk_at dksX6_togetherIn_2 3 rfl rfl)
theorem dX6_togetherIn_53 : decode cX6_togetherIn 53 = .ok (.lload_n 3, 1) := dk_33 (dk_at dksX6_togetherIn_2 6 rfl rfl)
theorem dX6_togetherIn_54 : decode cX6_togetherIn 54 = .ok (.lreturn, 1) := dk_173 (dk_at dksX6_togetherIn_2 7 rfl rfl)
abbrev cX6_touchy : ByteArray := prog_19_method_85_code
def yX6_touchy : MethodName := ⟨RX6, "touchy", "()I"⟩
def dkwX6_touchy_2 : List UInt8 := [3, 96, 61, 42, 29, 29, 4, 96, 182, 1, 125, 132, 3, 1, 167, 255, 209, 28, 172]
abbrev dktX6_touchy_2 : List UInt8 := dkwX6_touchy_2 ++ []
def dkwX6_touchy_1 : List UInt8 := [162, 0, 41, 42, 29, 29, 4, 96, 182, 1, 125, 28, 42, 182, 1, 119, 27, 159, 0, 7, 4, 167, 0, 4]
abbrev dktX6_touchy_1 : List UInt8 := dkwX6_touchy_1 ++ dktX6_touchy_2
def dkwX6_touchy_0 : List UInt8 := [42, 3, 181, 0, 132, 42, 182, 1, 119, 60, 3, 61, 3, 62, 29, 4, 96, 42, 180, 0, 23, 4, 46]
abbrev dktX6_touchy_0 : List UInt8 := dkwX6_touchy_0 ++ dktX6_touchy_1
theorem dksX6_touchy_0 : cX6_touchy.data.toList.drop 0 = dktX6_touchy_0 := by decide +kernel
theorem dksX6_touchy_1 : cX6_touchy.data.toList.drop 23 = dktX6_touchy_1 := dk_seg dksX6_touchy_0 23 rfl rfl
theorem dksX6_touchy_2 : cX6_touchy.data.toList.drop 47 = dktX6_touchy_2 := dk_seg dksX6_touchy_1 24 rfl rfl
theorem dX6_touchy_0 : decode cX6_touchy 0 = .ok (.aload_n 0, 1) := dk_42 (dk_at dksX6_touchy_0 0 rfl rfl)
theorem dX6_touchy_1 : decode cX6_touchy 1 = .ok (.iconst 0, 1) := dk_3 (dk_at dksX6_touchy_0 1 rfl rfl)
theorem dX6_touchy_2 : decode cX6_touchy 2 = .ok (.putfield 132, 3) := dk_181 0 132 (dk_at dksX6_touchy_0 2 rfl rfl)
theorem dX6_touchy_5 : decode cX6_touchy 5 = .ok (.aload_n 0, 1) := dk_42 (dk_at dksX6_touchy_0 5 rfl rfl)
theorem dX6_touchy_6 : decode cX6_touchy 6 = .ok (.invokevirtual 375, 3) := dk_182 1 119 (dk_at dksX6_touchy_0 6 rfl rfl)
theorem dX6_touchy_9 : decode cX6_touchy 9 = .ok (.istore_n 1, 1) := dk_60 (dk_at dksX6_touchy_0 9 rfl rfl)
theorem dX6_touchy_10 : decode cX6_touchy 10 = .ok (.iconst 0, 1) := dk_3 (dk_at dksX6_touchy_0 10 rfl rfl)
theorem dX6_touchy_11 : decode cX6_touchy 11 = .ok (.istore_n 2, 1) := dk_61 (dk_at dksX6_touchy_0 11 rfl rfl)
theorem dX6_touchy_12 : decode cX6_touchy 12 = .ok (.iconst 0, 1) := dk_3 (dk_at dksX6_touchy_0 12 rfl rfl)
theorem dX6_touchy_13 : decode cX6_touchy 13 = .ok (.istore_n 3, 1) := dk_62 (dk_at dksX6_touchy_0 13 rfl rfl)
theorem dX6_touchy_14 : decode cX6_touchy 14 = .ok (.iload_n 3, 1) := dk_29 (dk_at dksX6_touchy_0 14 rfl rfl)
theorem dX6_touchy_15 : decode cX6_touchy 15 = .ok (.iconst 1, 1) := dk_4 (dk_at dksX6_touchy_0 15 rfl rfl)
theorem dX6_touchy_16 : decode cX6_touchy 16 = .ok (.iadd, 1) := dk_96 (dk_at dksX6_touchy_0 16 rfl rfl)
theorem dX6_touchy_17 : decode cX6_touchy 17 = .ok (.aload_n 0, 1) := dk_42 (dk_at dksX6_touchy_0 17 rfl rfl)
theorem dX6_touchy_18 : decode cX6_touchy 18 = .ok (.getfield 23, 3) := dk_180 0 23 (dk_at dksX6_touchy_0 18 rfl rfl)
theorem dX6_touchy_21 : decode cX6_touchy 21 = .ok (.iconst 1, 1) := dk_4 (dk_at dksX6_touchy_0 21 rfl rfl)
theorem dX6_touchy_22 : decode cX6_touchy 22 = .ok (.iaload, 1) := dk_46 (dk_at dksX6_touchy_0 22 rfl rfl)
theorem dX6_touchy_23 : decode cX6_touchy 23 = .ok (.if_icmp .ge 41, 3) := dk_162 0 41 (dk_at dksX6_touchy_1 0 rfl rfl)
theorem dX6_touchy_26 : decode cX6_touchy 26 = .ok (.aload_n 0, 1) := dk_42 (dk_at dksX6_touchy_1 3 rfl rfl)
theorem dX6_touchy_27 : decode cX6_touchy 27 = .ok (.iload_n 3, 1) := dk_29 (dk_at dksX6_touchy_1 4 rfl rfl)
theorem dX6_touchy_28 : decode cX6_touchy 28 = .ok (.iload_n 3, 1) := dk_29 (dk_at dksX6_touchy_1 5 rfl rfl)
theorem dX6_touchy_29 : decode cX6_touchy 29 = .ok (.iconst 1, 1) := dk_4 (dk_at dksX6_touchy_1 6 rfl rfl)
theorem dX6_touchy_30 : decode cX6_touchy 30 = .ok (.iadd, 1) := dk_96 (dk_at dksX6_touchy_1 7 rfl rfl)
theorem dX6_touchy_31 : decode cX6_touchy 31 = .ok (.invokevirtual 381, 3) := dk_182 1 125 (dk_at dksX6_touchy_1 8 rfl rfl)
theorem dX6_touchy_34 : decode cX6_touchy 34 = .ok (.iload_n 2, 1) := dk_28 (dk_at dksX6_touchy_1 11 rfl rfl)
theorem dX6_touchy_35 : decode cX6_touchy 35 = .ok (.aload_n 0, 1) := dk_42 (dk_at dksX6_touchy_1 12 rfl rfl)
theorem dX6_touchy_36 : decode cX6_touchy 36 = .ok (.invokevirtual 375, 3) := dk_182 1 119 (dk_at dksX6_touchy_1 13 rfl rfl)
theorem dX6_touchy_39 : decode cX6_touchy 39 = .ok (.iload_n 1, 1) := dk_27 (dk_at dksX6_touchy_1 16 rfl rfl)
theorem dX6_touchy_40 : decode cX6_touchy 40 = .ok (.if_icmp .eq 7, 3) := dk_159 0 7 (dk_at dksX6_touchy_1 17 rfl rfl)
theorem dX6_touchy_43 : decode cX6_touchy 43 = .ok (.iconst 1, 1) := dk_4 (dk_at dksX6_touchy_1 20 rfl rfl)
theorem dX6_touchy_44 : decode cX6_touchy 44 = .ok (.goto 4, 3) := dk_167 0 4 (dk_at dksX6_touchy_1 21 rfl rfl)
theorem dX6_touchy_47 : decode cX6_touchy 47 = .ok (.iconst 0, 1) := dk_3 (dk_at dksX6_touchy_2 0 rfl rfl)
theorem dX6_touchy_48 : decode cX6_touchy 48 = .ok (.iadd, 1) := dk_96 (dk_at dksX6_touchy_2 1 rfl rfl)
theorem dX6_touchy_49 : decode cX6_touchy 49 = .ok (.istore_n 2, 1) := dk_61 (dk_at dksX6_touchy_2 2 rfl rfl)
theorem dX6_touchy_50 : decode cX6_touchy 50 = .ok (.aload_n 0, 1) := dk_42 (dk_at dksX6_touchy_2 3 rfl rfl)
theorem dX6_touchy_51 : decode cX6_touchy 51 = .ok (.iload_n 3, 1) := dk_29 (dk_at dksX6_touchy_2 4 rfl rfl)
theorem dX6_touchy_52 : decode cX6_touchy 52 = .ok (.iload_n 3, 1) := dk_29 (dk_at dksX6_touchy_2 5 rfl rfl)
theorem dX6_touchy_53 : decode cX6_touchy 53 = .ok (.iconst 1, 1) := dk_4 (dk_at dksX6_touchy_2 6 rfl rfl)
theorem dX6_touchy_54 : decode cX6_touchy 54 = .ok (.iadd, 1) := dk_96 (dk_at dksX6_touchy_2 7 rfl rfl)
theorem dX6_touchy_55 : decode cX6_touchy 55 = .ok (.invokevirtual 381, 3) := dk_182 1 125 (dk_at dksX6_touchy_2 8 rfl rfl)
theorem dX6_touchy_58 : decode cX6_touchy 58 = .ok (.iinc 3 1, 3) := dk_132 3 1 (dk_at dksX6_touchy_2 11 rfl rfl)
theorem dX6_touchy_61 : decode cX6_touchy 61 = .ok (.goto (-47), 3) := dk_167 255 209 (dk_at dksX6_touchy_2 14 rfl rfl)
theorem dX6_touchy_64 : decode cX6_touchy 64 = .ok (.iload_n 2, 1) := dk_28 (dk_at dksX6_touchy_2 17 rfl rfl)
theorem dX6_touchy_65 : decode cX6_touchy 65 = .ok (.ireturn, 1) := dk_172 (dk_at dksX6_touchy_2 18 rfl rfl)
abbrev cX6_changes : ByteArray := prog_19_method_84_code
def yX6_changes : MethodName := ⟨RX6, "changes", "(II)V"⟩
def dkwX6_changes_1 : List UInt8 := [29, 79, 177]
abbrev dktX6_changes_1 : List UInt8 := dkwX6_changes_1 ++ []
def dkwX6_changes_0 : List UInt8 := [42, 180, 0, 54, 27, 46, 62, 42, 180, 0, 54, 27, 42, 180, 0, 54, 28, 46, 79, 42, 180, 0, 54, 28]
abbrev dktX6_changes_0 : List UInt8 := dkwX6_changes_0 ++ dktX6_changes_1
theorem dksX6_changes_0 : cX6_changes.data.toList.drop 0 = dktX6_changes_0 := by decide +kernel
theorem dksX6_changes_1 : cX6_changes.data.toList.drop 24 = dktX6_changes_1 := dk_seg dksX6_changes_0 24 rfl rfl
theorem dX6_changes_0 : decode cX6_changes 0 = .ok (.aload_n 0, 1) := dk_42 (dk_at dksX6_changes_0 0 rfl rfl)
theorem dX6_changes_1 : decode cX6_changes 1 = .ok (.getfield 54, 3) := dk_180 0 54 (dk_at dksX6_changes_0 1 rfl rfl)
theorem dX6_changes_4 : decode cX6_changes 4 = .ok (.iload_n 1, 1) := dk_27 (dk_at dksX6_changes_0 4 rfl rfl)
theorem dX6_changes_5 : decode cX6_changes 5 = .ok (.iaload, 1) := dk_46 (dk_at dksX6_changes_0 5 rfl rfl)
theorem dX6_changes_6 : decode cX6_changes 6 = .ok (.istore_n 3, 1) := dk_62 (dk_at dksX6_changes_0 6 rfl rfl)
theorem dX6_changes_7 : decode cX6_changes 7 = .ok (.aload_n 0, 1) := dk_42 (dk_at dksX6_changes_0 7 rfl rfl)
theorem dX6_changes_8 : decode cX6_changes 8 = .ok (.getfield 54, 3) := dk_180 0 54 (dk_at dksX6_changes_0 8 rfl rfl)
theorem dX6_changes_11 : decode cX6_changes 11 = .ok (.iload_n 1, 1) := dk_27 (dk_at dksX6_changes_0 11 rfl rfl)
theorem dX6_changes_12 : decode cX6_changes 12 = .ok (.aload_n 0, 1) := dk_42 (dk_at dksX6_changes_0 12 rfl rfl)
theorem dX6_changes_13 : decode cX6_changes 13 = .ok (.getfield 54, 3) := dk_180 0 54 (dk_at dksX6_changes_0 13 rfl rfl)
theorem dX6_changes_16 : decode cX6_changes 16 = .ok (.iload_n 2, 1) := dk_28 (dk_at dksX6_changes_0 16 rfl rfl)
theorem dX6_changes_17 : decode cX6_changes 17 = .ok (.iaload, 1) := dk_46 (dk_at dksX6_changes_0 17 rfl rfl)
theorem dX6_changes_18 : decode cX6_changes 18 = .ok (.iastore, 1) := dk_79 (dk_at dksX6_changes_0 18 rfl rfl)
theorem dX6_changes_19 : decode cX6_changes 19 = .ok (.aload_n 0, 1) := dk_42 (dk_at dksX6_changes_0 19 rfl rfl)
theorem dX6_changes_20 : decode cX6_changes 20 = .ok (.getfield 54, 3) := dk_180 0 54 (dk_at dksX6_changes_0 20 rfl rfl)
theorem dX6_changes_23 : decode cX6_changes 23 = .ok (.iload_n 2, 1) := dk_28 (dk_at dksX6_changes_0 23 rfl rfl)
theorem dX6_changes_24 : decode cX6_changes 24 = .ok (.iload_n 3, 1) := dk_29 (dk_at dksX6_changes_1 0 rfl rfl)
theorem dX6_changes_25 : decode cX6_changes 25 = .ok (.iastore, 1) := dk_79 (dk_at dksX6_changes_1 1 rfl rfl)
theorem dX6_changes_26 : decode cX6_changes 26 = .ok (.return_, 1) := dk_177 (dk_at dksX6_changes_1 2 rfl rfl)
abbrev cX6_swap : ByteArray := prog_19_method_86_code
def yX6_swap : MethodName := ⟨RX6, "swap", "()I"⟩
def dkwX6_swap_4 : List UInt8 := [96, 61, 21, 5, 60, 132, 4, 1, 167, 255, 193, 132, 3, 1, 167, 255, 172, 28, 172]
abbrev dktX6_swap_4 : List UInt8 := dkwX6_swap_4 ++ []
def dkwX6_swap_3 : List UInt8 := [54, 5, 42, 29, 21, 4, 182, 1, 125, 21, 5, 27, 163, 0, 6, 167, 0, 14, 16, 16, 29, 104, 21, 4]
abbrev dktX6_swap_3 : List UInt8 := dkwX6_swap_3 ++ dktX6_swap_4
def dkwX6_swap_2 : List UInt8 := [162, 0, 58, 42, 29, 21, 4, 182, 1, 125, 42, 182, 1, 119, 42, 182, 1, 59, 126, 133, 184, 0, 249]
abbrev dktX6_swap_2 : List UInt8 := dkwX6_swap_2 ++ dktX6_swap_3
def dkwX6_swap_1 : List UInt8 := [42, 180, 0, 23, 4, 46, 162, 0, 80, 29, 4, 96, 54, 4, 21, 4, 42, 180, 0, 23, 4, 46]
abbrev dktX6_swap_1 : List UInt8 := dkwX6_swap_1 ++ dktX6_swap_2
def dkwX6_swap_0 : List UInt8 := [42, 3, 181, 0, 132, 42, 182, 1, 119, 42, 182, 1, 59, 126, 133, 184, 0, 249, 60, 2, 61, 3, 62, 29]
abbrev dktX6_swap_0 : List UInt8 := dkwX6_swap_0 ++ dktX6_swap_1
theorem dksX6_swap_0 : cX6_swap.data.toList.drop 0 = dktX6_swap_0 := by decide +kernel
theorem dksX6_swap_1 : cX6_swap.data.toList.drop 24 = dktX6_swap_1 := dk_seg dksX6_swap_0 24 rfl rfl
theorem dksX6_swap_2 : cX6_swap.data.toList.drop 46 = dktX6_swap_2 := dk_seg dksX6_swap_1 22 rfl rfl
theorem dksX6_swap_3 : cX6_swap.data.toList.drop 69 = dktX6_swap_3 := dk_seg dksX6_swap_2 23 rfl rfl
theorem dksX6_swap_4 : cX6_swap.data.toList.drop 93 = dktX6_swap_4 := dk_seg dksX6_swap_3 24 rfl rfl
theorem dX6_swap_0 : decode cX6_swap 0 = .ok (.aload_n 0, 1) := dk_42 (dk_at dksX6_swap_0 0 rfl rfl)
theorem dX6_swap_1 : decode cX6_swap 1 = .ok (.iconst 0, 1) := dk_3 (dk_at dksX6_swap_0 1 rfl rfl)
theorem dX6_swap_2 : decode cX6_swap 2 = .ok (.putfield 132, 3) := dk_181 0 132 (dk_at dksX6_swap_0 2 rfl rfl)
theorem dX6_swap_5 : decode cX6_swap 5 = .ok (.aload_n 0, 1) := dk_42 (dk_at dksX6_swap_0 5 rfl rfl)
theorem dX6_swap_6 : decode cX6_swap 6 = .ok (.invokevirtual 375, 3) := dk_182 1 119 (dk_at dksX6_swap_0 6 rfl rfl)
theorem dX6_swap_9 : decode cX6_swap 9 = .ok (.aload_n 0, 1) := dk_42 (dk_at dksX6_swap_0 9 rfl rfl)
theorem dX6_swap_10 : decode cX6_swap 10 = .ok (.invokevirtual 315, 3) := dk_182 1 59 (dk_at dksX6_swap_0 10 rfl rfl)
theorem dX6_swap_13 : decode cX6_swap 13 = .ok (.iand, 1) := dk_126 (dk_at dksX6_swap_0 13 rfl rfl)
theorem dX6_swap_14 : decode cX6_swap 14 = .ok (.i2l, 1) := dk_133 (dk_at dksX6_swap_0 14 rfl rfl)
theorem dX6_swap_15 : decode cX6_swap 15 = .ok (.invokestatic 249, 3) := dk_184 0 249 (dk_at dksX6_swap_0 15 rfl rfl)
theorem dX6_swap_18 : decode cX6_swap 18 = .ok (.istore_n 1, 1) := dk_60 (dk_at dksX6_swap_0 18 rfl rfl)
theorem dX6_swap_19 : decode cX6_swap 19 = .ok (.iconst (-1), 1) := dk_2 (dk_at dksX6_swap_0 19 rfl rfl)
theorem dX6_swap_20 : decode cX6_swap 20 = .ok (.istore_n 2, 1) := dk_61 (dk_at dksX6_swap_0 20 rfl rfl)
theorem dX6_swap_21 : decode cX6_swap 21 = .ok (.iconst 0, 1) := dk_3 (dk_at dksX6_swap_0 21 rfl rfl)
theorem dX6_swap_22 : decode cX6_swap 22 = .ok (.istore_n 3, 1) := dk_62 (dk_at dksX6_swap_0 22 rfl rfl)
theorem dX6_swap_23 : decode cX6_swap 23 = .ok (.iload_n 3, 1) := dk_29 (dk_at dksX6_swap_0 23 rfl rfl)
theorem dX6_swap_24 : decode cX6_swap 24 = .ok (.aload_n 0, 1) := dk_42 (dk_at dksX6_swap_1 0 rfl rfl)
theorem dX6_swap_25 : decode cX6_swap 25 = .ok (.getfield 23, 3) := dk_180 0 23 (dk_at dksX6_swap_1 1 rfl rfl)
theorem dX6_swap_28 : decode cX6_swap 28 = .ok (.iconst 1, 1) := dk_4 (dk_at dksX6_swap_1 4 rfl rfl)
theorem dX6_swap_29 : decode cX6_swap 29 = .ok (.iaload, 1) := dk_46 (dk_at dksX6_swap_1 5 rfl rfl)
theorem dX6_swap_30 : decode cX6_swap 30 = .ok (.if_icmp .ge 80, 3) := dk_162 0 80 (dk_at dksX6_swap_1 6 rfl rfl)
theorem dX6_swap_33 : decode cX6_swap 33 = .ok (.iload_n 3, 1) := dk_29 (dk_at dksX6_swap_1 9 rfl rfl)
theorem dX6_swap_34 : decode cX6_swap 34 = .ok (.iconst 1, 1) := dk_4 (dk_at dksX6_swap_1 10 rfl rfl)
theorem dX6_swap_35 : decode cX6_swap 35 = .ok (.iadd, 1) := dk_96 (dk_at dksX6_swap_1 11 rfl rfl)
theorem dX6_swap_36 : decode cX6_swap 36 = .ok (.istore 4, 2) := dk_54 4 (dk_at dksX6_swap_1 12 rfl rfl)
theorem dX6_swap_38 : decode cX6_swap 38 = .ok (.iload 4, 2) := dk_21 4 (dk_at dksX6_swap_1 14 rfl rfl)
theorem dX6_swap_40 : decode cX6_swap 40 = .ok (.aload_n 0, 1) := dk_42 (dk_at dksX6_swap_1 16 rfl rfl)
theorem dX6_swap_41 : decode cX6_swap 41 = .ok (.getfield 23, 3) := dk_180 0 23 (dk_at dksX6_swap_1 17 rfl rfl)
theorem dX6_swap_44 : decode cX6_swap 44 = .ok (.iconst 1, 1) := dk_4 (dk_at dksX6_swap_1 20 rfl rfl)
theorem dX6_swap_45 : decode cX6_swap 45 = .ok (.iaload, 1) := dk_46 (dk_at dksX6_swap_1 21 rfl rfl)
theorem dX6_swap_46 : decode cX6_swap 46 = .ok (.if_icmp .ge 58, 3) := dk_162 0 58 (dk_at dksX6_swap_2 0 rfl rfl)
theorem dX6_swap_49 : decode cX6_swap 49 = .ok (.aload_n 0, 1) := dk_42 (dk_at dksX6_swap_2 3 rfl rfl)
theorem dX6_swap_50 : decode cX6_swap 50 = .ok (.iload_n 3, 1) := dk_29 (dk_at dksX6_swap_2 4 rfl rfl)
theorem dX6_swap_51 : decode cX6_swap 51 = .ok (.iload 4, 2) := dk_21 4 (dk_at dksX6_swap_2 5 rfl rfl)
theorem dX6_swap_53 : decode cX6_swap 53 = .ok (.invokevirtual 381, 3) := dk_182 1 125 (dk_at dksX6_swap_2 7 rfl rfl)
theorem dX6_swap_56 : decode cX6_swap 56 = .ok (.aload_n 0, 1) := dk_42 (dk_at dksX6_swap_2 10 rfl rfl)
theorem dX6_swap_57 : decode cX6_swap 57 = .ok (.invokevirtual 375, 3) := dk_182 1 119 (dk_at dksX6_swap_2 11 rfl rfl)
theorem dX6_swap_60 : decode cX6_swap 60 = .ok (.aload_n 0, 1) := dk_42 (dk_at dksX6_swap_2 14 rfl rfl)
theorem dX6_swap_61 : decode cX6_swap 61 = .ok (.invokevirtual 315, 3) := dk_182 1 59 (dk_at dksX6_swap_2 15 rfl rfl)
theorem dX6_swap_64 : decode cX6_swap 64 = .ok (.iand, 1) := dk_126 (dk_at dksX6_swap_2 18 rfl rfl)
theorem dX6_swap_65 : decode cX6_swap 65 = .ok (.i2l, 1) := dk_133 (dk_at dksX6_swap_2 19 rfl rfl)
theorem dX6_swap_66 : decode cX6_swap 66 = .ok (.invokestatic 249, 3) := dk_184 0 249 (dk_at dksX6_swap_2 20 rfl rfl)
theorem dX6_swap_69 : decode cX6_swap 69 = .ok (.istore 5, 2) := dk_54 5 (dk_at dksX6_swap_3 0 rfl rfl)
theorem dX6_swap_71 : decode cX6_swap 71 = .ok (.aload_n 0, 1) := dk_42 (dk_at dksX6_swap_3 2 rfl rfl)
theorem dX6_swap_72 : decode cX6_swap 72 = .ok (.iload_n 3, 1) := dk_29 (dk_at dksX6_swap_3 3 rfl rfl)
theorem dX6_swap_73 : decode cX6_swap 73 = .ok (.iload 4, 2) := dk_21 4 (dk_at dksX6_swap_3 4 rfl rfl)
theorem dX6_swap_75 : decode cX6_swap 75 = .ok (.invokevirtual 381, 3) := dk_182 1 125 (dk_at dksX6_swap_3 6 rfl rfl)
theorem dX6_swap_78 : decode cX6_swap 78 = .ok (.iload 5, 2) := dk_21 5 (dk_at dksX6_swap_3 9 rfl rfl)
theorem dX6_swap_80 : decode cX6_swap 80 = .ok (.iload_n 1, 1) := dk_27 (dk_at dksX6_swap_3 11 rfl rfl)
theorem dX6_swap_81 : decode cX6_swap 81 = .ok (.if_icmp .gt 6, 3) := dk_163 0 6 (dk_at dksX6_swap_3 12 rfl rfl)
theorem dX6_swap_84 : decode cX6_swap 84 = .ok (.goto 14, 3) := dk_167 0 14 (dk_at dksX6_swap_3 15 rfl rfl)
theorem dX6_swap_87 : decode cX6_swap 87 = .ok (.bipush 16, 2) := dk_16 16 (dk_at dksX6_swap_3 18 rfl rfl)
theorem dX6_swap_89 : decode cX6_swap 89 = .ok (.iload_n 3, 1) := dk_29 (dk_at dksX6_swap_3 20 rfl rfl)
theorem dX6_swap_90 : decode cX6_swap 90 = .ok (.imul, 1) := dk_104 (dk_at dksX6_swap_3 21 rfl rfl)
theorem dX6_swap_91 : decode cX6_swap 91 = .ok (.iload 4, 2) := dk_21 4 (dk_at dksX6_swap_3 22 rfl rfl)
theorem dX6_swap_93 : decode cX6_swap 93 = .ok (.iadd, 1) := dk_96 (dk_at dksX6_swap_4 0 rfl rfl)
theorem dX6_swap_94 : decode cX6_swap 94 = .ok (.istore_n 2, 1) := dk_61 (dk_at dksX6_swap_4 1 rfl rfl)
theorem dX6_swap_95 : decode cX6_swap 95 = .ok (.iload 5, 2) := dk_21 5 (dk_at dksX6_swap_4 2 rfl rfl)
theorem dX6_swap_97 : decode cX6_swap 97 = .ok (.istore_n 1, 1) := dk_60 (dk_at dksX6_swap_4 4 rfl rfl)
theorem dX6_swap_98 : decode cX6_swap 98 = .ok (.iinc 4 1, 3) := dk_132 4 1 (dk_at dksX6_swap_4 5 rfl rfl)
theorem dX6_swap_101 : decode cX6_swap 101 = .ok (.goto (-63), 3) := dk_167 255 193 (dk_at dksX6_swap_4 8 rfl rfl)
theorem dX6_swap_104 : decode cX6_swap 104 = .ok (.iinc 3 1, 3) := dk_132 3 1 (dk_at dksX6_swap_4 11 rfl rfl)
theorem dX6_swap_107 : decode cX6_swap 107 = .ok (.goto (-84), 3) := dk_167 255 172 (dk_at dksX6_swap_4 14 rfl rfl)
theorem dX6_swap_110 : decode cX6_swap 110 = .ok (.iload_n 2, 1) := dk_28 (dk_at dksX6_swap_4 17 rfl rfl)
theorem dX6_swap_111 : decode cX6_swap 111 = .ok (.ireturn, 1) := dk_172 (dk_at dksX6_swap_4 18 rfl rfl)
abbrev cX6_humble : ByteArray := prog_19_method_87_code
def yX6_humble : MethodName := ⟨RX6, "humble", "()I"⟩
def dkwX6_humble_6 : List UInt8 := [27, 60, 132, 2, 1, 167, 255, 127, 27, 172]
abbrev dktX6_humble_6 : List UInt8 := dkwX6_humble_6 ++ []
def dkwX6_humble_5 : List UInt8 := [182, 1, 116, 4, 42, 180, 0, 23, 4, 46, 120, 4, 100, 28, 2, 130, 126, 160, 0, 7, 28, 167, 0, 4]
abbrev dktX6_humble_5 : List UInt8 := dkwX6_humble_5 ++ dktX6_humble_6
def dkwX6_humble_4 : List UInt8 := [89, 180, 1, 101, 4, 96, 181, 1, 101, 132, 3, 1, 167, 255, 201, 42, 42, 180, 0, 23, 8, 46]
abbrev dktX6_humble_4 : List UInt8 := dkwX6_humble_4 ++ dktX6_humble_5
def dkwX6_humble_3 : List UInt8 := [126, 4, 160, 0, 6, 167, 0, 28, 42, 180, 0, 77, 42, 180, 1, 101, 42, 180, 0, 54, 29, 46, 79, 42]
abbrev dktX6_humble_3 : List UInt8 := dkwX6_humble_3 ++ dktX6_humble_4
def dkwX6_humble_2 : List UInt8 := [181, 1, 101, 3, 62, 29, 42, 180, 0, 23, 4, 46, 162, 0, 51, 28, 42, 180, 0, 54, 29, 46, 122, 4]
abbrev dktX6_humble_2 : List UInt8 := dkwX6_humble_2 ++ dktX6_humble_3
def dkwX6_humble_1 : List UInt8 := [4, 46, 120, 162, 0, 123, 28, 133, 184, 0, 249, 27, 133, 184, 0, 249, 161, 0, 6, 167, 0, 101, 42, 3]
abbrev dktX6_humble_1 : List UInt8 := dkwX6_humble_1 ++ dktX6_humble_2
def dkwX6_humble_0 : List UInt8 := [42, 3, 181, 0, 132, 4, 42, 180, 0, 23, 4, 46, 120, 4, 100, 60, 3, 61, 28, 4, 42, 180, 0, 23]
abbrev dktX6_humble_0 : List UInt8 := dkwX6_humble_0 ++ dktX6_humble_1
theorem dksX6_humble_0 : cX6_humble.data.toList.drop 0 = dktX6_humble_0 := by decide +kernel
theorem dksX6_humble_1 : cX6_humble.data.toList.drop 24 = dktX6_humble_1 := dk_seg dksX6_humble_0 24 rfl rfl
theorem dksX6_humble_2 : cX6_humble.data.toList.drop 48 = dktX6_humble_2 := dk_seg dksX6_humble_1 24 rfl rfl
theorem dksX6_humble_3 : cX6_humble.data.toList.drop 72 = dktX6_humble_3 := dk_seg dksX6_humble_2 24 rfl rfl
theorem dksX6_humble_4 : cX6_humble.data.toList.drop 96 = dktX6_humble_4 := dk_seg dksX6_humble_3 24 rfl rfl
theorem dksX6_humble_5 : cX6_humble.data.toList.drop 118 = dktX6_humble_5 := dk_seg dksX6_humble_4 22 rfl rfl
theorem dksX6_humble_6 : cX6_humble.data.toList.drop 142 = dktX6_humble_6 := dk_seg dksX6_humble_5 24 rfl rfl
theorem dX6_humble_0 : decode cX6_humble 0 = .ok (.aload_n 0, 1) := dk_42 (dk_at dksX6_humble_0 0 rfl rfl)
theorem dX6_humble_1 : decode cX6_humble 1 = .ok (.iconst 0, 1) := dk_3 (dk_at dksX6_humble_0 1 rfl rfl)
theorem dX6_humble_2 : decode cX6_humble 2 = .ok (.putfield 132, 3) := dk_181 0 132 (dk_at dksX6_humble_0 2 rfl rfl)
theorem dX6_humble_5 : decode cX6_humble 5 = .ok (.iconst 1, 1) := dk_4 (dk_at dksX6_humble_0 5 rfl rfl)
theorem dX6_humble_6 : decode cX6_humble 6 = .ok (.aload_n 0, 1) := dk_42 (dk_at dksX6_humble_0 6 rfl rfl)
theorem dX6_humble_7 : decode cX6_humble 7 = .ok (.getfield 23, 3) := dk_180 0 23 (dk_at dksX6_humble_0 7 rfl rfl)
theorem dX6_humble_10 : decode cX6_humble 10 = .ok (.iconst 1, 1) := dk_4 (dk_at dksX6_humble_0 10 rfl rfl)
theorem dX6_humble_11 : decode cX6_humble 11 = .ok (.iaload, 1) := dk_46 (dk_at dksX6_humble_0 11 rfl rfl)
theorem dX6_humble_12 : decode cX6_humble 12 = .ok (.ishl, 1) := dk_120 (dk_at dksX6_humble_0 12 rfl rfl)
theorem dX6_humble_13 : decode cX6_humble 13 = .ok (.iconst 1, 1) := dk_4 (dk_at dksX6_humble_0 13 rfl rfl)
theorem dX6_humble_14 : decode cX6_humble 14 = .ok (.isub, 1) := dk_100 (dk_at dksX6_humble_0 14 rfl rfl)
theorem dX6_humble_15 : decode cX6_humble 15 = .ok (.istore_n 1, 1) := dk_60 (dk_at dksX6_humble_0 15 rfl rfl)
theorem dX6_humble_16 : decode cX6_humble 16 = .ok (.iconst 0, 1) := dk_3 (dk_at dksX6_humble_0 16 rfl rfl)
theorem dX6_humble_17 : decode cX6_humble 17 = .ok (.istore_n 2, 1) := dk_61 (dk_at dksX6_humble_0 17 rfl rfl)
theorem dX6_humble_18 : decode cX6_humble 18 = .ok (.iload_n 2, 1) := dk_28 (dk_at dksX6_humble_0 18 rfl rfl)
theorem dX6_humble_19 : decode cX6_humble 19 = .ok (.iconst 1, 1) := dk_4 (dk_at dksX6_humble_0 19 rfl rfl)
theorem dX6_humble_20 : decode cX6_humble 20 = .ok (.aload_n 0, 1) := dk_42 (dk_at dksX6_humble_0 20 rfl rfl)
theorem dX6_humble_21 : decode cX6_humble 21 = .ok (.getfield 23, 3) := dk_180 0 23 (dk_at dksX6_humble_0 21 rfl rfl)
theorem dX6_humble_24 : decode cX6_humble 24 = .ok (.iconst 1, 1) := dk_4 (dk_at dksX6_humble_1 0 rfl rfl)
theorem dX6_humble_25 : decode cX6_humble 25 = .ok (.iaload, 1) := dk_46 (dk_at dksX6_humble_1 1 rfl rfl)
theorem dX6_humble_26 : decode cX6_humble 26 = .ok (.ishl, 1) := dk_120 (dk_at dksX6_humble_1 2 rfl rfl)
theorem dX6_humble_27 : decode cX6_humble 27 = .ok (.if_icmp .ge 123, 3) := dk_162 0 123 (dk_at dksX6_humble_1 3 rfl rfl)
theorem dX6_humble_30 : decode cX6_humble 30 = .ok (.iload_n 2, 1) := dk_28 (dk_at dksX6_humble_1 6 rfl rfl)
theorem dX6_humble_31 : decode cX6_humble 31 = .ok (.i2l, 1) := dk_133 (dk_at dksX6_humble_1 7 rfl rfl)
theorem dX6_humble_32 : decode cX6_humble 32 = .ok (.invokestatic 249, 3) := dk_184 0 249 (dk_at dksX6_humble_1 8 rfl rfl)
theorem dX6_humble_35 : decode cX6_humble 35 = .ok (.iload_n 1, 1) := dk_27 (dk_at dksX6_humble_1 11 rfl rfl)
theorem dX6_humble_36 : decode cX6_humble 36 = .ok (.i2l, 1) := dk_133 (dk_at dksX6_humble_1 12 rfl rfl)
theorem dX6_humble_37 : decode cX6_humble 37 = .ok (.invokestatic 249, 3) := dk_184 0 249 (dk_at dksX6_humble_1 13 rfl rfl)
theorem dX6_humble_40 : decode cX6_humble 40 = .ok (.if_icmp .lt 6, 3) := dk_161 0 6 (dk_at dksX6_humble_1 16 rfl rfl)
theorem dX6_humble_43 : decode cX6_humble 43 = .ok (.goto 101, 3) := dk_167 0 101 (dk_at dksX6_humble_1 19 rfl rfl)
theorem dX6_humble_46 : decode cX6_humble 46 = .ok (.aload_n 0, 1) := dk_42 (dk_at dksX6_humble_1 22 rfl rfl)
theorem dX6_humble_47 : decode cX6_humble 47 = .ok (.iconst 0, 1) := dk_3 (dk_at dksX6_humble_1 23 rfl rfl)
theorem dX6_humble_48 : decode cX6_humble 48 = .ok (.putfield 357, 3) := dk_181 1 101 (dk_at dksX6_humble_2 0 rfl rfl)
theorem dX6_humble_51 : decode cX6_humble 51 = .ok (.iconst 0, 1) := dk_3 (dk_at dksX6_humble_2 3 rfl rfl)
theorem dX6_humble_52 : decode cX6_humble 52 = .ok (.istore_n 3, 1) := dk_62 (dk_at dksX6_humble_2 4 rfl rfl)
theorem dX6_humble_53 : decode cX6_humble 53 = .ok (.iload_n 3, 1) := dk_29 (dk_at dksX6_humble_2 5 rfl rfl)
theorem dX6_humble_54 : decode cX6_humble 54 = .ok (.aload_n 0, 1) := dk_42 (dk_at dksX6_humble_2 6 rfl rfl)
theorem dX6_humble_55 : decode cX6_humble 55 = .ok (.getfield 23, 3) := dk_180 0 23 (dk_at dksX6_humble_2 7 rfl rfl)
theorem dX6_humble_58 : decode cX6_humble 58 = .ok (.iconst 1, 1) := dk_4 (dk_at dksX6_humble_2 10 rfl rfl)
theorem dX6_humble_59 : decode cX6_humble 59 = .ok (.iaload, 1) := dk_46 (dk_at dksX6_humble_2 11 rfl rfl)
theorem dX6_humble_60 : decode cX6_humble 60 = .ok (.if_icmp .ge 51, 3) := dk_162 0 51 (dk_at dksX6_humble_2 12 rfl rfl)
theorem dX6_humble_63 : decode cX6_humble 63 = .ok (.iload_n 2, 1) := dk_28 (dk_at dksX6_humble_2 15 rfl rfl)
theorem dX6_humble_64 : decode cX6_humble 64 = .ok (.aload_n 0, 1) := dk_42 (dk_at dksX6_humble_2 16 rfl rfl)
theorem dX6_humble_65 : decode cX6_humble 65 = .ok (.getfield 54, 3) := dk_180 0 54 (dk_at dksX6_humble_2 17 rfl rfl)
theorem dX6_humble_68 : decode cX6_humble 68 = .ok (.iload_n 3, 1) := dk_29 (dk_at dksX6_humble_2 20 rfl rfl)
theorem dX6_humble_69 : decode cX6_humble 69 = .ok (.iaload, 1) := dk_46 (dk_at dksX6_humble_2 21 rfl rfl)
theorem dX6_humble_70 : decode cX6_humble 70 = .ok (.ishr, 1) := dk_122 (dk_at dksX6_humble_2 22 rfl rfl)
theorem dX6_humble_71 : decode cX6_humble 71 = .ok (.iconst 1, 1) := dk_4 (dk_at dksX6_humble_2 23 rfl rfl)
theorem dX6_humble_72 : decode cX6_humble 72 = .ok (.iand, 1) := dk_126 (dk_at dksX6_humble_3 0 rfl rfl)
theorem dX6_humble_73 : decode cX6_humble 73 = .ok (.iconst 1, 1) := dk_4 (dk_at dksX6_humble_3 1 rfl rfl)
theorem dX6_humble_74 : decode cX6_humble 74 = .ok (.if_icmp .ne 6, 3) := dk_160 0 6 (dk_at dksX6_humble_3 2 rfl rfl)
theorem dX6_humble_77 : decode cX6_humble 77 = .ok (.goto 28, 3) := dk_167 0 28 (dk_at dksX6_humble_3 5 rfl rfl)
theorem dX6_humble_80 : decode cX6_humble 80 = .ok (.aload_n 0, 1) := dk_42 (dk_at dksX6_humble_3 8 rfl rfl)
theorem dX6_humble_81 : decode cX6_humble 81 = .ok (.getfield 77, 3) := dk_180 0 77 (dk_at dksX6_humble_3 9 rfl rfl)
theorem dX6_humble_84 : decode cX6_humble 84 = .ok (.aload_n 0, 1) := dk_42 (dk_at dksX6_humble_3 12 rfl rfl)
theorem dX6_humble_85 : decode cX6_humble 85 = .ok (.getfield 357, 3) := dk_180 1 101 (dk_at dksX6_humble_3 13 rfl rfl)
theorem dX6_humble_88 : decode cX6_humble 88 = .ok (.aload_n 0, 1) := dk_42 (dk_at dksX6_humble_3 16 rfl rfl)
theorem dX6_humble_89 : decode cX6_humble 89 = .ok (.getfield 54, 3) := dk_180 0 54 (dk_at dksX6_humble_3 17 rfl rfl)
theorem dX6_humble_92 : decode cX6_humble 92 = .ok (.iload_n 3, 1) := dk_29 (dk_at dksX6_humble_3 20 rfl rfl)
theorem dX6_humble_93 : decode cX6_humble 93 = .ok (.iaload, 1) := dk_46 (dk_at dksX6_humble_3 21 rfl rfl)
theorem dX6_humble_94 : decode cX6_humble 94 = .ok (.iastore, 1) := dk_79 (dk_at dksX6_humble_3 22 rfl rfl)
theorem dX6_humble_95 : decode cX6_humble 95 = .ok (.aload_n 0, 1) := dk_42 (dk_at dksX6_humble_3 23 rfl rfl)
theorem dX6_humble_96 : decode cX6_humble 96 = .ok (.dup, 1) := dk_89 (dk_at dksX6_humble_4 0 rfl rfl)
theorem dX6_humble_97 : decode cX6_humble 97 = .ok (.getfield 357, 3) := dk_180 1 101 (dk_at dksX6_humble_4 1 rfl rfl)
theorem dX6_humble_100 : decode cX6_humble 100 = .ok (.iconst 1, 1) := dk_4 (dk_at dksX6_humble_4 4 rfl rfl)
theorem dX6_humble_101 : decode cX6_humble 101 = .ok (.iadd, 1) := dk_96 (dk_at dksX6_humble_4 5 rfl rfl)
theorem dX6_humble_102 : decode cX6_humble 102 = .ok (.putfield 357, 3) := dk_181 1 101 (dk_at dksX6_humble_4 6 rfl rfl)
theorem dX6_humble_105 : decode cX6_humble 105 = .ok (.iinc 3 1, 3) := dk_132 3 1 (dk_at dksX6_humble_4 9 rfl rfl)
theorem dX6_humble_108 : decode cX6_humble 108 = .ok (.goto (-55), 3) := dk_167 255 201 (dk_at dksX6_humble_4 12 rfl rfl)
theorem dX6_humble_111 : decode cX6_humble 111 = .ok (.aload_n 0, 1) := dk_42 (dk_at dksX6_humble_4 15 rfl rfl)
theorem dX6_humble_112 : decode cX6_humble 112 = .ok (.aload_n 0, 1) := dk_42 (dk_at dksX6_humble_4 16 rfl rfl)
theorem dX6_humble_113 : decode cX6_humble 113 = .ok (.getfield 23, 3) := dk_180 0 23 (dk_at dksX6_humble_4 17 rfl rfl)
theorem dX6_humble_116 : decode cX6_humble 116 = .ok (.iconst 5, 1) := dk_8 (dk_at dksX6_humble_4 20 rfl rfl)
theorem dX6_humble_117 : decode cX6_humble 117 = .ok (.iaload, 1) := dk_46 (dk_at dksX6_humble_4 21 rfl rfl)
theorem dX6_humble_118 : decode cX6_humble 118 = .ok (.invokevirtual 372, 3) := dk_182 1 116 (dk_at dksX6_humble_5 0 rfl rfl)
theorem dX6_humble_121 : decode cX6_humble 121 = .ok (.iconst 1, 1) := dk_4 (dk_at dksX6_humble_5 3 rfl rfl)
theorem dX6_humble_122 : decode cX6_humble 122 = .ok (.aload_n 0, 1) := dk_42 (dk_at dksX6_humble_5 4 rfl rfl)
theorem dX6_humble_123 : decode cX6_humble 123 = .ok (.getfield 23, 3) := dk_180 0 23 (dk_at dksX6_humble_5 5 rfl rfl)
theorem dX6_humble_126 : decode cX6_humble 126 = .ok (.iconst 1, 1) := dk_4 (dk_at dksX6_humble_5 8 rfl rfl)
theorem dX6_humble_127 : decode cX6_humble 127 = .ok (.iaload, 1) := dk_46 (dk_at dksX6_humble_5 9 rfl rfl)
theorem dX6_humble_128 : decode cX6_humble 128 = .ok (.ishl, 1) := dk_120 (dk_at dksX6_humble_5 10 rfl rfl)
theorem dX6_humble_129 : decode cX6_humble 129 = .ok (.iconst 1, 1) := dk_4 (dk_at dksX6_humble_5 11 rfl rfl)
theorem dX6_humble_130 : decode cX6_humble 130 = .ok (.isub, 1) := dk_100 (dk_at dksX6_humble_5 12 rfl rfl)
theorem dX6_humble_131 : decode cX6_humble 131 = .ok (.iload_n 2, 1) := dk_28 (dk_at dksX6_humble_5 13 rfl rfl)
theorem dX6_humble_132 : decode cX6_humble 132 = .ok (.iconst (-1), 1) := dk_2 (dk_at dksX6_humble_5 14 rfl rfl)
theorem dX6_humble_133 : decode cX6_humble 133 = .ok (.ixor, 1) := dk_130 (dk_at dksX6_humble_5 15 rfl rfl)
theorem dX6_humble_134 : decode cX6_humble 134 = .ok (.iand, 1) := dk_126 (dk_at dksX6_humble_5 16 rfl rfl)
theorem dX6_humble_135 : decode cX6_humble 135 = .ok (.if_icmp .ne 7, 3) := dk_160 0 7 (dk_at dksX6_humble_5 17 rfl rfl)
theorem dX6_humble_138 : decode cX6_humble 138 = .ok (.iload_n 2, 1) := dk_28 (dk_at dksX6_humble_5 20 rfl rfl)
theorem dX6_humble_139 : decode cX6_humble 139 = .ok (.goto 4, 3) := dk_167 0 4 (dk_at dksX6_humble_5 21 rfl rfl)
theorem dX6_humble_142 : decode cX6_humble 142 = .ok (.iload_n 1, 1) := dk_27 (dk_at dksX6_humble_6 0 rfl rfl)
theorem dX6_humble_143 : decode cX6_humble 143 = .ok (.istore_n 1, 1) := dk_60 (dk_at dksX6_humble_6 1 rfl rfl)
theorem dX6_humble_144 : decode cX6_humble 144 = .ok (.iinc 2 1, 3) := dk_132 2 1 (dk_at dksX6_humble_6 2 rfl rfl)
theorem dX6_humble_147 : decode cX6_humble 147 = .ok (.goto (-129), 3) := dk_167 255 127 (dk_at dksX6_humble_6 5 rfl rfl)
theorem dX6_humble_150 : decode cX6_humble 150 = .ok (.iload_n 1, 1) := dk_27 (dk_at dksX6_humble_6 8 rfl rfl)
theorem dX6_humble_151 : decode cX6_humble 151 = .ok (.ireturn, 1) := dk_172 (dk_at dksX6_humble_6 9 rfl rfl)
abbrev cX6_killer : ByteArray := prog_19_method_88_code
def yX6_killer : MethodName := ⟨RX6, "killer", "(I)I"⟩
def dkwX6_killer_5 : List UInt8 := [167, 255, 204, 2, 172]
abbrev dktX6_killer_5 : List UInt8 := dkwX6_killer_5 ++ []
def dkwX6_killer_4 : List UInt8 := [32, 42, 180, 0, 42, 21, 4, 47, 127, 65, 32, 9, 148, 154, 0, 6, 21, 4, 172, 132, 4, 1]
abbrev dktX6_killer_4 : List UInt8 := dkwX6_killer_4 ++ dktX6_killer_5
def dkwX6_killer_3 : List UInt8 := [5, 46, 162, 0, 47, 42, 180, 0, 29, 21, 4, 46, 42, 180, 0, 86, 27, 46, 164, 0, 6, 167, 0, 22]
abbrev dktX6_killer_3 : List UInt8 := dkwX6_killer_3 ++ dktX6_killer_4
def dkwX6_killer_2 : List UInt8 := [27, 46, 2, 159, 0, 5, 2, 172, 42, 180, 0, 36, 27, 47, 65, 3, 54, 4, 21, 4, 42, 180, 0, 23]
abbrev dktX6_killer_2 : List UInt8 := dkwX6_killer_2 ++ dktX6_killer_3
def dkwX6_killer_1 : List UInt8 := [153, 0, 5, 3, 172, 42, 182, 1, 119, 87, 42, 180, 0, 86, 27, 46, 2, 159, 0, 13, 42, 180, 0, 89]
abbrev dktX6_killer_1 : List UInt8 := dkwX6_killer_1 ++ dktX6_killer_2
def dkwX6_killer_0 : List UInt8 := [42, 3, 181, 0, 132, 42, 42, 27, 182, 1, 47, 154, 0, 7, 4, 167, 0, 4, 3, 4, 3, 182, 0, 233]
abbrev dktX6_killer_0 : List UInt8 := dkwX6_killer_0 ++ dktX6_killer_1
theorem dksX6_killer_0 : cX6_killer.data.toList.drop 0 = dktX6_killer_0 := by decide +kernel
theorem dksX6_killer_1 : cX6_killer.data.toList.drop 24 = dktX6_killer_1 := dk_seg dksX6_killer_0 24 rfl rfl
theorem dksX6_killer_2 : cX6_killer.data.toList.drop 48 = dktX6_killer_2 := dk_seg dksX6_killer_1 24 rfl rfl
theorem dksX6_killer_3 : cX6_killer.data.toList.drop 72 = dktX6_killer_3 := dk_seg dksX6_killer_2 24 rfl rfl
theorem dksX6_killer_4 : cX6_killer.data.toList.drop 96 = dktX6_killer_4 := dk_seg dksX6_killer_3 24 rfl rfl
theorem dksX6_killer_5 : cX6_killer.data.toList.drop 118 = dktX6_killer_5 := dk_seg dksX6_killer_4 22 rfl rfl
theorem dX6_killer_0 : decode cX6_killer 0 = .ok (.aload_n 0, 1) := dk_42 (dk_at dksX6_killer_0 0 rfl rfl)
theorem dX6_killer_1 : decode cX6_killer 1 = .ok (.iconst 0, 1) := dk_3 (dk_at dksX6_killer_0 1 rfl rfl)
theorem dX6_killer_2 : decode cX6_killer 2 = .ok (.putfield 132, 3) := dk_181 0 132 (dk_at dksX6_killer_0 2 rfl rfl)
theorem dX6_killer_5 : decode cX6_killer 5 = .ok (.aload_n 0, 1) := dk_42 (dk_at dksX6_killer_0 5 rfl rfl)
theorem dX6_killer_6 : decode cX6_killer 6 = .ok (.aload_n 0, 1) := dk_42 (dk_at dksX6_killer_0 6 rfl rfl)
theorem dX6_killer_7 : decode cX6_killer 7 = .ok (.iload_n 1, 1) := dk_27 (dk_at dksX6_killer_0 7 rfl rfl)
theorem dX6_killer_8 : decode cX6_killer 8 = .ok (.invokevirtual 303, 3) := dk_182 1 47 (dk_at dksX6_killer_0 8 rfl rfl)
theorem dX6_killer_11 : decode cX6_killer 11 = .ok (.ifCond .ne 7, 3) := dk_154 0 7 (dk_at dksX6_killer_0 11 rfl rfl)
theorem dX6_killer_14 : decode cX6_killer 14 = .ok (.iconst 1, 1) := dk_4 (dk_at dksX6_killer_0 14 rfl rfl)
theorem dX6_killer_15 : decode cX6_killer 15 = .ok (.goto 4, 3) := dk_167 0 4 (dk_at dksX6_killer_0 15 rfl rfl)
theorem dX6_killer_18 : decode cX6_killer 18 = .ok (.iconst 0, 1) := dk_3 (dk_at dksX6_killer_0 18 rfl rfl)
theorem dX6_killer_19 : decode cX6_killer 19 = .ok (.iconst 1, 1) := dk_4 (dk_at dksX6_killer_0 19 rfl rfl)
theorem dX6_killer_20 : decode cX6_killer 20 = .ok (.iconst 0, 1) := dk_3 (dk_at dksX6_killer_0 20 rfl rfl)
theorem dX6_killer_21 : decode cX6_killer 21 = .ok (.invokevirtual 233, 3) := dk_182 0 233 (dk_at dksX6_killer_0 21 rfl rfl)
theorem dX6_killer_24 : decode cX6_killer 24 = .ok (.ifCond .eq 5, 3) := dk_153 0 5 (dk_at dksX6_killer_1 0 rfl rfl)
theorem dX6_killer_27 : decode cX6_killer 27 = .ok (.iconst 0, 1) := dk_3 (dk_at dksX6_killer_1 3 rfl rfl)
theorem dX6_killer_28 : decode cX6_killer 28 = .ok (.ireturn, 1) := dk_172 (dk_at dksX6_killer_1 4 rfl rfl)
theorem dX6_killer_29 : decode cX6_killer 29 = .ok (.aload_n 0, 1) := dk_42 (dk_at dksX6_killer_1 5 rfl rfl)
theorem dX6_killer_30 : decode cX6_killer 30 = .ok (.invokevirtual 375, 3) := dk_182 1 119 (dk_at dksX6_killer_1 6 rfl rfl)
theorem dX6_killer_33 : decode cX6_killer 33 = .ok (.pop, 1) := dk_87 (dk_at dksX6_killer_1 9 rfl rfl)
theorem dX6_killer_34 : decode cX6_killer 34 = .ok (.aload_n 0, 1) := dk_42 (dk_at dksX6_killer_1 10 rfl rfl)
theorem dX6_killer_35 : decode cX6_killer 35 = .ok (.getfield 86, 3) := dk_180 0 86 (dk_at dksX6_killer_1 11 rfl rfl)
theorem dX6_killer_38 : decode cX6_killer 38 = .ok (.iload_n 1, 1) := dk_27 (dk_at dksX6_killer_1 14 rfl rfl)
theorem dX6_killer_39 : decode cX6_killer 39 = .ok (.iaload, 1) := dk_46 (dk_at dksX6_killer_1 15 rfl rfl)
theorem dX6_killer_40 : decode cX6_killer 40 = .ok (.iconst (-1), 1) := dk_2 (dk_at dksX6_killer_1 16 rfl rfl)
theorem dX6_killer_41 : decode cX6_killer 41 = .ok (.if_icmp .eq 13, 3) := dk_159 0 13 (dk_at dksX6_killer_1 17 rfl rfl)
theorem dX6_killer_44 : decode cX6_killer 44 = .ok (.aload_n 0, 1) := dk_42 (dk_at dksX6_killer_1 20 rfl rfl)
theorem dX6_killer_45 : decode cX6_killer 45 = .ok (.getfield 89, 3) := dk_180 0 89 (dk_at dksX6_killer_1 21 rfl rfl)
theorem dX6_killer_48 : decode cX6_killer 48 = .ok (.iload_n 1, 1) := dk_27 (dk_at dksX6_killer_2 0 rfl rfl)
theorem dX6_killer_49 : decode cX6_killer 49 = .ok (.iaload, 1) := dk_46 (dk_at dksX6_killer_2 1 rfl rfl)
theorem dX6_killer_50 : decode cX6_killer 50 = .ok (.iconst (-1), 1) := dk_2 (dk_at dksX6_killer_2 2 rfl rfl)
theorem dX6_killer_51 : decode cX6_killer 51 = .ok (.if_icmp .eq 5, 3) := dk_159 0 5 (dk_at dksX6_killer_2 3 rfl rfl)
theorem dX6_killer_54 : decode cX6_killer 54 = .ok (.iconst (-1), 1) := dk_2 (dk_at dksX6_killer_2 6 rfl rfl)
theorem dX6_killer_55 : decode cX6_killer 55 = .ok (.ireturn, 1) := dk_172 (dk_at dksX6_killer_2 7 rfl rfl)
theorem dX6_killer_56 : decode cX6_killer 56 = .ok (.aload_n 0, 1) := dk_42 (dk_at dksX6_killer_2 8 rfl rfl)
theorem dX6_killer_57 : decode cX6_killer 57 = .ok (.getfield 36, 3) := dk_180 0 36 (dk_at dksX6_killer_2 9 rfl rfl)
theorem dX6_killer_60 : decode cX6_killer 60 = .ok (.iload_n 1, 1) := dk_27 (dk_at dksX6_killer_2 12 rfl rfl)
theorem dX6_killer_61 : decode cX6_killer 61 = .ok (.laload, 1) := dk_47 (dk_at dksX6_killer_2 13 rfl rfl)
theorem dX6_killer_62 : decode cX6_killer 62 = .ok (.lstore_n 2, 1) := dk_65 (dk_at dksX6_killer_2 14 rfl rfl)
theorem dX6_killer_63 : decode cX6_killer 63 = .ok (.iconst 0, 1) := dk_3 (dk_at dksX6_killer_2 15 rfl rfl)
theorem dX6_killer_64 : decode cX6_killer 64 = .ok (.istore 4, 2) := dk_54 4 (dk_at dksX6_killer_2 16 rfl rfl)
theorem dX6_killer_66 : decode cX6_killer 66 = .ok (.iload 4, 2) := dk_21 4 (dk_at dksX6_killer_2 18 rfl rfl)
theorem dX6_killer_68 : decode cX6_killer 68 = .ok (.aload_n 0, 1) := dk_42 (dk_at dksX6_killer_2 20 rfl rfl)
theorem dX6_killer_69 : decode cX6_killer 69 = .ok (.getfield 23, 3) := dk_180 0 23 (dk_at dksX6_killer_2 21 rfl rfl)
theorem dX6_killer_72 : decode cX6_killer 72 = .ok (.iconst 2, 1) := dk_5 (dk_at dksX6_killer_3 0 rfl rfl)
theorem dX6_killer_73 : decode cX6_killer 73 = .ok (.iaload, 1) := dk_46 (dk_at dksX6_killer_3 1 rfl rfl)
theorem dX6_killer_74 : decode cX6_killer 74 = .ok (.if_icmp .ge 47, 3) := dk_162 0 47 (dk_at dksX6_killer_3 2 rfl rfl)
theorem dX6_killer_77 : decode cX6_killer 77 = .ok (.aload_n 0, 1) := dk_42 (dk_at dksX6_killer_3 5 rfl rfl)
theorem dX6_killer_78 : decode cX6_killer 78 = .ok (.getfield 29, 3) := dk_180 0 29 (dk_at dksX6_killer_3 6 rfl rfl)
theorem dX6_killer_81 : decode cX6_killer 81 = .ok (.iload 4, 2) := dk_21 4 (dk_at dksX6_killer_3 9 rfl rfl)
theorem dX6_killer_83 : decode cX6_killer 83 = .ok (.iaload, 1) := dk_46 (dk_at dksX6_killer_3 11 rfl rfl)
theorem dX6_killer_84 : decode cX6_killer 84 = .ok (.aload_n 0, 1) := dk_42 (dk_at dksX6_killer_3 12 rfl rfl)
theorem dX6_killer_85 : decode cX6_killer 85 = .ok (.getfield 86, 3) := dk_180 0 86 (dk_at dksX6_killer_3 13 rfl rfl)
theorem dX6_killer_88 : decode cX6_killer 88 = .ok (.iload_n 1, 1) := dk_27 (dk_at dksX6_killer_3 16 rfl rfl)
theorem dX6_killer_89 : decode cX6_killer 89 = .ok (.iaload, 1) := dk_46 (dk_at dksX6_killer_3 17 rfl rfl)
theorem dX6_killer_90 : decode cX6_killer 90 = .ok (.if_icmp .le 6, 3) := dk_164 0 6 (dk_at dksX6_killer_3 18 rfl rfl)
theorem dX6_killer_93 : decode cX6_killer 93 = .ok (.goto 22, 3) := dk_167 0 22 (dk_at dksX6_killer_3 21 rfl rfl)
theorem dX6_killer_96 : decode cX6_killer 96 = .ok (.lload_n 2, 1) := dk_32 (dk_at dksX6_killer_4 0 rfl rfl)
theorem dX6_killer_97 : decode cX6_killer 97 = .ok (.aload_n 0, 1) := dk_42 (dk_at dksX6_killer_4 1 rfl rfl)
theorem dX6_killer_98 : decode cX6_killer 98 = .ok (.getfield 42, 3) := dk_180 0 42 (dk_at dksX6_killer_4 2 rfl rfl)
theorem dX6_killer_101 : decode cX6_killer 101 = .ok (.iload 4, 2) := dk_21 4 (dk_at dksX6_killer_4 5 rfl rfl)
theorem dX6_killer_103 : decode cX6_killer 103 = .ok (.laload, 1) := dk_47 (dk_at dksX6_killer_4 7 rfl rfl)
theorem dX6_killer_104 : decode cX6_killer 104 = .ok (.land, 1) := dk_127 (dk_at dksX6_killer_4 8 rfl rfl)
theorem dX6_killer_105 : decode cX6_killer 105 = .ok (.lstore_n 2, 1) := dk_65 (dk_at dksX6_killer_4 9 rfl rfl)
theorem dX6_killer_106 : decode cX6_killer 106 = .ok (.lload_n 2, 1) := dk_32 (dk_at dksX6_killer_4 10 rfl rfl)
theorem dX6_killer_107 : decode cX6_killer 107 = .ok (.lconst 0, 1) := dk_9 (dk_at dksX6_killer_4 11 rfl rfl)
theorem dX6_killer_108 : decode cX6_killer 108 = .ok (.lcmp, 1) := dk_148 (dk_at dksX6_killer_4 12 rfl rfl)
theorem dX6_killer_109 : decode cX6_killer 109 = .ok (.ifCond .ne 6, 3) := dk_154 0 6 (dk_at dksX6_killer_4 13 rfl rfl)
theorem dX6_killer_112 : decode cX6_killer 112 = .ok (.iload 4, 2) := dk_21 4 (dk_at dksX6_killer_4 16 rfl rfl)
theorem dX6_killer_114 : decode cX6_killer 114 = .ok (.ireturn, 1) := dk_172 (dk_at dksX6_killer_4 18 rfl rfl)
theorem dX6_killer_115 : decode cX6_killer 115 = .ok (.iinc 4 1, 3) := dk_132 4 1 (dk_at dksX6_killer_4 19 rfl rfl)
theorem dX6_killer_118 : decode cX6_killer 118 = .ok (.goto (-52), 3) := dk_167 255 204 (dk_at dksX6_killer_5 0 rfl rfl)
theorem dX6_killer_121 : decode cX6_killer 121 = .ok (.iconst (-1), 1) := dk_2 (dk_at dksX6_killer_5 3 rfl rfl)
theorem dX6_killer_122 : decode cX6_killer 122 = .ok (.ireturn, 1) := dk_172 (dk_at dksX6_killer_5 4 rfl rfl)
abbrev cX6_grave : ByteArray := prog_19_method_89_code
def yX6_grave : MethodName := ⟨RX6, "grave", "(I)I"⟩
def dkwX6_grave_5 : List UInt8 := [28, 172, 132, 2, 1, 167, 255, 144, 2, 172]
abbrev dktX6_grave_5 : List UInt8 := dkwX6_grave_5 ++ []
def dkwX6_grave_4 : List UInt8 := [21, 4, 28, 162, 0, 7, 4, 167, 0, 4, 3, 96, 62, 132, 4, 1, 167, 255, 185, 29, 27, 160, 0, 5]
abbrev dktX6_grave_4 : List UInt8 := dkwX6_grave_4 ++ dktX6_grave_5
def dkwX6_grave_3 : List UInt8 := [180, 0, 92, 28, 46, 163, 0, 25, 42, 180, 0, 92, 21, 4, 46, 42, 180, 0, 92, 28, 46, 160, 0, 13]
abbrev dktX6_grave_3 : List UInt8 := dkwX6_grave_3 ++ dktX6_grave_4
def dkwX6_grave_2 : List UInt8 := [46, 162, 0, 66, 29, 42, 180, 0, 86, 21, 4, 46, 2, 159, 0, 45, 42, 180, 0, 92, 21, 4, 46, 42]
abbrev dktX6_grave_2 : List UInt8 := dkwX6_grave_2 ++ dktX6_grave_3
def dkwX6_grave_1 : List UInt8 := [180, 0, 86, 28, 46, 2, 160, 0, 6, 167, 0, 89, 3, 62, 3, 54, 4, 21, 4, 42, 180, 0, 23, 4]
abbrev dktX6_grave_1 : List UInt8 := dkwX6_grave_1 ++ dktX6_grave_2
def dkwX6_grave_0 : List UInt8 := [42, 3, 181, 0, 132, 42, 182, 1, 119, 87, 3, 61, 28, 42, 180, 0, 23, 4, 46, 162, 0, 108, 42]
abbrev dktX6_grave_0 : List UInt8 := dkwX6_grave_0 ++ dktX6_grave_1
theorem dksX6_grave_0 : cX6_grave.data.toList.drop 0 = dktX6_grave_0 := by decide +kernel
theorem dksX6_grave_1 : cX6_grave.data.toList.drop 23 = dktX6_grave_1 := dk_seg dksX6_grave_0 23 rfl rfl
theorem dksX6_grave_2 : cX6_grave.data.toList.drop 47 = dktX6_grave_2 := dk_seg dksX6_grave_1 24 rfl rfl
theorem dksX6_grave_3 : cX6_grave.data.toList.drop 71 = dktX6_grave_3 := dk_seg dksX6_grave_2 24 rfl rfl
theorem dksX6_grave_4 : cX6_grave.data.toList.drop 95 = dktX6_grave_4 := dk_seg dksX6_grave_3 24 rfl rfl
theorem dksX6_grave_5 : cX6_grave.data.toList.drop 119 = dktX6_grave_5 := dk_seg dksX6_grave_4 24 rfl rfl
theorem dX6_grave_0 : decode cX6_grave 0 = .ok (.aload_n 0, 1) := dk_42 (dk_at dksX6_grave_0 0 rfl rfl)
theorem dX6_grave_1 : decode cX6_grave 1 = .ok (.iconst 0, 1) := dk_3 (dk_at dksX6_grave_0 1 rfl rfl)
theorem dX6_grave_2 : decode cX6_grave 2 = .ok (.putfield 132, 3) := dk_181 0 132 (dk_at dksX6_grave_0 2 rfl rfl)
theorem dX6_grave_5 : decode cX6_grave 5 = .ok (.aload_n 0, 1) := dk_42 (dk_at dksX6_grave_0 5 rfl rfl)
theorem dX6_grave_6 : decode cX6_grave 6 = .ok (.invokevirtual 375, 3) := dk_182 1 119 (dk_at dksX6_grave_0 6 rfl rfl)
theorem dX6_grave_9 : decode cX6_grave 9 = .ok (.pop, 1) := dk_87 (dk_at dksX6_grave_0 9 rfl rfl)
theorem dX6_grave_10 : decode cX6_grave 10 = .ok (.iconst 0, 1) := dk_3 (dk_at dksX6_grave_0 10 rfl rfl)
theorem dX6_grave_11 : decode cX6_grave 11 = .ok (.istore_n 2, 1) := dk_61 (dk_at dksX6_grave_0 11 rfl rfl)
theorem dX6_grave_12 : decode cX6_grave 12 = .ok (.iload_n 2, 1) := dk_28 (dk_at dksX6_grave_0 12 rfl rfl)
theorem dX6_grave_13 : decode cX6_grave 13 = .ok (.aload_n 0, 1) := dk_42 (dk_at dksX6_grave_0 13 rfl rfl)
theorem dX6_grave_14 : decode cX6_grave 14 = .ok (.getfield 23, 3) := dk_180 0 23 (dk_at dksX6_grave_0 14 rfl rfl)
theorem dX6_grave_17 : decode cX6_grave 17 = .ok (.iconst 1, 1) := dk_4 (dk_at dksX6_grave_0 17 rfl rfl)
theorem dX6_grave_18 : decode cX6_grave 18 = .ok (.iaload, 1) := dk_46 (dk_at dksX6_grave_0 18 rfl rfl)
theorem dX6_grave_19 : decode cX6_grave 19 = .ok (.if_icmp .ge 108, 3) := dk_162 0 108 (dk_at dksX6_grave_0 19 rfl rfl)
theorem dX6_grave_22 : decode cX6_grave 22 = .ok (.aload_n 0, 1) := dk_42 (dk_at dksX6_grave_0 22 rfl rfl)
theorem dX6_grave_23 : decode cX6_grave 23 = .ok (.getfield 86, 3) := dk_180 0 86 (dk_at dksX6_grave_1 0 rfl rfl)
theorem dX6_grave_26 : decode cX6_grave 26 = .ok (.iload_n 2, 1) := dk_28 (dk_at dksX6_grave_1 3 rfl rfl)
theorem dX6_grave_27 : decode cX6_grave 27 = .ok (.iaload, 1) := dk_46 (dk_at dksX6_grave_1 4 rfl rfl)
theorem dX6_grave_28 : decode cX6_grave 28 = .ok (.iconst (-1), 1) := dk_2 (dk_at dksX6_grave_1 5 rfl rfl)
theorem dX6_grave_29 : decode cX6_grave 29 = .ok (.if_icmp .ne 6, 3) := dk_160 0 6 (dk_at dksX6_grave_1 6 rfl rfl)
theorem dX6_grave_32 : decode cX6_grave 32 = .ok (.goto 89, 3) := dk_167 0 89 (dk_at dksX6_grave_1 9 rfl rfl)
theorem dX6_grave_35 : decode cX6_grave 35 = .ok (.iconst 0, 1) := dk_3 (dk_at dksX6_grave_1 12 rfl rfl)
theorem dX6_grave_36 : decode cX6_grave 36 = .ok (.istore_n 3, 1) := dk_62 (dk_at dksX6_grave_1 13 rfl rfl)
theorem dX6_grave_37 : decode cX6_grave 37 = .ok (.iconst 0, 1) := dk_3 (dk_at dksX6_grave_1 14 rfl rfl)
theorem dX6_grave_38 : decode cX6_grave 38 = .ok (.istore 4, 2) := dk_54 4 (dk_at dksX6_grave_1 15 rfl rfl)
theorem dX6_grave_40 : decode cX6_grave 40 = .ok (.iload 4, 2) := dk_21 4 (dk_at dksX6_grave_1 17 rfl rfl)
theorem dX6_grave_42 : decode cX6_grave 42 = .ok (.aload_n 0, 1) := dk_42 (dk_at dksX6_grave_1 19 rfl rfl)
theorem dX6_grave_43 : decode cX6_grave 43 = .ok (.getfield 23, 3) := dk_180 0 23 (dk_at dksX6_grave_1 20 rfl rfl)
theorem dX6_grave_46 : decode cX6_grave 46 = .ok (.iconst 1, 1) := dk_4 (dk_at dksX6_grave_1 23 rfl rfl)
theorem dX6_grave_47 : decode cX6_grave 47 = .ok (.iaload, 1) := dk_46 (dk_at dksX6_grave_2 0 rfl rfl)
theorem dX6_grave_48 : decode cX6_grave 48 = .ok (.if_icmp .ge 66, 3) := dk_162 0 66 (dk_at dksX6_grave_2 1 rfl rfl)
theorem dX6_grave_51 : decode cX6_grave 51 = .ok (.iload_n 3, 1) := dk_29 (dk_at dksX6_grave_2 4 rfl rfl)
theorem dX6_grave_52 : decode cX6_grave 52 = .ok (.aload_n 0, 1) := dk_42 (dk_at dksX6_grave_2 5 rfl rfl)
theorem dX6_grave_53 : decode cX6_grave 53 = .ok (.getfield 86, 3) := dk_180 0 86 (dk_at dksX6_grave_2 6 rfl rfl)
theorem dX6_grave_56 : decode cX6_grave 56 = .ok (.iload 4, 2) := dk_21 4 (dk_at dksX6_grave_2 9 rfl rfl)
theorem dX6_grave_58 : decode cX6_grave 58 = .ok (.iaload, 1) := dk_46 (dk_at dksX6_grave_2 11 rfl rfl)
theorem dX6_grave_59 : decode cX6_grave 59 = .ok (.iconst (-1), 1) := dk_2 (dk_at dksX6_grave_2 12 rfl rfl)
theorem dX6_grave_60 : decode cX6_grave 60 = .ok (.if_icmp .eq 45, 3) := dk_159 0 45 (dk_at dksX6_grave_2 13 rfl rfl)
theorem dX6_grave_63 : decode cX6_grave 63 = .ok (.aload_n 0, 1) := dk_42 (dk_at dksX6_grave_2 16 rfl rfl)
theorem dX6_grave_64 : decode cX6_grave 64 = .ok (.getfield 92, 3) := dk_180 0 92 (dk_at dksX6_grave_2 17 rfl rfl)
theorem dX6_grave_67 : decode cX6_grave 67 = .ok (.iload 4, 2) := dk_21 4 (dk_at dksX6_grave_2 20 rfl rfl)
theorem dX6_grave_69 : decode cX6_grave 69 = .ok (.iaload, 1) := dk_46 (dk_at dksX6_grave_2 22 rfl rfl)
theorem dX6_grave_70 : decode cX6_grave 70 = .ok (.aload_n 0, 1) := dk_42 (dk_at dksX6_grave_2 23 rfl rfl)
theorem dX6_grave_71 : decode cX6_grave 71 = .ok (.getfield 92, 3) := dk_180 0 92 (dk_at dksX6_grave_3 0 rfl rfl)
theorem dX6_grave_74 : decode cX6_grave 74 = .ok (.iload_n 2, 1) := dk_28 (dk_at dksX6_grave_3 3 rfl rfl)
theorem dX6_grave_75 : decode cX6_grave 75 = .ok (.iaload, 1) := dk_46 (dk_at dksX6_grave_3 4 rfl rfl)
theorem dX6_grave_76 : decode cX6_grave 76 = .ok (.if_icmp .gt 25, 3) := dk_163 0 25 (dk_at dksX6_grave_3 5 rfl rfl)
theorem dX6_grave_79 : decode cX6_grave 79 = .ok (.aload_n 0, 1) := dk_42 (dk_at dksX6_grave_3 8 rfl rfl)
theorem dX6_grave_80 : decode cX6_grave 80 = .ok (.getfield 92, 3) := dk_180 0 92 (dk_at dksX6_grave_3 9 rfl rfl)
theorem dX6_grave_83 : decode cX6_grave 83 = .ok (.iload 4, 2) := dk_21 4 (dk_at dksX6_grave_3 12 rfl rfl)
theorem dX6_grave_85 : decode cX6_grave 85 = .ok (.iaload, 1) := dk_46 (dk_at dksX6_grave_3 14 rfl rfl)
theorem dX6_grave_86 : decode cX6_grave 86 = .ok (.aload_n 0, 1) := dk_42 (dk_at dksX6_grave_3 15 rfl rfl)
theorem dX6_grave_87 : decode cX6_grave 87 = .ok (.getfield 92, 3) := dk_180 0 92 (dk_at dksX6_grave_3 16 rfl rfl)
theorem dX6_grave_90 : decode cX6_grave 90 = .ok (.iload_n 2, 1) := dk_28 (dk_at dksX6_grave_3 19 rfl rfl)
theorem dX6_grave_91 : decode cX6_grave 91 = .ok (.iaload, 1) := dk_46 (dk_at dksX6_grave_3 20 rfl rfl)
theorem dX6_grave_92 : decode cX6_grave 92 = .ok (.if_icmp .ne 13, 3) := dk_160 0 13 (dk_at dksX6_grave_3 21 rfl rfl)
theorem dX6_grave_95 : decode cX6_grave 95 = .ok (.iload 4, 2) := dk_21 4 (dk_at dksX6_grave_4 0 rfl rfl)
theorem dX6_grave_97 : decode cX6_grave 97 = .ok (.iload_n 2, 1) := dk_28 (dk_at dksX6_grave_4 2 rfl rfl)
theorem dX6_grave_98 : decode cX6_grave 98 = .ok (.if_icmp .ge 7, 3) := dk_162 0 7 (dk_at dksX6_grave_4 3 rfl rfl)
theorem dX6_grave_101 : decode cX6_grave 101 = .ok (.iconst 1, 1) := dk_4 (dk_at dksX6_grave_4 6 rfl rfl)
theorem dX6_grave_102 : decode cX6_grave 102 = .ok (.goto 4, 3) := dk_167 0 4 (dk_at dksX6_grave_4 7 rfl rfl)
theorem dX6_grave_105 : decode cX6_grave 105 = .ok (.iconst 0, 1) := dk_3 (dk_at dksX6_grave_4 10 rfl rfl)
theorem dX6_grave_106 : decode cX6_grave 106 = .ok (.iadd, 1) := dk_96 (dk_at dksX6_grave_4 11 rfl rfl)
theorem dX6_grave_107 : decode cX6_grave 107 = .ok (.istore_n 3, 1) := dk_62 (dk_at dksX6_grave_4 12 rfl rfl)
theorem dX6_grave_108 : decode cX6_grave 108 = .ok (.iinc 4 1, 3) := dk_132 4 1 (dk_at dksX6_grave_4 13 rfl rfl)
theorem dX6_grave_111 : decode cX6_grave 111 = .ok (.goto (-71), 3) := dk_167 255 185 (dk_at dksX6_grave_4 16 rfl rfl)
theorem dX6_grave_114 : decode cX6_grave 114 = .ok (.iload_n 3, 1) := dk_29 (dk_at dksX6_grave_4 19 rfl rfl)
theorem dX6_grave_115 : decode cX6_grave 115 = .ok (.iload_n 1, 1) := dk_27 (dk_at dksX6_grave_4 20 rfl rfl)
theorem dX6_grave_116 : decode cX6_grave 116 = .ok (.if_icmp .ne 5, 3) := dk_160 0 5 (dk_at dksX6_grave_4 21 rfl rfl)
theorem dX6_grave_119 : decode cX6_grave 119 = .ok (.iload_n 2, 1) := dk_28 (dk_at dksX6_grave_5 0 rfl rfl)
theorem dX6_grave_120 : decode cX6_grave 120 = .ok (.ireturn, 1) := dk_172 (dk_at dksX6_grave_5 1 rfl rfl)
theorem dX6_grave_121 : decode cX6_grave 121 = .ok (.iinc 2 1, 3) := dk_132 2 1 (dk_at dksX6_grave_5 2 rfl rfl)
theorem dX6_grave_124 : decode cX6_grave 124 = .ok (.goto (-112), 3) := dk_167 255 144 (dk_at dksX6_grave_5 5 rfl rfl)
theorem dX6_grave_127 : decode cX6_grave 127 = .ok (.iconst (-1), 1) := dk_2 (dk_at dksX6_grave_5 8 rfl rfl)
theorem dX6_grave_128 : decode cX6_grave 128 = .ok (.ireturn, 1) := dk_172 (dk_at dksX6_grave_5 9 rfl rfl)
abbrev cX6_canon : ByteArray := prog_19_method_90_code
def yX6_canon : MethodName := ⟨RX6, "canon", "(I)I"⟩
def dkwX6_canon_4 : List UInt8 := [132, 4, 1, 167, 255, 200, 29, 172]
abbrev dktX6_canon_4 : List UInt8 := dkwX6_canon_4 ++ []
def dkwX6_canon_3 : List UInt8 := [161, 0, 20, 42, 180, 0, 95, 21, 4, 46, 154, 0, 10, 4, 21, 4, 120, 167, 0, 4, 3, 128, 62]
abbrev dktX6_canon_3 : List UInt8 := dkwX6_canon_3 ++ dktX6_canon_4
def dkwX6_canon_2 : List UInt8 := [4, 46, 162, 0, 51, 29, 28, 21, 4, 122, 4, 126, 4, 160, 0, 31, 42, 180, 0, 92, 21, 4, 46, 27]
abbrev dktX6_canon_2 : List UInt8 := dkwX6_canon_2 ++ dktX6_canon_3
def dkwX6_canon_1 : List UInt8 := [182, 0, 233, 153, 0, 5, 3, 172, 42, 182, 1, 119, 61, 3, 62, 3, 54, 4, 21, 4, 42, 180, 0, 23]
abbrev dktX6_canon_1 : List UInt8 := dkwX6_canon_1 ++ dktX6_canon_2
def dkwX6_canon_0 : List UInt8 := [42, 3, 181, 0, 132, 42, 27, 3, 16, 52, 184, 0, 166, 154, 0, 7, 4, 167, 0, 4, 3, 4, 4]
abbrev dktX6_canon_0 : List UInt8 := dkwX6_canon_0 ++ dktX6_canon_1
theorem dksX6_canon_0 : cX6_canon.data.toList.drop 0 = dktX6_canon_0 := by decide +kernel
theorem dksX6_canon_1 : cX6_canon.data.toList.drop 23 = dktX6_canon_1 := dk_seg dksX6_canon_0 23 rfl rfl
theorem dksX6_canon_2 : cX6_canon.data.toList.drop 47 = dktX6_canon_2 := dk_seg dksX6_canon_1 24 rfl rfl
theorem dksX6_canon_3 : cX6_canon.data.toList.drop 71 = dktX6_canon_3 := dk_seg dksX6_canon_2 24 rfl rfl
theorem dksX6_canon_4 : cX6_canon.data.toList.drop 94 = dktX6_canon_4 := dk_seg dksX6_canon_3 23 rfl rfl
theorem dX6_canon_0 : decode cX6_canon 0 = .ok (.aload_n 0, 1) := dk_42 (dk_at dksX6_canon_0 0 rfl rfl)
theorem dX6_canon_1 : decode cX6_canon 1 = .ok (.iconst 0, 1) := dk_3 (dk_at dksX6_canon_0 1 rfl rfl)
theorem dX6_canon_2 : decode cX6_canon 2 = .ok (.putfield 132, 3) := dk_181 0 132 (dk_at dksX6_canon_0 2 rfl rfl)
theorem dX6_canon_5 : decode cX6_canon 5 = .ok (.aload_n 0, 1) := dk_42 (dk_at dksX6_canon_0 5 rfl rfl)
theorem dX6_canon_6 : decode cX6_canon 6 = .ok (.iload_n 1, 1) := dk_27 (dk_at dksX6_canon_0 6 rfl rfl)
theorem dX6_canon_7 : decode cX6_canon 7 = .ok (.iconst 0, 1) := dk_3 (dk_at dksX6_canon_0 7 rfl rfl)
theorem dX6_canon_8 : decode cX6_canon 8 = .ok (.bipush 52, 2) := dk_16 52 (dk_at dksX6_canon_0 8 rfl rfl)
theorem dX6_canon_10 : decode cX6_canon 10 = .ok (.invokestatic 166, 3) := dk_184 0 166 (dk_at dksX6_canon_0 10 rfl rfl)
theorem dX6_canon_13 : decode cX6_canon 13 = .ok (.ifCond .ne 7, 3) := dk_154 0 7 (dk_at dksX6_canon_0 13 rfl rfl)
theorem dX6_canon_16 : decode cX6_canon 16 = .ok (.iconst 1, 1) := dk_4 (dk_at dksX6_canon_0 16 rfl rfl)
theorem dX6_canon_17 : decode cX6_canon 17 = .ok (.goto 4, 3) := dk_167 0 4 (dk_at dksX6_canon_0 17 rfl rfl)
theorem dX6_canon_20 : decode cX6_canon 20 = .ok (.iconst 0, 1) := dk_3 (dk_at dksX6_canon_0 20 rfl rfl)
theorem dX6_canon_21 : decode cX6_canon 21 = .ok (.iconst 1, 1) := dk_4 (dk_at dksX6_canon_0 21 rfl rfl)
theorem dX6_canon_22 : decode cX6_canon 22 = .ok (.iconst 1, 1) := dk_4 (dk_at dksX6_canon_0 22 rfl rfl)
theorem dX6_canon_23 : decode cX6_canon 23 = .ok (.invokevirtual 233, 3) := dk_182 0 233 (dk_at dksX6_canon_1 0 rfl rfl)
theorem dX6_canon_26 : decode cX6_canon 26 = .ok (.ifCond .eq 5, 3) := dk_153 0 5 (dk_at dksX6_canon_1 3 rfl rfl)
theorem dX6_canon_29 : decode cX6_canon 29 = .ok (.iconst 0, 1) := dk_3 (dk_at dksX6_canon_1 6 rfl rfl)
theorem dX6_canon_30 : decode cX6_canon 30 = .ok (.ireturn, 1) := dk_172 (dk_at dksX6_canon_1 7 rfl rfl)
theorem dX6_canon_31 : decode cX6_canon 31 = .ok (.aload_n 0, 1) := dk_42 (dk_at dksX6_canon_1 8 rfl rfl)
theorem dX6_canon_32 : decode cX6_canon 32 = .ok (.invokevirtual 375, 3) := dk_182 1 119 (dk_at dksX6_canon_1 9 rfl rfl)
theorem dX6_canon_35 : decode cX6_canon 35 = .ok (.istore_n 2, 1) := dk_61 (dk_at dksX6_canon_1 12 rfl rfl)
theorem dX6_canon_36 : decode cX6_canon 36 = .ok (.iconst 0, 1) := dk_3 (dk_at dksX6_canon_1 13 rfl rfl)
theorem dX6_canon_37 : decode cX6_canon 37 = .ok (.istore_n 3, 1) := dk_62 (dk_at dksX6_canon_1 14 rfl rfl)
theorem dX6_canon_38 : decode cX6_canon 38 = .ok (.iconst 0, 1) := dk_3 (dk_at dksX6_canon_1 15 rfl rfl)
theorem dX6_canon_39 : decode cX6_canon 39 = .ok (.istore 4, 2) := dk_54 4 (dk_at dksX6_canon_1 16 rfl rfl)
theorem dX6_canon_41 : decode cX6_canon 41 = .ok (.iload 4, 2) := dk_21 4 (dk_at dksX6_canon_1 18 rfl rfl)
theorem dX6_canon_43 : decode cX6_canon 43 = .ok (.aload_n 0, 1) := dk_42 (dk_at dksX6_canon_1 20 rfl rfl)
theorem dX6_canon_44 : decode cX6_canon 44 = .ok (.getfield 23, 3) := dk_180 0 23 (dk_at dksX6_canon_1 21 rfl rfl)
theorem dX6_canon_47 : decode cX6_canon 47 = .ok (.iconst 1, 1) := dk_4 (dk_at dksX6_canon_2 0 rfl rfl)
theorem dX6_canon_48 : decode cX6_canon 48 = .ok (.iaload, 1) := dk_46 (dk_at dksX6_canon_2 1 rfl rfl)
theorem dX6_canon_49 : decode cX6_canon 49 = .ok (.if_icmp .ge 51, 3) := dk_162 0 51 (dk_at dksX6_canon_2 2 rfl rfl)
theorem dX6_canon_52 : decode cX6_canon 52 = .ok (.iload_n 3, 1) := dk_29 (dk_at dksX6_canon_2 5 rfl rfl)
theorem dX6_canon_53 : decode cX6_canon 53 = .ok (.iload_n 2, 1) := dk_28 (dk_at dksX6_canon_2 6 rfl rfl)
theorem dX6_canon_54 : decode cX6_canon 54 = .ok (.iload 4, 2) := dk_21 4 (dk_at dksX6_canon_2 7 rfl rfl)
theorem dX6_canon_56 : decode cX6_canon 56 = .ok (.ishr, 1) := dk_122 (dk_at dksX6_canon_2 9 rfl rfl)
theorem dX6_canon_57 : decode cX6_canon 57 = .ok (.iconst 1, 1) := dk_4 (dk_at dksX6_canon_2 10 rfl rfl)
theorem dX6_canon_58 : decode cX6_canon 58 = .ok (.iand, 1) := dk_126 (dk_at dksX6_canon_2 11 rfl rfl)
theorem dX6_canon_59 : decode cX6_canon 59 = .ok (.iconst 1, 1) := dk_4 (dk_at dksX6_canon_2 12 rfl rfl)
theorem dX6_canon_60 : decode cX6_canon 60 = .ok (.if_icmp .ne 31, 3) := dk_160 0 31 (dk_at dksX6_canon_2 13 rfl rfl)
theorem dX6_canon_63 : decode cX6_canon 63 = .ok (.aload_n 0, 1) := dk_42 (dk_at dksX6_canon_2 16 rfl rfl)
theorem dX6_canon_64 : decode cX6_canon 64 = .ok (.getfield 92, 3) := dk_180 0 92 (dk_at dksX6_canon_2 17 rfl rfl)
theorem dX6_canon_67 : decode cX6_canon 67 = .ok (.iload 4, 2) := dk_21 4 (dk_at dksX6_canon_2 20 rfl rfl)
theorem dX6_canon_69 : decode cX6_canon 69 = .ok (.iaload, 1) := dk_46 (dk_at dksX6_canon_2 22 rfl rfl)
theorem dX6_canon_70 : decode cX6_canon 70 = .ok (.iload_n 1, 1) := dk_27 (dk_at dksX6_canon_2 23 rfl rfl)
theorem dX6_canon_71 : decode cX6_canon 71 = .ok (.if_icmp .lt 20, 3) := dk_161 0 20 (dk_at dksX6_canon_3 0 rfl rfl)
theorem dX6_canon_74 : decode cX6_canon 74 = .ok (.aload_n 0, 1) := dk_42 (dk_at dksX6_canon_3 3 rfl rfl)
theorem dX6_canon_75 : decode cX6_canon 75 = .ok (.getfield 95, 3) := dk_180 0 95 (dk_at dksX6_canon_3 4 rfl rfl)
theorem dX6_canon_78 : decode cX6_canon 78 = .ok (.iload 4, 2) := dk_21 4 (dk_at dksX6_canon_3 7 rfl rfl)
theorem dX6_canon_80 : decode cX6_canon 80 = .ok (.iaload, 1) := dk_46 (dk_at dksX6_canon_3 9 rfl rfl)
theorem dX6_canon_81 : decode cX6_canon 81 = .ok (.ifCond .ne 10, 3) := dk_154 0 10 (dk_at dksX6_canon_3 10 rfl rfl)
theorem dX6_canon_84 : decode cX6_canon 84 = .ok (.iconst 1, 1) := dk_4 (dk_at dksX6_canon_3 13 rfl rfl)
theorem dX6_canon_85 : decode cX6_canon 85 = .ok (.iload 4, 2) := dk_21 4 (dk_at dksX6_canon_3 14 rfl rfl)
theorem dX6_canon_87 : decode cX6_canon 87 = .ok (.ishl, 1) := dk_120 (dk_at dksX6_canon_3 16 rfl rfl)
theorem dX6_canon_88 : decode cX6_canon 88 = .ok (.goto 4, 3) := dk_167 0 4 (dk_at dksX6_canon_3 17 rfl rfl)
theorem dX6_canon_91 : decode cX6_canon 91 = .ok (.iconst 0, 1) := dk_3 (dk_at dksX6_canon_3 20 rfl rfl)
theorem dX6_canon_92 : decode cX6_canon 92 = .ok (.ior, 1) := dk_128 (dk_at dksX6_canon_3 21 rfl rfl)
theorem dX6_canon_93 : decode cX6_canon 93 = .ok (.istore_n 3, 1) := dk_62 (dk_at dksX6_canon_3 22 rfl rfl)
theorem dX6_canon_94 : decode cX6_canon 94 = .ok (.iinc 4 1, 3) := dk_132 4 1 (dk_at dksX6_canon_4 0 rfl rfl)
theorem dX6_canon_97 : decode cX6_canon 97 = .ok (.goto (-56), 3) := dk_167 255 200 (dk_at dksX6_canon_4 3 rfl rfl)
theorem dX6_canon_100 : decode cX6_canon 100 = .ok (.iload_n 3, 1) := dk_29 (dk_at dksX6_canon_4 6 rfl rfl)
theorem dX6_canon_101 : decode cX6_canon 101 = .ok (.ireturn, 1) := dk_172 (dk_at dksX6_canon_4 7 rfl rfl)
abbrev cX6_ends : ByteArray := prog_19_method_93_code
def yX6_ends : MethodName := ⟨RX6, "ends", "(I)I"⟩
def dkwX6_ends_4 : List UInt8 := [46, 120, 4, 100, 42, 180, 1, 137, 2, 130, 126, 172]
abbrev dktX6_ends_4 : List UInt8 := dkwX6_ends_4 ++ []
def dkwX6_ends_3 : List UInt8 := [180, 1, 131, 167, 0, 32, 27, 4, 160, 0, 10, 42, 180, 1, 134, 167, 0, 20, 4, 42, 180, 0, 23, 4]
abbrev dktX6_ends_3 : List UInt8 := dkwX6_ends_3 ++ dktX6_ends_4
def dkwX6_ends_2 : List UInt8 := [5, 182, 0, 233, 153, 0, 5, 3, 172, 42, 42, 180, 0, 23, 8, 46, 182, 1, 149, 27, 154, 0, 10, 42]
abbrev dktX6_ends_2 : List UInt8 := dkwX6_ends_2 ++ dktX6_ends_3
def dkwX6_ends_1 : List UInt8 := [182, 0, 233, 154, 0, 28, 42, 42, 180, 0, 23, 4, 46, 16, 7, 164, 0, 7, 4, 167, 0, 4, 3, 5]
abbrev dktX6_ends_1 : List UInt8 := dkwX6_ends_1 ++ dktX6_ends_2
def dkwX6_ends_0 : List UInt8 := [42, 3, 181, 0, 132, 42, 27, 3, 5, 184, 0, 166, 154, 0, 7, 4, 167, 0, 4, 3, 4, 4]
abbrev dktX6_ends_0 : List UInt8 := dkwX6_ends_0 ++ dktX6_ends_1
theorem dksX6_ends_0 : cX6_ends.data.toList.drop 0 = dktX6_ends_0 := by decide +kernel
theorem dksX6_ends_1 : cX6_ends.data.toList.drop 22 = dktX6_ends_1 := dk_seg dksX6_ends_0 22 rfl rfl
theorem dksX6_ends_2 : cX6_ends.data.toList.drop 46 = dktX6_ends_2 := dk_seg dksX6_ends_1 24 rfl rfl
theorem dksX6_ends_3 : cX6_ends.data.toList.drop 70 = dktX6_ends_3 := dk_seg dksX6_ends_2 24 rfl rfl
theorem dksX6_ends_4 : cX6_ends.data.toList.drop 94 = dktX6_ends_4 := dk_seg dksX6_ends_3 24 rfl rfl
theorem dX6_ends_0 : decode cX6_ends 0 = .ok (.aload_n 0, 1) := dk_42 (dk_at dksX6_ends_0 0 rfl rfl)
theorem dX6_ends_1 : decode cX6_ends 1 = .ok (.iconst 0, 1) := dk_3 (dk_at dksX6_ends_0 1 rfl rfl)
theorem dX6_ends_2 : decode cX6_ends 2 = .ok (.putfield 132, 3) := dk_181 0 132 (dk_at dksX6_ends_0 2 rfl rfl)
theorem dX6_ends_5 : decode cX6_ends 5 = .ok (.aload_n 0, 1) := dk_42 (dk_at dksX6_ends_0 5 rfl rfl)
theorem dX6_ends_6 : decode cX6_ends 6 = .ok (.iload_n 1, 1) := dk_27 (dk_at dksX6_ends_0 6 rfl rfl)
theorem dX6_ends_7 : decode cX6_ends 7 = .ok (.iconst 0, 1) := dk_3 (dk_at dksX6_ends_0 7 rfl rfl)
theorem dX6_ends_8 : decode cX6_ends 8 = .ok (.iconst 2, 1) := dk_5 (dk_at dksX6_ends_0 8 rfl rfl)
theorem dX6_ends_9 : decode cX6_ends 9 = .ok (.invokestatic 166, 3) := dk_184 0 166 (dk_at dksX6_ends_0 9 rfl rfl)
theorem dX6_ends_12 : decode cX6_ends 12 = .ok (.ifCond .ne 7, 3) := dk_154 0 7 (dk_at dksX6_ends_0 12 rfl rfl)
theorem dX6_ends_15 : decode cX6_ends 15 = .ok (.iconst 1, 1) := dk_4 (dk_at dksX6_ends_0 15 rfl rfl)
theorem dX6_ends_16 : decode cX6_ends 16 = .ok (.goto 4, 3) := dk_167 0 4 (dk_at dksX6_ends_0 16 rfl rfl)
theorem dX6_ends_19 : decode cX6_ends 19 = .ok (.iconst 0, 1) := dk_3 (dk_at dksX6_ends_0 19 rfl rfl)
theorem dX6_ends_20 : decode cX6_ends 20 = .ok (.iconst 1, 1) := dk_4 (dk_at dksX6_ends_0 20 rfl rfl)
theorem dX6_ends_21 : decode cX6_ends 21 = .ok (.iconst 1, 1) := dk_4 (dk_at dksX6_ends_0 21 rfl rfl)
theorem dX6_ends_22 : decode cX6_ends 22 = .ok (.invokevirtual 233, 3) := dk_182 0 233 (dk_at dksX6_ends_1 0 rfl rfl)
theorem dX6_ends_25 : decode cX6_ends 25 = .ok (.ifCond .ne 28, 3) := dk_154 0 28 (dk_at dksX6_ends_1 3 rfl rfl)
theorem dX6_ends_28 : decode cX6_ends 28 = .ok (.aload_n 0, 1) := dk_42 (dk_at dksX6_ends_1 6 rfl rfl)
theorem dX6_ends_29 : decode cX6_ends 29 = .ok (.aload_n 0, 1) := dk_42 (dk_at dksX6_ends_1 7 rfl rfl)
theorem dX6_ends_30 : decode cX6_ends 30 = .ok (.getfield 23, 3) := dk_180 0 23 (dk_at dksX6_ends_1 8 rfl rfl)
theorem dX6_ends_33 : decode cX6_ends 33 = .ok (.iconst 1, 1) := dk_4 (dk_at dksX6_ends_1 11 rfl rfl)
theorem dX6_ends_34 : decode cX6_ends 34 = .ok (.iaload, 1) := dk_46 (dk_at dksX6_ends_1 12 rfl rfl)
theorem dX6_ends_35 : decode cX6_ends 35 = .ok (.bipush 7, 2) := dk_16 7 (dk_at dksX6_ends_1 13 rfl rfl)
theorem dX6_ends_37 : decode cX6_ends 37 = .ok (.if_icmp .le 7, 3) := dk_164 0 7 (dk_at dksX6_ends_1 15 rfl rfl)
theorem dX6_ends_40 : decode cX6_ends 40 = .ok (.iconst 1, 1) := dk_4 (dk_at dksX6_ends_1 18 rfl rfl)
theorem dX6_ends_41 : decode cX6_ends 41 = .ok (.goto 4, 3) := dk_167 0 4 (dk_at dksX6_ends_1 19 rfl rfl)
theorem dX6_ends_44 : decode cX6_ends 44 = .ok (.iconst 0, 1) := dk_3 (dk_at dksX6_ends_1 22 rfl rfl)
theorem dX6_ends_45 : decode cX6_ends 45 = .ok (.iconst 2, 1) := dk_5 (dk_at dksX6_ends_1 23 rfl rfl)
theorem dX6_ends_46 : decode cX6_ends 46 = .ok (.iconst 2, 1) := dk_5 (dk_at dksX6_ends_2 0 rfl rfl)
theorem dX6_ends_47 : decode cX6_ends 47 = .ok (.invokevirtual 233, 3) := dk_182 0 233 (dk_at dksX6_ends_2 1 rfl rfl)
theorem dX6_ends_50 : decode cX6_ends 50 = .ok (.ifCond .eq 5, 3) := dk_153 0 5 (dk_at dksX6_ends_2 4 rfl rfl)
theorem dX6_ends_53 : decode cX6_ends 53 = .ok (.iconst 0, 1) := dk_3 (dk_at dksX6_ends_2 7 rfl rfl)
theorem dX6_ends_54 : decode cX6_ends 54 = .ok (.ireturn, 1) := dk_172 (dk_at dksX6_ends_2 8 rfl rfl)
theorem dX6_ends_55 : decode cX6_ends 55 = .ok (.aload_n 0, 1) := dk_42 (dk_at dksX6_ends_2 9 rfl rfl)
theorem dX6_ends_56 : decode cX6_ends 56 = .ok (.aload_n 0, 1) := dk_42 (dk_at dksX6_ends_2 10 rfl rfl)
theorem dX6_ends_57 : decode cX6_ends 57 = .ok (.getfield 23, 3) := dk_180 0 23 (dk_at dksX6_ends_2 11 rfl rfl)
theorem dX6_ends_60 : decode cX6_ends 60 = .ok (.iconst 5, 1) := dk_8 (dk_at dksX6_ends_2 14 rfl rfl)
theorem dX6_ends_61 : decode cX6_ends 61 = .ok (.iaload, 1) := dk_46 (dk_at dksX6_ends_2 15 rfl rfl)
theorem dX6_ends_62 : decode cX6_ends 62 = .ok (.invokevirtual 405, 3) := dk_182 1 149 (dk_at dksX6_ends_2 16 rfl rfl)
theorem dX6_ends_65 : decode cX6_ends 65 = .ok (.iload_n 1, 1) := dk_27 (dk_at dksX6_ends_2 19 rfl rfl)
theorem dX6_ends_66 : decode cX6_ends 66 = .ok (.ifCond .ne 10, 3) := dk_154 0 10 (dk_at dksX6_ends_2 20 rfl rfl)
theorem dX6_ends_69 : decode cX6_ends 69 = .ok (.aload_n 0, 1) := dk_42 (dk_at dksX6_ends_2 23 rfl rfl)
theorem dX6_ends_70 : decode cX6_ends 70 = .ok (.getfield 387, 3) := dk_180 1 131 (dk_at dksX6_ends_3 0 rfl rfl)
theorem dX6_ends_73 : decode cX6_ends 73 = .ok (.goto 32, 3) := dk_167 0 32 (dk_at dksX6_ends_3 3 rfl rfl)
theorem dX6_ends_76 : decode cX6_ends 76 = .ok (.iload_n 1, 1) := dk_27 (dk_at dksX6_ends_3 6 rfl rfl)
theorem dX6_ends_77 : decode cX6_ends 77 = .ok (.iconst 1, 1) := dk_4 (dk_at dksX6_ends_3 7 rfl rfl)
theorem dX6_ends_78 : decode cX6_ends 78 = .ok (.if_icmp .ne 10, 3) := dk_160 0 10 (dk_at dksX6_ends_3 8 rfl rfl)
theorem dX6_ends_81 : decode cX6_ends 81 = .ok (.aload_n 0, 1) := dk_42 (dk_at dksX6_ends_3 11 rfl rfl)
theorem dX6_ends_82 : decode cX6_ends 82 = .ok (.getfield 390, 3) := dk_180 1 134 (dk_at dksX6_ends_3 12 rfl rfl)
theorem dX6_ends_85 : decode cX6_ends 85 = .ok (.goto 20, 3) := dk_167 0 20 (dk_at dksX6_ends_3 15 rfl rfl)
theorem dX6_ends_88 : decode cX6_ends 88 = .ok (.iconst 1, 1) := dk_4 (dk_at dksX6_ends_3 18 rfl rfl)
theorem dX6_ends_89 : decode cX6_ends 89 = .ok (.aload_n 0, 1) := dk_42 (dk_at dksX6_ends_3 19 rfl rfl)
theorem dX6_ends_90 : decode cX6_ends 90 = .ok (.getfield 23, 3) := dk_180 0 23 (dk_at dksX6_ends_3 20 rfl rfl)
theorem dX6_ends_93 : decode cX6_ends 93 = .ok (.iconst 1, 1) := dk_4 (dk_at dksX6_ends_3 23 rfl rfl)
theorem dX6_ends_94 : decode cX6_ends 94 = .ok (.iaload, 1) := dk_46 (dk_at dksX6_ends_4 0 rfl rfl)
theorem dX6_ends_95 : decode cX6_ends 95 = .ok (.ishl, 1) := dk_120 (dk_at dksX6_ends_4 1 rfl rfl)
theorem dX6_ends_96 : decode cX6_ends 96 = .ok (.iconst 1, 1) := dk_4 (dk_at dksX6_ends_4 2 rfl rfl)
theorem dX6_ends_97 : decode cX6_ends 97 = .ok (.isub, 1) := dk_100 (dk_at dksX6_ends_4 3 rfl rfl)
theorem dX6_ends_98 : decode cX6_ends 98 = .ok (.aload_n 0, 1) := dk_42 (dk_at dksX6_ends_4 4 rfl rfl)
theorem dX6_ends_99 : decode cX6_ends 99 = .ok (.getfield 393, 3) := dk_180 1 137 (dk_at dksX6_ends_4 5 rfl rfl)
theorem dX6_ends_102 : decode cX6_ends 102 = .ok (.iconst (-1), 1) := dk_2 (dk_at dksX6_ends_4 8 rfl rfl)
theorem dX6_ends_103 : decode cX6_ends 103 = .ok (.ixor, 1) := dk_130 (dk_at dksX6_ends_4 9 rfl rfl)
theorem dX6_ends_104 : decode cX6_ends 104 = .ok (.iand, 1) := dk_126 (dk_at dksX6_ends_4 10 rfl rfl)
theorem dX6_ends_105 : decode cX6_ends 105 = .ok (.ireturn, 1) := dk_172 (dk_at dksX6_ends_4 11 rfl rfl)
abbrev cX6_allOrders : ByteArray := prog_19_method_92_code
def yX6_allOrders : MethodName := ⟨RX6, "allOrders", "(I)V"⟩
def dkwX6_allOrders_3 : List UInt8 := [181, 1, 140, 42, 2, 181, 1, 143, 42, 2, 181, 1, 146, 42, 3, 3, 27, 182, 1, 128, 177]
abbrev dktX6_allOrders_3 : List UInt8 := dkwX6_allOrders_3 ++ []
def dkwX6_allOrders_2 : List UInt8 := [180, 0, 23, 4, 46, 120, 4, 100, 181, 1, 134, 42, 3, 181, 1, 137, 42, 3, 181, 1, 131, 42, 3]
abbrev dktX6_allOrders_2 : List UInt8 := dkwX6_allOrders_2 ++ dktX6_allOrders_3
def dkwX6_allOrders_1 : List UInt8 := [28, 16, 7, 162, 0, 16, 42, 180, 0, 111, 28, 3, 79, 132, 2, 1, 167, 255, 240, 42, 4, 42]
abbrev dktX6_allOrders_1 : List UInt8 := dkwX6_allOrders_1 ++ dktX6_allOrders_2
def dkwX6_allOrders_0 : List UInt8 := [3, 61, 28, 17, 0, 128, 162, 0, 16, 42, 180, 0, 107, 28, 3, 84, 132, 2, 1, 167, 255, 239, 3, 61]
abbrev dktX6_allOrders_0 : List UInt8 := dkwX6_allOrders_0 ++ dktX6_allOrders_1
theorem dksX6_allOrders_0 : cX6_allOrders.data.toList.drop 0 = dktX6_allOrders_0 := by decide +kernel
theorem dksX6_allOrders_1 : cX6_allOrders.data.toList.drop 24 = dktX6_allOrders_1 := dk_seg dksX6_allOrders_0 24 rfl rfl
theorem dksX6_allOrders_2 : cX6_allOrders.data.toList.drop 46 = dktX6_allOrders_2 := dk_seg dksX6_allOrders_1 22 rfl rfl
theorem dksX6_allOrders_3 : cX6_allOrders.data.toList.drop 69 = dktX6_allOrders_3 := dk_seg dksX6_allOrders_2 23 rfl rfl
theorem dX6_allOrders_0 : decode cX6_allOrders 0 = .ok (.iconst 0, 1) := dk_3 (dk_at dksX6_allOrders_0 0 rfl rfl)
theorem dX6_allOrders_1 : decode cX6_allOrders 1 = .ok (.istore_n 2, 1) := dk_61 (dk_at dksX6_allOrders_0 1 rfl rfl)
theorem dX6_allOrders_2 : decode cX6_allOrders 2 = .ok (.iload_n 2, 1) := dk_28 (dk_at dksX6_allOrders_0 2 rfl rfl)
theorem dX6_allOrders_3 : decode cX6_allOrders 3 = .ok (.sipush 128, 3) := dk_17 0 128 (dk_at dksX6_allOrders_0 3 rfl rfl)
theorem dX6_allOrders_6 : decode cX6_allOrders 6 = .ok (.if_icmp .ge 16, 3) := dk_162 0 16 (dk_at dksX6_allOrders_0 6 rfl rfl)
theorem dX6_allOrders_9 : decode cX6_allOrders 9 = .ok (.aload_n 0, 1) := dk_42 (dk_at dksX6_allOrders_0 9 rfl rfl)
theorem dX6_allOrders_10 : decode cX6_allOrders 10 = .ok (.getfield 107, 3) := dk_180 0 107 (dk_at dksX6_allOrders_0 10 rfl rfl)
theorem dX6_allOrders_13 : decode cX6_allOrders 13 = .ok (.iload_n 2, 1) := dk_28 (dk_at dksX6_allOrders_0 13 rfl rfl)
theorem dX6_allOrders_14 : decode cX6_allOrders 14 = .ok (.iconst 0, 1) := dk_3 (dk_at dksX6_allOrders_0 14 rfl rfl)
theorem dX6_allOrders_15 : decode cX6_allOrders 15 = .ok (.bastore, 1) := dk_84 (dk_at dksX6_allOrders_0 15 rfl rfl)
theorem dX6_allOrders_16 : decode cX6_allOrders 16 = .ok (.iinc 2 1, 3) := dk_132 2 1 (dk_at dksX6_allOrders_0 16 rfl rfl)
theorem dX6_allOrders_19 : decode cX6_allOrders 19 = .ok (.goto (-17), 3) := dk_167 255 239 (dk_at dksX6_allOrders_0 19 rfl rfl)
theorem dX6_allOrders_22 : decode cX6_allOrders 22 = .ok (.iconst 0, 1) := dk_3 (dk_at dksX6_allOrders_0 22 rfl rfl)
theorem dX6_allOrders_23 : decode cX6_allOrders 23 = .ok (.istore_n 2, 1) := dk_61 (dk_at dksX6_allOrders_0 23 rfl rfl)
theorem dX6_allOrders_24 : decode cX6_allOrders 24 = .ok (.iload_n 2, 1) := dk_28 (dk_at dksX6_allOrders_1 0 rfl rfl)
theorem dX6_allOrders_25 : decode cX6_allOrders 25 = .ok (.bipush 7, 2) := dk_16 7 (dk_at dksX6_allOrders_1 1 rfl rfl)
theorem dX6_allOrders_27 : decode cX6_allOrders 27 = .ok (.if_icmp .ge 16, 3) := dk_162 0 16 (dk_at dksX6_allOrders_1 3 rfl rfl)
theorem dX6_allOrders_30 : decode cX6_allOrders 30 = .ok (.aload_n 0, 1) := dk_42 (dk_at dksX6_allOrders_1 6 rfl rfl)
theorem dX6_allOrders_31 : decode cX6_allOrders 31 = .ok (.getfield 111, 3) := dk_180 0 111 (dk_at dksX6_allOrders_1 7 rfl rfl)
theorem dX6_allOrders_34 : decode cX6_allOrders 34 = .ok (.iload_n 2, 1) := dk_28 (dk_at dksX6_allOrders_1 10 rfl rfl)
theorem dX6_allOrders_35 : decode cX6_allOrders 35 = .ok (.iconst 0, 1) := dk_3 (dk_at dksX6_allOrders_1 11 rfl rfl)
theorem dX6_allOrders_36 : decode cX6_allOrders 36 = .ok (.iastore, 1) := dk_79 (dk_at dksX6_allOrders_1 12 rfl rfl)
theorem dX6_allOrders_37 : decode cX6_allOrders 37 = .ok (.iinc 2 1, 3) := dk_132 2 1 (dk_at dksX6_allOrders_1 13 rfl rfl)
theorem dX6_allOrders_40 : decode cX6_allOrders 40 = .ok (.goto (-16), 3) := dk_167 255 240 (dk_at dksX6_allOrders_1 16 rfl rfl)
theorem dX6_allOrders_43 : decode cX6_allOrders 43 = .ok (.aload_n 0, 1) := dk_42 (dk_at dksX6_allOrders_1 19 rfl rfl)
theorem dX6_allOrders_44 : decode cX6_allOrders 44 = .ok (.iconst 1, 1) := dk_4 (dk_at dksX6_allOrders_1 20 rfl rfl)
theorem dX6_allOrders_45 : decode cX6_allOrders 45 = .ok (.aload_n 0, 1) := dk_42 (dk_at dksX6_allOrders_1 21 rfl rfl)
theorem dX6_allOrders_46 : decode cX6_allOrders 46 = .ok (.getfield 23, 3) := dk_180 0 23 (dk_at dksX6_allOrders_2 0 rfl rfl)
theorem dX6_allOrders_49 : decode cX6_allOrders 49 = .ok (.iconst 1, 1) := dk_4 (dk_at dksX6_allOrders_2 3 rfl rfl)
theorem dX6_allOrders_50 : decode cX6_allOrders 50 = .ok (.iaload, 1) := dk_46 (dk_at dksX6_allOrders_2 4 rfl rfl)
theorem dX6_allOrders_51 : decode cX6_allOrders 51 = .ok (.ishl, 1) := dk_120 (dk_at dksX6_allOrders_2 5 rfl rfl)
theorem dX6_allOrders_52 : decode cX6_allOrders 52 = .ok (.iconst 1, 1) := dk_4 (dk_at dksX6_allOrders_2 6 rfl rfl)
theorem dX6_allOrders_53 : decode cX6_allOrders 53 = .ok (.isub, 1) := dk_100 (dk_at dksX6_allOrders_2 7 rfl rfl)
theorem dX6_allOrders_54 : decode cX6_allOrders 54 = .ok (.putfield 390, 3) := dk_181 1 134 (dk_at dksX6_allOrders_2 8 rfl rfl)
theorem dX6_allOrders_57 : decode cX6_allOrders 57 = .ok (.aload_n 0, 1) := dk_42 (dk_at dksX6_allOrders_2 11 rfl rfl)
theorem dX6_allOrders_58 : decode cX6_allOrders 58 = .ok (.iconst 0, 1) := dk_3 (dk_at dksX6_allOrders_2 12 rfl rfl)
theorem dX6_allOrders_59 : decode cX6_allOrders 59 = .ok (.putfield 393, 3) := dk_181 1 137 (dk_at dksX6_allOrders_2 13 rfl rfl)
theorem dX6_allOrders_62 : decode cX6_allOrders 62 = .ok (.aload_n 0, 1) := dk_42 (dk_at dksX6_allOrders_2 16 rfl rfl)
theorem dX6_allOrders_63 : decode cX6_allOrders 63 = .ok (.iconst 0, 1) := dk_3 (dk_at dksX6_allOrders_2 17 rfl rfl)
theorem dX6_allOrders_64 : decode cX6_allOrders 64 = .ok (.putfield 387, 3) := dk_181 1 131 (dk_at dksX6_allOrders_2 18 rfl rfl)
theorem dX6_allOrders_67 : decode cX6_allOrders 67 = .ok (.aload_n 0, 1) := dk_42 (dk_at dksX6_allOrders_2 21 rfl rfl)
theorem dX6_allOrders_68 : decode cX6_allOrders 68 = .ok (.iconst 0, 1) := dk_3 (dk_at dksX6_allOrders_2 22 rfl rfl)
theorem dX6_allOrders_69 : decode cX6_allOrders 69 = .ok (.putfield 396, 3) := dk_181 1 140 (dk_at dksX6_allOrders_3 0 rfl rfl)
theorem dX6_allOrders_72 : decode cX6_allOrders 72 = .ok (.aload_n 0, 1) := dk_42 (dk_at dksX6_allOrders_3 3 rfl rfl)
theorem dX6_allOrders_73 : decode cX6_allOrders 73 = .ok (.iconst (-1), 1) := dk_2 (dk_at dksX6_allOrders_3 4 rfl rfl)
theorem dX6_allOrders_74 : decode cX6_allOrders 74 = .ok (.putfield 399, 3) := dk_181 1 143 (dk_at dksX6_allOrders_3 5 rfl rfl)
theorem dX6_allOrders_77 : decode cX6_allOrders 77 = .ok (.aload_n 0, 1) := dk_42 (dk_at dksX6_allOrders_3 8 rfl rfl)
theorem dX6_allOrders_78 : decode cX6_allOrders 78 = .ok (.iconst (-1), 1) := dk_2 (dk_at dksX6_allOrders_3 9 rfl rfl)
theorem dX6_allOrders_79 : decode cX6_allOrders 79 = .ok (.putfield 402, 3) := dk_181 1 146 (dk_at dksX6_allOrders_3 10 rfl rfl)
theorem dX6_allOrders_82 : decode cX6_allOrders 82 = .ok (.aload_n 0, 1) := dk_42 (dk_at dksX6_allOrders_3 13 rfl rfl)
theorem dX6_allOrders_83 : decode cX6_allOrders 83 = .ok (.iconst 0, 1) := dk_3 (dk_at dksX6_allOrders_3 14 rfl rfl)
theorem dX6_allOrders_84 : decode cX6_allOrders 84 = .ok (.iconst 0, 1) := dk_3 (dk_at dksX6_allOrders_3 15 rfl rfl)
theorem dX6_allOrders_85 : decode cX6_allOrders 85 = .ok (.iload_n 1, 1) := dk_27 (dk_at dksX6_allOrders_3 16 rfl rfl)
theorem dX6_allOrders_86 : decode cX6_allOrders 86 = .ok (.invokevirtual 384, 3) := dk_182 1 128 (dk_at dksX6_allOrders_3 17 rfl rfl)
theorem dX6_allOrders_89 : decode cX6_allOrders 89 = .ok (.return_, 1) := dk_177 (dk_at dksX6_allOrders_3 20 rfl rfl)
abbrev cX6_permutes : ByteArray := prog_19_method_91_code
def yX6_permutes : MethodName := ⟨RX6, "permutes", "(III)V"⟩
def dkwX6_permutes_12 : List UInt8 := [46, 79, 132, 6, 1, 167, 255, 233, 177]
abbrev dktX6_permutes_12 : List UInt8 := dkwX6_permutes_12 ++ []
def dkwX6_permutes_11 : List UInt8 := [181, 1, 146, 3, 54, 6, 21, 6, 28, 162, 0, 23, 42, 180, 0, 117, 21, 6, 42, 180, 0, 77, 21, 6]
abbrev dktX6_permutes_11 : List UInt8 := dkwX6_permutes_11 ++ dktX6_permutes_12
def dkwX6_permutes_10 : List UInt8 := [132, 6, 1, 167, 255, 233, 42, 180, 1, 76, 42, 180, 1, 146, 164, 0, 40, 42, 42, 180, 1, 76]
abbrev dktX6_permutes_10 : List UInt8 := dkwX6_permutes_10 ++ dktX6_permutes_11
def dkwX6_permutes_9 : List UInt8 := [54, 6, 21, 6, 28, 162, 0, 23, 42, 180, 0, 114, 21, 6, 42, 180, 0, 77, 21, 6, 46, 79]
abbrev dktX6_permutes_9 : List UInt8 := dkwX6_permutes_9 ++ dktX6_permutes_10
def dkwX6_permutes_8 : List UInt8 := [79, 132, 6, 1, 167, 255, 230, 21, 5, 42, 180, 1, 143, 164, 0, 38, 42, 21, 5, 181, 1, 143, 3]
abbrev dktX6_permutes_8 : List UInt8 := dkwX6_permutes_8 ++ dktX6_permutes_9
def dkwX6_permutes_7 : List UInt8 := [54, 6, 21, 6, 28, 162, 0, 26, 42, 180, 0, 111, 21, 6, 92, 46, 21, 4, 21, 6, 122, 4, 126, 96]
abbrev dktX6_permutes_7 : List UInt8 := dkwX6_permutes_7 ++ dktX6_permutes_8
def dkwX6_permutes_6 : List UInt8 := [42, 89, 180, 1, 137, 21, 4, 128, 181, 1, 137, 42, 89, 180, 1, 140, 21, 5, 96, 181, 1, 140, 3]
abbrev dktX6_permutes_6 : List UInt8 := dkwX6_permutes_6 ++ dktX6_permutes_7
def dkwX6_permutes_5 : List UInt8 := [4, 96, 181, 1, 131, 42, 180, 0, 107, 21, 4, 4, 84, 42, 89, 180, 1, 134, 21, 4, 126, 181, 1, 134]
abbrev dktX6_permutes_5 : List UInt8 := dkwX6_permutes_5 ++ dktX6_permutes_6
def dkwX6_permutes_4 : List UInt8 := [184, 0, 249, 54, 5, 42, 89, 180, 1, 131, 42, 180, 0, 107, 21, 4, 51, 153, 0, 7, 3, 167, 0, 4]
abbrev dktX6_permutes_4 : List UInt8 := dkwX6_permutes_4 ++ dktX6_permutes_5
def dkwX6_permutes_3 : List UInt8 := [162, 0, 4, 177, 42, 28, 181, 1, 101, 42, 29, 182, 1, 116, 54, 4, 21, 4, 42, 182, 1, 59, 126, 133]
abbrev dktX6_permutes_3 : List UInt8 := dkwX6_permutes_3 ++ dktX6_permutes_4
def dkwX6_permutes_2 : List UInt8 := [21, 4, 120, 128, 28, 4, 96, 29, 182, 1, 128, 132, 4, 1, 167, 255, 197, 28, 42, 180, 0, 23, 4, 46]
abbrev dktX6_permutes_2 : List UInt8 := dkwX6_permutes_2 ++ dktX6_permutes_3
def dkwX6_permutes_1 : List UInt8 := [27, 21, 4, 122, 4, 126, 4, 160, 0, 6, 167, 0, 25, 42, 180, 0, 77, 28, 21, 4, 79, 42, 27, 4]
abbrev dktX6_permutes_1 : List UInt8 := dkwX6_permutes_1 ++ dktX6_permutes_2
def dkwX6_permutes_0 : List UInt8 := [3, 54, 4, 21, 4, 42, 180, 0, 23, 4, 46, 162, 0, 54, 28, 42, 180, 0, 23, 4, 46, 162, 0, 44]
abbrev dktX6_permutes_0 : List UInt8 := dkwX6_permutes_0 ++ dktX6_permutes_1
theorem dksX6_permutes_0 : cX6_permutes.data.toList.drop 0 = dktX6_permutes_0 := by decide +kernel
theorem dksX6_permutes_1 : cX6_permutes.data.toList.drop 24 = dktX6_permutes_1 := dk_seg dksX6_permutes_0 24 rfl rfl
theorem dksX6_permutes_2 : cX6_permutes.data.toList.drop 48 = dktX6_permutes_2 := dk_seg dksX6_permutes_1 24 rfl rfl
theorem dksX6_permutes_3 : cX6_permutes.data.toList.drop 72 = dktX6_permutes_3 := dk_seg dksX6_permutes_2 24 rfl rfl
theorem dksX6_permutes_4 : cX6_permutes.data.toList.drop 96 = dktX6_permutes_4 := dk_seg dksX6_permutes_3 24 rfl rfl
theorem dksX6_permutes_5 : cX6_permutes.data.toList.drop 120 = dktX6_permutes_5 := dk_seg dksX6_permutes_4 24 rfl rfl
theorem dksX6_permutes_6 : cX6_permutes.data.toList.drop 144 = dktX6_permutes_6 := dk_seg dksX6_permutes_5 24 rfl rfl
theorem dksX6_permutes_7 : cX6_permutes.data.toList.drop 167 = dktX6_permutes_7 := dk_seg dksX6_permutes_6 23 rfl rfl
theorem dksX6_permutes_8 : cX6_permutes.data.toList.drop 191 = dktX6_permutes_8 := dk_seg dksX6_permutes_7 24 rfl rfl
theorem dksX6_permutes_9 : cX6_permutes.data.toList.drop 214 = dktX6_permutes_9 := dk_seg dksX6_permutes_8 23 rfl rfl
theorem dksX6_permutes_10 : cX6_permutes.data.toList.drop 236 = dktX6_permutes_10 := dk_seg dksX6_permutes_9 22 rfl rfl
theorem dksX6_permutes_11 : cX6_permutes.data.toList.drop 258 = dktX6_permutes_11 := dk_seg dksX6_permutes_10 22 rfl rfl
theorem dksX6_permutes_12 : cX6_permutes.data.toList.drop 282 = dktX6_permutes_12 := dk_seg dksX6_permutes_11 24 rfl rfl
theorem dX6_permutes_0 : decode cX6_permutes 0 = .ok (.iconst 0, 1) := dk_3 (dk_at dksX6_permutes_0 0 rfl rfl)
theorem dX6_permutes_1 : decode cX6_permutes 1 = .ok (.istore 4, 2) := dk_54 4 (dk_at dksX6_permutes_0 1 rfl rfl)
theorem dX6_permutes_3 : decode cX6_permutes 3 = .ok (.iload 4, 2) := dk_21 4 (dk_at dksX6_permutes_0 3 rfl rfl)
theorem dX6_permutes_5 : decode cX6_permutes 5 = .ok (.aload_n 0, 1) := dk_42 (dk_at dksX6_permutes_0 5 rfl rfl)
theorem dX6_permutes_6 : decode cX6_permutes 6 = .ok (.getfield 23, 3) := dk_180 0 23 (dk_at dksX6_permutes_0 6 rfl rfl)
theorem dX6_permutes_9 : decode cX6_permutes 9 = .ok (.iconst 1, 1) := dk_4 (dk_at dksX6_permutes_0 9 rfl rfl)
theorem dX6_permutes_10 : decode cX6_permutes 10 = .ok (.iaload, 1) := dk_46 (dk_at dksX6_permutes_0 10 rfl rfl)
theorem dX6_permutes_11 : decode cX6_permutes 11 = .ok (.if_icmp .ge 54, 3) := dk_162 0 54 (dk_at dksX6_permutes_0 11 rfl rfl)
theorem dX6_permutes_14 : decode cX6_permutes 14 = .ok (.iload_n 2, 1) := dk_28 (dk_at dksX6_permutes_0 14 rfl rfl)
theorem dX6_permutes_15 : decode cX6_permutes 15 = .ok (.aload_n 0, 1) := dk_42 (dk_at dksX6_permutes_0 15 rfl rfl)
theorem dX6_permutes_16 : decode cX6_permutes 16 = .ok (.getfield 23, 3) := dk_180 0 23 (dk_at dksX6_permutes_0 16 rfl rfl)
theorem dX6_permutes_19 : decode cX6_permutes 19 = .ok (.iconst 1, 1) := dk_4 (dk_at dksX6_permutes_0 19 rfl rfl)
theorem dX6_permutes_20 : decode cX6_permutes 20 = .ok (.iaload, 1) := dk_46 (dk_at dksX6_permutes_0 20 rfl rfl)
theorem dX6_permutes_21 : decode cX6_permutes 21 = .ok (.if_icmp .ge 44, 3) := dk_162 0 44 (dk_at dksX6_permutes_0 21 rfl rfl)
theorem dX6_permutes_24 : decode cX6_permutes 24 = .ok (.iload_n 1, 1) := dk_27 (dk_at dksX6_permutes_1 0 rfl rfl)
theorem dX6_permutes_25 : decode cX6_permutes 25 = .ok (.iload 4, 2) := dk_21 4 (dk_at dksX6_permutes_1 1 rfl rfl)
theorem dX6_permutes_27 : decode cX6_permutes 27 = .ok (.ishr, 1) := dk_122 (dk_at dksX6_permutes_1 3 rfl rfl)
theorem dX6_permutes_28 : decode cX6_permutes 28 = .ok (.iconst 1, 1) := dk_4 (dk_at dksX6_permutes_1 4 rfl rfl)
theorem dX6_permutes_29 : decode cX6_permutes 29 = .ok (.iand, 1) := dk_126 (dk_at dksX6_permutes_1 5 rfl rfl)
theorem dX6_permutes_30 : decode cX6_permutes 30 = .ok (.iconst 1, 1) := dk_4 (dk_at dksX6_permutes_1 6 rfl rfl)
theorem dX6_permutes_31 : decode cX6_permutes 31 = .ok (.if_icmp .ne 6, 3) := dk_160 0 6 (dk_at dksX6_permutes_1 7 rfl rfl)
theorem dX6_permutes_34 : decode cX6_permutes 34 = .ok (.goto 25, 3) := dk_167 0 25 (dk_at dksX6_permutes_1 10 rfl rfl)
theorem dX6_permutes_37 : decode cX6_permutes 37 = .ok (.aload_n 0, 1) := dk_42 (dk_at dksX6_permutes_1 13 rfl rfl)
theorem dX6_permutes_38 : decode cX6_permutes 38 = .ok (.getfield 77, 3) := dk_180 0 77 (dk_at dksX6_permutes_1 14 rfl rfl)
theorem dX6_permutes_41 : decode cX6_permutes 41 = .ok (.iload_n 2, 1) := dk_28 (dk_at dksX6_permutes_1 17 rfl rfl)
theorem dX6_permutes_42 : decode cX6_permutes 42 = .ok (.iload 4, 2) := dk_21 4 (dk_at dksX6_permutes_1 18 rfl rfl)
theorem dX6_permutes_44 : decode cX6_permutes 44 = .ok (.iastore, 1) := dk_79 (dk_at dksX6_permutes_1 20 rfl rfl)
theorem dX6_permutes_45 : decode cX6_permutes 45 = .ok (.aload_n 0, 1) := dk_42 (dk_at dksX6_permutes_1 21 rfl rfl)
theorem dX6_permutes_46 : decode cX6_permutes 46 = .ok (.iload_n 1, 1) := dk_27 (dk_at dksX6_permutes_1 22 rfl rfl)
theorem dX6_permutes_47 : decode cX6_permutes 47 = .ok (.iconst 1, 1) := dk_4 (dk_at dksX6_permutes_1 23 rfl rfl)
theorem dX6_permutes_48 : decode cX6_permutes 48 = .ok (.iload 4, 2) := dk_21 4 (dk_at dksX6_permutes_2 0 rfl rfl)
theorem dX6_permutes_50 : decode cX6_permutes 50 = .ok (.ishl, 1) := dk_120 (dk_at dksX6_permutes_2 2 rfl rfl)
theorem dX6_permutes_51 : decode cX6_permutes 51 = .ok (.ior, 1) := dk_128 (dk_at dksX6_permutes_2 3 rfl rfl)
theorem dX6_permutes_52 : decode cX6_permutes 52 = .ok (.iload_n 2, 1) := dk_28 (dk_at dksX6_permutes_2 4 rfl rfl)
theorem dX6_permutes_53 : decode cX6_permutes 53 = .ok (.iconst 1, 1) := dk_4 (dk_at dksX6_permutes_2 5 rfl rfl)
theorem dX6_permutes_54 : decode cX6_permutes 54 = .ok (.iadd, 1) := dk_96 (dk_at dksX6_permutes_2 6 rfl rfl)
theorem dX6_permutes_55 : decode cX6_permutes 55 = .ok (.iload_n 3, 1) := dk_29 (dk_at dksX6_permutes_2 7 rfl rfl)
theorem dX6_permutes_56 : decode cX6_permutes 56 = .ok (.invokevirtual 384, 3) := dk_182 1 128 (dk_at dksX6_permutes_2 8 rfl rfl)
theorem dX6_permutes_59 : decode cX6_permutes 59 = .ok (.iinc 4 1, 3) := dk_132 4 1 (dk_at dksX6_permutes_2 11 rfl rfl)
theorem dX6_permutes_62 : decode cX6_permutes 62 = .ok (.goto (-59), 3) := dk_167 255 197 (dk_at dksX6_permutes_2 14 rfl rfl)
theorem dX6_permutes_65 : decode cX6_permutes 65 = .ok (.iload_n 2, 1) := dk_28 (dk_at dksX6_permutes_2 17 rfl rfl)
theorem dX6_permutes_66 : decode cX6_permutes 66 = .ok (.aload_n 0, 1) := dk_42 (dk_at dksX6_permutes_2 18 rfl rfl)
theorem dX6_permutes_67 : decode cX6_permutes 67 = .ok (.getfield 23, 3) := dk_180 0 23 (dk_at dksX6_permutes_2 19 rfl rfl)
theorem dX6_permutes_70 : decode cX6_permutes 70 = .ok (.iconst 1, 1) := dk_4 (dk_at dksX6_permutes_2 22 rfl rfl)
theorem dX6_permutes_71 : decode cX6_permutes 71 = .ok (.iaload, 1) := dk_46 (dk_at dksX6_permutes_2 23 rfl rfl)
theorem dX6_permutes_72 : decode cX6_permutes 72 = .ok (.if_icmp .ge 4, 3) := dk_162 0 4 (dk_at dksX6_permutes_3 0 rfl rfl)
theorem dX6_permutes_75 : decode cX6_permutes 75 = .ok (.return_, 1) := dk_177 (dk_at dksX6_permutes_3 3 rfl rfl)
theorem dX6_permutes_76 : decode cX6_permutes 76 = .ok (.aload_n 0, 1) := dk_42 (dk_at dksX6_permutes_3 4 rfl rfl)
theorem dX6_permutes_77 : decode cX6_permutes 77 = .ok (.iload_n 2, 1) := dk_28 (dk_at dksX6_permutes_3 5 rfl rfl)
theorem dX6_permutes_78 : decode cX6_permutes 78 = .ok (.putfield 357, 3) := dk_181 1 101 (dk_at dksX6_permutes_3 6 rfl rfl)
theorem dX6_permutes_81 : decode cX6_permutes 81 = .ok (.aload_n 0, 1) := dk_42 (dk_at dksX6_permutes_3 9 rfl rfl)
theorem dX6_permutes_82 : decode cX6_permutes 82 = .ok (.iload_n 3, 1) := dk_29 (dk_at dksX6_permutes_3 10 rfl rfl)
theorem dX6_permutes_83 : decode cX6_permutes 83 = .ok (.invokevirtual 372, 3) := dk_182 1 116 (dk_at dksX6_permutes_3 11 rfl rfl)
theorem dX6_permutes_86 : decode cX6_permutes 86 = .ok (.istore 4, 2) := dk_54 4 (dk_at dksX6_permutes_3 14 rfl rfl)
theorem dX6_permutes_88 : decode cX6_permutes 88 = .ok (.iload 4, 2) := dk_21 4 (dk_at dksX6_permutes_3 16 rfl rfl)
theorem dX6_permutes_90 : decode cX6_permutes 90 = .ok (.aload_n 0, 1) := dk_42 (dk_at dksX6_permutes_3 18 rfl rfl)
theorem dX6_permutes_91 : decode cX6_permutes 91 = .ok (.invokevirtual 315, 3) := dk_182 1 59 (dk_at dksX6_permutes_3 19 rfl rfl)
theorem dX6_permutes_94 : decode cX6_permutes 94 = .ok (.iand, 1) := dk_126 (dk_at dksX6_permutes_3 22 rfl rfl)
theorem dX6_permutes_95 : decode cX6_permutes 95 = .ok (.i2l, 1) := dk_133 (dk_at dksX6_permutes_3 23 rfl rfl)
theorem dX6_permutes_96 : decode cX6_permutes 96 = .ok (.invokestatic 249, 3) := dk_184 0 249 (dk_at dksX6_permutes_4 0 rfl rfl)
theorem dX6_permutes_99 : decode cX6_permutes 99 = .ok (.istore 5, 2) := dk_54 5 (dk_at dksX6_permutes_4 3 rfl rfl)
theorem dX6_permutes_101 : decode cX6_permutes 101 = .ok (.aload_n 0, 1) := dk_42 (dk_at dksX6_permutes_4 5 rfl rfl)
theorem dX6_permutes_102 : decode cX6_permutes 102 = .ok (.dup, 1) := dk_89 (dk_at dksX6_permutes_4 6 rfl rfl)
theorem dX6_permutes_103 : decode cX6_permutes 103 = .ok (.getfield 387, 3) := dk_180 1 131 (dk_at dksX6_permutes_4 7 rfl rfl)
theorem dX6_permutes_106 : decode cX6_permutes 106 = .ok (.aload_n 0, 1) := dk_42 (dk_at dksX6_permutes_4 10 rfl rfl)
theorem dX6_permutes_107 : decode cX6_permutes 107 = .ok (.getfield 107, 3) := dk_180 0 107 (dk_at dksX6_permutes_4 11 rfl rfl)
theorem dX6_permutes_110 : decode cX6_permutes 110 = .ok (.iload 4, 2) := dk_21 4 (dk_at dksX6_permutes_4 14 rfl rfl)
theorem dX6_permutes_112 : decode cX6_permutes 112 = .ok (.baload, 1) := dk_51 (dk_at dksX6_permutes_4 16 rfl rfl)
theorem dX6_permutes_113 : decode cX6_permutes 113 = .ok (.ifCond .eq 7, 3) := dk_153 0 7 (dk_at dksX6_permutes_4 17 rfl rfl)
theorem dX6_permutes_116 : decode cX6_permutes 116 = .ok (.iconst 0, 1) := dk_3 (dk_at dksX6_permutes_4 20 rfl rfl)
theorem dX6_permutes_117 : decode cX6_permutes 117 = .ok (.goto 4, 3) := dk_167 0 4 (dk_at dksX6_permutes_4 21 rfl rfl)
theorem dX6_permutes_120 : decode cX6_permutes 120 = .ok (.iconst 1, 1) := dk_4 (dk_at dksX6_permutes_5 0 rfl rfl)
theorem dX6_permutes_121 : decode cX6_permutes 121 = .ok (.iadd, 1) := dk_96 (dk_at dksX6_permutes_5 1 rfl rfl)
theorem dX6_permutes_122 : decode cX6_permutes 122 = .ok (.putfield 387, 3) := dk_181 1 131 (dk_at dksX6_permutes_5 2 rfl rfl)
theorem dX6_permutes_125 : decode cX6_permutes 125 = .ok (.aload_n 0, 1) := dk_42 (dk_at dksX6_permutes_5 5 rfl rfl)
theorem dX6_permutes_126 : decode cX6_permutes 126 = .ok (.getfield 107, 3) := dk_180 0 107 (dk_at dksX6_permutes_5 6 rfl rfl)
theorem dX6_permutes_129 : decode cX6_permutes 129 = .ok (.iload 4, 2) := dk_21 4 (dk_at dksX6_permutes_5 9 rfl rfl)
theorem dX6_permutes_131 : decode cX6_permutes 131 = .ok (.iconst 1, 1) := dk_4 (dk_at dksX6_permutes_5 11 rfl rfl)
theorem dX6_permutes_132 : decode cX6_permutes 132 = .ok (.bastore, 1) := dk_84 (dk_at dksX6_permutes_5 12 rfl rfl)
theorem dX6_permutes_133 : decode cX6_permutes 133 = .ok (.aload_n 0, 1) := dk_42 (dk_at dksX6_permutes_5 13 rfl rfl)
theorem dX6_permutes_134 : decode cX6_permutes 134 = .ok (.dup, 1) := dk_89 (dk_at dksX6_permutes_5 14 rfl rfl)
theorem dX6_permutes_135 : decode cX6_permutes 135 = .ok (.getfield 390, 3) := dk_180 1 134 (dk_at dksX6_permutes_5 15 rfl rfl)
theorem dX6_permutes_138 : decode cX6_permutes 138 = .ok (.iload 4, 2) := dk_21 4 (dk_at dksX6_permutes_5 18 rfl rfl)
theorem dX6_permutes_140 : decode cX6_permutes 140 = .ok (.iand, 1) := dk_126 (dk_at dksX6_permutes_5 20 rfl rfl)
theorem dX6_permutes_141 : decode cX6_permutes 141 = .ok (.putfield 390, 3) := dk_181 1 134 (dk_at dksX6_permutes_5 21 rfl rfl)
theorem dX6_permutes_144 : decode cX6_permutes 144 = .ok (.aload_n 0, 1) := dk_42 (dk_at dksX6_permutes_6 0 rfl rfl)
theorem dX6_permutes_145 : decode cX6_permutes 145 = .ok (.dup, 1) := dk_89 (dk_at dksX6_permutes_6 1 rfl rfl)
theorem dX6_permutes_146 : decode cX6_permutes 146 = .ok (.getfield 393, 3) := dk_180 1 137 (dk_at dksX6_permutes_6 2 rfl rfl)
theorem dX6_permutes_149 : decode cX6_permutes 149 = .ok (.iload 4, 2) := dk_21 4 (dk_at dksX6_permutes_6 5 rfl rfl)
theorem dX6_permutes_151 : decode cX6_permutes 151 = .ok (.ior, 1) := dk_128 (dk_at dksX6_permutes_6 7 rfl rfl)
theorem dX6_permutes_152 : decode cX6_permutes 152 = .ok (.putfield 393, 3) := dk_181 1 137 (dk_at dksX6_permutes_6 8 rfl rfl)
theorem dX6_permutes_155 : decode cX6_permutes 155 = .ok (.aload_n 0, 1) := dk_42 (dk_at dksX6_permutes_6 11 rfl rfl)
theorem dX6_permutes_156 : decode cX6_permutes 156 = .ok (.dup, 1) := dk_89 (dk_at dksX6_permutes_6 12 rfl rfl)
theorem dX6_permutes_157 : decode cX6_permutes 157 = .ok (.getfield 396, 3) := dk_180 1 140 (dk_at dksX6_permutes_6 13 rfl rfl)
theorem dX6_permutes_160 : decode cX6_permutes 160 = .ok (.iload 5, 2) := dk_21 5 (dk_at dksX6_permutes_6 16 rfl rfl)
theorem dX6_permutes_162 : decode cX6_permutes 162 = .ok (.iadd, 1) := dk_96 (dk_at dksX6_permutes_6 18 rfl rfl)
theorem dX6_permutes_163 : decode cX6_permutes 163 = .ok (.putfield 396, 3) := dk_181 1 140 (dk_at dksX6_permutes_6 19 rfl rfl)
theorem dX6_permutes_166 : decode cX6_permutes 166 = .ok (.iconst 0, 1) := dk_3 (dk_at dksX6_permutes_6 22 rfl rfl)
theorem dX6_permutes_167 : decode cX6_permutes 167 = .ok (.istore 6, 2) := dk_54 6 (dk_at dksX6_permutes_7 0 rfl rfl)
theorem dX6_permutes_169 : decode cX6_permutes 169 = .ok (.iload 6, 2) := dk_21 6 (dk_at dksX6_permutes_7 2 rfl rfl)
theorem dX6_permutes_171 : decode cX6_permutes 171 = .ok (.iload_n 2, 1) := dk_28 (dk_at dksX6_permutes_7 4 rfl rfl)
theorem dX6_permutes_172 : decode cX6_permutes 172 = .ok (.if_icmp .ge 26, 3) := dk_162 0 26 (dk_at dksX6_permutes_7 5 rfl rfl)
theorem dX6_permutes_175 : decode cX6_permutes 175 = .ok (.aload_n 0, 1) := dk_42 (dk_at dksX6_permutes_7 8 rfl rfl)
theorem dX6_permutes_176 : decode cX6_permutes 176 = .ok (.getfield 111, 3) := dk_180 0 111 (dk_at dksX6_permutes_7 9 rfl rfl)
theorem dX6_permutes_179 : decode cX6_permutes 179 = .ok (.iload 6, 2) := dk_21 6 (dk_at dksX6_permutes_7 12 rfl rfl)
theorem dX6_permutes_181 : decode cX6_permutes 181 = .ok (.dup2, 1) := dk_92 (dk_at dksX6_permutes_7 14 rfl rfl)
theorem dX6_permutes_182 : decode cX6_permutes 182 = .ok (.iaload, 1) := dk_46 (dk_at dksX6_permutes_7 15 rfl rfl)
theorem dX6_permutes_183 : decode cX6_permutes 183 = .ok (.iload 4, 2) := dk_21 4 (dk_at dksX6_permutes_7 16 rfl rfl)
theorem dX6_permutes_185 : decode cX6_permutes 185 = .ok (.iload 6, 2) := dk_21 6 (dk_at dksX6_permutes_7 18 rfl rfl)
theorem dX6_permutes_187 : decode cX6_permutes 187 = .ok (.ishr, 1) := dk_122 (dk_at dksX6_permutes_7 20 rfl rfl)
theorem dX6_permutes_188 : decode cX6_permutes 188 = .ok (.iconst 1, 1) := dk_4 (dk_at dksX6_permutes_7 21 rfl rfl)
theorem dX6_permutes_189 : decode cX6_permutes 189 = .ok (.iand, 1) := dk_126 (dk_at dksX6_permutes_7 22 rfl rfl)
theorem dX6_permutes_190 : decode cX6_permutes 190 = .ok (.iadd, 1) := dk_96 (dk_at dksX6_permutes_7 23 rfl rfl)
theorem dX6_permutes_191 : decode cX6_permutes 191 = .ok (.iastore, 1) := dk_79 (dk_at dksX6_permutes_8 0 rfl rfl)
theorem dX6_permutes_192 : decode cX6_permutes 192 = .ok (.iinc 6 1, 3) := dk_132 6 1 (dk_at dksX6_permutes_8 1 rfl rfl)
theorem dX6_permutes_195 : decode cX6_permutes 195 = .ok (.goto (-26), 3) := dk_167 255 230 (dk_at dksX6_permutes_8 4 rfl rfl)
theorem dX6_permutes_198 : decode cX6_permutes 198 = .ok (.iload 5, 2) := dk_21 5 (dk_at dksX6_permutes_8 7 rfl rfl)
theorem dX6_permutes_200 : decode cX6_permutes 200 = .ok (.aload_n 0, 1) := dk_42 (dk_at dksX6_permutes_8 9 rfl rfl)
theorem dX6_permutes_201 : decode cX6_permutes 201 = .ok (.getfield 399, 3) := dk_180 1 143 (dk_at dksX6_permutes_8 10 rfl rfl)
theorem dX6_permutes_204 : decode cX6_permutes 204 = .ok (.if_icmp .le 38, 3) := dk_164 0 38 (dk_at dksX6_permutes_8 13 rfl rfl)
theorem dX6_permutes_207 : decode cX6_permutes 207 = .ok (.aload_n 0, 1) := dk_42 (dk_at dksX6_permutes_8 16 rfl rfl)
theorem dX6_permutes_208 : decode cX6_permutes 208 = .ok (.iload 5, 2) := dk_21 5 (dk_at dksX6_permutes_8 17 rfl rfl)
theorem dX6_permutes_210 : decode cX6_permutes 210 = .ok (.putfield 399, 3) := dk_181 1 143 (dk_at dksX6_permutes_8 19 rfl rfl)
theorem dX6_permutes_213 : decode cX6_permutes 213 = .ok (.iconst 0, 1) := dk_3 (dk_at dksX6_permutes_8 22 rfl rfl)
theorem dX6_permutes_214 : decode cX6_permutes 214 = .ok (.istore 6, 2) := dk_54 6 (dk_at dksX6_permutes_9 0 rfl rfl)
theorem dX6_permutes_216 : decode cX6_permutes 216 = .ok (.iload 6, 2) := dk_21 6 (dk_at dksX6_permutes_9 2 rfl rfl)
theorem dX6_permutes_218 : decode cX6_permutes 218 = .ok (.iload_n 2, 1) := dk_28 (dk_at dksX6_permutes_9 4 rfl rfl)
theorem dX6_permutes_219 : decode cX6_permutes 219 = .ok (.if_icmp .ge 23, 3) := dk_162 0 23 (dk_at dksX6_permutes_9 5 rfl rfl)
theorem dX6_permutes_222 : decode cX6_permutes 222 = .ok (.aload_n 0, 1) := dk_42 (dk_at dksX6_permutes_9 8 rfl rfl)
theorem dX6_permutes_223 : decode cX6_permutes 223 = .ok (.getfield 114, 3) := dk_180 0 114 (dk_at dksX6_permutes_9 9 rfl rfl)
theorem dX6_permutes_226 : decode cX6_permutes 226 = .ok (.iload 6, 2) := dk_21 6 (dk_at dksX6_permutes_9 12 rfl rfl)
theorem dX6_permutes_228 : decode cX6_permutes 228 = .ok (.aload_n 0, 1) := dk_42 (dk_at dksX6_permutes_9 14 rfl rfl)
theorem dX6_permutes_229 : decode cX6_permutes 229 = .ok (.getfield 77, 3) := dk_180 0 77 (dk_at dksX6_permutes_9 15 rfl rfl)
theorem dX6_permutes_232 : decode cX6_permutes 232 = .ok (.iload 6, 2) := dk_21 6 (dk_at dksX6_permutes_9 18 rfl rfl)
theorem dX6_permutes_234 : decode cX6_permutes 234 = .ok (.iaload, 1) := dk_46 (dk_at dksX6_permutes_9 20 rfl rfl)
theorem dX6_permutes_235 : decode cX6_permutes 235 = .ok (.iastore, 1) := dk_79 (dk_at dksX6_permutes_9 21 rfl rfl)
theorem dX6_permutes_236 : decode cX6_permutes 236 = .ok (.iinc 6 1, 3) := dk_132 6 1 (dk_at dksX6_permutes_10 0 rfl rfl)
theorem dX6_permutes_239 : decode cX6_permutes 239 = .ok (.goto (-23), 3) := dk_167 255 233 (dk_at dksX6_permutes_10 3 rfl rfl)
theorem dX6_permutes_242 : decode cX6_permutes 242 = .ok (.aload_n 0, 1) := dk_42 (dk_at dksX6_permutes_10 6 rfl rfl)
theorem dX6_permutes_243 : decode cX6_permutes 243 = .ok (.getfield 332, 3) := dk_180 1 76 (dk_at dksX6_permutes_10 7 rfl rfl)
theorem dX6_permutes_246 : decode cX6_permutes 246 = .ok (.aload_n 0, 1) := dk_42 (dk_at dksX6_permutes_10 10 rfl rfl)
theorem dX6_permutes_247 : decode cX6_permutes 247 = .ok (.getfield 402, 3) := dk_180 1 146 (dk_at dksX6_permutes_10 11 rfl rfl)
theorem dX6_permutes_250 : decode cX6_permutes 250 = .ok (.if_icmp .le 40, 3) := dk_164 0 40 (dk_at dksX6_permutes_10 14 rfl rfl)
theorem dX6_permutes_253 : decode cX6_permutes 253 = .ok (.aload_n 0, 1) := dk_42 (dk_at dksX6_permutes_10 17 rfl rfl)
theorem dX6_permutes_254 : decode cX6_permutes 254 = .ok (.aload_n 0, 1) := dk_42 (dk_at dksX6_permutes_10 18 rfl rfl)
theorem dX6_permutes_255 : decode cX6_permutes 255 = .ok (.getfield 332, 3) := dk_180 1 76 (dk_at dksX6_permutes_10 19 rfl rfl)
theorem dX6_permutes_258 : decode cX6_permutes 258 = .ok (.putfield 402, 3) := dk_181 1 146 (dk_at dksX6_permutes_11 0 rfl rfl)
theorem dX6_permutes_261 : decode cX6_permutes 261 = .ok (.iconst 0, 1) := dk_3 (dk_at dksX6_permutes_11 3 rfl rfl)
theorem dX6_permutes_262 : decode cX6_permutes 262 = .ok (.istore 6, 2) := dk_54 6 (dk_at dksX6_permutes_11 4 rfl rfl)
theorem dX6_permutes_264 : decode cX6_permutes 264 = .ok (.iload 6, 2) := dk_21 6 (dk_at dksX6_permutes_11 6 rfl rfl)
theorem dX6_permutes_266 : decode cX6_permutes 266 = .ok (.iload_n 2, 1) := dk_28 (dk_at dksX6_permutes_11 8 rfl rfl)
theorem dX6_permutes_267 : decode cX6_permutes 267 = .ok (.if_icmp .ge 23, 3) := dk_162 0 23 (dk_at dksX6_permutes_11 9 rfl rfl)
theorem dX6_permutes_270 : decode cX6_permutes 270 = .ok (.aload_n 0, 1) := dk_42 (dk_at dksX6_permutes_11 12 rfl rfl)
theorem dX6_permutes_271 : decode cX6_permutes 271 = .ok (.getfield 117, 3) := dk_180 0 117 (dk_at dksX6_permutes_11 13 rfl rfl)
theorem dX6_permutes_274 : decode cX6_permutes 274 = .ok (.iload 6, 2) := dk_21 6 (dk_at dksX6_permutes_11 16 rfl rfl)
theorem dX6_permutes_276 : decode cX6_permutes 276 = .ok (.aload_n 0, 1) := dk_42 (dk_at dksX6_permutes_11 18 rfl rfl)
theorem dX6_permutes_277 : decode cX6_permutes 277 = .ok (.getfield 77, 3) := dk_180 0 77 (dk_at dksX6_permutes_11 19 rfl rfl)
theorem dX6_permutes_280 : decode cX6_permutes 280 = .ok (.iload 6, 2) := dk_21 6 (dk_at dksX6_permutes_11 22 rfl rfl)
theorem dX6_permutes_282 : decode cX6_permutes 282 = .ok (.iaload, 1) := dk_46 (dk_at dksX6_permutes_12 0 rfl rfl)
theorem dX6_permutes_283 : decode cX6_permutes 283 = .ok (.iastore, 1) := dk_79 (dk_at dksX6_permutes_12 1 rfl rfl)
theorem dX6_permutes_284 : decode cX6_permutes 284 = .ok (.iinc 6 1, 3) := dk_132 6 1 (dk_at dksX6_permutes_12 2 rfl rfl)
theorem dX6_permutes_287 : decode cX6_permutes 287 = .ok (.goto (-23), 3) := dk_167 255 233 (dk_at dksX6_permutes_12 5 rfl rfl)
theorem dX6_permutes_290 : decode cX6_permutes 290 = .ok (.return_, 1) := dk_177 (dk_at dksX6_permutes_12 8 rfl rfl)
abbrev cX6_orders : ByteArray := prog_19_method_94_code
def yX6_orders : MethodName := ⟨RX6, "orders", "(I)I"⟩
def dkwX6_orders_3 : List UInt8 := [172]
abbrev dktX6_orders_3 : List UInt8 := dkwX6_orders_3 ++ []
def dkwX6_orders_2 : List UInt8 := [182, 0, 233, 153, 0, 5, 3, 172, 42, 42, 180, 0, 23, 8, 46, 182, 1, 149, 42, 180, 0, 111, 27, 46]
abbrev dktX6_orders_2 : List UInt8 := dkwX6_orders_2 ++ dktX6_orders_3
def dkwX6_orders_1 : List UInt8 := [154, 0, 28, 42, 42, 180, 0, 23, 4, 46, 16, 7, 164, 0, 7, 4, 167, 0, 4, 3, 5, 5]
abbrev dktX6_orders_1 : List UInt8 := dkwX6_orders_1 ++ dktX6_orders_2
def dkwX6_orders_0 : List UInt8 := [42, 3, 181, 0, 132, 42, 42, 27, 182, 1, 47, 154, 0, 7, 4, 167, 0, 4, 3, 4, 3, 182, 0, 233]
abbrev dktX6_orders_0 : List UInt8 := dkwX6_orders_0 ++ dktX6_orders_1
theorem dksX6_orders_0 : cX6_orders.data.toList.drop 0 = dktX6_orders_0 := by decide +kernel
theorem dksX6_orders_1 : cX6_orders.data.toList.drop 24 = dktX6_orders_1 := dk_seg dksX6_orders_0 24 rfl rfl
theorem dksX6_orders_2 : cX6_orders.data.toList.drop 46 = dktX6_orders_2 := dk_seg dksX6_orders_1 22 rfl rfl
theorem dksX6_orders_3 : cX6_orders.data.toList.drop 70 = dktX6_orders_3 := dk_seg dksX6_orders_2 24 rfl rfl
theorem dX6_orders_0 : decode cX6_orders 0 = .ok (.aload_n 0, 1) := dk_42 (dk_at dksX6_orders_0 0 rfl rfl)
theorem dX6_orders_1 : decode cX6_orders 1 = .ok (.iconst 0, 1) := dk_3 (dk_at dksX6_orders_0 1 rfl rfl)
theorem dX6_orders_2 : decode cX6_orders 2 = .ok (.putfield 132, 3) := dk_181 0 132 (dk_at dksX6_orders_0 2 rfl rfl)
theorem dX6_orders_5 : decode cX6_orders 5 = .ok (.aload_n 0, 1) := dk_42 (dk_at dksX6_orders_0 5 rfl rfl)
theorem dX6_orders_6 : decode cX6_orders 6 = .ok (.aload_n 0, 1) := dk_42 (dk_at dksX6_orders_0 6 rfl rfl)
theorem dX6_orders_7 : decode cX6_orders 7 = .ok (.iload_n 1, 1) := dk_27 (dk_at dksX6_orders_0 7 rfl rfl)
theorem dX6_orders_8 : decode cX6_orders 8 = .ok (.invokevirtual 303, 3) := dk_182 1 47 (dk_at dksX6_orders_0 8 rfl rfl)
theorem dX6_orders_11 : decode cX6_orders 11 = .ok (.ifCond .ne 7, 3) := dk_154 0 7 (dk_at dksX6_orders_0 11 rfl rfl)
theorem dX6_orders_14 : decode cX6_orders 14 = .ok (.iconst 1, 1) := dk_4 (dk_at dksX6_orders_0 14 rfl rfl)
theorem dX6_orders_15 : decode cX6_orders 15 = .ok (.goto 4, 3) := dk_167 0 4 (dk_at dksX6_orders_0 15 rfl rfl)
theorem dX6_orders_18 : decode cX6_orders 18 = .ok (.iconst 0, 1) := dk_3 (dk_at dksX6_orders_0 18 rfl rfl)
theorem dX6_orders_19 : decode cX6_orders 19 = .ok (.iconst 1, 1) := dk_4 (dk_at dksX6_orders_0 19 rfl rfl)
theorem dX6_orders_20 : decode cX6_orders 20 = .ok (.iconst 0, 1) := dk_3 (dk_at dksX6_orders_0 20 rfl rfl)
theorem dX6_orders_21 : decode cX6_orders 21 = .ok (.invokevirtual 233, 3) := dk_182 0 233 (dk_at dksX6_orders_0 21 rfl rfl)
theorem dX6_orders_24 : decode cX6_orders 24 = .ok (.ifCond .ne 28, 3) := dk_154 0 28 (dk_at dksX6_orders_1 0 rfl rfl)
theorem dX6_orders_27 : decode cX6_orders 27 = .ok (.aload_n 0, 1) := dk_42 (dk_at dksX6_orders_1 3 rfl rfl)
theorem dX6_orders_28 : decode cX6_orders 28 = .ok (.aload_n 0, 1) := dk_42 (dk_at dksX6_orders_1 4 rfl rfl)
theorem dX6_orders_29 : decode cX6_orders 29 = .ok (.getfield 23, 3) := dk_180 0 23 (dk_at dksX6_orders_1 5 rfl rfl)
theorem dX6_orders_32 : decode cX6_orders 32 = .ok (.iconst 1, 1) := dk_4 (dk_at dksX6_orders_1 8 rfl rfl)
theorem dX6_orders_33 : decode cX6_orders 33 = .ok (.iaload, 1) := dk_46 (dk_at dksX6_orders_1 9 rfl rfl)
theorem dX6_orders_34 : decode cX6_orders 34 = .ok (.bipush 7, 2) := dk_16 7 (dk_at dksX6_orders_1 10 rfl rfl)
theorem dX6_orders_36 : decode cX6_orders 36 = .ok (.if_icmp .le 7, 3) := dk_164 0 7 (dk_at dksX6_orders_1 12 rfl rfl)
theorem dX6_orders_39 : decode cX6_orders 39 = .ok (.iconst 1, 1) := dk_4 (dk_at dksX6_orders_1 15 rfl rfl)
theorem dX6_orders_40 : decode cX6_orders 40 = .ok (.goto 4, 3) := dk_167 0 4 (dk_at dksX6_orders_1 16 rfl rfl)
theorem dX6_orders_43 : decode cX6_orders 43 = .ok (.iconst 0, 1) := dk_3 (dk_at dksX6_orders_1 19 rfl rfl)
theorem dX6_orders_44 : decode cX6_orders 44 = .ok (.iconst 2, 1) := dk_5 (dk_at dksX6_orders_1 20 rfl rfl)
theorem dX6_orders_45 : decode cX6_orders 45 = .ok (.iconst 2, 1) := dk_5 (dk_at dksX6_orders_1 21 rfl rfl)
theorem dX6_orders_46 : decode cX6_orders 46 = .ok (.invokevirtual 233, 3) := dk_182 0 233 (dk_at dksX6_orders_2 0 rfl rfl)
theorem dX6_orders_49 : decode cX6_orders 49 = .ok (.ifCond .eq 5, 3) := dk_153 0 5 (dk_at dksX6_orders_2 3 rfl rfl)
theorem dX6_orders_52 : decode cX6_orders 52 = .ok (.iconst 0, 1) := dk_3 (dk_at dksX6_orders_2 6 rfl rfl)
theorem dX6_orders_53 : decode cX6_orders 53 = .ok (.ireturn, 1) := dk_172 (dk_at dksX6_orders_2 7 rfl rfl)
theorem dX6_orders_54 : decode cX6_orders 54 = .ok (.aload_n 0, 1) := dk_42 (dk_at dksX6_orders_2 8 rfl rfl)
theorem dX6_orders_55 : decode cX6_orders 55 = .ok (.aload_n 0, 1) := dk_42 (dk_at dksX6_orders_2 9 rfl rfl)
theorem dX6_orders_56 : decode cX6_orders 56 = .ok (.getfield 23, 3) := dk_180 0 23 (dk_at dksX6_orders_2 10 rfl rfl)
theorem dX6_orders_59 : decode cX6_orders 59 = .ok (.iconst 5, 1) := dk_8 (dk_at dksX6_orders_2 13 rfl rfl)
theorem dX6_orders_60 : decode cX6_orders 60 = .ok (.iaload, 1) := dk_46 (dk_at dksX6_orders_2 14 rfl rfl)
theorem dX6_orders_61 : decode cX6_orders 61 = .ok (.invokevirtual 405, 3) := dk_182 1 149 (dk_at dksX6_orders_2 15 rfl rfl)
theorem dX6_orders_64 : decode cX6_orders 64 = .ok (.aload_n 0, 1) := dk_42 (dk_at dksX6_orders_2 18 rfl rfl)
theorem dX6_orders_65 : decode cX6_orders 65 = .ok (.getfield 111, 3) := dk_180 0 111 (dk_at dksX6_orders_2 19 rfl rfl)
theorem dX6_orders_68 : decode cX6_orders 68 = .ok (.iload_n 1, 1) := dk_27 (dk_at dksX6_orders_2 22 rfl rfl)
theorem dX6_orders_69 : decode cX6_orders 69 = .ok (.iaload, 1) := dk_46 (dk_at dksX6_orders_2 23 rfl rfl)
theorem dX6_orders_70 : decode cX6_orders 70 = .ok (.ireturn, 1) := dk_172 (dk_at dksX6_orders_3 0 rfl rfl)
abbrev cX6_best : ByteArray := prog_19_method_95_code
def yX6_best : MethodName := ⟨RX6, "best", "()I"⟩
def dkwX6_best_3 : List UInt8 := [167, 255, 231, 42, 180, 1, 143, 172]
abbrev dktX6_best_3 : List UInt8 := dkwX6_best_3 ++ []
def dkwX6_best_2 : List UInt8 := [180, 0, 23, 4, 46, 162, 0, 21, 42, 180, 0, 54, 27, 42, 180, 0, 114, 27, 46, 79, 132, 1, 1]
abbrev dktX6_best_2 : List UInt8 := dkwX6_best_2 ++ dktX6_best_3
def dkwX6_best_1 : List UInt8 := [182, 0, 233, 153, 0, 5, 3, 172, 42, 42, 180, 0, 23, 8, 46, 182, 1, 149, 3, 60, 27, 42]
abbrev dktX6_best_1 : List UInt8 := dkwX6_best_1 ++ dktX6_best_2
def dkwX6_best_0 : List UInt8 := [42, 3, 181, 0, 132, 42, 42, 180, 0, 23, 4, 46, 16, 7, 164, 0, 7, 4, 167, 0, 4, 3, 4, 5]
abbrev dktX6_best_0 : List UInt8 := dkwX6_best_0 ++ dktX6_best_1
theorem dksX6_best_0 : cX6_best.data.toList.drop 0 = dktX6_best_0 := by decide +kernel
theorem dksX6_best_1 : cX6_best.data.toList.drop 24 = dktX6_best_1 := dk_seg dksX6_best_0 24 rfl rfl
theorem dksX6_best_2 : cX6_best.data.toList.drop 46 = dktX6_best_2 := dk_seg dksX6_best_1 22 rfl rfl
theorem dksX6_best_3 : cX6_best.data.toList.drop 69 = dktX6_best_3 := dk_seg dksX6_best_2 23 rfl rfl
theorem dX6_best_0 : decode cX6_best 0 = .ok (.aload_n 0, 1) := dk_42 (dk_at dksX6_best_0 0 rfl rfl)
theorem dX6_best_1 : decode cX6_best 1 = .ok (.iconst 0, 1) := dk_3 (dk_at dksX6_best_0 1 rfl rfl)
theorem dX6_best_2 : decode cX6_best 2 = .ok (.putfield 132, 3) := dk_181 0 132 (dk_at dksX6_best_0 2 rfl rfl)
theorem dX6_best_5 : decode cX6_best 5 = .ok (.aload_n 0, 1) := dk_42 (dk_at dksX6_best_0 5 rfl rfl)
theorem dX6_best_6 : decode cX6_best 6 = .ok (.aload_n 0, 1) := dk_42 (dk_at dksX6_best_0 6 rfl rfl)
theorem dX6_best_7 : decode cX6_best 7 = .ok (.getfield 23, 3) := dk_180 0 23 (dk_at dksX6_best_0 7 rfl rfl)
theorem dX6_best_10 : decode cX6_best 10 = .ok (.iconst 1, 1) := dk_4 (dk_at dksX6_best_0 10 rfl rfl)
theorem dX6_best_11 : decode cX6_best 11 = .ok (.iaload, 1) := dk_46 (dk_at dksX6_best_0 11 rfl rfl)
theorem dX6_best_12 : decode cX6_best 12 = .ok (.bipush 7, 2) := dk_16 7 (dk_at dksX6_best_0 12 rfl rfl)
theorem dX6_best_14 : decode cX6_best 14 = .ok (.if_icmp .le 7, 3) := dk_164 0 7 (dk_at dksX6_best_0 14 rfl rfl)
theorem dX6_best_17 : decode cX6_best 17 = .ok (.iconst 1, 1) := dk_4 (dk_at dksX6_best_0 17 rfl rfl)
theorem dX6_best_18 : decode cX6_best 18 = .ok (.goto 4, 3) := dk_167 0 4 (dk_at dksX6_best_0 18 rfl rfl)
theorem dX6_best_21 : decode cX6_best 21 = .ok (.iconst 0, 1) := dk_3 (dk_at dksX6_best_0 21 rfl rfl)
theorem dX6_best_22 : decode cX6_best 22 = .ok (.iconst 1, 1) := dk_4 (dk_at dksX6_best_0 22 rfl rfl)
theorem dX6_best_23 : decode cX6_best 23 = .ok (.iconst 2, 1) := dk_5 (dk_at dksX6_best_0 23 rfl rfl)
theorem dX6_best_24 : decode cX6_best 24 = .ok (.invokevirtual 233, 3) := dk_182 0 233 (dk_at dksX6_best_1 0 rfl rfl)
theorem dX6_best_27 : decode cX6_best 27 = .ok (.ifCond .eq 5, 3) := dk_153 0 5 (dk_at dksX6_best_1 3 rfl rfl)
theorem dX6_best_30 : decode cX6_best 30 = .ok (.iconst 0, 1) := dk_3 (dk_at dksX6_best_1 6 rfl rfl)
theorem dX6_best_31 : decode cX6_best 31 = .ok (.ireturn, 1) := dk_172 (dk_at dksX6_best_1 7 rfl rfl)
theorem dX6_best_32 : decode cX6_best 32 = .ok (.aload_n 0, 1) := dk_42 (dk_at dksX6_best_1 8 rfl rfl)
theorem dX6_best_33 : decode cX6_best 33 = .ok (.aload_n 0, 1) := dk_42 (dk_at dksX6_best_1 9 rfl rfl)
theorem dX6_best_34 : decode cX6_best 34 = .ok (.getfield 23, 3) := dk_180 0 23 (dk_at dksX6_best_1 10 rfl rfl)
theorem dX6_best_37 : decode cX6_best 37 = .ok (.iconst 5, 1) := dk_8 (dk_at dksX6_best_1 13 rfl rfl)
theorem dX6_best_38 : decode cX6_best 38 = .ok (.iaload, 1) := dk_46 (dk_at dksX6_best_1 14 rfl rfl)
theorem dX6_best_39 : decode cX6_best 39 = .ok (.invokevirtual 405, 3) := dk_182 1 149 (dk_at dksX6_best_1 15 rfl rfl)
theorem dX6_best_42 : decode cX6_best 42 = .ok (.iconst 0, 1) := dk_3 (dk_at dksX6_best_1 18 rfl rfl)
theorem dX6_best_43 : decode cX6_best 43 = .ok (.istore_n 1, 1) := dk_60 (dk_at dksX6_best_1 19 rfl rfl)
theorem dX6_best_44 : decode cX6_best 44 = .ok (.iload_n 1, 1) := dk_27 (dk_at dksX6_best_1 20 rfl rfl)
theorem dX6_best_45 : decode cX6_best 45 = .ok (.aload_n 0, 1) := dk_42 (dk_at dksX6_best_1 21 rfl rfl)
theorem dX6_best_46 : decode cX6_best 46 = .ok (.getfield 23, 3) := dk_180 0 23 (dk_at dksX6_best_2 0 rfl rfl)
theorem dX6_best_49 : decode cX6_best 49 = .ok (.iconst 1, 1) := dk_4 (dk_at dksX6_best_2 3 rfl rfl)
theorem dX6_best_50 : decode cX6_best 50 = .ok (.iaload, 1) := dk_46 (dk_at dksX6_best_2 4 rfl rfl)
theorem dX6_best_51 : decode cX6_best 51 = .ok (.if_icmp .ge 21, 3) := dk_162 0 21 (dk_at dksX6_best_2 5 rfl rfl)
theorem dX6_best_54 : decode cX6_best 54 = .ok (.aload_n 0, 1) := dk_42 (dk_at dksX6_best_2 8 rfl rfl)
theorem dX6_best_55 : decode cX6_best 55 = .ok (.getfield 54, 3) := dk_180 0 54 (dk_at dksX6_best_2 9 rfl rfl)
theorem dX6_best_58 : decode cX6_best 58 = .ok (.iload_n 1, 1) := dk_27 (dk_at dksX6_best_2 12 rfl rfl)
theorem dX6_best_59 : decode cX6_best 59 = .ok (.aload_n 0, 1) := dk_42 (dk_at dksX6_best_2 13 rfl rfl)
theorem dX6_best_60 : decode cX6_best 60 = .ok (.getfield 114, 3) := dk_180 0 114 (dk_at dksX6_best_2 14 rfl rfl)
theorem dX6_best_63 : decode cX6_best 63 = .ok (.iload_n 1, 1) := dk_27 (dk_at dksX6_best_2 17 rfl rfl)
theorem dX6_best_64 : decode cX6_best 64 = .ok (.iaload, 1) := dk_46 (dk_at dksX6_best_2 18 rfl rfl)
theorem dX6_best_65 : decode cX6_best 65 = .ok (.iastore, 1) := dk_79 (dk_at dksX6_best_2 19 rfl rfl)
theorem dX6_best_66 : decode cX6_best 66 = .ok (.iinc 1 1, 3) := dk_132 1 1 (dk_at dksX6_best_2 20 rfl rfl)
theorem dX6_best_69 : decode cX6_best 69 = .ok (.goto (-25), 3) := dk_167 255 231 (dk_at dksX6_best_3 0 rfl rfl)
theorem dX6_best_72 : decode cX6_best 72 = .ok (.aload_n 0, 1) := dk_42 (dk_at dksX6_best_3 3 rfl rfl)
theorem dX6_best_73 : decode cX6_best 73 = .ok (.getfield 399, 3) := dk_180 1 143 (dk_at dksX6_best_3 4 rfl rfl)
theorem dX6_best_76 : decode cX6_best 76 = .ok (.ireturn, 1) := dk_172 (dk_at dksX6_best_3 7 rfl rfl)
abbrev cX6_compared : ByteArray := prog_19_method_96_code
def yX6_compared : MethodName := ⟨RX6, "compared", "(I)I"⟩
def dkwX6_compared_2 : List UInt8 := [5, 182, 0, 233, 153, 0, 5, 3, 172, 42, 27, 182, 1, 149, 42, 180, 1, 140, 172]
abbrev dktX6_compared_2 : List UInt8 := dkwX6_compared_2 ++ []
def dkwX6_compared_1 : List UInt8 := [182, 0, 233, 154, 0, 28, 42, 42, 180, 0, 23, 4, 46, 16, 7, 164, 0, 7, 4, 167, 0, 4, 3, 5]
abbrev dktX6_compared_1 : List UInt8 := dkwX6_compared_1 ++ dktX6_compared_2
def dkwX6_compared_0 : List UInt8 := [42, 3, 181, 0, 132, 42, 27, 3, 7, 184, 0, 166, 154, 0, 7, 4, 167, 0, 4, 3, 4, 4]
abbrev dktX6_compared_0 : List UInt8 := dkwX6_compared_0 ++ dktX6_compared_1
theorem dksX6_compared_0 : cX6_compared.data.toList.drop 0 = dktX6_compared_0 := by decide +kernel
theorem dksX6_compared_1 : cX6_compared.data.toList.drop 22 = dktX6_compared_1 := dk_seg dksX6_compared_0 22 rfl rfl
theorem dksX6_compared_2 : cX6_compared.data.toList.drop 46 = dktX6_compared_2 := dk_seg dksX6_compared_1 24 rfl rfl
theorem dX6_compared_0 : decode cX6_compared 0 = .ok (.aload_n 0, 1) := dk_42 (dk_at dksX6_compared_0 0 rfl rfl)
theorem dX6_compared_1 : decode cX6_compared 1 = .ok (.iconst 0, 1) := dk_3 (dk_at dksX6_compared_0 1 rfl rfl)
theorem dX6_compared_2 : decode cX6_compared 2 = .ok (.putfield 132, 3) := dk_181 0 132 (dk_at dksX6_compared_0 2 rfl rfl)
theorem dX6_compared_5 : decode cX6_compared 5 = .ok (.aload_n 0, 1) := dk_42 (dk_at dksX6_compared_0 5 rfl rfl)
theorem dX6_compared_6 : decode cX6_compared 6 = .ok (.iload_n 1, 1) := dk_27 (dk_at dksX6_compared_0 6 rfl rfl)
theorem dX6_compared_7 : decode cX6_compared 7 = .ok (.iconst 0, 1) := dk_3 (dk_at dksX6_compared_0 7 rfl rfl)
theorem dX6_compared_8 : decode cX6_compared 8 = .ok (.iconst 4, 1) := dk_7 (dk_at dksX6_compared_0 8 rfl rfl)
theorem dX6_compared_9 : decode cX6_compared 9 = .ok (.invokestatic 166, 3) := dk_184 0 166 (dk_at dksX6_compared_0 9 rfl rfl)
theorem dX6_compared_12 : decode cX6_compared 12 = .ok (.ifCond .ne 7, 3) := dk_154 0 7 (dk_at dksX6_compared_0 12 rfl rfl)
theorem dX6_compared_15 : decode cX6_compared 15 = .ok (.iconst 1, 1) := dk_4 (dk_at dksX6_compared_0 15 rfl rfl)
theorem dX6_compared_16 : decode cX6_compared 16 = .ok (.goto 4, 3) := dk_167 0 4 (dk_at dksX6_compared_0 16 rfl rfl)
theorem dX6_compared_19 : decode cX6_compared 19 = .ok (.iconst 0, 1) := dk_3 (dk_at dksX6_compared_0 19 rfl rfl)
theorem dX6_compared_20 : decode cX6_compared 20 = .ok (.iconst 1, 1) := dk_4 (dk_at dksX6_compared_0 20 rfl rfl)
theorem dX6_compared_21 : decode cX6_compared 21 = .ok (.iconst 1, 1) := dk_4 (dk_at dksX6_compared_0 21 rfl rfl)
theorem dX6_compared_22 : decode cX6_compared 22 = .ok (.invokevirtual 233, 3) := dk_182 0 233 (dk_at dksX6_compared_1 0 rfl rfl)
theorem dX6_compared_25 : decode cX6_compared 25 = .ok (.ifCond .ne 28, 3) := dk_154 0 28 (dk_at dksX6_compared_1 3 rfl rfl)
theorem dX6_compared_28 : decode cX6_compared 28 = .ok (.aload_n 0, 1) := dk_42 (dk_at dksX6_compared_1 6 rfl rfl)
theorem dX6_compared_29 : decode cX6_compared 29 = .ok (.aload_n 0, 1) := dk_42 (dk_at dksX6_compared_1 7 rfl rfl)
theorem dX6_compared_30 : decode cX6_compared 30 = .ok (.getfield 23, 3) := dk_180 0 23 (dk_at dksX6_compared_1 8 rfl rfl)
theorem dX6_compared_33 : decode cX6_compared 33 = .ok (.iconst 1, 1) := dk_4 (dk_at dksX6_compared_1 11 rfl rfl)
theorem dX6_compared_34 : decode cX6_compared 34 = .ok (.iaload, 1) := dk_46 (dk_at dksX6_compared_1 12 rfl rfl)
theorem dX6_compared_35 : decode cX6_compared 35 = .ok (.bipush 7, 2) := dk_16 7 (dk_at dksX6_compared_1 13 rfl rfl)
theorem dX6_compared_37 : decode cX6_compared 37 = .ok (.if_icmp .le 7, 3) := dk_164 0 7 (dk_at dksX6_compared_1 15 rfl rfl)
theorem dX6_compared_40 : decode cX6_compared 40 = .ok (.iconst 1, 1) := dk_4 (dk_at dksX6_compared_1 18 rfl rfl)
theorem dX6_compared_41 : decode cX6_compared 41 = .ok (.goto 4, 3) := dk_167 0 4 (dk_at dksX6_compared_1 19 rfl rfl)
theorem dX6_compared_44 : decode cX6_compared 44 = .ok (.iconst 0, 1) := dk_3 (dk_at dksX6_compared_1 22 rfl rfl)
theorem dX6_compared_45 : decode cX6_compared 45 = .ok (.iconst 2, 1) := dk_5 (dk_at dksX6_compared_1 23 rfl rfl)
theorem dX6_compared_46 : decode cX6_compared 46 = .ok (.iconst 2, 1) := dk_5 (dk_at dksX6_compared_2 0 rfl rfl)
theorem dX6_compared_47 : decode cX6_compared 47 = .ok (.invokevirtual 233, 3) := dk_182 0 233 (dk_at dksX6_compared_2 1 rfl rfl)
theorem dX6_compared_50 : decode cX6_compared 50 = .ok (.ifCond .eq 5, 3) := dk_153 0 5 (dk_at dksX6_compared_2 4 rfl rfl)
theorem dX6_compared_53 : decode cX6_compared 53 = .ok (.iconst 0, 1) := dk_3 (dk_at dksX6_compared_2 7 rfl rfl)
theorem dX6_compared_54 : decode cX6_compared 54 = .ok (.ireturn, 1) := dk_172 (dk_at dksX6_compared_2 8 rfl rfl)
theorem dX6_compared_55 : decode cX6_compared 55 = .ok (.aload_n 0, 1) := dk_42 (dk_at dksX6_compared_2 9 rfl rfl)
theorem dX6_compared_56 : decode cX6_compared 56 = .ok (.iload_n 1, 1) := dk_27 (dk_at dksX6_compared_2 10 rfl rfl)
theorem dX6_compared_57 : decode cX6_compared 57 = .ok (.invokevirtual 405, 3) := dk_182 1 149 (dk_at dksX6_compared_2 11 rfl rfl)
theorem dX6_compared_60 : decode cX6_compared 60 = .ok (.aload_n 0, 1) := dk_42 (dk_at dksX6_compared_2 14 rfl rfl)
theorem dX6_compared_61 : decode cX6_compared 61 = .ok (.getfield 396, 3) := dk_180 1 140 (dk_at dksX6_compared_2 15 rfl rfl)
theorem dX6_compared_64 : decode cX6_compared 64 = .ok (.ireturn, 1) := dk_172 (dk_at dksX6_compared_2 18 rfl rfl)
abbrev cX6_worst : ByteArray := prog_19_method_97_code
def yX6_worst : MethodName := ⟨RX6, "worst", "(I)J"⟩
def dkwX6_worst_4 : List UInt8 := [32, 105, 42, 180, 0, 117, 21, 4, 46, 133, 97, 65, 132, 4, 1, 167, 255, 227, 32, 173]
abbrev dktX6_worst_4 : List UInt8 := dkwX6_worst_4 ++ []
def dkwX6_worst_3 : List UInt8 := [180, 1, 146, 133, 173, 9, 65, 3, 54, 4, 21, 4, 42, 180, 0, 23, 4, 46, 162, 0, 24, 20, 1, 152]
abbrev dktX6_worst_3 : List UInt8 := dkwX6_worst_3 ++ dktX6_worst_4
def dkwX6_worst_2 : List UInt8 := [5, 182, 0, 233, 153, 0, 5, 9, 173, 42, 42, 180, 0, 23, 8, 46, 182, 1, 149, 27, 154, 0, 9, 42]
abbrev dktX6_worst_2 : List UInt8 := dkwX6_worst_2 ++ dktX6_worst_3
def dkwX6_worst_1 : List UInt8 := [182, 0, 233, 154, 0, 28, 42, 42, 180, 0, 23, 4, 46, 16, 7, 164, 0, 7, 4, 167, 0, 4, 3, 5]
abbrev dktX6_worst_1 : List UInt8 := dkwX6_worst_1 ++ dktX6_worst_2
def dkwX6_worst_0 : List UInt8 := [42, 3, 181, 0, 132, 42, 27, 3, 4, 184, 0, 166, 154, 0, 7, 4, 167, 0, 4, 3, 4, 4]
abbrev dktX6_worst_0 : List UInt8 := dkwX6_worst_0 ++ dktX6_worst_1
theorem dksX6_worst_0 : cX6_worst.data.toList.drop 0 = dktX6_worst_0 := by decide +kernel
theorem dksX6_worst_1 : cX6_worst.data.toList.drop 22 = dktX6_worst_1 := dk_seg dksX6_worst_0 22 rfl rfl
theorem dksX6_worst_2 : cX6_worst.data.toList.drop 46 = dktX6_worst_2 := dk_seg dksX6_worst_1 24 rfl rfl
theorem dksX6_worst_3 : cX6_worst.data.toList.drop 70 = dktX6_worst_3 := dk_seg dksX6_worst_2 24 rfl rfl
theorem dksX6_worst_4 : cX6_worst.data.toList.drop 94 = dktX6_worst_4 := dk_seg dksX6_worst_3 24 rfl rfl
theorem dX6_worst_0 : decode cX6_worst 0 = .ok (.aload_n 0, 1) := dk_42 (dk_at dksX6_worst_0 0 rfl rfl)
theorem dX6_worst_1 : decode cX6_worst 1 = .ok (.iconst 0, 1) := dk_3 (dk_at dksX6_worst_0 1 rfl rfl)
theorem dX6_worst_2 : decode cX6_worst 2 = .ok (.putfield 132, 3) := dk_181 0 132 (dk_at dksX6_worst_0 2 rfl rfl)
theorem dX6_worst_5 : decode cX6_worst 5 = .ok (.aload_n 0, 1) := dk_42 (dk_at dksX6_worst_0 5 rfl rfl)
theorem dX6_worst_6 : decode cX6_worst 6 = .ok (.iload_n 1, 1) := dk_27 (dk_at dksX6_worst_0 6 rfl rfl)
theorem dX6_worst_7 : decode cX6_worst 7 = .ok (.iconst 0, 1) := dk_3 (dk_at dksX6_worst_0 7 rfl rfl)
theorem dX6_worst_8 : decode cX6_worst 8 = .ok (.iconst 1, 1) := dk_4 (dk_at dksX6_worst_0 8 rfl rfl)
theorem dX6_worst_9 : decode cX6_worst 9 = .ok (.invokestatic 166, 3) := dk_184 0 166 (dk_at dksX6_worst_0 9 rfl rfl)
theorem dX6_worst_12 : decode cX6_worst 12 = .ok (.ifCond .ne 7, 3) := dk_154 0 7 (dk_at dksX6_worst_0 12 rfl rfl)
theorem dX6_worst_15 : decode cX6_worst 15 = .ok (.iconst 1, 1) := dk_4 (dk_at dksX6_worst_0 15 rfl rfl)
theorem dX6_worst_16 : decode cX6_worst 16 = .ok (.goto 4, 3) := dk_167 0 4 (dk_at dksX6_worst_0 16 rfl rfl)
theorem dX6_worst_19 : decode cX6_worst 19 = .ok (.iconst 0, 1) := dk_3 (dk_at dksX6_worst_0 19 rfl rfl)
theorem dX6_worst_20 : decode cX6_worst 20 = .ok (.iconst 1, 1) := dk_4 (dk_at dksX6_worst_0 20 rfl rfl)
theorem dX6_worst_21 : decode cX6_worst 21 = .ok (.iconst 1, 1) := dk_4 (dk_at dksX6_worst_0 21 rfl rfl)
theorem dX6_worst_22 : decode cX6_worst 22 = .ok (.invokevirtual 233, 3) := dk_182 0 233 (dk_at dksX6_worst_1 0 rfl rfl)
theorem dX6_worst_25 : decode cX6_worst 25 = .ok (.ifCond .ne 28, 3) := dk_154 0 28 (dk_at dksX6_worst_1 3 rfl rfl)
theorem dX6_worst_28 : decode cX6_worst 28 = .ok (.aload_n 0, 1) := dk_42 (dk_at dksX6_worst_1 6 rfl rfl)
theorem dX6_worst_29 : decode cX6_worst 29 = .ok (.aload_n 0, 1) := dk_42 (dk_at dksX6_worst_1 7 rfl rfl)
theorem dX6_worst_30 : decode cX6_worst 30 = .ok (.getfield 23, 3) := dk_180 0 23 (dk_at dksX6_worst_1 8 rfl rfl)
theorem dX6_worst_33 : decode cX6_worst 33 = .ok (.iconst 1, 1) := dk_4 (dk_at dksX6_worst_1 11 rfl rfl)
theorem dX6_worst_34 : decode cX6_worst 34 = .ok (.iaload, 1) := dk_46 (dk_at dksX6_worst_1 12 rfl rfl)
theorem dX6_worst_35 : decode cX6_worst 35 = .ok (.bipush 7, 2) := dk_16 7 (dk_at dksX6_worst_1 13 rfl rfl)
theorem dX6_worst_37 : decode cX6_worst 37 = .ok (.if_icmp .le 7, 3) := dk_164 0 7 (dk_at dksX6_worst_1 15 rfl rfl)
theorem dX6_worst_40 : decode cX6_worst 40 = .ok (.iconst 1, 1) := dk_4 (dk_at dksX6_worst_1 18 rfl rfl)
theorem dX6_worst_41 : decode cX6_worst 41 = .ok (.goto 4, 3) := dk_167 0 4 (dk_at dksX6_worst_1 19 rfl rfl)
theorem dX6_worst_44 : decode cX6_worst 44 = .ok (.iconst 0, 1) := dk_3 (dk_at dksX6_worst_1 22 rfl rfl)
theorem dX6_worst_45 : decode cX6_worst 45 = .ok (.iconst 2, 1) := dk_5 (dk_at dksX6_worst_1 23 rfl rfl)
theorem dX6_worst_46 : decode cX6_worst 46 = .ok (.iconst 2, 1) := dk_5 (dk_at dksX6_worst_2 0 rfl rfl)
theorem dX6_worst_47 : decode cX6_worst 47 = .ok (.invokevirtual 233, 3) := dk_182 0 233 (dk_at dksX6_worst_2 1 rfl rfl)
theorem dX6_worst_50 : decode cX6_worst 50 = .ok (.ifCond .eq 5, 3) := dk_153 0 5 (dk_at dksX6_worst_2 4 rfl rfl)
theorem dX6_worst_53 : decode cX6_worst 53 = .ok (.lconst 0, 1) := dk_9 (dk_at dksX6_worst_2 7 rfl rfl)
theorem dX6_worst_54 : decode cX6_worst 54 = .ok (.lreturn, 1) := dk_173 (dk_at dksX6_worst_2 8 rfl rfl)
theorem dX6_worst_55 : decode cX6_worst 55 = .ok (.aload_n 0, 1) := dk_42 (dk_at dksX6_worst_2 9 rfl rfl)
theorem dX6_worst_56 : decode cX6_worst 56 = .ok (.aload_n 0, 1) := dk_42 (dk_at dksX6_worst_2 10 rfl rfl)
theorem dX6_worst_57 : decode cX6_worst 57 = .ok (.getfield 23, 3) := dk_180 0 23 (dk_at dksX6_worst_2 11 rfl rfl)
theorem dX6_worst_60 : decode cX6_worst 60 = .ok (.iconst 5, 1) := dk_8 (dk_at dksX6_worst_2 14 rfl rfl)
theorem dX6_worst_61 : decode cX6_worst 61 = .ok (.iaload, 1) := dk_46 (dk_at dksX6_worst_2 15 rfl rfl)
theorem dX6_worst_62 : decode cX6_worst 62 = .ok (.invokevirtual 405, 3) := dk_182 1 149 (dk_at dksX6_worst_2 16 rfl rfl)
theorem dX6_worst_65 : decode cX6_worst 65 = .ok (.iload_n 1, 1) := dk_27 (dk_at dksX6_worst_2 19 rfl rfl)
theorem dX6_worst_66 : decode cX6_worst 66 = .ok (.ifCond .ne 9, 3) := dk_154 0 9 (dk_at dksX6_worst_2 20 rfl rfl)
theorem dX6_worst_69 : decode cX6_worst 69 = .ok (.aload_n 0, 1) := dk_42 (dk_at dksX6_worst_2 23 rfl rfl)
theorem dX6_worst_70 : decode cX6_worst 70 = .ok (.getfield 402, 3) := dk_180 1 146 (dk_at dksX6_worst_3 0 rfl rfl)
theorem dX6_worst_73 : decode cX6_worst 73 = .ok (.i2l, 1) := dk_133 (dk_at dksX6_worst_3 3 rfl rfl)
theorem dX6_worst_74 : decode cX6_worst 74 = .ok (.lreturn, 1) := dk_173 (dk_at dksX6_worst_3 4 rfl rfl)
theorem dX6_worst_75 : decode cX6_worst 75 = .ok (.lconst 0, 1) := dk_9 (dk_at dksX6_worst_3 5 rfl rfl)
theorem dX6_worst_76 : decode cX6_worst 76 = .ok (.lstore_n 2, 1) := dk_65 (dk_at dksX6_worst_3 6 rfl rfl)
theorem dX6_worst_77 : decode cX6_worst 77 = .ok (.iconst 0, 1) := dk_3 (dk_at dksX6_worst_3 7 rfl rfl)
theorem dX6_worst_78 : decode cX6_worst 78 = .ok (.istore 4, 2) := dk_54 4 (dk_at dksX6_worst_3 8 rfl rfl)
theorem dX6_worst_80 : decode cX6_worst 80 = .ok (.iload 4, 2) := dk_21 4 (dk_at dksX6_worst_3 10 rfl rfl)
theorem dX6_worst_82 : decode cX6_worst 82 = .ok (.aload_n 0, 1) := dk_42 (dk_at dksX6_worst_3 12 rfl rfl)
theorem dX6_worst_83 : decode cX6_worst 83 = .ok (.getfield 23, 3) := dk_180 0 23 (dk_at dksX6_worst_3 13 rfl rfl)
theorem dX6_worst_86 : decode cX6_worst 86 = .ok (.iconst 1, 1) := dk_4 (dk_at dksX6_worst_3 16 rfl rfl)
theorem dX6_worst_87 : decode cX6_worst 87 = .ok (.iaload, 1) := dk_46 (dk_at dksX6_worst_3 17 rfl rfl)
theorem dX6_worst_88 : decode cX6_worst 88 = .ok (.if_icmp .ge 24, 3) := dk_162 0 24 (dk_at dksX6_worst_3 18 rfl rfl)
theorem dX6_worst_91 : decode cX6_worst 91 = .ok (.ldc2_w 408, 3) := dk_20 1 152 (dk_at dksX6_worst_3 21 rfl rfl)
theorem dX6_worst_94 : decode cX6_worst 94 = .ok (.lload_n 2, 1) := dk_32 (dk_at dksX6_worst_4 0 rfl rfl)
theorem dX6_worst_95 : decode cX6_worst 95 = .ok (.lmul, 1) := dk_105 (dk_at dksX6_worst_4 1 rfl rfl)
theorem dX6_worst_96 : decode cX6_worst 96 = .ok (.aload_n 0, 1) := dk_42 (dk_at dksX6_worst_4 2 rfl rfl)
theorem dX6_worst_97 : decode cX6_worst 97 = .ok (.getfield 117, 3) := dk_180 0 117 (dk_at dksX6_worst_4 3 rfl rfl)
theorem dX6_worst_100 : decode cX6_worst 100 = .ok (.iload 4, 2) := dk_21 4 (dk_at dksX6_worst_4 6 rfl rfl)
theorem dX6_worst_102 : decode cX6_worst 102 = .ok (.iaload, 1) := dk_46 (dk_at dksX6_worst_4 8 rfl rfl)
theorem dX6_worst_103 : decode cX6_worst 103 = .ok (.i2l, 1) := dk_133 (dk_at dksX6_worst_4 9 rfl rfl)
theorem dX6_worst_104 : decode cX6_worst 104 = .ok (.ladd, 1) := dk_97 (dk_at dksX6_worst_4 10 rfl rfl)
theorem dX6_worst_105 : decode cX6_worst 105 = .ok (.lstore_n 2, 1) := dk_65 (dk_at dksX6_worst_4 11 rfl rfl)
theorem dX6_worst_106 : decode cX6_worst 106 = .ok (.iinc 4 1, 3) := dk_132 4 1 (dk_at dksX6_worst_4 12 rfl rfl)
theorem dX6_worst_109 : decode cX6_worst 109 = .ok (.goto (-29), 3) := dk_167 255 227 (dk_at dksX6_worst_4 15 rfl rfl)
theorem dX6_worst_112 : decode cX6_worst 112 = .ok (.lload_n 2, 1) := dk_32 (dk_at dksX6_worst_4 18 rfl rfl)
theorem dX6_worst_113 : decode cX6_worst 113 = .ok (.lreturn, 1) := dk_173 (dk_at dksX6_worst_4 19 rfl rfl)
abbrev cX6_drawn : ByteArray := prog_19_method_99_code
def yX6_drawn : MethodName := ⟨RX6, "drawn", "(III)I"⟩
def dkwX6_drawn_3 : List UInt8 := [182, 1, 59, 126, 133, 184, 0, 249, 96, 54, 4, 132, 5, 1, 167, 255, 220, 21, 4, 172]
abbrev dktX6_drawn_3 : List UInt8 := dkwX6_drawn_3 ++ []
def dkwX6_drawn_2 : List UInt8 := [21, 5, 29, 162, 0, 36, 42, 28, 21, 5, 96, 182, 1, 155, 21, 4, 42, 27, 182, 1, 116, 42]
abbrev dktX6_drawn_2 : List UInt8 := dkwX6_drawn_2 ++ dktX6_drawn_3
def dkwX6_drawn_1 : List UInt8 := [154, 0, 7, 4, 167, 0, 4, 3, 4, 4, 182, 0, 233, 153, 0, 5, 3, 172, 3, 54, 4, 3, 54, 5]
abbrev dktX6_drawn_1 : List UInt8 := dkwX6_drawn_1 ++ dktX6_drawn_2
def dkwX6_drawn_0 : List UInt8 := [42, 3, 181, 0, 132, 42, 27, 3, 7, 184, 0, 166, 153, 0, 13, 29, 4, 16, 60, 184, 0, 166]
abbrev dktX6_drawn_0 : List UInt8 := dkwX6_drawn_0 ++ dktX6_drawn_1
theorem dksX6_drawn_0 : cX6_drawn.data.toList.drop 0 = dktX6_drawn_0 := by decide +kernel
theorem dksX6_drawn_1 : cX6_drawn.data.toList.drop 22 = dktX6_drawn_1 := dk_seg dksX6_drawn_0 22 rfl rfl
theorem dksX6_drawn_2 : cX6_drawn.data.toList.drop 46 = dktX6_drawn_2 := dk_seg dksX6_drawn_1 24 rfl rfl
theorem dksX6_drawn_3 : cX6_drawn.data.toList.drop 68 = dktX6_drawn_3 := dk_seg dksX6_drawn_2 22 rfl rfl
theorem dX6_drawn_0 : decode cX6_drawn 0 = .ok (.aload_n 0, 1) := dk_42 (dk_at dksX6_drawn_0 0 rfl rfl)
theorem dX6_drawn_1 : decode cX6_drawn 1 = .ok (.iconst 0, 1) := dk_3 (dk_at dksX6_drawn_0 1 rfl rfl)
theorem dX6_drawn_2 : decode cX6_drawn 2 = .ok (.putfield 132, 3) := dk_181 0 132 (dk_at dksX6_drawn_0 2 rfl rfl)
theorem dX6_drawn_5 : decode cX6_drawn 5 = .ok (.aload_n 0, 1) := dk_42 (dk_at dksX6_drawn_0 5 rfl rfl)
theorem dX6_drawn_6 : decode cX6_drawn 6 = .ok (.iload_n 1, 1) := dk_27 (dk_at dksX6_drawn_0 6 rfl rfl)
theorem dX6_drawn_7 : decode cX6_drawn 7 = .ok (.iconst 0, 1) := dk_3 (dk_at dksX6_drawn_0 7 rfl rfl)
theorem dX6_drawn_8 : decode cX6_drawn 8 = .ok (.iconst 4, 1) := dk_7 (dk_at dksX6_drawn_0 8 rfl rfl)
theorem dX6_drawn_9 : decode cX6_drawn 9 = .ok (.invokestatic 166, 3) := dk_184 0 166 (dk_at dksX6_drawn_0 9 rfl rfl)
theorem dX6_drawn_12 : decode cX6_drawn 12 = .ok (.ifCond .eq 13, 3) := dk_153 0 13 (dk_at dksX6_drawn_0 12 rfl rfl)
theorem dX6_drawn_15 : decode cX6_drawn 15 = .ok (.iload_n 3, 1) := dk_29 (dk_at dksX6_drawn_0 15 rfl rfl)
theorem dX6_drawn_16 : decode cX6_drawn 16 = .ok (.iconst 1, 1) := dk_4 (dk_at dksX6_drawn_0 16 rfl rfl)
theorem dX6_drawn_17 : decode cX6_drawn 17 = .ok (.bipush 60, 2) := dk_16 60 (dk_at dksX6_drawn_0 17 rfl rfl)
theorem dX6_drawn_19 : decode cX6_drawn 19 = .ok (.invokestatic 166, 3) := dk_184 0 166 (dk_at dksX6_drawn_0 19 rfl rfl)
theorem dX6_drawn_22 : decode cX6_drawn 22 = .ok (.ifCond .ne 7, 3) := dk_154 0 7 (dk_at dksX6_drawn_1 0 rfl rfl)
theorem dX6_drawn_25 : decode cX6_drawn 25 = .ok (.iconst 1, 1) := dk_4 (dk_at dksX6_drawn_1 3 rfl rfl)
theorem dX6_drawn_26 : decode cX6_drawn 26 = .ok (.goto 4, 3) := dk_167 0 4 (dk_at dksX6_drawn_1 4 rfl rfl)
theorem dX6_drawn_29 : decode cX6_drawn 29 = .ok (.iconst 0, 1) := dk_3 (dk_at dksX6_drawn_1 7 rfl rfl)
theorem dX6_drawn_30 : decode cX6_drawn 30 = .ok (.iconst 1, 1) := dk_4 (dk_at dksX6_drawn_1 8 rfl rfl)
theorem dX6_drawn_31 : decode cX6_drawn 31 = .ok (.iconst 1, 1) := dk_4 (dk_at dksX6_drawn_1 9 rfl rfl)
theorem dX6_drawn_32 : decode cX6_drawn 32 = .ok (.invokevirtual 233, 3) := dk_182 0 233 (dk_at dksX6_drawn_1 10 rfl rfl)
theorem dX6_drawn_35 : decode cX6_drawn 35 = .ok (.ifCond .eq 5, 3) := dk_153 0 5 (dk_at dksX6_drawn_1 13 rfl rfl)
theorem dX6_drawn_38 : decode cX6_drawn 38 = .ok (.iconst 0, 1) := dk_3 (dk_at dksX6_drawn_1 16 rfl rfl)
theorem dX6_drawn_39 : decode cX6_drawn 39 = .ok (.ireturn, 1) := dk_172 (dk_at dksX6_drawn_1 17 rfl rfl)
theorem dX6_drawn_40 : decode cX6_drawn 40 = .ok (.iconst 0, 1) := dk_3 (dk_at dksX6_drawn_1 18 rfl rfl)
theorem dX6_drawn_41 : decode cX6_drawn 41 = .ok (.istore 4, 2) := dk_54 4 (dk_at dksX6_drawn_1 19 rfl rfl)
theorem dX6_drawn_43 : decode cX6_drawn 43 = .ok (.iconst 0, 1) := dk_3 (dk_at dksX6_drawn_1 21 rfl rfl)
theorem dX6_drawn_44 : decode cX6_drawn 44 = .ok (.istore 5, 2) := dk_54 5 (dk_at dksX6_drawn_1 22 rfl rfl)
theorem dX6_drawn_46 : decode cX6_drawn 46 = .ok (.iload 5, 2) := dk_21 5 (dk_at dksX6_drawn_2 0 rfl rfl)
theorem dX6_drawn_48 : decode cX6_drawn 48 = .ok (.iload_n 3, 1) := dk_29 (dk_at dksX6_drawn_2 2 rfl rfl)
theorem dX6_drawn_49 : decode cX6_drawn 49 = .ok (.if_icmp .ge 36, 3) := dk_162 0 36 (dk_at dksX6_drawn_2 3 rfl rfl)
theorem dX6_drawn_52 : decode cX6_drawn 52 = .ok (.aload_n 0, 1) := dk_42 (dk_at dksX6_drawn_2 6 rfl rfl)
theorem dX6_drawn_53 : decode cX6_drawn 53 = .ok (.iload_n 2, 1) := dk_28 (dk_at dksX6_drawn_2 7 rfl rfl)
theorem dX6_drawn_54 : decode cX6_drawn 54 = .ok (.iload 5, 2) := dk_21 5 (dk_at dksX6_drawn_2 8 rfl rfl)
theorem dX6_drawn_56 : decode cX6_drawn 56 = .ok (.iadd, 1) := dk_96 (dk_at dksX6_drawn_2 10 rfl rfl)
theorem dX6_drawn_57 : decode cX6_drawn 57 = .ok (.invokevirtual 411, 3) := dk_182 1 155 (dk_at dksX6_drawn_2 11 rfl rfl)
theorem dX6_drawn_60 : decode cX6_drawn 60 = .ok (.iload 4, 2) := dk_21 4 (dk_at dksX6_drawn_2 14 rfl rfl)
theorem dX6_drawn_62 : decode cX6_drawn 62 = .ok (.aload_n 0, 1) := dk_42 (dk_at dksX6_drawn_2 16 rfl rfl)
theorem dX6_drawn_63 : decode cX6_drawn 63 = .ok (.iload_n 1, 1) := dk_27 (dk_at dksX6_drawn_2 17 rfl rfl)
theorem dX6_drawn_64 : decode cX6_drawn 64 = .ok (.invokevirtual 372, 3) := dk_182 1 116 (dk_at dksX6_drawn_2 18 rfl rfl)
theorem dX6_drawn_67 : decode cX6_drawn 67 = .ok (.aload_n 0, 1) := dk_42 (dk_at dksX6_drawn_2 21 rfl rfl)
theorem dX6_drawn_68 : decode cX6_drawn 68 = .ok (.invokevirtual 315, 3) := dk_182 1 59 (dk_at dksX6_drawn_3 0 rfl rfl)
theorem dX6_drawn_71 : decode cX6_drawn 71 = .ok (.iand, 1) := dk_126 (dk_at dksX6_drawn_3 3 rfl rfl)
theorem dX6_drawn_72 : decode cX6_drawn 72 = .ok (.i2l, 1) := dk_133 (dk_at dksX6_drawn_3 4 rfl rfl)
theorem dX6_drawn_73 : decode cX6_drawn 73 = .ok (.invokestatic 249, 3) := dk_184 0 249 (dk_at dksX6_drawn_3 5 rfl rfl)
theorem dX6_drawn_76 : decode cX6_drawn 76 = .ok (.iadd, 1) := dk_96 (dk_at dksX6_drawn_3 8 rfl rfl)
theorem dX6_drawn_77 : decode cX6_drawn 77 = .ok (.istore 4, 2) := dk_54 4 (dk_at dksX6_drawn_3 9 rfl rfl)
theorem dX6_drawn_79 : decode cX6_drawn 79 = .ok (.iinc 5 1, 3) := dk_132 5 1 (dk_at dksX6_drawn_3 11 rfl rfl)
theorem dX6_drawn_82 : decode cX6_drawn 82 = .ok (.goto (-36), 3) := dk_167 255 220 (dk_at dksX6_drawn_3 14 rfl rfl)
theorem dX6_drawn_85 : decode cX6_drawn 85 = .ok (.iload 4, 2) := dk_21 4 (dk_at dksX6_drawn_3 17 rfl rfl)
theorem dX6_drawn_87 : decode cX6_drawn 87 = .ok (.ireturn, 1) := dk_172 (dk_at dksX6_drawn_3 19 rfl rfl)
abbrev cX6_rowBy : ByteArray := prog_19_method_98_code
def yX6_rowBy : MethodName := ⟨RX6, "rowBy", "(I)V"⟩
def dkwX6_rowBy_4 : List UInt8 := [21, 4, 21, 5, 79, 132, 3, 255, 167, 255, 195, 177]
abbrev dktX6_rowBy_4 : List UInt8 := dkwX6_rowBy_4 ++ []
def dkwX6_rowBy_3 : List UInt8 := [180, 0, 77, 29, 46, 54, 5, 42, 180, 0, 77, 29, 42, 180, 0, 77, 21, 4, 46, 79, 42, 180, 0, 77]
abbrev dktX6_rowBy_3 : List UInt8 := dkwX6_rowBy_3 ++ dktX6_rowBy_4
def dkwX6_rowBy_2 : List UInt8 := [19, 1, 154, 104, 17, 48, 57, 96, 61, 28, 16, 16, 122, 17, 127, 255, 126, 29, 4, 96, 112, 54, 4, 42]
abbrev dktX6_rowBy_2 : List UInt8 := dkwX6_rowBy_2 ++ dktX6_rowBy_3
def dkwX6_rowBy_1 : List UInt8 := [180, 0, 77, 29, 29, 79, 132, 3, 1, 167, 255, 238, 42, 180, 1, 101, 4, 100, 62, 29, 158, 0, 63, 28]
abbrev dktX6_rowBy_1 : List UInt8 := dkwX6_rowBy_1 ++ dktX6_rowBy_2
def dkwX6_rowBy_0 : List UInt8 := [27, 61, 42, 42, 180, 0, 23, 4, 46, 181, 1, 101, 3, 62, 29, 42, 180, 1, 101, 162, 0, 16, 42]
abbrev dktX6_rowBy_0 : List UInt8 := dkwX6_rowBy_0 ++ dktX6_rowBy_1
theorem dksX6_rowBy_0 : cX6_rowBy.data.toList.drop 0 = dktX6_rowBy_0 := by decide +kernel
theorem dksX6_rowBy_1 : cX6_rowBy.data.toList.drop 23 = dktX6_rowBy_1 := dk_seg dksX6_rowBy_0 23 rfl rfl
theorem dksX6_rowBy_2 : cX6_rowBy.data.toList.drop 47 = dktX6_rowBy_2 := dk_seg dksX6_rowBy_1 24 rfl rfl
theorem dksX6_rowBy_3 : cX6_rowBy.data.toList.drop 71 = dktX6_rowBy_3 := dk_seg dksX6_rowBy_2 24 rfl rfl
theorem dksX6_rowBy_4 : cX6_rowBy.data.toList.drop 95 = dktX6_rowBy_4 := dk_seg dksX6_rowBy_3 24 rfl rfl
theorem dX6_rowBy_0 : decode cX6_rowBy 0 = .ok (.iload_n 1, 1) := dk_27 (dk_at dksX6_rowBy_0 0 rfl rfl)
theorem dX6_rowBy_1 : decode cX6_rowBy 1 = .ok (.istore_n 2, 1) := dk_61 (dk_at dksX6_rowBy_0 1 rfl rfl)
theorem dX6_rowBy_2 : decode cX6_rowBy 2 = .ok (.aload_n 0, 1) := dk_42 (dk_at dksX6_rowBy_0 2 rfl rfl)
theorem dX6_rowBy_3 : decode cX6_rowBy 3 = .ok (.aload_n 0, 1) := dk_42 (dk_at dksX6_rowBy_0 3 rfl rfl)
theorem dX6_rowBy_4 : decode cX6_rowBy 4 = .ok (.getfield 23, 3) := dk_180 0 23 (dk_at dksX6_rowBy_0 4 rfl rfl)
theorem dX6_rowBy_7 : decode cX6_rowBy 7 = .ok (.iconst 1, 1) := dk_4 (dk_at dksX6_rowBy_0 7 rfl rfl)
theorem dX6_rowBy_8 : decode cX6_rowBy 8 = .ok (.iaload, 1) := dk_46 (dk_at dksX6_rowBy_0 8 rfl rfl)
theorem dX6_rowBy_9 : decode cX6_rowBy 9 = .ok (.putfield 357, 3) := dk_181 1 101 (dk_at dksX6_rowBy_0 9 rfl rfl)
theorem dX6_rowBy_12 : decode cX6_rowBy 12 = .ok (.iconst 0, 1) := dk_3 (dk_at dksX6_rowBy_0 12 rfl rfl)
theorem dX6_rowBy_13 : decode cX6_rowBy 13 = .ok (.istore_n 3, 1) := dk_62 (dk_at dksX6_rowBy_0 13 rfl rfl)
theorem dX6_rowBy_14 : decode cX6_rowBy 14 = .ok (.iload_n 3, 1) := dk_29 (dk_at dksX6_rowBy_0 14 rfl rfl)
theorem dX6_rowBy_15 : decode cX6_rowBy 15 = .ok (.aload_n 0, 1) := dk_42 (dk_at dksX6_rowBy_0 15 rfl rfl)
theorem dX6_rowBy_16 : decode cX6_rowBy 16 = .ok (.getfield 357, 3) := dk_180 1 101 (dk_at dksX6_rowBy_0 16 rfl rfl)
theorem dX6_rowBy_19 : decode cX6_rowBy 19 = .ok (.if_icmp .ge 16, 3) := dk_162 0 16 (dk_at dksX6_rowBy_0 19 rfl rfl)
theorem dX6_rowBy_22 : decode cX6_rowBy 22 = .ok (.aload_n 0, 1) := dk_42 (dk_at dksX6_rowBy_0 22 rfl rfl)
theorem dX6_rowBy_23 : decode cX6_rowBy 23 = .ok (.getfield 77, 3) := dk_180 0 77 (dk_at dksX6_rowBy_1 0 rfl rfl)
theorem dX6_rowBy_26 : decode cX6_rowBy 26 = .ok (.iload_n 3, 1) := dk_29 (dk_at dksX6_rowBy_1 3 rfl rfl)
theorem dX6_rowBy_27 : decode cX6_rowBy 27 = .ok (.iload_n 3, 1) := dk_29 (dk_at dksX6_rowBy_1 4 rfl rfl)
theorem dX6_rowBy_28 : decode cX6_rowBy 28 = .ok (.iastore, 1) := dk_79 (dk_at dksX6_rowBy_1 5 rfl rfl)
theorem dX6_rowBy_29 : decode cX6_rowBy 29 = .ok (.iinc 3 1, 3) := dk_132 3 1 (dk_at dksX6_rowBy_1 6 rfl rfl)
theorem dX6_rowBy_32 : decode cX6_rowBy 32 = .ok (.goto (-18), 3) := dk_167 255 238 (dk_at dksX6_rowBy_1 9 rfl rfl)
theorem dX6_rowBy_35 : decode cX6_rowBy 35 = .ok (.aload_n 0, 1) := dk_42 (dk_at dksX6_rowBy_1 12 rfl rfl)
theorem dX6_rowBy_36 : decode cX6_rowBy 36 = .ok (.getfield 357, 3) := dk_180 1 101 (dk_at dksX6_rowBy_1 13 rfl rfl)
theorem dX6_rowBy_39 : decode cX6_rowBy 39 = .ok (.iconst 1, 1) := dk_4 (dk_at dksX6_rowBy_1 16 rfl rfl)
theorem dX6_rowBy_40 : decode cX6_rowBy 40 = .ok (.isub, 1) := dk_100 (dk_at dksX6_rowBy_1 17 rfl rfl)
theorem dX6_rowBy_41 : decode cX6_rowBy 41 = .ok (.istore_n 3, 1) := dk_62 (dk_at dksX6_rowBy_1 18 rfl rfl)
theorem dX6_rowBy_42 : decode cX6_rowBy 42 = .ok (.iload_n 3, 1) := dk_29 (dk_at dksX6_rowBy_1 19 rfl rfl)
theorem dX6_rowBy_43 : decode cX6_rowBy 43 = .ok (.ifCond .le 63, 3) := dk_158 0 63 (dk_at dksX6_rowBy_1 20 rfl rfl)
theorem dX6_rowBy_46 : decode cX6_rowBy 46 = .ok (.iload_n 2, 1) := dk_28 (dk_at dksX6_rowBy_1 23 rfl rfl)
theorem dX6_rowBy_47 : decode cX6_rowBy 47 = .ok (.ldc_w 410, 3) := dk_19 1 154 (dk_at dksX6_rowBy_2 0 rfl rfl)
theorem dX6_rowBy_50 : decode cX6_rowBy 50 = .ok (.imul, 1) := dk_104 (dk_at dksX6_rowBy_2 3 rfl rfl)
theorem dX6_rowBy_51 : decode cX6_rowBy 51 = .ok (.sipush 12345, 3) := dk_17 48 57 (dk_at dksX6_rowBy_2 4 rfl rfl)
theorem dX6_rowBy_54 : decode cX6_rowBy 54 = .ok (.iadd, 1) := dk_96 (dk_at dksX6_rowBy_2 7 rfl rfl)
theorem dX6_rowBy_55 : decode cX6_rowBy 55 = .ok (.istore_n 2, 1) := dk_61 (dk_at dksX6_rowBy_2 8 rfl rfl)
theorem dX6_rowBy_56 : decode cX6_rowBy 56 = .ok (.iload_n 2, 1) := dk_28 (dk_at dksX6_rowBy_2 9 rfl rfl)
theorem dX6_rowBy_57 : decode cX6_rowBy 57 = .ok (.bipush 16, 2) := dk_16 16 (dk_at dksX6_rowBy_2 10 rfl rfl)
theorem dX6_rowBy_59 : decode cX6_rowBy 59 = .ok (.ishr, 1) := dk_122 (dk_at dksX6_rowBy_2 12 rfl rfl)
theorem dX6_rowBy_60 : decode cX6_rowBy 60 = .ok (.sipush 32767, 3) := dk_17 127 255 (dk_at dksX6_rowBy_2 13 rfl rfl)
theorem dX6_rowBy_63 : decode cX6_rowBy 63 = .ok (.iand, 1) := dk_126 (dk_at dksX6_rowBy_2 16 rfl rfl)
theorem dX6_rowBy_64 : decode cX6_rowBy 64 = .ok (.iload_n 3, 1) := dk_29 (dk_at dksX6_rowBy_2 17 rfl rfl)
theorem dX6_rowBy_65 : decode cX6_rowBy 65 = .ok (.iconst 1, 1) := dk_4 (dk_at dksX6_rowBy_2 18 rfl rfl)
theorem dX6_rowBy_66 : decode cX6_rowBy 66 = .ok (.iadd, 1) := dk_96 (dk_at dksX6_rowBy_2 19 rfl rfl)
theorem dX6_rowBy_67 : decode cX6_rowBy 67 = .ok (.irem, 1) := dk_112 (dk_at dksX6_rowBy_2 20 rfl rfl)
theorem dX6_rowBy_68 : decode cX6_rowBy 68 = .ok (.istore 4, 2) := dk_54 4 (dk_at dksX6_rowBy_2 21 rfl rfl)
theorem dX6_rowBy_70 : decode cX6_rowBy 70 = .ok (.aload_n 0, 1) := dk_42 (dk_at dksX6_rowBy_2 23 rfl rfl)
theorem dX6_rowBy_71 : decode cX6_rowBy 71 = .ok (.getfield 77, 3) := dk_180 0 77 (dk_at dksX6_rowBy_3 0 rfl rfl)
theorem dX6_rowBy_74 : decode cX6_rowBy 74 = .ok (.iload_n 3, 1) := dk_29 (dk_at dksX6_rowBy_3 3 rfl rfl)
theorem dX6_rowBy_75 : decode cX6_rowBy 75 = .ok (.iaload, 1) := dk_46 (dk_at dksX6_rowBy_3 4 rfl rfl)
theorem dX6_rowBy_76 : decode cX6_rowBy 76 = .ok (.istore 5, 2) := dk_54 5 (dk_at dksX6_rowBy_3 5 rfl rfl)
theorem dX6_rowBy_78 : decode cX6_rowBy 78 = .ok (.aload_n 0, 1) := dk_42 (dk_at dksX6_rowBy_3 7 rfl rfl)
theorem dX6_rowBy_79 : decode cX6_rowBy 79 = .ok (.getfield 77, 3) := dk_180 0 77 (dk_at dksX6_rowBy_3 8 rfl rfl)
theorem dX6_rowBy_82 : decode cX6_rowBy 82 = .ok (.iload_n 3, 1) := dk_29 (dk_at dksX6_rowBy_3 11 rfl rfl)
theorem dX6_rowBy_83 : decode cX6_rowBy 83 = .ok (.aload_n 0, 1) := dk_42 (dk_at dksX6_rowBy_3 12 rfl rfl)
theorem dX6_rowBy_84 : decode cX6_rowBy 84 = .ok (.getfield 77, 3) := dk_180 0 77 (dk_at dksX6_rowBy_3 13 rfl rfl)
theorem dX6_rowBy_87 : decode cX6_rowBy 87 = .ok (.iload 4, 2) := dk_21 4 (dk_at dksX6_rowBy_3 16 rfl rfl)
theorem dX6_rowBy_89 : decode cX6_rowBy 89 = .ok (.iaload, 1) := dk_46 (dk_at dksX6_rowBy_3 18 rfl rfl)
theorem dX6_rowBy_90 : decode cX6_rowBy 90 = .ok (.iastore, 1) := dk_79 (dk_at dksX6_rowBy_3 19 rfl rfl)
theorem dX6_rowBy_91 : decode cX6_rowBy 91 = .ok (.aload_n 0, 1) := dk_42 (dk_at dksX6_rowBy_3 20 rfl rfl)
theorem dX6_rowBy_92 : decode cX6_rowBy 92 = .ok (.getfield 77, 3) := dk_180 0 77 (dk_at dksX6_rowBy_3 21 rfl rfl)
theorem dX6_rowBy_95 : decode cX6_rowBy 95 = .ok (.iload 4, 2) := dk_21 4 (dk_at dksX6_rowBy_4 0 rfl rfl)
theorem dX6_rowBy_97 : decode cX6_rowBy 97 = .ok (.iload 5, 2) := dk_21 5 (dk_at dksX6_rowBy_4 2 rfl rfl)
theorem dX6_rowBy_99 : decode cX6_rowBy 99 = .ok (.iastore, 1) := dk_79 (dk_at dksX6_rowBy_4 4 rfl rfl)
theorem dX6_rowBy_100 : decode cX6_rowBy 100 = .ok (.iinc 3 (-1), 3) := dk_132 3 255 (dk_at dksX6_rowBy_4 5 rfl rfl)
theorem dX6_rowBy_103 : decode cX6_rowBy 103 = .ok (.goto (-61), 3) := dk_167 255 195 (dk_at dksX6_rowBy_4 8 rfl rfl)
theorem dX6_rowBy_106 : decode cX6_rowBy 106 = .ok (.return_, 1) := dk_177 (dk_at dksX6_rowBy_4 11 rfl rfl)
abbrev cX6_draw : ByteArray := prog_19_method_100_code
def yX6_draw : MethodName := ⟨RX6, "draw", "(II)I"⟩
def dkwX6_draw_1 : List UInt8 := [27, 182, 1, 155, 42, 180, 0, 77, 28, 46, 172]
abbrev dktX6_draw_1 : List UInt8 := dkwX6_draw_1 ++ []
def dkwX6_draw_0 : List UInt8 := [42, 3, 181, 0, 132, 28, 3, 42, 180, 0, 23, 4, 46, 4, 100, 184, 0, 166, 154, 0, 5, 2, 172, 42]
abbrev dktX6_draw_0 : List UInt8 := dkwX6_draw_0 ++ dktX6_draw_1
theorem dksX6_draw_0 : cX6_draw.data.toList.drop 0 = dktX6_draw_0 := by decide +kernel
theorem dksX6_draw_1 : cX6_draw.data.toList.drop 24 = dktX6_draw_1 := dk_seg dksX6_draw_0 24 rfl rfl
theorem dX6_draw_0 : decode cX6_draw 0 = .ok (.aload_n 0, 1) := dk_42 (dk_at dksX6_draw_0 0 rfl rfl)
theorem dX6_draw_1 : decode cX6_draw 1 = .ok (.iconst 0, 1) := dk_3 (dk_at dksX6_draw_0 1 rfl rfl)
theorem dX6_draw_2 : decode cX6_draw 2 = .ok (.putfield 132, 3) := dk_181 0 132 (dk_at dksX6_draw_0 2 rfl rfl)
theorem dX6_draw_5 : decode cX6_draw 5 = .ok (.iload_n 2, 1) := dk_28 (dk_at dksX6_draw_0 5 rfl rfl)
theorem dX6_draw_6 : decode cX6_draw 6 = .ok (.iconst 0, 1) := dk_3 (dk_at dksX6_draw_0 6 rfl rfl)
theorem dX6_draw_7 : decode cX6_draw 7 = .ok (.aload_n 0, 1) := dk_42 (dk_at dksX6_draw_0 7 rfl rfl)
theorem dX6_draw_8 : decode cX6_draw 8 = .ok (.getfield 23, 3) := dk_180 0 23 (dk_at dksX6_draw_0 8 rfl rfl)
theorem dX6_draw_11 : decode cX6_draw 11 = .ok (.iconst 1, 1) := dk_4 (dk_at dksX6_draw_0 11 rfl rfl)
theorem dX6_draw_12 : decode cX6_draw 12 = .ok (.iaload, 1) := dk_46 (dk_at dksX6_draw_0 12 rfl rfl)
theorem dX6_draw_13 : decode cX6_draw 13 = .ok (.iconst 1, 1) := dk_4 (dk_at dksX6_draw_0 13 rfl rfl)
theorem dX6_draw_14 : decode cX6_draw 14 = .ok (.isub, 1) := dk_100 (dk_at dksX6_draw_0 14 rfl rfl)
theorem dX6_draw_15 : decode cX6_draw 15 = .ok (.invokestatic 166, 3) := dk_184 0 166 (dk_at dksX6_draw_0 15 rfl rfl)
theorem dX6_draw_18 : decode cX6_draw 18 = .ok (.ifCond .ne 5, 3) := dk_154 0 5 (dk_at dksX6_draw_0 18 rfl rfl)
theorem dX6_draw_21 : decode cX6_draw 21 = .ok (.iconst (-1), 1) := dk_2 (dk_at dksX6_draw_0 21 rfl rfl)
theorem dX6_draw_22 : decode cX6_draw 22 = .ok (.ireturn, 1) := dk_172 (dk_at dksX6_draw_0 22 rfl rfl)
theorem dX6_draw_23 : decode cX6_draw 23 = .ok (.aload_n 0, 1) := dk_42 (dk_at dksX6_draw_0 23 rfl rfl)
theorem dX6_draw_24 : decode cX6_draw 24 = .ok (.iload_n 1, 1) := dk_27 (dk_at dksX6_draw_1 0 rfl rfl)
theorem dX6_draw_25 : decode cX6_draw 25 = .ok (.invokevirtual 411, 3) := dk_182 1 155 (dk_at dksX6_draw_1 1 rfl rfl)
theorem dX6_draw_28 : decode cX6_draw 28 = .ok (.aload_n 0, 1) := dk_42 (dk_at dksX6_draw_1 4 rfl rfl)
theorem dX6_draw_29 : decode cX6_draw 29 = .ok (.getfield 77, 3) := dk_180 0 77 (dk_at dksX6_draw_1 5 rfl rfl)
theorem dX6_draw_32 : decode cX6_draw 32 = .ok (.iload_n 2, 1) := dk_28 (dk_at dksX6_draw_1 8 rfl rfl)
theorem dX6_draw_33 : decode cX6_draw 33 = .ok (.iaload, 1) := dk_46 (dk_at dksX6_draw_1 9 rfl rfl)
theorem dX6_draw_34 : decode cX6_draw 34 = .ok (.ireturn, 1) := dk_172 (dk_at dksX6_draw_1 10 rfl rfl)
abbrev cX6_century : ByteArray := prog_19_method_101_code
def yX6_century : MethodName := ⟨RX6, "century", "(III)I"⟩
def dkwX6_century_4 : List UInt8 := [132, 5, 1, 167, 255, 220, 21, 4, 172]
abbrev dktX6_century_4 : List UInt8 := dkwX6_century_4 ++ []
def dkwX6_century_3 : List UInt8 := [182, 1, 155, 21, 4, 42, 42, 180, 0, 23, 8, 46, 182, 1, 116, 27, 122, 4, 126, 96, 54, 4]
abbrev dktX6_century_3 : List UInt8 := dkwX6_century_3 ++ dktX6_century_4
def dkwX6_century_2 : List UInt8 := [153, 0, 5, 3, 172, 3, 54, 4, 3, 54, 5, 21, 5, 29, 162, 0, 36, 42, 28, 21, 5, 96]
abbrev dktX6_century_2 : List UInt8 := dkwX6_century_2 ++ dktX6_century_3
def dkwX6_century_1 : List UInt8 := [154, 0, 27, 42, 29, 4, 16, 60, 184, 0, 166, 154, 0, 7, 4, 167, 0, 4, 3, 5, 4, 182, 0, 233]
abbrev dktX6_century_1 : List UInt8 := dkwX6_century_1 ++ dktX6_century_2
def dkwX6_century_0 : List UInt8 := [42, 3, 181, 0, 132, 42, 42, 27, 182, 1, 47, 154, 0, 7, 4, 167, 0, 4, 3, 4, 3, 182, 0, 233]
abbrev dktX6_century_0 : List UInt8 := dkwX6_century_0 ++ dktX6_century_1
theorem dksX6_century_0 : cX6_century.data.toList.drop 0 = dktX6_century_0 := by decide +kernel
theorem dksX6_century_1 : cX6_century.data.toList.drop 24 = dktX6_century_1 := dk_seg dksX6_century_0 24 rfl rfl
theorem dksX6_century_2 : cX6_century.data.toList.drop 48 = dktX6_century_2 := dk_seg dksX6_century_1 24 rfl rfl
theorem dksX6_century_3 : cX6_century.data.toList.drop 70 = dktX6_century_3 := dk_seg dksX6_century_2 22 rfl rfl
theorem dksX6_century_4 : cX6_century.data.toList.drop 92 = dktX6_century_4 := dk_seg dksX6_century_3 22 rfl rfl
theorem dX6_century_0 : decode cX6_century 0 = .ok (.aload_n 0, 1) := dk_42 (dk_at dksX6_century_0 0 rfl rfl)
theorem dX6_century_1 : decode cX6_century 1 = .ok (.iconst 0, 1) := dk_3 (dk_at dksX6_century_0 1 rfl rfl)
theorem dX6_century_2 : decode cX6_century 2 = .ok (.putfield 132, 3) := dk_181 0 132 (dk_at dksX6_century_0 2 rfl rfl)
theorem dX6_century_5 : decode cX6_century 5 = .ok (.aload_n 0, 1) := dk_42 (dk_at dksX6_century_0 5 rfl rfl)
theorem dX6_century_6 : decode cX6_century 6 = .ok (.aload_n 0, 1) := dk_42 (dk_at dksX6_century_0 6 rfl rfl)
theorem dX6_century_7 : decode cX6_century 7 = .ok (.iload_n 1, 1) := dk_27 (dk_at dksX6_century_0 7 rfl rfl)
theorem dX6_century_8 : decode cX6_century 8 = .ok (.invokevirtual 303, 3) := dk_182 1 47 (dk_at dksX6_century_0 8 rfl rfl)
theorem dX6_century_11 : decode cX6_century 11 = .ok (.ifCond .ne 7, 3) := dk_154 0 7 (dk_at dksX6_century_0 11 rfl rfl)
theorem dX6_century_14 : decode cX6_century 14 = .ok (.iconst 1, 1) := dk_4 (dk_at dksX6_century_0 14 rfl rfl)
theorem dX6_century_15 : decode cX6_century 15 = .ok (.goto 4, 3) := dk_167 0 4 (dk_at dksX6_century_0 15 rfl rfl)
theorem dX6_century_18 : decode cX6_century 18 = .ok (.iconst 0, 1) := dk_3 (dk_at dksX6_century_0 18 rfl rfl)
theorem dX6_century_19 : decode cX6_century 19 = .ok (.iconst 1, 1) := dk_4 (dk_at dksX6_century_0 19 rfl rfl)
theorem dX6_century_20 : decode cX6_century 20 = .ok (.iconst 0, 1) := dk_3 (dk_at dksX6_century_0 20 rfl rfl)
theorem dX6_century_21 : decode cX6_century 21 = .ok (.invokevirtual 233, 3) := dk_182 0 233 (dk_at dksX6_century_0 21 rfl rfl)
theorem dX6_century_24 : decode cX6_century 24 = .ok (.ifCond .ne 27, 3) := dk_154 0 27 (dk_at dksX6_century_1 0 rfl rfl)
theorem dX6_century_27 : decode cX6_century 27 = .ok (.aload_n 0, 1) := dk_42 (dk_at dksX6_century_1 3 rfl rfl)
theorem dX6_century_28 : decode cX6_century 28 = .ok (.iload_n 3, 1) := dk_29 (dk_at dksX6_century_1 4 rfl rfl)
theorem dX6_century_29 : decode cX6_century 29 = .ok (.iconst 1, 1) := dk_4 (dk_at dksX6_century_1 5 rfl rfl)
theorem dX6_century_30 : decode cX6_century 30 = .ok (.bipush 60, 2) := dk_16 60 (dk_at dksX6_century_1 6 rfl rfl)
theorem dX6_century_32 : decode cX6_century 32 = .ok (.invokestatic 166, 3) := dk_184 0 166 (dk_at dksX6_century_1 8 rfl rfl)
theorem dX6_century_35 : decode cX6_century 35 = .ok (.ifCond .ne 7, 3) := dk_154 0 7 (dk_at dksX6_century_1 11 rfl rfl)
theorem dX6_century_38 : decode cX6_century 38 = .ok (.iconst 1, 1) := dk_4 (dk_at dksX6_century_1 14 rfl rfl)
theorem dX6_century_39 : decode cX6_century 39 = .ok (.goto 4, 3) := dk_167 0 4 (dk_at dksX6_century_1 15 rfl rfl)
theorem dX6_century_42 : decode cX6_century 42 = .ok (.iconst 0, 1) := dk_3 (dk_at dksX6_century_1 18 rfl rfl)
theorem dX6_century_43 : decode cX6_century 43 = .ok (.iconst 2, 1) := dk_5 (dk_at dksX6_century_1 19 rfl rfl)
theorem dX6_century_44 : decode cX6_century 44 = .ok (.iconst 1, 1) := dk_4 (dk_at dksX6_century_1 20 rfl rfl)
theorem dX6_century_45 : decode cX6_century 45 = .ok (.invokevirtual 233, 3) := dk_182 0 233 (dk_at dksX6_century_1 21 rfl rfl)
theorem dX6_century_48 : decode cX6_century 48 = .ok (.ifCond .eq 5, 3) := dk_153 0 5 (dk_at dksX6_century_2 0 rfl rfl)
theorem dX6_century_51 : decode cX6_century 51 = .ok (.iconst 0, 1) := dk_3 (dk_at dksX6_century_2 3 rfl rfl)
theorem dX6_century_52 : decode cX6_century 52 = .ok (.ireturn, 1) := dk_172 (dk_at dksX6_century_2 4 rfl rfl)
theorem dX6_century_53 : decode cX6_century 53 = .ok (.iconst 0, 1) := dk_3 (dk_at dksX6_century_2 5 rfl rfl)
theorem dX6_century_54 : decode cX6_century 54 = .ok (.istore 4, 2) := dk_54 4 (dk_at dksX6_century_2 6 rfl rfl)
theorem dX6_century_56 : decode cX6_century 56 = .ok (.iconst 0, 1) := dk_3 (dk_at dksX6_century_2 8 rfl rfl)
theorem dX6_century_57 : decode cX6_century 57 = .ok (.istore 5, 2) := dk_54 5 (dk_at dksX6_century_2 9 rfl rfl)
theorem dX6_century_59 : decode cX6_century 59 = .ok (.iload 5, 2) := dk_21 5 (dk_at dksX6_century_2 11 rfl rfl)
theorem dX6_century_61 : decode cX6_century 61 = .ok (.iload_n 3, 1) := dk_29 (dk_at dksX6_century_2 13 rfl rfl)
theorem dX6_century_62 : decode cX6_century 62 = .ok (.if_icmp .ge 36, 3) := dk_162 0 36 (dk_at dksX6_century_2 14 rfl rfl)
theorem dX6_century_65 : decode cX6_century 65 = .ok (.aload_n 0, 1) := dk_42 (dk_at dksX6_century_2 17 rfl rfl)
theorem dX6_century_66 : decode cX6_century 66 = .ok (.iload_n 2, 1) := dk_28 (dk_at dksX6_century_2 18 rfl rfl)
theorem dX6_century_67 : decode cX6_century 67 = .ok (.iload 5, 2) := dk_21 5 (dk_at dksX6_century_2 19 rfl rfl)
theorem dX6_century_69 : decode cX6_century 69 = .ok (.iadd, 1) := dk_96 (dk_at dksX6_century_2 21 rfl rfl)
theorem dX6_century_70 : decode cX6_century 70 = .ok (.invokevirtual 411, 3) := dk_182 1 155 (dk_at dksX6_century_3 0 rfl rfl)
theorem dX6_century_73 : decode cX6_century 73 = .ok (.iload 4, 2) := dk_21 4 (dk_at dksX6_century_3 3 rfl rfl)
theorem dX6_century_75 : decode cX6_century 75 = .ok (.aload_n 0, 1) := dk_42 (dk_at dksX6_century_3 5 rfl rfl)
theorem dX6_century_76 : decode cX6_century 76 = .ok (.aload_n 0, 1) := dk_42 (dk_at dksX6_century_3 6 rfl rfl)
theorem dX6_century_77 : decode cX6_century 77 = .ok (.getfield 23, 3) := dk_180 0 23 (dk_at dksX6_century_3 7 rfl rfl)
theorem dX6_century_80 : decode cX6_century 80 = .ok (.iconst 5, 1) := dk_8 (dk_at dksX6_century_3 10 rfl rfl)
theorem dX6_century_81 : decode cX6_century 81 = .ok (.iaload, 1) := dk_46 (dk_at dksX6_century_3 11 rfl rfl)
theorem dX6_century_82 : decode cX6_century 82 = .ok (.invokevirtual 372, 3) := dk_182 1 116 (dk_at dksX6_century_3 12 rfl rfl)
theorem dX6_century_85 : decode cX6_century 85 = .ok (.iload_n 1, 1) := dk_27 (dk_at dksX6_century_3 15 rfl rfl)
theorem dX6_century_86 : decode cX6_century 86 = .ok (.ishr, 1) := dk_122 (dk_at dksX6_century_3 16 rfl rfl)
theorem dX6_century_87 : decode cX6_century 87 = .ok (.iconst 1, 1) := dk_4 (dk_at dksX6_century_3 17 rfl rfl)
theorem dX6_century_88 : decode cX6_century 88 = .ok (.iand, 1) := dk_126 (dk_at dksX6_century_3 18 rfl rfl)
theorem dX6_century_89 : decode cX6_century 89 = .ok (.iadd, 1) := dk_96 (dk_at dksX6_century_3 19 rfl rfl)
theorem dX6_century_90 : decode cX6_century 90 = .ok (.istore 4, 2) := dk_54 4 (dk_at dksX6_century_3 20 rfl rfl)
theorem dX6_century_92 : decode cX6_century 92 = .ok (.iinc 5 1, 3) := dk_132 5 1 (dk_at dksX6_century_4 0 rfl rfl)
theorem dX6_century_95 : decode cX6_century 95 = .ok (.goto (-36), 3) := dk_167 255 220 (dk_at dksX6_century_4 3 rfl rfl)
theorem dX6_century_98 : decode cX6_century 98 = .ok (.iload 4, 2) := dk_21 4 (dk_at dksX6_century_4 6 rfl rfl)
theorem dX6_century_100 : decode cX6_century 100 = .ok (.ireturn, 1) := dk_172 (dk_at dksX6_century_4 8 rfl rfl)
abbrev cX6_fits : ByteArray := prog_19_method_103_code
def yX6_fits : MethodName := ⟨RX6, "fits", "(II)Z"⟩
def dkwX6_fits_1 : List UInt8 := [153, 0, 7, 4, 167, 0, 4, 3, 172]
abbrev dktX6_fits_1 : List UInt8 := dkwX6_fits_1 ++ []
def dkwX6_fits_0 : List UInt8 := [42, 3, 181, 0, 132, 42, 27, 28, 182, 1, 161, 153, 0, 5, 3, 172, 42, 27, 28, 182, 1, 122, 9, 148]
abbrev dktX6_fits_0 : List UInt8 := dkwX6_fits_0 ++ dktX6_fits_1
theorem dksX6_fits_0 : cX6_fits.data.toList.drop 0 = dktX6_fits_0 := by decide +kernel
theorem dksX6_fits_1 : cX6_fits.data.toList.drop 24 = dktX6_fits_1 := dk_seg dksX6_fits_0 24 rfl rfl
theorem dX6_fits_0 : decode cX6_fits 0 = .ok (.aload_n 0, 1) := dk_42 (dk_at dksX6_fits_0 0 rfl rfl)
theorem dX6_fits_1 : decode cX6_fits 1 = .ok (.iconst 0, 1) := dk_3 (dk_at dksX6_fits_0 1 rfl rfl)
theorem dX6_fits_2 : decode cX6_fits 2 = .ok (.putfield 132, 3) := dk_181 0 132 (dk_at dksX6_fits_0 2 rfl rfl)
theorem dX6_fits_5 : decode cX6_fits 5 = .ok (.aload_n 0, 1) := dk_42 (dk_at dksX6_fits_0 5 rfl rfl)
theorem dX6_fits_6 : decode cX6_fits 6 = .ok (.iload_n 1, 1) := dk_27 (dk_at dksX6_fits_0 6 rfl rfl)
theorem dX6_fits_7 : decode cX6_fits 7 = .ok (.iload_n 2, 1) := dk_28 (dk_at dksX6_fits_0 7 rfl rfl)
theorem dX6_fits_8 : decode cX6_fits 8 = .ok (.invokevirtual 417, 3) := dk_182 1 161 (dk_at dksX6_fits_0 8 rfl rfl)
theorem dX6_fits_11 : decode cX6_fits 11 = .ok (.ifCond .eq 5, 3) := dk_153 0 5 (dk_at dksX6_fits_0 11 rfl rfl)
theorem dX6_fits_14 : decode cX6_fits 14 = .ok (.iconst 0, 1) := dk_3 (dk_at dksX6_fits_0 14 rfl rfl)
theorem dX6_fits_15 : decode cX6_fits 15 = .ok (.ireturn, 1) := dk_172 (dk_at dksX6_fits_0 15 rfl rfl)
theorem dX6_fits_16 : decode cX6_fits 16 = .ok (.aload_n 0, 1) := dk_42 (dk_at dksX6_fits_0 16 rfl rfl)
theorem dX6_fits_17 : decode cX6_fits 17 = .ok (.iload_n 1, 1) := dk_27 (dk_at dksX6_fits_0 17 rfl rfl)
theorem dX6_fits_18 : decode cX6_fits 18 = .ok (.iload_n 2, 1) := dk_28 (dk_at dksX6_fits_0 18 rfl rfl)
theorem dX6_fits_19 : decode cX6_fits 19 = .ok (.invokevirtual 378, 3) := dk_182 1 122 (dk_at dksX6_fits_0 19 rfl rfl)
theorem dX6_fits_22 : decode cX6_fits 22 = .ok (.lconst 0, 1) := dk_9 (dk_at dksX6_fits_0 22 rfl rfl)
theorem dX6_fits_23 : decode cX6_fits 23 = .ok (.lcmp, 1) := dk_148 (dk_at dksX6_fits_0 23 rfl rfl)
theorem dX6_fits_24 : decode cX6_fits 24 = .ok (.ifCond .eq 7, 3) := dk_153 0 7 (dk_at dksX6_fits_1 0 rfl rfl)
theorem dX6_fits_27 : decode cX6_fits 27 = .ok (.iconst 1, 1) := dk_4 (dk_at dksX6_fits_1 3 rfl rfl)
theorem dX6_fits_28 : decode cX6_fits 28 = .ok (.goto 4, 3) := dk_167 0 4 (dk_at dksX6_fits_1 4 rfl rfl)
theorem dX6_fits_31 : decode cX6_fits 31 = .ok (.iconst 0, 1) := dk_3 (dk_at dksX6_fits_1 7 rfl rfl)
theorem dX6_fits_32 : decode cX6_fits 32 = .ok (.ireturn, 1) := dk_172 (dk_at dksX6_fits_1 8 rfl rfl)
abbrev cX6_badSet : ByteArray := prog_19_method_102_code
def yX6_badSet : MethodName := ⟨RX6, "badSet", "(II)Z"⟩
def dkwX6_badSet_1 : List UInt8 := [182, 0, 233, 172]
abbrev dktX6_badSet_1 : List UInt8 := dkwX6_badSet_1 ++ []
def dkwX6_badSet_0 : List UInt8 := [42, 42, 27, 182, 1, 158, 153, 0, 10, 28, 184, 1, 50, 154, 0, 7, 4, 167, 0, 4, 3, 4, 4]
abbrev dktX6_badSet_0 : List UInt8 := dkwX6_badSet_0 ++ dktX6_badSet_1
theorem dksX6_badSet_0 : cX6_badSet.data.toList.drop 0 = dktX6_badSet_0 := by decide +kernel
theorem dksX6_badSet_1 : cX6_badSet.data.toList.drop 23 = dktX6_badSet_1 := dk_seg dksX6_badSet_0 23 rfl rfl
theorem dX6_badSet_0 : decode cX6_badSet 0 = .ok (.aload_n 0, 1) := dk_42 (dk_at dksX6_badSet_0 0 rfl rfl)
theorem dX6_badSet_1 : decode cX6_badSet 1 = .ok (.aload_n 0, 1) := dk_42 (dk_at dksX6_badSet_0 1 rfl rfl)
theorem dX6_badSet_2 : decode cX6_badSet 2 = .ok (.iload_n 1, 1) := dk_27 (dk_at dksX6_badSet_0 2 rfl rfl)
theorem dX6_badSet_3 : decode cX6_badSet 3 = .ok (.invokevirtual 414, 3) := dk_182 1 158 (dk_at dksX6_badSet_0 3 rfl rfl)
theorem dX6_badSet_6 : decode cX6_badSet 6 = .ok (.ifCond .eq 10, 3) := dk_153 0 10 (dk_at dksX6_badSet_0 6 rfl rfl)
theorem dX6_badSet_9 : decode cX6_badSet 9 = .ok (.iload_n 2, 1) := dk_28 (dk_at dksX6_badSet_0 9 rfl rfl)
theorem dX6_badSet_10 : decode cX6_badSet 10 = .ok (.invokestatic 306, 3) := dk_184 1 50 (dk_at dksX6_badSet_0 10 rfl rfl)
theorem dX6_badSet_13 : decode cX6_badSet 13 = .ok (.ifCond .ne 7, 3) := dk_154 0 7 (dk_at dksX6_badSet_0 13 rfl rfl)
theorem dX6_badSet_16 : decode cX6_badSet 16 = .ok (.iconst 1, 1) := dk_4 (dk_at dksX6_badSet_0 16 rfl rfl)
theorem dX6_badSet_17 : decode cX6_badSet 17 = .ok (.goto 4, 3) := dk_167 0 4 (dk_at dksX6_badSet_0 17 rfl rfl)
theorem dX6_badSet_20 : decode cX6_badSet 20 = .ok (.iconst 0, 1) := dk_3 (dk_at dksX6_badSet_0 20 rfl rfl)
theorem dX6_badSet_21 : decode cX6_badSet 21 = .ok (.iconst 1, 1) := dk_4 (dk_at dksX6_badSet_0 21 rfl rfl)
theorem dX6_badSet_22 : decode cX6_badSet 22 = .ok (.iconst 1, 1) := dk_4 (dk_at dksX6_badSet_0 22 rfl rfl)
theorem dX6_badSet_23 : decode cX6_badSet 23 = .ok (.invokevirtual 233, 3) := dk_182 0 233 (dk_at dksX6_badSet_1 0 rfl rfl)
theorem dX6_badSet_26 : decode cX6_badSet 26 = .ok (.ireturn, 1) := dk_172 (dk_at dksX6_badSet_1 3 rfl rfl)
abbrev cX6_areSlips : ByteArray := prog_19_method_52_code
def yX6_areSlips : MethodName := ⟨RX6, "areSlips", "(I)Z"⟩
def dkwX6_areSlips_0 : List UInt8 := [27, 3, 4, 42, 180, 0, 23, 4, 46, 120, 4, 100, 184, 0, 166, 172]
abbrev dktX6_areSlips_0 : List UInt8 := dkwX6_areSlips_0 ++ []
theorem dksX6_areSlips_0 : cX6_areSlips.data.toList.drop 0 = dktX6_areSlips_0 := by decide +kernel
theorem dX6_areSlips_0 : decode cX6_areSlips 0 = .ok (.iload_n 1, 1) := dk_27 (dk_at dksX6_areSlips_0 0 rfl rfl)
theorem dX6_areSlips_1 : decode cX6_areSlips 1 = .ok (.iconst 0, 1) := dk_3 (dk_at dksX6_areSlips_0 1 rfl rfl)
theorem dX6_areSlips_2 : decode cX6_areSlips 2 = .ok (.iconst 1, 1) := dk_4 (dk_at dksX6_areSlips_0 2 rfl rfl)
theorem dX6_areSlips_3 : decode cX6_areSlips 3 = .ok (.aload_n 0, 1) := dk_42 (dk_at dksX6_areSlips_0 3 rfl rfl)
theorem dX6_areSlips_4 : decode cX6_areSlips 4 = .ok (.getfield 23, 3) := dk_180 0 23 (dk_at dksX6_areSlips_0 4 rfl rfl)
theorem dX6_areSlips_7 : decode cX6_areSlips 7 = .ok (.iconst 1, 1) := dk_4 (dk_at dksX6_areSlips_0 7 rfl rfl)
theorem dX6_areSlips_8 : decode cX6_areSlips 8 = .ok (.iaload, 1) := dk_46 (dk_at dksX6_areSlips_0 8 rfl rfl)
theorem dX6_areSlips_9 : decode cX6_areSlips 9 = .ok (.ishl, 1) := dk_120 (dk_at dksX6_areSlips_0 9 rfl rfl)
theorem dX6_areSlips_10 : decode cX6_areSlips 10 = .ok (.iconst 1, 1) := dk_4 (dk_at dksX6_areSlips_0 10 rfl rfl)
theorem dX6_areSlips_11 : decode cX6_areSlips 11 = .ok (.isub, 1) := dk_100 (dk_at dksX6_areSlips_0 11 rfl rfl)
theorem dX6_areSlips_12 : decode cX6_areSlips 12 = .ok (.invokestatic 166, 3) := dk_184 0 166 (dk_at dksX6_areSlips_0 12 rfl rfl)
theorem dX6_areSlips_15 : decode cX6_areSlips 15 = .ok (.ireturn, 1) := dk_172 (dk_at dksX6_areSlips_0 15 rfl rfl)
abbrev cX6_together : ByteArray := prog_19_method_104_code
def yX6_together : MethodName := ⟨RX6, "together", "(II)J"⟩
def dkwX6_together_0 : List UInt8 := [42, 3, 181, 0, 132, 42, 27, 28, 182, 1, 161, 153, 0, 5, 9, 173, 42, 27, 28, 182, 1, 122, 173]
abbrev dktX6_together_0 : List UInt8 := dkwX6_together_0 ++ []
theorem dksX6_together_0 : cX6_together.data.toList.drop 0 = dktX6_together_0 := by decide +kernel
theorem dX6_together_0 : decode cX6_together 0 = .ok (.aload_n 0, 1) := dk_42 (dk_at dksX6_together_0 0 rfl rfl)
theorem dX6_together_1 : decode cX6_together 1 = .ok (.iconst 0, 1) := dk_3 (dk_at dksX6_together_0 1 rfl rfl)
theorem dX6_together_2 : decode cX6_together 2 = .ok (.putfield 132, 3) := dk_181 0 132 (dk_at dksX6_together_0 2 rfl rfl)
theorem dX6_together_5 : decode cX6_together 5 = .ok (.aload_n 0, 1) := dk_42 (dk_at dksX6_together_0 5 rfl rfl)
theorem dX6_together_6 : decode cX6_together 6 = .ok (.iload_n 1, 1) := dk_27 (dk_at dksX6_together_0 6 rfl rfl)
theorem dX6_together_7 : decode cX6_together 7 = .ok (.iload_n 2, 1) := dk_28 (dk_at dksX6_together_0 7 rfl rfl)
theorem dX6_together_8 : decode cX6_together 8 = .ok (.invokevirtual 417, 3) := dk_182 1 161 (dk_at dksX6_together_0 8 rfl rfl)
theorem dX6_together_11 : decode cX6_together 11 = .ok (.ifCond .eq 5, 3) := dk_153 0 5 (dk_at dksX6_together_0 11 rfl rfl)
theorem dX6_together_14 : decode cX6_together 14 = .ok (.lconst 0, 1) := dk_9 (dk_at dksX6_together_0 14 rfl rfl)
theorem dX6_together_15 : decode cX6_together 15 = .ok (.lreturn, 1) := dk_173 (dk_at dksX6_together_0 15 rfl rfl)
theorem dX6_together_16 : decode cX6_together 16 = .ok (.aload_n 0, 1) := dk_42 (dk_at dksX6_together_0 16 rfl rfl)
theorem dX6_together_17 : decode cX6_together 17 = .ok (.iload_n 1, 1) := dk_27 (dk_at dksX6_together_0 17 rfl rfl)
theorem dX6_together_18 : decode cX6_together 18 = .ok (.iload_n 2, 1) := dk_28 (dk_at dksX6_together_0 18 rfl rfl)
theorem dX6_together_19 : decode cX6_together 19 = .ok (.invokevirtual 378, 3) := dk_182 1 122 (dk_at dksX6_together_0 19 rfl rfl)
theorem dX6_together_22 : decode cX6_together 22 = .ok (.lreturn, 1) := dk_173 (dk_at dksX6_together_0 22 rfl rfl)
abbrev cX6_following : ByteArray := prog_19_method_106_code
def yX6_following : MethodName := ⟨RX6, "following", "(II)I"⟩
def dkwX6_following_1 : List UInt8 := [182, 1, 164, 172]
abbrev dktX6_following_1 : List UInt8 := dkwX6_following_1 ++ []
def dkwX6_following_0 : List UInt8 := [42, 3, 181, 0, 132, 42, 27, 28, 182, 1, 161, 153, 0, 5, 3, 172, 42, 42, 27, 28, 182, 1, 122]
abbrev dktX6_following_0 : List UInt8 := dkwX6_following_0 ++ dktX6_following_1
theorem dksX6_following_0 : cX6_following.data.toList.drop 0 = dktX6_following_0 := by decide +kernel
theorem dksX6_following_1 : cX6_following.data.toList.drop 23 = dktX6_following_1 := dk_seg dksX6_following_0 23 rfl rfl
theorem dX6_following_0 : decode cX6_following 0 = .ok (.aload_n 0, 1) := dk_42 (dk_at dksX6_following_0 0 rfl rfl)
theorem dX6_following_1 : decode cX6_following 1 = .ok (.iconst 0, 1) := dk_3 (dk_at dksX6_following_0 1 rfl rfl)
theorem dX6_following_2 : decode cX6_following 2 = .ok (.putfield 132, 3) := dk_181 0 132 (dk_at dksX6_following_0 2 rfl rfl)
theorem dX6_following_5 : decode cX6_following 5 = .ok (.aload_n 0, 1) := dk_42 (dk_at dksX6_following_0 5 rfl rfl)
theorem dX6_following_6 : decode cX6_following 6 = .ok (.iload_n 1, 1) := dk_27 (dk_at dksX6_following_0 6 rfl rfl)
theorem dX6_following_7 : decode cX6_following 7 = .ok (.iload_n 2, 1) := dk_28 (dk_at dksX6_following_0 7 rfl rfl)
theorem dX6_following_8 : decode cX6_following 8 = .ok (.invokevirtual 417, 3) := dk_182 1 161 (dk_at dksX6_following_0 8 rfl rfl)
theorem dX6_following_11 : decode cX6_following 11 = .ok (.ifCond .eq 5, 3) := dk_153 0 5 (dk_at dksX6_following_0 11 rfl rfl)
theorem dX6_following_14 : decode cX6_following 14 = .ok (.iconst 0, 1) := dk_3 (dk_at dksX6_following_0 14 rfl rfl)
theorem dX6_following_15 : decode cX6_following 15 = .ok (.ireturn, 1) := dk_172 (dk_at dksX6_following_0 15 rfl rfl)
theorem dX6_following_16 : decode cX6_following 16 = .ok (.aload_n 0, 1) := dk_42 (dk_at dksX6_following_0 16 rfl rfl)
theorem dX6_following_17 : decode cX6_following 17 = .ok (.aload_n 0, 1) := dk_42 (dk_at dksX6_following_0 17 rfl rfl)
theorem dX6_following_18 : decode cX6_following 18 = .ok (.iload_n 1, 1) := dk_27 (dk_at dksX6_following_0 18 rfl rfl)
theorem dX6_following_19 : decode cX6_following 19 = .ok (.iload_n 2, 1) := dk_28 (dk_at dksX6_following_0 19 rfl rfl)
theorem dX6_following_20 : decode cX6_following 20 = .ok (.invokevirtual 378, 3) := dk_182 1 122 (dk_at dksX6_following_0 20 rfl rfl)
theorem dX6_following_23 : decode cX6_following 23 = .ok (.invokevirtual 420, 3) := dk_182 1 164 (dk_at dksX6_following_1 0 rfl rfl)
theorem dX6_following_26 : decode cX6_following 26 = .ok (.ireturn, 1) := dk_172 (dk_at dksX6_following_1 3 rfl rfl)
abbrev cX6_followingOf : ByteArray := prog_19_method_105_code
def yX6_followingOf : MethodName := ⟨RX6, "followingOf", "(J)I"⟩
def dkwX6_followingOf_2 : List UInt8 := [167, 255, 213, 29, 172]
abbrev dktX6_followingOf_2 : List UInt8 := dkwX6_followingOf_2 ++ []
def dkwX6_followingOf_1 : List UInt8 := [47, 20, 0, 48, 131, 127, 9, 148, 154, 0, 10, 4, 21, 4, 120, 167, 0, 4, 3, 128, 62, 132, 4, 1]
abbrev dktX6_followingOf_1 : List UInt8 := dkwX6_followingOf_1 ++ dktX6_followingOf_2
def dkwX6_followingOf_0 : List UInt8 := [3, 62, 3, 54, 4, 21, 4, 42, 180, 0, 23, 4, 46, 162, 0, 38, 29, 31, 42, 180, 0, 36, 21, 4]
abbrev dktX6_followingOf_0 : List UInt8 := dkwX6_followingOf_0 ++ dktX6_followingOf_1
theorem dksX6_followingOf_0 : cX6_followingOf.data.toList.drop 0 = dktX6_followingOf_0 := by decide +kernel
theorem dksX6_followingOf_1 : cX6_followingOf.data.toList.drop 24 = dktX6_followingOf_1 := dk_seg dksX6_followingOf_0 24 rfl rfl
theorem dksX6_followingOf_2 : cX6_followingOf.data.toList.drop 48 = dktX6_followingOf_2 := dk_seg dksX6_followingOf_1 24 rfl rfl
theorem dX6_followingOf_0 : decode cX6_followingOf 0 = .ok (.iconst 0, 1) := dk_3 (dk_at dksX6_followingOf_0 0 rfl rfl)
theorem dX6_followingOf_1 : decode cX6_followingOf 1 = .ok (.istore_n 3, 1) := dk_62 (dk_at dksX6_followingOf_0 1 rfl rfl)
theorem dX6_followingOf_2 : decode cX6_followingOf 2 = .ok (.iconst 0, 1) := dk_3 (dk_at dksX6_followingOf_0 2 rfl rfl)
theorem dX6_followingOf_3 : decode cX6_followingOf 3 = .ok (.istore 4, 2) := dk_54 4 (dk_at dksX6_followingOf_0 3 rfl rfl)
theorem dX6_followingOf_5 : decode cX6_followingOf 5 = .ok (.iload 4, 2) := dk_21 4 (dk_at dksX6_followingOf_0 5 rfl rfl)
theorem dX6_followingOf_7 : decode cX6_followingOf 7 = .ok (.aload_n 0, 1) := dk_42 (dk_at dksX6_followingOf_0 7 rfl rfl)
theorem dX6_followingOf_8 : decode cX6_followingOf 8 = .ok (.getfield 23, 3) := dk_180 0 23 (dk_at dksX6_followingOf_0 8 rfl rfl)
theorem dX6_followingOf_11 : decode cX6_followingOf 11 = .ok (.iconst 1, 1) := dk_4 (dk_at dksX6_followingOf_0 11 rfl rfl)
theorem dX6_followingOf_12 : decode cX6_followingOf 12 = .ok (.iaload, 1) := dk_46 (dk_at dksX6_followingOf_0 12 rfl rfl)
theorem dX6_followingOf_13 : decode cX6_followingOf 13 = .ok (.if_icmp .ge 38, 3) := dk_162 0 38 (dk_at dksX6_followingOf_0 13 rfl rfl)
theorem dX6_followingOf_16 : decode cX6_followingOf 16 = .ok (.iload_n 3, 1) := dk_29 (dk_at dksX6_followingOf_0 16 rfl rfl)
theorem dX6_followingOf_17 : decode cX6_followingOf 17 = .ok (.lload_n 1, 1) := dk_31 (dk_at dksX6_followingOf_0 17 rfl rfl)
theorem dX6_followingOf_18 : decode cX6_followingOf 18 = .ok (.aload_n 0, 1) := dk_42 (dk_at dksX6_followingOf_0 18 rfl rfl)
theorem dX6_followingOf_19 : decode cX6_followingOf 19 = .ok (.getfield 36, 3) := dk_180 0 36 (dk_at dksX6_followingOf_0 19 rfl rfl)
theorem dX6_followingOf_22 : decode cX6_followingOf 22 = .ok (.iload 4, 2) := dk_21 4 (dk_at dksX6_followingOf_0 22 rfl rfl)
theorem dX6_followingOf_24 : decode cX6_followingOf 24 = .ok (.laload, 1) := dk_47 (dk_at dksX6_followingOf_1 0 rfl rfl)
theorem dX6_followingOf_25 : decode cX6_followingOf 25 = .ok (.ldc2_w 48, 3) := dk_20 0 48 (dk_at dksX6_followingOf_1 1 rfl rfl)
theorem dX6_followingOf_28 : decode cX6_followingOf 28 = .ok (.lxor, 1) := dk_131 (dk_at dksX6_followingOf_1 4 rfl rfl)
theorem dX6_followingOf_29 : decode cX6_followingOf 29 = .ok (.land, 1) := dk_127 (dk_at dksX6_followingOf_1 5 rfl rfl)
theorem dX6_followingOf_30 : decode cX6_followingOf 30 = .ok (.lconst 0, 1) := dk_9 (dk_at dksX6_followingOf_1 6 rfl rfl)
theorem dX6_followingOf_31 : decode cX6_followingOf 31 = .ok (.lcmp, 1) := dk_148 (dk_at dksX6_followingOf_1 7 rfl rfl)
theorem dX6_followingOf_32 : decode cX6_followingOf 32 = .ok (.ifCond .ne 10, 3) := dk_154 0 10 (dk_at dksX6_followingOf_1 8 rfl rfl)
theorem dX6_followingOf_35 : decode cX6_followingOf 35 = .ok (.iconst 1, 1) := dk_4 (dk_at dksX6_followingOf_1 11 rfl rfl)
theorem dX6_followingOf_36 : decode cX6_followingOf 36 = .ok (.iload 4, 2) := dk_21 4 (dk_at dksX6_followingOf_1 12 rfl rfl)
theorem dX6_followingOf_38 : decode cX6_followingOf 38 = .ok (.ishl, 1) := dk_120 (dk_at dksX6_followingOf_1 14 rfl rfl)
theorem dX6_followingOf_39 : decode cX6_followingOf 39 = .ok (.goto 4, 3) := dk_167 0 4 (dk_at dksX6_followingOf_1 15 rfl rfl)
theorem dX6_followingOf_42 : decode cX6_followingOf 42 = .ok (.iconst 0, 1) := dk_3 (dk_at dksX6_followingOf_1 18 rfl rfl)
theorem dX6_followingOf_43 : decode cX6_followingOf 43 = .ok (.ior, 1) := dk_128 (dk_at dksX6_followingOf_1 19 rfl rfl)
theorem dX6_followingOf_44 : decode cX6_followingOf 44 = .ok (.istore_n 3, 1) := dk_62 (dk_at dksX6_followingOf_1 20 rfl rfl)
theorem dX6_followingOf_45 : decode cX6_followingOf 45 = .ok (.iinc 4 1, 3) := dk_132 4 1 (dk_at dksX6_followingOf_1 21 rfl rfl)
theorem dX6_followingOf_48 : decode cX6_followingOf 48 = .ok (.goto (-43), 3) := dk_167 255 213 (dk_at dksX6_followingOf_2 0 rfl rfl)
theorem dX6_followingOf_51 : decode cX6_followingOf 51 = .ok (.iload_n 3, 1) := dk_29 (dk_at dksX6_followingOf_2 3 rfl rfl)
theorem dX6_followingOf_52 : decode cX6_followingOf 52 = .ok (.ireturn, 1) := dk_172 (dk_at dksX6_followingOf_2 4 rfl rfl)
abbrev cX6_sets : ByteArray := prog_19_method_108_code
def yX6_sets : MethodName := ⟨RX6, "sets", "(II)I"⟩
def dkwX6_sets_9 : List UInt8 := [160, 0, 8, 21, 4, 167, 0, 15, 28, 5, 160, 0, 8, 21, 5, 167, 0, 5, 21, 6, 172]
abbrev dktX6_sets_9 : List UInt8 := dkwX6_sets_9 ++ []
def dkwX6_sets_8 : List UInt8 := [4, 167, 0, 4, 3, 96, 54, 5, 132, 7, 1, 167, 255, 113, 28, 154, 0, 7, 29, 167, 0, 25, 28, 4]
abbrev dktX6_sets_8 : List UInt8 := dkwX6_sets_8 ++ dktX6_sets_9
def dkwX6_sets_7 : List UInt8 := [167, 0, 5, 21, 6, 54, 6, 21, 5, 21, 8, 153, 0, 17, 42, 21, 7, 27, 182, 1, 167, 153, 0, 7]
abbrev dktX6_sets_7 : List UInt8 := dkwX6_sets_7 ++ dktX6_sets_8
def dkwX6_sets_6 : List UInt8 := [21, 6, 2, 159, 0, 18, 21, 7, 133, 184, 0, 249, 21, 6, 133, 184, 0, 249, 162, 0, 8, 21, 7]
abbrev dktX6_sets_6 : List UInt8 := dkwX6_sets_6 ++ dktX6_sets_7
def dkwX6_sets_5 : List UInt8 := [21, 4, 133, 184, 0, 249, 164, 0, 8, 21, 7, 167, 0, 5, 21, 4, 54, 4, 21, 8, 154, 0, 29]
abbrev dktX6_sets_5 : List UInt8 := dkwX6_sets_5 ++ dktX6_sets_6
def dkwX6_sets_4 : List UInt8 := [167, 0, 4, 3, 96, 62, 21, 8, 153, 0, 29, 21, 4, 2, 159, 0, 18, 21, 7, 133, 184, 0, 249]
abbrev dktX6_sets_4 : List UInt8 := dkwX6_sets_4 ++ dktX6_sets_5
def dkwX6_sets_3 : List UInt8 := [182, 1, 122, 9, 148, 153, 0, 7, 4, 167, 0, 4, 3, 54, 8, 29, 21, 8, 153, 0, 7, 4]
abbrev dktX6_sets_3 : List UInt8 := dkwX6_sets_3 ++ dktX6_sets_4
def dkwX6_sets_2 : List UInt8 := [54, 6, 3, 54, 7, 21, 7, 4, 42, 180, 0, 23, 4, 46, 120, 162, 0, 136, 42, 21, 7, 27]
abbrev dktX6_sets_2 : List UInt8 := dkwX6_sets_2 ++ dktX6_sets_3
def dkwX6_sets_1 : List UInt8 := [167, 0, 4, 3, 4, 4, 182, 0, 233, 153, 0, 5, 3, 172, 3, 62, 2, 54, 4, 3, 54, 5, 2]
abbrev dktX6_sets_1 : List UInt8 := dkwX6_sets_1 ++ dktX6_sets_2
def dkwX6_sets_0 : List UInt8 := [42, 3, 181, 0, 132, 42, 27, 184, 1, 50, 153, 0, 12, 28, 3, 6, 184, 0, 166, 154, 0, 7, 4]
abbrev dktX6_sets_0 : List UInt8 := dkwX6_sets_0 ++ dktX6_sets_1
theorem dksX6_sets_0 : cX6_sets.data.toList.drop 0 = dktX6_sets_0 := by decide +kernel
theorem dksX6_sets_1 : cX6_sets.data.toList.drop 23 = dktX6_sets_1 := dk_seg dksX6_sets_0 23 rfl rfl
theorem dksX6_sets_2 : cX6_sets.data.toList.drop 46 = dktX6_sets_2 := dk_seg dksX6_sets_1 23 rfl rfl
theorem dksX6_sets_3 : cX6_sets.data.toList.drop 68 = dktX6_sets_3 := dk_seg dksX6_sets_2 22 rfl rfl
theorem dksX6_sets_4 : cX6_sets.data.toList.drop 90 = dktX6_sets_4 := dk_seg dksX6_sets_3 22 rfl rfl
theorem dksX6_sets_5 : cX6_sets.data.toList.drop 113 = dktX6_sets_5 := dk_seg dksX6_sets_4 23 rfl rfl
theorem dksX6_sets_6 : cX6_sets.data.toList.drop 136 = dktX6_sets_6 := dk_seg dksX6_sets_5 23 rfl rfl
theorem dksX6_sets_7 : cX6_sets.data.toList.drop 159 = dktX6_sets_7 := dk_seg dksX6_sets_6 23 rfl rfl
theorem dksX6_sets_8 : cX6_sets.data.toList.drop 183 = dktX6_sets_8 := dk_seg dksX6_sets_7 24 rfl rfl
theorem dksX6_sets_9 : cX6_sets.data.toList.drop 207 = dktX6_sets_9 := dk_seg dksX6_sets_8 24 rfl rfl
theorem dX6_sets_0 : decode cX6_sets 0 = .ok (.aload_n 0, 1) := dk_42 (dk_at dksX6_sets_0 0 rfl rfl)
theorem dX6_sets_1 : decode cX6_sets 1 = .ok (.iconst 0, 1) := dk_3 (dk_at dksX6_sets_0 1 rfl rfl)
theorem dX6_sets_2 : decode cX6_sets 2 = .ok (.putfield 132, 3) := dk_181 0 132 (dk_at dksX6_sets_0 2 rfl rfl)
theorem dX6_sets_5 : decode cX6_sets 5 = .ok (.aload_n 0, 1) := dk_42 (dk_at dksX6_sets_0 5 rfl rfl)
theorem dX6_sets_6 : decode cX6_sets 6 = .ok (.iload_n 1, 1) := dk_27 (dk_at dksX6_sets_0 6 rfl rfl)
theorem dX6_sets_7 : decode cX6_sets 7 = .ok (.invokestatic 306, 3) := dk_184 1 50 (dk_at dksX6_sets_0 7 rfl rfl)
theorem dX6_sets_10 : decode cX6_sets 10 = .ok (.ifCond .eq 12, 3) := dk_153 0 12 (dk_at dksX6_sets_0 10 rfl rfl)
theorem dX6_sets_13 : decode cX6_sets 13 = .ok (.iload_n 2, 1) := dk_28 (dk_at dksX6_sets_0 13 rfl rfl)
theorem dX6_sets_14 : decode cX6_sets 14 = .ok (.iconst 0, 1) := dk_3 (dk_at dksX6_sets_0 14 rfl rfl)
theorem dX6_sets_15 : decode cX6_sets 15 = .ok (.iconst 3, 1) := dk_6 (dk_at dksX6_sets_0 15 rfl rfl)
theorem dX6_sets_16 : decode cX6_sets 16 = .ok (.invokestatic 166, 3) := dk_184 0 166 (dk_at dksX6_sets_0 16 rfl rfl)
theorem dX6_sets_19 : decode cX6_sets 19 = .ok (.ifCond .ne 7, 3) := dk_154 0 7 (dk_at dksX6_sets_0 19 rfl rfl)
theorem dX6_sets_22 : decode cX6_sets 22 = .ok (.iconst 1, 1) := dk_4 (dk_at dksX6_sets_0 22 rfl rfl)
theorem dX6_sets_23 : decode cX6_sets 23 = .ok (.goto 4, 3) := dk_167 0 4 (dk_at dksX6_sets_1 0 rfl rfl)
theorem dX6_sets_26 : decode cX6_sets 26 = .ok (.iconst 0, 1) := dk_3 (dk_at dksX6_sets_1 3 rfl rfl)
theorem dX6_sets_27 : decode cX6_sets 27 = .ok (.iconst 1, 1) := dk_4 (dk_at dksX6_sets_1 4 rfl rfl)
theorem dX6_sets_28 : decode cX6_sets 28 = .ok (.iconst 1, 1) := dk_4 (dk_at dksX6_sets_1 5 rfl rfl)
theorem dX6_sets_29 : decode cX6_sets 29 = .ok (.invokevirtual 233, 3) := dk_182 0 233 (dk_at dksX6_sets_1 6 rfl rfl)
theorem dX6_sets_32 : decode cX6_sets 32 = .ok (.ifCond .eq 5, 3) := dk_153 0 5 (dk_at dksX6_sets_1 9 rfl rfl)
theorem dX6_sets_35 : decode cX6_sets 35 = .ok (.iconst 0, 1) := dk_3 (dk_at dksX6_sets_1 12 rfl rfl)
theorem dX6_sets_36 : decode cX6_sets 36 = .ok (.ireturn, 1) := dk_172 (dk_at dksX6_sets_1 13 rfl rfl)
theorem dX6_sets_37 : decode cX6_sets 37 = .ok (.iconst 0, 1) := dk_3 (dk_at dksX6_sets_1 14 rfl rfl)
theorem dX6_sets_38 : decode cX6_sets 38 = .ok (.istore_n 3, 1) := dk_62 (dk_at dksX6_sets_1 15 rfl rfl)
theorem dX6_sets_39 : decode cX6_sets 39 = .ok (.iconst (-1), 1) := dk_2 (dk_at dksX6_sets_1 16 rfl rfl)
theorem dX6_sets_40 : decode cX6_sets 40 = .ok (.istore 4, 2) := dk_54 4 (dk_at dksX6_sets_1 17 rfl rfl)
theorem dX6_sets_42 : decode cX6_sets 42 = .ok (.iconst 0, 1) := dk_3 (dk_at dksX6_sets_1 19 rfl rfl)
theorem dX6_sets_43 : decode cX6_sets 43 = .ok (.istore 5, 2) := dk_54 5 (dk_at dksX6_sets_1 20 rfl rfl)
theorem dX6_sets_45 : decode cX6_sets 45 = .ok (.iconst (-1), 1) := dk_2 (dk_at dksX6_sets_1 22 rfl rfl)
theorem dX6_sets_46 : decode cX6_sets 46 = .ok (.istore 6, 2) := dk_54 6 (dk_at dksX6_sets_2 0 rfl rfl)
theorem dX6_sets_48 : decode cX6_sets 48 = .ok (.iconst 0, 1) := dk_3 (dk_at dksX6_sets_2 2 rfl rfl)
theorem dX6_sets_49 : decode cX6_sets 49 = .ok (.istore 7, 2) := dk_54 7 (dk_at dksX6_sets_2 3 rfl rfl)
theorem dX6_sets_51 : decode cX6_sets 51 = .ok (.iload 7, 2) := dk_21 7 (dk_at dksX6_sets_2 5 rfl rfl)
theorem dX6_sets_53 : decode cX6_sets 53 = .ok (.iconst 1, 1) := dk_4 (dk_at dksX6_sets_2 7 rfl rfl)
theorem dX6_sets_54 : decode cX6_sets 54 = .ok (.aload_n 0, 1) := dk_42 (dk_at dksX6_sets_2 8 rfl rfl)
theorem dX6_sets_55 : decode cX6_sets 55 = .ok (.getfield 23, 3) := dk_180 0 23 (dk_at dksX6_sets_2 9 rfl rfl)
theorem dX6_sets_58 : decode cX6_sets 58 = .ok (.iconst 1, 1) := dk_4 (dk_at dksX6_sets_2 12 rfl rfl)
theorem dX6_sets_59 : decode cX6_sets 59 = .ok (.iaload, 1) := dk_46 (dk_at dksX6_sets_2 13 rfl rfl)
theorem dX6_sets_60 : decode cX6_sets 60 = .ok (.ishl, 1) := dk_120 (dk_at dksX6_sets_2 14 rfl rfl)
theorem dX6_sets_61 : decode cX6_sets 61 = .ok (.if_icmp .ge 136, 3) := dk_162 0 136 (dk_at dksX6_sets_2 15 rfl rfl)
theorem dX6_sets_64 : decode cX6_sets 64 = .ok (.aload_n 0, 1) := dk_42 (dk_at dksX6_sets_2 18 rfl rfl)
theorem dX6_sets_65 : decode cX6_sets 65 = .ok (.iload 7, 2) := dk_21 7 (dk_at dksX6_sets_2 19 rfl rfl)
theorem dX6_sets_67 : decode cX6_sets 67 = .ok (.iload_n 1, 1) := dk_27 (dk_at dksX6_sets_2 21 rfl rfl)
theorem dX6_sets_68 : decode cX6_sets 68 = .ok (.invokevirtual 378, 3) := dk_182 1 122 (dk_at dksX6_sets_3 0 rfl rfl)
theorem dX6_sets_71 : decode cX6_sets 71 = .ok (.lconst 0, 1) := dk_9 (dk_at dksX6_sets_3 3 rfl rfl)
theorem dX6_sets_72 : decode cX6_sets 72 = .ok (.lcmp, 1) := dk_148 (dk_at dksX6_sets_3 4 rfl rfl)
theorem dX6_sets_73 : decode cX6_sets 73 = .ok (.ifCond .eq 7, 3) := dk_153 0 7 (dk_at dksX6_sets_3 5 rfl rfl)
theorem dX6_sets_76 : decode cX6_sets 76 = .ok (.iconst 1, 1) := dk_4 (dk_at dksX6_sets_3 8 rfl rfl)
theorem dX6_sets_77 : decode cX6_sets 77 = .ok (.goto 4, 3) := dk_167 0 4 (dk_at dksX6_sets_3 9 rfl rfl)
theorem dX6_sets_80 : decode cX6_sets 80 = .ok (.iconst 0, 1) := dk_3 (dk_at dksX6_sets_3 12 rfl rfl)
theorem dX6_sets_81 : decode cX6_sets 81 = .ok (.istore 8, 2) := dk_54 8 (dk_at dksX6_sets_3 13 rfl rfl)
theorem dX6_sets_83 : decode cX6_sets 83 = .ok (.iload_n 3, 1) := dk_29 (dk_at dksX6_sets_3 15 rfl rfl)
theorem dX6_sets_84 : decode cX6_sets 84 = .ok (.iload 8, 2) := dk_21 8 (dk_at dksX6_sets_3 16 rfl rfl)
theorem dX6_sets_86 : decode cX6_sets 86 = .ok (.ifCond .eq 7, 3) := dk_153 0 7 (dk_at dksX6_sets_3 18 rfl rfl)
theorem dX6_sets_89 : decode cX6_sets 89 = .ok (.iconst 1, 1) := dk_4 (dk_at dksX6_sets_3 21 rfl rfl)
theorem dX6_sets_90 : decode cX6_sets 90 = .ok (.goto 4, 3) := dk_167 0 4 (dk_at dksX6_sets_4 0 rfl rfl)
theorem dX6_sets_93 : decode cX6_sets 93 = .ok (.iconst 0, 1) := dk_3 (dk_at dksX6_sets_4 3 rfl rfl)
theorem dX6_sets_94 : decode cX6_sets 94 = .ok (.iadd, 1) := dk_96 (dk_at dksX6_sets_4 4 rfl rfl)
theorem dX6_sets_95 : decode cX6_sets 95 = .ok (.istore_n 3, 1) := dk_62 (dk_at dksX6_sets_4 5 rfl rfl)
theorem dX6_sets_96 : decode cX6_sets 96 = .ok (.iload 8, 2) := dk_21 8 (dk_at dksX6_sets_4 6 rfl rfl)
theorem dX6_sets_98 : decode cX6_sets 98 = .ok (.ifCond .eq 29, 3) := dk_153 0 29 (dk_at dksX6_sets_4 8 rfl rfl)
theorem dX6_sets_101 : decode cX6_sets 101 = .ok (.iload 4, 2) := dk_21 4 (dk_at dksX6_sets_4 11 rfl rfl)
theorem dX6_sets_103 : decode cX6_sets 103 = .ok (.iconst (-1), 1) := dk_2 (dk_at dksX6_sets_4 13 rfl rfl)
theorem dX6_sets_104 : decode cX6_sets 104 = .ok (.if_icmp .eq 18, 3) := dk_159 0 18 (dk_at dksX6_sets_4 14 rfl rfl)
theorem dX6_sets_107 : decode cX6_sets 107 = .ok (.iload 7, 2) := dk_21 7 (dk_at dksX6_sets_4 17 rfl rfl)
theorem dX6_sets_109 : decode cX6_sets 109 = .ok (.i2l, 1) := dk_133 (dk_at dksX6_sets_4 19 rfl rfl)
theorem dX6_sets_110 : decode cX6_sets 110 = .ok (.invokestatic 249, 3) := dk_184 0 249 (dk_at dksX6_sets_4 20 rfl rfl)
theorem dX6_sets_113 : decode cX6_sets 113 = .ok (.iload 4, 2) := dk_21 4 (dk_at dksX6_sets_5 0 rfl rfl)
theorem dX6_sets_115 : decode cX6_sets 115 = .ok (.i2l, 1) := dk_133 (dk_at dksX6_sets_5 2 rfl rfl)
theorem dX6_sets_116 : decode cX6_sets 116 = .ok (.invokestatic 249, 3) := dk_184 0 249 (dk_at dksX6_sets_5 3 rfl rfl)
theorem dX6_sets_119 : decode cX6_sets 119 = .ok (.if_icmp .le 8, 3) := dk_164 0 8 (dk_at dksX6_sets_5 6 rfl rfl)
theorem dX6_sets_122 : decode cX6_sets 122 = .ok (.iload 7, 2) := dk_21 7 (dk_at dksX6_sets_5 9 rfl rfl)
theorem dX6_sets_124 : decode cX6_sets 124 = .ok (.goto 5, 3) := dk_167 0 5 (dk_at dksX6_sets_5 11 rfl rfl)
theorem dX6_sets_127 : decode cX6_sets 127 = .ok (.iload 4, 2) := dk_21 4 (dk_at dksX6_sets_5 14 rfl rfl)
theorem dX6_sets_129 : decode cX6_sets 129 = .ok (.istore 4, 2) := dk_54 4 (dk_at dksX6_sets_5 16 rfl rfl)
theorem dX6_sets_131 : decode cX6_sets 131 = .ok (.iload 8, 2) := dk_21 8 (dk_at dksX6_sets_5 18 rfl rfl)
theorem dX6_sets_133 : decode cX6_sets 133 = .ok (.ifCond .ne 29, 3) := dk_154 0 29 (dk_at dksX6_sets_5 20 rfl rfl)
theorem dX6_sets_136 : decode cX6_sets 136 = .ok (.iload 6, 2) := dk_21 6 (dk_at dksX6_sets_6 0 rfl rfl)
theorem dX6_sets_138 : decode cX6_sets 138 = .ok (.iconst (-1), 1) := dk_2 (dk_at dksX6_sets_6 2 rfl rfl)
theorem dX6_sets_139 : decode cX6_sets 139 = .ok (.if_icmp .eq 18, 3) := dk_159 0 18 (dk_at dksX6_sets_6 3 rfl rfl)
theorem dX6_sets_142 : decode cX6_sets 142 = .ok (.iload 7, 2) := dk_21 7 (dk_at dksX6_sets_6 6 rfl rfl)
theorem dX6_sets_144 : decode cX6_sets 144 = .ok (.i2l, 1) := dk_133 (dk_at dksX6_sets_6 8 rfl rfl)
theorem dX6_sets_145 : decode cX6_sets 145 = .ok (.invokestatic 249, 3) := dk_184 0 249 (dk_at dksX6_sets_6 9 rfl rfl)
theorem dX6_sets_148 : decode cX6_sets 148 = .ok (.iload 6, 2) := dk_21 6 (dk_at dksX6_sets_6 12 rfl rfl)
theorem dX6_sets_150 : decode cX6_sets 150 = .ok (.i2l, 1) := dk_133 (dk_at dksX6_sets_6 14 rfl rfl)
theorem dX6_sets_151 : decode cX6_sets 151 = .ok (.invokestatic 249, 3) := dk_184 0 249 (dk_at dksX6_sets_6 15 rfl rfl)
theorem dX6_sets_154 : decode cX6_sets 154 = .ok (.if_icmp .ge 8, 3) := dk_162 0 8 (dk_at dksX6_sets_6 18 rfl rfl)
theorem dX6_sets_157 : decode cX6_sets 157 = .ok (.iload 7, 2) := dk_21 7 (dk_at dksX6_sets_6 21 rfl rfl)
theorem dX6_sets_159 : decode cX6_sets 159 = .ok (.goto 5, 3) := dk_167 0 5 (dk_at dksX6_sets_7 0 rfl rfl)
theorem dX6_sets_162 : decode cX6_sets 162 = .ok (.iload 6, 2) := dk_21 6 (dk_at dksX6_sets_7 3 rfl rfl)
theorem dX6_sets_164 : decode cX6_sets 164 = .ok (.istore 6, 2) := dk_54 6 (dk_at dksX6_sets_7 5 rfl rfl)
theorem dX6_sets_166 : decode cX6_sets 166 = .ok (.iload 5, 2) := dk_21 5 (dk_at dksX6_sets_7 7 rfl rfl)
theorem dX6_sets_168 : decode cX6_sets 168 = .ok (.iload 8, 2) := dk_21 8 (dk_at dksX6_sets_7 9 rfl rfl)
theorem dX6_sets_170 : decode cX6_sets 170 = .ok (.ifCond .eq 17, 3) := dk_153 0 17 (dk_at dksX6_sets_7 11 rfl rfl)
theorem dX6_sets_173 : decode cX6_sets 173 = .ok (.aload_n 0, 1) := dk_42 (dk_at dksX6_sets_7 14 rfl rfl)
theorem dX6_sets_174 : decode cX6_sets 174 = .ok (.iload 7, 2) := dk_21 7 (dk_at dksX6_sets_7 15 rfl rfl)
theorem dX6_sets_176 : decode cX6_sets 176 = .ok (.iload_n 1, 1) := dk_27 (dk_at dksX6_sets_7 17 rfl rfl)
theorem dX6_sets_177 : decode cX6_sets 177 = .ok (.invokevirtual 423, 3) := dk_182 1 167 (dk_at dksX6_sets_7 18 rfl rfl)
theorem dX6_sets_180 : decode cX6_sets 180 = .ok (.ifCond .eq 7, 3) := dk_153 0 7 (dk_at dksX6_sets_7 21 rfl rfl)
theorem dX6_sets_183 : decode cX6_sets 183 = .ok (.iconst 1, 1) := dk_4 (dk_at dksX6_sets_8 0 rfl rfl)
theorem dX6_sets_184 : decode cX6_sets 184 = .ok (.goto 4, 3) := dk_167 0 4 (dk_at dksX6_sets_8 1 rfl rfl)
theorem dX6_sets_187 : decode cX6_sets 187 = .ok (.iconst 0, 1) := dk_3 (dk_at dksX6_sets_8 4 rfl rfl)
theorem dX6_sets_188 : decode cX6_sets 188 = .ok (.iadd, 1) := dk_96 (dk_at dksX6_sets_8 5 rfl rfl)
theorem dX6_sets_189 : decode cX6_sets 189 = .ok (.istore 5, 2) := dk_54 5 (dk_at dksX6_sets_8 6 rfl rfl)
theorem dX6_sets_191 : decode cX6_sets 191 = .ok (.iinc 7 1, 3) := dk_132 7 1 (dk_at dksX6_sets_8 8 rfl rfl)
theorem dX6_sets_194 : decode cX6_sets 194 = .ok (.goto (-143), 3) := dk_167 255 113 (dk_at dksX6_sets_8 11 rfl rfl)
theorem dX6_sets_197 : decode cX6_sets 197 = .ok (.iload_n 2, 1) := dk_28 (dk_at dksX6_sets_8 14 rfl rfl)
theorem dX6_sets_198 : decode cX6_sets 198 = .ok (.ifCond .ne 7, 3) := dk_154 0 7 (dk_at dksX6_sets_8 15 rfl rfl)
theorem dX6_sets_201 : decode cX6_sets 201 = .ok (.iload_n 3, 1) := dk_29 (dk_at dksX6_sets_8 18 rfl rfl)
theorem dX6_sets_202 : decode cX6_sets 202 = .ok (.goto 25, 3) := dk_167 0 25 (dk_at dksX6_sets_8 19 rfl rfl)
theorem dX6_sets_205 : decode cX6_sets 205 = .ok (.iload_n 2, 1) := dk_28 (dk_at dksX6_sets_8 22 rfl rfl)
theorem dX6_sets_206 : decode cX6_sets 206 = .ok (.iconst 1, 1) := dk_4 (dk_at dksX6_sets_8 23 rfl rfl)
theorem dX6_sets_207 : decode cX6_sets 207 = .ok (.if_icmp .ne 8, 3) := dk_160 0 8 (dk_at dksX6_sets_9 0 rfl rfl)
theorem dX6_sets_210 : decode cX6_sets 210 = .ok (.iload 4, 2) := dk_21 4 (dk_at dksX6_sets_9 3 rfl rfl)
theorem dX6_sets_212 : decode cX6_sets 212 = .ok (.goto 15, 3) := dk_167 0 15 (dk_at dksX6_sets_9 5 rfl rfl)
theorem dX6_sets_215 : decode cX6_sets 215 = .ok (.iload_n 2, 1) := dk_28 (dk_at dksX6_sets_9 8 rfl rfl)
theorem dX6_sets_216 : decode cX6_sets 216 = .ok (.iconst 2, 1) := dk_5 (dk_at dksX6_sets_9 9 rfl rfl)
theorem dX6_sets_217 : decode cX6_sets 217 = .ok (.if_icmp .ne 8, 3) := dk_160 0 8 (dk_at dksX6_sets_9 10 rfl rfl)
theorem dX6_sets_220 : decode cX6_sets 220 = .ok (.iload 5, 2) := dk_21 5 (dk_at dksX6_sets_9 13 rfl rfl)
theorem dX6_sets_222 : decode cX6_sets 222 = .ok (.goto 5, 3) := dk_167 0 5 (dk_at dksX6_sets_9 15 rfl rfl)
theorem dX6_sets_225 : decode cX6_sets 225 = .ok (.iload 6, 2) := dk_21 6 (dk_at dksX6_sets_9 18 rfl rfl)
theorem dX6_sets_227 : decode cX6_sets 227 = .ok (.ireturn, 1) := dk_172 (dk_at dksX6_sets_9 20 rfl rfl)
abbrev cX6_isWhole : ByteArray := prog_19_method_107_code
def yX6_isWhole : MethodName := ⟨RX6, "isWhole", "(II)Z"⟩
def dkwX6_isWhole_2 : List UInt8 := [153, 0, 5, 3, 172, 132, 3, 1, 167, 255, 218, 4, 172]
abbrev dktX6_isWhole_2 : List UInt8 := dkwX6_isWhole_2 ++ []
def dkwX6_isWhole_1 : List UInt8 := [162, 0, 34, 27, 29, 122, 4, 126, 154, 0, 20, 42, 27, 4, 29, 120, 128, 28, 182, 1, 122, 9, 148]
abbrev dktX6_isWhole_1 : List UInt8 := dkwX6_isWhole_1 ++ dktX6_isWhole_2
def dkwX6_isWhole_0 : List UInt8 := [42, 27, 28, 182, 1, 122, 9, 148, 154, 0, 5, 3, 172, 3, 62, 29, 42, 180, 0, 23, 4, 46]
abbrev dktX6_isWhole_0 : List UInt8 := dkwX6_isWhole_0 ++ dktX6_isWhole_1
theorem dksX6_isWhole_0 : cX6_isWhole.data.toList.drop 0 = dktX6_isWhole_0 := by decide +kernel
theorem dksX6_isWhole_1 : cX6_isWhole.data.toList.drop 22 = dktX6_isWhole_1 := dk_seg dksX6_isWhole_0 22 rfl rfl
theorem dksX6_isWhole_2 : cX6_isWhole.data.toList.drop 45 = dktX6_isWhole_2 := dk_seg dksX6_isWhole_1 23 rfl rfl
theorem dX6_isWhole_0 : decode cX6_isWhole 0 = .ok (.aload_n 0, 1) := dk_42 (dk_at dksX6_isWhole_0 0 rfl rfl)
theorem dX6_isWhole_1 : decode cX6_isWhole 1 = .ok (.iload_n 1, 1) := dk_27 (dk_at dksX6_isWhole_0 1 rfl rfl)
theorem dX6_isWhole_2 : decode cX6_isWhole 2 = .ok (.iload_n 2, 1) := dk_28 (dk_at dksX6_isWhole_0 2 rfl rfl)
theorem dX6_isWhole_3 : decode cX6_isWhole 3 = .ok (.invokevirtual 378, 3) := dk_182 1 122 (dk_at dksX6_isWhole_0 3 rfl rfl)
theorem dX6_isWhole_6 : decode cX6_isWhole 6 = .ok (.lconst 0, 1) := dk_9 (dk_at dksX6_isWhole_0 6 rfl rfl)
theorem dX6_isWhole_7 : decode cX6_isWhole 7 = .ok (.lcmp, 1) := dk_148 (dk_at dksX6_isWhole_0 7 rfl rfl)
theorem dX6_isWhole_8 : decode cX6_isWhole 8 = .ok (.ifCond .ne 5, 3) := dk_154 0 5 (dk_at dksX6_isWhole_0 8 rfl rfl)
theorem dX6_isWhole_11 : decode cX6_isWhole 11 = .ok (.iconst 0, 1) := dk_3 (dk_at dksX6_isWhole_0 11 rfl rfl)
theorem dX6_isWhole_12 : decode cX6_isWhole 12 = .ok (.ireturn, 1) := dk_172 (dk_at dksX6_isWhole_0 12 rfl rfl)
theorem dX6_isWhole_13 : decode cX6_isWhole 13 = .ok (.iconst 0, 1) := dk_3 (dk_at dksX6_isWhole_0 13 rfl rfl)
theorem dX6_isWhole_14 : decode cX6_isWhole 14 = .ok (.istore_n 3, 1) := dk_62 (dk_at dksX6_isWhole_0 14 rfl rfl)
theorem dX6_isWhole_15 : decode cX6_isWhole 15 = .ok (.iload_n 3, 1) := dk_29 (dk_at dksX6_isWhole_0 15 rfl rfl)
theorem dX6_isWhole_16 : decode cX6_isWhole 16 = .ok (.aload_n 0, 1) := dk_42 (dk_at dksX6_isWhole_0 16 rfl rfl)
theorem dX6_isWhole_17 : decode cX6_isWhole 17 = .ok (.getfield 23, 3) := dk_180 0 23 (dk_at dksX6_isWhole_0 17 rfl rfl)
theorem dX6_isWhole_20 : decode cX6_isWhole 20 = .ok (.iconst 1, 1) := dk_4 (dk_at dksX6_isWhole_0 20 rfl rfl)
theorem dX6_isWhole_21 : decode cX6_isWhole 21 = .ok (.iaload, 1) := dk_46 (dk_at dksX6_isWhole_0 21 rfl rfl)
theorem dX6_isWhole_22 : decode cX6_isWhole 22 = .ok (.if_icmp .ge 34, 3) := dk_162 0 34 (dk_at dksX6_isWhole_1 0 rfl rfl)
theorem dX6_isWhole_25 : decode cX6_isWhole 25 = .ok (.iload_n 1, 1) := dk_27 (dk_at dksX6_isWhole_1 3 rfl rfl)
theorem dX6_isWhole_26 : decode cX6_isWhole 26 = .ok (.iload_n 3, 1) := dk_29 (dk_at dksX6_isWhole_1 4 rfl rfl)
theorem dX6_isWhole_27 : decode cX6_isWhole 27 = .ok (.ishr, 1) := dk_122 (dk_at dksX6_isWhole_1 5 rfl rfl)
theorem dX6_isWhole_28 : decode cX6_isWhole 28 = .ok (.iconst 1, 1) := dk_4 (dk_at dksX6_isWhole_1 6 rfl rfl)
theorem dX6_isWhole_29 : decode cX6_isWhole 29 = .ok (.iand, 1) := dk_126 (dk_at dksX6_isWhole_1 7 rfl rfl)
theorem dX6_isWhole_30 : decode cX6_isWhole 30 = .ok (.ifCond .ne 20, 3) := dk_154 0 20 (dk_at dksX6_isWhole_1 8 rfl rfl)
theorem dX6_isWhole_33 : decode cX6_isWhole 33 = .ok (.aload_n 0, 1) := dk_42 (dk_at dksX6_isWhole_1 11 rfl rfl)
theorem dX6_isWhole_34 : decode cX6_isWhole 34 = .ok (.iload_n 1, 1) := dk_27 (dk_at dksX6_isWhole_1 12 rfl rfl)
theorem dX6_isWhole_35 : decode cX6_isWhole 35 = .ok (.iconst 1, 1) := dk_4 (dk_at dksX6_isWhole_1 13 rfl rfl)
theorem dX6_isWhole_36 : decode cX6_isWhole 36 = .ok (.iload_n 3, 1) := dk_29 (dk_at dksX6_isWhole_1 14 rfl rfl)
theorem dX6_isWhole_37 : decode cX6_isWhole 37 = .ok (.ishl, 1) := dk_120 (dk_at dksX6_isWhole_1 15 rfl rfl)
theorem dX6_isWhole_38 : decode cX6_isWhole 38 = .ok (.ior, 1) := dk_128 (dk_at dksX6_isWhole_1 16 rfl rfl)
theorem dX6_isWhole_39 : decode cX6_isWhole 39 = .ok (.iload_n 2, 1) := dk_28 (dk_at dksX6_isWhole_1 17 rfl rfl)
theorem dX6_isWhole_40 : decode cX6_isWhole 40 = .ok (.invokevirtual 378, 3) := dk_182 1 122 (dk_at dksX6_isWhole_1 18 rfl rfl)
theorem dX6_isWhole_43 : decode cX6_isWhole 43 = .ok (.lconst 0, 1) := dk_9 (dk_at dksX6_isWhole_1 21 rfl rfl)
theorem dX6_isWhole_44 : decode cX6_isWhole 44 = .ok (.lcmp, 1) := dk_148 (dk_at dksX6_isWhole_1 22 rfl rfl)
theorem dX6_isWhole_45 : decode cX6_isWhole 45 = .ok (.ifCond .eq 5, 3) := dk_153 0 5 (dk_at dksX6_isWhole_2 0 rfl rfl)
theorem dX6_isWhole_48 : decode cX6_isWhole 48 = .ok (.iconst 0, 1) := dk_3 (dk_at dksX6_isWhole_2 3 rfl rfl)
theorem dX6_isWhole_49 : decode cX6_isWhole 49 = .ok (.ireturn, 1) := dk_172 (dk_at dksX6_isWhole_2 4 rfl rfl)
theorem dX6_isWhole_50 : decode cX6_isWhole 50 = .ok (.iinc 3 1, 3) := dk_132 3 1 (dk_at dksX6_isWhole_2 5 rfl rfl)
theorem dX6_isWhole_53 : decode cX6_isWhole 53 = .ok (.goto (-38), 3) := dk_167 255 218 (dk_at dksX6_isWhole_2 8 rfl rfl)
theorem dX6_isWhole_56 : decode cX6_isWhole 56 = .ok (.iconst 1, 1) := dk_4 (dk_at dksX6_isWhole_2 11 rfl rfl)
theorem dX6_isWhole_57 : decode cX6_isWhole 57 = .ok (.ireturn, 1) := dk_172 (dk_at dksX6_isWhole_2 12 rfl rfl)
abbrev cX6_whole : ByteArray := prog_19_method_109_code
def yX6_whole : MethodName := ⟨RX6, "whole", "(II)I"⟩
def dkwX6_whole_3 : List UInt8 := [132, 4, 1, 167, 255, 216, 2, 172]
abbrev dktX6_whole_3 : List UInt8 := dkwX6_whole_3 ++ []
def dkwX6_whole_2 : List UInt8 := [21, 4, 27, 182, 1, 167, 154, 0, 6, 167, 0, 14, 29, 28, 160, 0, 6, 21, 4, 172, 132, 3, 1]
abbrev dktX6_whole_2 : List UInt8 := dkwX6_whole_2 ++ dktX6_whole_3
def dkwX6_whole_1 : List UInt8 := [153, 0, 5, 3, 172, 3, 62, 3, 54, 4, 21, 4, 4, 42, 180, 0, 23, 4, 46, 120, 162, 0, 33, 42]
abbrev dktX6_whole_1 : List UInt8 := dkwX6_whole_1 ++ dktX6_whole_2
def dkwX6_whole_0 : List UInt8 := [42, 3, 181, 0, 132, 42, 27, 184, 1, 50, 154, 0, 7, 4, 167, 0, 4, 3, 4, 4, 182, 0, 233]
abbrev dktX6_whole_0 : List UInt8 := dkwX6_whole_0 ++ dktX6_whole_1
theorem dksX6_whole_0 : cX6_whole.data.toList.drop 0 = dktX6_whole_0 := by decide +kernel
theorem dksX6_whole_1 : cX6_whole.data.toList.drop 23 = dktX6_whole_1 := dk_seg dksX6_whole_0 23 rfl rfl
theorem dksX6_whole_2 : cX6_whole.data.toList.drop 47 = dktX6_whole_2 := dk_seg dksX6_whole_1 24 rfl rfl
theorem dksX6_whole_3 : cX6_whole.data.toList.drop 70 = dktX6_whole_3 := dk_seg dksX6_whole_2 23 rfl rfl
theorem dX6_whole_0 : decode cX6_whole 0 = .ok (.aload_n 0, 1) := dk_42 (dk_at dksX6_whole_0 0 rfl rfl)
theorem dX6_whole_1 : decode cX6_whole 1 = .ok (.iconst 0, 1) := dk_3 (dk_at dksX6_whole_0 1 rfl rfl)
theorem dX6_whole_2 : decode cX6_whole 2 = .ok (.putfield 132, 3) := dk_181 0 132 (dk_at dksX6_whole_0 2 rfl rfl)
theorem dX6_whole_5 : decode cX6_whole 5 = .ok (.aload_n 0, 1) := dk_42 (dk_at dksX6_whole_0 5 rfl rfl)
theorem dX6_whole_6 : decode cX6_whole 6 = .ok (.iload_n 1, 1) := dk_27 (dk_at dksX6_whole_0 6 rfl rfl)
theorem dX6_whole_7 : decode cX6_whole 7 = .ok (.invokestatic 306, 3) := dk_184 1 50 (dk_at dksX6_whole_0 7 rfl rfl)
theorem dX6_whole_10 : decode cX6_whole 10 = .ok (.ifCond .ne 7, 3) := dk_154 0 7 (dk_at dksX6_whole_0 10 rfl rfl)
theorem dX6_whole_13 : decode cX6_whole 13 = .ok (.iconst 1, 1) := dk_4 (dk_at dksX6_whole_0 13 rfl rfl)
theorem dX6_whole_14 : decode cX6_whole 14 = .ok (.goto 4, 3) := dk_167 0 4 (dk_at dksX6_whole_0 14 rfl rfl)
theorem dX6_whole_17 : decode cX6_whole 17 = .ok (.iconst 0, 1) := dk_3 (dk_at dksX6_whole_0 17 rfl rfl)
theorem dX6_whole_18 : decode cX6_whole 18 = .ok (.iconst 1, 1) := dk_4 (dk_at dksX6_whole_0 18 rfl rfl)
theorem dX6_whole_19 : decode cX6_whole 19 = .ok (.iconst 1, 1) := dk_4 (dk_at dksX6_whole_0 19 rfl rfl)
theorem dX6_whole_20 : decode cX6_whole 20 = .ok (.invokevirtual 233, 3) := dk_182 0 233 (dk_at dksX6_whole_0 20 rfl rfl)
theorem dX6_whole_23 : decode cX6_whole 23 = .ok (.ifCond .eq 5, 3) := dk_153 0 5 (dk_at dksX6_whole_1 0 rfl rfl)
theorem dX6_whole_26 : decode cX6_whole 26 = .ok (.iconst 0, 1) := dk_3 (dk_at dksX6_whole_1 3 rfl rfl)
theorem dX6_whole_27 : decode cX6_whole 27 = .ok (.ireturn, 1) := dk_172 (dk_at dksX6_whole_1 4 rfl rfl)
theorem dX6_whole_28 : decode cX6_whole 28 = .ok (.iconst 0, 1) := dk_3 (dk_at dksX6_whole_1 5 rfl rfl)
theorem dX6_whole_29 : decode cX6_whole 29 = .ok (.istore_n 3, 1) := dk_62 (dk_at dksX6_whole_1 6 rfl rfl)
theorem dX6_whole_30 : decode cX6_whole 30 = .ok (.iconst 0, 1) := dk_3 (dk_at dksX6_whole_1 7 rfl rfl)
theorem dX6_whole_31 : decode cX6_whole 31 = .ok (.istore 4, 2) := dk_54 4 (dk_at dksX6_whole_1 8 rfl rfl)
theorem dX6_whole_33 : decode cX6_whole 33 = .ok (.iload 4, 2) := dk_21 4 (dk_at dksX6_whole_1 10 rfl rfl)
theorem dX6_whole_35 : decode cX6_whole 35 = .ok (.iconst 1, 1) := dk_4 (dk_at dksX6_whole_1 12 rfl rfl)
theorem dX6_whole_36 : decode cX6_whole 36 = .ok (.aload_n 0, 1) := dk_42 (dk_at dksX6_whole_1 13 rfl rfl)
theorem dX6_whole_37 : decode cX6_whole 37 = .ok (.getfield 23, 3) := dk_180 0 23 (dk_at dksX6_whole_1 14 rfl rfl)
theorem dX6_whole_40 : decode cX6_whole 40 = .ok (.iconst 1, 1) := dk_4 (dk_at dksX6_whole_1 17 rfl rfl)
theorem dX6_whole_41 : decode cX6_whole 41 = .ok (.iaload, 1) := dk_46 (dk_at dksX6_whole_1 18 rfl rfl)
theorem dX6_whole_42 : decode cX6_whole 42 = .ok (.ishl, 1) := dk_120 (dk_at dksX6_whole_1 19 rfl rfl)
theorem dX6_whole_43 : decode cX6_whole 43 = .ok (.if_icmp .ge 33, 3) := dk_162 0 33 (dk_at dksX6_whole_1 20 rfl rfl)
theorem dX6_whole_46 : decode cX6_whole 46 = .ok (.aload_n 0, 1) := dk_42 (dk_at dksX6_whole_1 23 rfl rfl)
theorem dX6_whole_47 : decode cX6_whole 47 = .ok (.iload 4, 2) := dk_21 4 (dk_at dksX6_whole_2 0 rfl rfl)
theorem dX6_whole_49 : decode cX6_whole 49 = .ok (.iload_n 1, 1) := dk_27 (dk_at dksX6_whole_2 2 rfl rfl)
theorem dX6_whole_50 : decode cX6_whole 50 = .ok (.invokevirtual 423, 3) := dk_182 1 167 (dk_at dksX6_whole_2 3 rfl rfl)
theorem dX6_whole_53 : decode cX6_whole 53 = .ok (.ifCond .ne 6, 3) := dk_154 0 6 (dk_at dksX6_whole_2 6 rfl rfl)
theorem dX6_whole_56 : decode cX6_whole 56 = .ok (.goto 14, 3) := dk_167 0 14 (dk_at dksX6_whole_2 9 rfl rfl)
theorem dX6_whole_59 : decode cX6_whole 59 = .ok (.iload_n 3, 1) := dk_29 (dk_at dksX6_whole_2 12 rfl rfl)
theorem dX6_whole_60 : decode cX6_whole 60 = .ok (.iload_n 2, 1) := dk_28 (dk_at dksX6_whole_2 13 rfl rfl)
theorem dX6_whole_61 : decode cX6_whole 61 = .ok (.if_icmp .ne 6, 3) := dk_160 0 6 (dk_at dksX6_whole_2 14 rfl rfl)
theorem dX6_whole_64 : decode cX6_whole 64 = .ok (.iload 4, 2) := dk_21 4 (dk_at dksX6_whole_2 17 rfl rfl)
theorem dX6_whole_66 : decode cX6_whole 66 = .ok (.ireturn, 1) := dk_172 (dk_at dksX6_whole_2 19 rfl rfl)
theorem dX6_whole_67 : decode cX6_whole 67 = .ok (.iinc 3 1, 3) := dk_132 3 1 (dk_at dksX6_whole_2 20 rfl rfl)
theorem dX6_whole_70 : decode cX6_whole 70 = .ok (.iinc 4 1, 3) := dk_132 4 1 (dk_at dksX6_whole_3 0 rfl rfl)
theorem dX6_whole_73 : decode cX6_whole 73 = .ok (.goto (-40), 3) := dk_167 255 216 (dk_at dksX6_whole_3 3 rfl rfl)
theorem dX6_whole_76 : decode cX6_whole 76 = .ok (.iconst (-1), 1) := dk_2 (dk_at dksX6_whole_3 6 rfl rfl)
theorem dX6_whole_77 : decode cX6_whole 77 = .ok (.ireturn, 1) := dk_172 (dk_at dksX6_whole_3 7 rfl rfl)
abbrev cX6_proof : ByteArray := prog_19_method_110_code
def yX6_proof : MethodName := ⟨RX6, "proof", "(I)I"⟩
def dkwX6_proof_4 : List UInt8 := [167, 0, 5, 29, 61, 132, 3, 1, 167, 255, 187, 28, 172]
abbrev dktX6_proof_4 : List UInt8 := dkwX6_proof_4 ++ []
def dkwX6_proof_3 : List UInt8 := [148, 154, 0, 26, 28, 2, 159, 0, 19, 29, 133, 184, 0, 249, 28, 133, 184, 0, 249, 161, 0, 6]
abbrev dktX6_proof_3 : List UInt8 := dkwX6_proof_3 ++ dktX6_proof_4
def dkwX6_proof_2 : List UInt8 := [182, 1, 122, 55, 4, 22, 4, 9, 148, 153, 0, 42, 22, 4, 42, 180, 0, 50, 20, 0, 48, 131, 127, 9]
abbrev dktX6_proof_2 : List UInt8 := dkwX6_proof_2 ++ dktX6_proof_3
def dkwX6_proof_1 : List UInt8 := [153, 0, 5, 3, 172, 2, 61, 3, 62, 29, 4, 42, 180, 0, 23, 4, 46, 120, 162, 0, 63, 42, 29, 27]
abbrev dktX6_proof_1 : List UInt8 := dkwX6_proof_1 ++ dktX6_proof_2
def dkwX6_proof_0 : List UInt8 := [42, 3, 181, 0, 132, 42, 27, 184, 1, 50, 154, 0, 7, 4, 167, 0, 4, 3, 4, 4, 182, 0, 233]
abbrev dktX6_proof_0 : List UInt8 := dkwX6_proof_0 ++ dktX6_proof_1
theorem dksX6_proof_0 : cX6_proof.data.toList.drop 0 = dktX6_proof_0 := by decide +kernel
theorem dksX6_proof_1 : cX6_proof.data.toList.drop 23 = dktX6_proof_1 := dk_seg dksX6_proof_0 23 rfl rfl
theorem dksX6_proof_2 : cX6_proof.data.toList.drop 47 = dktX6_proof_2 := dk_seg dksX6_proof_1 24 rfl rfl
theorem dksX6_proof_3 : cX6_proof.data.toList.drop 71 = dktX6_proof_3 := dk_seg dksX6_proof_2 24 rfl rfl
theorem dksX6_proof_4 : cX6_proof.data.toList.drop 93 = dktX6_proof_4 := dk_seg dksX6_proof_3 22 rfl rfl
theorem dX6_proof_0 : decode cX6_proof 0 = .ok (.aload_n 0, 1) := dk_42 (dk_at dksX6_proof_0 0 rfl rfl)
theorem dX6_proof_1 : decode cX6_proof 1 = .ok (.iconst 0, 1) := dk_3 (dk_at dksX6_proof_0 1 rfl rfl)
theorem dX6_proof_2 : decode cX6_proof 2 = .ok (.putfield 132, 3) := dk_181 0 132 (dk_at dksX6_proof_0 2 rfl rfl)
theorem dX6_proof_5 : decode cX6_proof 5 = .ok (.aload_n 0, 1) := dk_42 (dk_at dksX6_proof_0 5 rfl rfl)
theorem dX6_proof_6 : decode cX6_proof 6 = .ok (.iload_n 1, 1) := dk_27 (dk_at dksX6_proof_0 6 rfl rfl)
theorem dX6_proof_7 : decode cX6_proof 7 = .ok (.invokestatic 306, 3) := dk_184 1 50 (dk_at dksX6_proof_0 7 rfl rfl)
theorem dX6_proof_10 : decode cX6_proof 10 = .ok (.ifCond .ne 7, 3) := dk_154 0 7 (dk_at dksX6_proof_0 10 rfl rfl)
theorem dX6_proof_13 : decode cX6_proof 13 = .ok (.iconst 1, 1) := dk_4 (dk_at dksX6_proof_0 13 rfl rfl)
theorem dX6_proof_14 : decode cX6_proof 14 = .ok (.goto 4, 3) := dk_167 0 4 (dk_at dksX6_proof_0 14 rfl rfl)
theorem dX6_proof_17 : decode cX6_proof 17 = .ok (.iconst 0, 1) := dk_3 (dk_at dksX6_proof_0 17 rfl rfl)
theorem dX6_proof_18 : decode cX6_proof 18 = .ok (.iconst 1, 1) := dk_4 (dk_at dksX6_proof_0 18 rfl rfl)
theorem dX6_proof_19 : decode cX6_proof 19 = .ok (.iconst 1, 1) := dk_4 (dk_at dksX6_proof_0 19 rfl rfl)
theorem dX6_proof_20 : decode cX6_proof 20 = .ok (.invokevirtual 233, 3) := dk_182 0 233 (dk_at dksX6_proof_0 20 rfl rfl)
theorem dX6_proof_23 : decode cX6_proof 23 = .ok (.ifCond .eq 5, 3) := dk_153 0 5 (dk_at dksX6_proof_1 0 rfl rfl)
theorem dX6_proof_26 : decode cX6_proof 26 = .ok (.iconst 0, 1) := dk_3 (dk_at dksX6_proof_1 3 rfl rfl)
theorem dX6_proof_27 : decode cX6_proof 27 = .ok (.ireturn, 1) := dk_172 (dk_at dksX6_proof_1 4 rfl rfl)
theorem dX6_proof_28 : decode cX6_proof 28 = .ok (.iconst (-1), 1) := dk_2 (dk_at dksX6_proof_1 5 rfl rfl)
theorem dX6_proof_29 : decode cX6_proof 29 = .ok (.istore_n 2, 1) := dk_61 (dk_at dksX6_proof_1 6 rfl rfl)
theorem dX6_proof_30 : decode cX6_proof 30 = .ok (.iconst 0, 1) := dk_3 (dk_at dksX6_proof_1 7 rfl rfl)
theorem dX6_proof_31 : decode cX6_proof 31 = .ok (.istore_n 3, 1) := dk_62 (dk_at dksX6_proof_1 8 rfl rfl)
theorem dX6_proof_32 : decode cX6_proof 32 = .ok (.iload_n 3, 1) := dk_29 (dk_at dksX6_proof_1 9 rfl rfl)
theorem dX6_proof_33 : decode cX6_proof 33 = .ok (.iconst 1, 1) := dk_4 (dk_at dksX6_proof_1 10 rfl rfl)
theorem dX6_proof_34 : decode cX6_proof 34 = .ok (.aload_n 0, 1) := dk_42 (dk_at dksX6_proof_1 11 rfl rfl)
theorem dX6_proof_35 : decode cX6_proof 35 = .ok (.getfield 23, 3) := dk_180 0 23 (dk_at dksX6_proof_1 12 rfl rfl)
theorem dX6_proof_38 : decode cX6_proof 38 = .ok (.iconst 1, 1) := dk_4 (dk_at dksX6_proof_1 15 rfl rfl)
theorem dX6_proof_39 : decode cX6_proof 39 = .ok (.iaload, 1) := dk_46 (dk_at dksX6_proof_1 16 rfl rfl)
theorem dX6_proof_40 : decode cX6_proof 40 = .ok (.ishl, 1) := dk_120 (dk_at dksX6_proof_1 17 rfl rfl)
theorem dX6_proof_41 : decode cX6_proof 41 = .ok (.if_icmp .ge 63, 3) := dk_162 0 63 (dk_at dksX6_proof_1 18 rfl rfl)
theorem dX6_proof_44 : decode cX6_proof 44 = .ok (.aload_n 0, 1) := dk_42 (dk_at dksX6_proof_1 21 rfl rfl)
theorem dX6_proof_45 : decode cX6_proof 45 = .ok (.iload_n 3, 1) := dk_29 (dk_at dksX6_proof_1 22 rfl rfl)
theorem dX6_proof_46 : decode cX6_proof 46 = .ok (.iload_n 1, 1) := dk_27 (dk_at dksX6_proof_1 23 rfl rfl)
theorem dX6_proof_47 : decode cX6_proof 47 = .ok (.invokevirtual 378, 3) := dk_182 1 122 (dk_at dksX6_proof_2 0 rfl rfl)
theorem dX6_proof_50 : decode cX6_proof 50 = .ok (.lstore 4, 2) := dk_55 4 (dk_at dksX6_proof_2 3 rfl rfl)
theorem dX6_proof_52 : decode cX6_proof 52 = .ok (.lload 4, 2) := dk_22 4 (dk_at dksX6_proof_2 5 rfl rfl)
theorem dX6_proof_54 : decode cX6_proof 54 = .ok (.lconst 0, 1) := dk_9 (dk_at dksX6_proof_2 7 rfl rfl)
theorem dX6_proof_55 : decode cX6_proof 55 = .ok (.lcmp, 1) := dk_148 (dk_at dksX6_proof_2 8 rfl rfl)
theorem dX6_proof_56 : decode cX6_proof 56 = .ok (.ifCond .eq 42, 3) := dk_153 0 42 (dk_at dksX6_proof_2 9 rfl rfl)
theorem dX6_proof_59 : decode cX6_proof 59 = .ok (.lload 4, 2) := dk_22 4 (dk_at dksX6_proof_2 12 rfl rfl)
theorem dX6_proof_61 : decode cX6_proof 61 = .ok (.aload_n 0, 1) := dk_42 (dk_at dksX6_proof_2 14 rfl rfl)
theorem dX6_proof_62 : decode cX6_proof 62 = .ok (.getfield 50, 3) := dk_180 0 50 (dk_at dksX6_proof_2 15 rfl rfl)
theorem dX6_proof_65 : decode cX6_proof 65 = .ok (.ldc2_w 48, 3) := dk_20 0 48 (dk_at dksX6_proof_2 18 rfl rfl)
theorem dX6_proof_68 : decode cX6_proof 68 = .ok (.lxor, 1) := dk_131 (dk_at dksX6_proof_2 21 rfl rfl)
theorem dX6_proof_69 : decode cX6_proof 69 = .ok (.land, 1) := dk_127 (dk_at dksX6_proof_2 22 rfl rfl)
theorem dX6_proof_70 : decode cX6_proof 70 = .ok (.lconst 0, 1) := dk_9 (dk_at dksX6_proof_2 23 rfl rfl)
theorem dX6_proof_71 : decode cX6_proof 71 = .ok (.lcmp, 1) := dk_148 (dk_at dksX6_proof_3 0 rfl rfl)
theorem dX6_proof_72 : decode cX6_proof 72 = .ok (.ifCond .ne 26, 3) := dk_154 0 26 (dk_at dksX6_proof_3 1 rfl rfl)
theorem dX6_proof_75 : decode cX6_proof 75 = .ok (.iload_n 2, 1) := dk_28 (dk_at dksX6_proof_3 4 rfl rfl)
theorem dX6_proof_76 : decode cX6_proof 76 = .ok (.iconst (-1), 1) := dk_2 (dk_at dksX6_proof_3 5 rfl rfl)
theorem dX6_proof_77 : decode cX6_proof 77 = .ok (.if_icmp .eq 19, 3) := dk_159 0 19 (dk_at dksX6_proof_3 6 rfl rfl)
theorem dX6_proof_80 : decode cX6_proof 80 = .ok (.iload_n 3, 1) := dk_29 (dk_at dksX6_proof_3 9 rfl rfl)
theorem dX6_proof_81 : decode cX6_proof 81 = .ok (.i2l, 1) := dk_133 (dk_at dksX6_proof_3 10 rfl rfl)
theorem dX6_proof_82 : decode cX6_proof 82 = .ok (.invokestatic 249, 3) := dk_184 0 249 (dk_at dksX6_proof_3 11 rfl rfl)
theorem dX6_proof_85 : decode cX6_proof 85 = .ok (.iload_n 2, 1) := dk_28 (dk_at dksX6_proof_3 14 rfl rfl)
theorem dX6_proof_86 : decode cX6_proof 86 = .ok (.i2l, 1) := dk_133 (dk_at dksX6_proof_3 15 rfl rfl)
theorem dX6_proof_87 : decode cX6_proof 87 = .ok (.invokestatic 249, 3) := dk_184 0 249 (dk_at dksX6_proof_3 16 rfl rfl)
theorem dX6_proof_90 : decode cX6_proof 90 = .ok (.if_icmp .lt 6, 3) := dk_161 0 6 (dk_at dksX6_proof_3 19 rfl rfl)
theorem dX6_proof_93 : decode cX6_proof 93 = .ok (.goto 5, 3) := dk_167 0 5 (dk_at dksX6_proof_4 0 rfl rfl)
theorem dX6_proof_96 : decode cX6_proof 96 = .ok (.iload_n 3, 1) := dk_29 (dk_at dksX6_proof_4 3 rfl rfl)
theorem dX6_proof_97 : decode cX6_proof 97 = .ok (.istore_n 2, 1) := dk_61 (dk_at dksX6_proof_4 4 rfl rfl)
theorem dX6_proof_98 : decode cX6_proof 98 = .ok (.iinc 3 1, 3) := dk_132 3 1 (dk_at dksX6_proof_4 5 rfl rfl)
theorem dX6_proof_101 : decode cX6_proof 101 = .ok (.goto (-69), 3) := dk_167 255 187 (dk_at dksX6_proof_4 8 rfl rfl)
theorem dX6_proof_104 : decode cX6_proof 104 = .ok (.iload_n 2, 1) := dk_28 (dk_at dksX6_proof_4 11 rfl rfl)
theorem dX6_proof_105 : decode cX6_proof 105 = .ok (.ireturn, 1) := dk_172 (dk_at dksX6_proof_4 12 rfl rfl)
abbrev cX6_split : ByteArray := prog_19_method_111_code
def yX6_split : MethodName := ⟨RX6, "split", "(II)I"⟩
def dkwX6_split_6 : List UInt8 := [154, 0, 7, 29, 167, 0, 5, 21, 4, 172]
abbrev dktX6_split_6 : List UInt8 := dkwX6_split_6 ++ []
def dkwX6_split_5 : List UInt8 := [21, 4, 161, 0, 6, 167, 0, 10, 21, 5, 62, 21, 8, 54, 4, 132, 5, 1, 167, 255, 167, 28]
abbrev dktX6_split_5 : List UInt8 := dkwX6_split_5 ++ dktX6_split_6
def dkwX6_split_4 : List UInt8 := [21, 6, 21, 7, 164, 0, 8, 21, 6, 167, 0, 5, 21, 7, 54, 8, 29, 2, 159, 0, 13, 21, 8]
abbrev dktX6_split_4 : List UInt8 := dkwX6_split_4 ++ dktX6_split_5
def dkwX6_split_3 : List UInt8 := [184, 0, 219, 127, 184, 0, 249, 54, 6, 42, 180, 0, 45, 27, 47, 184, 0, 249, 21, 6, 100, 54, 7]
abbrev dktX6_split_3 : List UInt8 := dkwX6_split_3 ++ dktX6_split_4
def dkwX6_split_2 : List UInt8 := [42, 180, 0, 23, 3, 46, 162, 0, 84, 42, 180, 0, 45, 27, 47, 21, 5, 42, 180, 0, 23, 3, 46]
abbrev dktX6_split_2 : List UInt8 := dkwX6_split_2 ++ dktX6_split_3
def dkwX6_split_1 : List UInt8 := [167, 0, 4, 3, 4, 4, 182, 0, 233, 153, 0, 5, 3, 172, 2, 62, 3, 54, 4, 3, 54, 5, 21, 5]
abbrev dktX6_split_1 : List UInt8 := dkwX6_split_1 ++ dktX6_split_2
def dkwX6_split_0 : List UInt8 := [42, 3, 181, 0, 132, 42, 27, 184, 1, 50, 153, 0, 12, 28, 3, 4, 184, 0, 166, 154, 0, 7, 4]
abbrev dktX6_split_0 : List UInt8 := dkwX6_split_0 ++ dktX6_split_1
theorem dksX6_split_0 : cX6_split.data.toList.drop 0 = dktX6_split_0 := by decide +kernel
theorem dksX6_split_1 : cX6_split.data.toList.drop 23 = dktX6_split_1 := dk_seg dksX6_split_0 23 rfl rfl
theorem dksX6_split_2 : cX6_split.data.toList.drop 47 = dktX6_split_2 := dk_seg dksX6_split_1 24 rfl rfl
theorem dksX6_split_3 : cX6_split.data.toList.drop 70 = dktX6_split_3 := dk_seg dksX6_split_2 23 rfl rfl
theorem dksX6_split_4 : cX6_split.data.toList.drop 93 = dktX6_split_4 := dk_seg dksX6_split_3 23 rfl rfl
theorem dksX6_split_5 : cX6_split.data.toList.drop 116 = dktX6_split_5 := dk_seg dksX6_split_4 23 rfl rfl
theorem dksX6_split_6 : cX6_split.data.toList.drop 138 = dktX6_split_6 := dk_seg dksX6_split_5 22 rfl rfl
theorem dX6_split_0 : decode cX6_split 0 = .ok (.aload_n 0, 1) := dk_42 (dk_at dksX6_split_0 0 rfl rfl)
theorem dX6_split_1 : decode cX6_split 1 = .ok (.iconst 0, 1) := dk_3 (dk_at dksX6_split_0 1 rfl rfl)
theorem dX6_split_2 : decode cX6_split 2 = .ok (.putfield 132, 3) := dk_181 0 132 (dk_at dksX6_split_0 2 rfl rfl)
theorem dX6_split_5 : decode cX6_split 5 = .ok (.aload_n 0, 1) := dk_42 (dk_at dksX6_split_0 5 rfl rfl)
theorem dX6_split_6 : decode cX6_split 6 = .ok (.iload_n 1, 1) := dk_27 (dk_at dksX6_split_0 6 rfl rfl)
theorem dX6_split_7 : decode cX6_split 7 = .ok (.invokestatic 306, 3) := dk_184 1 50 (dk_at dksX6_split_0 7 rfl rfl)
theorem dX6_split_10 : decode cX6_split 10 = .ok (.ifCond .eq 12, 3) := dk_153 0 12 (dk_at dksX6_split_0 10 rfl rfl)
theorem dX6_split_13 : decode cX6_split 13 = .ok (.iload_n 2, 1) := dk_28 (dk_at dksX6_split_0 13 rfl rfl)
theorem dX6_split_14 : decode cX6_split 14 = .ok (.iconst 0, 1) := dk_3 (dk_at dksX6_split_0 14 rfl rfl)
theorem dX6_split_15 : decode cX6_split 15 = .ok (.iconst 1, 1) := dk_4 (dk_at dksX6_split_0 15 rfl rfl)
theorem dX6_split_16 : decode cX6_split 16 = .ok (.invokestatic 166, 3) := dk_184 0 166 (dk_at dksX6_split_0 16 rfl rfl)
theorem dX6_split_19 : decode cX6_split 19 = .ok (.ifCond .ne 7, 3) := dk_154 0 7 (dk_at dksX6_split_0 19 rfl rfl)
theorem dX6_split_22 : decode cX6_split 22 = .ok (.iconst 1, 1) := dk_4 (dk_at dksX6_split_0 22 rfl rfl)
theorem dX6_split_23 : decode cX6_split 23 = .ok (.goto 4, 3) := dk_167 0 4 (dk_at dksX6_split_1 0 rfl rfl)
theorem dX6_split_26 : decode cX6_split 26 = .ok (.iconst 0, 1) := dk_3 (dk_at dksX6_split_1 3 rfl rfl)
theorem dX6_split_27 : decode cX6_split 27 = .ok (.iconst 1, 1) := dk_4 (dk_at dksX6_split_1 4 rfl rfl)
theorem dX6_split_28 : decode cX6_split 28 = .ok (.iconst 1, 1) := dk_4 (dk_at dksX6_split_1 5 rfl rfl)
theorem dX6_split_29 : decode cX6_split 29 = .ok (.invokevirtual 233, 3) := dk_182 0 233 (dk_at dksX6_split_1 6 rfl rfl)
theorem dX6_split_32 : decode cX6_split 32 = .ok (.ifCond .eq 5, 3) := dk_153 0 5 (dk_at dksX6_split_1 9 rfl rfl)
theorem dX6_split_35 : decode cX6_split 35 = .ok (.iconst 0, 1) := dk_3 (dk_at dksX6_split_1 12 rfl rfl)
theorem dX6_split_36 : decode cX6_split 36 = .ok (.ireturn, 1) := dk_172 (dk_at dksX6_split_1 13 rfl rfl)
theorem dX6_split_37 : decode cX6_split 37 = .ok (.iconst (-1), 1) := dk_2 (dk_at dksX6_split_1 14 rfl rfl)
theorem dX6_split_38 : decode cX6_split 38 = .ok (.istore_n 3, 1) := dk_62 (dk_at dksX6_split_1 15 rfl rfl)
theorem dX6_split_39 : decode cX6_split 39 = .ok (.iconst 0, 1) := dk_3 (dk_at dksX6_split_1 16 rfl rfl)
theorem dX6_split_40 : decode cX6_split 40 = .ok (.istore 4, 2) := dk_54 4 (dk_at dksX6_split_1 17 rfl rfl)
theorem dX6_split_42 : decode cX6_split 42 = .ok (.iconst 0, 1) := dk_3 (dk_at dksX6_split_1 19 rfl rfl)
theorem dX6_split_43 : decode cX6_split 43 = .ok (.istore 5, 2) := dk_54 5 (dk_at dksX6_split_1 20 rfl rfl)
theorem dX6_split_45 : decode cX6_split 45 = .ok (.iload 5, 2) := dk_21 5 (dk_at dksX6_split_1 22 rfl rfl)
theorem dX6_split_47 : decode cX6_split 47 = .ok (.aload_n 0, 1) := dk_42 (dk_at dksX6_split_2 0 rfl rfl)
theorem dX6_split_48 : decode cX6_split 48 = .ok (.getfield 23, 3) := dk_180 0 23 (dk_at dksX6_split_2 1 rfl rfl)
theorem dX6_split_51 : decode cX6_split 51 = .ok (.iconst 0, 1) := dk_3 (dk_at dksX6_split_2 4 rfl rfl)
theorem dX6_split_52 : decode cX6_split 52 = .ok (.iaload, 1) := dk_46 (dk_at dksX6_split_2 5 rfl rfl)
theorem dX6_split_53 : decode cX6_split 53 = .ok (.if_icmp .ge 84, 3) := dk_162 0 84 (dk_at dksX6_split_2 6 rfl rfl)
theorem dX6_split_56 : decode cX6_split 56 = .ok (.aload_n 0, 1) := dk_42 (dk_at dksX6_split_2 9 rfl rfl)
theorem dX6_split_57 : decode cX6_split 57 = .ok (.getfield 45, 3) := dk_180 0 45 (dk_at dksX6_split_2 10 rfl rfl)
theorem dX6_split_60 : decode cX6_split 60 = .ok (.iload_n 1, 1) := dk_27 (dk_at dksX6_split_2 13 rfl rfl)
theorem dX6_split_61 : decode cX6_split 61 = .ok (.laload, 1) := dk_47 (dk_at dksX6_split_2 14 rfl rfl)
theorem dX6_split_62 : decode cX6_split 62 = .ok (.iload 5, 2) := dk_21 5 (dk_at dksX6_split_2 15 rfl rfl)
theorem dX6_split_64 : decode cX6_split 64 = .ok (.aload_n 0, 1) := dk_42 (dk_at dksX6_split_2 17 rfl rfl)
theorem dX6_split_65 : decode cX6_split 65 = .ok (.getfield 23, 3) := dk_180 0 23 (dk_at dksX6_split_2 18 rfl rfl)
theorem dX6_split_68 : decode cX6_split 68 = .ok (.iconst 0, 1) := dk_3 (dk_at dksX6_split_2 21 rfl rfl)
theorem dX6_split_69 : decode cX6_split 69 = .ok (.iaload, 1) := dk_46 (dk_at dksX6_split_2 22 rfl rfl)
theorem dX6_split_70 : decode cX6_split 70 = .ok (.invokestatic 219, 3) := dk_184 0 219 (dk_at dksX6_split_3 0 rfl rfl)
theorem dX6_split_73 : decode cX6_split 73 = .ok (.land, 1) := dk_127 (dk_at dksX6_split_3 3 rfl rfl)
theorem dX6_split_74 : decode cX6_split 74 = .ok (.invokestatic 249, 3) := dk_184 0 249 (dk_at dksX6_split_3 4 rfl rfl)
theorem dX6_split_77 : decode cX6_split 77 = .ok (.istore 6, 2) := dk_54 6 (dk_at dksX6_split_3 7 rfl rfl)
theorem dX6_split_79 : decode cX6_split 79 = .ok (.aload_n 0, 1) := dk_42 (dk_at dksX6_split_3 9 rfl rfl)
theorem dX6_split_80 : decode cX6_split 80 = .ok (.getfield 45, 3) := dk_180 0 45 (dk_at dksX6_split_3 10 rfl rfl)
theorem dX6_split_83 : decode cX6_split 83 = .ok (.iload_n 1, 1) := dk_27 (dk_at dksX6_split_3 13 rfl rfl)
theorem dX6_split_84 : decode cX6_split 84 = .ok (.laload, 1) := dk_47 (dk_at dksX6_split_3 14 rfl rfl)
theorem dX6_split_85 : decode cX6_split 85 = .ok (.invokestatic 249, 3) := dk_184 0 249 (dk_at dksX6_split_3 15 rfl rfl)
theorem dX6_split_88 : decode cX6_split 88 = .ok (.iload 6, 2) := dk_21 6 (dk_at dksX6_split_3 18 rfl rfl)
theorem dX6_split_90 : decode cX6_split 90 = .ok (.isub, 1) := dk_100 (dk_at dksX6_split_3 20 rfl rfl)
theorem dX6_split_91 : decode cX6_split 91 = .ok (.istore 7, 2) := dk_54 7 (dk_at dksX6_split_3 21 rfl rfl)
theorem dX6_split_93 : decode cX6_split 93 = .ok (.iload 6, 2) := dk_21 6 (dk_at dksX6_split_4 0 rfl rfl)
theorem dX6_split_95 : decode cX6_split 95 = .ok (.iload 7, 2) := dk_21 7 (dk_at dksX6_split_4 2 rfl rfl)
theorem dX6_split_97 : decode cX6_split 97 = .ok (.if_icmp .le 8, 3) := dk_164 0 8 (dk_at dksX6_split_4 4 rfl rfl)
theorem dX6_split_100 : decode cX6_split 100 = .ok (.iload 6, 2) := dk_21 6 (dk_at dksX6_split_4 7 rfl rfl)
theorem dX6_split_102 : decode cX6_split 102 = .ok (.goto 5, 3) := dk_167 0 5 (dk_at dksX6_split_4 9 rfl rfl)
theorem dX6_split_105 : decode cX6_split 105 = .ok (.iload 7, 2) := dk_21 7 (dk_at dksX6_split_4 12 rfl rfl)
theorem dX6_split_107 : decode cX6_split 107 = .ok (.istore 8, 2) := dk_54 8 (dk_at dksX6_split_4 14 rfl rfl)
theorem dX6_split_109 : decode cX6_split 109 = .ok (.iload_n 3, 1) := dk_29 (dk_at dksX6_split_4 16 rfl rfl)
theorem dX6_split_110 : decode cX6_split 110 = .ok (.iconst (-1), 1) := dk_2 (dk_at dksX6_split_4 17 rfl rfl)
theorem dX6_split_111 : decode cX6_split 111 = .ok (.if_icmp .eq 13, 3) := dk_159 0 13 (dk_at dksX6_split_4 18 rfl rfl)
theorem dX6_split_114 : decode cX6_split 114 = .ok (.iload 8, 2) := dk_21 8 (dk_at dksX6_split_4 21 rfl rfl)
theorem dX6_split_116 : decode cX6_split 116 = .ok (.iload 4, 2) := dk_21 4 (dk_at dksX6_split_5 0 rfl rfl)
theorem dX6_split_118 : decode cX6_split 118 = .ok (.if_icmp .lt 6, 3) := dk_161 0 6 (dk_at dksX6_split_5 2 rfl rfl)
theorem dX6_split_121 : decode cX6_split 121 = .ok (.goto 10, 3) := dk_167 0 10 (dk_at dksX6_split_5 5 rfl rfl)
theorem dX6_split_124 : decode cX6_split 124 = .ok (.iload 5, 2) := dk_21 5 (dk_at dksX6_split_5 8 rfl rfl)
theorem dX6_split_126 : decode cX6_split 126 = .ok (.istore_n 3, 1) := dk_62 (dk_at dksX6_split_5 10 rfl rfl)
theorem dX6_split_127 : decode cX6_split 127 = .ok (.iload 8, 2) := dk_21 8 (dk_at dksX6_split_5 11 rfl rfl)
theorem dX6_split_129 : decode cX6_split 129 = .ok (.istore 4, 2) := dk_54 4 (dk_at dksX6_split_5 13 rfl rfl)
theorem dX6_split_131 : decode cX6_split 131 = .ok (.iinc 5 1, 3) := dk_132 5 1 (dk_at dksX6_split_5 15 rfl rfl)
theorem dX6_split_134 : decode cX6_split 134 = .ok (.goto (-89), 3) := dk_167 255 167 (dk_at dksX6_split_5 18 rfl rfl)
theorem dX6_split_137 : decode cX6_split 137 = .ok (.iload_n 2, 1) := dk_28 (dk_at dksX6_split_5 21 rfl rfl)
theorem dX6_split_138 : decode cX6_split 138 = .ok (.ifCond .ne 7, 3) := dk_154 0 7 (dk_at dksX6_split_6 0 rfl rfl)
theorem dX6_split_141 : decode cX6_split 141 = .ok (.iload_n 3, 1) := dk_29 (dk_at dksX6_split_6 3 rfl rfl)
theorem dX6_split_142 : decode cX6_split 142 = .ok (.goto 5, 3) := dk_167 0 5 (dk_at dksX6_split_6 4 rfl rfl)
theorem dX6_split_145 : decode cX6_split 145 = .ok (.iload 4, 2) := dk_21 4 (dk_at dksX6_split_6 7 rfl rfl)
theorem dX6_split_147 : decode cX6_split 147 = .ok (.ireturn, 1) := dk_172 (dk_at dksX6_split_6 9 rfl rfl)
abbrev cX6_likely : ByteArray := prog_19_method_112_code
def yX6_likely : MethodName := ⟨RX6, "likely", "(I)I"⟩
def dkwX6_likely_5 : List UInt8 := [167, 0, 9, 21, 4, 61, 21, 5, 62, 132, 4, 1, 167, 255, 165, 28, 172]
abbrev dktX6_likely_5 : List UInt8 := dkwX6_likely_5 ++ []
def dkwX6_likely_4 : List UInt8 := [47, 21, 4, 123, 10, 127, 136, 96, 54, 5, 132, 6, 1, 167, 255, 224, 21, 5, 29, 163, 0, 6]
abbrev dktX6_likely_4 : List UInt8 := dkwX6_likely_4 ++ dktX6_likely_5
def dkwX6_likely_3 : List UInt8 := [54, 5, 3, 54, 6, 21, 6, 42, 180, 0, 23, 4, 46, 162, 0, 27, 21, 5, 42, 180, 0, 36, 21, 6]
abbrev dktX6_likely_3 : List UInt8 := dkwX6_likely_3 ++ dktX6_likely_4
def dkwX6_likely_2 : List UInt8 := [162, 0, 84, 42, 180, 0, 45, 27, 47, 21, 4, 123, 10, 127, 9, 148, 154, 0, 6, 167, 0, 59, 3]
abbrev dktX6_likely_2 : List UInt8 := dkwX6_likely_2 ++ dktX6_likely_3
def dkwX6_likely_1 : List UInt8 := [153, 0, 5, 3, 172, 2, 61, 2, 62, 3, 54, 4, 21, 4, 4, 42, 180, 0, 23, 3, 46, 120]
abbrev dktX6_likely_1 : List UInt8 := dkwX6_likely_1 ++ dktX6_likely_2
def dkwX6_likely_0 : List UInt8 := [42, 3, 181, 0, 132, 42, 27, 184, 1, 50, 154, 0, 7, 4, 167, 0, 4, 3, 4, 4, 182, 0, 233]
abbrev dktX6_likely_0 : List UInt8 := dkwX6_likely_0 ++ dktX6_likely_1
theorem dksX6_likely_0 : cX6_likely.data.toList.drop 0 = dktX6_likely_0 := by decide +kernel
theorem dksX6_likely_1 : cX6_likely.data.toList.drop 23 = dktX6_likely_1 := dk_seg dksX6_likely_0 23 rfl rfl
theorem dksX6_likely_2 : cX6_likely.data.toList.drop 45 = dktX6_likely_2 := dk_seg dksX6_likely_1 22 rfl rfl
theorem dksX6_likely_3 : cX6_likely.data.toList.drop 68 = dktX6_likely_3 := dk_seg dksX6_likely_2 23 rfl rfl
theorem dksX6_likely_4 : cX6_likely.data.toList.drop 92 = dktX6_likely_4 := dk_seg dksX6_likely_3 24 rfl rfl
theorem dksX6_likely_5 : cX6_likely.data.toList.drop 114 = dktX6_likely_5 := dk_seg dksX6_likely_4 22 rfl rfl
theorem dX6_likely_0 : decode cX6_likely 0 = .ok (.aload_n 0, 1) := dk_42 (dk_at dksX6_likely_0 0 rfl rfl)
theorem dX6_likely_1 : decode cX6_likely 1 = .ok (.iconst 0, 1) := dk_3 (dk_at dksX6_likely_0 1 rfl rfl)
theorem dX6_likely_2 : decode cX6_likely 2 = .ok (.putfield 132, 3) := dk_181 0 132 (dk_at dksX6_likely_0 2 rfl rfl)
theorem dX6_likely_5 : decode cX6_likely 5 = .ok (.aload_n 0, 1) := dk_42 (dk_at dksX6_likely_0 5 rfl rfl)
theorem dX6_likely_6 : decode cX6_likely 6 = .ok (.iload_n 1, 1) := dk_27 (dk_at dksX6_likely_0 6 rfl rfl)
theorem dX6_likely_7 : decode cX6_likely 7 = .ok (.invokestatic 306, 3) := dk_184 1 50 (dk_at dksX6_likely_0 7 rfl rfl)
theorem dX6_likely_10 : decode cX6_likely 10 = .ok (.ifCond .ne 7, 3) := dk_154 0 7 (dk_at dksX6_likely_0 10 rfl rfl)
theorem dX6_likely_13 : decode cX6_likely 13 = .ok (.iconst 1, 1) := dk_4 (dk_at dksX6_likely_0 13 rfl rfl)
theorem dX6_likely_14 : decode cX6_likely 14 = .ok (.goto 4, 3) := dk_167 0 4 (dk_at dksX6_likely_0 14 rfl rfl)
theorem dX6_likely_17 : decode cX6_likely 17 = .ok (.iconst 0, 1) := dk_3 (dk_at dksX6_likely_0 17 rfl rfl)
theorem dX6_likely_18 : decode cX6_likely 18 = .ok (.iconst 1, 1) := dk_4 (dk_at dksX6_likely_0 18 rfl rfl)
theorem dX6_likely_19 : decode cX6_likely 19 = .ok (.iconst 1, 1) := dk_4 (dk_at dksX6_likely_0 19 rfl rfl)
theorem dX6_likely_20 : decode cX6_likely 20 = .ok (.invokevirtual 233, 3) := dk_182 0 233 (dk_at dksX6_likely_0 20 rfl rfl)
theorem dX6_likely_23 : decode cX6_likely 23 = .ok (.ifCond .eq 5, 3) := dk_153 0 5 (dk_at dksX6_likely_1 0 rfl rfl)
theorem dX6_likely_26 : decode cX6_likely 26 = .ok (.iconst 0, 1) := dk_3 (dk_at dksX6_likely_1 3 rfl rfl)
theorem dX6_likely_27 : decode cX6_likely 27 = .ok (.ireturn, 1) := dk_172 (dk_at dksX6_likely_1 4 rfl rfl)
theorem dX6_likely_28 : decode cX6_likely 28 = .ok (.iconst (-1), 1) := dk_2 (dk_at dksX6_likely_1 5 rfl rfl)
theorem dX6_likely_29 : decode cX6_likely 29 = .ok (.istore_n 2, 1) := dk_61 (dk_at dksX6_likely_1 6 rfl rfl)
theorem dX6_likely_30 : decode cX6_likely 30 = .ok (.iconst (-1), 1) := dk_2 (dk_at dksX6_likely_1 7 rfl rfl)
theorem dX6_likely_31 : decode cX6_likely 31 = .ok (.istore_n 3, 1) := dk_62 (dk_at dksX6_likely_1 8 rfl rfl)
theorem dX6_likely_32 : decode cX6_likely 32 = .ok (.iconst 0, 1) := dk_3 (dk_at dksX6_likely_1 9 rfl rfl)
theorem dX6_likely_33 : decode cX6_likely 33 = .ok (.istore 4, 2) := dk_54 4 (dk_at dksX6_likely_1 10 rfl rfl)
theorem dX6_likely_35 : decode cX6_likely 35 = .ok (.iload 4, 2) := dk_21 4 (dk_at dksX6_likely_1 12 rfl rfl)
theorem dX6_likely_37 : decode cX6_likely 37 = .ok (.iconst 1, 1) := dk_4 (dk_at dksX6_likely_1 14 rfl rfl)
theorem dX6_likely_38 : decode cX6_likely 38 = .ok (.aload_n 0, 1) := dk_42 (dk_at dksX6_likely_1 15 rfl rfl)
theorem dX6_likely_39 : decode cX6_likely 39 = .ok (.getfield 23, 3) := dk_180 0 23 (dk_at dksX6_likely_1 16 rfl rfl)
theorem dX6_likely_42 : decode cX6_likely 42 = .ok (.iconst 0, 1) := dk_3 (dk_at dksX6_likely_1 19 rfl rfl)
theorem dX6_likely_43 : decode cX6_likely 43 = .ok (.iaload, 1) := dk_46 (dk_at dksX6_likely_1 20 rfl rfl)
theorem dX6_likely_44 : decode cX6_likely 44 = .ok (.ishl, 1) := dk_120 (dk_at dksX6_likely_1 21 rfl rfl)
theorem dX6_likely_45 : decode cX6_likely 45 = .ok (.if_icmp .ge 84, 3) := dk_162 0 84 (dk_at dksX6_likely_2 0 rfl rfl)
theorem dX6_likely_48 : decode cX6_likely 48 = .ok (.aload_n 0, 1) := dk_42 (dk_at dksX6_likely_2 3 rfl rfl)
theorem dX6_likely_49 : decode cX6_likely 49 = .ok (.getfield 45, 3) := dk_180 0 45 (dk_at dksX6_likely_2 4 rfl rfl)
theorem dX6_likely_52 : decode cX6_likely 52 = .ok (.iload_n 1, 1) := dk_27 (dk_at dksX6_likely_2 7 rfl rfl)
theorem dX6_likely_53 : decode cX6_likely 53 = .ok (.laload, 1) := dk_47 (dk_at dksX6_likely_2 8 rfl rfl)
theorem dX6_likely_54 : decode cX6_likely 54 = .ok (.iload 4, 2) := dk_21 4 (dk_at dksX6_likely_2 9 rfl rfl)
theorem dX6_likely_56 : decode cX6_likely 56 = .ok (.lshr, 1) := dk_123 (dk_at dksX6_likely_2 11 rfl rfl)
theorem dX6_likely_57 : decode cX6_likely 57 = .ok (.lconst 1, 1) := dk_10 (dk_at dksX6_likely_2 12 rfl rfl)
theorem dX6_likely_58 : decode cX6_likely 58 = .ok (.land, 1) := dk_127 (dk_at dksX6_likely_2 13 rfl rfl)
theorem dX6_likely_59 : decode cX6_likely 59 = .ok (.lconst 0, 1) := dk_9 (dk_at dksX6_likely_2 14 rfl rfl)
theorem dX6_likely_60 : decode cX6_likely 60 = .ok (.lcmp, 1) := dk_148 (dk_at dksX6_likely_2 15 rfl rfl)
theorem dX6_likely_61 : decode cX6_likely 61 = .ok (.ifCond .ne 6, 3) := dk_154 0 6 (dk_at dksX6_likely_2 16 rfl rfl)
theorem dX6_likely_64 : decode cX6_likely 64 = .ok (.goto 59, 3) := dk_167 0 59 (dk_at dksX6_likely_2 19 rfl rfl)
theorem dX6_likely_67 : decode cX6_likely 67 = .ok (.iconst 0, 1) := dk_3 (dk_at dksX6_likely_2 22 rfl rfl)
theorem dX6_likely_68 : decode cX6_likely 68 = .ok (.istore 5, 2) := dk_54 5 (dk_at dksX6_likely_3 0 rfl rfl)
theorem dX6_likely_70 : decode cX6_likely 70 = .ok (.iconst 0, 1) := dk_3 (dk_at dksX6_likely_3 2 rfl rfl)
theorem dX6_likely_71 : decode cX6_likely 71 = .ok (.istore 6, 2) := dk_54 6 (dk_at dksX6_likely_3 3 rfl rfl)
theorem dX6_likely_73 : decode cX6_likely 73 = .ok (.iload 6, 2) := dk_21 6 (dk_at dksX6_likely_3 5 rfl rfl)
theorem dX6_likely_75 : decode cX6_likely 75 = .ok (.aload_n 0, 1) := dk_42 (dk_at dksX6_likely_3 7 rfl rfl)
theorem dX6_likely_76 : decode cX6_likely 76 = .ok (.getfield 23, 3) := dk_180 0 23 (dk_at dksX6_likely_3 8 rfl rfl)
theorem dX6_likely_79 : decode cX6_likely 79 = .ok (.iconst 1, 1) := dk_4 (dk_at dksX6_likely_3 11 rfl rfl)
theorem dX6_likely_80 : decode cX6_likely 80 = .ok (.iaload, 1) := dk_46 (dk_at dksX6_likely_3 12 rfl rfl)
theorem dX6_likely_81 : decode cX6_likely 81 = .ok (.if_icmp .ge 27, 3) := dk_162 0 27 (dk_at dksX6_likely_3 13 rfl rfl)
theorem dX6_likely_84 : decode cX6_likely 84 = .ok (.iload 5, 2) := dk_21 5 (dk_at dksX6_likely_3 16 rfl rfl)
theorem dX6_likely_86 : decode cX6_likely 86 = .ok (.aload_n 0, 1) := dk_42 (dk_at dksX6_likely_3 18 rfl rfl)
theorem dX6_likely_87 : decode cX6_likely 87 = .ok (.getfield 36, 3) := dk_180 0 36 (dk_at dksX6_likely_3 19 rfl rfl)
theorem dX6_likely_90 : decode cX6_likely 90 = .ok (.iload 6, 2) := dk_21 6 (dk_at dksX6_likely_3 22 rfl rfl)
theorem dX6_likely_92 : decode cX6_likely 92 = .ok (.laload, 1) := dk_47 (dk_at dksX6_likely_4 0 rfl rfl)
theorem dX6_likely_93 : decode cX6_likely 93 = .ok (.iload 4, 2) := dk_21 4 (dk_at dksX6_likely_4 1 rfl rfl)
theorem dX6_likely_95 : decode cX6_likely 95 = .ok (.lshr, 1) := dk_123 (dk_at dksX6_likely_4 3 rfl rfl)
theorem dX6_likely_96 : decode cX6_likely 96 = .ok (.lconst 1, 1) := dk_10 (dk_at dksX6_likely_4 4 rfl rfl)
theorem dX6_likely_97 : decode cX6_likely 97 = .ok (.land, 1) := dk_127 (dk_at dksX6_likely_4 5 rfl rfl)
theorem dX6_likely_98 : decode cX6_likely 98 = .ok (.l2i, 1) := dk_136 (dk_at dksX6_likely_4 6 rfl rfl)
theorem dX6_likely_99 : decode cX6_likely 99 = .ok (.iadd, 1) := dk_96 (dk_at dksX6_likely_4 7 rfl rfl)
theorem dX6_likely_100 : decode cX6_likely 100 = .ok (.istore 5, 2) := dk_54 5 (dk_at dksX6_likely_4 8 rfl rfl)
theorem dX6_likely_102 : decode cX6_likely 102 = .ok (.iinc 6 1, 3) := dk_132 6 1 (dk_at dksX6_likely_4 10 rfl rfl)
theorem dX6_likely_105 : decode cX6_likely 105 = .ok (.goto (-32), 3) := dk_167 255 224 (dk_at dksX6_likely_4 13 rfl rfl)
theorem dX6_likely_108 : decode cX6_likely 108 = .ok (.iload 5, 2) := dk_21 5 (dk_at dksX6_likely_4 16 rfl rfl)
theorem dX6_likely_110 : decode cX6_likely 110 = .ok (.iload_n 3, 1) := dk_29 (dk_at dksX6_likely_4 18 rfl rfl)
theorem dX6_likely_111 : decode cX6_likely 111 = .ok (.if_icmp .gt 6, 3) := dk_163 0 6 (dk_at dksX6_likely_4 19 rfl rfl)
theorem dX6_likely_114 : decode cX6_likely 114 = .ok (.goto 9, 3) := dk_167 0 9 (dk_at dksX6_likely_5 0 rfl rfl)
theorem dX6_likely_117 : decode cX6_likely 117 = .ok (.iload 4, 2) := dk_21 4 (dk_at dksX6_likely_5 3 rfl rfl)
theorem dX6_likely_119 : decode cX6_likely 119 = .ok (.istore_n 2, 1) := dk_61 (dk_at dksX6_likely_5 5 rfl rfl)
theorem dX6_likely_120 : decode cX6_likely 120 = .ok (.iload 5, 2) := dk_21 5 (dk_at dksX6_likely_5 6 rfl rfl)
theorem dX6_likely_122 : decode cX6_likely 122 = .ok (.istore_n 3, 1) := dk_62 (dk_at dksX6_likely_5 8 rfl rfl)
theorem dX6_likely_123 : decode cX6_likely 123 = .ok (.iinc 4 1, 3) := dk_132 4 1 (dk_at dksX6_likely_5 9 rfl rfl)
theorem dX6_likely_126 : decode cX6_likely 126 = .ok (.goto (-91), 3) := dk_167 255 165 (dk_at dksX6_likely_5 12 rfl rfl)
theorem dX6_likely_129 : decode cX6_likely 129 = .ok (.iload_n 2, 1) := dk_28 (dk_at dksX6_likely_5 15 rfl rfl)
theorem dX6_likely_130 : decode cX6_likely 130 = .ok (.ireturn, 1) := dk_172 (dk_at dksX6_likely_5 16 rfl rfl)
abbrev cX6_known : ByteArray := prog_19_method_113_code
def yX6_known : MethodName := ⟨RX6, "known", "(II)I"⟩
def dkwX6_known_4 : List UInt8 := [9, 148, 154, 0, 7, 3, 167, 0, 4, 5, 172]
abbrev dktX6_known_4 : List UInt8 := dkwX6_known_4 ++ []
def dkwX6_known_3 : List UInt8 := [148, 154, 0, 7, 2, 167, 0, 29, 33, 42, 180, 0, 45, 28, 47, 148, 154, 0, 7, 4, 167, 0, 14, 33]
abbrev dktX6_known_3 : List UInt8 := dkwX6_known_3 ++ dktX6_known_4
def dkwX6_known_2 : List UInt8 := [180, 0, 45, 28, 47, 27, 42, 180, 0, 23, 3, 46, 184, 0, 219, 127, 66, 42, 180, 0, 45, 28, 47, 9]
abbrev dktX6_known_2 : List UInt8 := dkwX6_known_2 ++ dktX6_known_3
def dkwX6_known_1 : List UInt8 := [184, 1, 50, 154, 0, 7, 4, 167, 0, 4, 3, 4, 4, 182, 0, 233, 153, 0, 5, 3, 172, 42]
abbrev dktX6_known_1 : List UInt8 := dkwX6_known_1 ++ dktX6_known_2
def dkwX6_known_0 : List UInt8 := [42, 3, 181, 0, 132, 42, 27, 3, 42, 180, 0, 23, 3, 46, 4, 100, 184, 0, 166, 153, 0, 10, 28]
abbrev dktX6_known_0 : List UInt8 := dkwX6_known_0 ++ dktX6_known_1
theorem dksX6_known_0 : cX6_known.data.toList.drop 0 = dktX6_known_0 := by decide +kernel
theorem dksX6_known_1 : cX6_known.data.toList.drop 23 = dktX6_known_1 := dk_seg dksX6_known_0 23 rfl rfl
theorem dksX6_known_2 : cX6_known.data.toList.drop 45 = dktX6_known_2 := dk_seg dksX6_known_1 22 rfl rfl
theorem dksX6_known_3 : cX6_known.data.toList.drop 69 = dktX6_known_3 := dk_seg dksX6_known_2 24 rfl rfl
theorem dksX6_known_4 : cX6_known.data.toList.drop 93 = dktX6_known_4 := dk_seg dksX6_known_3 24 rfl rfl
theorem dX6_known_0 : decode cX6_known 0 = .ok (.aload_n 0, 1) := dk_42 (dk_at dksX6_known_0 0 rfl rfl)
theorem dX6_known_1 : decode cX6_known 1 = .ok (.iconst 0, 1) := dk_3 (dk_at dksX6_known_0 1 rfl rfl)
theorem dX6_known_2 : decode cX6_known 2 = .ok (.putfield 132, 3) := dk_181 0 132 (dk_at dksX6_known_0 2 rfl rfl)
theorem dX6_known_5 : decode cX6_known 5 = .ok (.aload_n 0, 1) := dk_42 (dk_at dksX6_known_0 5 rfl rfl)
theorem dX6_known_6 : decode cX6_known 6 = .ok (.iload_n 1, 1) := dk_27 (dk_at dksX6_known_0 6 rfl rfl)
theorem dX6_known_7 : decode cX6_known 7 = .ok (.iconst 0, 1) := dk_3 (dk_at dksX6_known_0 7 rfl rfl)
theorem dX6_known_8 : decode cX6_known 8 = .ok (.aload_n 0, 1) := dk_42 (dk_at dksX6_known_0 8 rfl rfl)
theorem dX6_known_9 : decode cX6_known 9 = .ok (.getfield 23, 3) := dk_180 0 23 (dk_at dksX6_known_0 9 rfl rfl)
theorem dX6_known_12 : decode cX6_known 12 = .ok (.iconst 0, 1) := dk_3 (dk_at dksX6_known_0 12 rfl rfl)
theorem dX6_known_13 : decode cX6_known 13 = .ok (.iaload, 1) := dk_46 (dk_at dksX6_known_0 13 rfl rfl)
theorem dX6_known_14 : decode cX6_known 14 = .ok (.iconst 1, 1) := dk_4 (dk_at dksX6_known_0 14 rfl rfl)
theorem dX6_known_15 : decode cX6_known 15 = .ok (.isub, 1) := dk_100 (dk_at dksX6_known_0 15 rfl rfl)
theorem dX6_known_16 : decode cX6_known 16 = .ok (.invokestatic 166, 3) := dk_184 0 166 (dk_at dksX6_known_0 16 rfl rfl)
theorem dX6_known_19 : decode cX6_known 19 = .ok (.ifCond .eq 10, 3) := dk_153 0 10 (dk_at dksX6_known_0 19 rfl rfl)
theorem dX6_known_22 : decode cX6_known 22 = .ok (.iload_n 2, 1) := dk_28 (dk_at dksX6_known_0 22 rfl rfl)
theorem dX6_known_23 : decode cX6_known 23 = .ok (.invokestatic 306, 3) := dk_184 1 50 (dk_at dksX6_known_1 0 rfl rfl)
theorem dX6_known_26 : decode cX6_known 26 = .ok (.ifCond .ne 7, 3) := dk_154 0 7 (dk_at dksX6_known_1 3 rfl rfl)
theorem dX6_known_29 : decode cX6_known 29 = .ok (.iconst 1, 1) := dk_4 (dk_at dksX6_known_1 6 rfl rfl)
theorem dX6_known_30 : decode cX6_known 30 = .ok (.goto 4, 3) := dk_167 0 4 (dk_at dksX6_known_1 7 rfl rfl)
theorem dX6_known_33 : decode cX6_known 33 = .ok (.iconst 0, 1) := dk_3 (dk_at dksX6_known_1 10 rfl rfl)
theorem dX6_known_34 : decode cX6_known 34 = .ok (.iconst 1, 1) := dk_4 (dk_at dksX6_known_1 11 rfl rfl)
theorem dX6_known_35 : decode cX6_known 35 = .ok (.iconst 1, 1) := dk_4 (dk_at dksX6_known_1 12 rfl rfl)
theorem dX6_known_36 : decode cX6_known 36 = .ok (.invokevirtual 233, 3) := dk_182 0 233 (dk_at dksX6_known_1 13 rfl rfl)
theorem dX6_known_39 : decode cX6_known 39 = .ok (.ifCond .eq 5, 3) := dk_153 0 5 (dk_at dksX6_known_1 16 rfl rfl)
theorem dX6_known_42 : decode cX6_known 42 = .ok (.iconst 0, 1) := dk_3 (dk_at dksX6_known_1 19 rfl rfl)
theorem dX6_known_43 : decode cX6_known 43 = .ok (.ireturn, 1) := dk_172 (dk_at dksX6_known_1 20 rfl rfl)
theorem dX6_known_44 : decode cX6_known 44 = .ok (.aload_n 0, 1) := dk_42 (dk_at dksX6_known_1 21 rfl rfl)
theorem dX6_known_45 : decode cX6_known 45 = .ok (.getfield 45, 3) := dk_180 0 45 (dk_at dksX6_known_2 0 rfl rfl)
theorem dX6_known_48 : decode cX6_known 48 = .ok (.iload_n 2, 1) := dk_28 (dk_at dksX6_known_2 3 rfl rfl)
theorem dX6_known_49 : decode cX6_known 49 = .ok (.laload, 1) := dk_47 (dk_at dksX6_known_2 4 rfl rfl)
theorem dX6_known_50 : decode cX6_known 50 = .ok (.iload_n 1, 1) := dk_27 (dk_at dksX6_known_2 5 rfl rfl)
theorem dX6_known_51 : decode cX6_known 51 = .ok (.aload_n 0, 1) := dk_42 (dk_at dksX6_known_2 6 rfl rfl)
theorem dX6_known_52 : decode cX6_known 52 = .ok (.getfield 23, 3) := dk_180 0 23 (dk_at dksX6_known_2 7 rfl rfl)
theorem dX6_known_55 : decode cX6_known 55 = .ok (.iconst 0, 1) := dk_3 (dk_at dksX6_known_2 10 rfl rfl)
theorem dX6_known_56 : decode cX6_known 56 = .ok (.iaload, 1) := dk_46 (dk_at dksX6_known_2 11 rfl rfl)
theorem dX6_known_57 : decode cX6_known 57 = .ok (.invokestatic 219, 3) := dk_184 0 219 (dk_at dksX6_known_2 12 rfl rfl)
theorem dX6_known_60 : decode cX6_known 60 = .ok (.land, 1) := dk_127 (dk_at dksX6_known_2 15 rfl rfl)
theorem dX6_known_61 : decode cX6_known 61 = .ok (.lstore_n 3, 1) := dk_66 (dk_at dksX6_known_2 16 rfl rfl)
theorem dX6_known_62 : decode cX6_known 62 = .ok (.aload_n 0, 1) := dk_42 (dk_at dksX6_known_2 17 rfl rfl)
theorem dX6_known_63 : decode cX6_known 63 = .ok (.getfield 45, 3) := dk_180 0 45 (dk_at dksX6_known_2 18 rfl rfl)
theorem dX6_known_66 : decode cX6_known 66 = .ok (.iload_n 2, 1) := dk_28 (dk_at dksX6_known_2 21 rfl rfl)
theorem dX6_known_67 : decode cX6_known 67 = .ok (.laload, 1) := dk_47 (dk_at dksX6_known_2 22 rfl rfl)
theorem dX6_known_68 : decode cX6_known 68 = .ok (.lconst 0, 1) := dk_9 (dk_at dksX6_known_2 23 rfl rfl)
theorem dX6_known_69 : decode cX6_known 69 = .ok (.lcmp, 1) := dk_148 (dk_at dksX6_known_3 0 rfl rfl)
theorem dX6_known_70 : decode cX6_known 70 = .ok (.ifCond .ne 7, 3) := dk_154 0 7 (dk_at dksX6_known_3 1 rfl rfl)
theorem dX6_known_73 : decode cX6_known 73 = .ok (.iconst (-1), 1) := dk_2 (dk_at dksX6_known_3 4 rfl rfl)
theorem dX6_known_74 : decode cX6_known 74 = .ok (.goto 29, 3) := dk_167 0 29 (dk_at dksX6_known_3 5 rfl rfl)
theorem dX6_known_77 : decode cX6_known 77 = .ok (.lload_n 3, 1) := dk_33 (dk_at dksX6_known_3 8 rfl rfl)
theorem dX6_known_78 : decode cX6_known 78 = .ok (.aload_n 0, 1) := dk_42 (dk_at dksX6_known_3 9 rfl rfl)
theorem dX6_known_79 : decode cX6_known 79 = .ok (.getfield 45, 3) := dk_180 0 45 (dk_at dksX6_known_3 10 rfl rfl)
theorem dX6_known_82 : decode cX6_known 82 = .ok (.iload_n 2, 1) := dk_28 (dk_at dksX6_known_3 13 rfl rfl)
theorem dX6_known_83 : decode cX6_known 83 = .ok (.laload, 1) := dk_47 (dk_at dksX6_known_3 14 rfl rfl)
theorem dX6_known_84 : decode cX6_known 84 = .ok (.lcmp, 1) := dk_148 (dk_at dksX6_known_3 15 rfl rfl)
theorem dX6_known_85 : decode cX6_known 85 = .ok (.ifCond .ne 7, 3) := dk_154 0 7 (dk_at dksX6_known_3 16 rfl rfl)
theorem dX6_known_88 : decode cX6_known 88 = .ok (.iconst 1, 1) := dk_4 (dk_at dksX6_known_3 19 rfl rfl)
theorem dX6_known_89 : decode cX6_known 89 = .ok (.goto 14, 3) := dk_167 0 14 (dk_at dksX6_known_3 20 rfl rfl)
theorem dX6_known_92 : decode cX6_known 92 = .ok (.lload_n 3, 1) := dk_33 (dk_at dksX6_known_3 23 rfl rfl)
theorem dX6_known_93 : decode cX6_known 93 = .ok (.lconst 0, 1) := dk_9 (dk_at dksX6_known_4 0 rfl rfl)
theorem dX6_known_94 : decode cX6_known 94 = .ok (.lcmp, 1) := dk_148 (dk_at dksX6_known_4 1 rfl rfl)
theorem dX6_known_95 : decode cX6_known 95 = .ok (.ifCond .ne 7, 3) := dk_154 0 7 (dk_at dksX6_known_4 2 rfl rfl)
theorem dX6_known_98 : decode cX6_known 98 = .ok (.iconst 0, 1) := dk_3 (dk_at dksX6_known_4 5 rfl rfl)
theorem dX6_known_99 : decode cX6_known 99 = .ok (.goto 4, 3) := dk_167 0 4 (dk_at dksX6_known_4 6 rfl rfl)
theorem dX6_known_102 : decode cX6_known 102 = .ok (.iconst 2, 1) := dk_5 (dk_at dksX6_known_4 9 rfl rfl)
theorem dX6_known_103 : decode cX6_known 103 = .ok (.ireturn, 1) := dk_172 (dk_at dksX6_known_4 10 rfl rfl)
abbrev cX6_asks : ByteArray := prog_19_method_114_code
def yX6_asks : MethodName := ⟨RX6, "asks", "(I)I"⟩
def dkwX6_asks_8 : List UInt8 := [184, 0, 249, 162, 0, 7, 21, 5, 54, 4, 132, 5, 1, 167, 255, 126, 21, 4, 172]
abbrev dktX6_asks_8 : List UInt8 := dkwX6_asks_8 ++ []
def dkwX6_asks_7 : List UInt8 := [132, 8, 1, 167, 255, 182, 22, 6, 32, 148, 154, 0, 22, 21, 5, 133, 184, 0, 249, 21, 4, 133]
abbrev dktX6_asks_7 : List UInt8 := dkwX6_asks_7 ++ dktX6_asks_8
def dkwX6_asks_6 : List UInt8 := [184, 0, 219, 167, 0, 18, 21, 8, 42, 180, 0, 23, 3, 46, 184, 0, 219, 20, 0, 48, 131, 127, 55, 6]
abbrev dktX6_asks_6 : List UInt8 := dkwX6_asks_6 ++ dktX6_asks_7
def dkwX6_asks_5 : List UInt8 := [180, 0, 23, 7, 46, 21, 8, 122, 4, 126, 4, 160, 0, 17, 21, 8, 42, 180, 0, 23, 3, 46]
abbrev dktX6_asks_5 : List UInt8 := dkwX6_asks_5 ++ dktX6_asks_6
def dkwX6_asks_4 : List UInt8 := [180, 0, 23, 3, 46, 162, 0, 69, 21, 5, 21, 8, 122, 4, 126, 4, 160, 0, 52, 22, 6, 42]
abbrev dktX6_asks_4 : List UInt8 := dkwX6_asks_4 ++ dktX6_asks_5
def dkwX6_asks_3 : List UInt8 := [180, 0, 23, 3, 46, 120, 162, 0, 123, 42, 180, 0, 45, 27, 47, 55, 6, 3, 54, 8, 21, 8, 42]
abbrev dktX6_asks_3 : List UInt8 := dkwX6_asks_3 ++ dktX6_asks_4
def dkwX6_asks_2 : List UInt8 := [154, 0, 5, 2, 172, 4, 42, 180, 0, 23, 3, 46, 120, 4, 100, 54, 4, 3, 54, 5, 21, 5, 4, 42]
abbrev dktX6_asks_2 : List UInt8 := dkwX6_asks_2 ++ dktX6_asks_3
def dkwX6_asks_1 : List UInt8 := [153, 0, 5, 3, 172, 10, 42, 180, 0, 23, 7, 46, 121, 65, 42, 180, 0, 45, 27, 47, 32, 127, 9, 148]
abbrev dktX6_asks_1 : List UInt8 := dkwX6_asks_1 ++ dktX6_asks_2
def dkwX6_asks_0 : List UInt8 := [42, 3, 181, 0, 132, 42, 27, 184, 1, 50, 154, 0, 7, 4, 167, 0, 4, 3, 4, 4, 182, 0, 233]
abbrev dktX6_asks_0 : List UInt8 := dkwX6_asks_0 ++ dktX6_asks_1
theorem dksX6_asks_0 : cX6_asks.data.toList.drop 0 = dktX6_asks_0 := by decide +kernel
theorem dksX6_asks_1 : cX6_asks.data.toList.drop 23 = dktX6_asks_1 := dk_seg dksX6_asks_0 23 rfl rfl
theorem dksX6_asks_2 : cX6_asks.data.toList.drop 47 = dktX6_asks_2 := dk_seg dksX6_asks_1 24 rfl rfl
theorem dksX6_asks_3 : cX6_asks.data.toList.drop 71 = dktX6_asks_3 := dk_seg dksX6_asks_2 24 rfl rfl
theorem dksX6_asks_4 : cX6_asks.data.toList.drop 94 = dktX6_asks_4 := dk_seg dksX6_asks_3 23 rfl rfl
theorem dksX6_asks_5 : cX6_asks.data.toList.drop 116 = dktX6_asks_5 := dk_seg dksX6_asks_4 22 rfl rfl
theorem dksX6_asks_6 : cX6_asks.data.toList.drop 138 = dktX6_asks_6 := dk_seg dksX6_asks_5 22 rfl rfl
theorem dksX6_asks_7 : cX6_asks.data.toList.drop 162 = dktX6_asks_7 := dk_seg dksX6_asks_6 24 rfl rfl
theorem dksX6_asks_8 : cX6_asks.data.toList.drop 184 = dktX6_asks_8 := dk_seg dksX6_asks_7 22 rfl rfl
theorem dX6_asks_0 : decode cX6_asks 0 = .ok (.aload_n 0, 1) := dk_42 (dk_at dksX6_asks_0 0 rfl rfl)
theorem dX6_asks_1 : decode cX6_asks 1 = .ok (.iconst 0, 1) := dk_3 (dk_at dksX6_asks_0 1 rfl rfl)
theorem dX6_asks_2 : decode cX6_asks 2 = .ok (.putfield 132, 3) := dk_181 0 132 (dk_at dksX6_asks_0 2 rfl rfl)
theorem dX6_asks_5 : decode cX6_asks 5 = .ok (.aload_n 0, 1) := dk_42 (dk_at dksX6_asks_0 5 rfl rfl)
theorem dX6_asks_6 : decode cX6_asks 6 = .ok (.iload_n 1, 1) := dk_27 (dk_at dksX6_asks_0 6 rfl rfl)
theorem dX6_asks_7 : decode cX6_asks 7 = .ok (.invokestatic 306, 3) := dk_184 1 50 (dk_at dksX6_asks_0 7 rfl rfl)
theorem dX6_asks_10 : decode cX6_asks 10 = .ok (.ifCond .ne 7, 3) := dk_154 0 7 (dk_at dksX6_asks_0 10 rfl rfl)
theorem dX6_asks_13 : decode cX6_asks 13 = .ok (.iconst 1, 1) := dk_4 (dk_at dksX6_asks_0 13 rfl rfl)
theorem dX6_asks_14 : decode cX6_asks 14 = .ok (.goto 4, 3) := dk_167 0 4 (dk_at dksX6_asks_0 14 rfl rfl)
theorem dX6_asks_17 : decode cX6_asks 17 = .ok (.iconst 0, 1) := dk_3 (dk_at dksX6_asks_0 17 rfl rfl)
theorem dX6_asks_18 : decode cX6_asks 18 = .ok (.iconst 1, 1) := dk_4 (dk_at dksX6_asks_0 18 rfl rfl)
theorem dX6_asks_19 : decode cX6_asks 19 = .ok (.iconst 1, 1) := dk_4 (dk_at dksX6_asks_0 19 rfl rfl)
theorem dX6_asks_20 : decode cX6_asks 20 = .ok (.invokevirtual 233, 3) := dk_182 0 233 (dk_at dksX6_asks_0 20 rfl rfl)
theorem dX6_asks_23 : decode cX6_asks 23 = .ok (.ifCond .eq 5, 3) := dk_153 0 5 (dk_at dksX6_asks_1 0 rfl rfl)
theorem dX6_asks_26 : decode cX6_asks 26 = .ok (.iconst 0, 1) := dk_3 (dk_at dksX6_asks_1 3 rfl rfl)
theorem dX6_asks_27 : decode cX6_asks 27 = .ok (.ireturn, 1) := dk_172 (dk_at dksX6_asks_1 4 rfl rfl)
theorem dX6_asks_28 : decode cX6_asks 28 = .ok (.lconst 1, 1) := dk_10 (dk_at dksX6_asks_1 5 rfl rfl)
theorem dX6_asks_29 : decode cX6_asks 29 = .ok (.aload_n 0, 1) := dk_42 (dk_at dksX6_asks_1 6 rfl rfl)
theorem dX6_asks_30 : decode cX6_asks 30 = .ok (.getfield 23, 3) := dk_180 0 23 (dk_at dksX6_asks_1 7 rfl rfl)
theorem dX6_asks_33 : decode cX6_asks 33 = .ok (.iconst 4, 1) := dk_7 (dk_at dksX6_asks_1 10 rfl rfl)
theorem dX6_asks_34 : decode cX6_asks 34 = .ok (.iaload, 1) := dk_46 (dk_at dksX6_asks_1 11 rfl rfl)
theorem dX6_asks_35 : decode cX6_asks 35 = .ok (.lshl, 1) := dk_121 (dk_at dksX6_asks_1 12 rfl rfl)
theorem dX6_asks_36 : decode cX6_asks 36 = .ok (.lstore_n 2, 1) := dk_65 (dk_at dksX6_asks_1 13 rfl rfl)
theorem dX6_asks_37 : decode cX6_asks 37 = .ok (.aload_n 0, 1) := dk_42 (dk_at dksX6_asks_1 14 rfl rfl)
theorem dX6_asks_38 : decode cX6_asks 38 = .ok (.getfield 45, 3) := dk_180 0 45 (dk_at dksX6_asks_1 15 rfl rfl)
theorem dX6_asks_41 : decode cX6_asks 41 = .ok (.iload_n 1, 1) := dk_27 (dk_at dksX6_asks_1 18 rfl rfl)
theorem dX6_asks_42 : decode cX6_asks 42 = .ok (.laload, 1) := dk_47 (dk_at dksX6_asks_1 19 rfl rfl)
theorem dX6_asks_43 : decode cX6_asks 43 = .ok (.lload_n 2, 1) := dk_32 (dk_at dksX6_asks_1 20 rfl rfl)
theorem dX6_asks_44 : decode cX6_asks 44 = .ok (.land, 1) := dk_127 (dk_at dksX6_asks_1 21 rfl rfl)
theorem dX6_asks_45 : decode cX6_asks 45 = .ok (.lconst 0, 1) := dk_9 (dk_at dksX6_asks_1 22 rfl rfl)
theorem dX6_asks_46 : decode cX6_asks 46 = .ok (.lcmp, 1) := dk_148 (dk_at dksX6_asks_1 23 rfl rfl)
theorem dX6_asks_47 : decode cX6_asks 47 = .ok (.ifCond .ne 5, 3) := dk_154 0 5 (dk_at dksX6_asks_2 0 rfl rfl)
theorem dX6_asks_50 : decode cX6_asks 50 = .ok (.iconst (-1), 1) := dk_2 (dk_at dksX6_asks_2 3 rfl rfl)
theorem dX6_asks_51 : decode cX6_asks 51 = .ok (.ireturn, 1) := dk_172 (dk_at dksX6_asks_2 4 rfl rfl)
theorem dX6_asks_52 : decode cX6_asks 52 = .ok (.iconst 1, 1) := dk_4 (dk_at dksX6_asks_2 5 rfl rfl)
theorem dX6_asks_53 : decode cX6_asks 53 = .ok (.aload_n 0, 1) := dk_42 (dk_at dksX6_asks_2 6 rfl rfl)
theorem dX6_asks_54 : decode cX6_asks 54 = .ok (.getfield 23, 3) := dk_180 0 23 (dk_at dksX6_asks_2 7 rfl rfl)
theorem dX6_asks_57 : decode cX6_asks 57 = .ok (.iconst 0, 1) := dk_3 (dk_at dksX6_asks_2 10 rfl rfl)
theorem dX6_asks_58 : decode cX6_asks 58 = .ok (.iaload, 1) := dk_46 (dk_at dksX6_asks_2 11 rfl rfl)
theorem dX6_asks_59 : decode cX6_asks 59 = .ok (.ishl, 1) := dk_120 (dk_at dksX6_asks_2 12 rfl rfl)
theorem dX6_asks_60 : decode cX6_asks 60 = .ok (.iconst 1, 1) := dk_4 (dk_at dksX6_asks_2 13 rfl rfl)
theorem dX6_asks_61 : decode cX6_asks 61 = .ok (.isub, 1) := dk_100 (dk_at dksX6_asks_2 14 rfl rfl)
theorem dX6_asks_62 : decode cX6_asks 62 = .ok (.istore 4, 2) := dk_54 4 (dk_at dksX6_asks_2 15 rfl rfl)
theorem dX6_asks_64 : decode cX6_asks 64 = .ok (.iconst 0, 1) := dk_3 (dk_at dksX6_asks_2 17 rfl rfl)
theorem dX6_asks_65 : decode cX6_asks 65 = .ok (.istore 5, 2) := dk_54 5 (dk_at dksX6_asks_2 18 rfl rfl)
theorem dX6_asks_67 : decode cX6_asks 67 = .ok (.iload 5, 2) := dk_21 5 (dk_at dksX6_asks_2 20 rfl rfl)
theorem dX6_asks_69 : decode cX6_asks 69 = .ok (.iconst 1, 1) := dk_4 (dk_at dksX6_asks_2 22 rfl rfl)
theorem dX6_asks_70 : decode cX6_asks 70 = .ok (.aload_n 0, 1) := dk_42 (dk_at dksX6_asks_2 23 rfl rfl)
theorem dX6_asks_71 : decode cX6_asks 71 = .ok (.getfield 23, 3) := dk_180 0 23 (dk_at dksX6_asks_3 0 rfl rfl)
theorem dX6_asks_74 : decode cX6_asks 74 = .ok (.iconst 0, 1) := dk_3 (dk_at dksX6_asks_3 3 rfl rfl)
theorem dX6_asks_75 : decode cX6_asks 75 = .ok (.iaload, 1) := dk_46 (dk_at dksX6_asks_3 4 rfl rfl)
theorem dX6_asks_76 : decode cX6_asks 76 = .ok (.ishl, 1) := dk_120 (dk_at dksX6_asks_3 5 rfl rfl)
theorem dX6_asks_77 : decode cX6_asks 77 = .ok (.if_icmp .ge 123, 3) := dk_162 0 123 (dk_at dksX6_asks_3 6 rfl rfl)
theorem dX6_asks_80 : decode cX6_asks 80 = .ok (.aload_n 0, 1) := dk_42 (dk_at dksX6_asks_3 9 rfl rfl)
theorem dX6_asks_81 : decode cX6_asks 81 = .ok (.getfield 45, 3) := dk_180 0 45 (dk_at dksX6_asks_3 10 rfl rfl)
theorem dX6_asks_84 : decode cX6_asks 84 = .ok (.iload_n 1, 1) := dk_27 (dk_at dksX6_asks_3 13 rfl rfl)
theorem dX6_asks_85 : decode cX6_asks 85 = .ok (.laload, 1) := dk_47 (dk_at dksX6_asks_3 14 rfl rfl)
theorem dX6_asks_86 : decode cX6_asks 86 = .ok (.lstore 6, 2) := dk_55 6 (dk_at dksX6_asks_3 15 rfl rfl)
theorem dX6_asks_88 : decode cX6_asks 88 = .ok (.iconst 0, 1) := dk_3 (dk_at dksX6_asks_3 17 rfl rfl)
theorem dX6_asks_89 : decode cX6_asks 89 = .ok (.istore 8, 2) := dk_54 8 (dk_at dksX6_asks_3 18 rfl rfl)
theorem dX6_asks_91 : decode cX6_asks 91 = .ok (.iload 8, 2) := dk_21 8 (dk_at dksX6_asks_3 20 rfl rfl)
theorem dX6_asks_93 : decode cX6_asks 93 = .ok (.aload_n 0, 1) := dk_42 (dk_at dksX6_asks_3 22 rfl rfl)
theorem dX6_asks_94 : decode cX6_asks 94 = .ok (.getfield 23, 3) := dk_180 0 23 (dk_at dksX6_asks_4 0 rfl rfl)
theorem dX6_asks_97 : decode cX6_asks 97 = .ok (.iconst 0, 1) := dk_3 (dk_at dksX6_asks_4 3 rfl rfl)
theorem dX6_asks_98 : decode cX6_asks 98 = .ok (.iaload, 1) := dk_46 (dk_at dksX6_asks_4 4 rfl rfl)
theorem dX6_asks_99 : decode cX6_asks 99 = .ok (.if_icmp .ge 69, 3) := dk_162 0 69 (dk_at dksX6_asks_4 5 rfl rfl)
theorem dX6_asks_102 : decode cX6_asks 102 = .ok (.iload 5, 2) := dk_21 5 (dk_at dksX6_asks_4 8 rfl rfl)
theorem dX6_asks_104 : decode cX6_asks 104 = .ok (.iload 8, 2) := dk_21 8 (dk_at dksX6_asks_4 10 rfl rfl)
theorem dX6_asks_106 : decode cX6_asks 106 = .ok (.ishr, 1) := dk_122 (dk_at dksX6_asks_4 12 rfl rfl)
theorem dX6_asks_107 : decode cX6_asks 107 = .ok (.iconst 1, 1) := dk_4 (dk_at dksX6_asks_4 13 rfl rfl)
theorem dX6_asks_108 : decode cX6_asks 108 = .ok (.iand, 1) := dk_126 (dk_at dksX6_asks_4 14 rfl rfl)
theorem dX6_asks_109 : decode cX6_asks 109 = .ok (.iconst 1, 1) := dk_4 (dk_at dksX6_asks_4 15 rfl rfl)
theorem dX6_asks_110 : decode cX6_asks 110 = .ok (.if_icmp .ne 52, 3) := dk_160 0 52 (dk_at dksX6_asks_4 16 rfl rfl)
theorem dX6_asks_113 : decode cX6_asks 113 = .ok (.lload 6, 2) := dk_22 6 (dk_at dksX6_asks_4 19 rfl rfl)
theorem dX6_asks_115 : decode cX6_asks 115 = .ok (.aload_n 0, 1) := dk_42 (dk_at dksX6_asks_4 21 rfl rfl)
theorem dX6_asks_116 : decode cX6_asks 116 = .ok (.getfield 23, 3) := dk_180 0 23 (dk_at dksX6_asks_5 0 rfl rfl)
theorem dX6_asks_119 : decode cX6_asks 119 = .ok (.iconst 4, 1) := dk_7 (dk_at dksX6_asks_5 3 rfl rfl)
theorem dX6_asks_120 : decode cX6_asks 120 = .ok (.iaload, 1) := dk_46 (dk_at dksX6_asks_5 4 rfl rfl)
theorem dX6_asks_121 : decode cX6_asks 121 = .ok (.iload 8, 2) := dk_21 8 (dk_at dksX6_asks_5 5 rfl rfl)
theorem dX6_asks_123 : decode cX6_asks 123 = .ok (.ishr, 1) := dk_122 (dk_at dksX6_asks_5 7 rfl rfl)
theorem dX6_asks_124 : decode cX6_asks 124 = .ok (.iconst 1, 1) := dk_4 (dk_at dksX6_asks_5 8 rfl rfl)
theorem dX6_asks_125 : decode cX6_asks 125 = .ok (.iand, 1) := dk_126 (dk_at dksX6_asks_5 9 rfl rfl)
theorem dX6_asks_126 : decode cX6_asks 126 = .ok (.iconst 1, 1) := dk_4 (dk_at dksX6_asks_5 10 rfl rfl)
theorem dX6_asks_127 : decode cX6_asks 127 = .ok (.if_icmp .ne 17, 3) := dk_160 0 17 (dk_at dksX6_asks_5 11 rfl rfl)
theorem dX6_asks_130 : decode cX6_asks 130 = .ok (.iload 8, 2) := dk_21 8 (dk_at dksX6_asks_5 14 rfl rfl)
theorem dX6_asks_132 : decode cX6_asks 132 = .ok (.aload_n 0, 1) := dk_42 (dk_at dksX6_asks_5 16 rfl rfl)
theorem dX6_asks_133 : decode cX6_asks 133 = .ok (.getfield 23, 3) := dk_180 0 23 (dk_at dksX6_asks_5 17 rfl rfl)
theorem dX6_asks_136 : decode cX6_asks 136 = .ok (.iconst 0, 1) := dk_3 (dk_at dksX6_asks_5 20 rfl rfl)
theorem dX6_asks_137 : decode cX6_asks 137 = .ok (.iaload, 1) := dk_46 (dk_at dksX6_asks_5 21 rfl rfl)
theorem dX6_asks_138 : decode cX6_asks 138 = .ok (.invokestatic 219, 3) := dk_184 0 219 (dk_at dksX6_asks_6 0 rfl rfl)
theorem dX6_asks_141 : decode cX6_asks 141 = .ok (.goto 18, 3) := dk_167 0 18 (dk_at dksX6_asks_6 3 rfl rfl)
theorem dX6_asks_144 : decode cX6_asks 144 = .ok (.iload 8, 2) := dk_21 8 (dk_at dksX6_asks_6 6 rfl rfl)
theorem dX6_asks_146 : decode cX6_asks 146 = .ok (.aload_n 0, 1) := dk_42 (dk_at dksX6_asks_6 8 rfl rfl)
theorem dX6_asks_147 : decode cX6_asks 147 = .ok (.getfield 23, 3) := dk_180 0 23 (dk_at dksX6_asks_6 9 rfl rfl)
theorem dX6_asks_150 : decode cX6_asks 150 = .ok (.iconst 0, 1) := dk_3 (dk_at dksX6_asks_6 12 rfl rfl)
theorem dX6_asks_151 : decode cX6_asks 151 = .ok (.iaload, 1) := dk_46 (dk_at dksX6_asks_6 13 rfl rfl)
theorem dX6_asks_152 : decode cX6_asks 152 = .ok (.invokestatic 219, 3) := dk_184 0 219 (dk_at dksX6_asks_6 14 rfl rfl)
theorem dX6_asks_155 : decode cX6_asks 155 = .ok (.ldc2_w 48, 3) := dk_20 0 48 (dk_at dksX6_asks_6 17 rfl rfl)
theorem dX6_asks_158 : decode cX6_asks 158 = .ok (.lxor, 1) := dk_131 (dk_at dksX6_asks_6 20 rfl rfl)
theorem dX6_asks_159 : decode cX6_asks 159 = .ok (.land, 1) := dk_127 (dk_at dksX6_asks_6 21 rfl rfl)
theorem dX6_asks_160 : decode cX6_asks 160 = .ok (.lstore 6, 2) := dk_55 6 (dk_at dksX6_asks_6 22 rfl rfl)
theorem dX6_asks_162 : decode cX6_asks 162 = .ok (.iinc 8 1, 3) := dk_132 8 1 (dk_at dksX6_asks_7 0 rfl rfl)
theorem dX6_asks_165 : decode cX6_asks 165 = .ok (.goto (-74), 3) := dk_167 255 182 (dk_at dksX6_asks_7 3 rfl rfl)
theorem dX6_asks_168 : decode cX6_asks 168 = .ok (.lload 6, 2) := dk_22 6 (dk_at dksX6_asks_7 6 rfl rfl)
theorem dX6_asks_170 : decode cX6_asks 170 = .ok (.lload_n 2, 1) := dk_32 (dk_at dksX6_asks_7 8 rfl rfl)
theorem dX6_asks_171 : decode cX6_asks 171 = .ok (.lcmp, 1) := dk_148 (dk_at dksX6_asks_7 9 rfl rfl)
theorem dX6_asks_172 : decode cX6_asks 172 = .ok (.ifCond .ne 22, 3) := dk_154 0 22 (dk_at dksX6_asks_7 10 rfl rfl)
theorem dX6_asks_175 : decode cX6_asks 175 = .ok (.iload 5, 2) := dk_21 5 (dk_at dksX6_asks_7 13 rfl rfl)
theorem dX6_asks_177 : decode cX6_asks 177 = .ok (.i2l, 1) := dk_133 (dk_at dksX6_asks_7 15 rfl rfl)
theorem dX6_asks_178 : decode cX6_asks 178 = .ok (.invokestatic 249, 3) := dk_184 0 249 (dk_at dksX6_asks_7 16 rfl rfl)
theorem dX6_asks_181 : decode cX6_asks 181 = .ok (.iload 4, 2) := dk_21 4 (dk_at dksX6_asks_7 19 rfl rfl)
theorem dX6_asks_183 : decode cX6_asks 183 = .ok (.i2l, 1) := dk_133 (dk_at dksX6_asks_7 21 rfl rfl)
theorem dX6_asks_184 : decode cX6_asks 184 = .ok (.invokestatic 249, 3) := dk_184 0 249 (dk_at dksX6_asks_8 0 rfl rfl)
theorem dX6_asks_187 : decode cX6_asks 187 = .ok (.if_icmp .ge 7, 3) := dk_162 0 7 (dk_at dksX6_asks_8 3 rfl rfl)
theorem dX6_asks_190 : decode cX6_asks 190 = .ok (.iload 5, 2) := dk_21 5 (dk_at dksX6_asks_8 6 rfl rfl)
theorem dX6_asks_192 : decode cX6_asks 192 = .ok (.istore 4, 2) := dk_54 4 (dk_at dksX6_asks_8 8 rfl rfl)
theorem dX6_asks_194 : decode cX6_asks 194 = .ok (.iinc 5 1, 3) := dk_132 5 1 (dk_at dksX6_asks_8 10 rfl rfl)
theorem dX6_asks_197 : decode cX6_asks 197 = .ok (.goto (-130), 3) := dk_167 255 126 (dk_at dksX6_asks_8 13 rfl rfl)
theorem dX6_asks_200 : decode cX6_asks 200 = .ok (.iload 4, 2) := dk_21 4 (dk_at dksX6_asks_8 16 rfl rfl)
theorem dX6_asks_202 : decode cX6_asks 202 = .ok (.ireturn, 1) := dk_172 (dk_at dksX6_asks_8 18 rfl rfl)
abbrev cX6_quarrels : ByteArray := prog_19_method_115_code
def yX6_quarrels : MethodName := ⟨RX6, "quarrels", "(I)I"⟩
def dkwX6_quarrels_3 : List UInt8 := [167, 0, 4, 3, 96, 61, 132, 4, 1, 167, 255, 223, 132, 3, 1, 167, 255, 202, 28, 172]
abbrev dktX6_quarrels_3 : List UInt8 := dkwX6_quarrels_3 ++ []
def dkwX6_quarrels_2 : List UInt8 := [21, 4, 42, 180, 0, 23, 4, 46, 162, 0, 28, 28, 42, 29, 21, 4, 27, 182, 1, 53, 153, 0, 7, 4]
abbrev dktX6_quarrels_2 : List UInt8 := dkwX6_quarrels_2 ++ dktX6_quarrels_3
def dkwX6_quarrels_1 : List UInt8 := [153, 0, 5, 3, 172, 3, 61, 3, 62, 29, 42, 180, 0, 23, 4, 46, 162, 0, 50, 29, 4, 96, 54, 4]
abbrev dktX6_quarrels_1 : List UInt8 := dkwX6_quarrels_1 ++ dktX6_quarrels_2
def dkwX6_quarrels_0 : List UInt8 := [42, 3, 181, 0, 132, 42, 27, 184, 1, 50, 154, 0, 7, 4, 167, 0, 4, 3, 4, 4, 182, 0, 233]
abbrev dktX6_quarrels_0 : List UInt8 := dkwX6_quarrels_0 ++ dktX6_quarrels_1
theorem dksX6_quarrels_0 : cX6_quarrels.data.toList.drop 0 = dktX6_quarrels_0 := by decide +kernel
theorem dksX6_quarrels_1 : cX6_quarrels.data.toList.drop 23 = dktX6_quarrels_1 := dk_seg dksX6_quarrels_0 23 rfl rfl
theorem dksX6_quarrels_2 : cX6_quarrels.data.toList.drop 47 = dktX6_quarrels_2 := dk_seg dksX6_quarrels_1 24 rfl rfl
theorem dksX6_quarrels_3 : cX6_quarrels.data.toList.drop 71 = dktX6_quarrels_3 := dk_seg dksX6_quarrels_2 24 rfl rfl
theorem dX6_quarrels_0 : decode cX6_quarrels 0 = .ok (.aload_n 0, 1) := dk_42 (dk_at dksX6_quarrels_0 0 rfl rfl)
theorem dX6_quarrels_1 : decode cX6_quarrels 1 = .ok (.iconst 0, 1) := dk_3 (dk_at dksX6_quarrels_0 1 rfl rfl)
theorem dX6_quarrels_2 : decode cX6_quarrels 2 = .ok (.putfield 132, 3) := dk_181 0 132 (dk_at dksX6_quarrels_0 2 rfl rfl)
theorem dX6_quarrels_5 : decode cX6_quarrels 5 = .ok (.aload_n 0, 1) := dk_42 (dk_at dksX6_quarrels_0 5 rfl rfl)
theorem dX6_quarrels_6 : decode cX6_quarrels 6 = .ok (.iload_n 1, 1) := dk_27 (dk_at dksX6_quarrels_0 6 rfl rfl)
theorem dX6_quarrels_7 : decode cX6_quarrels 7 = .ok (.invokestatic 306, 3) := dk_184 1 50 (dk_at dksX6_quarrels_0 7 rfl rfl)
theorem dX6_quarrels_10 : decode cX6_quarrels 10 = .ok (.ifCond .ne 7, 3) := dk_154 0 7 (dk_at dksX6_quarrels_0 10 rfl rfl)
theorem dX6_quarrels_13 : decode cX6_quarrels 13 = .ok (.iconst 1, 1) := dk_4 (dk_at dksX6_quarrels_0 13 rfl rfl)
theorem dX6_quarrels_14 : decode cX6_quarrels 14 = .ok (.goto 4, 3) := dk_167 0 4 (dk_at dksX6_quarrels_0 14 rfl rfl)
theorem dX6_quarrels_17 : decode cX6_quarrels 17 = .ok (.iconst 0, 1) := dk_3 (dk_at dksX6_quarrels_0 17 rfl rfl)
theorem dX6_quarrels_18 : decode cX6_quarrels 18 = .ok (.iconst 1, 1) := dk_4 (dk_at dksX6_quarrels_0 18 rfl rfl)
theorem dX6_quarrels_19 : decode cX6_quarrels 19 = .ok (.iconst 1, 1) := dk_4 (dk_at dksX6_quarrels_0 19 rfl rfl)
theorem dX6_quarrels_20 : decode cX6_quarrels 20 = .ok (.invokevirtual 233, 3) := dk_182 0 233 (dk_at dksX6_quarrels_0 20 rfl rfl)
theorem dX6_quarrels_23 : decode cX6_quarrels 23 = .ok (.ifCond .eq 5, 3) := dk_153 0 5 (dk_at dksX6_quarrels_1 0 rfl rfl)
theorem dX6_quarrels_26 : decode cX6_quarrels 26 = .ok (.iconst 0, 1) := dk_3 (dk_at dksX6_quarrels_1 3 rfl rfl)
theorem dX6_quarrels_27 : decode cX6_quarrels 27 = .ok (.ireturn, 1) := dk_172 (dk_at dksX6_quarrels_1 4 rfl rfl)
theorem dX6_quarrels_28 : decode cX6_quarrels 28 = .ok (.iconst 0, 1) := dk_3 (dk_at dksX6_quarrels_1 5 rfl rfl)
theorem dX6_quarrels_29 : decode cX6_quarrels 29 = .ok (.istore_n 2, 1) := dk_61 (dk_at dksX6_quarrels_1 6 rfl rfl)
theorem dX6_quarrels_30 : decode cX6_quarrels 30 = .ok (.iconst 0, 1) := dk_3 (dk_at dksX6_quarrels_1 7 rfl rfl)
theorem dX6_quarrels_31 : decode cX6_quarrels 31 = .ok (.istore_n 3, 1) := dk_62 (dk_at dksX6_quarrels_1 8 rfl rfl)
theorem dX6_quarrels_32 : decode cX6_quarrels 32 = .ok (.iload_n 3, 1) := dk_29 (dk_at dksX6_quarrels_1 9 rfl rfl)
theorem dX6_quarrels_33 : decode cX6_quarrels 33 = .ok (.aload_n 0, 1) := dk_42 (dk_at dksX6_quarrels_1 10 rfl rfl)
theorem dX6_quarrels_34 : decode cX6_quarrels 34 = .ok (.getfield 23, 3) := dk_180 0 23 (dk_at dksX6_quarrels_1 11 rfl rfl)
theorem dX6_quarrels_37 : decode cX6_quarrels 37 = .ok (.iconst 1, 1) := dk_4 (dk_at dksX6_quarrels_1 14 rfl rfl)
theorem dX6_quarrels_38 : decode cX6_quarrels 38 = .ok (.iaload, 1) := dk_46 (dk_at dksX6_quarrels_1 15 rfl rfl)
theorem dX6_quarrels_39 : decode cX6_quarrels 39 = .ok (.if_icmp .ge 50, 3) := dk_162 0 50 (dk_at dksX6_quarrels_1 16 rfl rfl)
theorem dX6_quarrels_42 : decode cX6_quarrels 42 = .ok (.iload_n 3, 1) := dk_29 (dk_at dksX6_quarrels_1 19 rfl rfl)
theorem dX6_quarrels_43 : decode cX6_quarrels 43 = .ok (.iconst 1, 1) := dk_4 (dk_at dksX6_quarrels_1 20 rfl rfl)
theorem dX6_quarrels_44 : decode cX6_quarrels 44 = .ok (.iadd, 1) := dk_96 (dk_at dksX6_quarrels_1 21 rfl rfl)
theorem dX6_quarrels_45 : decode cX6_quarrels 45 = .ok (.istore 4, 2) := dk_54 4 (dk_at dksX6_quarrels_1 22 rfl rfl)
theorem dX6_quarrels_47 : decode cX6_quarrels 47 = .ok (.iload 4, 2) := dk_21 4 (dk_at dksX6_quarrels_2 0 rfl rfl)
theorem dX6_quarrels_49 : decode cX6_quarrels 49 = .ok (.aload_n 0, 1) := dk_42 (dk_at dksX6_quarrels_2 2 rfl rfl)
theorem dX6_quarrels_50 : decode cX6_quarrels 50 = .ok (.getfield 23, 3) := dk_180 0 23 (dk_at dksX6_quarrels_2 3 rfl rfl)
theorem dX6_quarrels_53 : decode cX6_quarrels 53 = .ok (.iconst 1, 1) := dk_4 (dk_at dksX6_quarrels_2 6 rfl rfl)
theorem dX6_quarrels_54 : decode cX6_quarrels 54 = .ok (.iaload, 1) := dk_46 (dk_at dksX6_quarrels_2 7 rfl rfl)
theorem dX6_quarrels_55 : decode cX6_quarrels 55 = .ok (.if_icmp .ge 28, 3) := dk_162 0 28 (dk_at dksX6_quarrels_2 8 rfl rfl)
theorem dX6_quarrels_58 : decode cX6_quarrels 58 = .ok (.iload_n 2, 1) := dk_28 (dk_at dksX6_quarrels_2 11 rfl rfl)
theorem dX6_quarrels_59 : decode cX6_quarrels 59 = .ok (.aload_n 0, 1) := dk_42 (dk_at dksX6_quarrels_2 12 rfl rfl)
theorem dX6_quarrels_60 : decode cX6_quarrels 60 = .ok (.iload_n 3, 1) := dk_29 (dk_at dksX6_quarrels_2 13 rfl rfl)
theorem dX6_quarrels_61 : decode cX6_quarrels 61 = .ok (.iload 4, 2) := dk_21 4 (dk_at dksX6_quarrels_2 14 rfl rfl)
theorem dX6_quarrels_63 : decode cX6_quarrels 63 = .ok (.iload_n 1, 1) := dk_27 (dk_at dksX6_quarrels_2 16 rfl rfl)
theorem dX6_quarrels_64 : decode cX6_quarrels 64 = .ok (.invokevirtual 309, 3) := dk_182 1 53 (dk_at dksX6_quarrels_2 17 rfl rfl)
theorem dX6_quarrels_67 : decode cX6_quarrels 67 = .ok (.ifCond .eq 7, 3) := dk_153 0 7 (dk_at dksX6_quarrels_2 20 rfl rfl)
theorem dX6_quarrels_70 : decode cX6_quarrels 70 = .ok (.iconst 1, 1) := dk_4 (dk_at dksX6_quarrels_2 23 rfl rfl)
theorem dX6_quarrels_71 : decode cX6_quarrels 71 = .ok (.goto 4, 3) := dk_167 0 4 (dk_at dksX6_quarrels_3 0 rfl rfl)
theorem dX6_quarrels_74 : decode cX6_quarrels 74 = .ok (.iconst 0, 1) := dk_3 (dk_at dksX6_quarrels_3 3 rfl rfl)
theorem dX6_quarrels_75 : decode cX6_quarrels 75 = .ok (.iadd, 1) := dk_96 (dk_at dksX6_quarrels_3 4 rfl rfl)
theorem dX6_quarrels_76 : decode cX6_quarrels 76 = .ok (.istore_n 2, 1) := dk_61 (dk_at dksX6_quarrels_3 5 rfl rfl)
theorem dX6_quarrels_77 : decode cX6_quarrels 77 = .ok (.iinc 4 1, 3) := dk_132 4 1 (dk_at dksX6_quarrels_3 6 rfl rfl)
theorem dX6_quarrels_80 : decode cX6_quarrels 80 = .ok (.goto (-33), 3) := dk_167 255 223 (dk_at dksX6_quarrels_3 9 rfl rfl)
theorem dX6_quarrels_83 : decode cX6_quarrels 83 = .ok (.iinc 3 1, 3) := dk_132 3 1 (dk_at dksX6_quarrels_3 12 rfl rfl)
theorem dX6_quarrels_86 : decode cX6_quarrels 86 = .ok (.goto (-54), 3) := dk_167 255 202 (dk_at dksX6_quarrels_3 15 rfl rfl)
theorem dX6_quarrels_89 : decode cX6_quarrels 89 = .ok (.iload_n 2, 1) := dk_28 (dk_at dksX6_quarrels_3 18 rfl rfl)
theorem dX6_quarrels_90 : decode cX6_quarrels 90 = .ok (.ireturn, 1) := dk_172 (dk_at dksX6_quarrels_3 19 rfl rfl)
abbrev cX6_peace : ByteArray := prog_19_method_116_code
def yX6_peace : MethodName := ⟨RX6, "peace", "(I)I"⟩
def dkwX6_peace_6 : List UInt8 := [167, 255, 183, 21, 4, 153, 0, 7, 29, 167, 0, 4, 28, 61, 132, 3, 1, 167, 255, 132, 28, 172]
abbrev dktX6_peace_6 : List UInt8 := dkwX6_peace_6 ++ []
def dkwX6_peace_5 : List UInt8 := [27, 182, 1, 53, 154, 0, 7, 4, 167, 0, 4, 3, 54, 4, 132, 6, 1, 167, 255, 204, 132, 5, 1]
abbrev dktX6_peace_5 : List UInt8 := dkwX6_peace_5 ++ dktX6_peace_6
def dkwX6_peace_4 : List UInt8 := [21, 4, 153, 0, 33, 29, 21, 5, 122, 29, 21, 6, 122, 126, 4, 126, 153, 0, 15, 42, 21, 5, 21, 6]
abbrev dktX6_peace_4 : List UInt8 := dkwX6_peace_4 ++ dktX6_peace_5
def dkwX6_peace_3 : List UInt8 := [180, 0, 23, 4, 46, 162, 0, 68, 21, 5, 54, 6, 21, 6, 42, 180, 0, 23, 4, 46, 162, 0, 47]
abbrev dktX6_peace_3 : List UInt8 := dkwX6_peace_3 ++ dktX6_peace_4
def dkwX6_peace_2 : List UInt8 := [184, 0, 249, 28, 133, 184, 0, 249, 163, 0, 6, 167, 0, 96, 4, 54, 4, 3, 54, 5, 21, 5, 42]
abbrev dktX6_peace_2 : List UInt8 := dkwX6_peace_2 ++ dktX6_peace_3
def dkwX6_peace_1 : List UInt8 := [153, 0, 5, 3, 172, 3, 61, 3, 62, 29, 4, 42, 180, 0, 23, 4, 46, 120, 162, 0, 118, 29, 133]
abbrev dktX6_peace_1 : List UInt8 := dkwX6_peace_1 ++ dktX6_peace_2
def dkwX6_peace_0 : List UInt8 := [42, 3, 181, 0, 132, 42, 27, 184, 1, 50, 154, 0, 7, 4, 167, 0, 4, 3, 4, 4, 182, 0, 233]
abbrev dktX6_peace_0 : List UInt8 := dkwX6_peace_0 ++ dktX6_peace_1
theorem dksX6_peace_0 : cX6_peace.data.toList.drop 0 = dktX6_peace_0 := by decide +kernel
theorem dksX6_peace_1 : cX6_peace.data.toList.drop 23 = dktX6_peace_1 := dk_seg dksX6_peace_0 23 rfl rfl
theorem dksX6_peace_2 : cX6_peace.data.toList.drop 46 = dktX6_peace_2 := dk_seg dksX6_peace_1 23 rfl rfl
theorem dksX6_peace_3 : cX6_peace.data.toList.drop 69 = dktX6_peace_3 := dk_seg dksX6_peace_2 23 rfl rfl
theorem dksX6_peace_4 : cX6_peace.data.toList.drop 92 = dktX6_peace_4 := dk_seg dksX6_peace_3 23 rfl rfl
theorem dksX6_peace_5 : cX6_peace.data.toList.drop 116 = dktX6_peace_5 := dk_seg dksX6_peace_4 24 rfl rfl
theorem dksX6_peace_6 : cX6_peace.data.toList.drop 139 = dktX6_peace_6 := dk_seg dksX6_peace_5 23 rfl rfl
theorem dX6_peace_0 : decode cX6_peace 0 = .ok (.aload_n 0, 1) := dk_42 (dk_at dksX6_peace_0 0 rfl rfl)
theorem dX6_peace_1 : decode cX6_peace 1 = .ok (.iconst 0, 1) := dk_3 (dk_at dksX6_peace_0 1 rfl rfl)
theorem dX6_peace_2 : decode cX6_peace 2 = .ok (.putfield 132, 3) := dk_181 0 132 (dk_at dksX6_peace_0 2 rfl rfl)
theorem dX6_peace_5 : decode cX6_peace 5 = .ok (.aload_n 0, 1) := dk_42 (dk_at dksX6_peace_0 5 rfl rfl)
theorem dX6_peace_6 : decode cX6_peace 6 = .ok (.iload_n 1, 1) := dk_27 (dk_at dksX6_peace_0 6 rfl rfl)
theorem dX6_peace_7 : decode cX6_peace 7 = .ok (.invokestatic 306, 3) := dk_184 1 50 (dk_at dksX6_peace_0 7 rfl rfl)
theorem dX6_peace_10 : decode cX6_peace 10 = .ok (.ifCond .ne 7, 3) := dk_154 0 7 (dk_at dksX6_peace_0 10 rfl rfl)
theorem dX6_peace_13 : decode cX6_peace 13 = .ok (.iconst 1, 1) := dk_4 (dk_at dksX6_peace_0 13 rfl rfl)
theorem dX6_peace_14 : decode cX6_peace 14 = .ok (.goto 4, 3) := dk_167 0 4 (dk_at dksX6_peace_0 14 rfl rfl)
theorem dX6_peace_17 : decode cX6_peace 17 = .ok (.iconst 0, 1) := dk_3 (dk_at dksX6_peace_0 17 rfl rfl)
theorem dX6_peace_18 : decode cX6_peace 18 = .ok (.iconst 1, 1) := dk_4 (dk_at dksX6_peace_0 18 rfl rfl)
theorem dX6_peace_19 : decode cX6_peace 19 = .ok (.iconst 1, 1) := dk_4 (dk_at dksX6_peace_0 19 rfl rfl)
theorem dX6_peace_20 : decode cX6_peace 20 = .ok (.invokevirtual 233, 3) := dk_182 0 233 (dk_at dksX6_peace_0 20 rfl rfl)
theorem dX6_peace_23 : decode cX6_peace 23 = .ok (.ifCond .eq 5, 3) := dk_153 0 5 (dk_at dksX6_peace_1 0 rfl rfl)
theorem dX6_peace_26 : decode cX6_peace 26 = .ok (.iconst 0, 1) := dk_3 (dk_at dksX6_peace_1 3 rfl rfl)
theorem dX6_peace_27 : decode cX6_peace 27 = .ok (.ireturn, 1) := dk_172 (dk_at dksX6_peace_1 4 rfl rfl)
theorem dX6_peace_28 : decode cX6_peace 28 = .ok (.iconst 0, 1) := dk_3 (dk_at dksX6_peace_1 5 rfl rfl)
theorem dX6_peace_29 : decode cX6_peace 29 = .ok (.istore_n 2, 1) := dk_61 (dk_at dksX6_peace_1 6 rfl rfl)
theorem dX6_peace_30 : decode cX6_peace 30 = .ok (.iconst 0, 1) := dk_3 (dk_at dksX6_peace_1 7 rfl rfl)
theorem dX6_peace_31 : decode cX6_peace 31 = .ok (.istore_n 3, 1) := dk_62 (dk_at dksX6_peace_1 8 rfl rfl)
theorem dX6_peace_32 : decode cX6_peace 32 = .ok (.iload_n 3, 1) := dk_29 (dk_at dksX6_peace_1 9 rfl rfl)
theorem dX6_peace_33 : decode cX6_peace 33 = .ok (.iconst 1, 1) := dk_4 (dk_at dksX6_peace_1 10 rfl rfl)
theorem dX6_peace_34 : decode cX6_peace 34 = .ok (.aload_n 0, 1) := dk_42 (dk_at dksX6_peace_1 11 rfl rfl)
theorem dX6_peace_35 : decode cX6_peace 35 = .ok (.getfield 23, 3) := dk_180 0 23 (dk_at dksX6_peace_1 12 rfl rfl)
theorem dX6_peace_38 : decode cX6_peace 38 = .ok (.iconst 1, 1) := dk_4 (dk_at dksX6_peace_1 15 rfl rfl)
theorem dX6_peace_39 : decode cX6_peace 39 = .ok (.iaload, 1) := dk_46 (dk_at dksX6_peace_1 16 rfl rfl)
theorem dX6_peace_40 : decode cX6_peace 40 = .ok (.ishl, 1) := dk_120 (dk_at dksX6_peace_1 17 rfl rfl)
theorem dX6_peace_41 : decode cX6_peace 41 = .ok (.if_icmp .ge 118, 3) := dk_162 0 118 (dk_at dksX6_peace_1 18 rfl rfl)
theorem dX6_peace_44 : decode cX6_peace 44 = .ok (.iload_n 3, 1) := dk_29 (dk_at dksX6_peace_1 21 rfl rfl)
theorem dX6_peace_45 : decode cX6_peace 45 = .ok (.i2l, 1) := dk_133 (dk_at dksX6_peace_1 22 rfl rfl)
theorem dX6_peace_46 : decode cX6_peace 46 = .ok (.invokestatic 249, 3) := dk_184 0 249 (dk_at dksX6_peace_2 0 rfl rfl)
theorem dX6_peace_49 : decode cX6_peace 49 = .ok (.iload_n 2, 1) := dk_28 (dk_at dksX6_peace_2 3 rfl rfl)
theorem dX6_peace_50 : decode cX6_peace 50 = .ok (.i2l, 1) := dk_133 (dk_at dksX6_peace_2 4 rfl rfl)
theorem dX6_peace_51 : decode cX6_peace 51 = .ok (.invokestatic 249, 3) := dk_184 0 249 (dk_at dksX6_peace_2 5 rfl rfl)
theorem dX6_peace_54 : decode cX6_peace 54 = .ok (.if_icmp .gt 6, 3) := dk_163 0 6 (dk_at dksX6_peace_2 8 rfl rfl)
theorem dX6_peace_57 : decode cX6_peace 57 = .ok (.goto 96, 3) := dk_167 0 96 (dk_at dksX6_peace_2 11 rfl rfl)
theorem dX6_peace_60 : decode cX6_peace 60 = .ok (.iconst 1, 1) := dk_4 (dk_at dksX6_peace_2 14 rfl rfl)
theorem dX6_peace_61 : decode cX6_peace 61 = .ok (.istore 4, 2) := dk_54 4 (dk_at dksX6_peace_2 15 rfl rfl)
theorem dX6_peace_63 : decode cX6_peace 63 = .ok (.iconst 0, 1) := dk_3 (dk_at dksX6_peace_2 17 rfl rfl)
theorem dX6_peace_64 : decode cX6_peace 64 = .ok (.istore 5, 2) := dk_54 5 (dk_at dksX6_peace_2 18 rfl rfl)
theorem dX6_peace_66 : decode cX6_peace 66 = .ok (.iload 5, 2) := dk_21 5 (dk_at dksX6_peace_2 20 rfl rfl)
theorem dX6_peace_68 : decode cX6_peace 68 = .ok (.aload_n 0, 1) := dk_42 (dk_at dksX6_peace_2 22 rfl rfl)
theorem dX6_peace_69 : decode cX6_peace 69 = .ok (.getfield 23, 3) := dk_180 0 23 (dk_at dksX6_peace_3 0 rfl rfl)
theorem dX6_peace_72 : decode cX6_peace 72 = .ok (.iconst 1, 1) := dk_4 (dk_at dksX6_peace_3 3 rfl rfl)
theorem dX6_peace_73 : decode cX6_peace 73 = .ok (.iaload, 1) := dk_46 (dk_at dksX6_peace_3 4 rfl rfl)
theorem dX6_peace_74 : decode cX6_peace 74 = .ok (.if_icmp .ge 68, 3) := dk_162 0 68 (dk_at dksX6_peace_3 5 rfl rfl)
theorem dX6_peace_77 : decode cX6_peace 77 = .ok (.iload 5, 2) := dk_21 5 (dk_at dksX6_peace_3 8 rfl rfl)
theorem dX6_peace_79 : decode cX6_peace 79 = .ok (.istore 6, 2) := dk_54 6 (dk_at dksX6_peace_3 10 rfl rfl)
theorem dX6_peace_81 : decode cX6_peace 81 = .ok (.iload 6, 2) := dk_21 6 (dk_at dksX6_peace_3 12 rfl rfl)
theorem dX6_peace_83 : decode cX6_peace 83 = .ok (.aload_n 0, 1) := dk_42 (dk_at dksX6_peace_3 14 rfl rfl)
theorem dX6_peace_84 : decode cX6_peace 84 = .ok (.getfield 23, 3) := dk_180 0 23 (dk_at dksX6_peace_3 15 rfl rfl)
theorem dX6_peace_87 : decode cX6_peace 87 = .ok (.iconst 1, 1) := dk_4 (dk_at dksX6_peace_3 18 rfl rfl)
theorem dX6_peace_88 : decode cX6_peace 88 = .ok (.iaload, 1) := dk_46 (dk_at dksX6_peace_3 19 rfl rfl)
theorem dX6_peace_89 : decode cX6_peace 89 = .ok (.if_icmp .ge 47, 3) := dk_162 0 47 (dk_at dksX6_peace_3 20 rfl rfl)
theorem dX6_peace_92 : decode cX6_peace 92 = .ok (.iload 4, 2) := dk_21 4 (dk_at dksX6_peace_4 0 rfl rfl)
theorem dX6_peace_94 : decode cX6_peace 94 = .ok (.ifCond .eq 33, 3) := dk_153 0 33 (dk_at dksX6_peace_4 2 rfl rfl)
theorem dX6_peace_97 : decode cX6_peace 97 = .ok (.iload_n 3, 1) := dk_29 (dk_at dksX6_peace_4 5 rfl rfl)
theorem dX6_peace_98 : decode cX6_peace 98 = .ok (.iload 5, 2) := dk_21 5 (dk_at dksX6_peace_4 6 rfl rfl)
theorem dX6_peace_100 : decode cX6_peace 100 = .ok (.ishr, 1) := dk_122 (dk_at dksX6_peace_4 8 rfl rfl)
theorem dX6_peace_101 : decode cX6_peace 101 = .ok (.iload_n 3, 1) := dk_29 (dk_at dksX6_peace_4 9 rfl rfl)
theorem dX6_peace_102 : decode cX6_peace 102 = .ok (.iload 6, 2) := dk_21 6 (dk_at dksX6_peace_4 10 rfl rfl)
theorem dX6_peace_104 : decode cX6_peace 104 = .ok (.ishr, 1) := dk_122 (dk_at dksX6_peace_4 12 rfl rfl)
theorem dX6_peace_105 : decode cX6_peace 105 = .ok (.iand, 1) := dk_126 (dk_at dksX6_peace_4 13 rfl rfl)
theorem dX6_peace_106 : decode cX6_peace 106 = .ok (.iconst 1, 1) := dk_4 (dk_at dksX6_peace_4 14 rfl rfl)
theorem dX6_peace_107 : decode cX6_peace 107 = .ok (.iand, 1) := dk_126 (dk_at dksX6_peace_4 15 rfl rfl)
theorem dX6_peace_108 : decode cX6_peace 108 = .ok (.ifCond .eq 15, 3) := dk_153 0 15 (dk_at dksX6_peace_4 16 rfl rfl)
theorem dX6_peace_111 : decode cX6_peace 111 = .ok (.aload_n 0, 1) := dk_42 (dk_at dksX6_peace_4 19 rfl rfl)
theorem dX6_peace_112 : decode cX6_peace 112 = .ok (.iload 5, 2) := dk_21 5 (dk_at dksX6_peace_4 20 rfl rfl)
theorem dX6_peace_114 : decode cX6_peace 114 = .ok (.iload 6, 2) := dk_21 6 (dk_at dksX6_peace_4 22 rfl rfl)
theorem dX6_peace_116 : decode cX6_peace 116 = .ok (.iload_n 1, 1) := dk_27 (dk_at dksX6_peace_5 0 rfl rfl)
theorem dX6_peace_117 : decode cX6_peace 117 = .ok (.invokevirtual 309, 3) := dk_182 1 53 (dk_at dksX6_peace_5 1 rfl rfl)
theorem dX6_peace_120 : decode cX6_peace 120 = .ok (.ifCond .ne 7, 3) := dk_154 0 7 (dk_at dksX6_peace_5 4 rfl rfl)
theorem dX6_peace_123 : decode cX6_peace 123 = .ok (.iconst 1, 1) := dk_4 (dk_at dksX6_peace_5 7 rfl rfl)
theorem dX6_peace_124 : decode cX6_peace 124 = .ok (.goto 4, 3) := dk_167 0 4 (dk_at dksX6_peace_5 8 rfl rfl)
theorem dX6_peace_127 : decode cX6_peace 127 = .ok (.iconst 0, 1) := dk_3 (dk_at dksX6_peace_5 11 rfl rfl)
theorem dX6_peace_128 : decode cX6_peace 128 = .ok (.istore 4, 2) := dk_54 4 (dk_at dksX6_peace_5 12 rfl rfl)
theorem dX6_peace_130 : decode cX6_peace 130 = .ok (.iinc 6 1, 3) := dk_132 6 1 (dk_at dksX6_peace_5 14 rfl rfl)
theorem dX6_peace_133 : decode cX6_peace 133 = .ok (.goto (-52), 3) := dk_167 255 204 (dk_at dksX6_peace_5 17 rfl rfl)
theorem dX6_peace_136 : decode cX6_peace 136 = .ok (.iinc 5 1, 3) := dk_132 5 1 (dk_at dksX6_peace_5 20 rfl rfl)
theorem dX6_peace_139 : decode cX6_peace 139 = .ok (.goto (-73), 3) := dk_167 255 183 (dk_at dksX6_peace_6 0 rfl rfl)
theorem dX6_peace_142 : decode cX6_peace 142 = .ok (.iload 4, 2) := dk_21 4 (dk_at dksX6_peace_6 3 rfl rfl)
theorem dX6_peace_144 : decode cX6_peace 144 = .ok (.ifCond .eq 7, 3) := dk_153 0 7 (dk_at dksX6_peace_6 5 rfl rfl)
theorem dX6_peace_147 : decode cX6_peace 147 = .ok (.iload_n 3, 1) := dk_29 (dk_at dksX6_peace_6 8 rfl rfl)
theorem dX6_peace_148 : decode cX6_peace 148 = .ok (.goto 4, 3) := dk_167 0 4 (dk_at dksX6_peace_6 9 rfl rfl)
theorem dX6_peace_151 : decode cX6_peace 151 = .ok (.iload_n 2, 1) := dk_28 (dk_at dksX6_peace_6 12 rfl rfl)
theorem dX6_peace_152 : decode cX6_peace 152 = .ok (.istore_n 2, 1) := dk_61 (dk_at dksX6_peace_6 13 rfl rfl)
theorem dX6_peace_153 : decode cX6_peace 153 = .ok (.iinc 3 1, 3) := dk_132 3 1 (dk_at dksX6_peace_6 14 rfl rfl)
theorem dX6_peace_156 : decode cX6_peace 156 = .ok (.goto (-124), 3) := dk_167 255 132 (dk_at dksX6_peace_6 17 rfl rfl)
theorem dX6_peace_159 : decode cX6_peace 159 = .ok (.iload_n 2, 1) := dk_28 (dk_at dksX6_peace_6 20 rfl rfl)
theorem dX6_peace_160 : decode cX6_peace 160 = .ok (.ireturn, 1) := dk_172 (dk_at dksX6_peace_6 21 rfl rfl)
abbrev cX6_salted : ByteArray := prog_19_method_118_code
def yX6_salted : MethodName := ⟨RX6, "salted", "(I)I"⟩
def dkwX6_salted_3 : List UInt8 := [27, 126, 27, 160, 0, 7, 29, 167, 0, 4, 28, 61, 132, 3, 1, 167, 255, 203, 28, 172]
abbrev dktX6_salted_3 : List UInt8 := dkwX6_salted_3 ++ []
def dkwX6_salted_2 : List UInt8 := [159, 0, 19, 29, 133, 184, 0, 249, 28, 133, 184, 0, 249, 161, 0, 6, 167, 0, 20, 42, 29, 182, 1, 170]
abbrev dktX6_salted_2 : List UInt8 := dkwX6_salted_2 ++ dktX6_salted_3
def dkwX6_salted_1 : List UInt8 := [153, 0, 5, 3, 172, 2, 61, 3, 62, 29, 4, 42, 180, 0, 23, 6, 46, 120, 162, 0, 47, 28, 2]
abbrev dktX6_salted_1 : List UInt8 := dkwX6_salted_1 ++ dktX6_salted_2
def dkwX6_salted_0 : List UInt8 := [42, 3, 181, 0, 132, 42, 42, 27, 182, 1, 158, 154, 0, 7, 4, 167, 0, 4, 3, 4, 4, 182, 0, 233]
abbrev dktX6_salted_0 : List UInt8 := dkwX6_salted_0 ++ dktX6_salted_1
theorem dksX6_salted_0 : cX6_salted.data.toList.drop 0 = dktX6_salted_0 := by decide +kernel
theorem dksX6_salted_1 : cX6_salted.data.toList.drop 24 = dktX6_salted_1 := dk_seg dksX6_salted_0 24 rfl rfl
theorem dksX6_salted_2 : cX6_salted.data.toList.drop 47 = dktX6_salted_2 := dk_seg dksX6_salted_1 23 rfl rfl
theorem dksX6_salted_3 : cX6_salted.data.toList.drop 71 = dktX6_salted_3 := dk_seg dksX6_salted_2 24 rfl rfl
theorem dX6_salted_0 : decode cX6_salted 0 = .ok (.aload_n 0, 1) := dk_42 (dk_at dksX6_salted_0 0 rfl rfl)
theorem dX6_salted_1 : decode cX6_salted 1 = .ok (.iconst 0, 1) := dk_3 (dk_at dksX6_salted_0 1 rfl rfl)
theorem dX6_salted_2 : decode cX6_salted 2 = .ok (.putfield 132, 3) := dk_181 0 132 (dk_at dksX6_salted_0 2 rfl rfl)
theorem dX6_salted_5 : decode cX6_salted 5 = .ok (.aload_n 0, 1) := dk_42 (dk_at dksX6_salted_0 5 rfl rfl)
theorem dX6_salted_6 : decode cX6_salted 6 = .ok (.aload_n 0, 1) := dk_42 (dk_at dksX6_salted_0 6 rfl rfl)
theorem dX6_salted_7 : decode cX6_salted 7 = .ok (.iload_n 1, 1) := dk_27 (dk_at dksX6_salted_0 7 rfl rfl)
theorem dX6_salted_8 : decode cX6_salted 8 = .ok (.invokevirtual 414, 3) := dk_182 1 158 (dk_at dksX6_salted_0 8 rfl rfl)
theorem dX6_salted_11 : decode cX6_salted 11 = .ok (.ifCond .ne 7, 3) := dk_154 0 7 (dk_at dksX6_salted_0 11 rfl rfl)
theorem dX6_salted_14 : decode cX6_salted 14 = .ok (.iconst 1, 1) := dk_4 (dk_at dksX6_salted_0 14 rfl rfl)
theorem dX6_salted_15 : decode cX6_salted 15 = .ok (.goto 4, 3) := dk_167 0 4 (dk_at dksX6_salted_0 15 rfl rfl)
theorem dX6_salted_18 : decode cX6_salted 18 = .ok (.iconst 0, 1) := dk_3 (dk_at dksX6_salted_0 18 rfl rfl)
theorem dX6_salted_19 : decode cX6_salted 19 = .ok (.iconst 1, 1) := dk_4 (dk_at dksX6_salted_0 19 rfl rfl)
theorem dX6_salted_20 : decode cX6_salted 20 = .ok (.iconst 1, 1) := dk_4 (dk_at dksX6_salted_0 20 rfl rfl)
theorem dX6_salted_21 : decode cX6_salted 21 = .ok (.invokevirtual 233, 3) := dk_182 0 233 (dk_at dksX6_salted_0 21 rfl rfl)
theorem dX6_salted_24 : decode cX6_salted 24 = .ok (.ifCond .eq 5, 3) := dk_153 0 5 (dk_at dksX6_salted_1 0 rfl rfl)
theorem dX6_salted_27 : decode cX6_salted 27 = .ok (.iconst 0, 1) := dk_3 (dk_at dksX6_salted_1 3 rfl rfl)
theorem dX6_salted_28 : decode cX6_salted 28 = .ok (.ireturn, 1) := dk_172 (dk_at dksX6_salted_1 4 rfl rfl)
theorem dX6_salted_29 : decode cX6_salted 29 = .ok (.iconst (-1), 1) := dk_2 (dk_at dksX6_salted_1 5 rfl rfl)
theorem dX6_salted_30 : decode cX6_salted 30 = .ok (.istore_n 2, 1) := dk_61 (dk_at dksX6_salted_1 6 rfl rfl)
theorem dX6_salted_31 : decode cX6_salted 31 = .ok (.iconst 0, 1) := dk_3 (dk_at dksX6_salted_1 7 rfl rfl)
theorem dX6_salted_32 : decode cX6_salted 32 = .ok (.istore_n 3, 1) := dk_62 (dk_at dksX6_salted_1 8 rfl rfl)
theorem dX6_salted_33 : decode cX6_salted 33 = .ok (.iload_n 3, 1) := dk_29 (dk_at dksX6_salted_1 9 rfl rfl)
theorem dX6_salted_34 : decode cX6_salted 34 = .ok (.iconst 1, 1) := dk_4 (dk_at dksX6_salted_1 10 rfl rfl)
theorem dX6_salted_35 : decode cX6_salted 35 = .ok (.aload_n 0, 1) := dk_42 (dk_at dksX6_salted_1 11 rfl rfl)
theorem dX6_salted_36 : decode cX6_salted 36 = .ok (.getfield 23, 3) := dk_180 0 23 (dk_at dksX6_salted_1 12 rfl rfl)
theorem dX6_salted_39 : decode cX6_salted 39 = .ok (.iconst 3, 1) := dk_6 (dk_at dksX6_salted_1 15 rfl rfl)
theorem dX6_salted_40 : decode cX6_salted 40 = .ok (.iaload, 1) := dk_46 (dk_at dksX6_salted_1 16 rfl rfl)
theorem dX6_salted_41 : decode cX6_salted 41 = .ok (.ishl, 1) := dk_120 (dk_at dksX6_salted_1 17 rfl rfl)
theorem dX6_salted_42 : decode cX6_salted 42 = .ok (.if_icmp .ge 47, 3) := dk_162 0 47 (dk_at dksX6_salted_1 18 rfl rfl)
theorem dX6_salted_45 : decode cX6_salted 45 = .ok (.iload_n 2, 1) := dk_28 (dk_at dksX6_salted_1 21 rfl rfl)
theorem dX6_salted_46 : decode cX6_salted 46 = .ok (.iconst (-1), 1) := dk_2 (dk_at dksX6_salted_1 22 rfl rfl)
theorem dX6_salted_47 : decode cX6_salted 47 = .ok (.if_icmp .eq 19, 3) := dk_159 0 19 (dk_at dksX6_salted_2 0 rfl rfl)
theorem dX6_salted_50 : decode cX6_salted 50 = .ok (.iload_n 3, 1) := dk_29 (dk_at dksX6_salted_2 3 rfl rfl)
theorem dX6_salted_51 : decode cX6_salted 51 = .ok (.i2l, 1) := dk_133 (dk_at dksX6_salted_2 4 rfl rfl)
theorem dX6_salted_52 : decode cX6_salted 52 = .ok (.invokestatic 249, 3) := dk_184 0 249 (dk_at dksX6_salted_2 5 rfl rfl)
theorem dX6_salted_55 : decode cX6_salted 55 = .ok (.iload_n 2, 1) := dk_28 (dk_at dksX6_salted_2 8 rfl rfl)
theorem dX6_salted_56 : decode cX6_salted 56 = .ok (.i2l, 1) := dk_133 (dk_at dksX6_salted_2 9 rfl rfl)
theorem dX6_salted_57 : decode cX6_salted 57 = .ok (.invokestatic 249, 3) := dk_184 0 249 (dk_at dksX6_salted_2 10 rfl rfl)
theorem dX6_salted_60 : decode cX6_salted 60 = .ok (.if_icmp .lt 6, 3) := dk_161 0 6 (dk_at dksX6_salted_2 13 rfl rfl)
theorem dX6_salted_63 : decode cX6_salted 63 = .ok (.goto 20, 3) := dk_167 0 20 (dk_at dksX6_salted_2 16 rfl rfl)
theorem dX6_salted_66 : decode cX6_salted 66 = .ok (.aload_n 0, 1) := dk_42 (dk_at dksX6_salted_2 19 rfl rfl)
theorem dX6_salted_67 : decode cX6_salted 67 = .ok (.iload_n 3, 1) := dk_29 (dk_at dksX6_salted_2 20 rfl rfl)
theorem dX6_salted_68 : decode cX6_salted 68 = .ok (.invokevirtual 426, 3) := dk_182 1 170 (dk_at dksX6_salted_2 21 rfl rfl)
theorem dX6_salted_71 : decode cX6_salted 71 = .ok (.iload_n 1, 1) := dk_27 (dk_at dksX6_salted_3 0 rfl rfl)
theorem dX6_salted_72 : decode cX6_salted 72 = .ok (.iand, 1) := dk_126 (dk_at dksX6_salted_3 1 rfl rfl)
theorem dX6_salted_73 : decode cX6_salted 73 = .ok (.iload_n 1, 1) := dk_27 (dk_at dksX6_salted_3 2 rfl rfl)
theorem dX6_salted_74 : decode cX6_salted 74 = .ok (.if_icmp .ne 7, 3) := dk_160 0 7 (dk_at dksX6_salted_3 3 rfl rfl)
theorem dX6_salted_77 : decode cX6_salted 77 = .ok (.iload_n 3, 1) := dk_29 (dk_at dksX6_salted_3 6 rfl rfl)
theorem dX6_salted_78 : decode cX6_salted 78 = .ok (.goto 4, 3) := dk_167 0 4 (dk_at dksX6_salted_3 7 rfl rfl)
theorem dX6_salted_81 : decode cX6_salted 81 = .ok (.iload_n 2, 1) := dk_28 (dk_at dksX6_salted_3 10 rfl rfl)
theorem dX6_salted_82 : decode cX6_salted 82 = .ok (.istore_n 2, 1) := dk_61 (dk_at dksX6_salted_3 11 rfl rfl)
theorem dX6_salted_83 : decode cX6_salted 83 = .ok (.iinc 3 1, 3) := dk_132 3 1 (dk_at dksX6_salted_3 12 rfl rfl)
theorem dX6_salted_86 : decode cX6_salted 86 = .ok (.goto (-53), 3) := dk_167 255 203 (dk_at dksX6_salted_3 15 rfl rfl)
theorem dX6_salted_89 : decode cX6_salted 89 = .ok (.iload_n 2, 1) := dk_28 (dk_at dksX6_salted_3 18 rfl rfl)
theorem dX6_salted_90 : decode cX6_salted 90 = .ok (.ireturn, 1) := dk_172 (dk_at dksX6_salted_3 19 rfl rfl)
abbrev cX6_goesSalted : ByteArray := prog_19_method_117_code
def yX6_goesSalted : MethodName := ⟨RX6, "goesSalted", "(I)I"⟩
def dkwX6_goesSalted_4 : List UInt8 := [132, 2, 1, 167, 255, 218, 42, 42, 180, 0, 23, 8, 46, 182, 1, 116, 172]
abbrev dktX6_goesSalted_4 : List UInt8 := dkwX6_goesSalted_4 ++ []
def dkwX6_goesSalted_3 : List UInt8 := [180, 0, 77, 42, 180, 1, 101, 42, 180, 0, 54, 28, 46, 79, 42, 89, 180, 1, 101, 4, 96, 181, 1, 101]
abbrev dktX6_goesSalted_3 : List UInt8 := dkwX6_goesSalted_3 ++ dktX6_goesSalted_4
def dkwX6_goesSalted_2 : List UInt8 := [4, 96, 181, 1, 101, 132, 2, 1, 167, 255, 209, 3, 61, 28, 42, 180, 0, 23, 4, 46, 162, 0, 34, 42]
abbrev dktX6_goesSalted_2 : List UInt8 := dkwX6_goesSalted_2 ++ dktX6_goesSalted_3
def dkwX6_goesSalted_1 : List UInt8 := [154, 0, 6, 167, 0, 26, 42, 180, 0, 77, 42, 180, 1, 101, 16, 12, 28, 96, 79, 42, 89, 180, 1, 101]
abbrev dktX6_goesSalted_1 : List UInt8 := dkwX6_goesSalted_1 ++ dktX6_goesSalted_2
def dkwX6_goesSalted_0 : List UInt8 := [42, 3, 181, 1, 101, 3, 61, 28, 42, 180, 0, 23, 6, 46, 162, 0, 43, 27, 28, 122, 4, 126]
abbrev dktX6_goesSalted_0 : List UInt8 := dkwX6_goesSalted_0 ++ dktX6_goesSalted_1
theorem dksX6_goesSalted_0 : cX6_goesSalted.data.toList.drop 0 = dktX6_goesSalted_0 := by decide +kernel
theorem dksX6_goesSalted_1 : cX6_goesSalted.data.toList.drop 22 = dktX6_goesSalted_1 := dk_seg dksX6_goesSalted_0 22 rfl rfl
theorem dksX6_goesSalted_2 : cX6_goesSalted.data.toList.drop 46 = dktX6_goesSalted_2 := dk_seg dksX6_goesSalted_1 24 rfl rfl
theorem dksX6_goesSalted_3 : cX6_goesSalted.data.toList.drop 70 = dktX6_goesSalted_3 := dk_seg dksX6_goesSalted_2 24 rfl rfl
theorem dksX6_goesSalted_4 : cX6_goesSalted.data.toList.drop 94 = dktX6_goesSalted_4 := dk_seg dksX6_goesSalted_3 24 rfl rfl
theorem dX6_goesSalted_0 : decode cX6_goesSalted 0 = .ok (.aload_n 0, 1) := dk_42 (dk_at dksX6_goesSalted_0 0 rfl rfl)
theorem dX6_goesSalted_1 : decode cX6_goesSalted 1 = .ok (.iconst 0, 1) := dk_3 (dk_at dksX6_goesSalted_0 1 rfl rfl)
theorem dX6_goesSalted_2 : decode cX6_goesSalted 2 = .ok (.putfield 357, 3) := dk_181 1 101 (dk_at dksX6_goesSalted_0 2 rfl rfl)
theorem dX6_goesSalted_5 : decode cX6_goesSalted 5 = .ok (.iconst 0, 1) := dk_3 (dk_at dksX6_goesSalted_0 5 rfl rfl)
theorem dX6_goesSalted_6 : decode cX6_goesSalted 6 = .ok (.istore_n 2, 1) := dk_61 (dk_at dksX6_goesSalted_0 6 rfl rfl)
theorem dX6_goesSalted_7 : decode cX6_goesSalted 7 = .ok (.iload_n 2, 1) := dk_28 (dk_at dksX6_goesSalted_0 7 rfl rfl)
theorem dX6_goesSalted_8 : decode cX6_goesSalted 8 = .ok (.aload_n 0, 1) := dk_42 (dk_at dksX6_goesSalted_0 8 rfl rfl)
theorem dX6_goesSalted_9 : decode cX6_goesSalted 9 = .ok (.getfield 23, 3) := dk_180 0 23 (dk_at dksX6_goesSalted_0 9 rfl rfl)
theorem dX6_goesSalted_12 : decode cX6_goesSalted 12 = .ok (.iconst 3, 1) := dk_6 (dk_at dksX6_goesSalted_0 12 rfl rfl)
theorem dX6_goesSalted_13 : decode cX6_goesSalted 13 = .ok (.iaload, 1) := dk_46 (dk_at dksX6_goesSalted_0 13 rfl rfl)
theorem dX6_goesSalted_14 : decode cX6_goesSalted 14 = .ok (.if_icmp .ge 43, 3) := dk_162 0 43 (dk_at dksX6_goesSalted_0 14 rfl rfl)
theorem dX6_goesSalted_17 : decode cX6_goesSalted 17 = .ok (.iload_n 1, 1) := dk_27 (dk_at dksX6_goesSalted_0 17 rfl rfl)
theorem dX6_goesSalted_18 : decode cX6_goesSalted 18 = .ok (.iload_n 2, 1) := dk_28 (dk_at dksX6_goesSalted_0 18 rfl rfl)
theorem dX6_goesSalted_19 : decode cX6_goesSalted 19 = .ok (.ishr, 1) := dk_122 (dk_at dksX6_goesSalted_0 19 rfl rfl)
theorem dX6_goesSalted_20 : decode cX6_goesSalted 20 = .ok (.iconst 1, 1) := dk_4 (dk_at dksX6_goesSalted_0 20 rfl rfl)
theorem dX6_goesSalted_21 : decode cX6_goesSalted 21 = .ok (.iand, 1) := dk_126 (dk_at dksX6_goesSalted_0 21 rfl rfl)
theorem dX6_goesSalted_22 : decode cX6_goesSalted 22 = .ok (.ifCond .ne 6, 3) := dk_154 0 6 (dk_at dksX6_goesSalted_1 0 rfl rfl)
theorem dX6_goesSalted_25 : decode cX6_goesSalted 25 = .ok (.goto 26, 3) := dk_167 0 26 (dk_at dksX6_goesSalted_1 3 rfl rfl)
theorem dX6_goesSalted_28 : decode cX6_goesSalted 28 = .ok (.aload_n 0, 1) := dk_42 (dk_at dksX6_goesSalted_1 6 rfl rfl)
theorem dX6_goesSalted_29 : decode cX6_goesSalted 29 = .ok (.getfield 77, 3) := dk_180 0 77 (dk_at dksX6_goesSalted_1 7 rfl rfl)
theorem dX6_goesSalted_32 : decode cX6_goesSalted 32 = .ok (.aload_n 0, 1) := dk_42 (dk_at dksX6_goesSalted_1 10 rfl rfl)
theorem dX6_goesSalted_33 : decode cX6_goesSalted 33 = .ok (.getfield 357, 3) := dk_180 1 101 (dk_at dksX6_goesSalted_1 11 rfl rfl)
theorem dX6_goesSalted_36 : decode cX6_goesSalted 36 = .ok (.bipush 12, 2) := dk_16 12 (dk_at dksX6_goesSalted_1 14 rfl rfl)
theorem dX6_goesSalted_38 : decode cX6_goesSalted 38 = .ok (.iload_n 2, 1) := dk_28 (dk_at dksX6_goesSalted_1 16 rfl rfl)
theorem dX6_goesSalted_39 : decode cX6_goesSalted 39 = .ok (.iadd, 1) := dk_96 (dk_at dksX6_goesSalted_1 17 rfl rfl)
theorem dX6_goesSalted_40 : decode cX6_goesSalted 40 = .ok (.iastore, 1) := dk_79 (dk_at dksX6_goesSalted_1 18 rfl rfl)
theorem dX6_goesSalted_41 : decode cX6_goesSalted 41 = .ok (.aload_n 0, 1) := dk_42 (dk_at dksX6_goesSalted_1 19 rfl rfl)
theorem dX6_goesSalted_42 : decode cX6_goesSalted 42 = .ok (.dup, 1) := dk_89 (dk_at dksX6_goesSalted_1 20 rfl rfl)
theorem dX6_goesSalted_43 : decode cX6_goesSalted 43 = .ok (.getfield 357, 3) := dk_180 1 101 (dk_at dksX6_goesSalted_1 21 rfl rfl)
theorem dX6_goesSalted_46 : decode cX6_goesSalted 46 = .ok (.iconst 1, 1) := dk_4 (dk_at dksX6_goesSalted_2 0 rfl rfl)
theorem dX6_goesSalted_47 : decode cX6_goesSalted 47 = .ok (.iadd, 1) := dk_96 (dk_at dksX6_goesSalted_2 1 rfl rfl)
theorem dX6_goesSalted_48 : decode cX6_goesSalted 48 = .ok (.putfield 357, 3) := dk_181 1 101 (dk_at dksX6_goesSalted_2 2 rfl rfl)
theorem dX6_goesSalted_51 : decode cX6_goesSalted 51 = .ok (.iinc 2 1, 3) := dk_132 2 1 (dk_at dksX6_goesSalted_2 5 rfl rfl)
theorem dX6_goesSalted_54 : decode cX6_goesSalted 54 = .ok (.goto (-47), 3) := dk_167 255 209 (dk_at dksX6_goesSalted_2 8 rfl rfl)
theorem dX6_goesSalted_57 : decode cX6_goesSalted 57 = .ok (.iconst 0, 1) := dk_3 (dk_at dksX6_goesSalted_2 11 rfl rfl)
theorem dX6_goesSalted_58 : decode cX6_goesSalted 58 = .ok (.istore_n 2, 1) := dk_61 (dk_at dksX6_goesSalted_2 12 rfl rfl)
theorem dX6_goesSalted_59 : decode cX6_goesSalted 59 = .ok (.iload_n 2, 1) := dk_28 (dk_at dksX6_goesSalted_2 13 rfl rfl)
theorem dX6_goesSalted_60 : decode cX6_goesSalted 60 = .ok (.aload_n 0, 1) := dk_42 (dk_at dksX6_goesSalted_2 14 rfl rfl)
theorem dX6_goesSalted_61 : decode cX6_goesSalted 61 = .ok (.getfield 23, 3) := dk_180 0 23 (dk_at dksX6_goesSalted_2 15 rfl rfl)
theorem dX6_goesSalted_64 : decode cX6_goesSalted 64 = .ok (.iconst 1, 1) := dk_4 (dk_at dksX6_goesSalted_2 18 rfl rfl)
theorem dX6_goesSalted_65 : decode cX6_goesSalted 65 = .ok (.iaload, 1) := dk_46 (dk_at dksX6_goesSalted_2 19 rfl rfl)
theorem dX6_goesSalted_66 : decode cX6_goesSalted 66 = .ok (.if_icmp .ge 34, 3) := dk_162 0 34 (dk_at dksX6_goesSalted_2 20 rfl rfl)
theorem dX6_goesSalted_69 : decode cX6_goesSalted 69 = .ok (.aload_n 0, 1) := dk_42 (dk_at dksX6_goesSalted_2 23 rfl rfl)
theorem dX6_goesSalted_70 : decode cX6_goesSalted 70 = .ok (.getfield 77, 3) := dk_180 0 77 (dk_at dksX6_goesSalted_3 0 rfl rfl)
theorem dX6_goesSalted_73 : decode cX6_goesSalted 73 = .ok (.aload_n 0, 1) := dk_42 (dk_at dksX6_goesSalted_3 3 rfl rfl)
theorem dX6_goesSalted_74 : decode cX6_goesSalted 74 = .ok (.getfield 357, 3) := dk_180 1 101 (dk_at dksX6_goesSalted_3 4 rfl rfl)
theorem dX6_goesSalted_77 : decode cX6_goesSalted 77 = .ok (.aload_n 0, 1) := dk_42 (dk_at dksX6_goesSalted_3 7 rfl rfl)
theorem dX6_goesSalted_78 : decode cX6_goesSalted 78 = .ok (.getfield 54, 3) := dk_180 0 54 (dk_at dksX6_goesSalted_3 8 rfl rfl)
theorem dX6_goesSalted_81 : decode cX6_goesSalted 81 = .ok (.iload_n 2, 1) := dk_28 (dk_at dksX6_goesSalted_3 11 rfl rfl)
theorem dX6_goesSalted_82 : decode cX6_goesSalted 82 = .ok (.iaload, 1) := dk_46 (dk_at dksX6_goesSalted_3 12 rfl rfl)
theorem dX6_goesSalted_83 : decode cX6_goesSalted 83 = .ok (.iastore, 1) := dk_79 (dk_at dksX6_goesSalted_3 13 rfl rfl)
theorem dX6_goesSalted_84 : decode cX6_goesSalted 84 = .ok (.aload_n 0, 1) := dk_42 (dk_at dksX6_goesSalted_3 14 rfl rfl)
theorem dX6_goesSalted_85 : decode cX6_goesSalted 85 = .ok (.dup, 1) := dk_89 (dk_at dksX6_goesSalted_3 15 rfl rfl)
theorem dX6_goesSalted_86 : decode cX6_goesSalted 86 = .ok (.getfield 357, 3) := dk_180 1 101 (dk_at dksX6_goesSalted_3 16 rfl rfl)
theorem dX6_goesSalted_89 : decode cX6_goesSalted 89 = .ok (.iconst 1, 1) := dk_4 (dk_at dksX6_goesSalted_3 19 rfl rfl)
theorem dX6_goesSalted_90 : decode cX6_goesSalted 90 = .ok (.iadd, 1) := dk_96 (dk_at dksX6_goesSalted_3 20 rfl rfl)
theorem dX6_goesSalted_91 : decode cX6_goesSalted 91 = .ok (.putfield 357, 3) := dk_181 1 101 (dk_at dksX6_goesSalted_3 21 rfl rfl)
theorem dX6_goesSalted_94 : decode cX6_goesSalted 94 = .ok (.iinc 2 1, 3) := dk_132 2 1 (dk_at dksX6_goesSalted_4 0 rfl rfl)
theorem dX6_goesSalted_97 : decode cX6_goesSalted 97 = .ok (.goto (-38), 3) := dk_167 255 218 (dk_at dksX6_goesSalted_4 3 rfl rfl)
theorem dX6_goesSalted_100 : decode cX6_goesSalted 100 = .ok (.aload_n 0, 1) := dk_42 (dk_at dksX6_goesSalted_4 6 rfl rfl)
theorem dX6_goesSalted_101 : decode cX6_goesSalted 101 = .ok (.aload_n 0, 1) := dk_42 (dk_at dksX6_goesSalted_4 7 rfl rfl)
theorem dX6_goesSalted_102 : decode cX6_goesSalted 102 = .ok (.getfield 23, 3) := dk_180 0 23 (dk_at dksX6_goesSalted_4 8 rfl rfl)
theorem dX6_goesSalted_105 : decode cX6_goesSalted 105 = .ok (.iconst 5, 1) := dk_8 (dk_at dksX6_goesSalted_4 11 rfl rfl)
theorem dX6_goesSalted_106 : decode cX6_goesSalted 106 = .ok (.iaload, 1) := dk_46 (dk_at dksX6_goesSalted_4 12 rfl rfl)
theorem dX6_goesSalted_107 : decode cX6_goesSalted 107 = .ok (.invokevirtual 372, 3) := dk_182 1 116 (dk_at dksX6_goesSalted_4 13 rfl rfl)
theorem dX6_goesSalted_110 : decode cX6_goesSalted 110 = .ok (.ireturn, 1) := dk_172 (dk_at dksX6_goesSalted_4 16 rfl rfl)
abbrev cX6_salty : ByteArray := prog_19_method_119_code
def yX6_salty : MethodName := ⟨RX6, "salty", "(I)I"⟩
def dkwX6_salty_1 : List UInt8 := [4, 167, 0, 4, 3, 4, 4, 182, 0, 233, 153, 0, 5, 3, 172, 42, 27, 182, 1, 170, 172]
abbrev dktX6_salty_1 : List UInt8 := dkwX6_salty_1 ++ []
def dkwX6_salty_0 : List UInt8 := [42, 3, 181, 0, 132, 42, 27, 3, 4, 42, 180, 0, 23, 6, 46, 120, 4, 100, 184, 0, 166, 154, 0, 7]
abbrev dktX6_salty_0 : List UInt8 := dkwX6_salty_0 ++ dktX6_salty_1
theorem dksX6_salty_0 : cX6_salty.data.toList.drop 0 = dktX6_salty_0 := by decide +kernel
theorem dksX6_salty_1 : cX6_salty.data.toList.drop 24 = dktX6_salty_1 := dk_seg dksX6_salty_0 24 rfl rfl
theorem dX6_salty_0 : decode cX6_salty 0 = .ok (.aload_n 0, 1) := dk_42 (dk_at dksX6_salty_0 0 rfl rfl)
theorem dX6_salty_1 : decode cX6_salty 1 = .ok (.iconst 0, 1) := dk_3 (dk_at dksX6_salty_0 1 rfl rfl)
theorem dX6_salty_2 : decode cX6_salty 2 = .ok (.putfield 132, 3) := dk_181 0 132 (dk_at dksX6_salty_0 2 rfl rfl)
theorem dX6_salty_5 : decode cX6_salty 5 = .ok (.aload_n 0, 1) := dk_42 (dk_at dksX6_salty_0 5 rfl rfl)
theorem dX6_salty_6 : decode cX6_salty 6 = .ok (.iload_n 1, 1) := dk_27 (dk_at dksX6_salty_0 6 rfl rfl)
theorem dX6_salty_7 : decode cX6_salty 7 = .ok (.iconst 0, 1) := dk_3 (dk_at dksX6_salty_0 7 rfl rfl)
theorem dX6_salty_8 : decode cX6_salty 8 = .ok (.iconst 1, 1) := dk_4 (dk_at dksX6_salty_0 8 rfl rfl)
theorem dX6_salty_9 : decode cX6_salty 9 = .ok (.aload_n 0, 1) := dk_42 (dk_at dksX6_salty_0 9 rfl rfl)
theorem dX6_salty_10 : decode cX6_salty 10 = .ok (.getfield 23, 3) := dk_180 0 23 (dk_at dksX6_salty_0 10 rfl rfl)
theorem dX6_salty_13 : decode cX6_salty 13 = .ok (.iconst 3, 1) := dk_6 (dk_at dksX6_salty_0 13 rfl rfl)
theorem dX6_salty_14 : decode cX6_salty 14 = .ok (.iaload, 1) := dk_46 (dk_at dksX6_salty_0 14 rfl rfl)
theorem dX6_salty_15 : decode cX6_salty 15 = .ok (.ishl, 1) := dk_120 (dk_at dksX6_salty_0 15 rfl rfl)
theorem dX6_salty_16 : decode cX6_salty 16 = .ok (.iconst 1, 1) := dk_4 (dk_at dksX6_salty_0 16 rfl rfl)
theorem dX6_salty_17 : decode cX6_salty 17 = .ok (.isub, 1) := dk_100 (dk_at dksX6_salty_0 17 rfl rfl)
theorem dX6_salty_18 : decode cX6_salty 18 = .ok (.invokestatic 166, 3) := dk_184 0 166 (dk_at dksX6_salty_0 18 rfl rfl)
theorem dX6_salty_21 : decode cX6_salty 21 = .ok (.ifCond .ne 7, 3) := dk_154 0 7 (dk_at dksX6_salty_0 21 rfl rfl)
theorem dX6_salty_24 : decode cX6_salty 24 = .ok (.iconst 1, 1) := dk_4 (dk_at dksX6_salty_1 0 rfl rfl)
theorem dX6_salty_25 : decode cX6_salty 25 = .ok (.goto 4, 3) := dk_167 0 4 (dk_at dksX6_salty_1 1 rfl rfl)
theorem dX6_salty_28 : decode cX6_salty 28 = .ok (.iconst 0, 1) := dk_3 (dk_at dksX6_salty_1 4 rfl rfl)
theorem dX6_salty_29 : decode cX6_salty 29 = .ok (.iconst 1, 1) := dk_4 (dk_at dksX6_salty_1 5 rfl rfl)
theorem dX6_salty_30 : decode cX6_salty 30 = .ok (.iconst 1, 1) := dk_4 (dk_at dksX6_salty_1 6 rfl rfl)
theorem dX6_salty_31 : decode cX6_salty 31 = .ok (.invokevirtual 233, 3) := dk_182 0 233 (dk_at dksX6_salty_1 7 rfl rfl)
theorem dX6_salty_34 : decode cX6_salty 34 = .ok (.ifCond .eq 5, 3) := dk_153 0 5 (dk_at dksX6_salty_1 10 rfl rfl)
theorem dX6_salty_37 : decode cX6_salty 37 = .ok (.iconst 0, 1) := dk_3 (dk_at dksX6_salty_1 13 rfl rfl)
theorem dX6_salty_38 : decode cX6_salty 38 = .ok (.ireturn, 1) := dk_172 (dk_at dksX6_salty_1 14 rfl rfl)
theorem dX6_salty_39 : decode cX6_salty 39 = .ok (.aload_n 0, 1) := dk_42 (dk_at dksX6_salty_1 15 rfl rfl)
theorem dX6_salty_40 : decode cX6_salty 40 = .ok (.iload_n 1, 1) := dk_27 (dk_at dksX6_salty_1 16 rfl rfl)
theorem dX6_salty_41 : decode cX6_salty 41 = .ok (.invokevirtual 426, 3) := dk_182 1 170 (dk_at dksX6_salty_1 17 rfl rfl)
theorem dX6_salty_44 : decode cX6_salty 44 = .ok (.ireturn, 1) := dk_172 (dk_at dksX6_salty_1 20 rfl rfl)
abbrev cX6_school : ByteArray := prog_19_method_122_code
def yX6_school : MethodName := ⟨RX6, "school", "(II)I"⟩
def dkwX6_school_1 : List UInt8 := [3, 4, 4, 182, 0, 233, 153, 0, 5, 3, 172, 42, 182, 1, 176, 42, 180, 0, 120, 27, 50, 28, 46, 172]
abbrev dktX6_school_1 : List UInt8 := dkwX6_school_1 ++ []
def dkwX6_school_0 : List UInt8 := [42, 3, 181, 0, 132, 42, 27, 184, 1, 173, 153, 0, 10, 28, 184, 1, 50, 154, 0, 7, 4, 167, 0, 4]
abbrev dktX6_school_0 : List UInt8 := dkwX6_school_0 ++ dktX6_school_1
theorem dksX6_school_0 : cX6_school.data.toList.drop 0 = dktX6_school_0 := by decide +kernel
theorem dksX6_school_1 : cX6_school.data.toList.drop 24 = dktX6_school_1 := dk_seg dksX6_school_0 24 rfl rfl
theorem dX6_school_0 : decode cX6_school 0 = .ok (.aload_n 0, 1) := dk_42 (dk_at dksX6_school_0 0 rfl rfl)
theorem dX6_school_1 : decode cX6_school 1 = .ok (.iconst 0, 1) := dk_3 (dk_at dksX6_school_0 1 rfl rfl)
theorem dX6_school_2 : decode cX6_school 2 = .ok (.putfield 132, 3) := dk_181 0 132 (dk_at dksX6_school_0 2 rfl rfl)
theorem dX6_school_5 : decode cX6_school 5 = .ok (.aload_n 0, 1) := dk_42 (dk_at dksX6_school_0 5 rfl rfl)
theorem dX6_school_6 : decode cX6_school 6 = .ok (.iload_n 1, 1) := dk_27 (dk_at dksX6_school_0 6 rfl rfl)
theorem dX6_school_7 : decode cX6_school 7 = .ok (.invokestatic 429, 3) := dk_184 1 173 (dk_at dksX6_school_0 7 rfl rfl)
theorem dX6_school_10 : decode cX6_school 10 = .ok (.ifCond .eq 10, 3) := dk_153 0 10 (dk_at dksX6_school_0 10 rfl rfl)
theorem dX6_school_13 : decode cX6_school 13 = .ok (.iload_n 2, 1) := dk_28 (dk_at dksX6_school_0 13 rfl rfl)
theorem dX6_school_14 : decode cX6_school 14 = .ok (.invokestatic 306, 3) := dk_184 1 50 (dk_at dksX6_school_0 14 rfl rfl)
theorem dX6_school_17 : decode cX6_school 17 = .ok (.ifCond .ne 7, 3) := dk_154 0 7 (dk_at dksX6_school_0 17 rfl rfl)
theorem dX6_school_20 : decode cX6_school 20 = .ok (.iconst 1, 1) := dk_4 (dk_at dksX6_school_0 20 rfl rfl)
theorem dX6_school_21 : decode cX6_school 21 = .ok (.goto 4, 3) := dk_167 0 4 (dk_at dksX6_school_0 21 rfl rfl)
theorem dX6_school_24 : decode cX6_school 24 = .ok (.iconst 0, 1) := dk_3 (dk_at dksX6_school_1 0 rfl rfl)
theorem dX6_school_25 : decode cX6_school 25 = .ok (.iconst 1, 1) := dk_4 (dk_at dksX6_school_1 1 rfl rfl)
theorem dX6_school_26 : decode cX6_school 26 = .ok (.iconst 1, 1) := dk_4 (dk_at dksX6_school_1 2 rfl rfl)
theorem dX6_school_27 : decode cX6_school 27 = .ok (.invokevirtual 233, 3) := dk_182 0 233 (dk_at dksX6_school_1 3 rfl rfl)
theorem dX6_school_30 : decode cX6_school 30 = .ok (.ifCond .eq 5, 3) := dk_153 0 5 (dk_at dksX6_school_1 6 rfl rfl)
theorem dX6_school_33 : decode cX6_school 33 = .ok (.iconst 0, 1) := dk_3 (dk_at dksX6_school_1 9 rfl rfl)
theorem dX6_school_34 : decode cX6_school 34 = .ok (.ireturn, 1) := dk_172 (dk_at dksX6_school_1 10 rfl rfl)
theorem dX6_school_35 : decode cX6_school 35 = .ok (.aload_n 0, 1) := dk_42 (dk_at dksX6_school_1 11 rfl rfl)
theorem dX6_school_36 : decode cX6_school 36 = .ok (.invokevirtual 432, 3) := dk_182 1 176 (dk_at dksX6_school_1 12 rfl rfl)
theorem dX6_school_39 : decode cX6_school 39 = .ok (.aload_n 0, 1) := dk_42 (dk_at dksX6_school_1 15 rfl rfl)
theorem dX6_school_40 : decode cX6_school 40 = .ok (.getfield 120, 3) := dk_180 0 120 (dk_at dksX6_school_1 16 rfl rfl)
theorem dX6_school_43 : decode cX6_school 43 = .ok (.iload_n 1, 1) := dk_27 (dk_at dksX6_school_1 19 rfl rfl)
theorem dX6_school_44 : decode cX6_school 44 = .ok (.aaload, 1) := dk_50 (dk_at dksX6_school_1 20 rfl rfl)
theorem dX6_school_45 : decode cX6_school 45 = .ok (.iload_n 2, 1) := dk_28 (dk_at dksX6_school_1 21 rfl rfl)
theorem dX6_school_46 : decode cX6_school 46 = .ok (.iaload, 1) := dk_46 (dk_at dksX6_school_1 22 rfl rfl)
theorem dX6_school_47 : decode cX6_school 47 = .ok (.ireturn, 1) := dk_172 (dk_at dksX6_school_1 23 rfl rfl)
abbrev cX6_isSchool : ByteArray := prog_19_method_121_code
def yX6_isSchool : MethodName := ⟨RX6, "isSchool", "(I)Z"⟩
def dkwX6_isSchool_0 : List UInt8 := [26, 3, 4, 184, 0, 166, 172]
abbrev dktX6_isSchool_0 : List UInt8 := dkwX6_isSchool_0 ++ []
theorem dksX6_isSchool_0 : cX6_isSchool.data.toList.drop 0 = dktX6_isSchool_0 := by decide +kernel
theorem dX6_isSchool_0 : decode cX6_isSchool 0 = .ok (.iload_n 0, 1) := dk_26 (dk_at dksX6_isSchool_0 0 rfl rfl)
theorem dX6_isSchool_1 : decode cX6_isSchool 1 = .ok (.iconst 0, 1) := dk_3 (dk_at dksX6_isSchool_0 1 rfl rfl)
theorem dX6_isSchool_2 : decode cX6_isSchool 2 = .ok (.iconst 1, 1) := dk_4 (dk_at dksX6_isSchool_0 2 rfl rfl)
theorem dX6_isSchool_3 : decode cX6_isSchool 3 = .ok (.invokestatic 166, 3) := dk_184 0 166 (dk_at dksX6_isSchool_0 3 rfl rfl)
theorem dX6_isSchool_6 : decode cX6_isSchool 6 = .ok (.ireturn, 1) := dk_172 (dk_at dksX6_isSchool_0 6 rfl rfl)
abbrev cX6_schools : ByteArray := prog_19_method_120_code
def yX6_schools : MethodName := ⟨RX6, "schools", "()V"⟩
def dkwX6_schools_3 : List UInt8 := [28, 42, 182, 1, 110, 79, 132, 2, 1, 167, 255, 198, 132, 1, 1, 167, 255, 175, 177]
abbrev dktX6_schools_3 : List UInt8 := dkwX6_schools_3 ++ []
def dkwX6_schools_2 : List UInt8 := [160, 0, 14, 42, 42, 180, 0, 54, 28, 46, 28, 182, 1, 104, 42, 182, 1, 107, 42, 180, 0, 120, 27, 50]
abbrev dktX6_schools_2 : List UInt8 := dkwX6_schools_2 ++ dktX6_schools_3
def dkwX6_schools_1 : List UInt8 := [162, 0, 58, 42, 28, 182, 1, 98, 28, 42, 180, 0, 23, 4, 46, 162, 0, 21, 28, 5, 112, 27]
abbrev dktX6_schools_1 : List UInt8 := dkwX6_schools_1 ++ dktX6_schools_2
def dkwX6_schools_0 : List UInt8 := [3, 60, 27, 5, 162, 0, 82, 42, 42, 180, 0, 23, 8, 46, 182, 1, 95, 3, 61, 28, 16, 52]
abbrev dktX6_schools_0 : List UInt8 := dkwX6_schools_0 ++ dktX6_schools_1
theorem dksX6_schools_0 : cX6_schools.data.toList.drop 0 = dktX6_schools_0 := by decide +kernel
theorem dksX6_schools_1 : cX6_schools.data.toList.drop 22 = dktX6_schools_1 := dk_seg dksX6_schools_0 22 rfl rfl
theorem dksX6_schools_2 : cX6_schools.data.toList.drop 44 = dktX6_schools_2 := dk_seg dksX6_schools_1 22 rfl rfl
theorem dksX6_schools_3 : cX6_schools.data.toList.drop 68 = dktX6_schools_3 := dk_seg dksX6_schools_2 24 rfl rfl
theorem dX6_schools_0 : decode cX6_schools 0 = .ok (.iconst 0, 1) := dk_3 (dk_at dksX6_schools_0 0 rfl rfl)
theorem dX6_schools_1 : decode cX6_schools 1 = .ok (.istore_n 1, 1) := dk_60 (dk_at dksX6_schools_0 1 rfl rfl)
theorem dX6_schools_2 : decode cX6_schools 2 = .ok (.iload_n 1, 1) := dk_27 (dk_at dksX6_schools_0 2 rfl rfl)
theorem dX6_schools_3 : decode cX6_schools 3 = .ok (.iconst 2, 1) := dk_5 (dk_at dksX6_schools_0 3 rfl rfl)
theorem dX6_schools_4 : decode cX6_schools 4 = .ok (.if_icmp .ge 82, 3) := dk_162 0 82 (dk_at dksX6_schools_0 4 rfl rfl)
theorem dX6_schools_7 : decode cX6_schools 7 = .ok (.aload_n 0, 1) := dk_42 (dk_at dksX6_schools_0 7 rfl rfl)
theorem dX6_schools_8 : decode cX6_schools 8 = .ok (.aload_n 0, 1) := dk_42 (dk_at dksX6_schools_0 8 rfl rfl)
theorem dX6_schools_9 : decode cX6_schools 9 = .ok (.getfield 23, 3) := dk_180 0 23 (dk_at dksX6_schools_0 9 rfl rfl)
theorem dX6_schools_12 : decode cX6_schools 12 = .ok (.iconst 5, 1) := dk_8 (dk_at dksX6_schools_0 12 rfl rfl)
theorem dX6_schools_13 : decode cX6_schools 13 = .ok (.iaload, 1) := dk_46 (dk_at dksX6_schools_0 13 rfl rfl)
theorem dX6_schools_14 : decode cX6_schools 14 = .ok (.invokevirtual 351, 3) := dk_182 1 95 (dk_at dksX6_schools_0 14 rfl rfl)
theorem dX6_schools_17 : decode cX6_schools 17 = .ok (.iconst 0, 1) := dk_3 (dk_at dksX6_schools_0 17 rfl rfl)
theorem dX6_schools_18 : decode cX6_schools 18 = .ok (.istore_n 2, 1) := dk_61 (dk_at dksX6_schools_0 18 rfl rfl)
theorem dX6_schools_19 : decode cX6_schools 19 = .ok (.iload_n 2, 1) := dk_28 (dk_at dksX6_schools_0 19 rfl rfl)
theorem dX6_schools_20 : decode cX6_schools 20 = .ok (.bipush 52, 2) := dk_16 52 (dk_at dksX6_schools_0 20 rfl rfl)
theorem dX6_schools_22 : decode cX6_schools 22 = .ok (.if_icmp .ge 58, 3) := dk_162 0 58 (dk_at dksX6_schools_1 0 rfl rfl)
theorem dX6_schools_25 : decode cX6_schools 25 = .ok (.aload_n 0, 1) := dk_42 (dk_at dksX6_schools_1 3 rfl rfl)
theorem dX6_schools_26 : decode cX6_schools 26 = .ok (.iload_n 2, 1) := dk_28 (dk_at dksX6_schools_1 4 rfl rfl)
theorem dX6_schools_27 : decode cX6_schools 27 = .ok (.invokevirtual 354, 3) := dk_182 1 98 (dk_at dksX6_schools_1 5 rfl rfl)
theorem dX6_schools_30 : decode cX6_schools 30 = .ok (.iload_n 2, 1) := dk_28 (dk_at dksX6_schools_1 8 rfl rfl)
theorem dX6_schools_31 : decode cX6_schools 31 = .ok (.aload_n 0, 1) := dk_42 (dk_at dksX6_schools_1 9 rfl rfl)
theorem dX6_schools_32 : decode cX6_schools 32 = .ok (.getfield 23, 3) := dk_180 0 23 (dk_at dksX6_schools_1 10 rfl rfl)
theorem dX6_schools_35 : decode cX6_schools 35 = .ok (.iconst 1, 1) := dk_4 (dk_at dksX6_schools_1 13 rfl rfl)
theorem dX6_schools_36 : decode cX6_schools 36 = .ok (.iaload, 1) := dk_46 (dk_at dksX6_schools_1 14 rfl rfl)
theorem dX6_schools_37 : decode cX6_schools 37 = .ok (.if_icmp .ge 21, 3) := dk_162 0 21 (dk_at dksX6_schools_1 15 rfl rfl)
theorem dX6_schools_40 : decode cX6_schools 40 = .ok (.iload_n 2, 1) := dk_28 (dk_at dksX6_schools_1 18 rfl rfl)
theorem dX6_schools_41 : decode cX6_schools 41 = .ok (.iconst 2, 1) := dk_5 (dk_at dksX6_schools_1 19 rfl rfl)
theorem dX6_schools_42 : decode cX6_schools 42 = .ok (.irem, 1) := dk_112 (dk_at dksX6_schools_1 20 rfl rfl)
theorem dX6_schools_43 : decode cX6_schools 43 = .ok (.iload_n 1, 1) := dk_27 (dk_at dksX6_schools_1 21 rfl rfl)
theorem dX6_schools_44 : decode cX6_schools 44 = .ok (.if_icmp .ne 14, 3) := dk_160 0 14 (dk_at dksX6_schools_2 0 rfl rfl)
theorem dX6_schools_47 : decode cX6_schools 47 = .ok (.aload_n 0, 1) := dk_42 (dk_at dksX6_schools_2 3 rfl rfl)
theorem dX6_schools_48 : decode cX6_schools 48 = .ok (.aload_n 0, 1) := dk_42 (dk_at dksX6_schools_2 4 rfl rfl)
theorem dX6_schools_49 : decode cX6_schools 49 = .ok (.getfield 54, 3) := dk_180 0 54 (dk_at dksX6_schools_2 5 rfl rfl)
theorem dX6_schools_52 : decode cX6_schools 52 = .ok (.iload_n 2, 1) := dk_28 (dk_at dksX6_schools_2 8 rfl rfl)
theorem dX6_schools_53 : decode cX6_schools 53 = .ok (.iaload, 1) := dk_46 (dk_at dksX6_schools_2 9 rfl rfl)
theorem dX6_schools_54 : decode cX6_schools 54 = .ok (.iload_n 2, 1) := dk_28 (dk_at dksX6_schools_2 10 rfl rfl)
theorem dX6_schools_55 : decode cX6_schools 55 = .ok (.invokevirtual 360, 3) := dk_182 1 104 (dk_at dksX6_schools_2 11 rfl rfl)
theorem dX6_schools_58 : decode cX6_schools 58 = .ok (.aload_n 0, 1) := dk_42 (dk_at dksX6_schools_2 14 rfl rfl)
theorem dX6_schools_59 : decode cX6_schools 59 = .ok (.invokevirtual 363, 3) := dk_182 1 107 (dk_at dksX6_schools_2 15 rfl rfl)
theorem dX6_schools_62 : decode cX6_schools 62 = .ok (.aload_n 0, 1) := dk_42 (dk_at dksX6_schools_2 18 rfl rfl)
theorem dX6_schools_63 : decode cX6_schools 63 = .ok (.getfield 120, 3) := dk_180 0 120 (dk_at dksX6_schools_2 19 rfl rfl)
theorem dX6_schools_66 : decode cX6_schools 66 = .ok (.iload_n 1, 1) := dk_27 (dk_at dksX6_schools_2 22 rfl rfl)
theorem dX6_schools_67 : decode cX6_schools 67 = .ok (.aaload, 1) := dk_50 (dk_at dksX6_schools_2 23 rfl rfl)
theorem dX6_schools_68 : decode cX6_schools 68 = .ok (.iload_n 2, 1) := dk_28 (dk_at dksX6_schools_3 0 rfl rfl)
theorem dX6_schools_69 : decode cX6_schools 69 = .ok (.aload_n 0, 1) := dk_42 (dk_at dksX6_schools_3 1 rfl rfl)
theorem dX6_schools_70 : decode cX6_schools 70 = .ok (.invokevirtual 366, 3) := dk_182 1 110 (dk_at dksX6_schools_3 2 rfl rfl)
theorem dX6_schools_73 : decode cX6_schools 73 = .ok (.iastore, 1) := dk_79 (dk_at dksX6_schools_3 5 rfl rfl)
theorem dX6_schools_74 : decode cX6_schools 74 = .ok (.iinc 2 1, 3) := dk_132 2 1 (dk_at dksX6_schools_3 6 rfl rfl)
theorem dX6_schools_77 : decode cX6_schools 77 = .ok (.goto (-58), 3) := dk_167 255 198 (dk_at dksX6_schools_3 9 rfl rfl)
theorem dX6_schools_80 : decode cX6_schools 80 = .ok (.iinc 1 1, 3) := dk_132 1 1 (dk_at dksX6_schools_3 12 rfl rfl)
theorem dX6_schools_83 : decode cX6_schools 83 = .ok (.goto (-81), 3) := dk_167 255 175 (dk_at dksX6_schools_3 15 rfl rfl)
theorem dX6_schools_86 : decode cX6_schools 86 = .ok (.return_, 1) := dk_177 (dk_at dksX6_schools_3 18 rfl rfl)
abbrev cX6_right : ByteArray := prog_19_method_123_code
def yX6_right : MethodName := ⟨RX6, "right", "(I)I"⟩
def dkwX6_right_3 : List UInt8 := [167, 255, 220, 2, 172]
abbrev dktX6_right_3 : List UInt8 := dkwX6_right_3 ++ []
def dkwX6_right_2 : List UInt8 := [28, 46, 28, 182, 1, 122, 10, 42, 180, 0, 23, 7, 46, 121, 148, 154, 0, 5, 28, 172, 132, 2, 1]
abbrev dktX6_right_2 : List UInt8 := dkwX6_right_2 ++ dktX6_right_3
def dkwX6_right_1 : List UInt8 := [153, 0, 5, 3, 172, 42, 182, 1, 176, 3, 61, 28, 16, 52, 162, 0, 36, 42, 42, 180, 0, 120, 27, 50]
abbrev dktX6_right_1 : List UInt8 := dkwX6_right_1 ++ dktX6_right_2
def dkwX6_right_0 : List UInt8 := [42, 3, 181, 0, 132, 42, 27, 184, 1, 173, 154, 0, 7, 4, 167, 0, 4, 3, 4, 4, 182, 0, 233]
abbrev dktX6_right_0 : List UInt8 := dkwX6_right_0 ++ dktX6_right_1
theorem dksX6_right_0 : cX6_right.data.toList.drop 0 = dktX6_right_0 := by decide +kernel
theorem dksX6_right_1 : cX6_right.data.toList.drop 23 = dktX6_right_1 := dk_seg dksX6_right_0 23 rfl rfl
theorem dksX6_right_2 : cX6_right.data.toList.drop 47 = dktX6_right_2 := dk_seg dksX6_right_1 24 rfl rfl
theorem dksX6_right_3 : cX6_right.data.toList.drop 70 = dktX6_right_3 := dk_seg dksX6_right_2 23 rfl rfl
theorem dX6_right_0 : decode cX6_right 0 = .ok (.aload_n 0, 1) := dk_42 (dk_at dksX6_right_0 0 rfl rfl)
theorem dX6_right_1 : decode cX6_right 1 = .ok (.iconst 0, 1) := dk_3 (dk_at dksX6_right_0 1 rfl rfl)
theorem dX6_right_2 : decode cX6_right 2 = .ok (.putfield 132, 3) := dk_181 0 132 (dk_at dksX6_right_0 2 rfl rfl)
theorem dX6_right_5 : decode cX6_right 5 = .ok (.aload_n 0, 1) := dk_42 (dk_at dksX6_right_0 5 rfl rfl)
theorem dX6_right_6 : decode cX6_right 6 = .ok (.iload_n 1, 1) := dk_27 (dk_at dksX6_right_0 6 rfl rfl)
theorem dX6_right_7 : decode cX6_right 7 = .ok (.invokestatic 429, 3) := dk_184 1 173 (dk_at dksX6_right_0 7 rfl rfl)
theorem dX6_right_10 : decode cX6_right 10 = .ok (.ifCond .ne 7, 3) := dk_154 0 7 (dk_at dksX6_right_0 10 rfl rfl)
theorem dX6_right_13 : decode cX6_right 13 = .ok (.iconst 1, 1) := dk_4 (dk_at dksX6_right_0 13 rfl rfl)
theorem dX6_right_14 : decode cX6_right 14 = .ok (.goto 4, 3) := dk_167 0 4 (dk_at dksX6_right_0 14 rfl rfl)
theorem dX6_right_17 : decode cX6_right 17 = .ok (.iconst 0, 1) := dk_3 (dk_at dksX6_right_0 17 rfl rfl)
theorem dX6_right_18 : decode cX6_right 18 = .ok (.iconst 1, 1) := dk_4 (dk_at dksX6_right_0 18 rfl rfl)
theorem dX6_right_19 : decode cX6_right 19 = .ok (.iconst 1, 1) := dk_4 (dk_at dksX6_right_0 19 rfl rfl)
theorem dX6_right_20 : decode cX6_right 20 = .ok (.invokevirtual 233, 3) := dk_182 0 233 (dk_at dksX6_right_0 20 rfl rfl)
theorem dX6_right_23 : decode cX6_right 23 = .ok (.ifCond .eq 5, 3) := dk_153 0 5 (dk_at dksX6_right_1 0 rfl rfl)
theorem dX6_right_26 : decode cX6_right 26 = .ok (.iconst 0, 1) := dk_3 (dk_at dksX6_right_1 3 rfl rfl)
theorem dX6_right_27 : decode cX6_right 27 = .ok (.ireturn, 1) := dk_172 (dk_at dksX6_right_1 4 rfl rfl)
theorem dX6_right_28 : decode cX6_right 28 = .ok (.aload_n 0, 1) := dk_42 (dk_at dksX6_right_1 5 rfl rfl)
theorem dX6_right_29 : decode cX6_right 29 = .ok (.invokevirtual 432, 3) := dk_182 1 176 (dk_at dksX6_right_1 6 rfl rfl)
theorem dX6_right_32 : decode cX6_right 32 = .ok (.iconst 0, 1) := dk_3 (dk_at dksX6_right_1 9 rfl rfl)
theorem dX6_right_33 : decode cX6_right 33 = .ok (.istore_n 2, 1) := dk_61 (dk_at dksX6_right_1 10 rfl rfl)
theorem dX6_right_34 : decode cX6_right 34 = .ok (.iload_n 2, 1) := dk_28 (dk_at dksX6_right_1 11 rfl rfl)
theorem dX6_right_35 : decode cX6_right 35 = .ok (.bipush 52, 2) := dk_16 52 (dk_at dksX6_right_1 12 rfl rfl)
theorem dX6_right_37 : decode cX6_right 37 = .ok (.if_icmp .ge 36, 3) := dk_162 0 36 (dk_at dksX6_right_1 14 rfl rfl)
theorem dX6_right_40 : decode cX6_right 40 = .ok (.aload_n 0, 1) := dk_42 (dk_at dksX6_right_1 17 rfl rfl)
theorem dX6_right_41 : decode cX6_right 41 = .ok (.aload_n 0, 1) := dk_42 (dk_at dksX6_right_1 18 rfl rfl)
theorem dX6_right_42 : decode cX6_right 42 = .ok (.getfield 120, 3) := dk_180 0 120 (dk_at dksX6_right_1 19 rfl rfl)
theorem dX6_right_45 : decode cX6_right 45 = .ok (.iload_n 1, 1) := dk_27 (dk_at dksX6_right_1 22 rfl rfl)
theorem dX6_right_46 : decode cX6_right 46 = .ok (.aaload, 1) := dk_50 (dk_at dksX6_right_1 23 rfl rfl)
theorem dX6_right_47 : decode cX6_right 47 = .ok (.iload_n 2, 1) := dk_28 (dk_at dksX6_right_2 0 rfl rfl)
theorem dX6_right_48 : decode cX6_right 48 = .ok (.iaload, 1) := dk_46 (dk_at dksX6_right_2 1 rfl rfl)
theorem dX6_right_49 : decode cX6_right 49 = .ok (.iload_n 2, 1) := dk_28 (dk_at dksX6_right_2 2 rfl rfl)
theorem dX6_right_50 : decode cX6_right 50 = .ok (.invokevirtual 378, 3) := dk_182 1 122 (dk_at dksX6_right_2 3 rfl rfl)
theorem dX6_right_53 : decode cX6_right 53 = .ok (.lconst 1, 1) := dk_10 (dk_at dksX6_right_2 6 rfl rfl)
theorem dX6_right_54 : decode cX6_right 54 = .ok (.aload_n 0, 1) := dk_42 (dk_at dksX6_right_2 7 rfl rfl)
theorem dX6_right_55 : decode cX6_right 55 = .ok (.getfield 23, 3) := dk_180 0 23 (dk_at dksX6_right_2 8 rfl rfl)
theorem dX6_right_58 : decode cX6_right 58 = .ok (.iconst 4, 1) := dk_7 (dk_at dksX6_right_2 11 rfl rfl)
theorem dX6_right_59 : decode cX6_right 59 = .ok (.iaload, 1) := dk_46 (dk_at dksX6_right_2 12 rfl rfl)
theorem dX6_right_60 : decode cX6_right 60 = .ok (.lshl, 1) := dk_121 (dk_at dksX6_right_2 13 rfl rfl)
theorem dX6_right_61 : decode cX6_right 61 = .ok (.lcmp, 1) := dk_148 (dk_at dksX6_right_2 14 rfl rfl)
theorem dX6_right_62 : decode cX6_right 62 = .ok (.ifCond .ne 5, 3) := dk_154 0 5 (dk_at dksX6_right_2 15 rfl rfl)
theorem dX6_right_65 : decode cX6_right 65 = .ok (.iload_n 2, 1) := dk_28 (dk_at dksX6_right_2 18 rfl rfl)
theorem dX6_right_66 : decode cX6_right 66 = .ok (.ireturn, 1) := dk_172 (dk_at dksX6_right_2 19 rfl rfl)
theorem dX6_right_67 : decode cX6_right 67 = .ok (.iinc 2 1, 3) := dk_132 2 1 (dk_at dksX6_right_2 20 rfl rfl)
theorem dX6_right_70 : decode cX6_right 70 = .ok (.goto (-36), 3) := dk_167 255 220 (dk_at dksX6_right_3 0 rfl rfl)
theorem dX6_right_73 : decode cX6_right 73 = .ok (.iconst (-1), 1) := dk_2 (dk_at dksX6_right_3 3 rfl rfl)
theorem dX6_right_74 : decode cX6_right 74 = .ok (.ireturn, 1) := dk_172 (dk_at dksX6_right_3 4 rfl rfl)
abbrev cX6_war : ByteArray := prog_19_method_124_code
def yX6_war : MethodName := ⟨RX6, "war", "(I)I"⟩
def dkwX6_war_4 : List UInt8 := [132, 2, 1, 132, 4, 1, 167, 255, 199, 27, 154, 0, 7, 28, 167, 0, 4, 29, 172]
abbrev dktX6_war_4 : List UInt8 := dkwX6_war_4 ++ []
def dkwX6_war_3 : List UInt8 := [21, 4, 182, 1, 122, 9, 148, 153, 0, 6, 167, 0, 17, 28, 154, 0, 8, 21, 4, 167, 0, 4, 29, 62]
abbrev dktX6_war_3 : List UInt8 := dkwX6_war_3 ++ dktX6_war_4
def dkwX6_war_2 : List UInt8 := [162, 0, 56, 42, 42, 180, 0, 120, 3, 50, 21, 4, 46, 42, 180, 0, 120, 4, 50, 21, 4, 46, 128]
abbrev dktX6_war_2 : List UInt8 := dkwX6_war_2 ++ dktX6_war_3
def dkwX6_war_1 : List UInt8 := [182, 0, 233, 153, 0, 5, 3, 172, 42, 182, 1, 176, 3, 61, 2, 62, 3, 54, 4, 21, 4, 16, 52]
abbrev dktX6_war_1 : List UInt8 := dkwX6_war_1 ++ dktX6_war_2
def dkwX6_war_0 : List UInt8 := [42, 3, 181, 0, 132, 42, 27, 3, 4, 184, 0, 166, 154, 0, 7, 4, 167, 0, 4, 3, 4, 4]
abbrev dktX6_war_0 : List UInt8 := dkwX6_war_0 ++ dktX6_war_1
theorem dksX6_war_0 : cX6_war.data.toList.drop 0 = dktX6_war_0 := by decide +kernel
theorem dksX6_war_1 : cX6_war.data.toList.drop 22 = dktX6_war_1 := dk_seg dksX6_war_0 22 rfl rfl
theorem dksX6_war_2 : cX6_war.data.toList.drop 45 = dktX6_war_2 := dk_seg dksX6_war_1 23 rfl rfl
theorem dksX6_war_3 : cX6_war.data.toList.drop 68 = dktX6_war_3 := dk_seg dksX6_war_2 23 rfl rfl
theorem dksX6_war_4 : cX6_war.data.toList.drop 92 = dktX6_war_4 := dk_seg dksX6_war_3 24 rfl rfl
theorem dX6_war_0 : decode cX6_war 0 = .ok (.aload_n 0, 1) := dk_42 (dk_at dksX6_war_0 0 rfl rfl)
theorem dX6_war_1 : decode cX6_war 1 = .ok (.iconst 0, 1) := dk_3 (dk_at dksX6_war_0 1 rfl rfl)
theorem dX6_war_2 : decode cX6_war 2 = .ok (.putfield 132, 3) := dk_181 0 132 (dk_at dksX6_war_0 2 rfl rfl)
theorem dX6_war_5 : decode cX6_war 5 = .ok (.aload_n 0, 1) := dk_42 (dk_at dksX6_war_0 5 rfl rfl)
theorem dX6_war_6 : decode cX6_war 6 = .ok (.iload_n 1, 1) := dk_27 (dk_at dksX6_war_0 6 rfl rfl)
theorem dX6_war_7 : decode cX6_war 7 = .ok (.iconst 0, 1) := dk_3 (dk_at dksX6_war_0 7 rfl rfl)
theorem dX6_war_8 : decode cX6_war 8 = .ok (.iconst 1, 1) := dk_4 (dk_at dksX6_war_0 8 rfl rfl)
theorem dX6_war_9 : decode cX6_war 9 = .ok (.invokestatic 166, 3) := dk_184 0 166 (dk_at dksX6_war_0 9 rfl rfl)
theorem dX6_war_12 : decode cX6_war 12 = .ok (.ifCond .ne 7, 3) := dk_154 0 7 (dk_at dksX6_war_0 12 rfl rfl)
theorem dX6_war_15 : decode cX6_war 15 = .ok (.iconst 1, 1) := dk_4 (dk_at dksX6_war_0 15 rfl rfl)
theorem dX6_war_16 : decode cX6_war 16 = .ok (.goto 4, 3) := dk_167 0 4 (dk_at dksX6_war_0 16 rfl rfl)
theorem dX6_war_19 : decode cX6_war 19 = .ok (.iconst 0, 1) := dk_3 (dk_at dksX6_war_0 19 rfl rfl)
theorem dX6_war_20 : decode cX6_war 20 = .ok (.iconst 1, 1) := dk_4 (dk_at dksX6_war_0 20 rfl rfl)
theorem dX6_war_21 : decode cX6_war 21 = .ok (.iconst 1, 1) := dk_4 (dk_at dksX6_war_0 21 rfl rfl)
theorem dX6_war_22 : decode cX6_war 22 = .ok (.invokevirtual 233, 3) := dk_182 0 233 (dk_at dksX6_war_1 0 rfl rfl)
theorem dX6_war_25 : decode cX6_war 25 = .ok (.ifCond .eq 5, 3) := dk_153 0 5 (dk_at dksX6_war_1 3 rfl rfl)
theorem dX6_war_28 : decode cX6_war 28 = .ok (.iconst 0, 1) := dk_3 (dk_at dksX6_war_1 6 rfl rfl)
theorem dX6_war_29 : decode cX6_war 29 = .ok (.ireturn, 1) := dk_172 (dk_at dksX6_war_1 7 rfl rfl)
theorem dX6_war_30 : decode cX6_war 30 = .ok (.aload_n 0, 1) := dk_42 (dk_at dksX6_war_1 8 rfl rfl)
theorem dX6_war_31 : decode cX6_war 31 = .ok (.invokevirtual 432, 3) := dk_182 1 176 (dk_at dksX6_war_1 9 rfl rfl)
theorem dX6_war_34 : decode cX6_war 34 = .ok (.iconst 0, 1) := dk_3 (dk_at dksX6_war_1 12 rfl rfl)
theorem dX6_war_35 : decode cX6_war 35 = .ok (.istore_n 2, 1) := dk_61 (dk_at dksX6_war_1 13 rfl rfl)
theorem dX6_war_36 : decode cX6_war 36 = .ok (.iconst (-1), 1) := dk_2 (dk_at dksX6_war_1 14 rfl rfl)
theorem dX6_war_37 : decode cX6_war 37 = .ok (.istore_n 3, 1) := dk_62 (dk_at dksX6_war_1 15 rfl rfl)
theorem dX6_war_38 : decode cX6_war 38 = .ok (.iconst 0, 1) := dk_3 (dk_at dksX6_war_1 16 rfl rfl)
theorem dX6_war_39 : decode cX6_war 39 = .ok (.istore 4, 2) := dk_54 4 (dk_at dksX6_war_1 17 rfl rfl)
theorem dX6_war_41 : decode cX6_war 41 = .ok (.iload 4, 2) := dk_21 4 (dk_at dksX6_war_1 19 rfl rfl)
theorem dX6_war_43 : decode cX6_war 43 = .ok (.bipush 52, 2) := dk_16 52 (dk_at dksX6_war_1 21 rfl rfl)
theorem dX6_war_45 : decode cX6_war 45 = .ok (.if_icmp .ge 56, 3) := dk_162 0 56 (dk_at dksX6_war_2 0 rfl rfl)
theorem dX6_war_48 : decode cX6_war 48 = .ok (.aload_n 0, 1) := dk_42 (dk_at dksX6_war_2 3 rfl rfl)
theorem dX6_war_49 : decode cX6_war 49 = .ok (.aload_n 0, 1) := dk_42 (dk_at dksX6_war_2 4 rfl rfl)
theorem dX6_war_50 : decode cX6_war 50 = .ok (.getfield 120, 3) := dk_180 0 120 (dk_at dksX6_war_2 5 rfl rfl)
theorem dX6_war_53 : decode cX6_war 53 = .ok (.iconst 0, 1) := dk_3 (dk_at dksX6_war_2 8 rfl rfl)
theorem dX6_war_54 : decode cX6_war 54 = .ok (.aaload, 1) := dk_50 (dk_at dksX6_war_2 9 rfl rfl)
theorem dX6_war_55 : decode cX6_war 55 = .ok (.iload 4, 2) := dk_21 4 (dk_at dksX6_war_2 10 rfl rfl)
theorem dX6_war_57 : decode cX6_war 57 = .ok (.iaload, 1) := dk_46 (dk_at dksX6_war_2 12 rfl rfl)
theorem dX6_war_58 : decode cX6_war 58 = .ok (.aload_n 0, 1) := dk_42 (dk_at dksX6_war_2 13 rfl rfl)
theorem dX6_war_59 : decode cX6_war 59 = .ok (.getfield 120, 3) := dk_180 0 120 (dk_at dksX6_war_2 14 rfl rfl)
theorem dX6_war_62 : decode cX6_war 62 = .ok (.iconst 1, 1) := dk_4 (dk_at dksX6_war_2 17 rfl rfl)
theorem dX6_war_63 : decode cX6_war 63 = .ok (.aaload, 1) := dk_50 (dk_at dksX6_war_2 18 rfl rfl)
theorem dX6_war_64 : decode cX6_war 64 = .ok (.iload 4, 2) := dk_21 4 (dk_at dksX6_war_2 19 rfl rfl)
theorem dX6_war_66 : decode cX6_war 66 = .ok (.iaload, 1) := dk_46 (dk_at dksX6_war_2 21 rfl rfl)
theorem dX6_war_67 : decode cX6_war 67 = .ok (.ior, 1) := dk_128 (dk_at dksX6_war_2 22 rfl rfl)
theorem dX6_war_68 : decode cX6_war 68 = .ok (.iload 4, 2) := dk_21 4 (dk_at dksX6_war_3 0 rfl rfl)
theorem dX6_war_70 : decode cX6_war 70 = .ok (.invokevirtual 378, 3) := dk_182 1 122 (dk_at dksX6_war_3 2 rfl rfl)
theorem dX6_war_73 : decode cX6_war 73 = .ok (.lconst 0, 1) := dk_9 (dk_at dksX6_war_3 5 rfl rfl)
theorem dX6_war_74 : decode cX6_war 74 = .ok (.lcmp, 1) := dk_148 (dk_at dksX6_war_3 6 rfl rfl)
theorem dX6_war_75 : decode cX6_war 75 = .ok (.ifCond .eq 6, 3) := dk_153 0 6 (dk_at dksX6_war_3 7 rfl rfl)
theorem dX6_war_78 : decode cX6_war 78 = .ok (.goto 17, 3) := dk_167 0 17 (dk_at dksX6_war_3 10 rfl rfl)
theorem dX6_war_81 : decode cX6_war 81 = .ok (.iload_n 2, 1) := dk_28 (dk_at dksX6_war_3 13 rfl rfl)
theorem dX6_war_82 : decode cX6_war 82 = .ok (.ifCond .ne 8, 3) := dk_154 0 8 (dk_at dksX6_war_3 14 rfl rfl)
theorem dX6_war_85 : decode cX6_war 85 = .ok (.iload 4, 2) := dk_21 4 (dk_at dksX6_war_3 17 rfl rfl)
theorem dX6_war_87 : decode cX6_war 87 = .ok (.goto 4, 3) := dk_167 0 4 (dk_at dksX6_war_3 19 rfl rfl)
theorem dX6_war_90 : decode cX6_war 90 = .ok (.iload_n 3, 1) := dk_29 (dk_at dksX6_war_3 22 rfl rfl)
theorem dX6_war_91 : decode cX6_war 91 = .ok (.istore_n 3, 1) := dk_62 (dk_at dksX6_war_3 23 rfl rfl)
theorem dX6_war_92 : decode cX6_war 92 = .ok (.iinc 2 1, 3) := dk_132 2 1 (dk_at dksX6_war_4 0 rfl rfl)
theorem dX6_war_95 : decode cX6_war 95 = .ok (.iinc 4 1, 3) := dk_132 4 1 (dk_at dksX6_war_4 3 rfl rfl)
theorem dX6_war_98 : decode cX6_war 98 = .ok (.goto (-57), 3) := dk_167 255 199 (dk_at dksX6_war_4 6 rfl rfl)
theorem dX6_war_101 : decode cX6_war 101 = .ok (.iload_n 1, 1) := dk_27 (dk_at dksX6_war_4 9 rfl rfl)
theorem dX6_war_102 : decode cX6_war 102 = .ok (.ifCond .ne 7, 3) := dk_154 0 7 (dk_at dksX6_war_4 10 rfl rfl)
theorem dX6_war_105 : decode cX6_war 105 = .ok (.iload_n 2, 1) := dk_28 (dk_at dksX6_war_4 13 rfl rfl)
theorem dX6_war_106 : decode cX6_war 106 = .ok (.goto 4, 3) := dk_167 0 4 (dk_at dksX6_war_4 14 rfl rfl)
theorem dX6_war_109 : decode cX6_war 109 = .ok (.iload_n 3, 1) := dk_29 (dk_at dksX6_war_4 17 rfl rfl)
theorem dX6_war_110 : decode cX6_war 110 = .ok (.ireturn, 1) := dk_172 (dk_at dksX6_war_4 18 rfl rfl)
abbrev cX6_plain : ByteArray := prog_19_method_127_code
def yX6_plain : MethodName := ⟨RX6, "plain", "(I)I"⟩
def dkwX6_plain_2 : List UInt8 := [153, 0, 5, 3, 172, 42, 182, 1, 182, 42, 180, 0, 123, 42, 180, 0, 36, 27, 47, 136, 46, 172]
abbrev dktX6_plain_2 : List UInt8 := dkwX6_plain_2 ++ []
def dkwX6_plain_1 : List UInt8 := [154, 0, 27, 42, 42, 180, 0, 23, 3, 46, 6, 164, 0, 7, 4, 167, 0, 4, 3, 5, 5, 182, 0, 233]
abbrev dktX6_plain_1 : List UInt8 := dkwX6_plain_1 ++ dktX6_plain_2
def dkwX6_plain_0 : List UInt8 := [42, 3, 181, 0, 132, 42, 42, 27, 182, 1, 47, 154, 0, 7, 4, 167, 0, 4, 3, 4, 3, 182, 0, 233]
abbrev dktX6_plain_0 : List UInt8 := dkwX6_plain_0 ++ dktX6_plain_1
theorem dksX6_plain_0 : cX6_plain.data.toList.drop 0 = dktX6_plain_0 := by decide +kernel
theorem dksX6_plain_1 : cX6_plain.data.toList.drop 24 = dktX6_plain_1 := dk_seg dksX6_plain_0 24 rfl rfl
theorem dksX6_plain_2 : cX6_plain.data.toList.drop 48 = dktX6_plain_2 := dk_seg dksX6_plain_1 24 rfl rfl
theorem dX6_plain_0 : decode cX6_plain 0 = .ok (.aload_n 0, 1) := dk_42 (dk_at dksX6_plain_0 0 rfl rfl)
theorem dX6_plain_1 : decode cX6_plain 1 = .ok (.iconst 0, 1) := dk_3 (dk_at dksX6_plain_0 1 rfl rfl)
theorem dX6_plain_2 : decode cX6_plain 2 = .ok (.putfield 132, 3) := dk_181 0 132 (dk_at dksX6_plain_0 2 rfl rfl)
theorem dX6_plain_5 : decode cX6_plain 5 = .ok (.aload_n 0, 1) := dk_42 (dk_at dksX6_plain_0 5 rfl rfl)
theorem dX6_plain_6 : decode cX6_plain 6 = .ok (.aload_n 0, 1) := dk_42 (dk_at dksX6_plain_0 6 rfl rfl)
theorem dX6_plain_7 : decode cX6_plain 7 = .ok (.iload_n 1, 1) := dk_27 (dk_at dksX6_plain_0 7 rfl rfl)
theorem dX6_plain_8 : decode cX6_plain 8 = .ok (.invokevirtual 303, 3) := dk_182 1 47 (dk_at dksX6_plain_0 8 rfl rfl)
theorem dX6_plain_11 : decode cX6_plain 11 = .ok (.ifCond .ne 7, 3) := dk_154 0 7 (dk_at dksX6_plain_0 11 rfl rfl)
theorem dX6_plain_14 : decode cX6_plain 14 = .ok (.iconst 1, 1) := dk_4 (dk_at dksX6_plain_0 14 rfl rfl)
theorem dX6_plain_15 : decode cX6_plain 15 = .ok (.goto 4, 3) := dk_167 0 4 (dk_at dksX6_plain_0 15 rfl rfl)
theorem dX6_plain_18 : decode cX6_plain 18 = .ok (.iconst 0, 1) := dk_3 (dk_at dksX6_plain_0 18 rfl rfl)
theorem dX6_plain_19 : decode cX6_plain 19 = .ok (.iconst 1, 1) := dk_4 (dk_at dksX6_plain_0 19 rfl rfl)
theorem dX6_plain_20 : decode cX6_plain 20 = .ok (.iconst 0, 1) := dk_3 (dk_at dksX6_plain_0 20 rfl rfl)
theorem dX6_plain_21 : decode cX6_plain 21 = .ok (.invokevirtual 233, 3) := dk_182 0 233 (dk_at dksX6_plain_0 21 rfl rfl)
theorem dX6_plain_24 : decode cX6_plain 24 = .ok (.ifCond .ne 27, 3) := dk_154 0 27 (dk_at dksX6_plain_1 0 rfl rfl)
theorem dX6_plain_27 : decode cX6_plain 27 = .ok (.aload_n 0, 1) := dk_42 (dk_at dksX6_plain_1 3 rfl rfl)
theorem dX6_plain_28 : decode cX6_plain 28 = .ok (.aload_n 0, 1) := dk_42 (dk_at dksX6_plain_1 4 rfl rfl)
theorem dX6_plain_29 : decode cX6_plain 29 = .ok (.getfield 23, 3) := dk_180 0 23 (dk_at dksX6_plain_1 5 rfl rfl)
theorem dX6_plain_32 : decode cX6_plain 32 = .ok (.iconst 0, 1) := dk_3 (dk_at dksX6_plain_1 8 rfl rfl)
theorem dX6_plain_33 : decode cX6_plain 33 = .ok (.iaload, 1) := dk_46 (dk_at dksX6_plain_1 9 rfl rfl)
theorem dX6_plain_34 : decode cX6_plain 34 = .ok (.iconst 3, 1) := dk_6 (dk_at dksX6_plain_1 10 rfl rfl)
theorem dX6_plain_35 : decode cX6_plain 35 = .ok (.if_icmp .le 7, 3) := dk_164 0 7 (dk_at dksX6_plain_1 11 rfl rfl)
theorem dX6_plain_38 : decode cX6_plain 38 = .ok (.iconst 1, 1) := dk_4 (dk_at dksX6_plain_1 14 rfl rfl)
theorem dX6_plain_39 : decode cX6_plain 39 = .ok (.goto 4, 3) := dk_167 0 4 (dk_at dksX6_plain_1 15 rfl rfl)
theorem dX6_plain_42 : decode cX6_plain 42 = .ok (.iconst 0, 1) := dk_3 (dk_at dksX6_plain_1 18 rfl rfl)
theorem dX6_plain_43 : decode cX6_plain 43 = .ok (.iconst 2, 1) := dk_5 (dk_at dksX6_plain_1 19 rfl rfl)
theorem dX6_plain_44 : decode cX6_plain 44 = .ok (.iconst 2, 1) := dk_5 (dk_at dksX6_plain_1 20 rfl rfl)
theorem dX6_plain_45 : decode cX6_plain 45 = .ok (.invokevirtual 233, 3) := dk_182 0 233 (dk_at dksX6_plain_1 21 rfl rfl)
theorem dX6_plain_48 : decode cX6_plain 48 = .ok (.ifCond .eq 5, 3) := dk_153 0 5 (dk_at dksX6_plain_2 0 rfl rfl)
theorem dX6_plain_51 : decode cX6_plain 51 = .ok (.iconst 0, 1) := dk_3 (dk_at dksX6_plain_2 3 rfl rfl)
theorem dX6_plain_52 : decode cX6_plain 52 = .ok (.ireturn, 1) := dk_172 (dk_at dksX6_plain_2 4 rfl rfl)
theorem dX6_plain_53 : decode cX6_plain 53 = .ok (.aload_n 0, 1) := dk_42 (dk_at dksX6_plain_2 5 rfl rfl)
theorem dX6_plain_54 : decode cX6_plain 54 = .ok (.invokevirtual 438, 3) := dk_182 1 182 (dk_at dksX6_plain_2 6 rfl rfl)
theorem dX6_plain_57 : decode cX6_plain 57 = .ok (.aload_n 0, 1) := dk_42 (dk_at dksX6_plain_2 9 rfl rfl)
theorem dX6_plain_58 : decode cX6_plain 58 = .ok (.getfield 123, 3) := dk_180 0 123 (dk_at dksX6_plain_2 10 rfl rfl)
theorem dX6_plain_61 : decode cX6_plain 61 = .ok (.aload_n 0, 1) := dk_42 (dk_at dksX6_plain_2 13 rfl rfl)
theorem dX6_plain_62 : decode cX6_plain 62 = .ok (.getfield 36, 3) := dk_180 0 36 (dk_at dksX6_plain_2 14 rfl rfl)
theorem dX6_plain_65 : decode cX6_plain 65 = .ok (.iload_n 1, 1) := dk_27 (dk_at dksX6_plain_2 17 rfl rfl)
theorem dX6_plain_66 : decode cX6_plain 66 = .ok (.laload, 1) := dk_47 (dk_at dksX6_plain_2 18 rfl rfl)
theorem dX6_plain_67 : decode cX6_plain 67 = .ok (.l2i, 1) := dk_136 (dk_at dksX6_plain_2 19 rfl rfl)
theorem dX6_plain_68 : decode cX6_plain 68 = .ok (.iaload, 1) := dk_46 (dk_at dksX6_plain_2 20 rfl rfl)
theorem dX6_plain_69 : decode cX6_plain 69 = .ok (.ireturn, 1) := dk_172 (dk_at dksX6_plain_2 21 rfl rfl)
abbrev cX6_laysPlain : ByteArray := prog_19_method_125_code
def yX6_laysPlain : MethodName := ⟨RX6, "laysPlain", "()V"⟩
def dkwX6_laysPlain_8 : List UInt8 := [182, 1, 179, 132, 4, 1, 167, 255, 196, 132, 3, 1, 167, 255, 136, 132, 2, 1, 167, 255, 122, 177]
abbrev dktX6_laysPlain_8 : List UInt8 := dkwX6_laysPlain_8 ++ []
def dkwX6_laysPlain_7 : List UInt8 := [96, 28, 159, 0, 6, 167, 0, 21, 42, 29, 21, 4, 126, 28, 182, 1, 179, 42, 29, 21, 4, 128, 28]
abbrev dktX6_laysPlain_7 : List UInt8 := dkwX6_laysPlain_7 ++ dktX6_laysPlain_8
def dkwX6_laysPlain_6 : List UInt8 := [180, 0, 123, 21, 4, 46, 153, 0, 44, 42, 180, 0, 123, 29, 46, 42, 180, 0, 123, 21, 4, 46, 96, 4]
abbrev dktX6_laysPlain_6 : List UInt8 := dkwX6_laysPlain_6 ++ dktX6_laysPlain_7
def dkwX6_laysPlain_5 : List UInt8 := [160, 0, 13, 42, 27, 29, 2, 130, 126, 28, 182, 1, 179, 3, 54, 4, 21, 4, 27, 163, 0, 60, 42]
abbrev dktX6_laysPlain_5 : List UInt8 := dkwX6_laysPlain_5 ++ dktX6_laysPlain_6
def dkwX6_laysPlain_4 : List UInt8 := [180, 0, 123, 29, 46, 28, 4, 100, 164, 0, 6, 167, 0, 91, 42, 180, 0, 123, 29, 46, 28, 4, 100]
abbrev dktX6_laysPlain_4 : List UInt8 := dkwX6_laysPlain_4 ++ dktX6_laysPlain_5
def dkwX6_laysPlain_3 : List UInt8 := [61, 28, 16, 40, 162, 0, 134, 3, 62, 29, 27, 163, 0, 121, 42, 180, 0, 123, 29, 46, 153, 0, 106, 42]
abbrev dktX6_laysPlain_3 : List UInt8 := dkwX6_laysPlain_3 ++ dktX6_laysPlain_4
def dkwX6_laysPlain_2 : List UInt8 := [42, 180, 0, 123, 28, 42, 180, 0, 23, 3, 46, 184, 0, 219, 136, 4, 79, 132, 2, 1, 167, 255, 226, 5]
abbrev dktX6_laysPlain_2 : List UInt8 := dkwX6_laysPlain_2 ++ dktX6_laysPlain_3
def dkwX6_laysPlain_1 : List UInt8 := [180, 0, 123, 28, 3, 79, 132, 2, 1, 167, 255, 239, 3, 61, 28, 42, 180, 0, 23, 3, 46, 162, 0, 26]
abbrev dktX6_laysPlain_1 : List UInt8 := dkwX6_laysPlain_1 ++ dktX6_laysPlain_2
def dkwX6_laysPlain_0 : List UInt8 := [4, 4, 42, 180, 0, 23, 3, 46, 120, 120, 4, 100, 60, 3, 61, 28, 17, 1, 0, 162, 0, 16, 42]
abbrev dktX6_laysPlain_0 : List UInt8 := dkwX6_laysPlain_0 ++ dktX6_laysPlain_1
theorem dksX6_laysPlain_0 : cX6_laysPlain.data.toList.drop 0 = dktX6_laysPlain_0 := by decide +kernel
theorem dksX6_laysPlain_1 : cX6_laysPlain.data.toList.drop 23 = dktX6_laysPlain_1 := dk_seg dksX6_laysPlain_0 23 rfl rfl
theorem dksX6_laysPlain_2 : cX6_laysPlain.data.toList.drop 47 = dktX6_laysPlain_2 := dk_seg dksX6_laysPlain_1 24 rfl rfl
theorem dksX6_laysPlain_3 : cX6_laysPlain.data.toList.drop 71 = dktX6_laysPlain_3 := dk_seg dksX6_laysPlain_2 24 rfl rfl
theorem dksX6_laysPlain_4 : cX6_laysPlain.data.toList.drop 95 = dktX6_laysPlain_4 := dk_seg dksX6_laysPlain_3 24 rfl rfl
theorem dksX6_laysPlain_5 : cX6_laysPlain.data.toList.drop 118 = dktX6_laysPlain_5 := dk_seg dksX6_laysPlain_4 23 rfl rfl
theorem dksX6_laysPlain_6 : cX6_laysPlain.data.toList.drop 141 = dktX6_laysPlain_6 := dk_seg dksX6_laysPlain_5 23 rfl rfl
theorem dksX6_laysPlain_7 : cX6_laysPlain.data.toList.drop 165 = dktX6_laysPlain_7 := dk_seg dksX6_laysPlain_6 24 rfl rfl
theorem dksX6_laysPlain_8 : cX6_laysPlain.data.toList.drop 188 = dktX6_laysPlain_8 := dk_seg dksX6_laysPlain_7 23 rfl rfl
theorem dX6_laysPlain_0 : decode cX6_laysPlain 0 = .ok (.iconst 1, 1) := dk_4 (dk_at dksX6_laysPlain_0 0 rfl rfl)
theorem dX6_laysPlain_1 : decode cX6_laysPlain 1 = .ok (.iconst 1, 1) := dk_4 (dk_at dksX6_laysPlain_0 1 rfl rfl)
theorem dX6_laysPlain_2 : decode cX6_laysPlain 2 = .ok (.aload_n 0, 1) := dk_42 (dk_at dksX6_laysPlain_0 2 rfl rfl)
theorem dX6_laysPlain_3 : decode cX6_laysPlain 3 = .ok (.getfield 23, 3) := dk_180 0 23 (dk_at dksX6_laysPlain_0 3 rfl rfl)
theorem dX6_laysPlain_6 : decode cX6_laysPlain 6 = .ok (.iconst 0, 1) := dk_3 (dk_at dksX6_laysPlain_0 6 rfl rfl)
theorem dX6_laysPlain_7 : decode cX6_laysPlain 7 = .ok (.iaload, 1) := dk_46 (dk_at dksX6_laysPlain_0 7 rfl rfl)
theorem dX6_laysPlain_8 : decode cX6_laysPlain 8 = .ok (.ishl, 1) := dk_120 (dk_at dksX6_laysPlain_0 8 rfl rfl)
theorem dX6_laysPlain_9 : decode cX6_laysPlain 9 = .ok (.ishl, 1) := dk_120 (dk_at dksX6_laysPlain_0 9 rfl rfl)
theorem dX6_laysPlain_10 : decode cX6_laysPlain 10 = .ok (.iconst 1, 1) := dk_4 (dk_at dksX6_laysPlain_0 10 rfl rfl)
theorem dX6_laysPlain_11 : decode cX6_laysPlain 11 = .ok (.isub, 1) := dk_100 (dk_at dksX6_laysPlain_0 11 rfl rfl)
theorem dX6_laysPlain_12 : decode cX6_laysPlain 12 = .ok (.istore_n 1, 1) := dk_60 (dk_at dksX6_laysPlain_0 12 rfl rfl)
theorem dX6_laysPlain_13 : decode cX6_laysPlain 13 = .ok (.iconst 0, 1) := dk_3 (dk_at dksX6_laysPlain_0 13 rfl rfl)
theorem dX6_laysPlain_14 : decode cX6_laysPlain 14 = .ok (.istore_n 2, 1) := dk_61 (dk_at dksX6_laysPlain_0 14 rfl rfl)
theorem dX6_laysPlain_15 : decode cX6_laysPlain 15 = .ok (.iload_n 2, 1) := dk_28 (dk_at dksX6_laysPlain_0 15 rfl rfl)
theorem dX6_laysPlain_16 : decode cX6_laysPlain 16 = .ok (.sipush 256, 3) := dk_17 1 0 (dk_at dksX6_laysPlain_0 16 rfl rfl)
theorem dX6_laysPlain_19 : decode cX6_laysPlain 19 = .ok (.if_icmp .ge 16, 3) := dk_162 0 16 (dk_at dksX6_laysPlain_0 19 rfl rfl)
theorem dX6_laysPlain_22 : decode cX6_laysPlain 22 = .ok (.aload_n 0, 1) := dk_42 (dk_at dksX6_laysPlain_0 22 rfl rfl)
theorem dX6_laysPlain_23 : decode cX6_laysPlain 23 = .ok (.getfield 123, 3) := dk_180 0 123 (dk_at dksX6_laysPlain_1 0 rfl rfl)
theorem dX6_laysPlain_26 : decode cX6_laysPlain 26 = .ok (.iload_n 2, 1) := dk_28 (dk_at dksX6_laysPlain_1 3 rfl rfl)
theorem dX6_laysPlain_27 : decode cX6_laysPlain 27 = .ok (.iconst 0, 1) := dk_3 (dk_at dksX6_laysPlain_1 4 rfl rfl)
theorem dX6_laysPlain_28 : decode cX6_laysPlain 28 = .ok (.iastore, 1) := dk_79 (dk_at dksX6_laysPlain_1 5 rfl rfl)
theorem dX6_laysPlain_29 : decode cX6_laysPlain 29 = .ok (.iinc 2 1, 3) := dk_132 2 1 (dk_at dksX6_laysPlain_1 6 rfl rfl)
theorem dX6_laysPlain_32 : decode cX6_laysPlain 32 = .ok (.goto (-17), 3) := dk_167 255 239 (dk_at dksX6_laysPlain_1 9 rfl rfl)
theorem dX6_laysPlain_35 : decode cX6_laysPlain 35 = .ok (.iconst 0, 1) := dk_3 (dk_at dksX6_laysPlain_1 12 rfl rfl)
theorem dX6_laysPlain_36 : decode cX6_laysPlain 36 = .ok (.istore_n 2, 1) := dk_61 (dk_at dksX6_laysPlain_1 13 rfl rfl)
theorem dX6_laysPlain_37 : decode cX6_laysPlain 37 = .ok (.iload_n 2, 1) := dk_28 (dk_at dksX6_laysPlain_1 14 rfl rfl)
theorem dX6_laysPlain_38 : decode cX6_laysPlain 38 = .ok (.aload_n 0, 1) := dk_42 (dk_at dksX6_laysPlain_1 15 rfl rfl)
theorem dX6_laysPlain_39 : decode cX6_laysPlain 39 = .ok (.getfield 23, 3) := dk_180 0 23 (dk_at dksX6_laysPlain_1 16 rfl rfl)
theorem dX6_laysPlain_42 : decode cX6_laysPlain 42 = .ok (.iconst 0, 1) := dk_3 (dk_at dksX6_laysPlain_1 19 rfl rfl)
theorem dX6_laysPlain_43 : decode cX6_laysPlain 43 = .ok (.iaload, 1) := dk_46 (dk_at dksX6_laysPlain_1 20 rfl rfl)
theorem dX6_laysPlain_44 : decode cX6_laysPlain 44 = .ok (.if_icmp .ge 26, 3) := dk_162 0 26 (dk_at dksX6_laysPlain_1 21 rfl rfl)
theorem dX6_laysPlain_47 : decode cX6_laysPlain 47 = .ok (.aload_n 0, 1) := dk_42 (dk_at dksX6_laysPlain_2 0 rfl rfl)
theorem dX6_laysPlain_48 : decode cX6_laysPlain 48 = .ok (.getfield 123, 3) := dk_180 0 123 (dk_at dksX6_laysPlain_2 1 rfl rfl)
theorem dX6_laysPlain_51 : decode cX6_laysPlain 51 = .ok (.iload_n 2, 1) := dk_28 (dk_at dksX6_laysPlain_2 4 rfl rfl)
theorem dX6_laysPlain_52 : decode cX6_laysPlain 52 = .ok (.aload_n 0, 1) := dk_42 (dk_at dksX6_laysPlain_2 5 rfl rfl)
theorem dX6_laysPlain_53 : decode cX6_laysPlain 53 = .ok (.getfield 23, 3) := dk_180 0 23 (dk_at dksX6_laysPlain_2 6 rfl rfl)
theorem dX6_laysPlain_56 : decode cX6_laysPlain 56 = .ok (.iconst 0, 1) := dk_3 (dk_at dksX6_laysPlain_2 9 rfl rfl)
theorem dX6_laysPlain_57 : decode cX6_laysPlain 57 = .ok (.iaload, 1) := dk_46 (dk_at dksX6_laysPlain_2 10 rfl rfl)
theorem dX6_laysPlain_58 : decode cX6_laysPlain 58 = .ok (.invokestatic 219, 3) := dk_184 0 219 (dk_at dksX6_laysPlain_2 11 rfl rfl)
theorem dX6_laysPlain_61 : decode cX6_laysPlain 61 = .ok (.l2i, 1) := dk_136 (dk_at dksX6_laysPlain_2 14 rfl rfl)
theorem dX6_laysPlain_62 : decode cX6_laysPlain 62 = .ok (.iconst 1, 1) := dk_4 (dk_at dksX6_laysPlain_2 15 rfl rfl)
theorem dX6_laysPlain_63 : decode cX6_laysPlain 63 = .ok (.iastore, 1) := dk_79 (dk_at dksX6_laysPlain_2 16 rfl rfl)
theorem dX6_laysPlain_64 : decode cX6_laysPlain 64 = .ok (.iinc 2 1, 3) := dk_132 2 1 (dk_at dksX6_laysPlain_2 17 rfl rfl)
theorem dX6_laysPlain_67 : decode cX6_laysPlain 67 = .ok (.goto (-30), 3) := dk_167 255 226 (dk_at dksX6_laysPlain_2 20 rfl rfl)
theorem dX6_laysPlain_70 : decode cX6_laysPlain 70 = .ok (.iconst 2, 1) := dk_5 (dk_at dksX6_laysPlain_2 23 rfl rfl)
theorem dX6_laysPlain_71 : decode cX6_laysPlain 71 = .ok (.istore_n 2, 1) := dk_61 (dk_at dksX6_laysPlain_3 0 rfl rfl)
theorem dX6_laysPlain_72 : decode cX6_laysPlain 72 = .ok (.iload_n 2, 1) := dk_28 (dk_at dksX6_laysPlain_3 1 rfl rfl)
theorem dX6_laysPlain_73 : decode cX6_laysPlain 73 = .ok (.bipush 40, 2) := dk_16 40 (dk_at dksX6_laysPlain_3 2 rfl rfl)
theorem dX6_laysPlain_75 : decode cX6_laysPlain 75 = .ok (.if_icmp .ge 134, 3) := dk_162 0 134 (dk_at dksX6_laysPlain_3 4 rfl rfl)
theorem dX6_laysPlain_78 : decode cX6_laysPlain 78 = .ok (.iconst 0, 1) := dk_3 (dk_at dksX6_laysPlain_3 7 rfl rfl)
theorem dX6_laysPlain_79 : decode cX6_laysPlain 79 = .ok (.istore_n 3, 1) := dk_62 (dk_at dksX6_laysPlain_3 8 rfl rfl)
theorem dX6_laysPlain_80 : decode cX6_laysPlain 80 = .ok (.iload_n 3, 1) := dk_29 (dk_at dksX6_laysPlain_3 9 rfl rfl)
theorem dX6_laysPlain_81 : decode cX6_laysPlain 81 = .ok (.iload_n 1, 1) := dk_27 (dk_at dksX6_laysPlain_3 10 rfl rfl)
theorem dX6_laysPlain_82 : decode cX6_laysPlain 82 = .ok (.if_icmp .gt 121, 3) := dk_163 0 121 (dk_at dksX6_laysPlain_3 11 rfl rfl)
theorem dX6_laysPlain_85 : decode cX6_laysPlain 85 = .ok (.aload_n 0, 1) := dk_42 (dk_at dksX6_laysPlain_3 14 rfl rfl)
theorem dX6_laysPlain_86 : decode cX6_laysPlain 86 = .ok (.getfield 123, 3) := dk_180 0 123 (dk_at dksX6_laysPlain_3 15 rfl rfl)
theorem dX6_laysPlain_89 : decode cX6_laysPlain 89 = .ok (.iload_n 3, 1) := dk_29 (dk_at dksX6_laysPlain_3 18 rfl rfl)
theorem dX6_laysPlain_90 : decode cX6_laysPlain 90 = .ok (.iaload, 1) := dk_46 (dk_at dksX6_laysPlain_3 19 rfl rfl)
theorem dX6_laysPlain_91 : decode cX6_laysPlain 91 = .ok (.ifCond .eq 106, 3) := dk_153 0 106 (dk_at dksX6_laysPlain_3 20 rfl rfl)
theorem dX6_laysPlain_94 : decode cX6_laysPlain 94 = .ok (.aload_n 0, 1) := dk_42 (dk_at dksX6_laysPlain_3 23 rfl rfl)
theorem dX6_laysPlain_95 : decode cX6_laysPlain 95 = .ok (.getfield 123, 3) := dk_180 0 123 (dk_at dksX6_laysPlain_4 0 rfl rfl)
theorem dX6_laysPlain_98 : decode cX6_laysPlain 98 = .ok (.iload_n 3, 1) := dk_29 (dk_at dksX6_laysPlain_4 3 rfl rfl)
theorem dX6_laysPlain_99 : decode cX6_laysPlain 99 = .ok (.iaload, 1) := dk_46 (dk_at dksX6_laysPlain_4 4 rfl rfl)
theorem dX6_laysPlain_100 : decode cX6_laysPlain 100 = .ok (.iload_n 2, 1) := dk_28 (dk_at dksX6_laysPlain_4 5 rfl rfl)
theorem dX6_laysPlain_101 : decode cX6_laysPlain 101 = .ok (.iconst 1, 1) := dk_4 (dk_at dksX6_laysPlain_4 6 rfl rfl)
theorem dX6_laysPlain_102 : decode cX6_laysPlain 102 = .ok (.isub, 1) := dk_100 (dk_at dksX6_laysPlain_4 7 rfl rfl)
theorem dX6_laysPlain_103 : decode cX6_laysPlain 103 = .ok (.if_icmp .le 6, 3) := dk_164 0 6 (dk_at dksX6_laysPlain_4 8 rfl rfl)
theorem dX6_laysPlain_106 : decode cX6_laysPlain 106 = .ok (.goto 91, 3) := dk_167 0 91 (dk_at dksX6_laysPlain_4 11 rfl rfl)
theorem dX6_laysPlain_109 : decode cX6_laysPlain 109 = .ok (.aload_n 0, 1) := dk_42 (dk_at dksX6_laysPlain_4 14 rfl rfl)
theorem dX6_laysPlain_110 : decode cX6_laysPlain 110 = .ok (.getfield 123, 3) := dk_180 0 123 (dk_at dksX6_laysPlain_4 15 rfl rfl)
theorem dX6_laysPlain_113 : decode cX6_laysPlain 113 = .ok (.iload_n 3, 1) := dk_29 (dk_at dksX6_laysPlain_4 18 rfl rfl)
theorem dX6_laysPlain_114 : decode cX6_laysPlain 114 = .ok (.iaload, 1) := dk_46 (dk_at dksX6_laysPlain_4 19 rfl rfl)
theorem dX6_laysPlain_115 : decode cX6_laysPlain 115 = .ok (.iload_n 2, 1) := dk_28 (dk_at dksX6_laysPlain_4 20 rfl rfl)
theorem dX6_laysPlain_116 : decode cX6_laysPlain 116 = .ok (.iconst 1, 1) := dk_4 (dk_at dksX6_laysPlain_4 21 rfl rfl)
theorem dX6_laysPlain_117 : decode cX6_laysPlain 117 = .ok (.isub, 1) := dk_100 (dk_at dksX6_laysPlain_4 22 rfl rfl)
theorem dX6_laysPlain_118 : decode cX6_laysPlain 118 = .ok (.if_icmp .ne 13, 3) := dk_160 0 13 (dk_at dksX6_laysPlain_5 0 rfl rfl)
theorem dX6_laysPlain_121 : decode cX6_laysPlain 121 = .ok (.aload_n 0, 1) := dk_42 (dk_at dksX6_laysPlain_5 3 rfl rfl)
theorem dX6_laysPlain_122 : decode cX6_laysPlain 122 = .ok (.iload_n 1, 1) := dk_27 (dk_at dksX6_laysPlain_5 4 rfl rfl)
theorem dX6_laysPlain_123 : decode cX6_laysPlain 123 = .ok (.iload_n 3, 1) := dk_29 (dk_at dksX6_laysPlain_5 5 rfl rfl)
theorem dX6_laysPlain_124 : decode cX6_laysPlain 124 = .ok (.iconst (-1), 1) := dk_2 (dk_at dksX6_laysPlain_5 6 rfl rfl)
theorem dX6_laysPlain_125 : decode cX6_laysPlain 125 = .ok (.ixor, 1) := dk_130 (dk_at dksX6_laysPlain_5 7 rfl rfl)
theorem dX6_laysPlain_126 : decode cX6_laysPlain 126 = .ok (.iand, 1) := dk_126 (dk_at dksX6_laysPlain_5 8 rfl rfl)
theorem dX6_laysPlain_127 : decode cX6_laysPlain 127 = .ok (.iload_n 2, 1) := dk_28 (dk_at dksX6_laysPlain_5 9 rfl rfl)
theorem dX6_laysPlain_128 : decode cX6_laysPlain 128 = .ok (.invokevirtual 435, 3) := dk_182 1 179 (dk_at dksX6_laysPlain_5 10 rfl rfl)
theorem dX6_laysPlain_131 : decode cX6_laysPlain 131 = .ok (.iconst 0, 1) := dk_3 (dk_at dksX6_laysPlain_5 13 rfl rfl)
theorem dX6_laysPlain_132 : decode cX6_laysPlain 132 = .ok (.istore 4, 2) := dk_54 4 (dk_at dksX6_laysPlain_5 14 rfl rfl)
theorem dX6_laysPlain_134 : decode cX6_laysPlain 134 = .ok (.iload 4, 2) := dk_21 4 (dk_at dksX6_laysPlain_5 16 rfl rfl)
theorem dX6_laysPlain_136 : decode cX6_laysPlain 136 = .ok (.iload_n 1, 1) := dk_27 (dk_at dksX6_laysPlain_5 18 rfl rfl)
theorem dX6_laysPlain_137 : decode cX6_laysPlain 137 = .ok (.if_icmp .gt 60, 3) := dk_163 0 60 (dk_at dksX6_laysPlain_5 19 rfl rfl)
theorem dX6_laysPlain_140 : decode cX6_laysPlain 140 = .ok (.aload_n 0, 1) := dk_42 (dk_at dksX6_laysPlain_5 22 rfl rfl)
theorem dX6_laysPlain_141 : decode cX6_laysPlain 141 = .ok (.getfield 123, 3) := dk_180 0 123 (dk_at dksX6_laysPlain_6 0 rfl rfl)
theorem dX6_laysPlain_144 : decode cX6_laysPlain 144 = .ok (.iload 4, 2) := dk_21 4 (dk_at dksX6_laysPlain_6 3 rfl rfl)
theorem dX6_laysPlain_146 : decode cX6_laysPlain 146 = .ok (.iaload, 1) := dk_46 (dk_at dksX6_laysPlain_6 5 rfl rfl)
theorem dX6_laysPlain_147 : decode cX6_laysPlain 147 = .ok (.ifCond .eq 44, 3) := dk_153 0 44 (dk_at dksX6_laysPlain_6 6 rfl rfl)
theorem dX6_laysPlain_150 : decode cX6_laysPlain 150 = .ok (.aload_n 0, 1) := dk_42 (dk_at dksX6_laysPlain_6 9 rfl rfl)
theorem dX6_laysPlain_151 : decode cX6_laysPlain 151 = .ok (.getfield 123, 3) := dk_180 0 123 (dk_at dksX6_laysPlain_6 10 rfl rfl)
theorem dX6_laysPlain_154 : decode cX6_laysPlain 154 = .ok (.iload_n 3, 1) := dk_29 (dk_at dksX6_laysPlain_6 13 rfl rfl)
theorem dX6_laysPlain_155 : decode cX6_laysPlain 155 = .ok (.iaload, 1) := dk_46 (dk_at dksX6_laysPlain_6 14 rfl rfl)
theorem dX6_laysPlain_156 : decode cX6_laysPlain 156 = .ok (.aload_n 0, 1) := dk_42 (dk_at dksX6_laysPlain_6 15 rfl rfl)
theorem dX6_laysPlain_157 : decode cX6_laysPlain 157 = .ok (.getfield 123, 3) := dk_180 0 123 (dk_at dksX6_laysPlain_6 16 rfl rfl)
theorem dX6_laysPlain_160 : decode cX6_laysPlain 160 = .ok (.iload 4, 2) := dk_21 4 (dk_at dksX6_laysPlain_6 19 rfl rfl)
theorem dX6_laysPlain_162 : decode cX6_laysPlain 162 = .ok (.iaload, 1) := dk_46 (dk_at dksX6_laysPlain_6 21 rfl rfl)
theorem dX6_laysPlain_163 : decode cX6_laysPlain 163 = .ok (.iadd, 1) := dk_96 (dk_at dksX6_laysPlain_6 22 rfl rfl)
theorem dX6_laysPlain_164 : decode cX6_laysPlain 164 = .ok (.iconst 1, 1) := dk_4 (dk_at dksX6_laysPlain_6 23 rfl rfl)
theorem dX6_laysPlain_165 : decode cX6_laysPlain 165 = .ok (.iadd, 1) := dk_96 (dk_at dksX6_laysPlain_7 0 rfl rfl)
theorem dX6_laysPlain_166 : decode cX6_laysPlain 166 = .ok (.iload_n 2, 1) := dk_28 (dk_at dksX6_laysPlain_7 1 rfl rfl)
theorem dX6_laysPlain_167 : decode cX6_laysPlain 167 = .ok (.if_icmp .eq 6, 3) := dk_159 0 6 (dk_at dksX6_laysPlain_7 2 rfl rfl)
theorem dX6_laysPlain_170 : decode cX6_laysPlain 170 = .ok (.goto 21, 3) := dk_167 0 21 (dk_at dksX6_laysPlain_7 5 rfl rfl)
theorem dX6_laysPlain_173 : decode cX6_laysPlain 173 = .ok (.aload_n 0, 1) := dk_42 (dk_at dksX6_laysPlain_7 8 rfl rfl)
theorem dX6_laysPlain_174 : decode cX6_laysPlain 174 = .ok (.iload_n 3, 1) := dk_29 (dk_at dksX6_laysPlain_7 9 rfl rfl)
theorem dX6_laysPlain_175 : decode cX6_laysPlain 175 = .ok (.iload 4, 2) := dk_21 4 (dk_at dksX6_laysPlain_7 10 rfl rfl)
theorem dX6_laysPlain_177 : decode cX6_laysPlain 177 = .ok (.iand, 1) := dk_126 (dk_at dksX6_laysPlain_7 12 rfl rfl)
theorem dX6_laysPlain_178 : decode cX6_laysPlain 178 = .ok (.iload_n 2, 1) := dk_28 (dk_at dksX6_laysPlain_7 13 rfl rfl)
theorem dX6_laysPlain_179 : decode cX6_laysPlain 179 = .ok (.invokevirtual 435, 3) := dk_182 1 179 (dk_at dksX6_laysPlain_7 14 rfl rfl)
theorem dX6_laysPlain_182 : decode cX6_laysPlain 182 = .ok (.aload_n 0, 1) := dk_42 (dk_at dksX6_laysPlain_7 17 rfl rfl)
theorem dX6_laysPlain_183 : decode cX6_laysPlain 183 = .ok (.iload_n 3, 1) := dk_29 (dk_at dksX6_laysPlain_7 18 rfl rfl)
theorem dX6_laysPlain_184 : decode cX6_laysPlain 184 = .ok (.iload 4, 2) := dk_21 4 (dk_at dksX6_laysPlain_7 19 rfl rfl)
theorem dX6_laysPlain_186 : decode cX6_laysPlain 186 = .ok (.ior, 1) := dk_128 (dk_at dksX6_laysPlain_7 21 rfl rfl)
theorem dX6_laysPlain_187 : decode cX6_laysPlain 187 = .ok (.iload_n 2, 1) := dk_28 (dk_at dksX6_laysPlain_7 22 rfl rfl)
theorem dX6_laysPlain_188 : decode cX6_laysPlain 188 = .ok (.invokevirtual 435, 3) := dk_182 1 179 (dk_at dksX6_laysPlain_8 0 rfl rfl)
theorem dX6_laysPlain_191 : decode cX6_laysPlain 191 = .ok (.iinc 4 1, 3) := dk_132 4 1 (dk_at dksX6_laysPlain_8 3 rfl rfl)
theorem dX6_laysPlain_194 : decode cX6_laysPlain 194 = .ok (.goto (-60), 3) := dk_167 255 196 (dk_at dksX6_laysPlain_8 6 rfl rfl)
theorem dX6_laysPlain_197 : decode cX6_laysPlain 197 = .ok (.iinc 3 1, 3) := dk_132 3 1 (dk_at dksX6_laysPlain_8 9 rfl rfl)
theorem dX6_laysPlain_200 : decode cX6_laysPlain 200 = .ok (.goto (-120), 3) := dk_167 255 136 (dk_at dksX6_laysPlain_8 12 rfl rfl)
theorem dX6_laysPlain_203 : decode cX6_laysPlain 203 = .ok (.iinc 2 1, 3) := dk_132 2 1 (dk_at dksX6_laysPlain_8 15 rfl rfl)
theorem dX6_laysPlain_206 : decode cX6_laysPlain 206 = .ok (.goto (-134), 3) := dk_167 255 122 (dk_at dksX6_laysPlain_8 18 rfl rfl)
theorem dX6_laysPlain_209 : decode cX6_laysPlain 209 = .ok (.return_, 1) := dk_177 (dk_at dksX6_laysPlain_8 21 rfl rfl)
abbrev cX6_isLong : ByteArray := prog_19_method_126_code
def yX6_isLong : MethodName := ⟨RX6, "isLong", "(II)V"⟩
def dkwX6_isLong_1 : List UInt8 := [79, 177]
abbrev dktX6_isLong_1 : List UInt8 := dkwX6_isLong_1 ++ []
def dkwX6_isLong_0 : List UInt8 := [42, 180, 0, 123, 27, 42, 180, 0, 123, 27, 46, 154, 0, 7, 28, 167, 0, 9, 42, 180, 0, 123, 27, 46]
abbrev dktX6_isLong_0 : List UInt8 := dkwX6_isLong_0 ++ dktX6_isLong_1
theorem dksX6_isLong_0 : cX6_isLong.data.toList.drop 0 = dktX6_isLong_0 := by decide +kernel
theorem dksX6_isLong_1 : cX6_isLong.data.toList.drop 24 = dktX6_isLong_1 := dk_seg dksX6_isLong_0 24 rfl rfl
theorem dX6_isLong_0 : decode cX6_isLong 0 = .ok (.aload_n 0, 1) := dk_42 (dk_at dksX6_isLong_0 0 rfl rfl)
theorem dX6_isLong_1 : decode cX6_isLong 1 = .ok (.getfield 123, 3) := dk_180 0 123 (dk_at dksX6_isLong_0 1 rfl rfl)
theorem dX6_isLong_4 : decode cX6_isLong 4 = .ok (.iload_n 1, 1) := dk_27 (dk_at dksX6_isLong_0 4 rfl rfl)
theorem dX6_isLong_5 : decode cX6_isLong 5 = .ok (.aload_n 0, 1) := dk_42 (dk_at dksX6_isLong_0 5 rfl rfl)
theorem dX6_isLong_6 : decode cX6_isLong 6 = .ok (.getfield 123, 3) := dk_180 0 123 (dk_at dksX6_isLong_0 6 rfl rfl)
theorem dX6_isLong_9 : decode cX6_isLong 9 = .ok (.iload_n 1, 1) := dk_27 (dk_at dksX6_isLong_0 9 rfl rfl)
theorem dX6_isLong_10 : decode cX6_isLong 10 = .ok (.iaload, 1) := dk_46 (dk_at dksX6_isLong_0 10 rfl rfl)
theorem dX6_isLong_11 : decode cX6_isLong 11 = .ok (.ifCond .ne 7, 3) := dk_154 0 7 (dk_at dksX6_isLong_0 11 rfl rfl)
theorem dX6_isLong_14 : decode cX6_isLong 14 = .ok (.iload_n 2, 1) := dk_28 (dk_at dksX6_isLong_0 14 rfl rfl)
theorem dX6_isLong_15 : decode cX6_isLong 15 = .ok (.goto 9, 3) := dk_167 0 9 (dk_at dksX6_isLong_0 15 rfl rfl)
theorem dX6_isLong_18 : decode cX6_isLong 18 = .ok (.aload_n 0, 1) := dk_42 (dk_at dksX6_isLong_0 18 rfl rfl)
theorem dX6_isLong_19 : decode cX6_isLong 19 = .ok (.getfield 123, 3) := dk_180 0 123 (dk_at dksX6_isLong_0 19 rfl rfl)
theorem dX6_isLong_22 : decode cX6_isLong 22 = .ok (.iload_n 1, 1) := dk_27 (dk_at dksX6_isLong_0 22 rfl rfl)
theorem dX6_isLong_23 : decode cX6_isLong 23 = .ok (.iaload, 1) := dk_46 (dk_at dksX6_isLong_0 23 rfl rfl)
theorem dX6_isLong_24 : decode cX6_isLong 24 = .ok (.iastore, 1) := dk_79 (dk_at dksX6_isLong_1 0 rfl rfl)
theorem dX6_isLong_25 : decode cX6_isLong 25 = .ok (.return_, 1) := dk_177 (dk_at dksX6_isLong_1 1 rfl rfl)
abbrev cX6_judge : ByteArray := prog_19_method_128_code
def yX6_judge : MethodName := ⟨RX6, "judge", "(IIII)I"⟩
def dkwX6_judge_3 : List UInt8 := [27, 28, 29, 3, 4, 21, 4, 182, 1, 85, 172]
abbrev dktX6_judge_3 : List UInt8 := dkwX6_judge_3 ++ []
def dkwX6_judge_2 : List UInt8 := [21, 4, 184, 1, 50, 154, 0, 7, 4, 167, 0, 4, 3, 5, 4, 182, 0, 233, 153, 0, 5, 3, 172, 42]
abbrev dktX6_judge_2 : List UInt8 := dkwX6_judge_2 ++ dktX6_judge_3
def dkwX6_judge_1 : List UInt8 := [167, 0, 4, 3, 4, 3, 182, 0, 233, 154, 0, 35, 42, 29, 3, 16, 52, 184, 0, 166, 153, 0, 11]
abbrev dktX6_judge_1 : List UInt8 := dkwX6_judge_1 ++ dktX6_judge_2
def dkwX6_judge_0 : List UInt8 := [42, 3, 181, 0, 132, 42, 42, 27, 182, 1, 47, 153, 0, 11, 42, 28, 182, 1, 47, 154, 0, 7, 4]
abbrev dktX6_judge_0 : List UInt8 := dkwX6_judge_0 ++ dktX6_judge_1
theorem dksX6_judge_0 : cX6_judge.data.toList.drop 0 = dktX6_judge_0 := by decide +kernel
theorem dksX6_judge_1 : cX6_judge.data.toList.drop 23 = dktX6_judge_1 := dk_seg dksX6_judge_0 23 rfl rfl
theorem dksX6_judge_2 : cX6_judge.data.toList.drop 46 = dktX6_judge_2 := dk_seg dksX6_judge_1 23 rfl rfl
theorem dksX6_judge_3 : cX6_judge.data.toList.drop 70 = dktX6_judge_3 := dk_seg dksX6_judge_2 24 rfl rfl
theorem dX6_judge_0 : decode cX6_judge 0 = .ok (.aload_n 0, 1) := dk_42 (dk_at dksX6_judge_0 0 rfl rfl)
theorem dX6_judge_1 : decode cX6_judge 1 = .ok (.iconst 0, 1) := dk_3 (dk_at dksX6_judge_0 1 rfl rfl)
theorem dX6_judge_2 : decode cX6_judge 2 = .ok (.putfield 132, 3) := dk_181 0 132 (dk_at dksX6_judge_0 2 rfl rfl)
theorem dX6_judge_5 : decode cX6_judge 5 = .ok (.aload_n 0, 1) := dk_42 (dk_at dksX6_judge_0 5 rfl rfl)
theorem dX6_judge_6 : decode cX6_judge 6 = .ok (.aload_n 0, 1) := dk_42 (dk_at dksX6_judge_0 6 rfl rfl)
theorem dX6_judge_7 : decode cX6_judge 7 = .ok (.iload_n 1, 1) := dk_27 (dk_at dksX6_judge_0 7 rfl rfl)
theorem dX6_judge_8 : decode cX6_judge 8 = .ok (.invokevirtual 303, 3) := dk_182 1 47 (dk_at dksX6_judge_0 8 rfl rfl)
theorem dX6_judge_11 : decode cX6_judge 11 = .ok (.ifCond .eq 11, 3) := dk_153 0 11 (dk_at dksX6_judge_0 11 rfl rfl)
theorem dX6_judge_14 : decode cX6_judge 14 = .ok (.aload_n 0, 1) := dk_42 (dk_at dksX6_judge_0 14 rfl rfl)
theorem dX6_judge_15 : decode cX6_judge 15 = .ok (.iload_n 2, 1) := dk_28 (dk_at dksX6_judge_0 15 rfl rfl)
theorem dX6_judge_16 : decode cX6_judge 16 = .ok (.invokevirtual 303, 3) := dk_182 1 47 (dk_at dksX6_judge_0 16 rfl rfl)
theorem dX6_judge_19 : decode cX6_judge 19 = .ok (.ifCond .ne 7, 3) := dk_154 0 7 (dk_at dksX6_judge_0 19 rfl rfl)
theorem dX6_judge_22 : decode cX6_judge 22 = .ok (.iconst 1, 1) := dk_4 (dk_at dksX6_judge_0 22 rfl rfl)
theorem dX6_judge_23 : decode cX6_judge 23 = .ok (.goto 4, 3) := dk_167 0 4 (dk_at dksX6_judge_1 0 rfl rfl)
theorem dX6_judge_26 : decode cX6_judge 26 = .ok (.iconst 0, 1) := dk_3 (dk_at dksX6_judge_1 3 rfl rfl)
theorem dX6_judge_27 : decode cX6_judge 27 = .ok (.iconst 1, 1) := dk_4 (dk_at dksX6_judge_1 4 rfl rfl)
theorem dX6_judge_28 : decode cX6_judge 28 = .ok (.iconst 0, 1) := dk_3 (dk_at dksX6_judge_1 5 rfl rfl)
theorem dX6_judge_29 : decode cX6_judge 29 = .ok (.invokevirtual 233, 3) := dk_182 0 233 (dk_at dksX6_judge_1 6 rfl rfl)
theorem dX6_judge_32 : decode cX6_judge 32 = .ok (.ifCond .ne 35, 3) := dk_154 0 35 (dk_at dksX6_judge_1 9 rfl rfl)
theorem dX6_judge_35 : decode cX6_judge 35 = .ok (.aload_n 0, 1) := dk_42 (dk_at dksX6_judge_1 12 rfl rfl)
theorem dX6_judge_36 : decode cX6_judge 36 = .ok (.iload_n 3, 1) := dk_29 (dk_at dksX6_judge_1 13 rfl rfl)
theorem dX6_judge_37 : decode cX6_judge 37 = .ok (.iconst 0, 1) := dk_3 (dk_at dksX6_judge_1 14 rfl rfl)
theorem dX6_judge_38 : decode cX6_judge 38 = .ok (.bipush 52, 2) := dk_16 52 (dk_at dksX6_judge_1 15 rfl rfl)
theorem dX6_judge_40 : decode cX6_judge 40 = .ok (.invokestatic 166, 3) := dk_184 0 166 (dk_at dksX6_judge_1 17 rfl rfl)
theorem dX6_judge_43 : decode cX6_judge 43 = .ok (.ifCond .eq 11, 3) := dk_153 0 11 (dk_at dksX6_judge_1 20 rfl rfl)
theorem dX6_judge_46 : decode cX6_judge 46 = .ok (.iload 4, 2) := dk_21 4 (dk_at dksX6_judge_2 0 rfl rfl)
theorem dX6_judge_48 : decode cX6_judge 48 = .ok (.invokestatic 306, 3) := dk_184 1 50 (dk_at dksX6_judge_2 2 rfl rfl)
theorem dX6_judge_51 : decode cX6_judge 51 = .ok (.ifCond .ne 7, 3) := dk_154 0 7 (dk_at dksX6_judge_2 5 rfl rfl)
theorem dX6_judge_54 : decode cX6_judge 54 = .ok (.iconst 1, 1) := dk_4 (dk_at dksX6_judge_2 8 rfl rfl)
theorem dX6_judge_55 : decode cX6_judge 55 = .ok (.goto 4, 3) := dk_167 0 4 (dk_at dksX6_judge_2 9 rfl rfl)
theorem dX6_judge_58 : decode cX6_judge 58 = .ok (.iconst 0, 1) := dk_3 (dk_at dksX6_judge_2 12 rfl rfl)
theorem dX6_judge_59 : decode cX6_judge 59 = .ok (.iconst 2, 1) := dk_5 (dk_at dksX6_judge_2 13 rfl rfl)
theorem dX6_judge_60 : decode cX6_judge 60 = .ok (.iconst 1, 1) := dk_4 (dk_at dksX6_judge_2 14 rfl rfl)
theorem dX6_judge_61 : decode cX6_judge 61 = .ok (.invokevirtual 233, 3) := dk_182 0 233 (dk_at dksX6_judge_2 15 rfl rfl)
theorem dX6_judge_64 : decode cX6_judge 64 = .ok (.ifCond .eq 5, 3) := dk_153 0 5 (dk_at dksX6_judge_2 18 rfl rfl)
theorem dX6_judge_67 : decode cX6_judge 67 = .ok (.iconst 0, 1) := dk_3 (dk_at dksX6_judge_2 21 rfl rfl)
theorem dX6_judge_68 : decode cX6_judge 68 = .ok (.ireturn, 1) := dk_172 (dk_at dksX6_judge_2 22 rfl rfl)
theorem dX6_judge_69 : decode cX6_judge 69 = .ok (.aload_n 0, 1) := dk_42 (dk_at dksX6_judge_2 23 rfl rfl)
theorem dX6_judge_70 : decode cX6_judge 70 = .ok (.iload_n 1, 1) := dk_27 (dk_at dksX6_judge_3 0 rfl rfl)
theorem dX6_judge_71 : decode cX6_judge 71 = .ok (.iload_n 2, 1) := dk_28 (dk_at dksX6_judge_3 1 rfl rfl)
theorem dX6_judge_72 : decode cX6_judge 72 = .ok (.iload_n 3, 1) := dk_29 (dk_at dksX6_judge_3 2 rfl rfl)
theorem dX6_judge_73 : decode cX6_judge 73 = .ok (.iconst 0, 1) := dk_3 (dk_at dksX6_judge_3 3 rfl rfl)
theorem dX6_judge_74 : decode cX6_judge 74 = .ok (.iconst 1, 1) := dk_4 (dk_at dksX6_judge_3 4 rfl rfl)
theorem dX6_judge_75 : decode cX6_judge 75 = .ok (.iload 4, 2) := dk_21 4 (dk_at dksX6_judge_3 5 rfl rfl)
theorem dX6_judge_77 : decode cX6_judge 77 = .ok (.invokevirtual 341, 3) := dk_182 1 85 (dk_at dksX6_judge_3 7 rfl rfl)
theorem dX6_judge_80 : decode cX6_judge 80 = .ok (.ireturn, 1) := dk_172 (dk_at dksX6_judge_3 10 rfl rfl)
abbrev cX6_image : ByteArray := prog_19_method_131_code
def yX6_image : MethodName := ⟨RX6, "image", "()I"⟩
def dkwX6_image_1 : List UInt8 := [50, 3, 182, 1, 192, 42, 89, 180, 0, 246, 4, 96, 181, 0, 246, 42, 180, 0, 246, 172]
abbrev dktX6_image_1 : List UInt8 := dkwX6_image_1 ++ []
def dkwX6_image_0 : List UInt8 := [42, 3, 181, 0, 132, 42, 180, 0, 246, 6, 160, 0, 5, 2, 172, 42, 42, 180, 0, 59, 42, 180, 0, 246]
abbrev dktX6_image_0 : List UInt8 := dkwX6_image_0 ++ dktX6_image_1
theorem dksX6_image_0 : cX6_image.data.toList.drop 0 = dktX6_image_0 := by decide +kernel
theorem dksX6_image_1 : cX6_image.data.toList.drop 24 = dktX6_image_1 := dk_seg dksX6_image_0 24 rfl rfl
theorem dX6_image_0 : decode cX6_image 0 = .ok (.aload_n 0, 1) := dk_42 (dk_at dksX6_image_0 0 rfl rfl)
theorem dX6_image_1 : decode cX6_image 1 = .ok (.iconst 0, 1) := dk_3 (dk_at dksX6_image_0 1 rfl rfl)
theorem dX6_image_2 : decode cX6_image 2 = .ok (.putfield 132, 3) := dk_181 0 132 (dk_at dksX6_image_0 2 rfl rfl)
theorem dX6_image_5 : decode cX6_image 5 = .ok (.aload_n 0, 1) := dk_42 (dk_at dksX6_image_0 5 rfl rfl)
theorem dX6_image_6 : decode cX6_image 6 = .ok (.getfield 246, 3) := dk_180 0 246 (dk_at dksX6_image_0 6 rfl rfl)
theorem dX6_image_9 : decode cX6_image 9 = .ok (.iconst 3, 1) := dk_6 (dk_at dksX6_image_0 9 rfl rfl)
theorem dX6_image_10 : decode cX6_image 10 = .ok (.if_icmp .ne 5, 3) := dk_160 0 5 (dk_at dksX6_image_0 10 rfl rfl)
theorem dX6_image_13 : decode cX6_image 13 = .ok (.iconst (-1), 1) := dk_2 (dk_at dksX6_image_0 13 rfl rfl)
theorem dX6_image_14 : decode cX6_image 14 = .ok (.ireturn, 1) := dk_172 (dk_at dksX6_image_0 14 rfl rfl)
theorem dX6_image_15 : decode cX6_image 15 = .ok (.aload_n 0, 1) := dk_42 (dk_at dksX6_image_0 15 rfl rfl)
theorem dX6_image_16 : decode cX6_image 16 = .ok (.aload_n 0, 1) := dk_42 (dk_at dksX6_image_0 16 rfl rfl)
theorem dX6_image_17 : decode cX6_image 17 = .ok (.getfield 59, 3) := dk_180 0 59 (dk_at dksX6_image_0 17 rfl rfl)
theorem dX6_image_20 : decode cX6_image 20 = .ok (.aload_n 0, 1) := dk_42 (dk_at dksX6_image_0 20 rfl rfl)
theorem dX6_image_21 : decode cX6_image 21 = .ok (.getfield 246, 3) := dk_180 0 246 (dk_at dksX6_image_0 21 rfl rfl)
theorem dX6_image_24 : decode cX6_image 24 = .ok (.aaload, 1) := dk_50 (dk_at dksX6_image_1 0 rfl rfl)
theorem dX6_image_25 : decode cX6_image 25 = .ok (.iconst 0, 1) := dk_3 (dk_at dksX6_image_1 1 rfl rfl)
theorem dX6_image_26 : decode cX6_image 26 = .ok (.invokevirtual 448, 3) := dk_182 1 192 (dk_at dksX6_image_1 2 rfl rfl)
theorem dX6_image_29 : decode cX6_image 29 = .ok (.aload_n 0, 1) := dk_42 (dk_at dksX6_image_1 5 rfl rfl)
theorem dX6_image_30 : decode cX6_image 30 = .ok (.dup, 1) := dk_89 (dk_at dksX6_image_1 6 rfl rfl)
theorem dX6_image_31 : decode cX6_image 31 = .ok (.getfield 246, 3) := dk_180 0 246 (dk_at dksX6_image_1 7 rfl rfl)
theorem dX6_image_34 : decode cX6_image 34 = .ok (.iconst 1, 1) := dk_4 (dk_at dksX6_image_1 10 rfl rfl)
theorem dX6_image_35 : decode cX6_image 35 = .ok (.iadd, 1) := dk_96 (dk_at dksX6_image_1 11 rfl rfl)
theorem dX6_image_36 : decode cX6_image 36 = .ok (.putfield 246, 3) := dk_181 0 246 (dk_at dksX6_image_1 12 rfl rfl)
theorem dX6_image_39 : decode cX6_image 39 = .ok (.aload_n 0, 1) := dk_42 (dk_at dksX6_image_1 15 rfl rfl)
theorem dX6_image_40 : decode cX6_image 40 = .ok (.getfield 246, 3) := dk_180 0 246 (dk_at dksX6_image_1 16 rfl rfl)
theorem dX6_image_43 : decode cX6_image 43 = .ok (.ireturn, 1) := dk_172 (dk_at dksX6_image_1 19 rfl rfl)
abbrev cX6_movesAll : ByteArray := prog_19_method_130_code
def yX6_movesAll : MethodName := ⟨RX6, "movesAll", "([IZ)V"⟩
def dkwX6_movesAll_3 : List UInt8 := [167, 255, 229, 177]
abbrev dktX6_movesAll_3 : List UInt8 := dkwX6_movesAll_3 ++ []
def dkwX6_movesAll_2 : List UInt8 := [162, 0, 27, 42, 180, 0, 54, 29, 42, 43, 42, 180, 0, 54, 29, 46, 28, 182, 1, 188, 79, 132, 3, 1]
abbrev dktX6_movesAll_2 : List UInt8 := dkwX6_movesAll_2 ++ dktX6_movesAll_3
def dkwX6_movesAll_1 : List UInt8 := [180, 0, 23, 8, 42, 43, 42, 180, 0, 23, 8, 46, 28, 182, 1, 188, 79, 3, 62, 29, 16, 12]
abbrev dktX6_movesAll_1 : List UInt8 := dkwX6_movesAll_1 ++ dktX6_movesAll_2
def dkwX6_movesAll_0 : List UInt8 := [42, 3, 181, 1, 185, 42, 180, 0, 23, 7, 42, 43, 42, 180, 0, 23, 7, 46, 28, 182, 1, 188, 79, 42]
abbrev dktX6_movesAll_0 : List UInt8 := dkwX6_movesAll_0 ++ dktX6_movesAll_1
theorem dksX6_movesAll_0 : cX6_movesAll.data.toList.drop 0 = dktX6_movesAll_0 := by decide +kernel
theorem dksX6_movesAll_1 : cX6_movesAll.data.toList.drop 24 = dktX6_movesAll_1 := dk_seg dksX6_movesAll_0 24 rfl rfl
theorem dksX6_movesAll_2 : cX6_movesAll.data.toList.drop 46 = dktX6_movesAll_2 := dk_seg dksX6_movesAll_1 22 rfl rfl
theorem dksX6_movesAll_3 : cX6_movesAll.data.toList.drop 70 = dktX6_movesAll_3 := dk_seg dksX6_movesAll_2 24 rfl rfl
theorem dX6_movesAll_0 : decode cX6_movesAll 0 = .ok (.aload_n 0, 1) := dk_42 (dk_at dksX6_movesAll_0 0 rfl rfl)
theorem dX6_movesAll_1 : decode cX6_movesAll 1 = .ok (.iconst 0, 1) := dk_3 (dk_at dksX6_movesAll_0 1 rfl rfl)
theorem dX6_movesAll_2 : decode cX6_movesAll 2 = .ok (.putfield 441, 3) := dk_181 1 185 (dk_at dksX6_movesAll_0 2 rfl rfl)
theorem dX6_movesAll_5 : decode cX6_movesAll 5 = .ok (.aload_n 0, 1) := dk_42 (dk_at dksX6_movesAll_0 5 rfl rfl)
theorem dX6_movesAll_6 : decode cX6_movesAll 6 = .ok (.getfield 23, 3) := dk_180 0 23 (dk_at dksX6_movesAll_0 6 rfl rfl)
theorem dX6_movesAll_9 : decode cX6_movesAll 9 = .ok (.iconst 4, 1) := dk_7 (dk_at dksX6_movesAll_0 9 rfl rfl)
theorem dX6_movesAll_10 : decode cX6_movesAll 10 = .ok (.aload_n 0, 1) := dk_42 (dk_at dksX6_movesAll_0 10 rfl rfl)
theorem dX6_movesAll_11 : decode cX6_movesAll 11 = .ok (.aload_n 1, 1) := dk_43 (dk_at dksX6_movesAll_0 11 rfl rfl)
theorem dX6_movesAll_12 : decode cX6_movesAll 12 = .ok (.aload_n 0, 1) := dk_42 (dk_at dksX6_movesAll_0 12 rfl rfl)
theorem dX6_movesAll_13 : decode cX6_movesAll 13 = .ok (.getfield 23, 3) := dk_180 0 23 (dk_at dksX6_movesAll_0 13 rfl rfl)
theorem dX6_movesAll_16 : decode cX6_movesAll 16 = .ok (.iconst 4, 1) := dk_7 (dk_at dksX6_movesAll_0 16 rfl rfl)
theorem dX6_movesAll_17 : decode cX6_movesAll 17 = .ok (.iaload, 1) := dk_46 (dk_at dksX6_movesAll_0 17 rfl rfl)
theorem dX6_movesAll_18 : decode cX6_movesAll 18 = .ok (.iload_n 2, 1) := dk_28 (dk_at dksX6_movesAll_0 18 rfl rfl)
theorem dX6_movesAll_19 : decode cX6_movesAll 19 = .ok (.invokevirtual 444, 3) := dk_182 1 188 (dk_at dksX6_movesAll_0 19 rfl rfl)
theorem dX6_movesAll_22 : decode cX6_movesAll 22 = .ok (.iastore, 1) := dk_79 (dk_at dksX6_movesAll_0 22 rfl rfl)
theorem dX6_movesAll_23 : decode cX6_movesAll 23 = .ok (.aload_n 0, 1) := dk_42 (dk_at dksX6_movesAll_0 23 rfl rfl)
theorem dX6_movesAll_24 : decode cX6_movesAll 24 = .ok (.getfield 23, 3) := dk_180 0 23 (dk_at dksX6_movesAll_1 0 rfl rfl)
theorem dX6_movesAll_27 : decode cX6_movesAll 27 = .ok (.iconst 5, 1) := dk_8 (dk_at dksX6_movesAll_1 3 rfl rfl)
theorem dX6_movesAll_28 : decode cX6_movesAll 28 = .ok (.aload_n 0, 1) := dk_42 (dk_at dksX6_movesAll_1 4 rfl rfl)
theorem dX6_movesAll_29 : decode cX6_movesAll 29 = .ok (.aload_n 1, 1) := dk_43 (dk_at dksX6_movesAll_1 5 rfl rfl)
theorem dX6_movesAll_30 : decode cX6_movesAll 30 = .ok (.aload_n 0, 1) := dk_42 (dk_at dksX6_movesAll_1 6 rfl rfl)
theorem dX6_movesAll_31 : decode cX6_movesAll 31 = .ok (.getfield 23, 3) := dk_180 0 23 (dk_at dksX6_movesAll_1 7 rfl rfl)
theorem dX6_movesAll_34 : decode cX6_movesAll 34 = .ok (.iconst 5, 1) := dk_8 (dk_at dksX6_movesAll_1 10 rfl rfl)
theorem dX6_movesAll_35 : decode cX6_movesAll 35 = .ok (.iaload, 1) := dk_46 (dk_at dksX6_movesAll_1 11 rfl rfl)
theorem dX6_movesAll_36 : decode cX6_movesAll 36 = .ok (.iload_n 2, 1) := dk_28 (dk_at dksX6_movesAll_1 12 rfl rfl)
theorem dX6_movesAll_37 : decode cX6_movesAll 37 = .ok (.invokevirtual 444, 3) := dk_182 1 188 (dk_at dksX6_movesAll_1 13 rfl rfl)
theorem dX6_movesAll_40 : decode cX6_movesAll 40 = .ok (.iastore, 1) := dk_79 (dk_at dksX6_movesAll_1 16 rfl rfl)
theorem dX6_movesAll_41 : decode cX6_movesAll 41 = .ok (.iconst 0, 1) := dk_3 (dk_at dksX6_movesAll_1 17 rfl rfl)
theorem dX6_movesAll_42 : decode cX6_movesAll 42 = .ok (.istore_n 3, 1) := dk_62 (dk_at dksX6_movesAll_1 18 rfl rfl)
theorem dX6_movesAll_43 : decode cX6_movesAll 43 = .ok (.iload_n 3, 1) := dk_29 (dk_at dksX6_movesAll_1 19 rfl rfl)
theorem dX6_movesAll_44 : decode cX6_movesAll 44 = .ok (.bipush 12, 2) := dk_16 12 (dk_at dksX6_movesAll_1 20 rfl rfl)
theorem dX6_movesAll_46 : decode cX6_movesAll 46 = .ok (.if_icmp .ge 27, 3) := dk_162 0 27 (dk_at dksX6_movesAll_2 0 rfl rfl)
theorem dX6_movesAll_49 : decode cX6_movesAll 49 = .ok (.aload_n 0, 1) := dk_42 (dk_at dksX6_movesAll_2 3 rfl rfl)
theorem dX6_movesAll_50 : decode cX6_movesAll 50 = .ok (.getfield 54, 3) := dk_180 0 54 (dk_at dksX6_movesAll_2 4 rfl rfl)
theorem dX6_movesAll_53 : decode cX6_movesAll 53 = .ok (.iload_n 3, 1) := dk_29 (dk_at dksX6_movesAll_2 7 rfl rfl)
theorem dX6_movesAll_54 : decode cX6_movesAll 54 = .ok (.aload_n 0, 1) := dk_42 (dk_at dksX6_movesAll_2 8 rfl rfl)
theorem dX6_movesAll_55 : decode cX6_movesAll 55 = .ok (.aload_n 1, 1) := dk_43 (dk_at dksX6_movesAll_2 9 rfl rfl)
theorem dX6_movesAll_56 : decode cX6_movesAll 56 = .ok (.aload_n 0, 1) := dk_42 (dk_at dksX6_movesAll_2 10 rfl rfl)
theorem dX6_movesAll_57 : decode cX6_movesAll 57 = .ok (.getfield 54, 3) := dk_180 0 54 (dk_at dksX6_movesAll_2 11 rfl rfl)
theorem dX6_movesAll_60 : decode cX6_movesAll 60 = .ok (.iload_n 3, 1) := dk_29 (dk_at dksX6_movesAll_2 14 rfl rfl)
theorem dX6_movesAll_61 : decode cX6_movesAll 61 = .ok (.iaload, 1) := dk_46 (dk_at dksX6_movesAll_2 15 rfl rfl)
theorem dX6_movesAll_62 : decode cX6_movesAll 62 = .ok (.iload_n 2, 1) := dk_28 (dk_at dksX6_movesAll_2 16 rfl rfl)
theorem dX6_movesAll_63 : decode cX6_movesAll 63 = .ok (.invokevirtual 444, 3) := dk_182 1 188 (dk_at dksX6_movesAll_2 17 rfl rfl)
theorem dX6_movesAll_66 : decode cX6_movesAll 66 = .ok (.iastore, 1) := dk_79 (dk_at dksX6_movesAll_2 20 rfl rfl)
theorem dX6_movesAll_67 : decode cX6_movesAll 67 = .ok (.iinc 3 1, 3) := dk_132 3 1 (dk_at dksX6_movesAll_2 21 rfl rfl)
theorem dX6_movesAll_70 : decode cX6_movesAll 70 = .ok (.goto (-27), 3) := dk_167 255 229 (dk_at dksX6_movesAll_3 0 rfl rfl)
theorem dX6_movesAll_73 : decode cX6_movesAll 73 = .ok (.return_, 1) := dk_177 (dk_at dksX6_movesAll_3 3 rfl rfl)
abbrev cX6_moves : ByteArray := prog_19_method_129_code
def yX6_moves : MethodName := ⟨RX6, "moves", "([IIZ)I"⟩
def dkwX6_moves_1 : List UInt8 := [180, 1, 185, 4, 100, 46, 172]
abbrev dktX6_moves_1 : List UInt8 := dkwX6_moves_1 ++ []
def dkwX6_moves_0 : List UInt8 := [29, 154, 0, 10, 43, 42, 180, 1, 185, 28, 79, 42, 89, 180, 1, 185, 4, 96, 181, 1, 185, 43, 42]
abbrev dktX6_moves_0 : List UInt8 := dkwX6_moves_0 ++ dktX6_moves_1
theorem dksX6_moves_0 : cX6_moves.data.toList.drop 0 = dktX6_moves_0 := by decide +kernel
theorem dksX6_moves_1 : cX6_moves.data.toList.drop 23 = dktX6_moves_1 := dk_seg dksX6_moves_0 23 rfl rfl
theorem dX6_moves_0 : decode cX6_moves 0 = .ok (.iload_n 3, 1) := dk_29 (dk_at dksX6_moves_0 0 rfl rfl)
theorem dX6_moves_1 : decode cX6_moves 1 = .ok (.ifCond .ne 10, 3) := dk_154 0 10 (dk_at dksX6_moves_0 1 rfl rfl)
theorem dX6_moves_4 : decode cX6_moves 4 = .ok (.aload_n 1, 1) := dk_43 (dk_at dksX6_moves_0 4 rfl rfl)
theorem dX6_moves_5 : decode cX6_moves 5 = .ok (.aload_n 0, 1) := dk_42 (dk_at dksX6_moves_0 5 rfl rfl)
theorem dX6_moves_6 : decode cX6_moves 6 = .ok (.getfield 441, 3) := dk_180 1 185 (dk_at dksX6_moves_0 6 rfl rfl)
theorem dX6_moves_9 : decode cX6_moves 9 = .ok (.iload_n 2, 1) := dk_28 (dk_at dksX6_moves_0 9 rfl rfl)
theorem dX6_moves_10 : decode cX6_moves 10 = .ok (.iastore, 1) := dk_79 (dk_at dksX6_moves_0 10 rfl rfl)
theorem dX6_moves_11 : decode cX6_moves 11 = .ok (.aload_n 0, 1) := dk_42 (dk_at dksX6_moves_0 11 rfl rfl)
theorem dX6_moves_12 : decode cX6_moves 12 = .ok (.dup, 1) := dk_89 (dk_at dksX6_moves_0 12 rfl rfl)
theorem dX6_moves_13 : decode cX6_moves 13 = .ok (.getfield 441, 3) := dk_180 1 185 (dk_at dksX6_moves_0 13 rfl rfl)
theorem dX6_moves_16 : decode cX6_moves 16 = .ok (.iconst 1, 1) := dk_4 (dk_at dksX6_moves_0 16 rfl rfl)
theorem dX6_moves_17 : decode cX6_moves 17 = .ok (.iadd, 1) := dk_96 (dk_at dksX6_moves_0 17 rfl rfl)
theorem dX6_moves_18 : decode cX6_moves 18 = .ok (.putfield 441, 3) := dk_181 1 185 (dk_at dksX6_moves_0 18 rfl rfl)
theorem dX6_moves_21 : decode cX6_moves 21 = .ok (.aload_n 1, 1) := dk_43 (dk_at dksX6_moves_0 21 rfl rfl)
theorem dX6_moves_22 : decode cX6_moves 22 = .ok (.aload_n 0, 1) := dk_42 (dk_at dksX6_moves_0 22 rfl rfl)
theorem dX6_moves_23 : decode cX6_moves 23 = .ok (.getfield 441, 3) := dk_180 1 185 (dk_at dksX6_moves_1 0 rfl rfl)
theorem dX6_moves_26 : decode cX6_moves 26 = .ok (.iconst 1, 1) := dk_4 (dk_at dksX6_moves_1 3 rfl rfl)
theorem dX6_moves_27 : decode cX6_moves 27 = .ok (.isub, 1) := dk_100 (dk_at dksX6_moves_1 4 rfl rfl)
theorem dX6_moves_28 : decode cX6_moves 28 = .ok (.iaload, 1) := dk_46 (dk_at dksX6_moves_1 5 rfl rfl)
theorem dX6_moves_29 : decode cX6_moves 29 = .ok (.ireturn, 1) := dk_172 (dk_at dksX6_moves_1 6 rfl rfl)
abbrev cX6_restore : ByteArray := prog_19_method_132_code
def yX6_restore : MethodName := ⟨RX6, "restore", "()I"⟩
def dkwX6_restore_1 : List UInt8 := [42, 42, 180, 0, 59, 42, 180, 0, 246, 50, 4, 182, 1, 192, 42, 180, 0, 246, 172]
abbrev dktX6_restore_1 : List UInt8 := dkwX6_restore_1 ++ []
def dkwX6_restore_0 : List UInt8 := [42, 3, 181, 0, 132, 42, 180, 0, 246, 154, 0, 5, 2, 172, 42, 89, 180, 0, 246, 4, 100, 181, 0, 246]
abbrev dktX6_restore_0 : List UInt8 := dkwX6_restore_0 ++ dktX6_restore_1
theorem dksX6_restore_0 : cX6_restore.data.toList.drop 0 = dktX6_restore_0 := by decide +kernel
theorem dksX6_restore_1 : cX6_restore.data.toList.drop 24 = dktX6_restore_1 := dk_seg dksX6_restore_0 24 rfl rfl
theorem dX6_restore_0 : decode cX6_restore 0 = .ok (.aload_n 0, 1) := dk_42 (dk_at dksX6_restore_0 0 rfl rfl)
theorem dX6_restore_1 : decode cX6_restore 1 = .ok (.iconst 0, 1) := dk_3 (dk_at dksX6_restore_0 1 rfl rfl)
theorem dX6_restore_2 : decode cX6_restore 2 = .ok (.putfield 132, 3) := dk_181 0 132 (dk_at dksX6_restore_0 2 rfl rfl)
theorem dX6_restore_5 : decode cX6_restore 5 = .ok (.aload_n 0, 1) := dk_42 (dk_at dksX6_restore_0 5 rfl rfl)
theorem dX6_restore_6 : decode cX6_restore 6 = .ok (.getfield 246, 3) := dk_180 0 246 (dk_at dksX6_restore_0 6 rfl rfl)
theorem dX6_restore_9 : decode cX6_restore 9 = .ok (.ifCond .ne 5, 3) := dk_154 0 5 (dk_at dksX6_restore_0 9 rfl rfl)
theorem dX6_restore_12 : decode cX6_restore 12 = .ok (.iconst (-1), 1) := dk_2 (dk_at dksX6_restore_0 12 rfl rfl)
theorem dX6_restore_13 : decode cX6_restore 13 = .ok (.ireturn, 1) := dk_172 (dk_at dksX6_restore_0 13 rfl rfl)
theorem dX6_restore_14 : decode cX6_restore 14 = .ok (.aload_n 0, 1) := dk_42 (dk_at dksX6_restore_0 14 rfl rfl)
theorem dX6_restore_15 : decode cX6_restore 15 = .ok (.dup, 1) := dk_89 (dk_at dksX6_restore_0 15 rfl rfl)
theorem dX6_restore_16 : decode cX6_restore 16 = .ok (.getfield 246, 3) := dk_180 0 246 (dk_at dksX6_restore_0 16 rfl rfl)
theorem dX6_restore_19 : decode cX6_restore 19 = .ok (.iconst 1, 1) := dk_4 (dk_at dksX6_restore_0 19 rfl rfl)
theorem dX6_restore_20 : decode cX6_restore 20 = .ok (.isub, 1) := dk_100 (dk_at dksX6_restore_0 20 rfl rfl)
theorem dX6_restore_21 : decode cX6_restore 21 = .ok (.putfield 246, 3) := dk_181 0 246 (dk_at dksX6_restore_0 21 rfl rfl)
theorem dX6_restore_24 : decode cX6_restore 24 = .ok (.aload_n 0, 1) := dk_42 (dk_at dksX6_restore_1 0 rfl rfl)
theorem dX6_restore_25 : decode cX6_restore 25 = .ok (.aload_n 0, 1) := dk_42 (dk_at dksX6_restore_1 1 rfl rfl)
theorem dX6_restore_26 : decode cX6_restore 26 = .ok (.getfield 59, 3) := dk_180 0 59 (dk_at dksX6_restore_1 2 rfl rfl)
theorem dX6_restore_29 : decode cX6_restore 29 = .ok (.aload_n 0, 1) := dk_42 (dk_at dksX6_restore_1 5 rfl rfl)
theorem dX6_restore_30 : decode cX6_restore 30 = .ok (.getfield 246, 3) := dk_180 0 246 (dk_at dksX6_restore_1 6 rfl rfl)
theorem dX6_restore_33 : decode cX6_restore 33 = .ok (.aaload, 1) := dk_50 (dk_at dksX6_restore_1 9 rfl rfl)
theorem dX6_restore_34 : decode cX6_restore 34 = .ok (.iconst 1, 1) := dk_4 (dk_at dksX6_restore_1 10 rfl rfl)
theorem dX6_restore_35 : decode cX6_restore 35 = .ok (.invokevirtual 448, 3) := dk_182 1 192 (dk_at dksX6_restore_1 11 rfl rfl)
theorem dX6_restore_38 : decode cX6_restore 38 = .ok (.aload_n 0, 1) := dk_42 (dk_at dksX6_restore_1 14 rfl rfl)
theorem dX6_restore_39 : decode cX6_restore 39 = .ok (.getfield 246, 3) := dk_180 0 246 (dk_at dksX6_restore_1 15 rfl rfl)
theorem dX6_restore_42 : decode cX6_restore 42 = .ok (.ireturn, 1) := dk_172 (dk_at dksX6_restore_1 18 rfl rfl)
abbrev cX6_status : ByteArray := prog_19_method_133_code
def yX6_status : MethodName := ⟨RX6, "status", "(I)I"⟩
def dkwX6_status_1 : List UInt8 := [172]
abbrev dktX6_status_1 : List UInt8 := dkwX6_status_1 ++ []
def dkwX6_status_0 : List UInt8 := [42, 3, 181, 0, 132, 27, 3, 5, 184, 0, 166, 153, 0, 12, 42, 180, 0, 17, 27, 46, 167, 0, 4, 2]
abbrev dktX6_status_0 : List UInt8 := dkwX6_status_0 ++ dktX6_status_1
theorem dksX6_status_0 : cX6_status.data.toList.drop 0 = dktX6_status_0 := by decide +kernel
theorem dksX6_status_1 : cX6_status.data.toList.drop 24 = dktX6_status_1 := dk_seg dksX6_status_0 24 rfl rfl
theorem dX6_status_0 : decode cX6_status 0 = .ok (.aload_n 0, 1) := dk_42 (dk_at dksX6_status_0 0 rfl rfl)
theorem dX6_status_1 : decode cX6_status 1 = .ok (.iconst 0, 1) := dk_3 (dk_at dksX6_status_0 1 rfl rfl)
theorem dX6_status_2 : decode cX6_status 2 = .ok (.putfield 132, 3) := dk_181 0 132 (dk_at dksX6_status_0 2 rfl rfl)
theorem dX6_status_5 : decode cX6_status 5 = .ok (.iload_n 1, 1) := dk_27 (dk_at dksX6_status_0 5 rfl rfl)
theorem dX6_status_6 : decode cX6_status 6 = .ok (.iconst 0, 1) := dk_3 (dk_at dksX6_status_0 6 rfl rfl)
theorem dX6_status_7 : decode cX6_status 7 = .ok (.iconst 2, 1) := dk_5 (dk_at dksX6_status_0 7 rfl rfl)
theorem dX6_status_8 : decode cX6_status 8 = .ok (.invokestatic 166, 3) := dk_184 0 166 (dk_at dksX6_status_0 8 rfl rfl)
theorem dX6_status_11 : decode cX6_status 11 = .ok (.ifCond .eq 12, 3) := dk_153 0 12 (dk_at dksX6_status_0 11 rfl rfl)
theorem dX6_status_14 : decode cX6_status 14 = .ok (.aload_n 0, 1) := dk_42 (dk_at dksX6_status_0 14 rfl rfl)
theorem dX6_status_15 : decode cX6_status 15 = .ok (.getfield 17, 3) := dk_180 0 17 (dk_at dksX6_status_0 15 rfl rfl)
theorem dX6_status_18 : decode cX6_status 18 = .ok (.iload_n 1, 1) := dk_27 (dk_at dksX6_status_0 18 rfl rfl)
theorem dX6_status_19 : decode cX6_status 19 = .ok (.iaload, 1) := dk_46 (dk_at dksX6_status_0 19 rfl rfl)
theorem dX6_status_20 : decode cX6_status 20 = .ok (.goto 4, 3) := dk_167 0 4 (dk_at dksX6_status_0 20 rfl rfl)
theorem dX6_status_23 : decode cX6_status 23 = .ok (.iconst (-1), 1) := dk_2 (dk_at dksX6_status_0 23 rfl rfl)
theorem dX6_status_24 : decode cX6_status 24 = .ok (.ireturn, 1) := dk_172 (dk_at dksX6_status_1 0 rfl rfl)
abbrev cX6_count : ByteArray := prog_19_method_134_code
def yX6_count : MethodName := ⟨RX6, "count", "(I)I"⟩
def dkwX6_count_1 : List UInt8 := [180, 0, 135, 167, 0, 4, 2, 172]
abbrev dktX6_count_1 : List UInt8 := dkwX6_count_1 ++ []
def dkwX6_count_0 : List UInt8 := [42, 3, 181, 0, 132, 27, 154, 0, 10, 42, 180, 0, 246, 167, 0, 16, 27, 4, 160, 0, 10, 42]
abbrev dktX6_count_0 : List UInt8 := dkwX6_count_0 ++ dktX6_count_1
theorem dksX6_count_0 : cX6_count.data.toList.drop 0 = dktX6_count_0 := by decide +kernel
theorem dksX6_count_1 : cX6_count.data.toList.drop 22 = dktX6_count_1 := dk_seg dksX6_count_0 22 rfl rfl
theorem dX6_count_0 : decode cX6_count 0 = .ok (.aload_n 0, 1) := dk_42 (dk_at dksX6_count_0 0 rfl rfl)
theorem dX6_count_1 : decode cX6_count 1 = .ok (.iconst 0, 1) := dk_3 (dk_at dksX6_count_0 1 rfl rfl)
theorem dX6_count_2 : decode cX6_count 2 = .ok (.putfield 132, 3) := dk_181 0 132 (dk_at dksX6_count_0 2 rfl rfl)
theorem dX6_count_5 : decode cX6_count 5 = .ok (.iload_n 1, 1) := dk_27 (dk_at dksX6_count_0 5 rfl rfl)
theorem dX6_count_6 : decode cX6_count 6 = .ok (.ifCond .ne 10, 3) := dk_154 0 10 (dk_at dksX6_count_0 6 rfl rfl)
theorem dX6_count_9 : decode cX6_count 9 = .ok (.aload_n 0, 1) := dk_42 (dk_at dksX6_count_0 9 rfl rfl)
theorem dX6_count_10 : decode cX6_count 10 = .ok (.getfield 246, 3) := dk_180 0 246 (dk_at dksX6_count_0 10 rfl rfl)
theorem dX6_count_13 : decode cX6_count 13 = .ok (.goto 16, 3) := dk_167 0 16 (dk_at dksX6_count_0 13 rfl rfl)
theorem dX6_count_16 : decode cX6_count 16 = .ok (.iload_n 1, 1) := dk_27 (dk_at dksX6_count_0 16 rfl rfl)
theorem dX6_count_17 : decode cX6_count 17 = .ok (.iconst 1, 1) := dk_4 (dk_at dksX6_count_0 17 rfl rfl)
theorem dX6_count_18 : decode cX6_count 18 = .ok (.if_icmp .ne 10, 3) := dk_160 0 10 (dk_at dksX6_count_0 18 rfl rfl)
theorem dX6_count_21 : decode cX6_count 21 = .ok (.aload_n 0, 1) := dk_42 (dk_at dksX6_count_0 21 rfl rfl)
theorem dX6_count_22 : decode cX6_count 22 = .ok (.getfield 135, 3) := dk_180 0 135 (dk_at dksX6_count_1 0 rfl rfl)
theorem dX6_count_25 : decode cX6_count 25 = .ok (.goto 4, 3) := dk_167 0 4 (dk_at dksX6_count_1 3 rfl rfl)
theorem dX6_count_28 : decode cX6_count 28 = .ok (.iconst (-1), 1) := dk_2 (dk_at dksX6_count_1 6 rfl rfl)
theorem dX6_count_29 : decode cX6_count 29 = .ok (.ireturn, 1) := dk_172 (dk_at dksX6_count_1 7 rfl rfl)
theorem q150 : (Jvm.Cond.initialized "LotBeliefsModel") ∈ lw_all := lw_g (lw_at lw_m1 26 rfl) rfl
theorem q1300 : (Jvm.Cond.selects "LotBeliefsModel" ({ cls := "java/lang/Object", name := "getClass", desc := "()Ljava/lang/Class;" } : Jvm.MethodName) ({ cls := "java/lang/Object", name := "getClass", desc := "()Ljava/lang/Class;" } : Jvm.MethodName)) ∈ lw_all := lw_g (lw_at lw_m5 216 rfl) rfl
theorem q1967 : (Jvm.Cond.instantiable "LotBeliefsModel" (62 : Nat)) ∈ lw_all := lw_g (lw_at lw_m8 163 rfl) rfl
theorem q1969 : (Jvm.Cond.instanceMethod ({ cls := "LotBeliefsModel", name := "<init>", desc := "()V" } : Jvm.MethodName)) ∈ lw_all := lw_g (lw_at lw_m8 165 rfl) rfl
theorem q1970 : (Jvm.Cond.code ({ cls := "LotBeliefsModel", name := "<init>", desc := "()V" } : Jvm.MethodName) prog_19_method_1_code (1 : Nat) (Option.none : Option Jvm.ClassFile.FieldType)) ∈ lw_all := lw_g (lw_at lw_m8 166 rfl) rfl
theorem q1971 : (Jvm.Cond.methodLink "LotBeliefsModel" (3 : Nat) ({ cls := "java/lang/Object", name := "<init>", desc := "()V" } : Jvm.MethodName)) ∈ lw_all := lw_g (lw_at lw_m8 167 rfl) rfl
theorem q1972 : (Jvm.Cond.constantLong "LotBeliefsModel" (48 : Nat) (-1 : Int64)) ∈ lw_all := lw_g (lw_at lw_m8 168 rfl) rfl
theorem q1973 : (Jvm.Cond.classLink "LotBeliefsModel" (57 : Nat) "[[I") ∈ lw_all := lw_g (lw_at lw_m8 169 rfl) rfl
theorem q1975 : (Jvm.Cond.methodLink "LotBeliefsModel" (126 : Nat) ({ cls := "LotBeliefsModel", name := "tellsNothing", desc := "()V" } : Jvm.MethodName)) ∈ lw_all := lw_g (lw_at lw_m8 171 rfl) rfl
theorem q1976 : (Jvm.Cond.privateMethod ({ cls := "LotBeliefsModel", name := "tellsNothing", desc := "()V" } : Jvm.MethodName)) ∈ lw_tbl := lw_at lw_m8 172 rfl
theorem q1977 : (Jvm.Cond.instanceMethod ({ cls := "LotBeliefsModel", name := "tellsNothing", desc := "()V" } : Jvm.MethodName)) ∈ lw_all := lw_g (lw_at lw_m8 173 rfl) rfl
theorem q1978 : (Jvm.Cond.code ({ cls := "LotBeliefsModel", name := "tellsNothing", desc := "()V" } : Jvm.MethodName) prog_19_method_2_code (2 : Nat) (Option.none : Option Jvm.ClassFile.FieldType)) ∈ lw_all := lw_g (lw_at lw_m8 174 rfl) rfl
theorem q1979 : (Jvm.Cond.methodLink "LotBeliefsModel" (129 : Nat) ({ cls := "LotBeliefsModel", name := "stands", desc := "()V" } : Jvm.MethodName)) ∈ lw_all := lw_g (lw_at lw_m8 175 rfl) rfl
theorem q1980 : (Jvm.Cond.privateMethod ({ cls := "LotBeliefsModel", name := "stands", desc := "()V" } : Jvm.MethodName)) ∈ lw_tbl := lw_at lw_m8 176 rfl
theorem q1981 : (Jvm.Cond.instanceMethod ({ cls := "LotBeliefsModel", name := "stands", desc := "()V" } : Jvm.MethodName)) ∈ lw_all := lw_g (lw_at lw_m8 177 rfl) rfl
theorem q1982 : (Jvm.Cond.code ({ cls := "LotBeliefsModel", name := "stands", desc := "()V" } : Jvm.MethodName) prog_19_method_31_code (3 : Nat) (Option.none : Option Jvm.ClassFile.FieldType)) ∈ lw_all := lw_g (lw_at lw_m8 178 rfl) rfl
theorem q1983 : (Jvm.Cond.methodLink "LotBeliefsModel" (204 : Nat) ({ cls := "LotBeliefsModel", name := "allOf", desc := "(I)J" } : Jvm.MethodName)) ∈ lw_all := lw_g (lw_at lw_m8 179 rfl) rfl
theorem q1984 : (Jvm.Cond.static ({ cls := "LotBeliefsModel", name := "allOf", desc := "(I)J" } : Jvm.MethodName)) ∈ lw_all := lw_g (lw_at lw_m8 180 rfl) rfl
theorem q1985 : (Jvm.Cond.code ({ cls := "LotBeliefsModel", name := "allOf", desc := "(I)J" } : Jvm.MethodName) prog_19_method_22_code (1 : Nat) (Option.some Jvm.ClassFile.FieldType.long)) ∈ lw_all := lw_g (lw_at lw_m8 181 rfl) rfl
theorem q1986 : (Jvm.Cond.fieldLink "LotBeliefsModel" (132 : Nat) "LotBeliefsModel" "thrown" "I") ∈ lw_all := lw_g (lw_at lw_m8 182 rfl) rfl
theorem q1987 : (Jvm.Cond.fieldLink "LotBeliefsModel" (135 : Nat) "LotBeliefsModel" "tape" "I") ∈ lw_all := lw_g (lw_at lw_m8 183 rfl) rfl
theorem q1988 : (Jvm.Cond.fieldLink "LotBeliefsModel" (138 : Nat) "LotBeliefsModel" "size" "I") ∈ lw_all := lw_g (lw_at lw_m8 184 rfl) rfl
theorem q1989 : (Jvm.Cond.fieldLink "LotBeliefsModel" (9 : Nat) "LotBeliefsModel" "place" "I") ∈ lw_all := lw_g (lw_at lw_m8 185 rfl) rfl
theorem q1990 : (Jvm.Cond.fieldLink "LotBeliefsModel" (141 : Nat) "LotBeliefsModel" "at" "I") ∈ lw_all := lw_g (lw_at lw_m8 186 rfl) rfl
theorem q1991 : (Jvm.Cond.fieldLink "LotBeliefsModel" (148 : Nat) "LotBeliefsModel" "fault" "I") ∈ lw_all := lw_g (lw_at lw_m8 187 rfl) rfl
theorem q1992 : (Jvm.Cond.fieldLink "LotBeliefsModel" (151 : Nat) "LotBeliefsModel" "faultAt" "I") ∈ lw_all := lw_g (lw_at lw_m8 188 rfl) rfl
theorem q1993 : (Jvm.Cond.fieldLink "LotBeliefsModel" (191 : Nat) "LotBeliefsModel" "clauses" "I") ∈ lw_all := lw_g (lw_at lw_m8 189 rfl) rfl
theorem q1994 : (Jvm.Cond.fieldLink "LotBeliefsModel" (188 : Nat) "LotBeliefsModel" "open" "I") ∈ lw_all := lw_g (lw_at lw_m8 190 rfl) rfl
theorem q1995 : (Jvm.Cond.fieldLink "LotBeliefsModel" (13 : Nat) "LotBeliefsModel" "fed" "[I") ∈ lw_all := lw_g (lw_at lw_m8 191 rfl) rfl
theorem q1996 : (Jvm.Cond.fieldLink "LotBeliefsModel" (17 : Nat) "LotBeliefsModel" "refused" "[I") ∈ lw_all := lw_g (lw_at lw_m8 192 rfl) rfl
theorem q1997 : (Jvm.Cond.fieldLink "LotBeliefsModel" (20 : Nat) "LotBeliefsModel" "readTold" "[I") ∈ lw_all := lw_g (lw_at lw_m8 193 rfl) rfl
theorem q1998 : (Jvm.Cond.fieldLink "LotBeliefsModel" (23 : Nat) "LotBeliefsModel" "told" "[I") ∈ lw_all := lw_g (lw_at lw_m8 194 rfl) rfl
theorem q1999 : (Jvm.Cond.fieldLink "LotBeliefsModel" (26 : Nat) "LotBeliefsModel" "readWeek" "[I") ∈ lw_all := lw_g (lw_at lw_m8 195 rfl) rfl
theorem q2000 : (Jvm.Cond.fieldLink "LotBeliefsModel" (29 : Nat) "LotBeliefsModel" "seeWeek" "[I") ∈ lw_all := lw_g (lw_at lw_m8 196 rfl) rfl
theorem q2001 : (Jvm.Cond.fieldLink "LotBeliefsModel" (32 : Nat) "LotBeliefsModel" "readModels" "[J") ∈ lw_all := lw_g (lw_at lw_m8 197 rfl) rfl
theorem q2002 : (Jvm.Cond.fieldLink "LotBeliefsModel" (36 : Nat) "LotBeliefsModel" "models" "[J") ∈ lw_all := lw_g (lw_at lw_m8 198 rfl) rfl
theorem q2003 : (Jvm.Cond.fieldLink "LotBeliefsModel" (39 : Nat) "LotBeliefsModel" "readSeen" "[J") ∈ lw_all := lw_g (lw_at lw_m8 199 rfl) rfl
theorem q2004 : (Jvm.Cond.fieldLink "LotBeliefsModel" (42 : Nat) "LotBeliefsModel" "seen" "[J") ∈ lw_all := lw_g (lw_at lw_m8 200 rfl) rfl
theorem q2005 : (Jvm.Cond.fieldLink "LotBeliefsModel" (45 : Nat) "LotBeliefsModel" "leftIn" "[J") ∈ lw_all := lw_g (lw_at lw_m8 201 rfl) rfl
theorem q2006 : (Jvm.Cond.fieldLink "LotBeliefsModel" (50 : Nat) "LotBeliefsModel" "question" "J") ∈ lw_all := lw_g (lw_at lw_m8 202 rfl) rfl
theorem q2007 : (Jvm.Cond.fieldLink "LotBeliefsModel" (54 : Nat) "LotBeliefsModel" "order" "[I") ∈ lw_all := lw_g (lw_at lw_m8 203 rfl) rfl
theorem q2008 : (Jvm.Cond.fieldLink "LotBeliefsModel" (246 : Nat) "LotBeliefsModel" "images" "I") ∈ lw_all := lw_g (lw_at lw_m8 204 rfl) rfl
theorem q2009 : (Jvm.Cond.fieldLink "LotBeliefsModel" (441 : Nat) "LotBeliefsModel" "spot" "I") ∈ lw_all := lw_g (lw_at lw_m8 205 rfl) rfl
theorem q2010 : (Jvm.Cond.fieldLink "LotBeliefsModel" (59 : Nat) "LotBeliefsModel" "kept" "[[I") ∈ lw_all := lw_g (lw_at lw_m8 206 rfl) rfl
theorem q2011 : (Jvm.Cond.fieldLink "LotBeliefsModel" (243 : Nat) "LotBeliefsModel" "whos" "I") ∈ lw_all := lw_g (lw_at lw_m8 207 rfl) rfl
theorem q2012 : (Jvm.Cond.fieldLink "LotBeliefsModel" (283 : Nat) "LotBeliefsModel" "readWhos" "I") ∈ lw_all := lw_g (lw_at lw_m8 208 rfl) rfl
theorem q2013 : (Jvm.Cond.fieldLink "LotBeliefsModel" (289 : Nat) "LotBeliefsModel" "codes" "I") ∈ lw_all := lw_g (lw_at lw_m8 209 rfl) rfl
theorem q2014 : (Jvm.Cond.fieldLink "LotBeliefsModel" (253 : Nat) "LotBeliefsModel" "readCodes" "I") ∈ lw_all := lw_g (lw_at lw_m8 210 rfl) rfl
theorem q2015 : (Jvm.Cond.fieldLink "LotBeliefsModel" (62 : Nat) "LotBeliefsModel" "who" "[[I") ∈ lw_all := lw_g (lw_at lw_m8 211 rfl) rfl
theorem q2016 : (Jvm.Cond.fieldLink "LotBeliefsModel" (65 : Nat) "LotBeliefsModel" "readWho" "[[I") ∈ lw_all := lw_g (lw_at lw_m8 212 rfl) rfl
theorem q2017 : (Jvm.Cond.fieldLink "LotBeliefsModel" (68 : Nat) "LotBeliefsModel" "code" "[[I") ∈ lw_all := lw_g (lw_at lw_m8 213 rfl) rfl
theorem q2018 : (Jvm.Cond.fieldLink "LotBeliefsModel" (71 : Nat) "LotBeliefsModel" "readCode" "[[I") ∈ lw_all := lw_g (lw_at lw_m8 214 rfl) rfl
theorem q2019 : (Jvm.Cond.fieldLink "LotBeliefsModel" (74 : Nat) "LotBeliefsModel" "stack" "[I") ∈ lw_all := lw_g (lw_at lw_m8 215 rfl) rfl
theorem q2020 : (Jvm.Cond.fieldLink "LotBeliefsModel" (77 : Nat) "LotBeliefsModel" "row" "[I") ∈ lw_all := lw_g (lw_at lw_m8 216 rfl) rfl
theorem q2021 : (Jvm.Cond.fieldLink "LotBeliefsModel" (80 : Nat) "LotBeliefsModel" "heldRow" "[I") ∈ lw_all := lw_g (lw_at lw_m8 217 rfl) rfl
theorem q2022 : (Jvm.Cond.fieldLink "LotBeliefsModel" (83 : Nat) "LotBeliefsModel" "drawnIn" "[I") ∈ lw_all := lw_g (lw_at lw_m8 218 rfl) rfl
theorem q2023 : (Jvm.Cond.fieldLink "LotBeliefsModel" (86 : Nat) "LotBeliefsModel" "fellIn" "[I") ∈ lw_all := lw_g (lw_at lw_m8 219 rfl) rfl
theorem q2024 : (Jvm.Cond.fieldLink "LotBeliefsModel" (89 : Nat) "LotBeliefsModel" "fellBy" "[I") ∈ lw_all := lw_g (lw_at lw_m8 220 rfl) rfl
theorem q2025 : (Jvm.Cond.fieldLink "LotBeliefsModel" (92 : Nat) "LotBeliefsModel" "weeksOf" "[I") ∈ lw_all := lw_g (lw_at lw_m8 221 rfl) rfl
theorem q2026 : (Jvm.Cond.fieldLink "LotBeliefsModel" (95 : Nat) "LotBeliefsModel" "hurtsOf" "[I") ∈ lw_all := lw_g (lw_at lw_m8 222 rfl) rfl
theorem q2027 : (Jvm.Cond.fieldLink "LotBeliefsModel" (98 : Nat) "LotBeliefsModel" "heldBehind" "[I") ∈ lw_all := lw_g (lw_at lw_m8 223 rfl) rfl
theorem q2028 : (Jvm.Cond.fieldLink "LotBeliefsModel" (101 : Nat) "LotBeliefsModel" "eldestBehind" "[I") ∈ lw_all := lw_g (lw_at lw_m8 224 rfl) rfl
theorem q2029 : (Jvm.Cond.fieldLink "LotBeliefsModel" (357 : Nat) "LotBeliefsModel" "rowMany" "I") ∈ lw_all := lw_g (lw_at lw_m8 225 rfl) rfl
theorem q2030 : (Jvm.Cond.fieldLink "LotBeliefsModel" (323 : Nat) "LotBeliefsModel" "heldMany" "I") ∈ lw_all := lw_g (lw_at lw_m8 226 rfl) rfl
theorem q2031 : (Jvm.Cond.fieldLink "LotBeliefsModel" (326 : Nat) "LotBeliefsModel" "fell" "I") ∈ lw_all := lw_g (lw_at lw_m8 227 rfl) rfl
theorem q2032 : (Jvm.Cond.fieldLink "LotBeliefsModel" (329 : Nat) "LotBeliefsModel" "killed" "I") ∈ lw_all := lw_g (lw_at lw_m8 228 rfl) rfl
theorem q2033 : (Jvm.Cond.fieldLink "LotBeliefsModel" (332 : Nat) "LotBeliefsModel" "hurts" "I") ∈ lw_all := lw_g (lw_at lw_m8 229 rfl) rfl
theorem q2034 : (Jvm.Cond.fieldLink "LotBeliefsModel" (320 : Nat) "LotBeliefsModel" "yearLaw" "I") ∈ lw_all := lw_g (lw_at lw_m8 230 rfl) rfl
theorem q2035 : (Jvm.Cond.fieldLink "LotBeliefsModel" (104 : Nat) "LotBeliefsModel" "meets" "[I") ∈ lw_all := lw_g (lw_at lw_m8 231 rfl) rfl
theorem q2036 : (Jvm.Cond.fieldLink "LotBeliefsModel" (107 : Nat) "LotBeliefsModel" "been" "[Z") ∈ lw_all := lw_g (lw_at lw_m8 232 rfl) rfl
theorem q2037 : (Jvm.Cond.fieldLink "LotBeliefsModel" (111 : Nat) "LotBeliefsModel" "holds" "[I") ∈ lw_all := lw_g (lw_at lw_m8 233 rfl) rfl
theorem q2038 : (Jvm.Cond.fieldLink "LotBeliefsModel" (390 : Nat) "LotBeliefsModel" "always" "I") ∈ lw_all := lw_g (lw_at lw_m8 234 rfl) rfl
theorem q2039 : (Jvm.Cond.fieldLink "LotBeliefsModel" (393 : Nat) "LotBeliefsModel" "ever" "I") ∈ lw_all := lw_g (lw_at lw_m8 235 rfl) rfl
theorem q2040 : (Jvm.Cond.fieldLink "LotBeliefsModel" (387 : Nat) "LotBeliefsModel" "unlike" "I") ∈ lw_all := lw_g (lw_at lw_m8 236 rfl) rfl
theorem q2041 : (Jvm.Cond.fieldLink "LotBeliefsModel" (396 : Nat) "LotBeliefsModel" "trues" "I") ∈ lw_all := lw_g (lw_at lw_m8 237 rfl) rfl
theorem q2042 : (Jvm.Cond.fieldLink "LotBeliefsModel" (399 : Nat) "LotBeliefsModel" "bestTrues" "I") ∈ lw_all := lw_g (lw_at lw_m8 238 rfl) rfl
theorem q2043 : (Jvm.Cond.fieldLink "LotBeliefsModel" (402 : Nat) "LotBeliefsModel" "worstHurts" "I") ∈ lw_all := lw_g (lw_at lw_m8 239 rfl) rfl
theorem q2044 : (Jvm.Cond.fieldLink "LotBeliefsModel" (114 : Nat) "LotBeliefsModel" "bestRow" "[I") ∈ lw_all := lw_g (lw_at lw_m9 0 rfl) rfl
theorem q2045 : (Jvm.Cond.fieldLink "LotBeliefsModel" (117 : Nat) "LotBeliefsModel" "worstRow" "[I") ∈ lw_all := lw_g (lw_at lw_m9 1 rfl) rfl
theorem q2046 : (Jvm.Cond.fieldLink "LotBeliefsModel" (120 : Nat) "LotBeliefsModel" "schoolBehind" "[[I") ∈ lw_all := lw_g (lw_at lw_m9 2 rfl) rfl
theorem q2047 : (Jvm.Cond.fieldLink "LotBeliefsModel" (123 : Nat) "LotBeliefsModel" "plainOf" "[I") ∈ lw_all := lw_g (lw_at lw_m9 3 rfl) rfl
theorem q2048 : (Jvm.Cond.lays "LotBeliefsModel" "LotBeliefsModel" "thrown" "I") ∈ lw_all := lw_g (lw_at lw_m9 4 rfl) rfl
theorem q2049 : (Jvm.Cond.soleField "LotBeliefsModel" "thrown") ∈ lw_all := lw_g (lw_at lw_m9 5 rfl) rfl
theorem q2050 : (Jvm.Cond.lays "LotBeliefsModel" "LotBeliefsModel" "tape" "I") ∈ lw_all := lw_g (lw_at lw_m9 6 rfl) rfl
theorem q2051 : (Jvm.Cond.soleField "LotBeliefsModel" "tape") ∈ lw_all := lw_g (lw_at lw_m9 7 rfl) rfl
theorem q2052 : (Jvm.Cond.lays "LotBeliefsModel" "LotBeliefsModel" "size" "I") ∈ lw_all := lw_g (lw_at lw_m9 8 rfl) rfl
theorem q2053 : (Jvm.Cond.soleField "LotBeliefsModel" "size") ∈ lw_all := lw_g (lw_at lw_m9 9 rfl) rfl
theorem q2054 : (Jvm.Cond.lays "LotBeliefsModel" "LotBeliefsModel" "place" "I") ∈ lw_all := lw_g (lw_at lw_m9 10 rfl) rfl
theorem q2055 : (Jvm.Cond.soleField "LotBeliefsModel" "place") ∈ lw_all := lw_g (lw_at lw_m9 11 rfl) rfl
theorem q2056 : (Jvm.Cond.lays "LotBeliefsModel" "LotBeliefsModel" "at" "I") ∈ lw_all := lw_g (lw_at lw_m9 12 rfl) rfl
theorem q2057 : (Jvm.Cond.soleField "LotBeliefsModel" "at") ∈ lw_all := lw_g (lw_at lw_m9 13 rfl) rfl
theorem q2058 : (Jvm.Cond.lays "LotBeliefsModel" "LotBeliefsModel" "fault" "I") ∈ lw_all := lw_g (lw_at lw_m9 14 rfl) rfl
theorem q2059 : (Jvm.Cond.soleField "LotBeliefsModel" "fault") ∈ lw_all := lw_g (lw_at lw_m9 15 rfl) rfl
theorem q2060 : (Jvm.Cond.lays "LotBeliefsModel" "LotBeliefsModel" "faultAt" "I") ∈ lw_all := lw_g (lw_at lw_m9 16 rfl) rfl
theorem q2061 : (Jvm.Cond.soleField "LotBeliefsModel" "faultAt") ∈ lw_all := lw_g (lw_at lw_m9 17 rfl) rfl
theorem q2062 : (Jvm.Cond.lays "LotBeliefsModel" "LotBeliefsModel" "clauses" "I") ∈ lw_all := lw_g (lw_at lw_m9 18 rfl) rfl
theorem q2063 : (Jvm.Cond.soleField "LotBeliefsModel" "clauses") ∈ lw_all := lw_g (lw_at lw_m9 19 rfl) rfl
theorem q2064 : (Jvm.Cond.lays "LotBeliefsModel" "LotBeliefsModel" "open" "I") ∈ lw_all := lw_g (lw_at lw_m9 20 rfl) rfl
theorem q2065 : (Jvm.Cond.soleField "LotBeliefsModel" "open") ∈ lw_all := lw_g (lw_at lw_m9 21 rfl) rfl
theorem q2066 : (Jvm.Cond.laysFinal "LotBeliefsModel" "LotBeliefsModel" "fed" "[I") ∈ lw_all := lw_g (lw_at lw_m9 22 rfl) rfl
theorem q2067 : (Jvm.Cond.soleField "LotBeliefsModel" "fed") ∈ lw_all := lw_g (lw_at lw_m9 23 rfl) rfl
theorem q2068 : (Jvm.Cond.laysFinal "LotBeliefsModel" "LotBeliefsModel" "refused" "[I") ∈ lw_all := lw_g (lw_at lw_m9 24 rfl) rfl
theorem q2069 : (Jvm.Cond.soleField "LotBeliefsModel" "refused") ∈ lw_all := lw_g (lw_at lw_m9 25 rfl) rfl
theorem q2070 : (Jvm.Cond.laysFinal "LotBeliefsModel" "LotBeliefsModel" "readTold" "[I") ∈ lw_all := lw_g (lw_at lw_m9 26 rfl) rfl
theorem q2071 : (Jvm.Cond.soleField "LotBeliefsModel" "readTold") ∈ lw_all := lw_g (lw_at lw_m9 27 rfl) rfl
theorem q2072 : (Jvm.Cond.laysFinal "LotBeliefsModel" "LotBeliefsModel" "told" "[I") ∈ lw_all := lw_g (lw_at lw_m9 28 rfl) rfl
theorem q2073 : (Jvm.Cond.soleField "LotBeliefsModel" "told") ∈ lw_all := lw_g (lw_at lw_m9 29 rfl) rfl
theorem q2074 : (Jvm.Cond.laysFinal "LotBeliefsModel" "LotBeliefsModel" "readWeek" "[I") ∈ lw_all := lw_g (lw_at lw_m9 30 rfl) rfl
theorem q2075 : (Jvm.Cond.soleField "LotBeliefsModel" "readWeek") ∈ lw_all := lw_g (lw_at lw_m9 31 rfl) rfl
theorem q2076 : (Jvm.Cond.laysFinal "LotBeliefsModel" "LotBeliefsModel" "seeWeek" "[I") ∈ lw_all := lw_g (lw_at lw_m9 32 rfl) rfl
theorem q2077 : (Jvm.Cond.soleField "LotBeliefsModel" "seeWeek") ∈ lw_all := lw_g (lw_at lw_m9 33 rfl) rfl
theorem q2078 : (Jvm.Cond.laysFinal "LotBeliefsModel" "LotBeliefsModel" "readModels" "[J") ∈ lw_all := lw_g (lw_at lw_m9 34 rfl) rfl
theorem q2079 : (Jvm.Cond.soleField "LotBeliefsModel" "readModels") ∈ lw_all := lw_g (lw_at lw_m9 35 rfl) rfl
theorem q2080 : (Jvm.Cond.laysFinal "LotBeliefsModel" "LotBeliefsModel" "models" "[J") ∈ lw_all := lw_g (lw_at lw_m9 36 rfl) rfl
theorem q2081 : (Jvm.Cond.soleField "LotBeliefsModel" "models") ∈ lw_all := lw_g (lw_at lw_m9 37 rfl) rfl
theorem q2082 : (Jvm.Cond.laysFinal "LotBeliefsModel" "LotBeliefsModel" "readSeen" "[J") ∈ lw_all := lw_g (lw_at lw_m9 38 rfl) rfl
theorem q2083 : (Jvm.Cond.soleField "LotBeliefsModel" "readSeen") ∈ lw_all := lw_g (lw_at lw_m9 39 rfl) rfl
theorem q2084 : (Jvm.Cond.laysFinal "LotBeliefsModel" "LotBeliefsModel" "seen" "[J") ∈ lw_all := lw_g (lw_at lw_m9 40 rfl) rfl
theorem q2085 : (Jvm.Cond.soleField "LotBeliefsModel" "seen") ∈ lw_all := lw_g (lw_at lw_m9 41 rfl) rfl
theorem q2086 : (Jvm.Cond.laysFinal "LotBeliefsModel" "LotBeliefsModel" "leftIn" "[J") ∈ lw_all := lw_g (lw_at lw_m9 42 rfl) rfl
theorem q2087 : (Jvm.Cond.soleField "LotBeliefsModel" "leftIn") ∈ lw_all := lw_g (lw_at lw_m9 43 rfl) rfl
theorem q2088 : (Jvm.Cond.lays "LotBeliefsModel" "LotBeliefsModel" "question" "J") ∈ lw_all := lw_g (lw_at lw_m9 44 rfl) rfl
theorem q2089 : (Jvm.Cond.soleField "LotBeliefsModel" "question") ∈ lw_all := lw_g (lw_at lw_m9 45 rfl) rfl
theorem q2090 : (Jvm.Cond.laysFinal "LotBeliefsModel" "LotBeliefsModel" "order" "[I") ∈ lw_all := lw_g (lw_at lw_m9 46 rfl) rfl
theorem q2091 : (Jvm.Cond.soleField "LotBeliefsModel" "order") ∈ lw_all := lw_g (lw_at lw_m9 47 rfl) rfl
theorem q2092 : (Jvm.Cond.lays "LotBeliefsModel" "LotBeliefsModel" "images" "I") ∈ lw_all := lw_g (lw_at lw_m9 48 rfl) rfl
theorem q2093 : (Jvm.Cond.soleField "LotBeliefsModel" "images") ∈ lw_all := lw_g (lw_at lw_m9 49 rfl) rfl
theorem q2094 : (Jvm.Cond.lays "LotBeliefsModel" "LotBeliefsModel" "spot" "I") ∈ lw_all := lw_g (lw_at lw_m9 50 rfl) rfl
theorem q2095 : (Jvm.Cond.soleField "LotBeliefsModel" "spot") ∈ lw_all := lw_g (lw_at lw_m9 51 rfl) rfl
theorem q2096 : (Jvm.Cond.laysFinal "LotBeliefsModel" "LotBeliefsModel" "kept" "[[I") ∈ lw_all := lw_g (lw_at lw_m9 52 rfl) rfl
theorem q2097 : (Jvm.Cond.soleField "LotBeliefsModel" "kept") ∈ lw_all := lw_g (lw_at lw_m9 53 rfl) rfl
theorem q2098 : (Jvm.Cond.lays "LotBeliefsModel" "LotBeliefsModel" "whos" "I") ∈ lw_all := lw_g (lw_at lw_m9 54 rfl) rfl
theorem q2099 : (Jvm.Cond.soleField "LotBeliefsModel" "whos") ∈ lw_all := lw_g (lw_at lw_m9 55 rfl) rfl
theorem q2100 : (Jvm.Cond.lays "LotBeliefsModel" "LotBeliefsModel" "readWhos" "I") ∈ lw_all := lw_g (lw_at lw_m9 56 rfl) rfl
theorem q2101 : (Jvm.Cond.soleField "LotBeliefsModel" "readWhos") ∈ lw_all := lw_g (lw_at lw_m9 57 rfl) rfl
theorem q2102 : (Jvm.Cond.lays "LotBeliefsModel" "LotBeliefsModel" "codes" "I") ∈ lw_all := lw_g (lw_at lw_m9 58 rfl) rfl
theorem q2103 : (Jvm.Cond.soleField "LotBeliefsModel" "codes") ∈ lw_all := lw_g (lw_at lw_m9 59 rfl) rfl
theorem q2104 : (Jvm.Cond.lays "LotBeliefsModel" "LotBeliefsModel" "readCodes" "I") ∈ lw_all := lw_g (lw_at lw_m9 60 rfl) rfl
theorem q2105 : (Jvm.Cond.soleField "LotBeliefsModel" "readCodes") ∈ lw_all := lw_g (lw_at lw_m9 61 rfl) rfl
theorem q2106 : (Jvm.Cond.laysFinal "LotBeliefsModel" "LotBeliefsModel" "who" "[[I") ∈ lw_all := lw_g (lw_at lw_m9 62 rfl) rfl
theorem q2107 : (Jvm.Cond.soleField "LotBeliefsModel" "who") ∈ lw_all := lw_g (lw_at lw_m9 63 rfl) rfl
theorem q2108 : (Jvm.Cond.laysFinal "LotBeliefsModel" "LotBeliefsModel" "readWho" "[[I") ∈ lw_all := lw_g (lw_at lw_m9 64 rfl) rfl
theorem q2109 : (Jvm.Cond.soleField "LotBeliefsModel" "readWho") ∈ lw_all := lw_g (lw_at lw_m9 65 rfl) rfl
theorem q2110 : (Jvm.Cond.laysFinal "LotBeliefsModel" "LotBeliefsModel" "code" "[[I") ∈ lw_all := lw_g (lw_at lw_m9 66 rfl) rfl
theorem q2111 : (Jvm.Cond.soleField "LotBeliefsModel" "code") ∈ lw_all := lw_g (lw_at lw_m9 67 rfl) rfl
theorem q2112 : (Jvm.Cond.laysFinal "LotBeliefsModel" "LotBeliefsModel" "readCode" "[[I") ∈ lw_all := lw_g (lw_at lw_m9 68 rfl) rfl
theorem q2113 : (Jvm.Cond.soleField "LotBeliefsModel" "readCode") ∈ lw_all := lw_g (lw_at lw_m9 69 rfl) rfl
theorem q2114 : (Jvm.Cond.laysFinal "LotBeliefsModel" "LotBeliefsModel" "stack" "[I") ∈ lw_all := lw_g (lw_at lw_m9 70 rfl) rfl
theorem q2115 : (Jvm.Cond.soleField "LotBeliefsModel" "stack") ∈ lw_all := lw_g (lw_at lw_m9 71 rfl) rfl
theorem q2116 : (Jvm.Cond.laysFinal "LotBeliefsModel" "LotBeliefsModel" "row" "[I") ∈ lw_all := lw_g (lw_at lw_m9 72 rfl) rfl
theorem q2117 : (Jvm.Cond.soleField "LotBeliefsModel" "row") ∈ lw_all := lw_g (lw_at lw_m9 73 rfl) rfl
theorem q2118 : (Jvm.Cond.laysFinal "LotBeliefsModel" "LotBeliefsModel" "heldRow" "[I") ∈ lw_all := lw_g (lw_at lw_m9 74 rfl) rfl
theorem q2119 : (Jvm.Cond.soleField "LotBeliefsModel" "heldRow") ∈ lw_all := lw_g (lw_at lw_m9 75 rfl) rfl
theorem q2120 : (Jvm.Cond.laysFinal "LotBeliefsModel" "LotBeliefsModel" "drawnIn" "[I") ∈ lw_all := lw_g (lw_at lw_m9 76 rfl) rfl
theorem q2121 : (Jvm.Cond.soleField "LotBeliefsModel" "drawnIn") ∈ lw_all := lw_g (lw_at lw_m9 77 rfl) rfl
theorem q2122 : (Jvm.Cond.laysFinal "LotBeliefsModel" "LotBeliefsModel" "fellIn" "[I") ∈ lw_all := lw_g (lw_at lw_m9 78 rfl) rfl
theorem q2123 : (Jvm.Cond.soleField "LotBeliefsModel" "fellIn") ∈ lw_all := lw_g (lw_at lw_m9 79 rfl) rfl
theorem q2124 : (Jvm.Cond.laysFinal "LotBeliefsModel" "LotBeliefsModel" "fellBy" "[I") ∈ lw_all := lw_g (lw_at lw_m9 80 rfl) rfl
theorem q2125 : (Jvm.Cond.soleField "LotBeliefsModel" "fellBy") ∈ lw_all := lw_g (lw_at lw_m9 81 rfl) rfl
theorem q2126 : (Jvm.Cond.laysFinal "LotBeliefsModel" "LotBeliefsModel" "weeksOf" "[I") ∈ lw_all := lw_g (lw_at lw_m9 82 rfl) rfl
theorem q2127 : (Jvm.Cond.soleField "LotBeliefsModel" "weeksOf") ∈ lw_all := lw_g (lw_at lw_m9 83 rfl) rfl
theorem q2128 : (Jvm.Cond.laysFinal "LotBeliefsModel" "LotBeliefsModel" "hurtsOf" "[I") ∈ lw_all := lw_g (lw_at lw_m9 84 rfl) rfl
theorem q2129 : (Jvm.Cond.soleField "LotBeliefsModel" "hurtsOf") ∈ lw_all := lw_g (lw_at lw_m9 85 rfl) rfl
theorem q2130 : (Jvm.Cond.laysFinal "LotBeliefsModel" "LotBeliefsModel" "heldBehind" "[I") ∈ lw_all := lw_g (lw_at lw_m9 86 rfl) rfl
theorem q2131 : (Jvm.Cond.soleField "LotBeliefsModel" "heldBehind") ∈ lw_all := lw_g (lw_at lw_m9 87 rfl) rfl
theorem q2132 : (Jvm.Cond.laysFinal "LotBeliefsModel" "LotBeliefsModel" "eldestBehind" "[I") ∈ lw_all := lw_g (lw_at lw_m9 88 rfl) rfl
theorem q2133 : (Jvm.Cond.soleField "LotBeliefsModel" "eldestBehind") ∈ lw_all := lw_g (lw_at lw_m9 89 rfl) rfl
theorem q2134 : (Jvm.Cond.lays "LotBeliefsModel" "LotBeliefsModel" "rowMany" "I") ∈ lw_all := lw_g (lw_at lw_m9 90 rfl) rfl
theorem q2135 : (Jvm.Cond.soleField "LotBeliefsModel" "rowMany") ∈ lw_all := lw_g (lw_at lw_m9 91 rfl) rfl
theorem q2136 : (Jvm.Cond.lays "LotBeliefsModel" "LotBeliefsModel" "heldMany" "I") ∈ lw_all := lw_g (lw_at lw_m9 92 rfl) rfl
theorem q2137 : (Jvm.Cond.soleField "LotBeliefsModel" "heldMany") ∈ lw_all := lw_g (lw_at lw_m9 93 rfl) rfl
theorem q2138 : (Jvm.Cond.lays "LotBeliefsModel" "LotBeliefsModel" "fell" "I") ∈ lw_all := lw_g (lw_at lw_m9 94 rfl) rfl
theorem q2139 : (Jvm.Cond.soleField "LotBeliefsModel" "fell") ∈ lw_all := lw_g (lw_at lw_m9 95 rfl) rfl
theorem q2140 : (Jvm.Cond.lays "LotBeliefsModel" "LotBeliefsModel" "killed" "I") ∈ lw_all := lw_g (lw_at lw_m9 96 rfl) rfl
theorem q2141 : (Jvm.Cond.soleField "LotBeliefsModel" "killed") ∈ lw_all := lw_g (lw_at lw_m9 97 rfl) rfl
theorem q2142 : (Jvm.Cond.lays "LotBeliefsModel" "LotBeliefsModel" "hurts" "I") ∈ lw_all := lw_g (lw_at lw_m9 98 rfl) rfl
theorem q2143 : (Jvm.Cond.soleField "LotBeliefsModel" "hurts") ∈ lw_all := lw_g (lw_at lw_m9 99 rfl) rfl
theorem q2144 : (Jvm.Cond.lays "LotBeliefsModel" "LotBeliefsModel" "yearLaw" "I") ∈ lw_all := lw_g (lw_at lw_m9 100 rfl) rfl
theorem q2145 : (Jvm.Cond.soleField "LotBeliefsModel" "yearLaw") ∈ lw_all := lw_g (lw_at lw_m9 101 rfl) rfl
theorem q2146 : (Jvm.Cond.laysFinal "LotBeliefsModel" "LotBeliefsModel" "meets" "[I") ∈ lw_all := lw_g (lw_at lw_m9 102 rfl) rfl
theorem q2147 : (Jvm.Cond.soleField "LotBeliefsModel" "meets") ∈ lw_all := lw_g (lw_at lw_m9 103 rfl) rfl
theorem q2148 : (Jvm.Cond.laysFinal "LotBeliefsModel" "LotBeliefsModel" "been" "[Z") ∈ lw_all := lw_g (lw_at lw_m9 104 rfl) rfl
theorem q2149 : (Jvm.Cond.soleField "LotBeliefsModel" "been") ∈ lw_all := lw_g (lw_at lw_m9 105 rfl) rfl
theorem q2150 : (Jvm.Cond.laysFinal "LotBeliefsModel" "LotBeliefsModel" "holds" "[I") ∈ lw_all := lw_g (lw_at lw_m9 106 rfl) rfl
theorem q2151 : (Jvm.Cond.soleField "LotBeliefsModel" "holds") ∈ lw_all := lw_g (lw_at lw_m9 107 rfl) rfl
theorem q2152 : (Jvm.Cond.lays "LotBeliefsModel" "LotBeliefsModel" "always" "I") ∈ lw_all := lw_g (lw_at lw_m9 108 rfl) rfl
theorem q2153 : (Jvm.Cond.soleField "LotBeliefsModel" "always") ∈ lw_all := lw_g (lw_at lw_m9 109 rfl) rfl
theorem q2154 : (Jvm.Cond.lays "LotBeliefsModel" "LotBeliefsModel" "ever" "I") ∈ lw_all := lw_g (lw_at lw_m9 110 rfl) rfl
theorem q2155 : (Jvm.Cond.soleField "LotBeliefsModel" "ever") ∈ lw_all := lw_g (lw_at lw_m9 111 rfl) rfl
theorem q2156 : (Jvm.Cond.lays "LotBeliefsModel" "LotBeliefsModel" "unlike" "I") ∈ lw_all := lw_g (lw_at lw_m9 112 rfl) rfl
theorem q2157 : (Jvm.Cond.soleField "LotBeliefsModel" "unlike") ∈ lw_all := lw_g (lw_at lw_m9 113 rfl) rfl
theorem q2158 : (Jvm.Cond.lays "LotBeliefsModel" "LotBeliefsModel" "trues" "I") ∈ lw_all := lw_g (lw_at lw_m9 114 rfl) rfl
theorem q2159 : (Jvm.Cond.soleField "LotBeliefsModel" "trues") ∈ lw_all := lw_g (lw_at lw_m9 115 rfl) rfl
theorem q2160 : (Jvm.Cond.lays "LotBeliefsModel" "LotBeliefsModel" "bestTrues" "I") ∈ lw_all := lw_g (lw_at lw_m9 116 rfl) rfl
theorem q2161 : (Jvm.Cond.soleField "LotBeliefsModel" "bestTrues") ∈ lw_all := lw_g (lw_at lw_m9 117 rfl) rfl
theorem q2162 : (Jvm.Cond.lays "LotBeliefsModel" "LotBeliefsModel" "worstHurts" "I") ∈ lw_all := lw_g (lw_at lw_m9 118 rfl) rfl
theorem q2163 : (Jvm.Cond.soleField "LotBeliefsModel" "worstHurts") ∈ lw_all := lw_g (lw_at lw_m9 119 rfl) rfl
theorem q2164 : (Jvm.Cond.laysFinal "LotBeliefsModel" "LotBeliefsModel" "bestRow" "[I") ∈ lw_all := lw_g (lw_at lw_m9 120 rfl) rfl
theorem q2165 : (Jvm.Cond.soleField "LotBeliefsModel" "bestRow") ∈ lw_all := lw_g (lw_at lw_m9 121 rfl) rfl
theorem q2166 : (Jvm.Cond.laysFinal "LotBeliefsModel" "LotBeliefsModel" "worstRow" "[I") ∈ lw_all := lw_g (lw_at lw_m9 122 rfl) rfl
theorem q2167 : (Jvm.Cond.soleField "LotBeliefsModel" "worstRow") ∈ lw_all := lw_g (lw_at lw_m9 123 rfl) rfl
theorem q2168 : (Jvm.Cond.laysFinal "LotBeliefsModel" "LotBeliefsModel" "schoolBehind" "[[I") ∈ lw_all := lw_g (lw_at lw_m9 124 rfl) rfl
theorem q2169 : (Jvm.Cond.soleField "LotBeliefsModel" "schoolBehind") ∈ lw_all := lw_g (lw_at lw_m9 125 rfl) rfl
theorem q2170 : (Jvm.Cond.laysFinal "LotBeliefsModel" "LotBeliefsModel" "plainOf" "[I") ∈ lw_all := lw_g (lw_at lw_m9 126 rfl) rfl
theorem q2171 : (Jvm.Cond.soleField "LotBeliefsModel" "plainOf") ∈ lw_all := lw_g (lw_at lw_m9 127 rfl) rfl
theorem q2172 : (Jvm.Cond.superclass "LotBeliefsModel" "java/lang/Object") ∈ lw_all := lw_g (lw_at lw_m9 128 rfl) rfl
theorem q2174 : (Jvm.Cond.instanceMethod ({ cls := "LotBeliefsModel", name := "thrown", desc := "()I" } : Jvm.MethodName)) ∈ lw_all := lw_g (lw_at lw_m9 130 rfl) rfl
theorem q2175 : (Jvm.Cond.selects "LotBeliefsModel" ({ cls := "LotBeliefsModel", name := "thrown", desc := "()I" } : Jvm.MethodName) ({ cls := "LotBeliefsModel", name := "thrown", desc := "()I" } : Jvm.MethodName)) ∈ lw_all := lw_g (lw_at lw_m9 131 rfl) rfl
theorem q2176 : (Jvm.Cond.code ({ cls := "LotBeliefsModel", name := "thrown", desc := "()I" } : Jvm.MethodName) prog_19_method_3_code (1 : Nat) (Option.some Jvm.ClassFile.FieldType.int)) ∈ lw_all := lw_g (lw_at lw_m9 132 rfl) rfl
theorem q2178 : (Jvm.Cond.instanceMethod ({ cls := "LotBeliefsModel", name := "feed", desc := "(IIIII)I" } : Jvm.MethodName)) ∈ lw_all := lw_g (lw_at lw_m9 134 rfl) rfl
theorem q2179 : (Jvm.Cond.selects "LotBeliefsModel" ({ cls := "LotBeliefsModel", name := "feed", desc := "(IIIII)I" } : Jvm.MethodName) ({ cls := "LotBeliefsModel", name := "feed", desc := "(IIIII)I" } : Jvm.MethodName)) ∈ lw_all := lw_g (lw_at lw_m9 135 rfl) rfl
theorem q2180 : (Jvm.Cond.code ({ cls := "LotBeliefsModel", name := "feed", desc := "(IIIII)I" } : Jvm.MethodName) prog_19_method_6_code (8 : Nat) (Option.some Jvm.ClassFile.FieldType.int)) ∈ lw_all := lw_g (lw_at lw_m9 136 rfl) rfl
theorem q2182 : (Jvm.Cond.instanceMethod ({ cls := "LotBeliefsModel", name := "jar", desc := "(I)I" } : Jvm.MethodName)) ∈ lw_all := lw_g (lw_at lw_m9 138 rfl) rfl
theorem q2183 : (Jvm.Cond.selects "LotBeliefsModel" ({ cls := "LotBeliefsModel", name := "jar", desc := "(I)I" } : Jvm.MethodName) ({ cls := "LotBeliefsModel", name := "jar", desc := "(I)I" } : Jvm.MethodName)) ∈ lw_all := lw_g (lw_at lw_m9 139 rfl) rfl
theorem q2184 : (Jvm.Cond.code ({ cls := "LotBeliefsModel", name := "jar", desc := "(I)I" } : Jvm.MethodName) prog_19_method_30_code (2 : Nat) (Option.some Jvm.ClassFile.FieldType.int)) ∈ lw_all := lw_g (lw_at lw_m9 140 rfl) rfl
theorem q2185 : (Jvm.Cond.methodLink "LotBeliefsModel" (166 : Nat) ({ cls := "LotBeliefsModel", name := "in", desc := "(III)Z" } : Jvm.MethodName)) ∈ lw_all := lw_g (lw_at lw_m9 141 rfl) rfl
theorem q2186 : (Jvm.Cond.static ({ cls := "LotBeliefsModel", name := "in", desc := "(III)Z" } : Jvm.MethodName)) ∈ lw_all := lw_g (lw_at lw_m9 142 rfl) rfl
theorem q2187 : (Jvm.Cond.code ({ cls := "LotBeliefsModel", name := "in", desc := "(III)Z" } : Jvm.MethodName) prog_19_method_5_code (3 : Nat) (Option.some Jvm.ClassFile.FieldType.boolean)) ∈ lw_all := lw_g (lw_at lw_m9 143 rfl) rfl
theorem q2188 : (Jvm.Cond.methodLink "LotBeliefsModel" (233 : Nat) ({ cls := "LotBeliefsModel", name := "bad", desc := "(ZII)Z" } : Jvm.MethodName)) ∈ lw_all := lw_g (lw_at lw_m9 144 rfl) rfl
theorem q2189 : (Jvm.Cond.privateMethod ({ cls := "LotBeliefsModel", name := "bad", desc := "(ZII)Z" } : Jvm.MethodName)) ∈ lw_tbl := lw_at lw_m9 145 rfl
theorem q2190 : (Jvm.Cond.instanceMethod ({ cls := "LotBeliefsModel", name := "bad", desc := "(ZII)Z" } : Jvm.MethodName)) ∈ lw_all := lw_g (lw_at lw_m9 146 rfl) rfl
theorem q2191 : (Jvm.Cond.code ({ cls := "LotBeliefsModel", name := "bad", desc := "(ZII)Z" } : Jvm.MethodName) prog_19_method_4_code (4 : Nat) (Option.some Jvm.ClassFile.FieldType.boolean)) ∈ lw_all := lw_g (lw_at lw_m9 147 rfl) rfl
theorem q2192 : (Jvm.Cond.methodLink "LotBeliefsModel" (237 : Nat) ({ cls := "LotBeliefsModel", name := "starts", desc := "(I)V" } : Jvm.MethodName)) ∈ lw_all := lw_g (lw_at lw_m9 148 rfl) rfl
theorem q2193 : (Jvm.Cond.privateMethod ({ cls := "LotBeliefsModel", name := "starts", desc := "(I)V" } : Jvm.MethodName)) ∈ lw_tbl := lw_at lw_m9 149 rfl
theorem q2194 : (Jvm.Cond.instanceMethod ({ cls := "LotBeliefsModel", name := "starts", desc := "(I)V" } : Jvm.MethodName)) ∈ lw_all := lw_g (lw_at lw_m9 150 rfl) rfl
theorem q2195 : (Jvm.Cond.code ({ cls := "LotBeliefsModel", name := "starts", desc := "(I)V" } : Jvm.MethodName) prog_19_method_21_code (2 : Nat) (Option.none : Option Jvm.ClassFile.FieldType)) ∈ lw_all := lw_g (lw_at lw_m9 151 rfl) rfl
theorem q2196 : (Jvm.Cond.methodLink "LotBeliefsModel" (154 : Nat) ({ cls := "LotBeliefsModel", name := "blanks", desc := "()V" } : Jvm.MethodName)) ∈ lw_all := lw_g (lw_at lw_m9 152 rfl) rfl
theorem q2197 : (Jvm.Cond.privateMethod ({ cls := "LotBeliefsModel", name := "blanks", desc := "()V" } : Jvm.MethodName)) ∈ lw_tbl := lw_at lw_m9 153 rfl
theorem q2198 : (Jvm.Cond.instanceMethod ({ cls := "LotBeliefsModel", name := "blanks", desc := "()V" } : Jvm.MethodName)) ∈ lw_all := lw_g (lw_at lw_m9 154 rfl) rfl
theorem q2199 : (Jvm.Cond.code ({ cls := "LotBeliefsModel", name := "blanks", desc := "()V" } : Jvm.MethodName) prog_19_method_8_code (1 : Nat) (Option.none : Option Jvm.ClassFile.FieldType)) ∈ lw_all := lw_g (lw_at lw_m9 155 rfl) rfl
theorem q2200 : (Jvm.Cond.methodLink "LotBeliefsModel" (144 : Nat) ({ cls := "LotBeliefsModel", name := "byteAt", desc := "(I)I" } : Jvm.MethodName)) ∈ lw_all := lw_g (lw_at lw_m9 156 rfl) rfl
theorem q2201 : (Jvm.Cond.privateMethod ({ cls := "LotBeliefsModel", name := "byteAt", desc := "(I)I" } : Jvm.MethodName)) ∈ lw_tbl := lw_at lw_m9 157 rfl
theorem q2202 : (Jvm.Cond.instanceMethod ({ cls := "LotBeliefsModel", name := "byteAt", desc := "(I)I" } : Jvm.MethodName)) ∈ lw_all := lw_g (lw_at lw_m9 158 rfl) rfl
theorem q2203 : (Jvm.Cond.code ({ cls := "LotBeliefsModel", name := "byteAt", desc := "(I)I" } : Jvm.MethodName) prog_19_method_7_code (2 : Nat) (Option.some Jvm.ClassFile.FieldType.int)) ∈ lw_all := lw_g (lw_at lw_m9 159 rfl) rfl
theorem q2204 : (Jvm.Cond.methodLink "LotBeliefsModel" (240 : Nat) ({ cls := "LotBeliefsModel", name := "clause", desc := "()V" } : Jvm.MethodName)) ∈ lw_all := lw_g (lw_at lw_m9 160 rfl) rfl
theorem q2205 : (Jvm.Cond.privateMethod ({ cls := "LotBeliefsModel", name := "clause", desc := "()V" } : Jvm.MethodName)) ∈ lw_tbl := lw_at lw_m9 161 rfl
theorem q2206 : (Jvm.Cond.instanceMethod ({ cls := "LotBeliefsModel", name := "clause", desc := "()V" } : Jvm.MethodName)) ∈ lw_all := lw_g (lw_at lw_m9 162 rfl) rfl
theorem q2207 : (Jvm.Cond.code ({ cls := "LotBeliefsModel", name := "clause", desc := "()V" } : Jvm.MethodName) prog_19_method_29_code (2 : Nat) (Option.none : Option Jvm.ClassFile.FieldType)) ∈ lw_all := lw_g (lw_at lw_m9 163 rfl) rfl
theorem q2208 : (Jvm.Cond.methodLink "LotBeliefsModel" (223 : Nat) ({ cls := "LotBeliefsModel", name := "kindHere", desc := "()I" } : Jvm.MethodName)) ∈ lw_all := lw_g (lw_at lw_m9 164 rfl) rfl
theorem q2209 : (Jvm.Cond.privateMethod ({ cls := "LotBeliefsModel", name := "kindHere", desc := "()I" } : Jvm.MethodName)) ∈ lw_tbl := lw_at lw_m9 165 rfl
theorem q2210 : (Jvm.Cond.instanceMethod ({ cls := "LotBeliefsModel", name := "kindHere", desc := "()I" } : Jvm.MethodName)) ∈ lw_all := lw_g (lw_at lw_m9 166 rfl) rfl
theorem q2211 : (Jvm.Cond.code ({ cls := "LotBeliefsModel", name := "kindHere", desc := "()I" } : Jvm.MethodName) prog_19_method_27_code (1 : Nat) (Option.some Jvm.ClassFile.FieldType.int)) ∈ lw_all := lw_g (lw_at lw_m9 167 rfl) rfl
theorem q2212 : (Jvm.Cond.methodLink "LotBeliefsModel" (181 : Nat) ({ cls := "LotBeliefsModel", name := "isWord", desc := "(IIIIII)Z" } : Jvm.MethodName)) ∈ lw_all := lw_g (lw_at lw_m9 168 rfl) rfl
theorem q2213 : (Jvm.Cond.privateMethod ({ cls := "LotBeliefsModel", name := "isWord", desc := "(IIIIII)Z" } : Jvm.MethodName)) ∈ lw_tbl := lw_at lw_m9 169 rfl
theorem q2214 : (Jvm.Cond.instanceMethod ({ cls := "LotBeliefsModel", name := "isWord", desc := "(IIIIII)Z" } : Jvm.MethodName)) ∈ lw_all := lw_g (lw_at lw_m9 170 rfl) rfl
theorem q2215 : (Jvm.Cond.code ({ cls := "LotBeliefsModel", name := "isWord", desc := "(IIIIII)Z" } : Jvm.MethodName) prog_19_method_15_code (7 : Nat) (Option.some Jvm.ClassFile.FieldType.boolean)) ∈ lw_all := lw_g (lw_at lw_m9 171 rfl) rfl
theorem q2216 : (Jvm.Cond.methodLink "LotBeliefsModel" (173 : Nat) ({ cls := "LotBeliefsModel", name := "wordHere", desc := "()I" } : Jvm.MethodName)) ∈ lw_all := lw_g (lw_at lw_m9 172 rfl) rfl
theorem q2217 : (Jvm.Cond.privateMethod ({ cls := "LotBeliefsModel", name := "wordHere", desc := "()I" } : Jvm.MethodName)) ∈ lw_tbl := lw_at lw_m9 173 rfl
theorem q2218 : (Jvm.Cond.instanceMethod ({ cls := "LotBeliefsModel", name := "wordHere", desc := "()I" } : Jvm.MethodName)) ∈ lw_all := lw_g (lw_at lw_m9 174 rfl) rfl
theorem q2219 : (Jvm.Cond.code ({ cls := "LotBeliefsModel", name := "wordHere", desc := "()I" } : Jvm.MethodName) prog_19_method_13_code (3 : Nat) (Option.some Jvm.ClassFile.FieldType.int)) ∈ lw_all := lw_g (lw_at lw_m9 175 rfl) rfl
theorem q2220 : (Jvm.Cond.methodLink "LotBeliefsModel" (170 : Nat) ({ cls := "LotBeliefsModel", name := "isSmall", desc := "(I)Z" } : Jvm.MethodName)) ∈ lw_all := lw_g (lw_at lw_m9 176 rfl) rfl
theorem q2221 : (Jvm.Cond.static ({ cls := "LotBeliefsModel", name := "isSmall", desc := "(I)Z" } : Jvm.MethodName)) ∈ lw_all := lw_g (lw_at lw_m9 177 rfl) rfl
theorem q2222 : (Jvm.Cond.code ({ cls := "LotBeliefsModel", name := "isSmall", desc := "(I)Z" } : Jvm.MethodName) prog_19_method_11_code (1 : Nat) (Option.some Jvm.ClassFile.FieldType.boolean)) ∈ lw_all := lw_g (lw_at lw_m9 178 rfl) rfl
theorem q2223 : (Jvm.Cond.methodLink "LotBeliefsModel" (177 : Nat) ({ cls := "LotBeliefsModel", name := "six", desc := "(IIIIII)I" } : Jvm.MethodName)) ∈ lw_all := lw_g (lw_at lw_m9 179 rfl) rfl
theorem q2224 : (Jvm.Cond.static ({ cls := "LotBeliefsModel", name := "six", desc := "(IIIIII)I" } : Jvm.MethodName)) ∈ lw_all := lw_g (lw_at lw_m9 180 rfl) rfl
theorem q2225 : (Jvm.Cond.code ({ cls := "LotBeliefsModel", name := "six", desc := "(IIIIII)I" } : Jvm.MethodName) prog_19_method_14_code (7 : Nat) (Option.some Jvm.ClassFile.FieldType.int)) ∈ lw_all := lw_g (lw_at lw_m9 181 rfl) rfl
theorem q2226 : (Jvm.Cond.methodLink "LotBeliefsModel" (161 : Nat) ({ cls := "LotBeliefsModel", name := "wrong", desc := "(II)V" } : Jvm.MethodName)) ∈ lw_all := lw_g (lw_at lw_m9 182 rfl) rfl
theorem q2227 : (Jvm.Cond.privateMethod ({ cls := "LotBeliefsModel", name := "wrong", desc := "(II)V" } : Jvm.MethodName)) ∈ lw_tbl := lw_at lw_m9 183 rfl
theorem q2228 : (Jvm.Cond.instanceMethod ({ cls := "LotBeliefsModel", name := "wrong", desc := "(II)V" } : Jvm.MethodName)) ∈ lw_all := lw_g (lw_at lw_m9 184 rfl) rfl
theorem q2229 : (Jvm.Cond.code ({ cls := "LotBeliefsModel", name := "wrong", desc := "(II)V" } : Jvm.MethodName) prog_19_method_9_code (3 : Nat) (Option.none : Option Jvm.ClassFile.FieldType)) ∈ lw_all := lw_g (lw_at lw_m9 185 rfl) rfl
theorem q2230 : (Jvm.Cond.methodLink "LotBeliefsModel" (226 : Nat) ({ cls := "LotBeliefsModel", name := "isFull", desc := "(I)Z" } : Jvm.MethodName)) ∈ lw_all := lw_g (lw_at lw_m9 186 rfl) rfl
theorem q2231 : (Jvm.Cond.privateMethod ({ cls := "LotBeliefsModel", name := "isFull", desc := "(I)Z" } : Jvm.MethodName)) ∈ lw_tbl := lw_at lw_m9 187 rfl
theorem q2232 : (Jvm.Cond.instanceMethod ({ cls := "LotBeliefsModel", name := "isFull", desc := "(I)Z" } : Jvm.MethodName)) ∈ lw_all := lw_g (lw_at lw_m9 188 rfl) rfl
theorem q2233 : (Jvm.Cond.code ({ cls := "LotBeliefsModel", name := "isFull", desc := "(I)Z" } : Jvm.MethodName) prog_19_method_28_code (2 : Nat) (Option.some Jvm.ClassFile.FieldType.boolean)) ∈ lw_all := lw_g (lw_at lw_m9 189 rfl) rfl
theorem q2234 : (Jvm.Cond.methodLink "LotBeliefsModel" (185 : Nat) ({ cls := "LotBeliefsModel", name := "skipWord", desc := "()V" } : Jvm.MethodName)) ∈ lw_all := lw_g (lw_at lw_m9 190 rfl) rfl
theorem q2235 : (Jvm.Cond.privateMethod ({ cls := "LotBeliefsModel", name := "skipWord", desc := "()V" } : Jvm.MethodName)) ∈ lw_tbl := lw_at lw_m9 191 rfl
theorem q2236 : (Jvm.Cond.instanceMethod ({ cls := "LotBeliefsModel", name := "skipWord", desc := "()V" } : Jvm.MethodName)) ∈ lw_all := lw_g (lw_at lw_m9 192 rfl) rfl
theorem q2237 : (Jvm.Cond.code ({ cls := "LotBeliefsModel", name := "skipWord", desc := "()V" } : Jvm.MethodName) prog_19_method_16_code (1 : Nat) (Option.none : Option Jvm.ClassFile.FieldType)) ∈ lw_all := lw_g (lw_at lw_m9 193 rfl) rfl
theorem q2238 : (Jvm.Cond.methodLink "LotBeliefsModel" (229 : Nat) ({ cls := "LotBeliefsModel", name := "number", desc := "(II)I" } : Jvm.MethodName)) ∈ lw_all := lw_g (lw_at lw_m9 194 rfl) rfl
theorem q2239 : (Jvm.Cond.privateMethod ({ cls := "LotBeliefsModel", name := "number", desc := "(II)I" } : Jvm.MethodName)) ∈ lw_tbl := lw_at lw_m9 195 rfl
theorem q2240 : (Jvm.Cond.instanceMethod ({ cls := "LotBeliefsModel", name := "number", desc := "(II)I" } : Jvm.MethodName)) ∈ lw_all := lw_g (lw_at lw_m9 196 rfl) rfl
theorem q2241 : (Jvm.Cond.code ({ cls := "LotBeliefsModel", name := "number", desc := "(II)I" } : Jvm.MethodName) prog_19_method_12_code (5 : Nat) (Option.some Jvm.ClassFile.FieldType.int)) ∈ lw_all := lw_g (lw_at lw_m9 197 rfl) rfl
theorem q2242 : (Jvm.Cond.methodLink "LotBeliefsModel" (157 : Nat) ({ cls := "LotBeliefsModel", name := "isDigit", desc := "(I)Z" } : Jvm.MethodName)) ∈ lw_all := lw_g (lw_at lw_m9 198 rfl) rfl
theorem q2243 : (Jvm.Cond.static ({ cls := "LotBeliefsModel", name := "isDigit", desc := "(I)Z" } : Jvm.MethodName)) ∈ lw_all := lw_g (lw_at lw_m9 199 rfl) rfl
theorem q2244 : (Jvm.Cond.code ({ cls := "LotBeliefsModel", name := "isDigit", desc := "(I)Z" } : Jvm.MethodName) prog_19_method_10_code (1 : Nat) (Option.some Jvm.ClassFile.FieldType.boolean)) ∈ lw_all := lw_g (lw_at lw_m9 200 rfl) rfl
theorem q2245 : (Jvm.Cond.constant "LotBeliefsModel" (165 : Nat) (100000 : Int32)) ∈ lw_all := lw_g (lw_at lw_m9 201 rfl) rfl
theorem q2246 : (Jvm.Cond.methodLink "LotBeliefsModel" (212 : Nat) ({ cls := "LotBeliefsModel", name := "anyOf", desc := "()J" } : Jvm.MethodName)) ∈ lw_all := lw_g (lw_at lw_m9 202 rfl) rfl
theorem q2247 : (Jvm.Cond.privateMethod ({ cls := "LotBeliefsModel", name := "anyOf", desc := "()J" } : Jvm.MethodName)) ∈ lw_tbl := lw_at lw_m9 203 rfl
theorem q2248 : (Jvm.Cond.instanceMethod ({ cls := "LotBeliefsModel", name := "anyOf", desc := "()J" } : Jvm.MethodName)) ∈ lw_all := lw_g (lw_at lw_m9 204 rfl) rfl
theorem q2249 : (Jvm.Cond.code ({ cls := "LotBeliefsModel", name := "anyOf", desc := "()J" } : Jvm.MethodName) prog_19_method_24_code (3 : Nat) (Option.some Jvm.ClassFile.FieldType.long)) ∈ lw_all := lw_g (lw_at lw_m9 205 rfl) rfl
theorem q2250 : (Jvm.Cond.methodLink "LotBeliefsModel" (194 : Nat) ({ cls := "LotBeliefsModel", name := "eachOf", desc := "()J" } : Jvm.MethodName)) ∈ lw_all := lw_g (lw_at lw_m9 206 rfl) rfl
theorem q2251 : (Jvm.Cond.privateMethod ({ cls := "LotBeliefsModel", name := "eachOf", desc := "()J" } : Jvm.MethodName)) ∈ lw_tbl := lw_at lw_m9 207 rfl
theorem q2252 : (Jvm.Cond.instanceMethod ({ cls := "LotBeliefsModel", name := "eachOf", desc := "()J" } : Jvm.MethodName)) ∈ lw_all := lw_g (lw_at lw_m9 208 rfl) rfl
theorem q2253 : (Jvm.Cond.code ({ cls := "LotBeliefsModel", name := "eachOf", desc := "()J" } : Jvm.MethodName) prog_19_method_25_code (3 : Nat) (Option.some Jvm.ClassFile.FieldType.long)) ∈ lw_all := lw_g (lw_at lw_m9 209 rfl) rfl
theorem q2254 : (Jvm.Cond.methodLink "LotBeliefsModel" (201 : Nat) ({ cls := "LotBeliefsModel", name := "oneOf", desc := "()J" } : Jvm.MethodName)) ∈ lw_all := lw_g (lw_at lw_m9 210 rfl) rfl
theorem q2255 : (Jvm.Cond.privateMethod ({ cls := "LotBeliefsModel", name := "oneOf", desc := "()J" } : Jvm.MethodName)) ∈ lw_tbl := lw_at lw_m9 211 rfl
theorem q2256 : (Jvm.Cond.instanceMethod ({ cls := "LotBeliefsModel", name := "oneOf", desc := "()J" } : Jvm.MethodName)) ∈ lw_all := lw_g (lw_at lw_m9 212 rfl) rfl
theorem q2257 : (Jvm.Cond.code ({ cls := "LotBeliefsModel", name := "oneOf", desc := "()J" } : Jvm.MethodName) prog_19_method_26_code (6 : Nat) (Option.some Jvm.ClassFile.FieldType.long)) ∈ lw_all := lw_g (lw_at lw_m9 213 rfl) rfl
theorem q2258 : (Jvm.Cond.methodLink "LotBeliefsModel" (208 : Nat) ({ cls := "LotBeliefsModel", name := "opens", desc := "()Z" } : Jvm.MethodName)) ∈ lw_all := lw_g (lw_at lw_m9 214 rfl) rfl
theorem q2259 : (Jvm.Cond.privateMethod ({ cls := "LotBeliefsModel", name := "opens", desc := "()Z" } : Jvm.MethodName)) ∈ lw_tbl := lw_at lw_m9 215 rfl
theorem q2260 : (Jvm.Cond.instanceMethod ({ cls := "LotBeliefsModel", name := "opens", desc := "()Z" } : Jvm.MethodName)) ∈ lw_all := lw_g (lw_at lw_m9 216 rfl) rfl
theorem q2261 : (Jvm.Cond.code ({ cls := "LotBeliefsModel", name := "opens", desc := "()Z" } : Jvm.MethodName) prog_19_method_20_code (1 : Nat) (Option.some Jvm.ClassFile.FieldType.boolean)) ∈ lw_all := lw_g (lw_at lw_m9 217 rfl) rfl
theorem q2262 : (Jvm.Cond.methodLink "LotBeliefsModel" (215 : Nat) ({ cls := "LotBeliefsModel", name := "sign", desc := "(I)V" } : Jvm.MethodName)) ∈ lw_all := lw_g (lw_at lw_m9 218 rfl) rfl
theorem q2263 : (Jvm.Cond.privateMethod ({ cls := "LotBeliefsModel", name := "sign", desc := "(I)V" } : Jvm.MethodName)) ∈ lw_tbl := lw_at lw_m9 219 rfl
theorem q2264 : (Jvm.Cond.instanceMethod ({ cls := "LotBeliefsModel", name := "sign", desc := "(I)V" } : Jvm.MethodName)) ∈ lw_all := lw_g (lw_at lw_m9 220 rfl) rfl
theorem q2265 : (Jvm.Cond.code ({ cls := "LotBeliefsModel", name := "sign", desc := "(I)V" } : Jvm.MethodName) prog_19_method_18_code (2 : Nat) (Option.none : Option Jvm.ClassFile.FieldType)) ∈ lw_all := lw_g (lw_at lw_m9 221 rfl) rfl
theorem q2266 : (Jvm.Cond.methodLink "LotBeliefsModel" (198 : Nat) ({ cls := "LotBeliefsModel", name := "takes", desc := "(IIIIII)Z" } : Jvm.MethodName)) ∈ lw_all := lw_g (lw_at lw_m9 222 rfl) rfl
theorem q2267 : (Jvm.Cond.privateMethod ({ cls := "LotBeliefsModel", name := "takes", desc := "(IIIIII)Z" } : Jvm.MethodName)) ∈ lw_tbl := lw_at lw_m9 223 rfl
theorem q2268 : (Jvm.Cond.instanceMethod ({ cls := "LotBeliefsModel", name := "takes", desc := "(IIIIII)Z" } : Jvm.MethodName)) ∈ lw_all := lw_g (lw_at lw_m9 224 rfl) rfl
theorem q2269 : (Jvm.Cond.code ({ cls := "LotBeliefsModel", name := "takes", desc := "(IIIIII)Z" } : Jvm.MethodName) prog_19_method_17_code (8 : Nat) (Option.some Jvm.ClassFile.FieldType.boolean)) ∈ lw_all := lw_g (lw_at lw_m9 225 rfl) rfl
theorem q2270 : (Jvm.Cond.methodLink "LotBeliefsModel" (219 : Nat) ({ cls := "LotBeliefsModel", name := "atomOf", desc := "(II)J" } : Jvm.MethodName)) ∈ lw_all := lw_g (lw_at lw_m9 226 rfl) rfl
theorem q2271 : (Jvm.Cond.static ({ cls := "LotBeliefsModel", name := "atomOf", desc := "(II)J" } : Jvm.MethodName)) ∈ lw_all := lw_g (lw_at lw_m9 227 rfl) rfl
theorem q2272 : (Jvm.Cond.code ({ cls := "LotBeliefsModel", name := "atomOf", desc := "(II)J" } : Jvm.MethodName) prog_19_method_23_code (5 : Nat) (Option.some Jvm.ClassFile.FieldType.long)) ∈ lw_all := lw_g (lw_at lw_m9 228 rfl) rfl
theorem q2274 : (Jvm.Cond.instanceMethod ({ cls := "LotBeliefsModel", name := "question", desc := "(I)I" } : Jvm.MethodName)) ∈ lw_all := lw_g (lw_at lw_m9 230 rfl) rfl
theorem q2275 : (Jvm.Cond.selects "LotBeliefsModel" ({ cls := "LotBeliefsModel", name := "question", desc := "(I)I" } : Jvm.MethodName) ({ cls := "LotBeliefsModel", name := "question", desc := "(I)I" } : Jvm.MethodName)) ∈ lw_all := lw_g (lw_at lw_m9 231 rfl) rfl
theorem q2276 : (Jvm.Cond.code ({ cls := "LotBeliefsModel", name := "question", desc := "(I)I" } : Jvm.MethodName) prog_19_method_33_code (4 : Nat) (Option.some Jvm.ClassFile.FieldType.int)) ∈ lw_all := lw_g (lw_at lw_m9 232 rfl) rfl
theorem q2277 : (Jvm.Cond.methodLink "LotBeliefsModel" (249 : Nat) ({ cls := "LotBeliefsModel", name := "ones", desc := "(J)I" } : Jvm.MethodName)) ∈ lw_all := lw_g (lw_at lw_m9 233 rfl) rfl
theorem q2278 : (Jvm.Cond.static ({ cls := "LotBeliefsModel", name := "ones", desc := "(J)I" } : Jvm.MethodName)) ∈ lw_all := lw_g (lw_at lw_m9 234 rfl) rfl
theorem q2279 : (Jvm.Cond.code ({ cls := "LotBeliefsModel", name := "ones", desc := "(J)I" } : Jvm.MethodName) prog_19_method_32_code (4 : Nat) (Option.some Jvm.ClassFile.FieldType.int)) ∈ lw_all := lw_g (lw_at lw_m9 235 rfl) rfl
theorem q2281 : (Jvm.Cond.instanceMethod ({ cls := "LotBeliefsModel", name := "tongue", desc := "(I)I" } : Jvm.MethodName)) ∈ lw_all := lw_g (lw_at lw_m9 237 rfl) rfl
theorem q2282 : (Jvm.Cond.selects "LotBeliefsModel" ({ cls := "LotBeliefsModel", name := "tongue", desc := "(I)I" } : Jvm.MethodName) ({ cls := "LotBeliefsModel", name := "tongue", desc := "(I)I" } : Jvm.MethodName)) ∈ lw_all := lw_g (lw_at lw_m9 238 rfl) rfl
theorem q2283 : (Jvm.Cond.code ({ cls := "LotBeliefsModel", name := "tongue", desc := "(I)I" } : Jvm.MethodName) prog_19_method_43_code (4 : Nat) (Option.some Jvm.ClassFile.FieldType.int)) ∈ lw_all := lw_g (lw_at lw_m9 239 rfl) rfl
theorem q2284 : (Jvm.Cond.methodLink "LotBeliefsModel" (286 : Nat) ({ cls := "LotBeliefsModel", name := "whoHere", desc := "()V" } : Jvm.MethodName)) ∈ lw_all := lw_g (lw_at lw_m10 0 rfl) rfl
theorem q2285 : (Jvm.Cond.privateMethod ({ cls := "LotBeliefsModel", name := "whoHere", desc := "()V" } : Jvm.MethodName)) ∈ lw_tbl := lw_at lw_m10 1 rfl
theorem q2286 : (Jvm.Cond.instanceMethod ({ cls := "LotBeliefsModel", name := "whoHere", desc := "()V" } : Jvm.MethodName)) ∈ lw_all := lw_g (lw_at lw_m10 2 rfl) rfl
theorem q2287 : (Jvm.Cond.code ({ cls := "LotBeliefsModel", name := "whoHere", desc := "()V" } : Jvm.MethodName) prog_19_method_42_code (2 : Nat) (Option.none : Option Jvm.ClassFile.FieldType)) ∈ lw_all := lw_g (lw_at lw_m10 3 rfl) rfl
theorem q2288 : (Jvm.Cond.methodLink "LotBeliefsModel" (265 : Nat) ({ cls := "LotBeliefsModel", name := "tongueAny", desc := "()V" } : Jvm.MethodName)) ∈ lw_all := lw_g (lw_at lw_m10 4 rfl) rfl
theorem q2289 : (Jvm.Cond.privateMethod ({ cls := "LotBeliefsModel", name := "tongueAny", desc := "()V" } : Jvm.MethodName)) ∈ lw_tbl := lw_at lw_m10 5 rfl
theorem q2290 : (Jvm.Cond.instanceMethod ({ cls := "LotBeliefsModel", name := "tongueAny", desc := "()V" } : Jvm.MethodName)) ∈ lw_all := lw_g (lw_at lw_m10 6 rfl) rfl
theorem q2291 : (Jvm.Cond.code ({ cls := "LotBeliefsModel", name := "tongueAny", desc := "()V" } : Jvm.MethodName) prog_19_method_35_code (1 : Nat) (Option.none : Option Jvm.ClassFile.FieldType)) ∈ lw_all := lw_g (lw_at lw_m10 7 rfl) rfl
theorem q2292 : (Jvm.Cond.methodLink "LotBeliefsModel" (256 : Nat) ({ cls := "LotBeliefsModel", name := "tongueEach", desc := "()V" } : Jvm.MethodName)) ∈ lw_all := lw_g (lw_at lw_m10 8 rfl) rfl
theorem q2293 : (Jvm.Cond.privateMethod ({ cls := "LotBeliefsModel", name := "tongueEach", desc := "()V" } : Jvm.MethodName)) ∈ lw_tbl := lw_at lw_m10 9 rfl
theorem q2294 : (Jvm.Cond.instanceMethod ({ cls := "LotBeliefsModel", name := "tongueEach", desc := "()V" } : Jvm.MethodName)) ∈ lw_all := lw_g (lw_at lw_m10 10 rfl) rfl
theorem q2295 : (Jvm.Cond.code ({ cls := "LotBeliefsModel", name := "tongueEach", desc := "()V" } : Jvm.MethodName) prog_19_method_36_code (1 : Nat) (Option.none : Option Jvm.ClassFile.FieldType)) ∈ lw_all := lw_g (lw_at lw_m10 11 rfl) rfl
theorem q2296 : (Jvm.Cond.methodLink "LotBeliefsModel" (262 : Nat) ({ cls := "LotBeliefsModel", name := "tongueOne", desc := "()V" } : Jvm.MethodName)) ∈ lw_all := lw_g (lw_at lw_m10 12 rfl) rfl
theorem q2297 : (Jvm.Cond.privateMethod ({ cls := "LotBeliefsModel", name := "tongueOne", desc := "()V" } : Jvm.MethodName)) ∈ lw_tbl := lw_at lw_m10 13 rfl
theorem q2298 : (Jvm.Cond.instanceMethod ({ cls := "LotBeliefsModel", name := "tongueOne", desc := "()V" } : Jvm.MethodName)) ∈ lw_all := lw_g (lw_at lw_m10 14 rfl) rfl
theorem q2299 : (Jvm.Cond.code ({ cls := "LotBeliefsModel", name := "tongueOne", desc := "()V" } : Jvm.MethodName) prog_19_method_37_code (2 : Nat) (Option.none : Option Jvm.ClassFile.FieldType)) ∈ lw_all := lw_g (lw_at lw_m10 15 rfl) rfl
theorem q2300 : (Jvm.Cond.methodLink "LotBeliefsModel" (259 : Nat) ({ cls := "LotBeliefsModel", name := "says", desc := "(II)V" } : Jvm.MethodName)) ∈ lw_all := lw_g (lw_at lw_m10 16 rfl) rfl
theorem q2301 : (Jvm.Cond.privateMethod ({ cls := "LotBeliefsModel", name := "says", desc := "(II)V" } : Jvm.MethodName)) ∈ lw_tbl := lw_at lw_m10 17 rfl
theorem q2302 : (Jvm.Cond.instanceMethod ({ cls := "LotBeliefsModel", name := "says", desc := "(II)V" } : Jvm.MethodName)) ∈ lw_all := lw_g (lw_at lw_m10 18 rfl) rfl
theorem q2303 : (Jvm.Cond.code ({ cls := "LotBeliefsModel", name := "says", desc := "(II)V" } : Jvm.MethodName) prog_19_method_34_code (3 : Nat) (Option.none : Option Jvm.ClassFile.FieldType)) ∈ lw_all := lw_g (lw_at lw_m10 19 rfl) rfl
theorem q2304 : (Jvm.Cond.methodLink "LotBeliefsModel" (268 : Nat) ({ cls := "LotBeliefsModel", name := "sum", desc := "()V" } : Jvm.MethodName)) ∈ lw_all := lw_g (lw_at lw_m10 20 rfl) rfl
theorem q2305 : (Jvm.Cond.privateMethod ({ cls := "LotBeliefsModel", name := "sum", desc := "()V" } : Jvm.MethodName)) ∈ lw_tbl := lw_at lw_m10 21 rfl
theorem q2306 : (Jvm.Cond.instanceMethod ({ cls := "LotBeliefsModel", name := "sum", desc := "()V" } : Jvm.MethodName)) ∈ lw_all := lw_g (lw_at lw_m10 22 rfl) rfl
theorem q2307 : (Jvm.Cond.code ({ cls := "LotBeliefsModel", name := "sum", desc := "()V" } : Jvm.MethodName) prog_19_method_38_code (2 : Nat) (Option.none : Option Jvm.ClassFile.FieldType)) ∈ lw_all := lw_g (lw_at lw_m10 23 rfl) rfl
theorem q2308 : (Jvm.Cond.methodLink "LotBeliefsModel" (274 : Nat) ({ cls := "LotBeliefsModel", name := "product", desc := "()V" } : Jvm.MethodName)) ∈ lw_all := lw_g (lw_at lw_m10 24 rfl) rfl
theorem q2309 : (Jvm.Cond.privateMethod ({ cls := "LotBeliefsModel", name := "product", desc := "()V" } : Jvm.MethodName)) ∈ lw_tbl := lw_at lw_m10 25 rfl
theorem q2310 : (Jvm.Cond.instanceMethod ({ cls := "LotBeliefsModel", name := "product", desc := "()V" } : Jvm.MethodName)) ∈ lw_all := lw_g (lw_at lw_m10 26 rfl) rfl
theorem q2311 : (Jvm.Cond.code ({ cls := "LotBeliefsModel", name := "product", desc := "()V" } : Jvm.MethodName) prog_19_method_39_code (1 : Nat) (Option.none : Option Jvm.ClassFile.FieldType)) ∈ lw_all := lw_g (lw_at lw_m10 27 rfl) rfl
theorem q2312 : (Jvm.Cond.methodLink "LotBeliefsModel" (277 : Nat) ({ cls := "LotBeliefsModel", name := "oneValue", desc := "()V" } : Jvm.MethodName)) ∈ lw_all := lw_g (lw_at lw_m10 28 rfl) rfl
theorem q2313 : (Jvm.Cond.privateMethod ({ cls := "LotBeliefsModel", name := "oneValue", desc := "()V" } : Jvm.MethodName)) ∈ lw_tbl := lw_at lw_m10 29 rfl
theorem q2314 : (Jvm.Cond.instanceMethod ({ cls := "LotBeliefsModel", name := "oneValue", desc := "()V" } : Jvm.MethodName)) ∈ lw_all := lw_g (lw_at lw_m10 30 rfl) rfl
theorem q2315 : (Jvm.Cond.code ({ cls := "LotBeliefsModel", name := "oneValue", desc := "()V" } : Jvm.MethodName) prog_19_method_41_code (2 : Nat) (Option.none : Option Jvm.ClassFile.FieldType)) ∈ lw_all := lw_g (lw_at lw_m10 31 rfl) rfl
theorem q2316 : (Jvm.Cond.methodLink "LotBeliefsModel" (280 : Nat) ({ cls := "LotBeliefsModel", name := "knownHere", desc := "()I" } : Jvm.MethodName)) ∈ lw_all := lw_g (lw_at lw_m10 32 rfl) rfl
theorem q2317 : (Jvm.Cond.privateMethod ({ cls := "LotBeliefsModel", name := "knownHere", desc := "()I" } : Jvm.MethodName)) ∈ lw_tbl := lw_at lw_m10 33 rfl
theorem q2318 : (Jvm.Cond.instanceMethod ({ cls := "LotBeliefsModel", name := "knownHere", desc := "()I" } : Jvm.MethodName)) ∈ lw_all := lw_g (lw_at lw_m10 34 rfl) rfl
theorem q2319 : (Jvm.Cond.code ({ cls := "LotBeliefsModel", name := "knownHere", desc := "()I" } : Jvm.MethodName) prog_19_method_40_code (1 : Nat) (Option.some Jvm.ClassFile.FieldType.int)) ∈ lw_all := lw_g (lw_at lw_m10 35 rfl) rfl
theorem q2320 : (Jvm.Cond.methodLink "LotBeliefsModel" (271 : Nat) ({ cls := "LotBeliefsModel", name := "takesSign", desc := "(I)Z" } : Jvm.MethodName)) ∈ lw_all := lw_g (lw_at lw_m10 36 rfl) rfl
theorem q2321 : (Jvm.Cond.privateMethod ({ cls := "LotBeliefsModel", name := "takesSign", desc := "(I)Z" } : Jvm.MethodName)) ∈ lw_tbl := lw_at lw_m10 37 rfl
theorem q2322 : (Jvm.Cond.instanceMethod ({ cls := "LotBeliefsModel", name := "takesSign", desc := "(I)Z" } : Jvm.MethodName)) ∈ lw_all := lw_g (lw_at lw_m10 38 rfl) rfl
theorem q2323 : (Jvm.Cond.code ({ cls := "LotBeliefsModel", name := "takesSign", desc := "(I)Z" } : Jvm.MethodName) prog_19_method_19_code (3 : Nat) (Option.some Jvm.ClassFile.FieldType.boolean)) ∈ lw_all := lw_g (lw_at lw_m10 39 rfl) rfl
theorem q2325 : (Jvm.Cond.instanceMethod ({ cls := "LotBeliefsModel", name := "fault", desc := "()I" } : Jvm.MethodName)) ∈ lw_all := lw_g (lw_at lw_m10 41 rfl) rfl
theorem q2326 : (Jvm.Cond.selects "LotBeliefsModel" ({ cls := "LotBeliefsModel", name := "fault", desc := "()I" } : Jvm.MethodName) ({ cls := "LotBeliefsModel", name := "fault", desc := "()I" } : Jvm.MethodName)) ∈ lw_all := lw_g (lw_at lw_m10 42 rfl) rfl
theorem q2327 : (Jvm.Cond.code ({ cls := "LotBeliefsModel", name := "fault", desc := "()I" } : Jvm.MethodName) prog_19_method_48_code (1 : Nat) (Option.some Jvm.ClassFile.FieldType.int)) ∈ lw_all := lw_g (lw_at lw_m10 43 rfl) rfl
theorem q2329 : (Jvm.Cond.instanceMethod ({ cls := "LotBeliefsModel", name := "told", desc := "(I)I" } : Jvm.MethodName)) ∈ lw_all := lw_g (lw_at lw_m10 45 rfl) rfl
theorem q2330 : (Jvm.Cond.selects "LotBeliefsModel" ({ cls := "LotBeliefsModel", name := "told", desc := "(I)I" } : Jvm.MethodName) ({ cls := "LotBeliefsModel", name := "told", desc := "(I)I" } : Jvm.MethodName)) ∈ lw_all := lw_g (lw_at lw_m10 46 rfl) rfl
theorem q2331 : (Jvm.Cond.code ({ cls := "LotBeliefsModel", name := "told", desc := "(I)I" } : Jvm.MethodName) prog_19_method_49_code (2 : Nat) (Option.some Jvm.ClassFile.FieldType.int)) ∈ lw_all := lw_g (lw_at lw_m10 47 rfl) rfl
theorem q2333 : (Jvm.Cond.instanceMethod ({ cls := "LotBeliefsModel", name := "models", desc := "(I)J" } : Jvm.MethodName)) ∈ lw_all := lw_g (lw_at lw_m10 49 rfl) rfl
theorem q2334 : (Jvm.Cond.selects "LotBeliefsModel" ({ cls := "LotBeliefsModel", name := "models", desc := "(I)J" } : Jvm.MethodName) ({ cls := "LotBeliefsModel", name := "models", desc := "(I)J" } : Jvm.MethodName)) ∈ lw_all := lw_g (lw_at lw_m10 50 rfl) rfl
theorem q2335 : (Jvm.Cond.code ({ cls := "LotBeliefsModel", name := "models", desc := "(I)J" } : Jvm.MethodName) prog_19_method_53_code (2 : Nat) (Option.some Jvm.ClassFile.FieldType.long)) ∈ lw_all := lw_g (lw_at lw_m10 51 rfl) rfl
theorem q2336 : (Jvm.Cond.methodLink "LotBeliefsModel" (303 : Nat) ({ cls := "LotBeliefsModel", name := "isSlip", desc := "(I)Z" } : Jvm.MethodName)) ∈ lw_all := lw_g (lw_at lw_m10 52 rfl) rfl
theorem q2337 : (Jvm.Cond.privateMethod ({ cls := "LotBeliefsModel", name := "isSlip", desc := "(I)Z" } : Jvm.MethodName)) ∈ lw_tbl := lw_at lw_m10 53 rfl
theorem q2338 : (Jvm.Cond.instanceMethod ({ cls := "LotBeliefsModel", name := "isSlip", desc := "(I)Z" } : Jvm.MethodName)) ∈ lw_all := lw_g (lw_at lw_m10 54 rfl) rfl
theorem q2339 : (Jvm.Cond.code ({ cls := "LotBeliefsModel", name := "isSlip", desc := "(I)Z" } : Jvm.MethodName) prog_19_method_50_code (2 : Nat) (Option.some Jvm.ClassFile.FieldType.boolean)) ∈ lw_all := lw_g (lw_at lw_m10 55 rfl) rfl
theorem q2341 : (Jvm.Cond.instanceMethod ({ cls := "LotBeliefsModel", name := "seen", desc := "(I)J" } : Jvm.MethodName)) ∈ lw_all := lw_g (lw_at lw_m10 57 rfl) rfl
theorem q2342 : (Jvm.Cond.selects "LotBeliefsModel" ({ cls := "LotBeliefsModel", name := "seen", desc := "(I)J" } : Jvm.MethodName) ({ cls := "LotBeliefsModel", name := "seen", desc := "(I)J" } : Jvm.MethodName)) ∈ lw_all := lw_g (lw_at lw_m10 58 rfl) rfl
theorem q2343 : (Jvm.Cond.code ({ cls := "LotBeliefsModel", name := "seen", desc := "(I)J" } : Jvm.MethodName) prog_19_method_54_code (2 : Nat) (Option.some Jvm.ClassFile.FieldType.long)) ∈ lw_all := lw_g (lw_at lw_m10 59 rfl) rfl
theorem q2345 : (Jvm.Cond.instanceMethod ({ cls := "LotBeliefsModel", name := "left", desc := "(I)J" } : Jvm.MethodName)) ∈ lw_all := lw_g (lw_at lw_m10 61 rfl) rfl
theorem q2346 : (Jvm.Cond.selects "LotBeliefsModel" ({ cls := "LotBeliefsModel", name := "left", desc := "(I)J" } : Jvm.MethodName) ({ cls := "LotBeliefsModel", name := "left", desc := "(I)J" } : Jvm.MethodName)) ∈ lw_all := lw_g (lw_at lw_m10 62 rfl) rfl
theorem q2347 : (Jvm.Cond.code ({ cls := "LotBeliefsModel", name := "left", desc := "(I)J" } : Jvm.MethodName) prog_19_method_55_code (2 : Nat) (Option.some Jvm.ClassFile.FieldType.long)) ∈ lw_all := lw_g (lw_at lw_m10 63 rfl) rfl
theorem q2348 : (Jvm.Cond.methodLink "LotBeliefsModel" (306 : Nat) ({ cls := "LotBeliefsModel", name := "isWeek", desc := "(I)Z" } : Jvm.MethodName)) ∈ lw_all := lw_g (lw_at lw_m10 64 rfl) rfl
theorem q2349 : (Jvm.Cond.static ({ cls := "LotBeliefsModel", name := "isWeek", desc := "(I)Z" } : Jvm.MethodName)) ∈ lw_all := lw_g (lw_at lw_m10 65 rfl) rfl
theorem q2350 : (Jvm.Cond.code ({ cls := "LotBeliefsModel", name := "isWeek", desc := "(I)Z" } : Jvm.MethodName) prog_19_method_51_code (1 : Nat) (Option.some Jvm.ClassFile.FieldType.boolean)) ∈ lw_all := lw_g (lw_at lw_m10 66 rfl) rfl
theorem q2352 : (Jvm.Cond.instanceMethod ({ cls := "LotBeliefsModel", name := "kin", desc := "(II)I" } : Jvm.MethodName)) ∈ lw_all := lw_g (lw_at lw_m10 68 rfl) rfl
theorem q2353 : (Jvm.Cond.selects "LotBeliefsModel" ({ cls := "LotBeliefsModel", name := "kin", desc := "(II)I" } : Jvm.MethodName) ({ cls := "LotBeliefsModel", name := "kin", desc := "(II)I" } : Jvm.MethodName)) ∈ lw_all := lw_g (lw_at lw_m10 69 rfl) rfl
theorem q2354 : (Jvm.Cond.code ({ cls := "LotBeliefsModel", name := "kin", desc := "(II)I" } : Jvm.MethodName) prog_19_method_56_code (5 : Nat) (Option.some Jvm.ClassFile.FieldType.int)) ∈ lw_all := lw_g (lw_at lw_m10 70 rfl) rfl
theorem q2356 : (Jvm.Cond.instanceMethod ({ cls := "LotBeliefsModel", name := "fallOut", desc := "(III)Z" } : Jvm.MethodName)) ∈ lw_all := lw_g (lw_at lw_m10 72 rfl) rfl
theorem q2357 : (Jvm.Cond.selects "LotBeliefsModel" ({ cls := "LotBeliefsModel", name := "fallOut", desc := "(III)Z" } : Jvm.MethodName) ({ cls := "LotBeliefsModel", name := "fallOut", desc := "(III)Z" } : Jvm.MethodName)) ∈ lw_all := lw_g (lw_at lw_m10 73 rfl) rfl
theorem q2358 : (Jvm.Cond.code ({ cls := "LotBeliefsModel", name := "fallOut", desc := "(III)Z" } : Jvm.MethodName) prog_19_method_58_code (4 : Nat) (Option.some Jvm.ClassFile.FieldType.boolean)) ∈ lw_all := lw_g (lw_at lw_m10 74 rfl) rfl
theorem q2359 : (Jvm.Cond.methodLink "LotBeliefsModel" (309 : Nat) ({ cls := "LotBeliefsModel", name := "falls", desc := "(III)Z" } : Jvm.MethodName)) ∈ lw_all := lw_g (lw_at lw_m10 75 rfl) rfl
theorem q2360 : (Jvm.Cond.privateMethod ({ cls := "LotBeliefsModel", name := "falls", desc := "(III)Z" } : Jvm.MethodName)) ∈ lw_tbl := lw_at lw_m10 76 rfl
theorem q2361 : (Jvm.Cond.instanceMethod ({ cls := "LotBeliefsModel", name := "falls", desc := "(III)Z" } : Jvm.MethodName)) ∈ lw_all := lw_g (lw_at lw_m10 77 rfl) rfl
theorem q2362 : (Jvm.Cond.code ({ cls := "LotBeliefsModel", name := "falls", desc := "(III)Z" } : Jvm.MethodName) prog_19_method_57_code (4 : Nat) (Option.some Jvm.ClassFile.FieldType.boolean)) ∈ lw_all := lw_g (lw_at lw_m10 78 rfl) rfl
theorem q2364 : (Jvm.Cond.instanceMethod ({ cls := "LotBeliefsModel", name := "truths", desc := "()I" } : Jvm.MethodName)) ∈ lw_all := lw_g (lw_at lw_m10 80 rfl) rfl
theorem q2365 : (Jvm.Cond.selects "LotBeliefsModel" ({ cls := "LotBeliefsModel", name := "truths", desc := "()I" } : Jvm.MethodName) ({ cls := "LotBeliefsModel", name := "truths", desc := "()I" } : Jvm.MethodName)) ∈ lw_all := lw_g (lw_at lw_m10 81 rfl) rfl
theorem q2366 : (Jvm.Cond.code ({ cls := "LotBeliefsModel", name := "truths", desc := "()I" } : Jvm.MethodName) prog_19_method_61_code (1 : Nat) (Option.some Jvm.ClassFile.FieldType.int)) ∈ lw_all := lw_g (lw_at lw_m10 82 rfl) rfl
theorem q2367 : (Jvm.Cond.methodLink "LotBeliefsModel" (315 : Nat) ({ cls := "LotBeliefsModel", name := "truthsNow", desc := "()I" } : Jvm.MethodName)) ∈ lw_all := lw_g (lw_at lw_m10 83 rfl) rfl
theorem q2368 : (Jvm.Cond.privateMethod ({ cls := "LotBeliefsModel", name := "truthsNow", desc := "()I" } : Jvm.MethodName)) ∈ lw_tbl := lw_at lw_m10 84 rfl
theorem q2369 : (Jvm.Cond.instanceMethod ({ cls := "LotBeliefsModel", name := "truthsNow", desc := "()I" } : Jvm.MethodName)) ∈ lw_all := lw_g (lw_at lw_m10 85 rfl) rfl
theorem q2370 : (Jvm.Cond.code ({ cls := "LotBeliefsModel", name := "truthsNow", desc := "()I" } : Jvm.MethodName) prog_19_method_60_code (3 : Nat) (Option.some Jvm.ClassFile.FieldType.int)) ∈ lw_all := lw_g (lw_at lw_m10 86 rfl) rfl
theorem q2371 : (Jvm.Cond.methodLink "LotBeliefsModel" (312 : Nat) ({ cls := "LotBeliefsModel", name := "isTrue", desc := "(I)Z" } : Jvm.MethodName)) ∈ lw_all := lw_g (lw_at lw_m10 87 rfl) rfl
theorem q2372 : (Jvm.Cond.privateMethod ({ cls := "LotBeliefsModel", name := "isTrue", desc := "(I)Z" } : Jvm.MethodName)) ∈ lw_tbl := lw_at lw_m10 88 rfl
theorem q2373 : (Jvm.Cond.instanceMethod ({ cls := "LotBeliefsModel", name := "isTrue", desc := "(I)Z" } : Jvm.MethodName)) ∈ lw_all := lw_g (lw_at lw_m10 89 rfl) rfl
theorem q2374 : (Jvm.Cond.code ({ cls := "LotBeliefsModel", name := "isTrue", desc := "(I)Z" } : Jvm.MethodName) prog_19_method_59_code (2 : Nat) (Option.some Jvm.ClassFile.FieldType.boolean)) ∈ lw_all := lw_g (lw_at lw_m10 90 rfl) rfl
theorem q2376 : (Jvm.Cond.instanceMethod ({ cls := "LotBeliefsModel", name := "dull", desc := "()I" } : Jvm.MethodName)) ∈ lw_all := lw_g (lw_at lw_m10 92 rfl) rfl
theorem q2377 : (Jvm.Cond.selects "LotBeliefsModel" ({ cls := "LotBeliefsModel", name := "dull", desc := "()I" } : Jvm.MethodName) ({ cls := "LotBeliefsModel", name := "dull", desc := "()I" } : Jvm.MethodName)) ∈ lw_all := lw_g (lw_at lw_m10 93 rfl) rfl
theorem q2378 : (Jvm.Cond.code ({ cls := "LotBeliefsModel", name := "dull", desc := "()I" } : Jvm.MethodName) prog_19_method_62_code (3 : Nat) (Option.some Jvm.ClassFile.FieldType.int)) ∈ lw_all := lw_g (lw_at lw_m10 94 rfl) rfl
theorem q2380 : (Jvm.Cond.instanceMethod ({ cls := "LotBeliefsModel", name := "order", desc := "(J)I" } : Jvm.MethodName)) ∈ lw_all := lw_g (lw_at lw_m10 96 rfl) rfl
theorem q2381 : (Jvm.Cond.selects "LotBeliefsModel" ({ cls := "LotBeliefsModel", name := "order", desc := "(J)I" } : Jvm.MethodName) ({ cls := "LotBeliefsModel", name := "order", desc := "(J)I" } : Jvm.MethodName)) ∈ lw_all := lw_g (lw_at lw_m10 97 rfl) rfl
theorem q2382 : (Jvm.Cond.code ({ cls := "LotBeliefsModel", name := "order", desc := "(J)I" } : Jvm.MethodName) prog_19_method_63_code (7 : Nat) (Option.some Jvm.ClassFile.FieldType.int)) ∈ lw_all := lw_g (lw_at lw_m10 98 rfl) rfl
theorem q2383 : (Jvm.Cond.constantLong "LotBeliefsModel" (318 : Nat) (15 : Int64)) ∈ lw_all := lw_g (lw_at lw_m10 99 rfl) rfl
theorem q2385 : (Jvm.Cond.instanceMethod ({ cls := "LotBeliefsModel", name := "at", desc := "(I)I" } : Jvm.MethodName)) ∈ lw_all := lw_g (lw_at lw_m10 101 rfl) rfl
theorem q2386 : (Jvm.Cond.selects "LotBeliefsModel" ({ cls := "LotBeliefsModel", name := "at", desc := "(I)I" } : Jvm.MethodName) ({ cls := "LotBeliefsModel", name := "at", desc := "(I)I" } : Jvm.MethodName)) ∈ lw_all := lw_g (lw_at lw_m10 102 rfl) rfl
theorem q2387 : (Jvm.Cond.code ({ cls := "LotBeliefsModel", name := "at", desc := "(I)I" } : Jvm.MethodName) prog_19_method_64_code (2 : Nat) (Option.some Jvm.ClassFile.FieldType.int)) ∈ lw_all := lw_g (lw_at lw_m10 103 rfl) rfl
theorem q2389 : (Jvm.Cond.instanceMethod ({ cls := "LotBeliefsModel", name := "law", desc := "(I)I" } : Jvm.MethodName)) ∈ lw_all := lw_g (lw_at lw_m10 105 rfl) rfl
theorem q2390 : (Jvm.Cond.selects "LotBeliefsModel" ({ cls := "LotBeliefsModel", name := "law", desc := "(I)I" } : Jvm.MethodName) ({ cls := "LotBeliefsModel", name := "law", desc := "(I)I" } : Jvm.MethodName)) ∈ lw_all := lw_g (lw_at lw_m10 106 rfl) rfl
theorem q2391 : (Jvm.Cond.code ({ cls := "LotBeliefsModel", name := "law", desc := "(I)I" } : Jvm.MethodName) prog_19_method_65_code (3 : Nat) (Option.some Jvm.ClassFile.FieldType.int)) ∈ lw_all := lw_g (lw_at lw_m10 107 rfl) rfl
theorem q2393 : (Jvm.Cond.instanceMethod ({ cls := "LotBeliefsModel", name := "world", desc := "(I)I" } : Jvm.MethodName)) ∈ lw_all := lw_g (lw_at lw_m10 109 rfl) rfl
theorem q2394 : (Jvm.Cond.selects "LotBeliefsModel" ({ cls := "LotBeliefsModel", name := "world", desc := "(I)I" } : Jvm.MethodName) ({ cls := "LotBeliefsModel", name := "world", desc := "(I)I" } : Jvm.MethodName)) ∈ lw_all := lw_g (lw_at lw_m10 110 rfl) rfl
theorem q2395 : (Jvm.Cond.code ({ cls := "LotBeliefsModel", name := "world", desc := "(I)I" } : Jvm.MethodName) prog_19_method_66_code (3 : Nat) (Option.some Jvm.ClassFile.FieldType.int)) ∈ lw_all := lw_g (lw_at lw_m10 111 rfl) rfl
theorem q2397 : (Jvm.Cond.instanceMethod ({ cls := "LotBeliefsModel", name := "held", desc := "(I)I" } : Jvm.MethodName)) ∈ lw_all := lw_g (lw_at lw_m10 113 rfl) rfl
theorem q2398 : (Jvm.Cond.selects "LotBeliefsModel" ({ cls := "LotBeliefsModel", name := "held", desc := "(I)I" } : Jvm.MethodName) ({ cls := "LotBeliefsModel", name := "held", desc := "(I)I" } : Jvm.MethodName)) ∈ lw_all := lw_g (lw_at lw_m10 114 rfl) rfl
theorem q2399 : (Jvm.Cond.code ({ cls := "LotBeliefsModel", name := "held", desc := "(I)I" } : Jvm.MethodName) prog_19_method_79_code (2 : Nat) (Option.some Jvm.ClassFile.FieldType.int)) ∈ lw_all := lw_g (lw_at lw_m10 115 rfl) rfl
theorem q2400 : (Jvm.Cond.methodLink "LotBeliefsModel" (375 : Nat) ({ cls := "LotBeliefsModel", name := "goesNow", desc := "()I" } : Jvm.MethodName)) ∈ lw_all := lw_g (lw_at lw_m10 116 rfl) rfl
theorem q2401 : (Jvm.Cond.privateMethod ({ cls := "LotBeliefsModel", name := "goesNow", desc := "()I" } : Jvm.MethodName)) ∈ lw_tbl := lw_at lw_m10 117 rfl
theorem q2402 : (Jvm.Cond.instanceMethod ({ cls := "LotBeliefsModel", name := "goesNow", desc := "()I" } : Jvm.MethodName)) ∈ lw_all := lw_g (lw_at lw_m10 118 rfl) rfl
theorem q2403 : (Jvm.Cond.code ({ cls := "LotBeliefsModel", name := "goesNow", desc := "()I" } : Jvm.MethodName) prog_19_method_78_code (1 : Nat) (Option.some Jvm.ClassFile.FieldType.int)) ∈ lw_all := lw_g (lw_at lw_m10 119 rfl) rfl
theorem q2404 : (Jvm.Cond.methodLink "LotBeliefsModel" (369 : Nat) ({ cls := "LotBeliefsModel", name := "rowAsOrder", desc := "()V" } : Jvm.MethodName)) ∈ lw_all := lw_g (lw_at lw_m10 120 rfl) rfl
theorem q2405 : (Jvm.Cond.privateMethod ({ cls := "LotBeliefsModel", name := "rowAsOrder", desc := "()V" } : Jvm.MethodName)) ∈ lw_tbl := lw_at lw_m10 121 rfl
theorem q2406 : (Jvm.Cond.instanceMethod ({ cls := "LotBeliefsModel", name := "rowAsOrder", desc := "()V" } : Jvm.MethodName)) ∈ lw_all := lw_g (lw_at lw_m10 122 rfl) rfl
theorem q2407 : (Jvm.Cond.code ({ cls := "LotBeliefsModel", name := "rowAsOrder", desc := "()V" } : Jvm.MethodName) prog_19_method_77_code (2 : Nat) (Option.none : Option Jvm.ClassFile.FieldType)) ∈ lw_all := lw_g (lw_at lw_m10 123 rfl) rfl
theorem q2408 : (Jvm.Cond.methodLink "LotBeliefsModel" (372 : Nat) ({ cls := "LotBeliefsModel", name := "goes", desc := "(I)I" } : Jvm.MethodName)) ∈ lw_all := lw_g (lw_at lw_m10 124 rfl) rfl
theorem q2409 : (Jvm.Cond.privateMethod ({ cls := "LotBeliefsModel", name := "goes", desc := "(I)I" } : Jvm.MethodName)) ∈ lw_tbl := lw_at lw_m10 125 rfl
theorem q2410 : (Jvm.Cond.instanceMethod ({ cls := "LotBeliefsModel", name := "goes", desc := "(I)I" } : Jvm.MethodName)) ∈ lw_all := lw_g (lw_at lw_m10 126 rfl) rfl
theorem q2411 : (Jvm.Cond.code ({ cls := "LotBeliefsModel", name := "goes", desc := "(I)I" } : Jvm.MethodName) prog_19_method_76_code (3 : Nat) (Option.some Jvm.ClassFile.FieldType.int)) ∈ lw_all := lw_g (lw_at lw_m10 127 rfl) rfl
theorem q2412 : (Jvm.Cond.methodLink "LotBeliefsModel" (351 : Nat) ({ cls := "LotBeliefsModel", name := "begins", desc := "(I)V" } : Jvm.MethodName)) ∈ lw_all := lw_g (lw_at lw_m10 128 rfl) rfl
theorem q2413 : (Jvm.Cond.privateMethod ({ cls := "LotBeliefsModel", name := "begins", desc := "(I)V" } : Jvm.MethodName)) ∈ lw_tbl := lw_at lw_m10 129 rfl
theorem q2414 : (Jvm.Cond.instanceMethod ({ cls := "LotBeliefsModel", name := "begins", desc := "(I)V" } : Jvm.MethodName)) ∈ lw_all := lw_g (lw_at lw_m10 130 rfl) rfl
theorem q2415 : (Jvm.Cond.code ({ cls := "LotBeliefsModel", name := "begins", desc := "(I)V" } : Jvm.MethodName) prog_19_method_67_code (3 : Nat) (Option.none : Option Jvm.ClassFile.FieldType)) ∈ lw_all := lw_g (lw_at lw_m10 131 rfl) rfl
theorem q2416 : (Jvm.Cond.methodLink "LotBeliefsModel" (354 : Nat) ({ cls := "LotBeliefsModel", name := "kills", desc := "(I)V" } : Jvm.MethodName)) ∈ lw_all := lw_g (lw_at lw_m10 132 rfl) rfl
theorem q2417 : (Jvm.Cond.privateMethod ({ cls := "LotBeliefsModel", name := "kills", desc := "(I)V" } : Jvm.MethodName)) ∈ lw_tbl := lw_at lw_m10 133 rfl
theorem q2418 : (Jvm.Cond.instanceMethod ({ cls := "LotBeliefsModel", name := "kills", desc := "(I)V" } : Jvm.MethodName)) ∈ lw_all := lw_g (lw_at lw_m10 134 rfl) rfl
theorem q2419 : (Jvm.Cond.code ({ cls := "LotBeliefsModel", name := "kills", desc := "(I)V" } : Jvm.MethodName) prog_19_method_70_code (4 : Nat) (Option.none : Option Jvm.ClassFile.FieldType)) ∈ lw_all := lw_g (lw_at lw_m10 135 rfl) rfl
theorem q2420 : (Jvm.Cond.methodLink "LotBeliefsModel" (335 : Nat) ({ cls := "LotBeliefsModel", name := "isDead", desc := "(II)Z" } : Jvm.MethodName)) ∈ lw_all := lw_g (lw_at lw_m10 136 rfl) rfl
theorem q2421 : (Jvm.Cond.privateMethod ({ cls := "LotBeliefsModel", name := "isDead", desc := "(II)Z" } : Jvm.MethodName)) ∈ lw_tbl := lw_at lw_m10 137 rfl
theorem q2422 : (Jvm.Cond.instanceMethod ({ cls := "LotBeliefsModel", name := "isDead", desc := "(II)Z" } : Jvm.MethodName)) ∈ lw_all := lw_g (lw_at lw_m10 138 rfl) rfl
theorem q2423 : (Jvm.Cond.code ({ cls := "LotBeliefsModel", name := "isDead", desc := "(II)Z" } : Jvm.MethodName) prog_19_method_68_code (3 : Nat) (Option.some Jvm.ClassFile.FieldType.boolean)) ∈ lw_all := lw_g (lw_at lw_m10 139 rfl) rfl
theorem q2424 : (Jvm.Cond.methodLink "LotBeliefsModel" (338 : Nat) ({ cls := "LotBeliefsModel", name := "leaves", desc := "(I)V" } : Jvm.MethodName)) ∈ lw_all := lw_g (lw_at lw_m10 140 rfl) rfl
theorem q2425 : (Jvm.Cond.privateMethod ({ cls := "LotBeliefsModel", name := "leaves", desc := "(I)V" } : Jvm.MethodName)) ∈ lw_tbl := lw_at lw_m10 141 rfl
theorem q2426 : (Jvm.Cond.instanceMethod ({ cls := "LotBeliefsModel", name := "leaves", desc := "(I)V" } : Jvm.MethodName)) ∈ lw_all := lw_g (lw_at lw_m10 142 rfl) rfl
theorem q2427 : (Jvm.Cond.code ({ cls := "LotBeliefsModel", name := "leaves", desc := "(I)V" } : Jvm.MethodName) prog_19_method_69_code (3 : Nat) (Option.none : Option Jvm.ClassFile.FieldType)) ∈ lw_all := lw_g (lw_at lw_m10 143 rfl) rfl
theorem q2428 : (Jvm.Cond.methodLink "LotBeliefsModel" (360 : Nat) ({ cls := "LotBeliefsModel", name := "draws", desc := "(II)V" } : Jvm.MethodName)) ∈ lw_all := lw_g (lw_at lw_m10 144 rfl) rfl
theorem q2429 : (Jvm.Cond.privateMethod ({ cls := "LotBeliefsModel", name := "draws", desc := "(II)V" } : Jvm.MethodName)) ∈ lw_tbl := lw_at lw_m10 145 rfl
theorem q2430 : (Jvm.Cond.instanceMethod ({ cls := "LotBeliefsModel", name := "draws", desc := "(II)V" } : Jvm.MethodName)) ∈ lw_all := lw_g (lw_at lw_m10 146 rfl) rfl
theorem q2431 : (Jvm.Cond.code ({ cls := "LotBeliefsModel", name := "draws", desc := "(II)V" } : Jvm.MethodName) prog_19_method_73_code (6 : Nat) (Option.none : Option Jvm.ClassFile.FieldType)) ∈ lw_all := lw_g (lw_at lw_m10 147 rfl) rfl
theorem q2432 : (Jvm.Cond.methodLink "LotBeliefsModel" (344 : Nat) ({ cls := "LotBeliefsModel", name := "whoFalls", desc := "(III)I" } : Jvm.MethodName)) ∈ lw_all := lw_g (lw_at lw_m10 148 rfl) rfl
theorem q2433 : (Jvm.Cond.privateMethod ({ cls := "LotBeliefsModel", name := "whoFalls", desc := "(III)I" } : Jvm.MethodName)) ∈ lw_tbl := lw_at lw_m10 149 rfl
theorem q2434 : (Jvm.Cond.instanceMethod ({ cls := "LotBeliefsModel", name := "whoFalls", desc := "(III)I" } : Jvm.MethodName)) ∈ lw_all := lw_g (lw_at lw_m10 150 rfl) rfl
theorem q2435 : (Jvm.Cond.code ({ cls := "LotBeliefsModel", name := "whoFalls", desc := "(III)I" } : Jvm.MethodName) prog_19_method_71_code (4 : Nat) (Option.some Jvm.ClassFile.FieldType.int)) ∈ lw_all := lw_g (lw_at lw_m10 151 rfl) rfl
theorem q2436 : (Jvm.Cond.methodLink "LotBeliefsModel" (341 : Nat) ({ cls := "LotBeliefsModel", name := "byTongue", desc := "(IIIIII)I" } : Jvm.MethodName)) ∈ lw_all := lw_g (lw_at lw_m10 152 rfl) rfl
theorem q2437 : (Jvm.Cond.privateMethod ({ cls := "LotBeliefsModel", name := "byTongue", desc := "(IIIIII)I" } : Jvm.MethodName)) ∈ lw_tbl := lw_at lw_m10 153 rfl
theorem q2438 : (Jvm.Cond.instanceMethod ({ cls := "LotBeliefsModel", name := "byTongue", desc := "(IIIIII)I" } : Jvm.MethodName)) ∈ lw_all := lw_g (lw_at lw_m10 154 rfl) rfl
theorem q2439 : (Jvm.Cond.code ({ cls := "LotBeliefsModel", name := "byTongue", desc := "(IIIIII)I" } : Jvm.MethodName) prog_19_method_47_code (8 : Nat) (Option.some Jvm.ClassFile.FieldType.int)) ∈ lw_all := lw_g (lw_at lw_m10 155 rfl) rfl
theorem q2440 : (Jvm.Cond.methodLink "LotBeliefsModel" (299 : Nat) ({ cls := "LotBeliefsModel", name := "isSo", desc := "(II)Z" } : Jvm.MethodName)) ∈ lw_all := lw_g (lw_at lw_m10 156 rfl) rfl
theorem q2441 : (Jvm.Cond.privateMethod ({ cls := "LotBeliefsModel", name := "isSo", desc := "(II)Z" } : Jvm.MethodName)) ∈ lw_tbl := lw_at lw_m10 157 rfl
theorem q2442 : (Jvm.Cond.instanceMethod ({ cls := "LotBeliefsModel", name := "isSo", desc := "(II)Z" } : Jvm.MethodName)) ∈ lw_all := lw_g (lw_at lw_m10 158 rfl) rfl
theorem q2443 : (Jvm.Cond.code ({ cls := "LotBeliefsModel", name := "isSo", desc := "(II)Z" } : Jvm.MethodName) prog_19_method_46_code (6 : Nat) (Option.some Jvm.ClassFile.FieldType.boolean)) ∈ lw_all := lw_g (lw_at lw_m10 159 rfl) rfl
theorem q2444 : (Jvm.Cond.methodLink "LotBeliefsModel" (292 : Nat) ({ cls := "LotBeliefsModel", name := "valueOf", desc := "(I)I" } : Jvm.MethodName)) ∈ lw_all := lw_g (lw_at lw_m10 160 rfl) rfl
theorem q2445 : (Jvm.Cond.privateMethod ({ cls := "LotBeliefsModel", name := "valueOf", desc := "(I)I" } : Jvm.MethodName)) ∈ lw_tbl := lw_at lw_m10 161 rfl
theorem q2446 : (Jvm.Cond.instanceMethod ({ cls := "LotBeliefsModel", name := "valueOf", desc := "(I)I" } : Jvm.MethodName)) ∈ lw_all := lw_g (lw_at lw_m10 162 rfl) rfl
theorem q2447 : (Jvm.Cond.code ({ cls := "LotBeliefsModel", name := "valueOf", desc := "(I)I" } : Jvm.MethodName) prog_19_method_44_code (2 : Nat) (Option.some Jvm.ClassFile.FieldType.int)) ∈ lw_all := lw_g (lw_at lw_m10 163 rfl) rfl
theorem q2448 : (Jvm.Cond.methodLink "LotBeliefsModel" (295 : Nat) ({ cls := "LotBeliefsModel", name := "by", desc := "(III)I" } : Jvm.MethodName)) ∈ lw_all := lw_g (lw_at lw_m10 164 rfl) rfl
theorem q2449 : (Jvm.Cond.static ({ cls := "LotBeliefsModel", name := "by", desc := "(III)I" } : Jvm.MethodName)) ∈ lw_all := lw_g (lw_at lw_m10 165 rfl) rfl
theorem q2450 : (Jvm.Cond.code ({ cls := "LotBeliefsModel", name := "by", desc := "(III)I" } : Jvm.MethodName) prog_19_method_45_code (3 : Nat) (Option.some Jvm.ClassFile.FieldType.int)) ∈ lw_all := lw_g (lw_at lw_m10 166 rfl) rfl
theorem q2451 : (Jvm.Cond.methodLink "LotBeliefsModel" (347 : Nat) ({ cls := "LotBeliefsModel", name := "drops", desc := "(III)V" } : Jvm.MethodName)) ∈ lw_all := lw_g (lw_at lw_m10 167 rfl) rfl
theorem q2452 : (Jvm.Cond.privateMethod ({ cls := "LotBeliefsModel", name := "drops", desc := "(III)V" } : Jvm.MethodName)) ∈ lw_tbl := lw_at lw_m10 168 rfl
theorem q2453 : (Jvm.Cond.instanceMethod ({ cls := "LotBeliefsModel", name := "drops", desc := "(III)V" } : Jvm.MethodName)) ∈ lw_all := lw_g (lw_at lw_m10 169 rfl) rfl
theorem q2454 : (Jvm.Cond.code ({ cls := "LotBeliefsModel", name := "drops", desc := "(III)V" } : Jvm.MethodName) prog_19_method_72_code (4 : Nat) (Option.none : Option Jvm.ClassFile.FieldType)) ∈ lw_all := lw_g (lw_at lw_m10 170 rfl) rfl
theorem q2455 : (Jvm.Cond.methodLink "LotBeliefsModel" (363 : Nat) ({ cls := "LotBeliefsModel", name := "ages", desc := "()V" } : Jvm.MethodName)) ∈ lw_all := lw_g (lw_at lw_m10 171 rfl) rfl
theorem q2456 : (Jvm.Cond.privateMethod ({ cls := "LotBeliefsModel", name := "ages", desc := "()V" } : Jvm.MethodName)) ∈ lw_tbl := lw_at lw_m10 172 rfl
theorem q2457 : (Jvm.Cond.instanceMethod ({ cls := "LotBeliefsModel", name := "ages", desc := "()V" } : Jvm.MethodName)) ∈ lw_all := lw_g (lw_at lw_m10 173 rfl) rfl
theorem q2458 : (Jvm.Cond.code ({ cls := "LotBeliefsModel", name := "ages", desc := "()V" } : Jvm.MethodName) prog_19_method_74_code (3 : Nat) (Option.none : Option Jvm.ClassFile.FieldType)) ∈ lw_all := lw_g (lw_at lw_m10 174 rfl) rfl
theorem q2459 : (Jvm.Cond.methodLink "LotBeliefsModel" (366 : Nat) ({ cls := "LotBeliefsModel", name := "heldNow", desc := "()I" } : Jvm.MethodName)) ∈ lw_all := lw_g (lw_at lw_m10 175 rfl) rfl
theorem q2460 : (Jvm.Cond.privateMethod ({ cls := "LotBeliefsModel", name := "heldNow", desc := "()I" } : Jvm.MethodName)) ∈ lw_tbl := lw_at lw_m10 176 rfl
theorem q2461 : (Jvm.Cond.instanceMethod ({ cls := "LotBeliefsModel", name := "heldNow", desc := "()I" } : Jvm.MethodName)) ∈ lw_all := lw_g (lw_at lw_m10 177 rfl) rfl
theorem q2462 : (Jvm.Cond.code ({ cls := "LotBeliefsModel", name := "heldNow", desc := "()I" } : Jvm.MethodName) prog_19_method_75_code (3 : Nat) (Option.some Jvm.ClassFile.FieldType.int)) ∈ lw_all := lw_g (lw_at lw_m10 178 rfl) rfl
theorem q2464 : (Jvm.Cond.instanceMethod ({ cls := "LotBeliefsModel", name := "eldest", desc := "(I)I" } : Jvm.MethodName)) ∈ lw_all := lw_g (lw_at lw_m10 180 rfl) rfl
theorem q2465 : (Jvm.Cond.selects "LotBeliefsModel" ({ cls := "LotBeliefsModel", name := "eldest", desc := "(I)I" } : Jvm.MethodName) ({ cls := "LotBeliefsModel", name := "eldest", desc := "(I)I" } : Jvm.MethodName)) ∈ lw_all := lw_g (lw_at lw_m10 181 rfl) rfl
theorem q2466 : (Jvm.Cond.code ({ cls := "LotBeliefsModel", name := "eldest", desc := "(I)I" } : Jvm.MethodName) prog_19_method_80_code (2 : Nat) (Option.some Jvm.ClassFile.FieldType.int)) ∈ lw_all := lw_g (lw_at lw_m10 182 rfl) rfl
theorem q2468 : (Jvm.Cond.instanceMethod ({ cls := "LotBeliefsModel", name := "fate", desc := "(II)I" } : Jvm.MethodName)) ∈ lw_all := lw_g (lw_at lw_m10 184 rfl) rfl
theorem q2469 : (Jvm.Cond.selects "LotBeliefsModel" ({ cls := "LotBeliefsModel", name := "fate", desc := "(II)I" } : Jvm.MethodName) ({ cls := "LotBeliefsModel", name := "fate", desc := "(II)I" } : Jvm.MethodName)) ∈ lw_all := lw_g (lw_at lw_m10 185 rfl) rfl
theorem q2470 : (Jvm.Cond.code ({ cls := "LotBeliefsModel", name := "fate", desc := "(II)I" } : Jvm.MethodName) prog_19_method_81_code (3 : Nat) (Option.some Jvm.ClassFile.FieldType.int)) ∈ lw_all := lw_g (lw_at lw_m10 186 rfl) rfl
theorem q2472 : (Jvm.Cond.instanceMethod ({ cls := "LotBeliefsModel", name := "year", desc := "(I)I" } : Jvm.MethodName)) ∈ lw_all := lw_g (lw_at lw_m10 188 rfl) rfl
theorem q2473 : (Jvm.Cond.selects "LotBeliefsModel" ({ cls := "LotBeliefsModel", name := "year", desc := "(I)I" } : Jvm.MethodName) ({ cls := "LotBeliefsModel", name := "year", desc := "(I)I" } : Jvm.MethodName)) ∈ lw_all := lw_g (lw_at lw_m10 189 rfl) rfl
theorem q2474 : (Jvm.Cond.code ({ cls := "LotBeliefsModel", name := "year", desc := "(I)I" } : Jvm.MethodName) prog_19_method_83_code (3 : Nat) (Option.some Jvm.ClassFile.FieldType.int)) ∈ lw_all := lw_g (lw_at lw_m10 190 rfl) rfl
theorem q2475 : (Jvm.Cond.methodLink "LotBeliefsModel" (378 : Nat) ({ cls := "LotBeliefsModel", name := "togetherIn", desc := "(II)J" } : Jvm.MethodName)) ∈ lw_all := lw_g (lw_at lw_m10 191 rfl) rfl
theorem q2476 : (Jvm.Cond.privateMethod ({ cls := "LotBeliefsModel", name := "togetherIn", desc := "(II)J" } : Jvm.MethodName)) ∈ lw_tbl := lw_at lw_m10 192 rfl
theorem q2477 : (Jvm.Cond.instanceMethod ({ cls := "LotBeliefsModel", name := "togetherIn", desc := "(II)J" } : Jvm.MethodName)) ∈ lw_all := lw_g (lw_at lw_m10 193 rfl) rfl
theorem q2478 : (Jvm.Cond.code ({ cls := "LotBeliefsModel", name := "togetherIn", desc := "(II)J" } : Jvm.MethodName) prog_19_method_82_code (6 : Nat) (Option.some Jvm.ClassFile.FieldType.long)) ∈ lw_all := lw_g (lw_at lw_m10 194 rfl) rfl
theorem q2480 : (Jvm.Cond.instanceMethod ({ cls := "LotBeliefsModel", name := "touchy", desc := "()I" } : Jvm.MethodName)) ∈ lw_all := lw_g (lw_at lw_m10 196 rfl) rfl
theorem q2481 : (Jvm.Cond.selects "LotBeliefsModel" ({ cls := "LotBeliefsModel", name := "touchy", desc := "()I" } : Jvm.MethodName) ({ cls := "LotBeliefsModel", name := "touchy", desc := "()I" } : Jvm.MethodName)) ∈ lw_all := lw_g (lw_at lw_m10 197 rfl) rfl
theorem q2482 : (Jvm.Cond.code ({ cls := "LotBeliefsModel", name := "touchy", desc := "()I" } : Jvm.MethodName) prog_19_method_85_code (4 : Nat) (Option.some Jvm.ClassFile.FieldType.int)) ∈ lw_all := lw_g (lw_at lw_m10 198 rfl) rfl
theorem q2483 : (Jvm.Cond.methodLink "LotBeliefsModel" (381 : Nat) ({ cls := "LotBeliefsModel", name := "changes", desc := "(II)V" } : Jvm.MethodName)) ∈ lw_all := lw_g (lw_at lw_m10 199 rfl) rfl
theorem q2484 : (Jvm.Cond.privateMethod ({ cls := "LotBeliefsModel", name := "changes", desc := "(II)V" } : Jvm.MethodName)) ∈ lw_tbl := lw_at lw_m10 200 rfl
theorem q2485 : (Jvm.Cond.instanceMethod ({ cls := "LotBeliefsModel", name := "changes", desc := "(II)V" } : Jvm.MethodName)) ∈ lw_all := lw_g (lw_at lw_m10 201 rfl) rfl
theorem q2486 : (Jvm.Cond.code ({ cls := "LotBeliefsModel", name := "changes", desc := "(II)V" } : Jvm.MethodName) prog_19_method_84_code (4 : Nat) (Option.none : Option Jvm.ClassFile.FieldType)) ∈ lw_all := lw_g (lw_at lw_m10 202 rfl) rfl
theorem q2488 : (Jvm.Cond.instanceMethod ({ cls := "LotBeliefsModel", name := "swap", desc := "()I" } : Jvm.MethodName)) ∈ lw_all := lw_g (lw_at lw_m10 204 rfl) rfl
theorem q2489 : (Jvm.Cond.selects "LotBeliefsModel" ({ cls := "LotBeliefsModel", name := "swap", desc := "()I" } : Jvm.MethodName) ({ cls := "LotBeliefsModel", name := "swap", desc := "()I" } : Jvm.MethodName)) ∈ lw_all := lw_g (lw_at lw_m10 205 rfl) rfl
theorem q2490 : (Jvm.Cond.code ({ cls := "LotBeliefsModel", name := "swap", desc := "()I" } : Jvm.MethodName) prog_19_method_86_code (6 : Nat) (Option.some Jvm.ClassFile.FieldType.int)) ∈ lw_all := lw_g (lw_at lw_m10 206 rfl) rfl
theorem q2492 : (Jvm.Cond.instanceMethod ({ cls := "LotBeliefsModel", name := "humble", desc := "()I" } : Jvm.MethodName)) ∈ lw_all := lw_g (lw_at lw_m10 208 rfl) rfl
theorem q2493 : (Jvm.Cond.selects "LotBeliefsModel" ({ cls := "LotBeliefsModel", name := "humble", desc := "()I" } : Jvm.MethodName) ({ cls := "LotBeliefsModel", name := "humble", desc := "()I" } : Jvm.MethodName)) ∈ lw_all := lw_g (lw_at lw_m10 209 rfl) rfl
theorem q2494 : (Jvm.Cond.code ({ cls := "LotBeliefsModel", name := "humble", desc := "()I" } : Jvm.MethodName) prog_19_method_87_code (4 : Nat) (Option.some Jvm.ClassFile.FieldType.int)) ∈ lw_all := lw_g (lw_at lw_m10 210 rfl) rfl
theorem q2496 : (Jvm.Cond.instanceMethod ({ cls := "LotBeliefsModel", name := "killer", desc := "(I)I" } : Jvm.MethodName)) ∈ lw_all := lw_g (lw_at lw_m10 212 rfl) rfl
theorem q2497 : (Jvm.Cond.selects "LotBeliefsModel" ({ cls := "LotBeliefsModel", name := "killer", desc := "(I)I" } : Jvm.MethodName) ({ cls := "LotBeliefsModel", name := "killer", desc := "(I)I" } : Jvm.MethodName)) ∈ lw_all := lw_g (lw_at lw_m10 213 rfl) rfl
theorem q2498 : (Jvm.Cond.code ({ cls := "LotBeliefsModel", name := "killer", desc := "(I)I" } : Jvm.MethodName) prog_19_method_88_code (5 : Nat) (Option.some Jvm.ClassFile.FieldType.int)) ∈ lw_all := lw_g (lw_at lw_m10 214 rfl) rfl
theorem q2500 : (Jvm.Cond.instanceMethod ({ cls := "LotBeliefsModel", name := "grave", desc := "(I)I" } : Jvm.MethodName)) ∈ lw_all := lw_g (lw_at lw_m10 216 rfl) rfl
theorem q2501 : (Jvm.Cond.selects "LotBeliefsModel" ({ cls := "LotBeliefsModel", name := "grave", desc := "(I)I" } : Jvm.MethodName) ({ cls := "LotBeliefsModel", name := "grave", desc := "(I)I" } : Jvm.MethodName)) ∈ lw_all := lw_g (lw_at lw_m10 217 rfl) rfl
theorem q2502 : (Jvm.Cond.code ({ cls := "LotBeliefsModel", name := "grave", desc := "(I)I" } : Jvm.MethodName) prog_19_method_89_code (5 : Nat) (Option.some Jvm.ClassFile.FieldType.int)) ∈ lw_all := lw_g (lw_at lw_m10 218 rfl) rfl
theorem q2504 : (Jvm.Cond.instanceMethod ({ cls := "LotBeliefsModel", name := "canon", desc := "(I)I" } : Jvm.MethodName)) ∈ lw_all := lw_g (lw_at lw_m10 220 rfl) rfl
theorem q2505 : (Jvm.Cond.selects "LotBeliefsModel" ({ cls := "LotBeliefsModel", name := "canon", desc := "(I)I" } : Jvm.MethodName) ({ cls := "LotBeliefsModel", name := "canon", desc := "(I)I" } : Jvm.MethodName)) ∈ lw_all := lw_g (lw_at lw_m10 221 rfl) rfl
theorem q2506 : (Jvm.Cond.code ({ cls := "LotBeliefsModel", name := "canon", desc := "(I)I" } : Jvm.MethodName) prog_19_method_90_code (5 : Nat) (Option.some Jvm.ClassFile.FieldType.int)) ∈ lw_all := lw_g (lw_at lw_m10 222 rfl) rfl
theorem q2508 : (Jvm.Cond.instanceMethod ({ cls := "LotBeliefsModel", name := "ends", desc := "(I)I" } : Jvm.MethodName)) ∈ lw_all := lw_g (lw_at lw_m10 224 rfl) rfl
theorem q2509 : (Jvm.Cond.selects "LotBeliefsModel" ({ cls := "LotBeliefsModel", name := "ends", desc := "(I)I" } : Jvm.MethodName) ({ cls := "LotBeliefsModel", name := "ends", desc := "(I)I" } : Jvm.MethodName)) ∈ lw_all := lw_g (lw_at lw_m10 225 rfl) rfl
theorem q2510 : (Jvm.Cond.code ({ cls := "LotBeliefsModel", name := "ends", desc := "(I)I" } : Jvm.MethodName) prog_19_method_93_code (2 : Nat) (Option.some Jvm.ClassFile.FieldType.int)) ∈ lw_all := lw_g (lw_at lw_m10 226 rfl) rfl
theorem q2511 : (Jvm.Cond.methodLink "LotBeliefsModel" (405 : Nat) ({ cls := "LotBeliefsModel", name := "allOrders", desc := "(I)V" } : Jvm.MethodName)) ∈ lw_all := lw_g (lw_at lw_m10 227 rfl) rfl
theorem q2512 : (Jvm.Cond.privateMethod ({ cls := "LotBeliefsModel", name := "allOrders", desc := "(I)V" } : Jvm.MethodName)) ∈ lw_tbl := lw_at lw_m10 228 rfl
theorem q2513 : (Jvm.Cond.instanceMethod ({ cls := "LotBeliefsModel", name := "allOrders", desc := "(I)V" } : Jvm.MethodName)) ∈ lw_all := lw_g (lw_at lw_m10 229 rfl) rfl
theorem q2514 : (Jvm.Cond.code ({ cls := "LotBeliefsModel", name := "allOrders", desc := "(I)V" } : Jvm.MethodName) prog_19_method_92_code (3 : Nat) (Option.none : Option Jvm.ClassFile.FieldType)) ∈ lw_all := lw_g (lw_at lw_m10 230 rfl) rfl
theorem q2515 : (Jvm.Cond.methodLink "LotBeliefsModel" (384 : Nat) ({ cls := "LotBeliefsModel", name := "permutes", desc := "(III)V" } : Jvm.MethodName)) ∈ lw_all := lw_g (lw_at lw_m10 231 rfl) rfl
theorem q2516 : (Jvm.Cond.privateMethod ({ cls := "LotBeliefsModel", name := "permutes", desc := "(III)V" } : Jvm.MethodName)) ∈ lw_tbl := lw_at lw_m10 232 rfl
theorem q2517 : (Jvm.Cond.instanceMethod ({ cls := "LotBeliefsModel", name := "permutes", desc := "(III)V" } : Jvm.MethodName)) ∈ lw_all := lw_g (lw_at lw_m10 233 rfl) rfl
theorem q2518 : (Jvm.Cond.code ({ cls := "LotBeliefsModel", name := "permutes", desc := "(III)V" } : Jvm.MethodName) prog_19_method_91_code (7 : Nat) (Option.none : Option Jvm.ClassFile.FieldType)) ∈ lw_all := lw_g (lw_at lw_m10 234 rfl) rfl
theorem q2520 : (Jvm.Cond.instanceMethod ({ cls := "LotBeliefsModel", name := "orders", desc := "(I)I" } : Jvm.MethodName)) ∈ lw_all := lw_g (lw_at lw_m10 236 rfl) rfl
theorem q2521 : (Jvm.Cond.selects "LotBeliefsModel" ({ cls := "LotBeliefsModel", name := "orders", desc := "(I)I" } : Jvm.MethodName) ({ cls := "LotBeliefsModel", name := "orders", desc := "(I)I" } : Jvm.MethodName)) ∈ lw_all := lw_g (lw_at lw_m10 237 rfl) rfl
theorem q2522 : (Jvm.Cond.code ({ cls := "LotBeliefsModel", name := "orders", desc := "(I)I" } : Jvm.MethodName) prog_19_method_94_code (2 : Nat) (Option.some Jvm.ClassFile.FieldType.int)) ∈ lw_all := lw_g (lw_at lw_m10 238 rfl) rfl
theorem q2524 : (Jvm.Cond.instanceMethod ({ cls := "LotBeliefsModel", name := "best", desc := "()I" } : Jvm.MethodName)) ∈ lw_all := lw_g (lw_at lw_m11 0 rfl) rfl
theorem q2525 : (Jvm.Cond.selects "LotBeliefsModel" ({ cls := "LotBeliefsModel", name := "best", desc := "()I" } : Jvm.MethodName) ({ cls := "LotBeliefsModel", name := "best", desc := "()I" } : Jvm.MethodName)) ∈ lw_all := lw_g (lw_at lw_m11 1 rfl) rfl
theorem q2526 : (Jvm.Cond.code ({ cls := "LotBeliefsModel", name := "best", desc := "()I" } : Jvm.MethodName) prog_19_method_95_code (2 : Nat) (Option.some Jvm.ClassFile.FieldType.int)) ∈ lw_all := lw_g (lw_at lw_m11 2 rfl) rfl
theorem q2528 : (Jvm.Cond.instanceMethod ({ cls := "LotBeliefsModel", name := "compared", desc := "(I)I" } : Jvm.MethodName)) ∈ lw_all := lw_g (lw_at lw_m11 4 rfl) rfl
theorem q2529 : (Jvm.Cond.selects "LotBeliefsModel" ({ cls := "LotBeliefsModel", name := "compared", desc := "(I)I" } : Jvm.MethodName) ({ cls := "LotBeliefsModel", name := "compared", desc := "(I)I" } : Jvm.MethodName)) ∈ lw_all := lw_g (lw_at lw_m11 5 rfl) rfl
theorem q2530 : (Jvm.Cond.code ({ cls := "LotBeliefsModel", name := "compared", desc := "(I)I" } : Jvm.MethodName) prog_19_method_96_code (2 : Nat) (Option.some Jvm.ClassFile.FieldType.int)) ∈ lw_all := lw_g (lw_at lw_m11 6 rfl) rfl
theorem q2532 : (Jvm.Cond.instanceMethod ({ cls := "LotBeliefsModel", name := "worst", desc := "(I)J" } : Jvm.MethodName)) ∈ lw_all := lw_g (lw_at lw_m11 8 rfl) rfl
theorem q2533 : (Jvm.Cond.selects "LotBeliefsModel" ({ cls := "LotBeliefsModel", name := "worst", desc := "(I)J" } : Jvm.MethodName) ({ cls := "LotBeliefsModel", name := "worst", desc := "(I)J" } : Jvm.MethodName)) ∈ lw_all := lw_g (lw_at lw_m11 9 rfl) rfl
theorem q2534 : (Jvm.Cond.code ({ cls := "LotBeliefsModel", name := "worst", desc := "(I)J" } : Jvm.MethodName) prog_19_method_97_code (5 : Nat) (Option.some Jvm.ClassFile.FieldType.long)) ∈ lw_all := lw_g (lw_at lw_m11 10 rfl) rfl
theorem q2535 : (Jvm.Cond.constantLong "LotBeliefsModel" (408 : Nat) (16 : Int64)) ∈ lw_all := lw_g (lw_at lw_m11 11 rfl) rfl
theorem q2537 : (Jvm.Cond.instanceMethod ({ cls := "LotBeliefsModel", name := "drawn", desc := "(III)I" } : Jvm.MethodName)) ∈ lw_all := lw_g (lw_at lw_m11 13 rfl) rfl
theorem q2538 : (Jvm.Cond.selects "LotBeliefsModel" ({ cls := "LotBeliefsModel", name := "drawn", desc := "(III)I" } : Jvm.MethodName) ({ cls := "LotBeliefsModel", name := "drawn", desc := "(III)I" } : Jvm.MethodName)) ∈ lw_all := lw_g (lw_at lw_m11 14 rfl) rfl
theorem q2539 : (Jvm.Cond.code ({ cls := "LotBeliefsModel", name := "drawn", desc := "(III)I" } : Jvm.MethodName) prog_19_method_99_code (6 : Nat) (Option.some Jvm.ClassFile.FieldType.int)) ∈ lw_all := lw_g (lw_at lw_m11 15 rfl) rfl
theorem q2540 : (Jvm.Cond.methodLink "LotBeliefsModel" (411 : Nat) ({ cls := "LotBeliefsModel", name := "rowBy", desc := "(I)V" } : Jvm.MethodName)) ∈ lw_all := lw_g (lw_at lw_m11 16 rfl) rfl
theorem q2541 : (Jvm.Cond.privateMethod ({ cls := "LotBeliefsModel", name := "rowBy", desc := "(I)V" } : Jvm.MethodName)) ∈ lw_tbl := lw_at lw_m11 17 rfl
theorem q2542 : (Jvm.Cond.instanceMethod ({ cls := "LotBeliefsModel", name := "rowBy", desc := "(I)V" } : Jvm.MethodName)) ∈ lw_all := lw_g (lw_at lw_m11 18 rfl) rfl
theorem q2543 : (Jvm.Cond.code ({ cls := "LotBeliefsModel", name := "rowBy", desc := "(I)V" } : Jvm.MethodName) prog_19_method_98_code (6 : Nat) (Option.none : Option Jvm.ClassFile.FieldType)) ∈ lw_all := lw_g (lw_at lw_m11 19 rfl) rfl
theorem q2544 : (Jvm.Cond.constant "LotBeliefsModel" (410 : Nat) (1103515245 : Int32)) ∈ lw_all := lw_g (lw_at lw_m11 20 rfl) rfl
theorem q2546 : (Jvm.Cond.instanceMethod ({ cls := "LotBeliefsModel", name := "draw", desc := "(II)I" } : Jvm.MethodName)) ∈ lw_all := lw_g (lw_at lw_m11 22 rfl) rfl
theorem q2547 : (Jvm.Cond.selects "LotBeliefsModel" ({ cls := "LotBeliefsModel", name := "draw", desc := "(II)I" } : Jvm.MethodName) ({ cls := "LotBeliefsModel", name := "draw", desc := "(II)I" } : Jvm.MethodName)) ∈ lw_all := lw_g (lw_at lw_m11 23 rfl) rfl
theorem q2548 : (Jvm.Cond.code ({ cls := "LotBeliefsModel", name := "draw", desc := "(II)I" } : Jvm.MethodName) prog_19_method_100_code (3 : Nat) (Option.some Jvm.ClassFile.FieldType.int)) ∈ lw_all := lw_g (lw_at lw_m11 24 rfl) rfl
theorem q2550 : (Jvm.Cond.instanceMethod ({ cls := "LotBeliefsModel", name := "century", desc := "(III)I" } : Jvm.MethodName)) ∈ lw_all := lw_g (lw_at lw_m11 26 rfl) rfl
theorem q2551 : (Jvm.Cond.selects "LotBeliefsModel" ({ cls := "LotBeliefsModel", name := "century", desc := "(III)I" } : Jvm.MethodName) ({ cls := "LotBeliefsModel", name := "century", desc := "(III)I" } : Jvm.MethodName)) ∈ lw_all := lw_g (lw_at lw_m11 27 rfl) rfl
theorem q2552 : (Jvm.Cond.code ({ cls := "LotBeliefsModel", name := "century", desc := "(III)I" } : Jvm.MethodName) prog_19_method_101_code (6 : Nat) (Option.some Jvm.ClassFile.FieldType.int)) ∈ lw_all := lw_g (lw_at lw_m11 28 rfl) rfl
theorem q2554 : (Jvm.Cond.instanceMethod ({ cls := "LotBeliefsModel", name := "fits", desc := "(II)Z" } : Jvm.MethodName)) ∈ lw_all := lw_g (lw_at lw_m11 30 rfl) rfl
theorem q2555 : (Jvm.Cond.selects "LotBeliefsModel" ({ cls := "LotBeliefsModel", name := "fits", desc := "(II)Z" } : Jvm.MethodName) ({ cls := "LotBeliefsModel", name := "fits", desc := "(II)Z" } : Jvm.MethodName)) ∈ lw_all := lw_g (lw_at lw_m11 31 rfl) rfl
theorem q2556 : (Jvm.Cond.code ({ cls := "LotBeliefsModel", name := "fits", desc := "(II)Z" } : Jvm.MethodName) prog_19_method_103_code (3 : Nat) (Option.some Jvm.ClassFile.FieldType.boolean)) ∈ lw_all := lw_g (lw_at lw_m11 32 rfl) rfl
theorem q2557 : (Jvm.Cond.methodLink "LotBeliefsModel" (417 : Nat) ({ cls := "LotBeliefsModel", name := "badSet", desc := "(II)Z" } : Jvm.MethodName)) ∈ lw_all := lw_g (lw_at lw_m11 33 rfl) rfl
theorem q2558 : (Jvm.Cond.privateMethod ({ cls := "LotBeliefsModel", name := "badSet", desc := "(II)Z" } : Jvm.MethodName)) ∈ lw_tbl := lw_at lw_m11 34 rfl
theorem q2559 : (Jvm.Cond.instanceMethod ({ cls := "LotBeliefsModel", name := "badSet", desc := "(II)Z" } : Jvm.MethodName)) ∈ lw_all := lw_g (lw_at lw_m11 35 rfl) rfl
theorem q2560 : (Jvm.Cond.code ({ cls := "LotBeliefsModel", name := "badSet", desc := "(II)Z" } : Jvm.MethodName) prog_19_method_102_code (3 : Nat) (Option.some Jvm.ClassFile.FieldType.boolean)) ∈ lw_all := lw_g (lw_at lw_m11 36 rfl) rfl
theorem q2561 : (Jvm.Cond.methodLink "LotBeliefsModel" (414 : Nat) ({ cls := "LotBeliefsModel", name := "areSlips", desc := "(I)Z" } : Jvm.MethodName)) ∈ lw_all := lw_g (lw_at lw_m11 37 rfl) rfl
theorem q2562 : (Jvm.Cond.privateMethod ({ cls := "LotBeliefsModel", name := "areSlips", desc := "(I)Z" } : Jvm.MethodName)) ∈ lw_tbl := lw_at lw_m11 38 rfl
theorem q2563 : (Jvm.Cond.instanceMethod ({ cls := "LotBeliefsModel", name := "areSlips", desc := "(I)Z" } : Jvm.MethodName)) ∈ lw_all := lw_g (lw_at lw_m11 39 rfl) rfl
theorem q2564 : (Jvm.Cond.code ({ cls := "LotBeliefsModel", name := "areSlips", desc := "(I)Z" } : Jvm.MethodName) prog_19_method_52_code (2 : Nat) (Option.some Jvm.ClassFile.FieldType.boolean)) ∈ lw_all := lw_g (lw_at lw_m11 40 rfl) rfl
theorem q2566 : (Jvm.Cond.instanceMethod ({ cls := "LotBeliefsModel", name := "together", desc := "(II)J" } : Jvm.MethodName)) ∈ lw_all := lw_g (lw_at lw_m11 42 rfl) rfl
theorem q2567 : (Jvm.Cond.selects "LotBeliefsModel" ({ cls := "LotBeliefsModel", name := "together", desc := "(II)J" } : Jvm.MethodName) ({ cls := "LotBeliefsModel", name := "together", desc := "(II)J" } : Jvm.MethodName)) ∈ lw_all := lw_g (lw_at lw_m11 43 rfl) rfl
theorem q2568 : (Jvm.Cond.code ({ cls := "LotBeliefsModel", name := "together", desc := "(II)J" } : Jvm.MethodName) prog_19_method_104_code (3 : Nat) (Option.some Jvm.ClassFile.FieldType.long)) ∈ lw_all := lw_g (lw_at lw_m11 44 rfl) rfl
theorem q2570 : (Jvm.Cond.instanceMethod ({ cls := "LotBeliefsModel", name := "following", desc := "(II)I" } : Jvm.MethodName)) ∈ lw_all := lw_g (lw_at lw_m11 46 rfl) rfl
theorem q2571 : (Jvm.Cond.selects "LotBeliefsModel" ({ cls := "LotBeliefsModel", name := "following", desc := "(II)I" } : Jvm.MethodName) ({ cls := "LotBeliefsModel", name := "following", desc := "(II)I" } : Jvm.MethodName)) ∈ lw_all := lw_g (lw_at lw_m11 47 rfl) rfl
theorem q2572 : (Jvm.Cond.code ({ cls := "LotBeliefsModel", name := "following", desc := "(II)I" } : Jvm.MethodName) prog_19_method_106_code (3 : Nat) (Option.some Jvm.ClassFile.FieldType.int)) ∈ lw_all := lw_g (lw_at lw_m11 48 rfl) rfl
theorem q2573 : (Jvm.Cond.methodLink "LotBeliefsModel" (420 : Nat) ({ cls := "LotBeliefsModel", name := "followingOf", desc := "(J)I" } : Jvm.MethodName)) ∈ lw_all := lw_g (lw_at lw_m11 49 rfl) rfl
theorem q2574 : (Jvm.Cond.privateMethod ({ cls := "LotBeliefsModel", name := "followingOf", desc := "(J)I" } : Jvm.MethodName)) ∈ lw_tbl := lw_at lw_m11 50 rfl
theorem q2575 : (Jvm.Cond.instanceMethod ({ cls := "LotBeliefsModel", name := "followingOf", desc := "(J)I" } : Jvm.MethodName)) ∈ lw_all := lw_g (lw_at lw_m11 51 rfl) rfl
theorem q2576 : (Jvm.Cond.code ({ cls := "LotBeliefsModel", name := "followingOf", desc := "(J)I" } : Jvm.MethodName) prog_19_method_105_code (5 : Nat) (Option.some Jvm.ClassFile.FieldType.int)) ∈ lw_all := lw_g (lw_at lw_m11 52 rfl) rfl
theorem q2578 : (Jvm.Cond.instanceMethod ({ cls := "LotBeliefsModel", name := "sets", desc := "(II)I" } : Jvm.MethodName)) ∈ lw_all := lw_g (lw_at lw_m11 54 rfl) rfl
theorem q2579 : (Jvm.Cond.selects "LotBeliefsModel" ({ cls := "LotBeliefsModel", name := "sets", desc := "(II)I" } : Jvm.MethodName) ({ cls := "LotBeliefsModel", name := "sets", desc := "(II)I" } : Jvm.MethodName)) ∈ lw_all := lw_g (lw_at lw_m11 55 rfl) rfl
theorem q2580 : (Jvm.Cond.code ({ cls := "LotBeliefsModel", name := "sets", desc := "(II)I" } : Jvm.MethodName) prog_19_method_108_code (9 : Nat) (Option.some Jvm.ClassFile.FieldType.int)) ∈ lw_all := lw_g (lw_at lw_m11 56 rfl) rfl
theorem q2581 : (Jvm.Cond.methodLink "LotBeliefsModel" (423 : Nat) ({ cls := "LotBeliefsModel", name := "isWhole", desc := "(II)Z" } : Jvm.MethodName)) ∈ lw_all := lw_g (lw_at lw_m11 57 rfl) rfl
theorem q2582 : (Jvm.Cond.privateMethod ({ cls := "LotBeliefsModel", name := "isWhole", desc := "(II)Z" } : Jvm.MethodName)) ∈ lw_tbl := lw_at lw_m11 58 rfl
theorem q2583 : (Jvm.Cond.instanceMethod ({ cls := "LotBeliefsModel", name := "isWhole", desc := "(II)Z" } : Jvm.MethodName)) ∈ lw_all := lw_g (lw_at lw_m11 59 rfl) rfl
theorem q2584 : (Jvm.Cond.code ({ cls := "LotBeliefsModel", name := "isWhole", desc := "(II)Z" } : Jvm.MethodName) prog_19_method_107_code (4 : Nat) (Option.some Jvm.ClassFile.FieldType.boolean)) ∈ lw_all := lw_g (lw_at lw_m11 60 rfl) rfl
theorem q2586 : (Jvm.Cond.instanceMethod ({ cls := "LotBeliefsModel", name := "whole", desc := "(II)I" } : Jvm.MethodName)) ∈ lw_all := lw_g (lw_at lw_m11 62 rfl) rfl
theorem q2587 : (Jvm.Cond.selects "LotBeliefsModel" ({ cls := "LotBeliefsModel", name := "whole", desc := "(II)I" } : Jvm.MethodName) ({ cls := "LotBeliefsModel", name := "whole", desc := "(II)I" } : Jvm.MethodName)) ∈ lw_all := lw_g (lw_at lw_m11 63 rfl) rfl
theorem q2588 : (Jvm.Cond.code ({ cls := "LotBeliefsModel", name := "whole", desc := "(II)I" } : Jvm.MethodName) prog_19_method_109_code (5 : Nat) (Option.some Jvm.ClassFile.FieldType.int)) ∈ lw_all := lw_g (lw_at lw_m11 64 rfl) rfl
theorem q2590 : (Jvm.Cond.instanceMethod ({ cls := "LotBeliefsModel", name := "proof", desc := "(I)I" } : Jvm.MethodName)) ∈ lw_all := lw_g (lw_at lw_m11 66 rfl) rfl
theorem q2591 : (Jvm.Cond.selects "LotBeliefsModel" ({ cls := "LotBeliefsModel", name := "proof", desc := "(I)I" } : Jvm.MethodName) ({ cls := "LotBeliefsModel", name := "proof", desc := "(I)I" } : Jvm.MethodName)) ∈ lw_all := lw_g (lw_at lw_m11 67 rfl) rfl
theorem q2592 : (Jvm.Cond.code ({ cls := "LotBeliefsModel", name := "proof", desc := "(I)I" } : Jvm.MethodName) prog_19_method_110_code (6 : Nat) (Option.some Jvm.ClassFile.FieldType.int)) ∈ lw_all := lw_g (lw_at lw_m11 68 rfl) rfl
theorem q2594 : (Jvm.Cond.instanceMethod ({ cls := "LotBeliefsModel", name := "split", desc := "(II)I" } : Jvm.MethodName)) ∈ lw_all := lw_g (lw_at lw_m11 70 rfl) rfl
theorem q2595 : (Jvm.Cond.selects "LotBeliefsModel" ({ cls := "LotBeliefsModel", name := "split", desc := "(II)I" } : Jvm.MethodName) ({ cls := "LotBeliefsModel", name := "split", desc := "(II)I" } : Jvm.MethodName)) ∈ lw_all := lw_g (lw_at lw_m11 71 rfl) rfl
theorem q2596 : (Jvm.Cond.code ({ cls := "LotBeliefsModel", name := "split", desc := "(II)I" } : Jvm.MethodName) prog_19_method_111_code (9 : Nat) (Option.some Jvm.ClassFile.FieldType.int)) ∈ lw_all := lw_g (lw_at lw_m11 72 rfl) rfl
theorem q2598 : (Jvm.Cond.instanceMethod ({ cls := "LotBeliefsModel", name := "likely", desc := "(I)I" } : Jvm.MethodName)) ∈ lw_all := lw_g (lw_at lw_m11 74 rfl) rfl
theorem q2599 : (Jvm.Cond.selects "LotBeliefsModel" ({ cls := "LotBeliefsModel", name := "likely", desc := "(I)I" } : Jvm.MethodName) ({ cls := "LotBeliefsModel", name := "likely", desc := "(I)I" } : Jvm.MethodName)) ∈ lw_all := lw_g (lw_at lw_m11 75 rfl) rfl
theorem q2600 : (Jvm.Cond.code ({ cls := "LotBeliefsModel", name := "likely", desc := "(I)I" } : Jvm.MethodName) prog_19_method_112_code (7 : Nat) (Option.some Jvm.ClassFile.FieldType.int)) ∈ lw_all := lw_g (lw_at lw_m11 76 rfl) rfl
theorem q2602 : (Jvm.Cond.instanceMethod ({ cls := "LotBeliefsModel", name := "known", desc := "(II)I" } : Jvm.MethodName)) ∈ lw_all := lw_g (lw_at lw_m11 78 rfl) rfl
theorem q2603 : (Jvm.Cond.selects "LotBeliefsModel" ({ cls := "LotBeliefsModel", name := "known", desc := "(II)I" } : Jvm.MethodName) ({ cls := "LotBeliefsModel", name := "known", desc := "(II)I" } : Jvm.MethodName)) ∈ lw_all := lw_g (lw_at lw_m11 79 rfl) rfl
theorem q2604 : (Jvm.Cond.code ({ cls := "LotBeliefsModel", name := "known", desc := "(II)I" } : Jvm.MethodName) prog_19_method_113_code (5 : Nat) (Option.some Jvm.ClassFile.FieldType.int)) ∈ lw_all := lw_g (lw_at lw_m11 80 rfl) rfl
theorem q2606 : (Jvm.Cond.instanceMethod ({ cls := "LotBeliefsModel", name := "asks", desc := "(I)I" } : Jvm.MethodName)) ∈ lw_all := lw_g (lw_at lw_m11 82 rfl) rfl
theorem q2607 : (Jvm.Cond.selects "LotBeliefsModel" ({ cls := "LotBeliefsModel", name := "asks", desc := "(I)I" } : Jvm.MethodName) ({ cls := "LotBeliefsModel", name := "asks", desc := "(I)I" } : Jvm.MethodName)) ∈ lw_all := lw_g (lw_at lw_m11 83 rfl) rfl
theorem q2608 : (Jvm.Cond.code ({ cls := "LotBeliefsModel", name := "asks", desc := "(I)I" } : Jvm.MethodName) prog_19_method_114_code (9 : Nat) (Option.some Jvm.ClassFile.FieldType.int)) ∈ lw_all := lw_g (lw_at lw_m11 84 rfl) rfl
theorem q2610 : (Jvm.Cond.instanceMethod ({ cls := "LotBeliefsModel", name := "quarrels", desc := "(I)I" } : Jvm.MethodName)) ∈ lw_all := lw_g (lw_at lw_m11 86 rfl) rfl
theorem q2611 : (Jvm.Cond.selects "LotBeliefsModel" ({ cls := "LotBeliefsModel", name := "quarrels", desc := "(I)I" } : Jvm.MethodName) ({ cls := "LotBeliefsModel", name := "quarrels", desc := "(I)I" } : Jvm.MethodName)) ∈ lw_all := lw_g (lw_at lw_m11 87 rfl) rfl
theorem q2612 : (Jvm.Cond.code ({ cls := "LotBeliefsModel", name := "quarrels", desc := "(I)I" } : Jvm.MethodName) prog_19_method_115_code (5 : Nat) (Option.some Jvm.ClassFile.FieldType.int)) ∈ lw_all := lw_g (lw_at lw_m11 88 rfl) rfl
theorem q2614 : (Jvm.Cond.instanceMethod ({ cls := "LotBeliefsModel", name := "peace", desc := "(I)I" } : Jvm.MethodName)) ∈ lw_all := lw_g (lw_at lw_m11 90 rfl) rfl
theorem q2615 : (Jvm.Cond.selects "LotBeliefsModel" ({ cls := "LotBeliefsModel", name := "peace", desc := "(I)I" } : Jvm.MethodName) ({ cls := "LotBeliefsModel", name := "peace", desc := "(I)I" } : Jvm.MethodName)) ∈ lw_all := lw_g (lw_at lw_m11 91 rfl) rfl
theorem q2616 : (Jvm.Cond.code ({ cls := "LotBeliefsModel", name := "peace", desc := "(I)I" } : Jvm.MethodName) prog_19_method_116_code (7 : Nat) (Option.some Jvm.ClassFile.FieldType.int)) ∈ lw_all := lw_g (lw_at lw_m11 92 rfl) rfl
theorem q2618 : (Jvm.Cond.instanceMethod ({ cls := "LotBeliefsModel", name := "salted", desc := "(I)I" } : Jvm.MethodName)) ∈ lw_all := lw_g (lw_at lw_m11 94 rfl) rfl
theorem q2619 : (Jvm.Cond.selects "LotBeliefsModel" ({ cls := "LotBeliefsModel", name := "salted", desc := "(I)I" } : Jvm.MethodName) ({ cls := "LotBeliefsModel", name := "salted", desc := "(I)I" } : Jvm.MethodName)) ∈ lw_all := lw_g (lw_at lw_m11 95 rfl) rfl
theorem q2620 : (Jvm.Cond.code ({ cls := "LotBeliefsModel", name := "salted", desc := "(I)I" } : Jvm.MethodName) prog_19_method_118_code (4 : Nat) (Option.some Jvm.ClassFile.FieldType.int)) ∈ lw_all := lw_g (lw_at lw_m11 96 rfl) rfl
theorem q2621 : (Jvm.Cond.methodLink "LotBeliefsModel" (426 : Nat) ({ cls := "LotBeliefsModel", name := "goesSalted", desc := "(I)I" } : Jvm.MethodName)) ∈ lw_all := lw_g (lw_at lw_m11 97 rfl) rfl
theorem q2622 : (Jvm.Cond.privateMethod ({ cls := "LotBeliefsModel", name := "goesSalted", desc := "(I)I" } : Jvm.MethodName)) ∈ lw_tbl := lw_at lw_m11 98 rfl
theorem q2623 : (Jvm.Cond.instanceMethod ({ cls := "LotBeliefsModel", name := "goesSalted", desc := "(I)I" } : Jvm.MethodName)) ∈ lw_all := lw_g (lw_at lw_m11 99 rfl) rfl
theorem q2624 : (Jvm.Cond.code ({ cls := "LotBeliefsModel", name := "goesSalted", desc := "(I)I" } : Jvm.MethodName) prog_19_method_117_code (3 : Nat) (Option.some Jvm.ClassFile.FieldType.int)) ∈ lw_all := lw_g (lw_at lw_m11 100 rfl) rfl
theorem q2626 : (Jvm.Cond.instanceMethod ({ cls := "LotBeliefsModel", name := "salty", desc := "(I)I" } : Jvm.MethodName)) ∈ lw_all := lw_g (lw_at lw_m11 102 rfl) rfl
theorem q2627 : (Jvm.Cond.selects "LotBeliefsModel" ({ cls := "LotBeliefsModel", name := "salty", desc := "(I)I" } : Jvm.MethodName) ({ cls := "LotBeliefsModel", name := "salty", desc := "(I)I" } : Jvm.MethodName)) ∈ lw_all := lw_g (lw_at lw_m11 103 rfl) rfl
theorem q2628 : (Jvm.Cond.code ({ cls := "LotBeliefsModel", name := "salty", desc := "(I)I" } : Jvm.MethodName) prog_19_method_119_code (2 : Nat) (Option.some Jvm.ClassFile.FieldType.int)) ∈ lw_all := lw_g (lw_at lw_m11 104 rfl) rfl
theorem q2630 : (Jvm.Cond.instanceMethod ({ cls := "LotBeliefsModel", name := "school", desc := "(II)I" } : Jvm.MethodName)) ∈ lw_all := lw_g (lw_at lw_m11 106 rfl) rfl
theorem q2631 : (Jvm.Cond.selects "LotBeliefsModel" ({ cls := "LotBeliefsModel", name := "school", desc := "(II)I" } : Jvm.MethodName) ({ cls := "LotBeliefsModel", name := "school", desc := "(II)I" } : Jvm.MethodName)) ∈ lw_all := lw_g (lw_at lw_m11 107 rfl) rfl
theorem q2632 : (Jvm.Cond.code ({ cls := "LotBeliefsModel", name := "school", desc := "(II)I" } : Jvm.MethodName) prog_19_method_122_code (3 : Nat) (Option.some Jvm.ClassFile.FieldType.int)) ∈ lw_all := lw_g (lw_at lw_m11 108 rfl) rfl
theorem q2633 : (Jvm.Cond.methodLink "LotBeliefsModel" (429 : Nat) ({ cls := "LotBeliefsModel", name := "isSchool", desc := "(I)Z" } : Jvm.MethodName)) ∈ lw_all := lw_g (lw_at lw_m11 109 rfl) rfl
theorem q2634 : (Jvm.Cond.static ({ cls := "LotBeliefsModel", name := "isSchool", desc := "(I)Z" } : Jvm.MethodName)) ∈ lw_all := lw_g (lw_at lw_m11 110 rfl) rfl
theorem q2635 : (Jvm.Cond.code ({ cls := "LotBeliefsModel", name := "isSchool", desc := "(I)Z" } : Jvm.MethodName) prog_19_method_121_code (1 : Nat) (Option.some Jvm.ClassFile.FieldType.boolean)) ∈ lw_all := lw_g (lw_at lw_m11 111 rfl) rfl
theorem q2636 : (Jvm.Cond.methodLink "LotBeliefsModel" (432 : Nat) ({ cls := "LotBeliefsModel", name := "schools", desc := "()V" } : Jvm.MethodName)) ∈ lw_all := lw_g (lw_at lw_m11 112 rfl) rfl
theorem q2637 : (Jvm.Cond.privateMethod ({ cls := "LotBeliefsModel", name := "schools", desc := "()V" } : Jvm.MethodName)) ∈ lw_tbl := lw_at lw_m11 113 rfl
theorem q2638 : (Jvm.Cond.instanceMethod ({ cls := "LotBeliefsModel", name := "schools", desc := "()V" } : Jvm.MethodName)) ∈ lw_all := lw_g (lw_at lw_m11 114 rfl) rfl
theorem q2639 : (Jvm.Cond.code ({ cls := "LotBeliefsModel", name := "schools", desc := "()V" } : Jvm.MethodName) prog_19_method_120_code (3 : Nat) (Option.none : Option Jvm.ClassFile.FieldType)) ∈ lw_all := lw_g (lw_at lw_m11 115 rfl) rfl
theorem q2641 : (Jvm.Cond.instanceMethod ({ cls := "LotBeliefsModel", name := "right", desc := "(I)I" } : Jvm.MethodName)) ∈ lw_all := lw_g (lw_at lw_m11 117 rfl) rfl
theorem q2642 : (Jvm.Cond.selects "LotBeliefsModel" ({ cls := "LotBeliefsModel", name := "right", desc := "(I)I" } : Jvm.MethodName) ({ cls := "LotBeliefsModel", name := "right", desc := "(I)I" } : Jvm.MethodName)) ∈ lw_all := lw_g (lw_at lw_m11 118 rfl) rfl
theorem q2643 : (Jvm.Cond.code ({ cls := "LotBeliefsModel", name := "right", desc := "(I)I" } : Jvm.MethodName) prog_19_method_123_code (3 : Nat) (Option.some Jvm.ClassFile.FieldType.int)) ∈ lw_all := lw_g (lw_at lw_m11 119 rfl) rfl
theorem q2645 : (Jvm.Cond.instanceMethod ({ cls := "LotBeliefsModel", name := "war", desc := "(I)I" } : Jvm.MethodName)) ∈ lw_all := lw_g (lw_at lw_m11 121 rfl) rfl
theorem q2646 : (Jvm.Cond.selects "LotBeliefsModel" ({ cls := "LotBeliefsModel", name := "war", desc := "(I)I" } : Jvm.MethodName) ({ cls := "LotBeliefsModel", name := "war", desc := "(I)I" } : Jvm.MethodName)) ∈ lw_all := lw_g (lw_at lw_m11 122 rfl) rfl
theorem q2647 : (Jvm.Cond.code ({ cls := "LotBeliefsModel", name := "war", desc := "(I)I" } : Jvm.MethodName) prog_19_method_124_code (5 : Nat) (Option.some Jvm.ClassFile.FieldType.int)) ∈ lw_all := lw_g (lw_at lw_m11 123 rfl) rfl
theorem q2649 : (Jvm.Cond.instanceMethod ({ cls := "LotBeliefsModel", name := "plain", desc := "(I)I" } : Jvm.MethodName)) ∈ lw_all := lw_g (lw_at lw_m11 125 rfl) rfl
theorem q2650 : (Jvm.Cond.selects "LotBeliefsModel" ({ cls := "LotBeliefsModel", name := "plain", desc := "(I)I" } : Jvm.MethodName) ({ cls := "LotBeliefsModel", name := "plain", desc := "(I)I" } : Jvm.MethodName)) ∈ lw_all := lw_g (lw_at lw_m11 126 rfl) rfl
theorem q2651 : (Jvm.Cond.code ({ cls := "LotBeliefsModel", name := "plain", desc := "(I)I" } : Jvm.MethodName) prog_19_method_127_code (2 : Nat) (Option.some Jvm.ClassFile.FieldType.int)) ∈ lw_all := lw_g (lw_at lw_m11 127 rfl) rfl
theorem q2652 : (Jvm.Cond.methodLink "LotBeliefsModel" (438 : Nat) ({ cls := "LotBeliefsModel", name := "laysPlain", desc := "()V" } : Jvm.MethodName)) ∈ lw_all := lw_g (lw_at lw_m11 128 rfl) rfl
theorem q2653 : (Jvm.Cond.privateMethod ({ cls := "LotBeliefsModel", name := "laysPlain", desc := "()V" } : Jvm.MethodName)) ∈ lw_tbl := lw_at lw_m11 129 rfl
theorem q2654 : (Jvm.Cond.instanceMethod ({ cls := "LotBeliefsModel", name := "laysPlain", desc := "()V" } : Jvm.MethodName)) ∈ lw_all := lw_g (lw_at lw_m11 130 rfl) rfl
theorem q2655 : (Jvm.Cond.code ({ cls := "LotBeliefsModel", name := "laysPlain", desc := "()V" } : Jvm.MethodName) prog_19_method_125_code (5 : Nat) (Option.none : Option Jvm.ClassFile.FieldType)) ∈ lw_all := lw_g (lw_at lw_m11 131 rfl) rfl
theorem q2656 : (Jvm.Cond.methodLink "LotBeliefsModel" (435 : Nat) ({ cls := "LotBeliefsModel", name := "isLong", desc := "(II)V" } : Jvm.MethodName)) ∈ lw_all := lw_g (lw_at lw_m11 132 rfl) rfl
theorem q2657 : (Jvm.Cond.privateMethod ({ cls := "LotBeliefsModel", name := "isLong", desc := "(II)V" } : Jvm.MethodName)) ∈ lw_tbl := lw_at lw_m11 133 rfl
theorem q2658 : (Jvm.Cond.instanceMethod ({ cls := "LotBeliefsModel", name := "isLong", desc := "(II)V" } : Jvm.MethodName)) ∈ lw_all := lw_g (lw_at lw_m11 134 rfl) rfl
theorem q2659 : (Jvm.Cond.code ({ cls := "LotBeliefsModel", name := "isLong", desc := "(II)V" } : Jvm.MethodName) prog_19_method_126_code (3 : Nat) (Option.none : Option Jvm.ClassFile.FieldType)) ∈ lw_all := lw_g (lw_at lw_m11 135 rfl) rfl
theorem q2661 : (Jvm.Cond.instanceMethod ({ cls := "LotBeliefsModel", name := "judge", desc := "(IIII)I" } : Jvm.MethodName)) ∈ lw_all := lw_g (lw_at lw_m11 137 rfl) rfl
theorem q2662 : (Jvm.Cond.selects "LotBeliefsModel" ({ cls := "LotBeliefsModel", name := "judge", desc := "(IIII)I" } : Jvm.MethodName) ({ cls := "LotBeliefsModel", name := "judge", desc := "(IIII)I" } : Jvm.MethodName)) ∈ lw_all := lw_g (lw_at lw_m11 138 rfl) rfl
theorem q2663 : (Jvm.Cond.code ({ cls := "LotBeliefsModel", name := "judge", desc := "(IIII)I" } : Jvm.MethodName) prog_19_method_128_code (5 : Nat) (Option.some Jvm.ClassFile.FieldType.int)) ∈ lw_all := lw_g (lw_at lw_m11 139 rfl) rfl
theorem q2665 : (Jvm.Cond.instanceMethod ({ cls := "LotBeliefsModel", name := "image", desc := "()I" } : Jvm.MethodName)) ∈ lw_all := lw_g (lw_at lw_m11 141 rfl) rfl
theorem q2666 : (Jvm.Cond.selects "LotBeliefsModel" ({ cls := "LotBeliefsModel", name := "image", desc := "()I" } : Jvm.MethodName) ({ cls := "LotBeliefsModel", name := "image", desc := "()I" } : Jvm.MethodName)) ∈ lw_all := lw_g (lw_at lw_m11 142 rfl) rfl
theorem q2667 : (Jvm.Cond.code ({ cls := "LotBeliefsModel", name := "image", desc := "()I" } : Jvm.MethodName) prog_19_method_131_code (1 : Nat) (Option.some Jvm.ClassFile.FieldType.int)) ∈ lw_all := lw_g (lw_at lw_m11 143 rfl) rfl
theorem q2668 : (Jvm.Cond.methodLink "LotBeliefsModel" (448 : Nat) ({ cls := "LotBeliefsModel", name := "movesAll", desc := "([IZ)V" } : Jvm.MethodName)) ∈ lw_all := lw_g (lw_at lw_m11 144 rfl) rfl
theorem q2669 : (Jvm.Cond.privateMethod ({ cls := "LotBeliefsModel", name := "movesAll", desc := "([IZ)V" } : Jvm.MethodName)) ∈ lw_tbl := lw_at lw_m11 145 rfl
theorem q2670 : (Jvm.Cond.instanceMethod ({ cls := "LotBeliefsModel", name := "movesAll", desc := "([IZ)V" } : Jvm.MethodName)) ∈ lw_all := lw_g (lw_at lw_m11 146 rfl) rfl
theorem q2671 : (Jvm.Cond.code ({ cls := "LotBeliefsModel", name := "movesAll", desc := "([IZ)V" } : Jvm.MethodName) prog_19_method_130_code (4 : Nat) (Option.none : Option Jvm.ClassFile.FieldType)) ∈ lw_all := lw_g (lw_at lw_m11 147 rfl) rfl
theorem q2672 : (Jvm.Cond.methodLink "LotBeliefsModel" (444 : Nat) ({ cls := "LotBeliefsModel", name := "moves", desc := "([IIZ)I" } : Jvm.MethodName)) ∈ lw_all := lw_g (lw_at lw_m11 148 rfl) rfl
theorem q2673 : (Jvm.Cond.privateMethod ({ cls := "LotBeliefsModel", name := "moves", desc := "([IIZ)I" } : Jvm.MethodName)) ∈ lw_tbl := lw_at lw_m11 149 rfl
theorem q2674 : (Jvm.Cond.instanceMethod ({ cls := "LotBeliefsModel", name := "moves", desc := "([IIZ)I" } : Jvm.MethodName)) ∈ lw_all := lw_g (lw_at lw_m11 150 rfl) rfl
theorem q2675 : (Jvm.Cond.code ({ cls := "LotBeliefsModel", name := "moves", desc := "([IIZ)I" } : Jvm.MethodName) prog_19_method_129_code (4 : Nat) (Option.some Jvm.ClassFile.FieldType.int)) ∈ lw_all := lw_g (lw_at lw_m11 151 rfl) rfl
theorem q2677 : (Jvm.Cond.instanceMethod ({ cls := "LotBeliefsModel", name := "restore", desc := "()I" } : Jvm.MethodName)) ∈ lw_all := lw_g (lw_at lw_m11 153 rfl) rfl
theorem q2678 : (Jvm.Cond.selects "LotBeliefsModel" ({ cls := "LotBeliefsModel", name := "restore", desc := "()I" } : Jvm.MethodName) ({ cls := "LotBeliefsModel", name := "restore", desc := "()I" } : Jvm.MethodName)) ∈ lw_all := lw_g (lw_at lw_m11 154 rfl) rfl
theorem q2679 : (Jvm.Cond.code ({ cls := "LotBeliefsModel", name := "restore", desc := "()I" } : Jvm.MethodName) prog_19_method_132_code (1 : Nat) (Option.some Jvm.ClassFile.FieldType.int)) ∈ lw_all := lw_g (lw_at lw_m11 155 rfl) rfl
theorem q2681 : (Jvm.Cond.instanceMethod ({ cls := "LotBeliefsModel", name := "status", desc := "(I)I" } : Jvm.MethodName)) ∈ lw_all := lw_g (lw_at lw_m11 157 rfl) rfl
theorem q2682 : (Jvm.Cond.selects "LotBeliefsModel" ({ cls := "LotBeliefsModel", name := "status", desc := "(I)I" } : Jvm.MethodName) ({ cls := "LotBeliefsModel", name := "status", desc := "(I)I" } : Jvm.MethodName)) ∈ lw_all := lw_g (lw_at lw_m11 158 rfl) rfl
theorem q2683 : (Jvm.Cond.code ({ cls := "LotBeliefsModel", name := "status", desc := "(I)I" } : Jvm.MethodName) prog_19_method_133_code (2 : Nat) (Option.some Jvm.ClassFile.FieldType.int)) ∈ lw_all := lw_g (lw_at lw_m11 159 rfl) rfl
theorem q2685 : (Jvm.Cond.instanceMethod ({ cls := "LotBeliefsModel", name := "count", desc := "(I)I" } : Jvm.MethodName)) ∈ lw_all := lw_g (lw_at lw_m11 161 rfl) rfl
theorem q2686 : (Jvm.Cond.selects "LotBeliefsModel" ({ cls := "LotBeliefsModel", name := "count", desc := "(I)I" } : Jvm.MethodName) ({ cls := "LotBeliefsModel", name := "count", desc := "(I)I" } : Jvm.MethodName)) ∈ lw_all := lw_g (lw_at lw_m11 162 rfl) rfl
theorem q2687 : (Jvm.Cond.code ({ cls := "LotBeliefsModel", name := "count", desc := "(I)I" } : Jvm.MethodName) prog_19_method_134_code (2 : Nat) (Option.some Jvm.ClassFile.FieldType.int)) ∈ lw_all := lw_g (lw_at lw_m11 163 rfl) rfl
theorem q2717 : (Jvm.Cond.castable "LotBeliefsModel" "java/lang/Object") ∈ lw_tbl := lw_at lw_m11 193 rfl

