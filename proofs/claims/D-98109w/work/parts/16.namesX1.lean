set_option maxRecDepth 100000
abbrev cX1_init : ByteArray := prog_1_method_1_code
def yX1_init : MethodName := ⟨RX1, "<init>", "()V"⟩
def dkwX1_init_8 : List UInt8 := [181, 0, 96, 42, 182, 0, 99, 177]
abbrev dktX1_init_8 : List UInt8 := dkwX1_init_8 ++ []
def dkwX1_init_7 : List UInt8 := [42, 16, 52, 188, 11, 181, 0, 90, 42, 16, 52, 188, 11, 181, 0, 93, 42, 17, 1, 0, 188, 10]
abbrev dktX1_init_7 : List UInt8 := dkwX1_init_7 ++ dktX1_init_8
def dkwX1_init_6 : List UInt8 := [16, 12, 188, 10, 181, 0, 81, 42, 16, 12, 188, 10, 181, 0, 84, 42, 17, 16, 0, 188, 11, 181, 0, 87]
abbrev dktX1_init_6 : List UInt8 := dkwX1_init_6 ++ dktX1_init_7
def dkwX1_init_5 : List UInt8 := [188, 10, 181, 0, 71, 42, 16, 12, 188, 10, 181, 0, 74, 42, 17, 16, 0, 188, 4, 181, 0, 77, 42]
abbrev dktX1_init_5 : List UInt8 := dkwX1_init_5 ++ dktX1_init_6
def dkwX1_init_4 : List UInt8 := [89, 42, 183, 0, 61, 181, 0, 64, 42, 187, 0, 59, 89, 42, 183, 0, 61, 181, 0, 68, 42, 16, 12]
abbrev dktX1_init_4 : List UInt8 := dkwX1_init_4 ++ dktX1_init_5
def dkwX1_init_3 : List UInt8 := [188, 8, 181, 0, 48, 42, 6, 189, 0, 37, 181, 0, 52, 42, 6, 188, 10, 181, 0, 56, 42, 187, 0, 59]
abbrev dktX1_init_3 : List UInt8 := dkwX1_init_3 ++ dktX1_init_4
def dkwX1_init_2 : List UInt8 := [181, 0, 33, 42, 187, 0, 37, 89, 183, 0, 39, 181, 0, 40, 42, 2, 181, 0, 44, 42, 17, 2, 88]
abbrev dktX1_init_2 : List UInt8 := dkwX1_init_2 ++ dktX1_init_3
def dkwX1_init_1 : List UInt8 := [181, 0, 19, 42, 16, 10, 188, 10, 181, 0, 23, 42, 20, 0, 27, 181, 0, 29, 42, 16, 52, 188, 11]
abbrev dktX1_init_1 : List UInt8 := dkwX1_init_1 ++ dktX1_init_2
def dkwX1_init_0 : List UInt8 := [42, 183, 0, 3, 42, 187, 0, 9, 89, 183, 0, 11, 181, 0, 12, 42, 187, 0, 16, 89, 183, 0, 18]
abbrev dktX1_init_0 : List UInt8 := dkwX1_init_0 ++ dktX1_init_1
theorem dksX1_init_0 : cX1_init.data.toList.drop 0 = dktX1_init_0 := by decide +kernel
theorem dksX1_init_1 : cX1_init.data.toList.drop 23 = dktX1_init_1 := dk_seg dksX1_init_0 23 rfl rfl
theorem dksX1_init_2 : cX1_init.data.toList.drop 46 = dktX1_init_2 := dk_seg dksX1_init_1 23 rfl rfl
theorem dksX1_init_3 : cX1_init.data.toList.drop 69 = dktX1_init_3 := dk_seg dksX1_init_2 23 rfl rfl
theorem dksX1_init_4 : cX1_init.data.toList.drop 93 = dktX1_init_4 := dk_seg dksX1_init_3 24 rfl rfl
theorem dksX1_init_5 : cX1_init.data.toList.drop 116 = dktX1_init_5 := dk_seg dksX1_init_4 23 rfl rfl
theorem dksX1_init_6 : cX1_init.data.toList.drop 139 = dktX1_init_6 := dk_seg dksX1_init_5 23 rfl rfl
theorem dksX1_init_7 : cX1_init.data.toList.drop 163 = dktX1_init_7 := dk_seg dksX1_init_6 24 rfl rfl
theorem dksX1_init_8 : cX1_init.data.toList.drop 185 = dktX1_init_8 := dk_seg dksX1_init_7 22 rfl rfl
theorem dX1_init_0 : decode cX1_init 0 = .ok (.aload_n 0, 1) := dk_42 (dk_at dksX1_init_0 0 rfl rfl)
theorem dX1_init_1 : decode cX1_init 1 = .ok (.invokespecial 3, 3) := dk_183 0 3 (dk_at dksX1_init_0 1 rfl rfl)
theorem dX1_init_4 : decode cX1_init 4 = .ok (.aload_n 0, 1) := dk_42 (dk_at dksX1_init_0 4 rfl rfl)
theorem dX1_init_5 : decode cX1_init 5 = .ok (.new 9, 3) := dk_187 0 9 (dk_at dksX1_init_0 5 rfl rfl)
theorem dX1_init_8 : decode cX1_init 8 = .ok (.dup, 1) := dk_89 (dk_at dksX1_init_0 8 rfl rfl)
theorem dX1_init_9 : decode cX1_init 9 = .ok (.invokespecial 11, 3) := dk_183 0 11 (dk_at dksX1_init_0 9 rfl rfl)
theorem dX1_init_12 : decode cX1_init 12 = .ok (.putfield 12, 3) := dk_181 0 12 (dk_at dksX1_init_0 12 rfl rfl)
theorem dX1_init_15 : decode cX1_init 15 = .ok (.aload_n 0, 1) := dk_42 (dk_at dksX1_init_0 15 rfl rfl)
theorem dX1_init_16 : decode cX1_init 16 = .ok (.new 16, 3) := dk_187 0 16 (dk_at dksX1_init_0 16 rfl rfl)
theorem dX1_init_19 : decode cX1_init 19 = .ok (.dup, 1) := dk_89 (dk_at dksX1_init_0 19 rfl rfl)
theorem dX1_init_20 : decode cX1_init 20 = .ok (.invokespecial 18, 3) := dk_183 0 18 (dk_at dksX1_init_0 20 rfl rfl)
theorem dX1_init_23 : decode cX1_init 23 = .ok (.putfield 19, 3) := dk_181 0 19 (dk_at dksX1_init_1 0 rfl rfl)
theorem dX1_init_26 : decode cX1_init 26 = .ok (.aload_n 0, 1) := dk_42 (dk_at dksX1_init_1 3 rfl rfl)
theorem dX1_init_27 : decode cX1_init 27 = .ok (.bipush 10, 2) := dk_16 10 (dk_at dksX1_init_1 4 rfl rfl)
theorem dX1_init_29 : decode cX1_init 29 = .ok (.newarray .int, 2) := dk_188_10 (dk_at dksX1_init_1 6 rfl rfl)
theorem dX1_init_31 : decode cX1_init 31 = .ok (.putfield 23, 3) := dk_181 0 23 (dk_at dksX1_init_1 8 rfl rfl)
theorem dX1_init_34 : decode cX1_init 34 = .ok (.aload_n 0, 1) := dk_42 (dk_at dksX1_init_1 11 rfl rfl)
theorem dX1_init_35 : decode cX1_init 35 = .ok (.ldc2_w 27, 3) := dk_20 0 27 (dk_at dksX1_init_1 12 rfl rfl)
theorem dX1_init_38 : decode cX1_init 38 = .ok (.putfield 29, 3) := dk_181 0 29 (dk_at dksX1_init_1 15 rfl rfl)
theorem dX1_init_41 : decode cX1_init 41 = .ok (.aload_n 0, 1) := dk_42 (dk_at dksX1_init_1 18 rfl rfl)
theorem dX1_init_42 : decode cX1_init 42 = .ok (.bipush 52, 2) := dk_16 52 (dk_at dksX1_init_1 19 rfl rfl)
theorem dX1_init_44 : decode cX1_init 44 = .ok (.newarray .long, 2) := dk_188_11 (dk_at dksX1_init_1 21 rfl rfl)
theorem dX1_init_46 : decode cX1_init 46 = .ok (.putfield 33, 3) := dk_181 0 33 (dk_at dksX1_init_2 0 rfl rfl)
theorem dX1_init_49 : decode cX1_init 49 = .ok (.aload_n 0, 1) := dk_42 (dk_at dksX1_init_2 3 rfl rfl)
theorem dX1_init_50 : decode cX1_init 50 = .ok (.new 37, 3) := dk_187 0 37 (dk_at dksX1_init_2 4 rfl rfl)
theorem dX1_init_53 : decode cX1_init 53 = .ok (.dup, 1) := dk_89 (dk_at dksX1_init_2 7 rfl rfl)
theorem dX1_init_54 : decode cX1_init 54 = .ok (.invokespecial 39, 3) := dk_183 0 39 (dk_at dksX1_init_2 8 rfl rfl)
theorem dX1_init_57 : decode cX1_init 57 = .ok (.putfield 40, 3) := dk_181 0 40 (dk_at dksX1_init_2 11 rfl rfl)
theorem dX1_init_60 : decode cX1_init 60 = .ok (.aload_n 0, 1) := dk_42 (dk_at dksX1_init_2 14 rfl rfl)
theorem dX1_init_61 : decode cX1_init 61 = .ok (.iconst (-1), 1) := dk_2 (dk_at dksX1_init_2 15 rfl rfl)
theorem dX1_init_62 : decode cX1_init 62 = .ok (.putfield 44, 3) := dk_181 0 44 (dk_at dksX1_init_2 16 rfl rfl)
theorem dX1_init_65 : decode cX1_init 65 = .ok (.aload_n 0, 1) := dk_42 (dk_at dksX1_init_2 19 rfl rfl)
theorem dX1_init_66 : decode cX1_init 66 = .ok (.sipush 600, 3) := dk_17 2 88 (dk_at dksX1_init_2 20 rfl rfl)
theorem dX1_init_69 : decode cX1_init 69 = .ok (.newarray .byte, 2) := dk_188_8 (dk_at dksX1_init_3 0 rfl rfl)
theorem dX1_init_71 : decode cX1_init 71 = .ok (.putfield 48, 3) := dk_181 0 48 (dk_at dksX1_init_3 2 rfl rfl)
theorem dX1_init_74 : decode cX1_init 74 = .ok (.aload_n 0, 1) := dk_42 (dk_at dksX1_init_3 5 rfl rfl)
theorem dX1_init_75 : decode cX1_init 75 = .ok (.iconst 3, 1) := dk_6 (dk_at dksX1_init_3 6 rfl rfl)
theorem dX1_init_76 : decode cX1_init 76 = .ok (.anewarray 37, 3) := dk_189 0 37 (dk_at dksX1_init_3 7 rfl rfl)
theorem dX1_init_79 : decode cX1_init 79 = .ok (.putfield 52, 3) := dk_181 0 52 (dk_at dksX1_init_3 10 rfl rfl)
theorem dX1_init_82 : decode cX1_init 82 = .ok (.aload_n 0, 1) := dk_42 (dk_at dksX1_init_3 13 rfl rfl)
theorem dX1_init_83 : decode cX1_init 83 = .ok (.iconst 3, 1) := dk_6 (dk_at dksX1_init_3 14 rfl rfl)
theorem dX1_init_84 : decode cX1_init 84 = .ok (.newarray .int, 2) := dk_188_10 (dk_at dksX1_init_3 15 rfl rfl)
theorem dX1_init_86 : decode cX1_init 86 = .ok (.putfield 56, 3) := dk_181 0 56 (dk_at dksX1_init_3 17 rfl rfl)
theorem dX1_init_89 : decode cX1_init 89 = .ok (.aload_n 0, 1) := dk_42 (dk_at dksX1_init_3 20 rfl rfl)
theorem dX1_init_90 : decode cX1_init 90 = .ok (.new 59, 3) := dk_187 0 59 (dk_at dksX1_init_3 21 rfl rfl)
theorem dX1_init_93 : decode cX1_init 93 = .ok (.dup, 1) := dk_89 (dk_at dksX1_init_4 0 rfl rfl)
theorem dX1_init_94 : decode cX1_init 94 = .ok (.aload_n 0, 1) := dk_42 (dk_at dksX1_init_4 1 rfl rfl)
theorem dX1_init_95 : decode cX1_init 95 = .ok (.invokespecial 61, 3) := dk_183 0 61 (dk_at dksX1_init_4 2 rfl rfl)
theorem dX1_init_98 : decode cX1_init 98 = .ok (.putfield 64, 3) := dk_181 0 64 (dk_at dksX1_init_4 5 rfl rfl)
theorem dX1_init_101 : decode cX1_init 101 = .ok (.aload_n 0, 1) := dk_42 (dk_at dksX1_init_4 8 rfl rfl)
theorem dX1_init_102 : decode cX1_init 102 = .ok (.new 59, 3) := dk_187 0 59 (dk_at dksX1_init_4 9 rfl rfl)
theorem dX1_init_105 : decode cX1_init 105 = .ok (.dup, 1) := dk_89 (dk_at dksX1_init_4 12 rfl rfl)
theorem dX1_init_106 : decode cX1_init 106 = .ok (.aload_n 0, 1) := dk_42 (dk_at dksX1_init_4 13 rfl rfl)
theorem dX1_init_107 : decode cX1_init 107 = .ok (.invokespecial 61, 3) := dk_183 0 61 (dk_at dksX1_init_4 14 rfl rfl)
theorem dX1_init_110 : decode cX1_init 110 = .ok (.putfield 68, 3) := dk_181 0 68 (dk_at dksX1_init_4 17 rfl rfl)
theorem dX1_init_113 : decode cX1_init 113 = .ok (.aload_n 0, 1) := dk_42 (dk_at dksX1_init_4 20 rfl rfl)
theorem dX1_init_114 : decode cX1_init 114 = .ok (.bipush 12, 2) := dk_16 12 (dk_at dksX1_init_4 21 rfl rfl)
theorem dX1_init_116 : decode cX1_init 116 = .ok (.newarray .int, 2) := dk_188_10 (dk_at dksX1_init_5 0 rfl rfl)
theorem dX1_init_118 : decode cX1_init 118 = .ok (.putfield 71, 3) := dk_181 0 71 (dk_at dksX1_init_5 2 rfl rfl)
theorem dX1_init_121 : decode cX1_init 121 = .ok (.aload_n 0, 1) := dk_42 (dk_at dksX1_init_5 5 rfl rfl)
theorem dX1_init_122 : decode cX1_init 122 = .ok (.bipush 12, 2) := dk_16 12 (dk_at dksX1_init_5 6 rfl rfl)
theorem dX1_init_124 : decode cX1_init 124 = .ok (.newarray .int, 2) := dk_188_10 (dk_at dksX1_init_5 8 rfl rfl)
theorem dX1_init_126 : decode cX1_init 126 = .ok (.putfield 74, 3) := dk_181 0 74 (dk_at dksX1_init_5 10 rfl rfl)
theorem dX1_init_129 : decode cX1_init 129 = .ok (.aload_n 0, 1) := dk_42 (dk_at dksX1_init_5 13 rfl rfl)
theorem dX1_init_130 : decode cX1_init 130 = .ok (.sipush 4096, 3) := dk_17 16 0 (dk_at dksX1_init_5 14 rfl rfl)
theorem dX1_init_133 : decode cX1_init 133 = .ok (.newarray .boolean, 2) := dk_188_4 (dk_at dksX1_init_5 17 rfl rfl)
theorem dX1_init_135 : decode cX1_init 135 = .ok (.putfield 77, 3) := dk_181 0 77 (dk_at dksX1_init_5 19 rfl rfl)
theorem dX1_init_138 : decode cX1_init 138 = .ok (.aload_n 0, 1) := dk_42 (dk_at dksX1_init_5 22 rfl rfl)
theorem dX1_init_139 : decode cX1_init 139 = .ok (.bipush 12, 2) := dk_16 12 (dk_at dksX1_init_6 0 rfl rfl)
theorem dX1_init_141 : decode cX1_init 141 = .ok (.newarray .int, 2) := dk_188_10 (dk_at dksX1_init_6 2 rfl rfl)
theorem dX1_init_143 : decode cX1_init 143 = .ok (.putfield 81, 3) := dk_181 0 81 (dk_at dksX1_init_6 4 rfl rfl)
theorem dX1_init_146 : decode cX1_init 146 = .ok (.aload_n 0, 1) := dk_42 (dk_at dksX1_init_6 7 rfl rfl)
theorem dX1_init_147 : decode cX1_init 147 = .ok (.bipush 12, 2) := dk_16 12 (dk_at dksX1_init_6 8 rfl rfl)
theorem dX1_init_149 : decode cX1_init 149 = .ok (.newarray .int, 2) := dk_188_10 (dk_at dksX1_init_6 10 rfl rfl)
theorem dX1_init_151 : decode cX1_init 151 = .ok (.putfield 84, 3) := dk_181 0 84 (dk_at dksX1_init_6 12 rfl rfl)
theorem dX1_init_154 : decode cX1_init 154 = .ok (.aload_n 0, 1) := dk_42 (dk_at dksX1_init_6 15 rfl rfl)
theorem dX1_init_155 : decode cX1_init 155 = .ok (.sipush 4096, 3) := dk_17 16 0 (dk_at dksX1_init_6 16 rfl rfl)
theorem dX1_init_158 : decode cX1_init 158 = .ok (.newarray .long, 2) := dk_188_11 (dk_at dksX1_init_6 19 rfl rfl)
theorem dX1_init_160 : decode cX1_init 160 = .ok (.putfield 87, 3) := dk_181 0 87 (dk_at dksX1_init_6 21 rfl rfl)
theorem dX1_init_163 : decode cX1_init 163 = .ok (.aload_n 0, 1) := dk_42 (dk_at dksX1_init_7 0 rfl rfl)
theorem dX1_init_164 : decode cX1_init 164 = .ok (.bipush 52, 2) := dk_16 52 (dk_at dksX1_init_7 1 rfl rfl)
theorem dX1_init_166 : decode cX1_init 166 = .ok (.newarray .long, 2) := dk_188_11 (dk_at dksX1_init_7 3 rfl rfl)
theorem dX1_init_168 : decode cX1_init 168 = .ok (.putfield 90, 3) := dk_181 0 90 (dk_at dksX1_init_7 5 rfl rfl)
theorem dX1_init_171 : decode cX1_init 171 = .ok (.aload_n 0, 1) := dk_42 (dk_at dksX1_init_7 8 rfl rfl)
theorem dX1_init_172 : decode cX1_init 172 = .ok (.bipush 52, 2) := dk_16 52 (dk_at dksX1_init_7 9 rfl rfl)
theorem dX1_init_174 : decode cX1_init 174 = .ok (.newarray .long, 2) := dk_188_11 (dk_at dksX1_init_7 11 rfl rfl)
theorem dX1_init_176 : decode cX1_init 176 = .ok (.putfield 93, 3) := dk_181 0 93 (dk_at dksX1_init_7 13 rfl rfl)
theorem dX1_init_179 : decode cX1_init 179 = .ok (.aload_n 0, 1) := dk_42 (dk_at dksX1_init_7 16 rfl rfl)
theorem dX1_init_180 : decode cX1_init 180 = .ok (.sipush 256, 3) := dk_17 1 0 (dk_at dksX1_init_7 17 rfl rfl)
theorem dX1_init_183 : decode cX1_init 183 = .ok (.newarray .int, 2) := dk_188_10 (dk_at dksX1_init_7 20 rfl rfl)
theorem dX1_init_185 : decode cX1_init 185 = .ok (.putfield 96, 3) := dk_181 0 96 (dk_at dksX1_init_8 0 rfl rfl)
theorem dX1_init_188 : decode cX1_init 188 = .ok (.aload_n 0, 1) := dk_42 (dk_at dksX1_init_8 3 rfl rfl)
theorem dX1_init_189 : decode cX1_init 189 = .ok (.invokevirtual 99, 3) := dk_182 0 99 (dk_at dksX1_init_8 4 rfl rfl)
theorem dX1_init_192 : decode cX1_init 192 = .ok (.return_, 1) := dk_177 (dk_at dksX1_init_8 7 rfl rfl)
abbrev cX1_begins : ByteArray := prog_1_method_9_code
def yX1_begins : MethodName := ⟨RX1, "begins", "()V"⟩
def dkwX1_begins_4 : List UInt8 := [187, 0, 16, 89, 183, 0, 18, 181, 0, 19, 42, 3, 181, 0, 136, 177]
abbrev dktX1_begins_4 : List UInt8 := dkwX1_begins_4 ++ []
def dkwX1_begins_3 : List UInt8 := [182, 0, 128, 80, 132, 1, 1, 167, 255, 233, 42, 42, 180, 0, 12, 182, 0, 132, 181, 0, 29, 42]
abbrev dktX1_begins_3 : List UInt8 := dkwX1_begins_3 ++ dktX1_begins_4
def dkwX1_begins_2 : List UInt8 := [180, 0, 127, 181, 0, 117, 3, 60, 27, 16, 52, 162, 0, 23, 42, 180, 0, 33, 27, 42, 180, 0, 12, 27]
abbrev dktX1_begins_2 : List UInt8 := dkwX1_begins_2 ++ dktX1_begins_3
def dkwX1_begins_1 : List UInt8 := [42, 180, 0, 40, 42, 180, 0, 12, 180, 0, 123, 181, 0, 126, 42, 180, 0, 40, 42, 180, 0, 12]
abbrev dktX1_begins_1 : List UInt8 := dkwX1_begins_1 ++ dktX1_begins_2
def dkwX1_begins_0 : List UInt8 := [3, 60, 27, 16, 12, 162, 0, 19, 42, 180, 0, 40, 180, 0, 120, 27, 27, 79, 132, 1, 1, 167, 255, 237]
abbrev dktX1_begins_0 : List UInt8 := dkwX1_begins_0 ++ dktX1_begins_1
theorem dksX1_begins_0 : cX1_begins.data.toList.drop 0 = dktX1_begins_0 := by decide +kernel
theorem dksX1_begins_1 : cX1_begins.data.toList.drop 24 = dktX1_begins_1 := dk_seg dksX1_begins_0 24 rfl rfl
theorem dksX1_begins_2 : cX1_begins.data.toList.drop 46 = dktX1_begins_2 := dk_seg dksX1_begins_1 22 rfl rfl
theorem dksX1_begins_3 : cX1_begins.data.toList.drop 70 = dktX1_begins_3 := dk_seg dksX1_begins_2 24 rfl rfl
theorem dksX1_begins_4 : cX1_begins.data.toList.drop 92 = dktX1_begins_4 := dk_seg dksX1_begins_3 22 rfl rfl
theorem dX1_begins_0 : decode cX1_begins 0 = .ok (.iconst 0, 1) := dk_3 (dk_at dksX1_begins_0 0 rfl rfl)
theorem dX1_begins_1 : decode cX1_begins 1 = .ok (.istore_n 1, 1) := dk_60 (dk_at dksX1_begins_0 1 rfl rfl)
theorem dX1_begins_2 : decode cX1_begins 2 = .ok (.iload_n 1, 1) := dk_27 (dk_at dksX1_begins_0 2 rfl rfl)
theorem dX1_begins_3 : decode cX1_begins 3 = .ok (.bipush 12, 2) := dk_16 12 (dk_at dksX1_begins_0 3 rfl rfl)
theorem dX1_begins_5 : decode cX1_begins 5 = .ok (.if_icmp .ge 19, 3) := dk_162 0 19 (dk_at dksX1_begins_0 5 rfl rfl)
theorem dX1_begins_8 : decode cX1_begins 8 = .ok (.aload_n 0, 1) := dk_42 (dk_at dksX1_begins_0 8 rfl rfl)
theorem dX1_begins_9 : decode cX1_begins 9 = .ok (.getfield 40, 3) := dk_180 0 40 (dk_at dksX1_begins_0 9 rfl rfl)
theorem dX1_begins_12 : decode cX1_begins 12 = .ok (.getfield 120, 3) := dk_180 0 120 (dk_at dksX1_begins_0 12 rfl rfl)
theorem dX1_begins_15 : decode cX1_begins 15 = .ok (.iload_n 1, 1) := dk_27 (dk_at dksX1_begins_0 15 rfl rfl)
theorem dX1_begins_16 : decode cX1_begins 16 = .ok (.iload_n 1, 1) := dk_27 (dk_at dksX1_begins_0 16 rfl rfl)
theorem dX1_begins_17 : decode cX1_begins 17 = .ok (.iastore, 1) := dk_79 (dk_at dksX1_begins_0 17 rfl rfl)
theorem dX1_begins_18 : decode cX1_begins 18 = .ok (.iinc 1 1, 3) := dk_132 1 1 (dk_at dksX1_begins_0 18 rfl rfl)
theorem dX1_begins_21 : decode cX1_begins 21 = .ok (.goto (-19), 3) := dk_167 255 237 (dk_at dksX1_begins_0 21 rfl rfl)
theorem dX1_begins_24 : decode cX1_begins 24 = .ok (.aload_n 0, 1) := dk_42 (dk_at dksX1_begins_1 0 rfl rfl)
theorem dX1_begins_25 : decode cX1_begins 25 = .ok (.getfield 40, 3) := dk_180 0 40 (dk_at dksX1_begins_1 1 rfl rfl)
theorem dX1_begins_28 : decode cX1_begins 28 = .ok (.aload_n 0, 1) := dk_42 (dk_at dksX1_begins_1 4 rfl rfl)
theorem dX1_begins_29 : decode cX1_begins 29 = .ok (.getfield 12, 3) := dk_180 0 12 (dk_at dksX1_begins_1 5 rfl rfl)
theorem dX1_begins_32 : decode cX1_begins 32 = .ok (.getfield 123, 3) := dk_180 0 123 (dk_at dksX1_begins_1 8 rfl rfl)
theorem dX1_begins_35 : decode cX1_begins 35 = .ok (.putfield 126, 3) := dk_181 0 126 (dk_at dksX1_begins_1 11 rfl rfl)
theorem dX1_begins_38 : decode cX1_begins 38 = .ok (.aload_n 0, 1) := dk_42 (dk_at dksX1_begins_1 14 rfl rfl)
theorem dX1_begins_39 : decode cX1_begins 39 = .ok (.getfield 40, 3) := dk_180 0 40 (dk_at dksX1_begins_1 15 rfl rfl)
theorem dX1_begins_42 : decode cX1_begins 42 = .ok (.aload_n 0, 1) := dk_42 (dk_at dksX1_begins_1 18 rfl rfl)
theorem dX1_begins_43 : decode cX1_begins 43 = .ok (.getfield 12, 3) := dk_180 0 12 (dk_at dksX1_begins_1 19 rfl rfl)
theorem dX1_begins_46 : decode cX1_begins 46 = .ok (.getfield 127, 3) := dk_180 0 127 (dk_at dksX1_begins_2 0 rfl rfl)
theorem dX1_begins_49 : decode cX1_begins 49 = .ok (.putfield 117, 3) := dk_181 0 117 (dk_at dksX1_begins_2 3 rfl rfl)
theorem dX1_begins_52 : decode cX1_begins 52 = .ok (.iconst 0, 1) := dk_3 (dk_at dksX1_begins_2 6 rfl rfl)
theorem dX1_begins_53 : decode cX1_begins 53 = .ok (.istore_n 1, 1) := dk_60 (dk_at dksX1_begins_2 7 rfl rfl)
theorem dX1_begins_54 : decode cX1_begins 54 = .ok (.iload_n 1, 1) := dk_27 (dk_at dksX1_begins_2 8 rfl rfl)
theorem dX1_begins_55 : decode cX1_begins 55 = .ok (.bipush 52, 2) := dk_16 52 (dk_at dksX1_begins_2 9 rfl rfl)
theorem dX1_begins_57 : decode cX1_begins 57 = .ok (.if_icmp .ge 23, 3) := dk_162 0 23 (dk_at dksX1_begins_2 11 rfl rfl)
theorem dX1_begins_60 : decode cX1_begins 60 = .ok (.aload_n 0, 1) := dk_42 (dk_at dksX1_begins_2 14 rfl rfl)
theorem dX1_begins_61 : decode cX1_begins 61 = .ok (.getfield 33, 3) := dk_180 0 33 (dk_at dksX1_begins_2 15 rfl rfl)
theorem dX1_begins_64 : decode cX1_begins 64 = .ok (.iload_n 1, 1) := dk_27 (dk_at dksX1_begins_2 18 rfl rfl)
theorem dX1_begins_65 : decode cX1_begins 65 = .ok (.aload_n 0, 1) := dk_42 (dk_at dksX1_begins_2 19 rfl rfl)
theorem dX1_begins_66 : decode cX1_begins 66 = .ok (.getfield 12, 3) := dk_180 0 12 (dk_at dksX1_begins_2 20 rfl rfl)
theorem dX1_begins_69 : decode cX1_begins 69 = .ok (.iload_n 1, 1) := dk_27 (dk_at dksX1_begins_2 23 rfl rfl)
theorem dX1_begins_70 : decode cX1_begins 70 = .ok (.invokevirtual 128, 3) := dk_182 0 128 (dk_at dksX1_begins_3 0 rfl rfl)
theorem dX1_begins_73 : decode cX1_begins 73 = .ok (.lastore, 1) := dk_80 (dk_at dksX1_begins_3 3 rfl rfl)
theorem dX1_begins_74 : decode cX1_begins 74 = .ok (.iinc 1 1, 3) := dk_132 1 1 (dk_at dksX1_begins_3 4 rfl rfl)
theorem dX1_begins_77 : decode cX1_begins 77 = .ok (.goto (-23), 3) := dk_167 255 233 (dk_at dksX1_begins_3 7 rfl rfl)
theorem dX1_begins_80 : decode cX1_begins 80 = .ok (.aload_n 0, 1) := dk_42 (dk_at dksX1_begins_3 10 rfl rfl)
theorem dX1_begins_81 : decode cX1_begins 81 = .ok (.aload_n 0, 1) := dk_42 (dk_at dksX1_begins_3 11 rfl rfl)
theorem dX1_begins_82 : decode cX1_begins 82 = .ok (.getfield 12, 3) := dk_180 0 12 (dk_at dksX1_begins_3 12 rfl rfl)
theorem dX1_begins_85 : decode cX1_begins 85 = .ok (.invokevirtual 132, 3) := dk_182 0 132 (dk_at dksX1_begins_3 15 rfl rfl)
theorem dX1_begins_88 : decode cX1_begins 88 = .ok (.putfield 29, 3) := dk_181 0 29 (dk_at dksX1_begins_3 18 rfl rfl)
theorem dX1_begins_91 : decode cX1_begins 91 = .ok (.aload_n 0, 1) := dk_42 (dk_at dksX1_begins_3 21 rfl rfl)
theorem dX1_begins_92 : decode cX1_begins 92 = .ok (.new 16, 3) := dk_187 0 16 (dk_at dksX1_begins_4 0 rfl rfl)
theorem dX1_begins_95 : decode cX1_begins 95 = .ok (.dup, 1) := dk_89 (dk_at dksX1_begins_4 3 rfl rfl)
theorem dX1_begins_96 : decode cX1_begins 96 = .ok (.invokespecial 18, 3) := dk_183 0 18 (dk_at dksX1_begins_4 4 rfl rfl)
theorem dX1_begins_99 : decode cX1_begins 99 = .ok (.putfield 19, 3) := dk_181 0 19 (dk_at dksX1_begins_4 7 rfl rfl)
theorem dX1_begins_102 : decode cX1_begins 102 = .ok (.aload_n 0, 1) := dk_42 (dk_at dksX1_begins_4 10 rfl rfl)
theorem dX1_begins_103 : decode cX1_begins 103 = .ok (.iconst 0, 1) := dk_3 (dk_at dksX1_begins_4 11 rfl rfl)
theorem dX1_begins_104 : decode cX1_begins 104 = .ok (.putfield 136, 3) := dk_181 0 136 (dk_at dksX1_begins_4 12 rfl rfl)
theorem dX1_begins_107 : decode cX1_begins 107 = .ok (.return_, 1) := dk_177 (dk_at dksX1_begins_4 15 rfl rfl)
abbrev cX1_feed : ByteArray := prog_1_method_10_code
def yX1_feed : MethodName := ⟨RX1, "feed", "(IIIII)I"⟩
def dkwX1_feed_2 : List UInt8 := [172]
abbrev dktX1_feed_2 : List UInt8 := dkwX1_feed_2 ++ []
def dkwX1_feed_1 : List UInt8 := [182, 0, 142, 42, 29, 182, 0, 142, 42, 21, 4, 182, 0, 142, 42, 21, 5, 182, 0, 142, 42, 180, 0, 139]
abbrev dktX1_feed_1 : List UInt8 := dkwX1_feed_1 ++ dktX1_feed_2
def dkwX1_feed_0 : List UInt8 := [42, 180, 0, 139, 16, 20, 96, 17, 2, 88, 164, 0, 5, 2, 172, 42, 27, 182, 0, 142, 42, 28]
abbrev dktX1_feed_0 : List UInt8 := dkwX1_feed_0 ++ dktX1_feed_1
theorem dksX1_feed_0 : cX1_feed.data.toList.drop 0 = dktX1_feed_0 := by decide +kernel
theorem dksX1_feed_1 : cX1_feed.data.toList.drop 22 = dktX1_feed_1 := dk_seg dksX1_feed_0 22 rfl rfl
theorem dksX1_feed_2 : cX1_feed.data.toList.drop 46 = dktX1_feed_2 := dk_seg dksX1_feed_1 24 rfl rfl
theorem dX1_feed_0 : decode cX1_feed 0 = .ok (.aload_n 0, 1) := dk_42 (dk_at dksX1_feed_0 0 rfl rfl)
theorem dX1_feed_1 : decode cX1_feed 1 = .ok (.getfield 139, 3) := dk_180 0 139 (dk_at dksX1_feed_0 1 rfl rfl)
theorem dX1_feed_4 : decode cX1_feed 4 = .ok (.bipush 20, 2) := dk_16 20 (dk_at dksX1_feed_0 4 rfl rfl)
theorem dX1_feed_6 : decode cX1_feed 6 = .ok (.iadd, 1) := dk_96 (dk_at dksX1_feed_0 6 rfl rfl)
theorem dX1_feed_7 : decode cX1_feed 7 = .ok (.sipush 600, 3) := dk_17 2 88 (dk_at dksX1_feed_0 7 rfl rfl)
theorem dX1_feed_10 : decode cX1_feed 10 = .ok (.if_icmp .le 5, 3) := dk_164 0 5 (dk_at dksX1_feed_0 10 rfl rfl)
theorem dX1_feed_13 : decode cX1_feed 13 = .ok (.iconst (-1), 1) := dk_2 (dk_at dksX1_feed_0 13 rfl rfl)
theorem dX1_feed_14 : decode cX1_feed 14 = .ok (.ireturn, 1) := dk_172 (dk_at dksX1_feed_0 14 rfl rfl)
theorem dX1_feed_15 : decode cX1_feed 15 = .ok (.aload_n 0, 1) := dk_42 (dk_at dksX1_feed_0 15 rfl rfl)
theorem dX1_feed_16 : decode cX1_feed 16 = .ok (.iload_n 1, 1) := dk_27 (dk_at dksX1_feed_0 16 rfl rfl)
theorem dX1_feed_17 : decode cX1_feed 17 = .ok (.invokevirtual 142, 3) := dk_182 0 142 (dk_at dksX1_feed_0 17 rfl rfl)
theorem dX1_feed_20 : decode cX1_feed 20 = .ok (.aload_n 0, 1) := dk_42 (dk_at dksX1_feed_0 20 rfl rfl)
theorem dX1_feed_21 : decode cX1_feed 21 = .ok (.iload_n 2, 1) := dk_28 (dk_at dksX1_feed_0 21 rfl rfl)
theorem dX1_feed_22 : decode cX1_feed 22 = .ok (.invokevirtual 142, 3) := dk_182 0 142 (dk_at dksX1_feed_1 0 rfl rfl)
theorem dX1_feed_25 : decode cX1_feed 25 = .ok (.aload_n 0, 1) := dk_42 (dk_at dksX1_feed_1 3 rfl rfl)
theorem dX1_feed_26 : decode cX1_feed 26 = .ok (.iload_n 3, 1) := dk_29 (dk_at dksX1_feed_1 4 rfl rfl)
theorem dX1_feed_27 : decode cX1_feed 27 = .ok (.invokevirtual 142, 3) := dk_182 0 142 (dk_at dksX1_feed_1 5 rfl rfl)
theorem dX1_feed_30 : decode cX1_feed 30 = .ok (.aload_n 0, 1) := dk_42 (dk_at dksX1_feed_1 8 rfl rfl)
theorem dX1_feed_31 : decode cX1_feed 31 = .ok (.iload 4, 2) := dk_21 4 (dk_at dksX1_feed_1 9 rfl rfl)
theorem dX1_feed_33 : decode cX1_feed 33 = .ok (.invokevirtual 142, 3) := dk_182 0 142 (dk_at dksX1_feed_1 11 rfl rfl)
theorem dX1_feed_36 : decode cX1_feed 36 = .ok (.aload_n 0, 1) := dk_42 (dk_at dksX1_feed_1 14 rfl rfl)
theorem dX1_feed_37 : decode cX1_feed 37 = .ok (.iload 5, 2) := dk_21 5 (dk_at dksX1_feed_1 15 rfl rfl)
theorem dX1_feed_39 : decode cX1_feed 39 = .ok (.invokevirtual 142, 3) := dk_182 0 142 (dk_at dksX1_feed_1 17 rfl rfl)
theorem dX1_feed_42 : decode cX1_feed 42 = .ok (.aload_n 0, 1) := dk_42 (dk_at dksX1_feed_1 20 rfl rfl)
theorem dX1_feed_43 : decode cX1_feed 43 = .ok (.getfield 139, 3) := dk_180 0 139 (dk_at dksX1_feed_1 21 rfl rfl)
theorem dX1_feed_46 : decode cX1_feed 46 = .ok (.ireturn, 1) := dk_172 (dk_at dksX1_feed_2 0 rfl rfl)
abbrev cX1_put : ByteArray := prog_1_method_11_code
def yX1_put : MethodName := ⟨RX1, "put", "(I)V"⟩
def dkwX1_put_1 : List UInt8 := [180, 0, 139, 4, 96, 181, 0, 139, 132, 2, 248, 167, 255, 226, 177]
abbrev dktX1_put_1 : List UInt8 := dkwX1_put_1 ++ []
def dkwX1_put_0 : List UInt8 := [16, 24, 61, 28, 155, 0, 32, 42, 180, 0, 48, 42, 180, 0, 139, 27, 28, 122, 145, 84, 42, 89]
abbrev dktX1_put_0 : List UInt8 := dkwX1_put_0 ++ dktX1_put_1
theorem dksX1_put_0 : cX1_put.data.toList.drop 0 = dktX1_put_0 := by decide +kernel
theorem dksX1_put_1 : cX1_put.data.toList.drop 22 = dktX1_put_1 := dk_seg dksX1_put_0 22 rfl rfl
theorem dX1_put_0 : decode cX1_put 0 = .ok (.bipush 24, 2) := dk_16 24 (dk_at dksX1_put_0 0 rfl rfl)
theorem dX1_put_2 : decode cX1_put 2 = .ok (.istore_n 2, 1) := dk_61 (dk_at dksX1_put_0 2 rfl rfl)
theorem dX1_put_3 : decode cX1_put 3 = .ok (.iload_n 2, 1) := dk_28 (dk_at dksX1_put_0 3 rfl rfl)
theorem dX1_put_4 : decode cX1_put 4 = .ok (.ifCond .lt 32, 3) := dk_155 0 32 (dk_at dksX1_put_0 4 rfl rfl)
theorem dX1_put_7 : decode cX1_put 7 = .ok (.aload_n 0, 1) := dk_42 (dk_at dksX1_put_0 7 rfl rfl)
theorem dX1_put_8 : decode cX1_put 8 = .ok (.getfield 48, 3) := dk_180 0 48 (dk_at dksX1_put_0 8 rfl rfl)
theorem dX1_put_11 : decode cX1_put 11 = .ok (.aload_n 0, 1) := dk_42 (dk_at dksX1_put_0 11 rfl rfl)
theorem dX1_put_12 : decode cX1_put 12 = .ok (.getfield 139, 3) := dk_180 0 139 (dk_at dksX1_put_0 12 rfl rfl)
theorem dX1_put_15 : decode cX1_put 15 = .ok (.iload_n 1, 1) := dk_27 (dk_at dksX1_put_0 15 rfl rfl)
theorem dX1_put_16 : decode cX1_put 16 = .ok (.iload_n 2, 1) := dk_28 (dk_at dksX1_put_0 16 rfl rfl)
theorem dX1_put_17 : decode cX1_put 17 = .ok (.ishr, 1) := dk_122 (dk_at dksX1_put_0 17 rfl rfl)
theorem dX1_put_18 : decode cX1_put 18 = .ok (.i2b, 1) := dk_145 (dk_at dksX1_put_0 18 rfl rfl)
theorem dX1_put_19 : decode cX1_put 19 = .ok (.bastore, 1) := dk_84 (dk_at dksX1_put_0 19 rfl rfl)
theorem dX1_put_20 : decode cX1_put 20 = .ok (.aload_n 0, 1) := dk_42 (dk_at dksX1_put_0 20 rfl rfl)
theorem dX1_put_21 : decode cX1_put 21 = .ok (.dup, 1) := dk_89 (dk_at dksX1_put_0 21 rfl rfl)
theorem dX1_put_22 : decode cX1_put 22 = .ok (.getfield 139, 3) := dk_180 0 139 (dk_at dksX1_put_1 0 rfl rfl)
theorem dX1_put_25 : decode cX1_put 25 = .ok (.iconst 1, 1) := dk_4 (dk_at dksX1_put_1 3 rfl rfl)
theorem dX1_put_26 : decode cX1_put 26 = .ok (.iadd, 1) := dk_96 (dk_at dksX1_put_1 4 rfl rfl)
theorem dX1_put_27 : decode cX1_put 27 = .ok (.putfield 139, 3) := dk_181 0 139 (dk_at dksX1_put_1 5 rfl rfl)
theorem dX1_put_30 : decode cX1_put 30 = .ok (.iinc 2 (-8), 3) := dk_132 2 248 (dk_at dksX1_put_1 8 rfl rfl)
theorem dX1_put_33 : decode cX1_put 33 = .ok (.goto (-30), 3) := dk_167 255 226 (dk_at dksX1_put_1 11 rfl rfl)
theorem dX1_put_36 : decode cX1_put 36 = .ok (.return_, 1) := dk_177 (dk_at dksX1_put_1 14 rfl rfl)
abbrev cX1_fault : ByteArray := prog_1_method_16_code
def yX1_fault : MethodName := ⟨RX1, "fault", "()I"⟩
theorem dX1_fault_0 : decode cX1_fault 0 = .ok (.aload_n 0, 1) := by decide +kernel
theorem dX1_fault_1 : decode cX1_fault 1 = .ok (.getfield 44, 3) := by decide +kernel
theorem dX1_fault_4 : decode cX1_fault 4 = .ok (.ireturn, 1) := by decide +kernel
abbrev cX1_truths : ByteArray := prog_1_method_23_code
def yX1_truths : MethodName := ⟨RX1, "truths", "()I"⟩
def dkwX1_truths_1 : List UInt8 := [4, 28, 120, 167, 0, 4, 3, 128, 60, 132, 2, 1, 167, 255, 224, 27, 172]
abbrev dktX1_truths_1 : List UInt8 := dkwX1_truths_1 ++ []
def dkwX1_truths_0 : List UInt8 := [3, 60, 3, 61, 28, 42, 180, 0, 12, 180, 0, 108, 162, 0, 27, 27, 42, 28, 182, 0, 218, 153, 0, 9]
abbrev dktX1_truths_0 : List UInt8 := dkwX1_truths_0 ++ dktX1_truths_1
theorem dksX1_truths_0 : cX1_truths.data.toList.drop 0 = dktX1_truths_0 := by decide +kernel
theorem dksX1_truths_1 : cX1_truths.data.toList.drop 24 = dktX1_truths_1 := dk_seg dksX1_truths_0 24 rfl rfl
theorem dX1_truths_0 : decode cX1_truths 0 = .ok (.iconst 0, 1) := dk_3 (dk_at dksX1_truths_0 0 rfl rfl)
theorem dX1_truths_1 : decode cX1_truths 1 = .ok (.istore_n 1, 1) := dk_60 (dk_at dksX1_truths_0 1 rfl rfl)
theorem dX1_truths_2 : decode cX1_truths 2 = .ok (.iconst 0, 1) := dk_3 (dk_at dksX1_truths_0 2 rfl rfl)
theorem dX1_truths_3 : decode cX1_truths 3 = .ok (.istore_n 2, 1) := dk_61 (dk_at dksX1_truths_0 3 rfl rfl)
theorem dX1_truths_4 : decode cX1_truths 4 = .ok (.iload_n 2, 1) := dk_28 (dk_at dksX1_truths_0 4 rfl rfl)
theorem dX1_truths_5 : decode cX1_truths 5 = .ok (.aload_n 0, 1) := dk_42 (dk_at dksX1_truths_0 5 rfl rfl)
theorem dX1_truths_6 : decode cX1_truths 6 = .ok (.getfield 12, 3) := dk_180 0 12 (dk_at dksX1_truths_0 6 rfl rfl)
theorem dX1_truths_9 : decode cX1_truths 9 = .ok (.getfield 108, 3) := dk_180 0 108 (dk_at dksX1_truths_0 9 rfl rfl)
theorem dX1_truths_12 : decode cX1_truths 12 = .ok (.if_icmp .ge 27, 3) := dk_162 0 27 (dk_at dksX1_truths_0 12 rfl rfl)
theorem dX1_truths_15 : decode cX1_truths 15 = .ok (.iload_n 1, 1) := dk_27 (dk_at dksX1_truths_0 15 rfl rfl)
theorem dX1_truths_16 : decode cX1_truths 16 = .ok (.aload_n 0, 1) := dk_42 (dk_at dksX1_truths_0 16 rfl rfl)
theorem dX1_truths_17 : decode cX1_truths 17 = .ok (.iload_n 2, 1) := dk_28 (dk_at dksX1_truths_0 17 rfl rfl)
theorem dX1_truths_18 : decode cX1_truths 18 = .ok (.invokevirtual 218, 3) := dk_182 0 218 (dk_at dksX1_truths_0 18 rfl rfl)
theorem dX1_truths_21 : decode cX1_truths 21 = .ok (.ifCond .eq 9, 3) := dk_153 0 9 (dk_at dksX1_truths_0 21 rfl rfl)
theorem dX1_truths_24 : decode cX1_truths 24 = .ok (.iconst 1, 1) := dk_4 (dk_at dksX1_truths_1 0 rfl rfl)
theorem dX1_truths_25 : decode cX1_truths 25 = .ok (.iload_n 2, 1) := dk_28 (dk_at dksX1_truths_1 1 rfl rfl)
theorem dX1_truths_26 : decode cX1_truths 26 = .ok (.ishl, 1) := dk_120 (dk_at dksX1_truths_1 2 rfl rfl)
theorem dX1_truths_27 : decode cX1_truths 27 = .ok (.goto 4, 3) := dk_167 0 4 (dk_at dksX1_truths_1 3 rfl rfl)
theorem dX1_truths_30 : decode cX1_truths 30 = .ok (.iconst 0, 1) := dk_3 (dk_at dksX1_truths_1 6 rfl rfl)
theorem dX1_truths_31 : decode cX1_truths 31 = .ok (.ior, 1) := dk_128 (dk_at dksX1_truths_1 7 rfl rfl)
theorem dX1_truths_32 : decode cX1_truths 32 = .ok (.istore_n 1, 1) := dk_60 (dk_at dksX1_truths_1 8 rfl rfl)
theorem dX1_truths_33 : decode cX1_truths 33 = .ok (.iinc 2 1, 3) := dk_132 2 1 (dk_at dksX1_truths_1 9 rfl rfl)
theorem dX1_truths_36 : decode cX1_truths 36 = .ok (.goto (-32), 3) := dk_167 255 224 (dk_at dksX1_truths_1 12 rfl rfl)
theorem dX1_truths_39 : decode cX1_truths 39 = .ok (.iload_n 1, 1) := dk_27 (dk_at dksX1_truths_1 15 rfl rfl)
theorem dX1_truths_40 : decode cX1_truths 40 = .ok (.ireturn, 1) := dk_172 (dk_at dksX1_truths_1 16 rfl rfl)
abbrev cX1_isTrue : ByteArray := prog_1_method_8_code
def yX1_isTrue : MethodName := ⟨RX1, "isTrue", "(I)Z"⟩
def dkwX1_isTrue_1 : List UInt8 := [4, 167, 0, 4, 3, 172]
abbrev dktX1_isTrue_1 : List UInt8 := dkwX1_isTrue_1 ++ []
def dkwX1_isTrue_0 : List UInt8 := [42, 180, 0, 12, 180, 0, 114, 27, 47, 42, 180, 0, 40, 180, 0, 117, 123, 10, 127, 10, 148, 154, 0, 7]
abbrev dktX1_isTrue_0 : List UInt8 := dkwX1_isTrue_0 ++ dktX1_isTrue_1
theorem dksX1_isTrue_0 : cX1_isTrue.data.toList.drop 0 = dktX1_isTrue_0 := by decide +kernel
theorem dksX1_isTrue_1 : cX1_isTrue.data.toList.drop 24 = dktX1_isTrue_1 := dk_seg dksX1_isTrue_0 24 rfl rfl
theorem dX1_isTrue_0 : decode cX1_isTrue 0 = .ok (.aload_n 0, 1) := dk_42 (dk_at dksX1_isTrue_0 0 rfl rfl)
theorem dX1_isTrue_1 : decode cX1_isTrue 1 = .ok (.getfield 12, 3) := dk_180 0 12 (dk_at dksX1_isTrue_0 1 rfl rfl)
theorem dX1_isTrue_4 : decode cX1_isTrue 4 = .ok (.getfield 114, 3) := dk_180 0 114 (dk_at dksX1_isTrue_0 4 rfl rfl)
theorem dX1_isTrue_7 : decode cX1_isTrue 7 = .ok (.iload_n 1, 1) := dk_27 (dk_at dksX1_isTrue_0 7 rfl rfl)
theorem dX1_isTrue_8 : decode cX1_isTrue 8 = .ok (.laload, 1) := dk_47 (dk_at dksX1_isTrue_0 8 rfl rfl)
theorem dX1_isTrue_9 : decode cX1_isTrue 9 = .ok (.aload_n 0, 1) := dk_42 (dk_at dksX1_isTrue_0 9 rfl rfl)
theorem dX1_isTrue_10 : decode cX1_isTrue 10 = .ok (.getfield 40, 3) := dk_180 0 40 (dk_at dksX1_isTrue_0 10 rfl rfl)
theorem dX1_isTrue_13 : decode cX1_isTrue 13 = .ok (.getfield 117, 3) := dk_180 0 117 (dk_at dksX1_isTrue_0 13 rfl rfl)
theorem dX1_isTrue_16 : decode cX1_isTrue 16 = .ok (.lshr, 1) := dk_123 (dk_at dksX1_isTrue_0 16 rfl rfl)
theorem dX1_isTrue_17 : decode cX1_isTrue 17 = .ok (.lconst 1, 1) := dk_10 (dk_at dksX1_isTrue_0 17 rfl rfl)
theorem dX1_isTrue_18 : decode cX1_isTrue 18 = .ok (.land, 1) := dk_127 (dk_at dksX1_isTrue_0 18 rfl rfl)
theorem dX1_isTrue_19 : decode cX1_isTrue 19 = .ok (.lconst 1, 1) := dk_10 (dk_at dksX1_isTrue_0 19 rfl rfl)
theorem dX1_isTrue_20 : decode cX1_isTrue 20 = .ok (.lcmp, 1) := dk_148 (dk_at dksX1_isTrue_0 20 rfl rfl)
theorem dX1_isTrue_21 : decode cX1_isTrue 21 = .ok (.ifCond .ne 7, 3) := dk_154 0 7 (dk_at dksX1_isTrue_0 21 rfl rfl)
theorem dX1_isTrue_24 : decode cX1_isTrue 24 = .ok (.iconst 1, 1) := dk_4 (dk_at dksX1_isTrue_1 0 rfl rfl)
theorem dX1_isTrue_25 : decode cX1_isTrue 25 = .ok (.goto 4, 3) := dk_167 0 4 (dk_at dksX1_isTrue_1 1 rfl rfl)
theorem dX1_isTrue_28 : decode cX1_isTrue 28 = .ok (.iconst 0, 1) := dk_3 (dk_at dksX1_isTrue_1 4 rfl rfl)
theorem dX1_isTrue_29 : decode cX1_isTrue 29 = .ok (.ireturn, 1) := dk_172 (dk_at dksX1_isTrue_1 5 rfl rfl)
abbrev cX1_dull : ByteArray := prog_1_method_24_code
def yX1_dull : MethodName := ⟨RX1, "dull", "()I"⟩
def dkwX1_dull_2 : List UInt8 := [132, 2, 1, 167, 255, 210, 27, 172]
abbrev dktX1_dull_2 : List UInt8 := dkwX1_dull_2 ++ []
def dkwX1_dull_1 : List UInt8 := [47, 42, 180, 0, 33, 16, 51, 47, 127, 9, 148, 153, 0, 9, 4, 28, 120, 167, 0, 4, 3, 128, 60]
abbrev dktX1_dull_1 : List UInt8 := dkwX1_dull_1 ++ dktX1_dull_2
def dkwX1_dull_0 : List UInt8 := [3, 60, 3, 61, 28, 42, 180, 0, 12, 180, 0, 108, 162, 0, 41, 27, 42, 180, 0, 12, 180, 0, 114, 28]
abbrev dktX1_dull_0 : List UInt8 := dkwX1_dull_0 ++ dktX1_dull_1
theorem dksX1_dull_0 : cX1_dull.data.toList.drop 0 = dktX1_dull_0 := by decide +kernel
theorem dksX1_dull_1 : cX1_dull.data.toList.drop 24 = dktX1_dull_1 := dk_seg dksX1_dull_0 24 rfl rfl
theorem dksX1_dull_2 : cX1_dull.data.toList.drop 47 = dktX1_dull_2 := dk_seg dksX1_dull_1 23 rfl rfl
theorem dX1_dull_0 : decode cX1_dull 0 = .ok (.iconst 0, 1) := dk_3 (dk_at dksX1_dull_0 0 rfl rfl)
theorem dX1_dull_1 : decode cX1_dull 1 = .ok (.istore_n 1, 1) := dk_60 (dk_at dksX1_dull_0 1 rfl rfl)
theorem dX1_dull_2 : decode cX1_dull 2 = .ok (.iconst 0, 1) := dk_3 (dk_at dksX1_dull_0 2 rfl rfl)
theorem dX1_dull_3 : decode cX1_dull 3 = .ok (.istore_n 2, 1) := dk_61 (dk_at dksX1_dull_0 3 rfl rfl)
theorem dX1_dull_4 : decode cX1_dull 4 = .ok (.iload_n 2, 1) := dk_28 (dk_at dksX1_dull_0 4 rfl rfl)
theorem dX1_dull_5 : decode cX1_dull 5 = .ok (.aload_n 0, 1) := dk_42 (dk_at dksX1_dull_0 5 rfl rfl)
theorem dX1_dull_6 : decode cX1_dull 6 = .ok (.getfield 12, 3) := dk_180 0 12 (dk_at dksX1_dull_0 6 rfl rfl)
theorem dX1_dull_9 : decode cX1_dull 9 = .ok (.getfield 108, 3) := dk_180 0 108 (dk_at dksX1_dull_0 9 rfl rfl)
theorem dX1_dull_12 : decode cX1_dull 12 = .ok (.if_icmp .ge 41, 3) := dk_162 0 41 (dk_at dksX1_dull_0 12 rfl rfl)
theorem dX1_dull_15 : decode cX1_dull 15 = .ok (.iload_n 1, 1) := dk_27 (dk_at dksX1_dull_0 15 rfl rfl)
theorem dX1_dull_16 : decode cX1_dull 16 = .ok (.aload_n 0, 1) := dk_42 (dk_at dksX1_dull_0 16 rfl rfl)
theorem dX1_dull_17 : decode cX1_dull 17 = .ok (.getfield 12, 3) := dk_180 0 12 (dk_at dksX1_dull_0 17 rfl rfl)
theorem dX1_dull_20 : decode cX1_dull 20 = .ok (.getfield 114, 3) := dk_180 0 114 (dk_at dksX1_dull_0 20 rfl rfl)
theorem dX1_dull_23 : decode cX1_dull 23 = .ok (.iload_n 2, 1) := dk_28 (dk_at dksX1_dull_0 23 rfl rfl)
theorem dX1_dull_24 : decode cX1_dull 24 = .ok (.laload, 1) := dk_47 (dk_at dksX1_dull_1 0 rfl rfl)
theorem dX1_dull_25 : decode cX1_dull 25 = .ok (.aload_n 0, 1) := dk_42 (dk_at dksX1_dull_1 1 rfl rfl)
theorem dX1_dull_26 : decode cX1_dull 26 = .ok (.getfield 33, 3) := dk_180 0 33 (dk_at dksX1_dull_1 2 rfl rfl)
theorem dX1_dull_29 : decode cX1_dull 29 = .ok (.bipush 51, 2) := dk_16 51 (dk_at dksX1_dull_1 5 rfl rfl)
theorem dX1_dull_31 : decode cX1_dull 31 = .ok (.laload, 1) := dk_47 (dk_at dksX1_dull_1 7 rfl rfl)
theorem dX1_dull_32 : decode cX1_dull 32 = .ok (.land, 1) := dk_127 (dk_at dksX1_dull_1 8 rfl rfl)
theorem dX1_dull_33 : decode cX1_dull 33 = .ok (.lconst 0, 1) := dk_9 (dk_at dksX1_dull_1 9 rfl rfl)
theorem dX1_dull_34 : decode cX1_dull 34 = .ok (.lcmp, 1) := dk_148 (dk_at dksX1_dull_1 10 rfl rfl)
theorem dX1_dull_35 : decode cX1_dull 35 = .ok (.ifCond .eq 9, 3) := dk_153 0 9 (dk_at dksX1_dull_1 11 rfl rfl)
theorem dX1_dull_38 : decode cX1_dull 38 = .ok (.iconst 1, 1) := dk_4 (dk_at dksX1_dull_1 14 rfl rfl)
theorem dX1_dull_39 : decode cX1_dull 39 = .ok (.iload_n 2, 1) := dk_28 (dk_at dksX1_dull_1 15 rfl rfl)
theorem dX1_dull_40 : decode cX1_dull 40 = .ok (.ishl, 1) := dk_120 (dk_at dksX1_dull_1 16 rfl rfl)
theorem dX1_dull_41 : decode cX1_dull 41 = .ok (.goto 4, 3) := dk_167 0 4 (dk_at dksX1_dull_1 17 rfl rfl)
theorem dX1_dull_44 : decode cX1_dull 44 = .ok (.iconst 0, 1) := dk_3 (dk_at dksX1_dull_1 20 rfl rfl)
theorem dX1_dull_45 : decode cX1_dull 45 = .ok (.ior, 1) := dk_128 (dk_at dksX1_dull_1 21 rfl rfl)
theorem dX1_dull_46 : decode cX1_dull 46 = .ok (.istore_n 1, 1) := dk_60 (dk_at dksX1_dull_1 22 rfl rfl)
theorem dX1_dull_47 : decode cX1_dull 47 = .ok (.iinc 2 1, 3) := dk_132 2 1 (dk_at dksX1_dull_2 0 rfl rfl)
theorem dX1_dull_50 : decode cX1_dull 50 = .ok (.goto (-46), 3) := dk_167 255 210 (dk_at dksX1_dull_2 3 rfl rfl)
theorem dX1_dull_53 : decode cX1_dull 53 = .ok (.iload_n 1, 1) := dk_27 (dk_at dksX1_dull_2 6 rfl rfl)
theorem dX1_dull_54 : decode cX1_dull 54 = .ok (.ireturn, 1) := dk_172 (dk_at dksX1_dull_2 7 rfl rfl)
abbrev cX1_order : ByteArray := prog_1_method_25_code
def yX1_order : MethodName := ⟨RX1, "order", "(J)I"⟩
def dkwX1_order_5 : List UInt8 := [42, 180, 0, 12, 180, 0, 108, 184, 0, 223, 4, 172]
abbrev dktX1_order_5 : List UInt8 := dkwX1_order_5 ++ []
def dkwX1_order_4 : List UInt8 := [167, 255, 182, 33, 9, 148, 153, 0, 5, 3, 172, 42, 180, 0, 71, 3, 42, 180, 0, 40, 180, 0, 120, 3]
abbrev dktX1_order_4 : List UInt8 := dkwX1_order_4 ++ dktX1_order_5
def dkwX1_order_3 : List UInt8 := [160, 0, 5, 3, 172, 21, 5, 4, 42, 180, 0, 71, 21, 6, 46, 120, 128, 54, 5, 132, 6, 255]
abbrev dktX1_order_3 : List UInt8 := dkwX1_order_3 ++ dktX1_order_4
def dkwX1_order_2 : List UInt8 := [180, 0, 12, 180, 0, 108, 162, 0, 19, 21, 5, 42, 180, 0, 71, 21, 6, 46, 122, 4, 126, 4]
abbrev dktX1_order_2 : List UInt8 := dkwX1_order_2 ++ dktX1_order_3
def dkwX1_order_1 : List UInt8 := [180, 0, 71, 21, 6, 33, 20, 0, 221, 127, 136, 79, 33, 7, 125, 66, 42, 180, 0, 71, 21, 6, 46, 42]
abbrev dktX1_order_1 : List UInt8 := dkwX1_order_1 ++ dktX1_order_2
def dkwX1_order_0 : List UInt8 := [31, 66, 3, 54, 5, 42, 180, 0, 12, 180, 0, 108, 4, 100, 54, 6, 21, 6, 155, 0, 75, 42]
abbrev dktX1_order_0 : List UInt8 := dkwX1_order_0 ++ dktX1_order_1
theorem dksX1_order_0 : cX1_order.data.toList.drop 0 = dktX1_order_0 := by decide +kernel
theorem dksX1_order_1 : cX1_order.data.toList.drop 22 = dktX1_order_1 := dk_seg dksX1_order_0 22 rfl rfl
theorem dksX1_order_2 : cX1_order.data.toList.drop 46 = dktX1_order_2 := dk_seg dksX1_order_1 24 rfl rfl
theorem dksX1_order_3 : cX1_order.data.toList.drop 68 = dktX1_order_3 := dk_seg dksX1_order_2 22 rfl rfl
theorem dksX1_order_4 : cX1_order.data.toList.drop 90 = dktX1_order_4 := dk_seg dksX1_order_3 22 rfl rfl
theorem dksX1_order_5 : cX1_order.data.toList.drop 114 = dktX1_order_5 := dk_seg dksX1_order_4 24 rfl rfl
theorem dX1_order_0 : decode cX1_order 0 = .ok (.lload_n 1, 1) := dk_31 (dk_at dksX1_order_0 0 rfl rfl)
theorem dX1_order_1 : decode cX1_order 1 = .ok (.lstore_n 3, 1) := dk_66 (dk_at dksX1_order_0 1 rfl rfl)
theorem dX1_order_2 : decode cX1_order 2 = .ok (.iconst 0, 1) := dk_3 (dk_at dksX1_order_0 2 rfl rfl)
theorem dX1_order_3 : decode cX1_order 3 = .ok (.istore 5, 2) := dk_54 5 (dk_at dksX1_order_0 3 rfl rfl)
theorem dX1_order_5 : decode cX1_order 5 = .ok (.aload_n 0, 1) := dk_42 (dk_at dksX1_order_0 5 rfl rfl)
theorem dX1_order_6 : decode cX1_order 6 = .ok (.getfield 12, 3) := dk_180 0 12 (dk_at dksX1_order_0 6 rfl rfl)
theorem dX1_order_9 : decode cX1_order 9 = .ok (.getfield 108, 3) := dk_180 0 108 (dk_at dksX1_order_0 9 rfl rfl)
theorem dX1_order_12 : decode cX1_order 12 = .ok (.iconst 1, 1) := dk_4 (dk_at dksX1_order_0 12 rfl rfl)
theorem dX1_order_13 : decode cX1_order 13 = .ok (.isub, 1) := dk_100 (dk_at dksX1_order_0 13 rfl rfl)
theorem dX1_order_14 : decode cX1_order 14 = .ok (.istore 6, 2) := dk_54 6 (dk_at dksX1_order_0 14 rfl rfl)
theorem dX1_order_16 : decode cX1_order 16 = .ok (.iload 6, 2) := dk_21 6 (dk_at dksX1_order_0 16 rfl rfl)
theorem dX1_order_18 : decode cX1_order 18 = .ok (.ifCond .lt 75, 3) := dk_155 0 75 (dk_at dksX1_order_0 18 rfl rfl)
theorem dX1_order_21 : decode cX1_order 21 = .ok (.aload_n 0, 1) := dk_42 (dk_at dksX1_order_0 21 rfl rfl)
theorem dX1_order_22 : decode cX1_order 22 = .ok (.getfield 71, 3) := dk_180 0 71 (dk_at dksX1_order_1 0 rfl rfl)
theorem dX1_order_25 : decode cX1_order 25 = .ok (.iload 6, 2) := dk_21 6 (dk_at dksX1_order_1 3 rfl rfl)
theorem dX1_order_27 : decode cX1_order 27 = .ok (.lload_n 3, 1) := dk_33 (dk_at dksX1_order_1 5 rfl rfl)
theorem dX1_order_28 : decode cX1_order 28 = .ok (.ldc2_w 221, 3) := dk_20 0 221 (dk_at dksX1_order_1 6 rfl rfl)
theorem dX1_order_31 : decode cX1_order 31 = .ok (.land, 1) := dk_127 (dk_at dksX1_order_1 9 rfl rfl)
theorem dX1_order_32 : decode cX1_order 32 = .ok (.l2i, 1) := dk_136 (dk_at dksX1_order_1 10 rfl rfl)
theorem dX1_order_33 : decode cX1_order 33 = .ok (.iastore, 1) := dk_79 (dk_at dksX1_order_1 11 rfl rfl)
theorem dX1_order_34 : decode cX1_order 34 = .ok (.lload_n 3, 1) := dk_33 (dk_at dksX1_order_1 12 rfl rfl)
theorem dX1_order_35 : decode cX1_order 35 = .ok (.iconst 4, 1) := dk_7 (dk_at dksX1_order_1 13 rfl rfl)
theorem dX1_order_36 : decode cX1_order 36 = .ok (.lushr, 1) := dk_125 (dk_at dksX1_order_1 14 rfl rfl)
theorem dX1_order_37 : decode cX1_order 37 = .ok (.lstore_n 3, 1) := dk_66 (dk_at dksX1_order_1 15 rfl rfl)
theorem dX1_order_38 : decode cX1_order 38 = .ok (.aload_n 0, 1) := dk_42 (dk_at dksX1_order_1 16 rfl rfl)
theorem dX1_order_39 : decode cX1_order 39 = .ok (.getfield 71, 3) := dk_180 0 71 (dk_at dksX1_order_1 17 rfl rfl)
theorem dX1_order_42 : decode cX1_order 42 = .ok (.iload 6, 2) := dk_21 6 (dk_at dksX1_order_1 20 rfl rfl)
theorem dX1_order_44 : decode cX1_order 44 = .ok (.iaload, 1) := dk_46 (dk_at dksX1_order_1 22 rfl rfl)
theorem dX1_order_45 : decode cX1_order 45 = .ok (.aload_n 0, 1) := dk_42 (dk_at dksX1_order_1 23 rfl rfl)
theorem dX1_order_46 : decode cX1_order 46 = .ok (.getfield 12, 3) := dk_180 0 12 (dk_at dksX1_order_2 0 rfl rfl)
theorem dX1_order_49 : decode cX1_order 49 = .ok (.getfield 108, 3) := dk_180 0 108 (dk_at dksX1_order_2 3 rfl rfl)
theorem dX1_order_52 : decode cX1_order 52 = .ok (.if_icmp .ge 19, 3) := dk_162 0 19 (dk_at dksX1_order_2 6 rfl rfl)
theorem dX1_order_55 : decode cX1_order 55 = .ok (.iload 5, 2) := dk_21 5 (dk_at dksX1_order_2 9 rfl rfl)
theorem dX1_order_57 : decode cX1_order 57 = .ok (.aload_n 0, 1) := dk_42 (dk_at dksX1_order_2 11 rfl rfl)
theorem dX1_order_58 : decode cX1_order 58 = .ok (.getfield 71, 3) := dk_180 0 71 (dk_at dksX1_order_2 12 rfl rfl)
theorem dX1_order_61 : decode cX1_order 61 = .ok (.iload 6, 2) := dk_21 6 (dk_at dksX1_order_2 15 rfl rfl)
theorem dX1_order_63 : decode cX1_order 63 = .ok (.iaload, 1) := dk_46 (dk_at dksX1_order_2 17 rfl rfl)
theorem dX1_order_64 : decode cX1_order 64 = .ok (.ishr, 1) := dk_122 (dk_at dksX1_order_2 18 rfl rfl)
theorem dX1_order_65 : decode cX1_order 65 = .ok (.iconst 1, 1) := dk_4 (dk_at dksX1_order_2 19 rfl rfl)
theorem dX1_order_66 : decode cX1_order 66 = .ok (.iand, 1) := dk_126 (dk_at dksX1_order_2 20 rfl rfl)
theorem dX1_order_67 : decode cX1_order 67 = .ok (.iconst 1, 1) := dk_4 (dk_at dksX1_order_2 21 rfl rfl)
theorem dX1_order_68 : decode cX1_order 68 = .ok (.if_icmp .ne 5, 3) := dk_160 0 5 (dk_at dksX1_order_3 0 rfl rfl)
theorem dX1_order_71 : decode cX1_order 71 = .ok (.iconst 0, 1) := dk_3 (dk_at dksX1_order_3 3 rfl rfl)
theorem dX1_order_72 : decode cX1_order 72 = .ok (.ireturn, 1) := dk_172 (dk_at dksX1_order_3 4 rfl rfl)
theorem dX1_order_73 : decode cX1_order 73 = .ok (.iload 5, 2) := dk_21 5 (dk_at dksX1_order_3 5 rfl rfl)
theorem dX1_order_75 : decode cX1_order 75 = .ok (.iconst 1, 1) := dk_4 (dk_at dksX1_order_3 7 rfl rfl)
theorem dX1_order_76 : decode cX1_order 76 = .ok (.aload_n 0, 1) := dk_42 (dk_at dksX1_order_3 8 rfl rfl)
theorem dX1_order_77 : decode cX1_order 77 = .ok (.getfield 71, 3) := dk_180 0 71 (dk_at dksX1_order_3 9 rfl rfl)
theorem dX1_order_80 : decode cX1_order 80 = .ok (.iload 6, 2) := dk_21 6 (dk_at dksX1_order_3 12 rfl rfl)
theorem dX1_order_82 : decode cX1_order 82 = .ok (.iaload, 1) := dk_46 (dk_at dksX1_order_3 14 rfl rfl)
theorem dX1_order_83 : decode cX1_order 83 = .ok (.ishl, 1) := dk_120 (dk_at dksX1_order_3 15 rfl rfl)
theorem dX1_order_84 : decode cX1_order 84 = .ok (.ior, 1) := dk_128 (dk_at dksX1_order_3 16 rfl rfl)
theorem dX1_order_85 : decode cX1_order 85 = .ok (.istore 5, 2) := dk_54 5 (dk_at dksX1_order_3 17 rfl rfl)
theorem dX1_order_87 : decode cX1_order 87 = .ok (.iinc 6 (-1), 3) := dk_132 6 255 (dk_at dksX1_order_3 19 rfl rfl)
theorem dX1_order_90 : decode cX1_order 90 = .ok (.goto (-74), 3) := dk_167 255 182 (dk_at dksX1_order_4 0 rfl rfl)
theorem dX1_order_93 : decode cX1_order 93 = .ok (.lload_n 3, 1) := dk_33 (dk_at dksX1_order_4 3 rfl rfl)
theorem dX1_order_94 : decode cX1_order 94 = .ok (.lconst 0, 1) := dk_9 (dk_at dksX1_order_4 4 rfl rfl)
theorem dX1_order_95 : decode cX1_order 95 = .ok (.lcmp, 1) := dk_148 (dk_at dksX1_order_4 5 rfl rfl)
theorem dX1_order_96 : decode cX1_order 96 = .ok (.ifCond .eq 5, 3) := dk_153 0 5 (dk_at dksX1_order_4 6 rfl rfl)
theorem dX1_order_99 : decode cX1_order 99 = .ok (.iconst 0, 1) := dk_3 (dk_at dksX1_order_4 9 rfl rfl)
theorem dX1_order_100 : decode cX1_order 100 = .ok (.ireturn, 1) := dk_172 (dk_at dksX1_order_4 10 rfl rfl)
theorem dX1_order_101 : decode cX1_order 101 = .ok (.aload_n 0, 1) := dk_42 (dk_at dksX1_order_4 11 rfl rfl)
theorem dX1_order_102 : decode cX1_order 102 = .ok (.getfield 71, 3) := dk_180 0 71 (dk_at dksX1_order_4 12 rfl rfl)
theorem dX1_order_105 : decode cX1_order 105 = .ok (.iconst 0, 1) := dk_3 (dk_at dksX1_order_4 15 rfl rfl)
theorem dX1_order_106 : decode cX1_order 106 = .ok (.aload_n 0, 1) := dk_42 (dk_at dksX1_order_4 16 rfl rfl)
theorem dX1_order_107 : decode cX1_order 107 = .ok (.getfield 40, 3) := dk_180 0 40 (dk_at dksX1_order_4 17 rfl rfl)
theorem dX1_order_110 : decode cX1_order 110 = .ok (.getfield 120, 3) := dk_180 0 120 (dk_at dksX1_order_4 20 rfl rfl)
theorem dX1_order_113 : decode cX1_order 113 = .ok (.iconst 0, 1) := dk_3 (dk_at dksX1_order_4 23 rfl rfl)
theorem dX1_order_114 : decode cX1_order 114 = .ok (.aload_n 0, 1) := dk_42 (dk_at dksX1_order_5 0 rfl rfl)
theorem dX1_order_115 : decode cX1_order 115 = .ok (.getfield 12, 3) := dk_180 0 12 (dk_at dksX1_order_5 1 rfl rfl)
theorem dX1_order_118 : decode cX1_order 118 = .ok (.getfield 108, 3) := dk_180 0 108 (dk_at dksX1_order_5 4 rfl rfl)
theorem dX1_order_121 : decode cX1_order 121 = .ok (.invokestatic 223, 3) := dk_184 0 223 (dk_at dksX1_order_5 7 rfl rfl)
theorem dX1_order_124 : decode cX1_order 124 = .ok (.iconst 1, 1) := dk_4 (dk_at dksX1_order_5 10 rfl rfl)
theorem dX1_order_125 : decode cX1_order 125 = .ok (.ireturn, 1) := dk_172 (dk_at dksX1_order_5 11 rfl rfl)
abbrev cX1_at : ByteArray := prog_1_method_26_code
def yX1_at : MethodName := ⟨RX1, "at", "(I)I"⟩
def dkwX1_at_1 : List UInt8 := [167, 0, 4, 2, 172]
abbrev dktX1_at_1 : List UInt8 := dkwX1_at_1 ++ []
def dkwX1_at_0 : List UInt8 := [27, 155, 0, 26, 27, 42, 180, 0, 12, 180, 0, 108, 162, 0, 15, 42, 180, 0, 40, 180, 0, 120, 27, 46]
abbrev dktX1_at_0 : List UInt8 := dkwX1_at_0 ++ dktX1_at_1
theorem dksX1_at_0 : cX1_at.data.toList.drop 0 = dktX1_at_0 := by decide +kernel
theorem dksX1_at_1 : cX1_at.data.toList.drop 24 = dktX1_at_1 := dk_seg dksX1_at_0 24 rfl rfl
theorem dX1_at_0 : decode cX1_at 0 = .ok (.iload_n 1, 1) := dk_27 (dk_at dksX1_at_0 0 rfl rfl)
theorem dX1_at_1 : decode cX1_at 1 = .ok (.ifCond .lt 26, 3) := dk_155 0 26 (dk_at dksX1_at_0 1 rfl rfl)
theorem dX1_at_4 : decode cX1_at 4 = .ok (.iload_n 1, 1) := dk_27 (dk_at dksX1_at_0 4 rfl rfl)
theorem dX1_at_5 : decode cX1_at 5 = .ok (.aload_n 0, 1) := dk_42 (dk_at dksX1_at_0 5 rfl rfl)
theorem dX1_at_6 : decode cX1_at 6 = .ok (.getfield 12, 3) := dk_180 0 12 (dk_at dksX1_at_0 6 rfl rfl)
theorem dX1_at_9 : decode cX1_at 9 = .ok (.getfield 108, 3) := dk_180 0 108 (dk_at dksX1_at_0 9 rfl rfl)
theorem dX1_at_12 : decode cX1_at 12 = .ok (.if_icmp .ge 15, 3) := dk_162 0 15 (dk_at dksX1_at_0 12 rfl rfl)
theorem dX1_at_15 : decode cX1_at 15 = .ok (.aload_n 0, 1) := dk_42 (dk_at dksX1_at_0 15 rfl rfl)
theorem dX1_at_16 : decode cX1_at 16 = .ok (.getfield 40, 3) := dk_180 0 40 (dk_at dksX1_at_0 16 rfl rfl)
theorem dX1_at_19 : decode cX1_at 19 = .ok (.getfield 120, 3) := dk_180 0 120 (dk_at dksX1_at_0 19 rfl rfl)
theorem dX1_at_22 : decode cX1_at 22 = .ok (.iload_n 1, 1) := dk_27 (dk_at dksX1_at_0 22 rfl rfl)
theorem dX1_at_23 : decode cX1_at 23 = .ok (.iaload, 1) := dk_46 (dk_at dksX1_at_0 23 rfl rfl)
theorem dX1_at_24 : decode cX1_at 24 = .ok (.goto 4, 3) := dk_167 0 4 (dk_at dksX1_at_1 0 rfl rfl)
theorem dX1_at_27 : decode cX1_at 27 = .ok (.iconst (-1), 1) := dk_2 (dk_at dksX1_at_1 3 rfl rfl)
theorem dX1_at_28 : decode cX1_at 28 = .ok (.ireturn, 1) := dk_172 (dk_at dksX1_at_1 4 rfl rfl)
abbrev cX1_touchy : ByteArray := prog_1_method_37_code
def yX1_touchy : MethodName := ⟨RX1, "touchy", "()I"⟩
def dkwX1_touchy_3 : List UInt8 := [3, 167, 0, 4, 4, 96, 61, 42, 29, 29, 4, 96, 182, 1, 35, 132, 3, 1, 167, 255, 201, 28, 172]
abbrev dktX1_touchy_3 : List UInt8 := dkwX1_touchy_3 ++ []
def dkwX1_touchy_2 : List UInt8 := [42, 29, 29, 4, 96, 182, 1, 35, 28, 42, 42, 180, 0, 40, 180, 0, 126, 182, 1, 32, 27, 160, 0, 7]
abbrev dktX1_touchy_2 : List UInt8 := dkwX1_touchy_2 ++ dktX1_touchy_3
def dkwX1_touchy_1 : List UInt8 := [180, 0, 126, 182, 1, 32, 60, 3, 61, 3, 62, 29, 4, 96, 42, 180, 0, 12, 180, 0, 108, 162, 0, 48]
abbrev dktX1_touchy_1 : List UInt8 := dkwX1_touchy_1 ++ dktX1_touchy_2
def dkwX1_touchy_0 : List UInt8 := [42, 180, 0, 40, 180, 0, 120, 3, 42, 180, 0, 74, 3, 16, 12, 184, 0, 223, 42, 42, 180, 0, 40]
abbrev dktX1_touchy_0 : List UInt8 := dkwX1_touchy_0 ++ dktX1_touchy_1
theorem dksX1_touchy_0 : cX1_touchy.data.toList.drop 0 = dktX1_touchy_0 := by decide +kernel
theorem dksX1_touchy_1 : cX1_touchy.data.toList.drop 23 = dktX1_touchy_1 := dk_seg dksX1_touchy_0 23 rfl rfl
theorem dksX1_touchy_2 : cX1_touchy.data.toList.drop 47 = dktX1_touchy_2 := dk_seg dksX1_touchy_1 24 rfl rfl
theorem dksX1_touchy_3 : cX1_touchy.data.toList.drop 71 = dktX1_touchy_3 := dk_seg dksX1_touchy_2 24 rfl rfl
theorem dX1_touchy_0 : decode cX1_touchy 0 = .ok (.aload_n 0, 1) := dk_42 (dk_at dksX1_touchy_0 0 rfl rfl)
theorem dX1_touchy_1 : decode cX1_touchy 1 = .ok (.getfield 40, 3) := dk_180 0 40 (dk_at dksX1_touchy_0 1 rfl rfl)
theorem dX1_touchy_4 : decode cX1_touchy 4 = .ok (.getfield 120, 3) := dk_180 0 120 (dk_at dksX1_touchy_0 4 rfl rfl)
theorem dX1_touchy_7 : decode cX1_touchy 7 = .ok (.iconst 0, 1) := dk_3 (dk_at dksX1_touchy_0 7 rfl rfl)
theorem dX1_touchy_8 : decode cX1_touchy 8 = .ok (.aload_n 0, 1) := dk_42 (dk_at dksX1_touchy_0 8 rfl rfl)
theorem dX1_touchy_9 : decode cX1_touchy 9 = .ok (.getfield 74, 3) := dk_180 0 74 (dk_at dksX1_touchy_0 9 rfl rfl)
theorem dX1_touchy_12 : decode cX1_touchy 12 = .ok (.iconst 0, 1) := dk_3 (dk_at dksX1_touchy_0 12 rfl rfl)
theorem dX1_touchy_13 : decode cX1_touchy 13 = .ok (.bipush 12, 2) := dk_16 12 (dk_at dksX1_touchy_0 13 rfl rfl)
theorem dX1_touchy_15 : decode cX1_touchy 15 = .ok (.invokestatic 223, 3) := dk_184 0 223 (dk_at dksX1_touchy_0 15 rfl rfl)
theorem dX1_touchy_18 : decode cX1_touchy 18 = .ok (.aload_n 0, 1) := dk_42 (dk_at dksX1_touchy_0 18 rfl rfl)
theorem dX1_touchy_19 : decode cX1_touchy 19 = .ok (.aload_n 0, 1) := dk_42 (dk_at dksX1_touchy_0 19 rfl rfl)
theorem dX1_touchy_20 : decode cX1_touchy 20 = .ok (.getfield 40, 3) := dk_180 0 40 (dk_at dksX1_touchy_0 20 rfl rfl)
theorem dX1_touchy_23 : decode cX1_touchy 23 = .ok (.getfield 126, 3) := dk_180 0 126 (dk_at dksX1_touchy_1 0 rfl rfl)
theorem dX1_touchy_26 : decode cX1_touchy 26 = .ok (.invokevirtual 288, 3) := dk_182 1 32 (dk_at dksX1_touchy_1 3 rfl rfl)
theorem dX1_touchy_29 : decode cX1_touchy 29 = .ok (.istore_n 1, 1) := dk_60 (dk_at dksX1_touchy_1 6 rfl rfl)
theorem dX1_touchy_30 : decode cX1_touchy 30 = .ok (.iconst 0, 1) := dk_3 (dk_at dksX1_touchy_1 7 rfl rfl)
theorem dX1_touchy_31 : decode cX1_touchy 31 = .ok (.istore_n 2, 1) := dk_61 (dk_at dksX1_touchy_1 8 rfl rfl)
theorem dX1_touchy_32 : decode cX1_touchy 32 = .ok (.iconst 0, 1) := dk_3 (dk_at dksX1_touchy_1 9 rfl rfl)
theorem dX1_touchy_33 : decode cX1_touchy 33 = .ok (.istore_n 3, 1) := dk_62 (dk_at dksX1_touchy_1 10 rfl rfl)
theorem dX1_touchy_34 : decode cX1_touchy 34 = .ok (.iload_n 3, 1) := dk_29 (dk_at dksX1_touchy_1 11 rfl rfl)
theorem dX1_touchy_35 : decode cX1_touchy 35 = .ok (.iconst 1, 1) := dk_4 (dk_at dksX1_touchy_1 12 rfl rfl)
theorem dX1_touchy_36 : decode cX1_touchy 36 = .ok (.iadd, 1) := dk_96 (dk_at dksX1_touchy_1 13 rfl rfl)
theorem dX1_touchy_37 : decode cX1_touchy 37 = .ok (.aload_n 0, 1) := dk_42 (dk_at dksX1_touchy_1 14 rfl rfl)
theorem dX1_touchy_38 : decode cX1_touchy 38 = .ok (.getfield 12, 3) := dk_180 0 12 (dk_at dksX1_touchy_1 15 rfl rfl)
theorem dX1_touchy_41 : decode cX1_touchy 41 = .ok (.getfield 108, 3) := dk_180 0 108 (dk_at dksX1_touchy_1 18 rfl rfl)
theorem dX1_touchy_44 : decode cX1_touchy 44 = .ok (.if_icmp .ge 48, 3) := dk_162 0 48 (dk_at dksX1_touchy_1 21 rfl rfl)
theorem dX1_touchy_47 : decode cX1_touchy 47 = .ok (.aload_n 0, 1) := dk_42 (dk_at dksX1_touchy_2 0 rfl rfl)
theorem dX1_touchy_48 : decode cX1_touchy 48 = .ok (.iload_n 3, 1) := dk_29 (dk_at dksX1_touchy_2 1 rfl rfl)
theorem dX1_touchy_49 : decode cX1_touchy 49 = .ok (.iload_n 3, 1) := dk_29 (dk_at dksX1_touchy_2 2 rfl rfl)
theorem dX1_touchy_50 : decode cX1_touchy 50 = .ok (.iconst 1, 1) := dk_4 (dk_at dksX1_touchy_2 3 rfl rfl)
theorem dX1_touchy_51 : decode cX1_touchy 51 = .ok (.iadd, 1) := dk_96 (dk_at dksX1_touchy_2 4 rfl rfl)
theorem dX1_touchy_52 : decode cX1_touchy 52 = .ok (.invokevirtual 291, 3) := dk_182 1 35 (dk_at dksX1_touchy_2 5 rfl rfl)
theorem dX1_touchy_55 : decode cX1_touchy 55 = .ok (.iload_n 2, 1) := dk_28 (dk_at dksX1_touchy_2 8 rfl rfl)
theorem dX1_touchy_56 : decode cX1_touchy 56 = .ok (.aload_n 0, 1) := dk_42 (dk_at dksX1_touchy_2 9 rfl rfl)
theorem dX1_touchy_57 : decode cX1_touchy 57 = .ok (.aload_n 0, 1) := dk_42 (dk_at dksX1_touchy_2 10 rfl rfl)
theorem dX1_touchy_58 : decode cX1_touchy 58 = .ok (.getfield 40, 3) := dk_180 0 40 (dk_at dksX1_touchy_2 11 rfl rfl)
theorem dX1_touchy_61 : decode cX1_touchy 61 = .ok (.getfield 126, 3) := dk_180 0 126 (dk_at dksX1_touchy_2 14 rfl rfl)
theorem dX1_touchy_64 : decode cX1_touchy 64 = .ok (.invokevirtual 288, 3) := dk_182 1 32 (dk_at dksX1_touchy_2 17 rfl rfl)
theorem dX1_touchy_67 : decode cX1_touchy 67 = .ok (.iload_n 1, 1) := dk_27 (dk_at dksX1_touchy_2 20 rfl rfl)
theorem dX1_touchy_68 : decode cX1_touchy 68 = .ok (.if_icmp .ne 7, 3) := dk_160 0 7 (dk_at dksX1_touchy_2 21 rfl rfl)
theorem dX1_touchy_71 : decode cX1_touchy 71 = .ok (.iconst 0, 1) := dk_3 (dk_at dksX1_touchy_3 0 rfl rfl)
theorem dX1_touchy_72 : decode cX1_touchy 72 = .ok (.goto 4, 3) := dk_167 0 4 (dk_at dksX1_touchy_3 1 rfl rfl)
theorem dX1_touchy_75 : decode cX1_touchy 75 = .ok (.iconst 1, 1) := dk_4 (dk_at dksX1_touchy_3 4 rfl rfl)
theorem dX1_touchy_76 : decode cX1_touchy 76 = .ok (.iadd, 1) := dk_96 (dk_at dksX1_touchy_3 5 rfl rfl)
theorem dX1_touchy_77 : decode cX1_touchy 77 = .ok (.istore_n 2, 1) := dk_61 (dk_at dksX1_touchy_3 6 rfl rfl)
theorem dX1_touchy_78 : decode cX1_touchy 78 = .ok (.aload_n 0, 1) := dk_42 (dk_at dksX1_touchy_3 7 rfl rfl)
theorem dX1_touchy_79 : decode cX1_touchy 79 = .ok (.iload_n 3, 1) := dk_29 (dk_at dksX1_touchy_3 8 rfl rfl)
theorem dX1_touchy_80 : decode cX1_touchy 80 = .ok (.iload_n 3, 1) := dk_29 (dk_at dksX1_touchy_3 9 rfl rfl)
theorem dX1_touchy_81 : decode cX1_touchy 81 = .ok (.iconst 1, 1) := dk_4 (dk_at dksX1_touchy_3 10 rfl rfl)
theorem dX1_touchy_82 : decode cX1_touchy 82 = .ok (.iadd, 1) := dk_96 (dk_at dksX1_touchy_3 11 rfl rfl)
theorem dX1_touchy_83 : decode cX1_touchy 83 = .ok (.invokevirtual 291, 3) := dk_182 1 35 (dk_at dksX1_touchy_3 12 rfl rfl)
theorem dX1_touchy_86 : decode cX1_touchy 86 = .ok (.iinc 3 1, 3) := dk_132 3 1 (dk_at dksX1_touchy_3 15 rfl rfl)
theorem dX1_touchy_89 : decode cX1_touchy 89 = .ok (.goto (-55), 3) := dk_167 255 201 (dk_at dksX1_touchy_3 18 rfl rfl)
theorem dX1_touchy_92 : decode cX1_touchy 92 = .ok (.iload_n 2, 1) := dk_28 (dk_at dksX1_touchy_3 21 rfl rfl)
theorem dX1_touchy_93 : decode cX1_touchy 93 = .ok (.ireturn, 1) := dk_172 (dk_at dksX1_touchy_3 22 rfl rfl)
abbrev cX1_endBy : ByteArray := prog_1_method_35_code
def yX1_endBy : MethodName := ⟨RX1, "endBy", "(I)I"⟩
def dkwX1_endBy_0 : List UInt8 := [42, 42, 180, 0, 74, 27, 3, 182, 0, 240, 182, 1, 18, 172]
abbrev dktX1_endBy_0 : List UInt8 := dkwX1_endBy_0 ++ []
theorem dksX1_endBy_0 : cX1_endBy.data.toList.drop 0 = dktX1_endBy_0 := by decide +kernel
theorem dX1_endBy_0 : decode cX1_endBy 0 = .ok (.aload_n 0, 1) := dk_42 (dk_at dksX1_endBy_0 0 rfl rfl)
theorem dX1_endBy_1 : decode cX1_endBy 1 = .ok (.aload_n 0, 1) := dk_42 (dk_at dksX1_endBy_0 1 rfl rfl)
theorem dX1_endBy_2 : decode cX1_endBy 2 = .ok (.getfield 74, 3) := dk_180 0 74 (dk_at dksX1_endBy_0 2 rfl rfl)
theorem dX1_endBy_5 : decode cX1_endBy 5 = .ok (.iload_n 1, 1) := dk_27 (dk_at dksX1_endBy_0 5 rfl rfl)
theorem dX1_endBy_6 : decode cX1_endBy 6 = .ok (.iconst 0, 1) := dk_3 (dk_at dksX1_endBy_0 6 rfl rfl)
theorem dX1_endBy_7 : decode cX1_endBy 7 = .ok (.invokevirtual 240, 3) := dk_182 0 240 (dk_at dksX1_endBy_0 7 rfl rfl)
theorem dX1_endBy_10 : decode cX1_endBy 10 = .ok (.invokevirtual 274, 3) := dk_182 1 18 (dk_at dksX1_endBy_0 10 rfl rfl)
theorem dX1_endBy_13 : decode cX1_endBy 13 = .ok (.ireturn, 1) := dk_172 (dk_at dksX1_endBy_0 13 rfl rfl)
abbrev cX1_runs : ByteArray := prog_1_method_29_code
def yX1_runs : MethodName := ⟨RX1, "runs", "([III)LLotBeliefs$School;"⟩
def dkwX1_runs_4 : List UInt8 := [21, 6, 21, 7, 182, 0, 237, 132, 6, 1, 167, 255, 171, 42, 180, 0, 64, 176]
abbrev dktX1_runs_4 : List UInt8 := dkwX1_runs_4 ++ []
def dkwX1_runs_3 : List UInt8 := [42, 180, 0, 12, 180, 0, 108, 162, 0, 12, 43, 21, 5, 46, 54, 7, 132, 5, 1, 42, 180, 0, 64]
abbrev dktX1_runs_3 : List UInt8 := dkwX1_runs_3 ++ dktX1_runs_4
def dkwX1_runs_2 : List UInt8 := [2, 54, 7, 21, 4, 8, 162, 0, 16, 16, 12, 21, 4, 96, 54, 7, 132, 4, 1, 167, 0, 24, 21, 5]
abbrev dktX1_runs_2 : List UInt8 := dkwX1_runs_2 ++ dktX1_runs_3
def dkwX1_runs_1 : List UInt8 := [162, 0, 84, 21, 4, 8, 162, 0, 18, 29, 21, 4, 122, 4, 126, 154, 0, 9, 132, 4, 1, 167, 255, 238]
abbrev dktX1_runs_1 : List UInt8 := dkwX1_runs_1 ++ dktX1_runs_2
def dkwX1_runs_0 : List UInt8 := [42, 180, 0, 64, 28, 182, 0, 234, 87, 3, 54, 4, 3, 54, 5, 3, 54, 6, 21, 6, 16, 52]
abbrev dktX1_runs_0 : List UInt8 := dkwX1_runs_0 ++ dktX1_runs_1
theorem dksX1_runs_0 : cX1_runs.data.toList.drop 0 = dktX1_runs_0 := by decide +kernel
theorem dksX1_runs_1 : cX1_runs.data.toList.drop 22 = dktX1_runs_1 := dk_seg dksX1_runs_0 22 rfl rfl
theorem dksX1_runs_2 : cX1_runs.data.toList.drop 46 = dktX1_runs_2 := dk_seg dksX1_runs_1 24 rfl rfl
theorem dksX1_runs_3 : cX1_runs.data.toList.drop 70 = dktX1_runs_3 := dk_seg dksX1_runs_2 24 rfl rfl
theorem dksX1_runs_4 : cX1_runs.data.toList.drop 93 = dktX1_runs_4 := dk_seg dksX1_runs_3 23 rfl rfl
theorem dX1_runs_0 : decode cX1_runs 0 = .ok (.aload_n 0, 1) := dk_42 (dk_at dksX1_runs_0 0 rfl rfl)
theorem dX1_runs_1 : decode cX1_runs 1 = .ok (.getfield 64, 3) := dk_180 0 64 (dk_at dksX1_runs_0 1 rfl rfl)
theorem dX1_runs_4 : decode cX1_runs 4 = .ok (.iload_n 2, 1) := dk_28 (dk_at dksX1_runs_0 4 rfl rfl)
theorem dX1_runs_5 : decode cX1_runs 5 = .ok (.invokevirtual 234, 3) := dk_182 0 234 (dk_at dksX1_runs_0 5 rfl rfl)
theorem dX1_runs_8 : decode cX1_runs 8 = .ok (.pop, 1) := dk_87 (dk_at dksX1_runs_0 8 rfl rfl)
theorem dX1_runs_9 : decode cX1_runs 9 = .ok (.iconst 0, 1) := dk_3 (dk_at dksX1_runs_0 9 rfl rfl)
theorem dX1_runs_10 : decode cX1_runs 10 = .ok (.istore 4, 2) := dk_54 4 (dk_at dksX1_runs_0 10 rfl rfl)
theorem dX1_runs_12 : decode cX1_runs 12 = .ok (.iconst 0, 1) := dk_3 (dk_at dksX1_runs_0 12 rfl rfl)
theorem dX1_runs_13 : decode cX1_runs 13 = .ok (.istore 5, 2) := dk_54 5 (dk_at dksX1_runs_0 13 rfl rfl)
theorem dX1_runs_15 : decode cX1_runs 15 = .ok (.iconst 0, 1) := dk_3 (dk_at dksX1_runs_0 15 rfl rfl)
theorem dX1_runs_16 : decode cX1_runs 16 = .ok (.istore 6, 2) := dk_54 6 (dk_at dksX1_runs_0 16 rfl rfl)
theorem dX1_runs_18 : decode cX1_runs 18 = .ok (.iload 6, 2) := dk_21 6 (dk_at dksX1_runs_0 18 rfl rfl)
theorem dX1_runs_20 : decode cX1_runs 20 = .ok (.bipush 52, 2) := dk_16 52 (dk_at dksX1_runs_0 20 rfl rfl)
theorem dX1_runs_22 : decode cX1_runs 22 = .ok (.if_icmp .ge 84, 3) := dk_162 0 84 (dk_at dksX1_runs_1 0 rfl rfl)
theorem dX1_runs_25 : decode cX1_runs 25 = .ok (.iload 4, 2) := dk_21 4 (dk_at dksX1_runs_1 3 rfl rfl)
theorem dX1_runs_27 : decode cX1_runs 27 = .ok (.iconst 5, 1) := dk_8 (dk_at dksX1_runs_1 5 rfl rfl)
theorem dX1_runs_28 : decode cX1_runs 28 = .ok (.if_icmp .ge 18, 3) := dk_162 0 18 (dk_at dksX1_runs_1 6 rfl rfl)
theorem dX1_runs_31 : decode cX1_runs 31 = .ok (.iload_n 3, 1) := dk_29 (dk_at dksX1_runs_1 9 rfl rfl)
theorem dX1_runs_32 : decode cX1_runs 32 = .ok (.iload 4, 2) := dk_21 4 (dk_at dksX1_runs_1 10 rfl rfl)
theorem dX1_runs_34 : decode cX1_runs 34 = .ok (.ishr, 1) := dk_122 (dk_at dksX1_runs_1 12 rfl rfl)
theorem dX1_runs_35 : decode cX1_runs 35 = .ok (.iconst 1, 1) := dk_4 (dk_at dksX1_runs_1 13 rfl rfl)
theorem dX1_runs_36 : decode cX1_runs 36 = .ok (.iand, 1) := dk_126 (dk_at dksX1_runs_1 14 rfl rfl)
theorem dX1_runs_37 : decode cX1_runs 37 = .ok (.ifCond .ne 9, 3) := dk_154 0 9 (dk_at dksX1_runs_1 15 rfl rfl)
theorem dX1_runs_40 : decode cX1_runs 40 = .ok (.iinc 4 1, 3) := dk_132 4 1 (dk_at dksX1_runs_1 18 rfl rfl)
theorem dX1_runs_43 : decode cX1_runs 43 = .ok (.goto (-18), 3) := dk_167 255 238 (dk_at dksX1_runs_1 21 rfl rfl)
theorem dX1_runs_46 : decode cX1_runs 46 = .ok (.iconst (-1), 1) := dk_2 (dk_at dksX1_runs_2 0 rfl rfl)
theorem dX1_runs_47 : decode cX1_runs 47 = .ok (.istore 7, 2) := dk_54 7 (dk_at dksX1_runs_2 1 rfl rfl)
theorem dX1_runs_49 : decode cX1_runs 49 = .ok (.iload 4, 2) := dk_21 4 (dk_at dksX1_runs_2 3 rfl rfl)
theorem dX1_runs_51 : decode cX1_runs 51 = .ok (.iconst 5, 1) := dk_8 (dk_at dksX1_runs_2 5 rfl rfl)
theorem dX1_runs_52 : decode cX1_runs 52 = .ok (.if_icmp .ge 16, 3) := dk_162 0 16 (dk_at dksX1_runs_2 6 rfl rfl)
theorem dX1_runs_55 : decode cX1_runs 55 = .ok (.bipush 12, 2) := dk_16 12 (dk_at dksX1_runs_2 9 rfl rfl)
theorem dX1_runs_57 : decode cX1_runs 57 = .ok (.iload 4, 2) := dk_21 4 (dk_at dksX1_runs_2 11 rfl rfl)
theorem dX1_runs_59 : decode cX1_runs 59 = .ok (.iadd, 1) := dk_96 (dk_at dksX1_runs_2 13 rfl rfl)
theorem dX1_runs_60 : decode cX1_runs 60 = .ok (.istore 7, 2) := dk_54 7 (dk_at dksX1_runs_2 14 rfl rfl)
theorem dX1_runs_62 : decode cX1_runs 62 = .ok (.iinc 4 1, 3) := dk_132 4 1 (dk_at dksX1_runs_2 16 rfl rfl)
theorem dX1_runs_65 : decode cX1_runs 65 = .ok (.goto 24, 3) := dk_167 0 24 (dk_at dksX1_runs_2 19 rfl rfl)
theorem dX1_runs_68 : decode cX1_runs 68 = .ok (.iload 5, 2) := dk_21 5 (dk_at dksX1_runs_2 22 rfl rfl)
theorem dX1_runs_70 : decode cX1_runs 70 = .ok (.aload_n 0, 1) := dk_42 (dk_at dksX1_runs_3 0 rfl rfl)
theorem dX1_runs_71 : decode cX1_runs 71 = .ok (.getfield 12, 3) := dk_180 0 12 (dk_at dksX1_runs_3 1 rfl rfl)
theorem dX1_runs_74 : decode cX1_runs 74 = .ok (.getfield 108, 3) := dk_180 0 108 (dk_at dksX1_runs_3 4 rfl rfl)
theorem dX1_runs_77 : decode cX1_runs 77 = .ok (.if_icmp .ge 12, 3) := dk_162 0 12 (dk_at dksX1_runs_3 7 rfl rfl)
theorem dX1_runs_80 : decode cX1_runs 80 = .ok (.aload_n 1, 1) := dk_43 (dk_at dksX1_runs_3 10 rfl rfl)
theorem dX1_runs_81 : decode cX1_runs 81 = .ok (.iload 5, 2) := dk_21 5 (dk_at dksX1_runs_3 11 rfl rfl)
theorem dX1_runs_83 : decode cX1_runs 83 = .ok (.iaload, 1) := dk_46 (dk_at dksX1_runs_3 13 rfl rfl)
theorem dX1_runs_84 : decode cX1_runs 84 = .ok (.istore 7, 2) := dk_54 7 (dk_at dksX1_runs_3 14 rfl rfl)
theorem dX1_runs_86 : decode cX1_runs 86 = .ok (.iinc 5 1, 3) := dk_132 5 1 (dk_at dksX1_runs_3 16 rfl rfl)
theorem dX1_runs_89 : decode cX1_runs 89 = .ok (.aload_n 0, 1) := dk_42 (dk_at dksX1_runs_3 19 rfl rfl)
theorem dX1_runs_90 : decode cX1_runs 90 = .ok (.getfield 64, 3) := dk_180 0 64 (dk_at dksX1_runs_3 20 rfl rfl)
theorem dX1_runs_93 : decode cX1_runs 93 = .ok (.iload 6, 2) := dk_21 6 (dk_at dksX1_runs_4 0 rfl rfl)
theorem dX1_runs_95 : decode cX1_runs 95 = .ok (.iload 7, 2) := dk_21 7 (dk_at dksX1_runs_4 2 rfl rfl)
theorem dX1_runs_97 : decode cX1_runs 97 = .ok (.invokevirtual 237, 3) := dk_182 0 237 (dk_at dksX1_runs_4 4 rfl rfl)
theorem dX1_runs_100 : decode cX1_runs 100 = .ok (.iinc 6 1, 3) := dk_132 6 1 (dk_at dksX1_runs_4 7 rfl rfl)
theorem dX1_runs_103 : decode cX1_runs 103 = .ok (.goto (-85), 3) := dk_167 255 171 (dk_at dksX1_runs_4 10 rfl rfl)
theorem dX1_runs_106 : decode cX1_runs 106 = .ok (.aload_n 0, 1) := dk_42 (dk_at dksX1_runs_4 13 rfl rfl)
theorem dX1_runs_107 : decode cX1_runs 107 = .ok (.getfield 64, 3) := dk_180 0 64 (dk_at dksX1_runs_4 14 rfl rfl)
theorem dX1_runs_110 : decode cX1_runs 110 = .ok (.areturn, 1) := dk_176 (dk_at dksX1_runs_4 17 rfl rfl)
abbrev cX1_tells : ByteArray := prog_1_method_15_code
def yX1_tells : MethodName := ⟨RX1, "tells", "(IIIIIIJ)V"⟩
def dkwX1_tells_5 : List UInt8 := [127, 184, 0, 169, 79, 177]
abbrev dktX1_tells_5 : List UInt8 := dkwX1_tells_5 ++ []
def dkwX1_tells_4 : List UInt8 := [42, 180, 0, 23, 16, 9, 42, 180, 0, 12, 180, 0, 114, 27, 47, 42, 180, 0, 12, 180, 0, 114, 28, 47]
abbrev dktX1_tells_4 : List UInt8 := dkwX1_tells_4 ++ dktX1_tells_5
def dkwX1_tells_3 : List UInt8 := [21, 5, 79, 42, 180, 0, 23, 16, 7, 21, 6, 79, 42, 180, 0, 23, 16, 8, 22, 7, 184, 0, 169, 79]
abbrev dktX1_tells_3 : List UInt8 := dkwX1_tells_3 ++ dktX1_tells_4
def dkwX1_tells_2 : List UInt8 := [184, 0, 169, 79, 42, 180, 0, 23, 7, 27, 79, 42, 180, 0, 23, 8, 28, 79, 42, 180, 0, 23, 16, 6]
abbrev dktX1_tells_2 : List UInt8 := dkwX1_tells_2 ++ dktX1_tells_3
def dkwX1_tells_1 : List UInt8 := [180, 0, 114, 27, 47, 184, 0, 169, 79, 42, 180, 0, 23, 6, 42, 180, 0, 12, 180, 0, 114, 28, 47]
abbrev dktX1_tells_1 : List UInt8 := dkwX1_tells_1 ++ dktX1_tells_2
def dkwX1_tells_0 : List UInt8 := [42, 180, 0, 23, 3, 29, 79, 42, 180, 0, 23, 4, 21, 4, 79, 42, 180, 0, 23, 5, 42, 180, 0, 12]
abbrev dktX1_tells_0 : List UInt8 := dkwX1_tells_0 ++ dktX1_tells_1
theorem dksX1_tells_0 : cX1_tells.data.toList.drop 0 = dktX1_tells_0 := by decide +kernel
theorem dksX1_tells_1 : cX1_tells.data.toList.drop 24 = dktX1_tells_1 := dk_seg dksX1_tells_0 24 rfl rfl
theorem dksX1_tells_2 : cX1_tells.data.toList.drop 47 = dktX1_tells_2 := dk_seg dksX1_tells_1 23 rfl rfl
theorem dksX1_tells_3 : cX1_tells.data.toList.drop 71 = dktX1_tells_3 := dk_seg dksX1_tells_2 24 rfl rfl
theorem dksX1_tells_4 : cX1_tells.data.toList.drop 95 = dktX1_tells_4 := dk_seg dksX1_tells_3 24 rfl rfl
theorem dksX1_tells_5 : cX1_tells.data.toList.drop 119 = dktX1_tells_5 := dk_seg dksX1_tells_4 24 rfl rfl
theorem dX1_tells_0 : decode cX1_tells 0 = .ok (.aload_n 0, 1) := dk_42 (dk_at dksX1_tells_0 0 rfl rfl)
theorem dX1_tells_1 : decode cX1_tells 1 = .ok (.getfield 23, 3) := dk_180 0 23 (dk_at dksX1_tells_0 1 rfl rfl)
theorem dX1_tells_4 : decode cX1_tells 4 = .ok (.iconst 0, 1) := dk_3 (dk_at dksX1_tells_0 4 rfl rfl)
theorem dX1_tells_5 : decode cX1_tells 5 = .ok (.iload_n 3, 1) := dk_29 (dk_at dksX1_tells_0 5 rfl rfl)
theorem dX1_tells_6 : decode cX1_tells 6 = .ok (.iastore, 1) := dk_79 (dk_at dksX1_tells_0 6 rfl rfl)
theorem dX1_tells_7 : decode cX1_tells 7 = .ok (.aload_n 0, 1) := dk_42 (dk_at dksX1_tells_0 7 rfl rfl)
theorem dX1_tells_8 : decode cX1_tells 8 = .ok (.getfield 23, 3) := dk_180 0 23 (dk_at dksX1_tells_0 8 rfl rfl)
theorem dX1_tells_11 : decode cX1_tells 11 = .ok (.iconst 1, 1) := dk_4 (dk_at dksX1_tells_0 11 rfl rfl)
theorem dX1_tells_12 : decode cX1_tells 12 = .ok (.iload 4, 2) := dk_21 4 (dk_at dksX1_tells_0 12 rfl rfl)
theorem dX1_tells_14 : decode cX1_tells 14 = .ok (.iastore, 1) := dk_79 (dk_at dksX1_tells_0 14 rfl rfl)
theorem dX1_tells_15 : decode cX1_tells 15 = .ok (.aload_n 0, 1) := dk_42 (dk_at dksX1_tells_0 15 rfl rfl)
theorem dX1_tells_16 : decode cX1_tells 16 = .ok (.getfield 23, 3) := dk_180 0 23 (dk_at dksX1_tells_0 16 rfl rfl)
theorem dX1_tells_19 : decode cX1_tells 19 = .ok (.iconst 2, 1) := dk_5 (dk_at dksX1_tells_0 19 rfl rfl)
theorem dX1_tells_20 : decode cX1_tells 20 = .ok (.aload_n 0, 1) := dk_42 (dk_at dksX1_tells_0 20 rfl rfl)
theorem dX1_tells_21 : decode cX1_tells 21 = .ok (.getfield 12, 3) := dk_180 0 12 (dk_at dksX1_tells_0 21 rfl rfl)
theorem dX1_tells_24 : decode cX1_tells 24 = .ok (.getfield 114, 3) := dk_180 0 114 (dk_at dksX1_tells_1 0 rfl rfl)
theorem dX1_tells_27 : decode cX1_tells 27 = .ok (.iload_n 1, 1) := dk_27 (dk_at dksX1_tells_1 3 rfl rfl)
theorem dX1_tells_28 : decode cX1_tells 28 = .ok (.laload, 1) := dk_47 (dk_at dksX1_tells_1 4 rfl rfl)
theorem dX1_tells_29 : decode cX1_tells 29 = .ok (.invokestatic 169, 3) := dk_184 0 169 (dk_at dksX1_tells_1 5 rfl rfl)
theorem dX1_tells_32 : decode cX1_tells 32 = .ok (.iastore, 1) := dk_79 (dk_at dksX1_tells_1 8 rfl rfl)
theorem dX1_tells_33 : decode cX1_tells 33 = .ok (.aload_n 0, 1) := dk_42 (dk_at dksX1_tells_1 9 rfl rfl)
theorem dX1_tells_34 : decode cX1_tells 34 = .ok (.getfield 23, 3) := dk_180 0 23 (dk_at dksX1_tells_1 10 rfl rfl)
theorem dX1_tells_37 : decode cX1_tells 37 = .ok (.iconst 3, 1) := dk_6 (dk_at dksX1_tells_1 13 rfl rfl)
theorem dX1_tells_38 : decode cX1_tells 38 = .ok (.aload_n 0, 1) := dk_42 (dk_at dksX1_tells_1 14 rfl rfl)
theorem dX1_tells_39 : decode cX1_tells 39 = .ok (.getfield 12, 3) := dk_180 0 12 (dk_at dksX1_tells_1 15 rfl rfl)
theorem dX1_tells_42 : decode cX1_tells 42 = .ok (.getfield 114, 3) := dk_180 0 114 (dk_at dksX1_tells_1 18 rfl rfl)
theorem dX1_tells_45 : decode cX1_tells 45 = .ok (.iload_n 2, 1) := dk_28 (dk_at dksX1_tells_1 21 rfl rfl)
theorem dX1_tells_46 : decode cX1_tells 46 = .ok (.laload, 1) := dk_47 (dk_at dksX1_tells_1 22 rfl rfl)
theorem dX1_tells_47 : decode cX1_tells 47 = .ok (.invokestatic 169, 3) := dk_184 0 169 (dk_at dksX1_tells_2 0 rfl rfl)
theorem dX1_tells_50 : decode cX1_tells 50 = .ok (.iastore, 1) := dk_79 (dk_at dksX1_tells_2 3 rfl rfl)
theorem dX1_tells_51 : decode cX1_tells 51 = .ok (.aload_n 0, 1) := dk_42 (dk_at dksX1_tells_2 4 rfl rfl)
theorem dX1_tells_52 : decode cX1_tells 52 = .ok (.getfield 23, 3) := dk_180 0 23 (dk_at dksX1_tells_2 5 rfl rfl)
theorem dX1_tells_55 : decode cX1_tells 55 = .ok (.iconst 4, 1) := dk_7 (dk_at dksX1_tells_2 8 rfl rfl)
theorem dX1_tells_56 : decode cX1_tells 56 = .ok (.iload_n 1, 1) := dk_27 (dk_at dksX1_tells_2 9 rfl rfl)
theorem dX1_tells_57 : decode cX1_tells 57 = .ok (.iastore, 1) := dk_79 (dk_at dksX1_tells_2 10 rfl rfl)
theorem dX1_tells_58 : decode cX1_tells 58 = .ok (.aload_n 0, 1) := dk_42 (dk_at dksX1_tells_2 11 rfl rfl)
theorem dX1_tells_59 : decode cX1_tells 59 = .ok (.getfield 23, 3) := dk_180 0 23 (dk_at dksX1_tells_2 12 rfl rfl)
theorem dX1_tells_62 : decode cX1_tells 62 = .ok (.iconst 5, 1) := dk_8 (dk_at dksX1_tells_2 15 rfl rfl)
theorem dX1_tells_63 : decode cX1_tells 63 = .ok (.iload_n 2, 1) := dk_28 (dk_at dksX1_tells_2 16 rfl rfl)
theorem dX1_tells_64 : decode cX1_tells 64 = .ok (.iastore, 1) := dk_79 (dk_at dksX1_tells_2 17 rfl rfl)
theorem dX1_tells_65 : decode cX1_tells 65 = .ok (.aload_n 0, 1) := dk_42 (dk_at dksX1_tells_2 18 rfl rfl)
theorem dX1_tells_66 : decode cX1_tells 66 = .ok (.getfield 23, 3) := dk_180 0 23 (dk_at dksX1_tells_2 19 rfl rfl)
theorem dX1_tells_69 : decode cX1_tells 69 = .ok (.bipush 6, 2) := dk_16 6 (dk_at dksX1_tells_2 22 rfl rfl)
theorem dX1_tells_71 : decode cX1_tells 71 = .ok (.iload 5, 2) := dk_21 5 (dk_at dksX1_tells_3 0 rfl rfl)
theorem dX1_tells_73 : decode cX1_tells 73 = .ok (.iastore, 1) := dk_79 (dk_at dksX1_tells_3 2 rfl rfl)
theorem dX1_tells_74 : decode cX1_tells 74 = .ok (.aload_n 0, 1) := dk_42 (dk_at dksX1_tells_3 3 rfl rfl)
theorem dX1_tells_75 : decode cX1_tells 75 = .ok (.getfield 23, 3) := dk_180 0 23 (dk_at dksX1_tells_3 4 rfl rfl)
theorem dX1_tells_78 : decode cX1_tells 78 = .ok (.bipush 7, 2) := dk_16 7 (dk_at dksX1_tells_3 7 rfl rfl)
theorem dX1_tells_80 : decode cX1_tells 80 = .ok (.iload 6, 2) := dk_21 6 (dk_at dksX1_tells_3 9 rfl rfl)
theorem dX1_tells_82 : decode cX1_tells 82 = .ok (.iastore, 1) := dk_79 (dk_at dksX1_tells_3 11 rfl rfl)
theorem dX1_tells_83 : decode cX1_tells 83 = .ok (.aload_n 0, 1) := dk_42 (dk_at dksX1_tells_3 12 rfl rfl)
theorem dX1_tells_84 : decode cX1_tells 84 = .ok (.getfield 23, 3) := dk_180 0 23 (dk_at dksX1_tells_3 13 rfl rfl)
theorem dX1_tells_87 : decode cX1_tells 87 = .ok (.bipush 8, 2) := dk_16 8 (dk_at dksX1_tells_3 16 rfl rfl)
theorem dX1_tells_89 : decode cX1_tells 89 = .ok (.lload 7, 2) := dk_22 7 (dk_at dksX1_tells_3 18 rfl rfl)
theorem dX1_tells_91 : decode cX1_tells 91 = .ok (.invokestatic 169, 3) := dk_184 0 169 (dk_at dksX1_tells_3 20 rfl rfl)
theorem dX1_tells_94 : decode cX1_tells 94 = .ok (.iastore, 1) := dk_79 (dk_at dksX1_tells_3 23 rfl rfl)
theorem dX1_tells_95 : decode cX1_tells 95 = .ok (.aload_n 0, 1) := dk_42 (dk_at dksX1_tells_4 0 rfl rfl)
theorem dX1_tells_96 : decode cX1_tells 96 = .ok (.getfield 23, 3) := dk_180 0 23 (dk_at dksX1_tells_4 1 rfl rfl)
theorem dX1_tells_99 : decode cX1_tells 99 = .ok (.bipush 9, 2) := dk_16 9 (dk_at dksX1_tells_4 4 rfl rfl)
theorem dX1_tells_101 : decode cX1_tells 101 = .ok (.aload_n 0, 1) := dk_42 (dk_at dksX1_tells_4 6 rfl rfl)
theorem dX1_tells_102 : decode cX1_tells 102 = .ok (.getfield 12, 3) := dk_180 0 12 (dk_at dksX1_tells_4 7 rfl rfl)
theorem dX1_tells_105 : decode cX1_tells 105 = .ok (.getfield 114, 3) := dk_180 0 114 (dk_at dksX1_tells_4 10 rfl rfl)
theorem dX1_tells_108 : decode cX1_tells 108 = .ok (.iload_n 1, 1) := dk_27 (dk_at dksX1_tells_4 13 rfl rfl)
theorem dX1_tells_109 : decode cX1_tells 109 = .ok (.laload, 1) := dk_47 (dk_at dksX1_tells_4 14 rfl rfl)
theorem dX1_tells_110 : decode cX1_tells 110 = .ok (.aload_n 0, 1) := dk_42 (dk_at dksX1_tells_4 15 rfl rfl)
theorem dX1_tells_111 : decode cX1_tells 111 = .ok (.getfield 12, 3) := dk_180 0 12 (dk_at dksX1_tells_4 16 rfl rfl)
theorem dX1_tells_114 : decode cX1_tells 114 = .ok (.getfield 114, 3) := dk_180 0 114 (dk_at dksX1_tells_4 19 rfl rfl)
theorem dX1_tells_117 : decode cX1_tells 117 = .ok (.iload_n 2, 1) := dk_28 (dk_at dksX1_tells_4 22 rfl rfl)
theorem dX1_tells_118 : decode cX1_tells 118 = .ok (.laload, 1) := dk_47 (dk_at dksX1_tells_4 23 rfl rfl)
theorem dX1_tells_119 : decode cX1_tells 119 = .ok (.land, 1) := dk_127 (dk_at dksX1_tells_5 0 rfl rfl)
theorem dX1_tells_120 : decode cX1_tells 120 = .ok (.invokestatic 169, 3) := dk_184 0 169 (dk_at dksX1_tells_5 1 rfl rfl)
theorem dX1_tells_123 : decode cX1_tells 123 = .ok (.iastore, 1) := dk_79 (dk_at dksX1_tells_5 4 rfl rfl)
theorem dX1_tells_124 : decode cX1_tells 124 = .ok (.return_, 1) := dk_177 (dk_at dksX1_tells_5 5 rfl rfl)
abbrev cX1_change : ByteArray := prog_1_method_36_code
def yX1_change : MethodName := ⟨RX1, "change", "(II)V"⟩
def dkwX1_change_1 : List UInt8 := [29, 79, 177]
abbrev dktX1_change_1 : List UInt8 := dkwX1_change_1 ++ []
def dkwX1_change_0 : List UInt8 := [42, 180, 0, 74, 27, 46, 62, 42, 180, 0, 74, 27, 42, 180, 0, 74, 28, 46, 79, 42, 180, 0, 74, 28]
abbrev dktX1_change_0 : List UInt8 := dkwX1_change_0 ++ dktX1_change_1
theorem dksX1_change_0 : cX1_change.data.toList.drop 0 = dktX1_change_0 := by decide +kernel
theorem dksX1_change_1 : cX1_change.data.toList.drop 24 = dktX1_change_1 := dk_seg dksX1_change_0 24 rfl rfl
theorem dX1_change_0 : decode cX1_change 0 = .ok (.aload_n 0, 1) := dk_42 (dk_at dksX1_change_0 0 rfl rfl)
theorem dX1_change_1 : decode cX1_change 1 = .ok (.getfield 74, 3) := dk_180 0 74 (dk_at dksX1_change_0 1 rfl rfl)
theorem dX1_change_4 : decode cX1_change 4 = .ok (.iload_n 1, 1) := dk_27 (dk_at dksX1_change_0 4 rfl rfl)
theorem dX1_change_5 : decode cX1_change 5 = .ok (.iaload, 1) := dk_46 (dk_at dksX1_change_0 5 rfl rfl)
theorem dX1_change_6 : decode cX1_change 6 = .ok (.istore_n 3, 1) := dk_62 (dk_at dksX1_change_0 6 rfl rfl)
theorem dX1_change_7 : decode cX1_change 7 = .ok (.aload_n 0, 1) := dk_42 (dk_at dksX1_change_0 7 rfl rfl)
theorem dX1_change_8 : decode cX1_change 8 = .ok (.getfield 74, 3) := dk_180 0 74 (dk_at dksX1_change_0 8 rfl rfl)
theorem dX1_change_11 : decode cX1_change 11 = .ok (.iload_n 1, 1) := dk_27 (dk_at dksX1_change_0 11 rfl rfl)
theorem dX1_change_12 : decode cX1_change 12 = .ok (.aload_n 0, 1) := dk_42 (dk_at dksX1_change_0 12 rfl rfl)
theorem dX1_change_13 : decode cX1_change 13 = .ok (.getfield 74, 3) := dk_180 0 74 (dk_at dksX1_change_0 13 rfl rfl)
theorem dX1_change_16 : decode cX1_change 16 = .ok (.iload_n 2, 1) := dk_28 (dk_at dksX1_change_0 16 rfl rfl)
theorem dX1_change_17 : decode cX1_change 17 = .ok (.iaload, 1) := dk_46 (dk_at dksX1_change_0 17 rfl rfl)
theorem dX1_change_18 : decode cX1_change 18 = .ok (.iastore, 1) := dk_79 (dk_at dksX1_change_0 18 rfl rfl)
theorem dX1_change_19 : decode cX1_change 19 = .ok (.aload_n 0, 1) := dk_42 (dk_at dksX1_change_0 19 rfl rfl)
theorem dX1_change_20 : decode cX1_change 20 = .ok (.getfield 74, 3) := dk_180 0 74 (dk_at dksX1_change_0 20 rfl rfl)
theorem dX1_change_23 : decode cX1_change 23 = .ok (.iload_n 2, 1) := dk_28 (dk_at dksX1_change_0 23 rfl rfl)
theorem dX1_change_24 : decode cX1_change 24 = .ok (.iload_n 3, 1) := dk_29 (dk_at dksX1_change_1 0 rfl rfl)
theorem dX1_change_25 : decode cX1_change 25 = .ok (.iastore, 1) := dk_79 (dk_at dksX1_change_1 1 rfl rfl)
theorem dX1_change_26 : decode cX1_change 26 = .ok (.return_, 1) := dk_177 (dk_at dksX1_change_1 2 rfl rfl)
abbrev cX1_draw : ByteArray := prog_1_method_57_code
def yX1_draw : MethodName := ⟨RX1, "draw", "(II)I"⟩
def dkwX1_draw_1 : List UInt8 := [180, 0, 74, 28, 46, 172]
abbrev dktX1_draw_1 : List UInt8 := dkwX1_draw_1 ++ []
def dkwX1_draw_0 : List UInt8 := [28, 155, 0, 14, 28, 42, 180, 0, 12, 180, 0, 108, 161, 0, 5, 2, 172, 42, 27, 182, 1, 87, 42]
abbrev dktX1_draw_0 : List UInt8 := dkwX1_draw_0 ++ dktX1_draw_1
theorem dksX1_draw_0 : cX1_draw.data.toList.drop 0 = dktX1_draw_0 := by decide +kernel
theorem dksX1_draw_1 : cX1_draw.data.toList.drop 23 = dktX1_draw_1 := dk_seg dksX1_draw_0 23 rfl rfl
theorem dX1_draw_0 : decode cX1_draw 0 = .ok (.iload_n 2, 1) := dk_28 (dk_at dksX1_draw_0 0 rfl rfl)
theorem dX1_draw_1 : decode cX1_draw 1 = .ok (.ifCond .lt 14, 3) := dk_155 0 14 (dk_at dksX1_draw_0 1 rfl rfl)
theorem dX1_draw_4 : decode cX1_draw 4 = .ok (.iload_n 2, 1) := dk_28 (dk_at dksX1_draw_0 4 rfl rfl)
theorem dX1_draw_5 : decode cX1_draw 5 = .ok (.aload_n 0, 1) := dk_42 (dk_at dksX1_draw_0 5 rfl rfl)
theorem dX1_draw_6 : decode cX1_draw 6 = .ok (.getfield 12, 3) := dk_180 0 12 (dk_at dksX1_draw_0 6 rfl rfl)
theorem dX1_draw_9 : decode cX1_draw 9 = .ok (.getfield 108, 3) := dk_180 0 108 (dk_at dksX1_draw_0 9 rfl rfl)
theorem dX1_draw_12 : decode cX1_draw 12 = .ok (.if_icmp .lt 5, 3) := dk_161 0 5 (dk_at dksX1_draw_0 12 rfl rfl)
theorem dX1_draw_15 : decode cX1_draw 15 = .ok (.iconst (-1), 1) := dk_2 (dk_at dksX1_draw_0 15 rfl rfl)
theorem dX1_draw_16 : decode cX1_draw 16 = .ok (.ireturn, 1) := dk_172 (dk_at dksX1_draw_0 16 rfl rfl)
theorem dX1_draw_17 : decode cX1_draw 17 = .ok (.aload_n 0, 1) := dk_42 (dk_at dksX1_draw_0 17 rfl rfl)
theorem dX1_draw_18 : decode cX1_draw 18 = .ok (.iload_n 1, 1) := dk_27 (dk_at dksX1_draw_0 18 rfl rfl)
theorem dX1_draw_19 : decode cX1_draw 19 = .ok (.invokevirtual 343, 3) := dk_182 1 87 (dk_at dksX1_draw_0 19 rfl rfl)
theorem dX1_draw_22 : decode cX1_draw 22 = .ok (.aload_n 0, 1) := dk_42 (dk_at dksX1_draw_0 22 rfl rfl)
theorem dX1_draw_23 : decode cX1_draw 23 = .ok (.getfield 74, 3) := dk_180 0 74 (dk_at dksX1_draw_1 0 rfl rfl)
theorem dX1_draw_26 : decode cX1_draw 26 = .ok (.iload_n 2, 1) := dk_28 (dk_at dksX1_draw_1 3 rfl rfl)
theorem dX1_draw_27 : decode cX1_draw 27 = .ok (.iaload, 1) := dk_46 (dk_at dksX1_draw_1 4 rfl rfl)
theorem dX1_draw_28 : decode cX1_draw 28 = .ok (.ireturn, 1) := dk_172 (dk_at dksX1_draw_1 5 rfl rfl)
abbrev cX1_draws : ByteArray := prog_1_method_55_code
def yX1_draws : MethodName := ⟨RX1, "draws", "(I)V"⟩
def dkwX1_draws_2 : List UInt8 := [29, 28, 16, 16, 122, 17, 127, 255, 126, 29, 4, 96, 112, 182, 1, 35, 132, 3, 255, 167, 255, 222, 177]
abbrev dktX1_draws_2 : List UInt8 := dkwX1_draws_2 ++ []
def dkwX1_draws_1 : List UInt8 := [180, 0, 12, 180, 0, 108, 4, 100, 62, 29, 158, 0, 36, 28, 19, 1, 86, 104, 17, 48, 57, 96, 61, 42]
abbrev dktX1_draws_1 : List UInt8 := dkwX1_draws_1 ++ dktX1_draws_2
def dkwX1_draws_0 : List UInt8 := [27, 61, 3, 62, 29, 16, 12, 162, 0, 16, 42, 180, 0, 74, 29, 29, 79, 132, 3, 1, 167, 255, 240, 42]
abbrev dktX1_draws_0 : List UInt8 := dkwX1_draws_0 ++ dktX1_draws_1
theorem dksX1_draws_0 : cX1_draws.data.toList.drop 0 = dktX1_draws_0 := by decide +kernel
theorem dksX1_draws_1 : cX1_draws.data.toList.drop 24 = dktX1_draws_1 := dk_seg dksX1_draws_0 24 rfl rfl
theorem dksX1_draws_2 : cX1_draws.data.toList.drop 48 = dktX1_draws_2 := dk_seg dksX1_draws_1 24 rfl rfl
theorem dX1_draws_0 : decode cX1_draws 0 = .ok (.iload_n 1, 1) := dk_27 (dk_at dksX1_draws_0 0 rfl rfl)
theorem dX1_draws_1 : decode cX1_draws 1 = .ok (.istore_n 2, 1) := dk_61 (dk_at dksX1_draws_0 1 rfl rfl)
theorem dX1_draws_2 : decode cX1_draws 2 = .ok (.iconst 0, 1) := dk_3 (dk_at dksX1_draws_0 2 rfl rfl)
theorem dX1_draws_3 : decode cX1_draws 3 = .ok (.istore_n 3, 1) := dk_62 (dk_at dksX1_draws_0 3 rfl rfl)
theorem dX1_draws_4 : decode cX1_draws 4 = .ok (.iload_n 3, 1) := dk_29 (dk_at dksX1_draws_0 4 rfl rfl)
theorem dX1_draws_5 : decode cX1_draws 5 = .ok (.bipush 12, 2) := dk_16 12 (dk_at dksX1_draws_0 5 rfl rfl)
theorem dX1_draws_7 : decode cX1_draws 7 = .ok (.if_icmp .ge 16, 3) := dk_162 0 16 (dk_at dksX1_draws_0 7 rfl rfl)
theorem dX1_draws_10 : decode cX1_draws 10 = .ok (.aload_n 0, 1) := dk_42 (dk_at dksX1_draws_0 10 rfl rfl)
theorem dX1_draws_11 : decode cX1_draws 11 = .ok (.getfield 74, 3) := dk_180 0 74 (dk_at dksX1_draws_0 11 rfl rfl)
theorem dX1_draws_14 : decode cX1_draws 14 = .ok (.iload_n 3, 1) := dk_29 (dk_at dksX1_draws_0 14 rfl rfl)
theorem dX1_draws_15 : decode cX1_draws 15 = .ok (.iload_n 3, 1) := dk_29 (dk_at dksX1_draws_0 15 rfl rfl)
theorem dX1_draws_16 : decode cX1_draws 16 = .ok (.iastore, 1) := dk_79 (dk_at dksX1_draws_0 16 rfl rfl)
theorem dX1_draws_17 : decode cX1_draws 17 = .ok (.iinc 3 1, 3) := dk_132 3 1 (dk_at dksX1_draws_0 17 rfl rfl)
theorem dX1_draws_20 : decode cX1_draws 20 = .ok (.goto (-16), 3) := dk_167 255 240 (dk_at dksX1_draws_0 20 rfl rfl)
theorem dX1_draws_23 : decode cX1_draws 23 = .ok (.aload_n 0, 1) := dk_42 (dk_at dksX1_draws_0 23 rfl rfl)
theorem dX1_draws_24 : decode cX1_draws 24 = .ok (.getfield 12, 3) := dk_180 0 12 (dk_at dksX1_draws_1 0 rfl rfl)
theorem dX1_draws_27 : decode cX1_draws 27 = .ok (.getfield 108, 3) := dk_180 0 108 (dk_at dksX1_draws_1 3 rfl rfl)
theorem dX1_draws_30 : decode cX1_draws 30 = .ok (.iconst 1, 1) := dk_4 (dk_at dksX1_draws_1 6 rfl rfl)
theorem dX1_draws_31 : decode cX1_draws 31 = .ok (.isub, 1) := dk_100 (dk_at dksX1_draws_1 7 rfl rfl)
theorem dX1_draws_32 : decode cX1_draws 32 = .ok (.istore_n 3, 1) := dk_62 (dk_at dksX1_draws_1 8 rfl rfl)
theorem dX1_draws_33 : decode cX1_draws 33 = .ok (.iload_n 3, 1) := dk_29 (dk_at dksX1_draws_1 9 rfl rfl)
theorem dX1_draws_34 : decode cX1_draws 34 = .ok (.ifCond .le 36, 3) := dk_158 0 36 (dk_at dksX1_draws_1 10 rfl rfl)
theorem dX1_draws_37 : decode cX1_draws 37 = .ok (.iload_n 2, 1) := dk_28 (dk_at dksX1_draws_1 13 rfl rfl)
theorem dX1_draws_38 : decode cX1_draws 38 = .ok (.ldc_w 342, 3) := dk_19 1 86 (dk_at dksX1_draws_1 14 rfl rfl)
theorem dX1_draws_41 : decode cX1_draws 41 = .ok (.imul, 1) := dk_104 (dk_at dksX1_draws_1 17 rfl rfl)
theorem dX1_draws_42 : decode cX1_draws 42 = .ok (.sipush 12345, 3) := dk_17 48 57 (dk_at dksX1_draws_1 18 rfl rfl)
theorem dX1_draws_45 : decode cX1_draws 45 = .ok (.iadd, 1) := dk_96 (dk_at dksX1_draws_1 21 rfl rfl)
theorem dX1_draws_46 : decode cX1_draws 46 = .ok (.istore_n 2, 1) := dk_61 (dk_at dksX1_draws_1 22 rfl rfl)
theorem dX1_draws_47 : decode cX1_draws 47 = .ok (.aload_n 0, 1) := dk_42 (dk_at dksX1_draws_1 23 rfl rfl)
theorem dX1_draws_48 : decode cX1_draws 48 = .ok (.iload_n 3, 1) := dk_29 (dk_at dksX1_draws_2 0 rfl rfl)
theorem dX1_draws_49 : decode cX1_draws 49 = .ok (.iload_n 2, 1) := dk_28 (dk_at dksX1_draws_2 1 rfl rfl)
theorem dX1_draws_50 : decode cX1_draws 50 = .ok (.bipush 16, 2) := dk_16 16 (dk_at dksX1_draws_2 2 rfl rfl)
theorem dX1_draws_52 : decode cX1_draws 52 = .ok (.ishr, 1) := dk_122 (dk_at dksX1_draws_2 4 rfl rfl)
theorem dX1_draws_53 : decode cX1_draws 53 = .ok (.sipush 32767, 3) := dk_17 127 255 (dk_at dksX1_draws_2 5 rfl rfl)
theorem dX1_draws_56 : decode cX1_draws 56 = .ok (.iand, 1) := dk_126 (dk_at dksX1_draws_2 8 rfl rfl)
theorem dX1_draws_57 : decode cX1_draws 57 = .ok (.iload_n 3, 1) := dk_29 (dk_at dksX1_draws_2 9 rfl rfl)
theorem dX1_draws_58 : decode cX1_draws 58 = .ok (.iconst 1, 1) := dk_4 (dk_at dksX1_draws_2 10 rfl rfl)
theorem dX1_draws_59 : decode cX1_draws 59 = .ok (.iadd, 1) := dk_96 (dk_at dksX1_draws_2 11 rfl rfl)
theorem dX1_draws_60 : decode cX1_draws 60 = .ok (.irem, 1) := dk_112 (dk_at dksX1_draws_2 12 rfl rfl)
theorem dX1_draws_61 : decode cX1_draws 61 = .ok (.invokevirtual 291, 3) := dk_182 1 35 (dk_at dksX1_draws_2 13 rfl rfl)
theorem dX1_draws_64 : decode cX1_draws 64 = .ok (.iinc 3 (-1), 3) := dk_132 3 255 (dk_at dksX1_draws_2 16 rfl rfl)
theorem dX1_draws_67 : decode cX1_draws 67 = .ok (.goto (-34), 3) := dk_167 255 222 (dk_at dksX1_draws_2 19 rfl rfl)
theorem dX1_draws_70 : decode cX1_draws 70 = .ok (.return_, 1) := dk_177 (dk_at dksX1_draws_2 22 rfl rfl)
abbrev cX1_grave : ByteArray := prog_1_method_78_code
def yX1_grave : MethodName := ⟨RX1, "grave", "(I)I"⟩
def dkwX1_grave_4 : List UInt8 := [160, 0, 6, 21, 5, 172, 29, 4, 21, 5, 120, 128, 62, 132, 4, 1, 167, 255, 160]
abbrev dktX1_grave_4 : List UInt8 := dkwX1_grave_4 ++ []
def dkwX1_grave_3 : List UInt8 := [164, 0, 7, 21, 6, 54, 5, 132, 6, 1, 167, 255, 194, 21, 5, 2, 159, 0, 9, 21, 4, 27]
abbrev dktX1_grave_3 : List UInt8 := dkwX1_grave_3 ++ dktX1_grave_4
def dkwX1_grave_2 : List UInt8 := [154, 0, 30, 21, 5, 2, 159, 0, 20, 44, 180, 1, 4, 21, 6, 46, 44, 180, 1, 4, 21, 5, 46]
abbrev dktX1_grave_2 : List UInt8 := dkwX1_grave_2 ++ dktX1_grave_3
def dkwX1_grave_1 : List UInt8 := [180, 0, 108, 162, 0, 56, 44, 180, 0, 254, 21, 6, 46, 2, 159, 0, 39, 29, 21, 6, 122, 4, 126]
abbrev dktX1_grave_1 : List UInt8 := dkwX1_grave_1 ++ dktX1_grave_2
def dkwX1_grave_0 : List UInt8 := [42, 182, 0, 244, 77, 3, 62, 3, 54, 4, 2, 54, 5, 3, 54, 6, 21, 6, 42, 180, 0, 12]
abbrev dktX1_grave_0 : List UInt8 := dkwX1_grave_0 ++ dktX1_grave_1
theorem dksX1_grave_0 : cX1_grave.data.toList.drop 0 = dktX1_grave_0 := by decide +kernel
theorem dksX1_grave_1 : cX1_grave.data.toList.drop 22 = dktX1_grave_1 := dk_seg dksX1_grave_0 22 rfl rfl
theorem dksX1_grave_2 : cX1_grave.data.toList.drop 45 = dktX1_grave_2 := dk_seg dksX1_grave_1 23 rfl rfl
theorem dksX1_grave_3 : cX1_grave.data.toList.drop 68 = dktX1_grave_3 := dk_seg dksX1_grave_2 23 rfl rfl
theorem dksX1_grave_4 : cX1_grave.data.toList.drop 90 = dktX1_grave_4 := dk_seg dksX1_grave_3 22 rfl rfl
theorem dX1_grave_0 : decode cX1_grave 0 = .ok (.aload_n 0, 1) := dk_42 (dk_at dksX1_grave_0 0 rfl rfl)
theorem dX1_grave_1 : decode cX1_grave 1 = .ok (.invokevirtual 244, 3) := dk_182 0 244 (dk_at dksX1_grave_0 1 rfl rfl)
theorem dX1_grave_4 : decode cX1_grave 4 = .ok (.astore_n 2, 1) := dk_77 (dk_at dksX1_grave_0 4 rfl rfl)
theorem dX1_grave_5 : decode cX1_grave 5 = .ok (.iconst 0, 1) := dk_3 (dk_at dksX1_grave_0 5 rfl rfl)
theorem dX1_grave_6 : decode cX1_grave 6 = .ok (.istore_n 3, 1) := dk_62 (dk_at dksX1_grave_0 6 rfl rfl)
theorem dX1_grave_7 : decode cX1_grave 7 = .ok (.iconst 0, 1) := dk_3 (dk_at dksX1_grave_0 7 rfl rfl)
theorem dX1_grave_8 : decode cX1_grave 8 = .ok (.istore 4, 2) := dk_54 4 (dk_at dksX1_grave_0 8 rfl rfl)
theorem dX1_grave_10 : decode cX1_grave 10 = .ok (.iconst (-1), 1) := dk_2 (dk_at dksX1_grave_0 10 rfl rfl)
theorem dX1_grave_11 : decode cX1_grave 11 = .ok (.istore 5, 2) := dk_54 5 (dk_at dksX1_grave_0 11 rfl rfl)
theorem dX1_grave_13 : decode cX1_grave 13 = .ok (.iconst 0, 1) := dk_3 (dk_at dksX1_grave_0 13 rfl rfl)
theorem dX1_grave_14 : decode cX1_grave 14 = .ok (.istore 6, 2) := dk_54 6 (dk_at dksX1_grave_0 14 rfl rfl)
theorem dX1_grave_16 : decode cX1_grave 16 = .ok (.iload 6, 2) := dk_21 6 (dk_at dksX1_grave_0 16 rfl rfl)
theorem dX1_grave_18 : decode cX1_grave 18 = .ok (.aload_n 0, 1) := dk_42 (dk_at dksX1_grave_0 18 rfl rfl)
theorem dX1_grave_19 : decode cX1_grave 19 = .ok (.getfield 12, 3) := dk_180 0 12 (dk_at dksX1_grave_0 19 rfl rfl)
theorem dX1_grave_22 : decode cX1_grave 22 = .ok (.getfield 108, 3) := dk_180 0 108 (dk_at dksX1_grave_1 0 rfl rfl)
theorem dX1_grave_25 : decode cX1_grave 25 = .ok (.if_icmp .ge 56, 3) := dk_162 0 56 (dk_at dksX1_grave_1 3 rfl rfl)
theorem dX1_grave_28 : decode cX1_grave 28 = .ok (.aload_n 2, 1) := dk_44 (dk_at dksX1_grave_1 6 rfl rfl)
theorem dX1_grave_29 : decode cX1_grave 29 = .ok (.getfield 254, 3) := dk_180 0 254 (dk_at dksX1_grave_1 7 rfl rfl)
theorem dX1_grave_32 : decode cX1_grave 32 = .ok (.iload 6, 2) := dk_21 6 (dk_at dksX1_grave_1 10 rfl rfl)
theorem dX1_grave_34 : decode cX1_grave 34 = .ok (.iaload, 1) := dk_46 (dk_at dksX1_grave_1 12 rfl rfl)
theorem dX1_grave_35 : decode cX1_grave 35 = .ok (.iconst (-1), 1) := dk_2 (dk_at dksX1_grave_1 13 rfl rfl)
theorem dX1_grave_36 : decode cX1_grave 36 = .ok (.if_icmp .eq 39, 3) := dk_159 0 39 (dk_at dksX1_grave_1 14 rfl rfl)
theorem dX1_grave_39 : decode cX1_grave 39 = .ok (.iload_n 3, 1) := dk_29 (dk_at dksX1_grave_1 17 rfl rfl)
theorem dX1_grave_40 : decode cX1_grave 40 = .ok (.iload 6, 2) := dk_21 6 (dk_at dksX1_grave_1 18 rfl rfl)
theorem dX1_grave_42 : decode cX1_grave 42 = .ok (.ishr, 1) := dk_122 (dk_at dksX1_grave_1 20 rfl rfl)
theorem dX1_grave_43 : decode cX1_grave 43 = .ok (.iconst 1, 1) := dk_4 (dk_at dksX1_grave_1 21 rfl rfl)
theorem dX1_grave_44 : decode cX1_grave 44 = .ok (.iand, 1) := dk_126 (dk_at dksX1_grave_1 22 rfl rfl)
theorem dX1_grave_45 : decode cX1_grave 45 = .ok (.ifCond .ne 30, 3) := dk_154 0 30 (dk_at dksX1_grave_2 0 rfl rfl)
theorem dX1_grave_48 : decode cX1_grave 48 = .ok (.iload 5, 2) := dk_21 5 (dk_at dksX1_grave_2 3 rfl rfl)
theorem dX1_grave_50 : decode cX1_grave 50 = .ok (.iconst (-1), 1) := dk_2 (dk_at dksX1_grave_2 5 rfl rfl)
theorem dX1_grave_51 : decode cX1_grave 51 = .ok (.if_icmp .eq 20, 3) := dk_159 0 20 (dk_at dksX1_grave_2 6 rfl rfl)
theorem dX1_grave_54 : decode cX1_grave 54 = .ok (.aload_n 2, 1) := dk_44 (dk_at dksX1_grave_2 9 rfl rfl)
theorem dX1_grave_55 : decode cX1_grave 55 = .ok (.getfield 260, 3) := dk_180 1 4 (dk_at dksX1_grave_2 10 rfl rfl)
theorem dX1_grave_58 : decode cX1_grave 58 = .ok (.iload 6, 2) := dk_21 6 (dk_at dksX1_grave_2 13 rfl rfl)
theorem dX1_grave_60 : decode cX1_grave 60 = .ok (.iaload, 1) := dk_46 (dk_at dksX1_grave_2 15 rfl rfl)
theorem dX1_grave_61 : decode cX1_grave 61 = .ok (.aload_n 2, 1) := dk_44 (dk_at dksX1_grave_2 16 rfl rfl)
theorem dX1_grave_62 : decode cX1_grave 62 = .ok (.getfield 260, 3) := dk_180 1 4 (dk_at dksX1_grave_2 17 rfl rfl)
theorem dX1_grave_65 : decode cX1_grave 65 = .ok (.iload 5, 2) := dk_21 5 (dk_at dksX1_grave_2 20 rfl rfl)
theorem dX1_grave_67 : decode cX1_grave 67 = .ok (.iaload, 1) := dk_46 (dk_at dksX1_grave_2 22 rfl rfl)
theorem dX1_grave_68 : decode cX1_grave 68 = .ok (.if_icmp .le 7, 3) := dk_164 0 7 (dk_at dksX1_grave_3 0 rfl rfl)
theorem dX1_grave_71 : decode cX1_grave 71 = .ok (.iload 6, 2) := dk_21 6 (dk_at dksX1_grave_3 3 rfl rfl)
theorem dX1_grave_73 : decode cX1_grave 73 = .ok (.istore 5, 2) := dk_54 5 (dk_at dksX1_grave_3 5 rfl rfl)
theorem dX1_grave_75 : decode cX1_grave 75 = .ok (.iinc 6 1, 3) := dk_132 6 1 (dk_at dksX1_grave_3 7 rfl rfl)
theorem dX1_grave_78 : decode cX1_grave 78 = .ok (.goto (-62), 3) := dk_167 255 194 (dk_at dksX1_grave_3 10 rfl rfl)
theorem dX1_grave_81 : decode cX1_grave 81 = .ok (.iload 5, 2) := dk_21 5 (dk_at dksX1_grave_3 13 rfl rfl)
theorem dX1_grave_83 : decode cX1_grave 83 = .ok (.iconst (-1), 1) := dk_2 (dk_at dksX1_grave_3 15 rfl rfl)
theorem dX1_grave_84 : decode cX1_grave 84 = .ok (.if_icmp .eq 9, 3) := dk_159 0 9 (dk_at dksX1_grave_3 16 rfl rfl)
theorem dX1_grave_87 : decode cX1_grave 87 = .ok (.iload 4, 2) := dk_21 4 (dk_at dksX1_grave_3 19 rfl rfl)
theorem dX1_grave_89 : decode cX1_grave 89 = .ok (.iload_n 1, 1) := dk_27 (dk_at dksX1_grave_3 21 rfl rfl)
theorem dX1_grave_90 : decode cX1_grave 90 = .ok (.if_icmp .ne 6, 3) := dk_160 0 6 (dk_at dksX1_grave_4 0 rfl rfl)
theorem dX1_grave_93 : decode cX1_grave 93 = .ok (.iload 5, 2) := dk_21 5 (dk_at dksX1_grave_4 3 rfl rfl)
theorem dX1_grave_95 : decode cX1_grave 95 = .ok (.ireturn, 1) := dk_172 (dk_at dksX1_grave_4 5 rfl rfl)
theorem dX1_grave_96 : decode cX1_grave 96 = .ok (.iload_n 3, 1) := dk_29 (dk_at dksX1_grave_4 6 rfl rfl)
theorem dX1_grave_97 : decode cX1_grave 97 = .ok (.iconst 1, 1) := dk_4 (dk_at dksX1_grave_4 7 rfl rfl)
theorem dX1_grave_98 : decode cX1_grave 98 = .ok (.iload 5, 2) := dk_21 5 (dk_at dksX1_grave_4 8 rfl rfl)
theorem dX1_grave_100 : decode cX1_grave 100 = .ok (.ishl, 1) := dk_120 (dk_at dksX1_grave_4 10 rfl rfl)
theorem dX1_grave_101 : decode cX1_grave 101 = .ok (.ior, 1) := dk_128 (dk_at dksX1_grave_4 11 rfl rfl)
theorem dX1_grave_102 : decode cX1_grave 102 = .ok (.istore_n 3, 1) := dk_62 (dk_at dksX1_grave_4 12 rfl rfl)
theorem dX1_grave_103 : decode cX1_grave 103 = .ok (.iinc 4 1, 3) := dk_132 4 1 (dk_at dksX1_grave_4 13 rfl rfl)
theorem dX1_grave_106 : decode cX1_grave 106 = .ok (.goto (-96), 3) := dk_167 255 160 (dk_at dksX1_grave_4 16 rfl rfl)
abbrev cX1_year : ByteArray := prog_1_method_30_code
def yX1_year : MethodName := ⟨RX1, "year", "()LLotBeliefs$School;"⟩
def dkwX1_year_0 : List UInt8 := [42, 42, 180, 0, 40, 180, 0, 120, 42, 180, 0, 40, 180, 0, 126, 3, 182, 0, 240, 176]
abbrev dktX1_year_0 : List UInt8 := dkwX1_year_0 ++ []
theorem dksX1_year_0 : cX1_year.data.toList.drop 0 = dktX1_year_0 := by decide +kernel
theorem dX1_year_0 : decode cX1_year 0 = .ok (.aload_n 0, 1) := dk_42 (dk_at dksX1_year_0 0 rfl rfl)
theorem dX1_year_1 : decode cX1_year 1 = .ok (.aload_n 0, 1) := dk_42 (dk_at dksX1_year_0 1 rfl rfl)
theorem dX1_year_2 : decode cX1_year 2 = .ok (.getfield 40, 3) := dk_180 0 40 (dk_at dksX1_year_0 2 rfl rfl)
theorem dX1_year_5 : decode cX1_year 5 = .ok (.getfield 120, 3) := dk_180 0 120 (dk_at dksX1_year_0 5 rfl rfl)
theorem dX1_year_8 : decode cX1_year 8 = .ok (.aload_n 0, 1) := dk_42 (dk_at dksX1_year_0 8 rfl rfl)
theorem dX1_year_9 : decode cX1_year 9 = .ok (.getfield 40, 3) := dk_180 0 40 (dk_at dksX1_year_0 9 rfl rfl)
theorem dX1_year_12 : decode cX1_year 12 = .ok (.getfield 126, 3) := dk_180 0 126 (dk_at dksX1_year_0 12 rfl rfl)
theorem dX1_year_15 : decode cX1_year 15 = .ok (.iconst 0, 1) := dk_3 (dk_at dksX1_year_0 15 rfl rfl)
theorem dX1_year_16 : decode cX1_year 16 = .ok (.invokevirtual 240, 3) := dk_182 0 240 (dk_at dksX1_year_0 16 rfl rfl)
theorem dX1_year_19 : decode cX1_year 19 = .ok (.areturn, 1) := dk_176 (dk_at dksX1_year_0 19 rfl rfl)
abbrev cX1_swap : ByteArray := prog_1_method_80_code
def yX1_swap : MethodName := ⟨RX1, "swap", "()I"⟩
def dkwX1_swap_5 : List UInt8 := [132, 4, 1, 167, 255, 190, 132, 3, 1, 167, 255, 168, 28, 172]
abbrev dktX1_swap_5 : List UInt8 := dkwX1_swap_5 ++ []
def dkwX1_swap_4 : List UInt8 := [182, 1, 35, 21, 5, 27, 163, 0, 6, 167, 0, 14, 16, 16, 29, 104, 21, 4, 96, 61, 21, 5, 60]
abbrev dktX1_swap_4 : List UInt8 := dkwX1_swap_4 ++ dktX1_swap_5
def dkwX1_swap_3 : List UInt8 := [182, 1, 35, 42, 42, 42, 180, 0, 40, 180, 0, 126, 182, 1, 32, 182, 1, 27, 54, 5, 42, 29, 21, 4]
abbrev dktX1_swap_3 : List UInt8 := dkwX1_swap_3 ++ dktX1_swap_4
def dkwX1_swap_2 : List UInt8 := [162, 0, 83, 29, 4, 96, 54, 4, 21, 4, 42, 180, 0, 12, 180, 0, 108, 162, 0, 60, 42, 29, 21, 4]
abbrev dktX1_swap_2 : List UInt8 := dkwX1_swap_2 ++ dktX1_swap_3
def dkwX1_swap_1 : List UInt8 := [180, 0, 126, 182, 1, 32, 182, 1, 27, 60, 2, 61, 3, 62, 29, 42, 180, 0, 12, 180, 0, 108]
abbrev dktX1_swap_1 : List UInt8 := dkwX1_swap_1 ++ dktX1_swap_2
def dkwX1_swap_0 : List UInt8 := [42, 180, 0, 40, 180, 0, 120, 3, 42, 180, 0, 74, 3, 16, 12, 184, 0, 223, 42, 42, 42, 180, 0, 40]
abbrev dktX1_swap_0 : List UInt8 := dkwX1_swap_0 ++ dktX1_swap_1
theorem dksX1_swap_0 : cX1_swap.data.toList.drop 0 = dktX1_swap_0 := by decide +kernel
theorem dksX1_swap_1 : cX1_swap.data.toList.drop 24 = dktX1_swap_1 := dk_seg dksX1_swap_0 24 rfl rfl
theorem dksX1_swap_2 : cX1_swap.data.toList.drop 46 = dktX1_swap_2 := dk_seg dksX1_swap_1 22 rfl rfl
theorem dksX1_swap_3 : cX1_swap.data.toList.drop 70 = dktX1_swap_3 := dk_seg dksX1_swap_2 24 rfl rfl
theorem dksX1_swap_4 : cX1_swap.data.toList.drop 94 = dktX1_swap_4 := dk_seg dksX1_swap_3 24 rfl rfl
theorem dksX1_swap_5 : cX1_swap.data.toList.drop 117 = dktX1_swap_5 := dk_seg dksX1_swap_4 23 rfl rfl
theorem dX1_swap_0 : decode cX1_swap 0 = .ok (.aload_n 0, 1) := dk_42 (dk_at dksX1_swap_0 0 rfl rfl)
theorem dX1_swap_1 : decode cX1_swap 1 = .ok (.getfield 40, 3) := dk_180 0 40 (dk_at dksX1_swap_0 1 rfl rfl)
theorem dX1_swap_4 : decode cX1_swap 4 = .ok (.getfield 120, 3) := dk_180 0 120 (dk_at dksX1_swap_0 4 rfl rfl)
theorem dX1_swap_7 : decode cX1_swap 7 = .ok (.iconst 0, 1) := dk_3 (dk_at dksX1_swap_0 7 rfl rfl)
theorem dX1_swap_8 : decode cX1_swap 8 = .ok (.aload_n 0, 1) := dk_42 (dk_at dksX1_swap_0 8 rfl rfl)
theorem dX1_swap_9 : decode cX1_swap 9 = .ok (.getfield 74, 3) := dk_180 0 74 (dk_at dksX1_swap_0 9 rfl rfl)
theorem dX1_swap_12 : decode cX1_swap 12 = .ok (.iconst 0, 1) := dk_3 (dk_at dksX1_swap_0 12 rfl rfl)
theorem dX1_swap_13 : decode cX1_swap 13 = .ok (.bipush 12, 2) := dk_16 12 (dk_at dksX1_swap_0 13 rfl rfl)
theorem dX1_swap_15 : decode cX1_swap 15 = .ok (.invokestatic 223, 3) := dk_184 0 223 (dk_at dksX1_swap_0 15 rfl rfl)
theorem dX1_swap_18 : decode cX1_swap 18 = .ok (.aload_n 0, 1) := dk_42 (dk_at dksX1_swap_0 18 rfl rfl)
theorem dX1_swap_19 : decode cX1_swap 19 = .ok (.aload_n 0, 1) := dk_42 (dk_at dksX1_swap_0 19 rfl rfl)
theorem dX1_swap_20 : decode cX1_swap 20 = .ok (.aload_n 0, 1) := dk_42 (dk_at dksX1_swap_0 20 rfl rfl)
theorem dX1_swap_21 : decode cX1_swap 21 = .ok (.getfield 40, 3) := dk_180 0 40 (dk_at dksX1_swap_0 21 rfl rfl)
theorem dX1_swap_24 : decode cX1_swap 24 = .ok (.getfield 126, 3) := dk_180 0 126 (dk_at dksX1_swap_1 0 rfl rfl)
theorem dX1_swap_27 : decode cX1_swap 27 = .ok (.invokevirtual 288, 3) := dk_182 1 32 (dk_at dksX1_swap_1 3 rfl rfl)
theorem dX1_swap_30 : decode cX1_swap 30 = .ok (.invokevirtual 283, 3) := dk_182 1 27 (dk_at dksX1_swap_1 6 rfl rfl)
theorem dX1_swap_33 : decode cX1_swap 33 = .ok (.istore_n 1, 1) := dk_60 (dk_at dksX1_swap_1 9 rfl rfl)
theorem dX1_swap_34 : decode cX1_swap 34 = .ok (.iconst (-1), 1) := dk_2 (dk_at dksX1_swap_1 10 rfl rfl)
theorem dX1_swap_35 : decode cX1_swap 35 = .ok (.istore_n 2, 1) := dk_61 (dk_at dksX1_swap_1 11 rfl rfl)
theorem dX1_swap_36 : decode cX1_swap 36 = .ok (.iconst 0, 1) := dk_3 (dk_at dksX1_swap_1 12 rfl rfl)
theorem dX1_swap_37 : decode cX1_swap 37 = .ok (.istore_n 3, 1) := dk_62 (dk_at dksX1_swap_1 13 rfl rfl)
theorem dX1_swap_38 : decode cX1_swap 38 = .ok (.iload_n 3, 1) := dk_29 (dk_at dksX1_swap_1 14 rfl rfl)
theorem dX1_swap_39 : decode cX1_swap 39 = .ok (.aload_n 0, 1) := dk_42 (dk_at dksX1_swap_1 15 rfl rfl)
theorem dX1_swap_40 : decode cX1_swap 40 = .ok (.getfield 12, 3) := dk_180 0 12 (dk_at dksX1_swap_1 16 rfl rfl)
theorem dX1_swap_43 : decode cX1_swap 43 = .ok (.getfield 108, 3) := dk_180 0 108 (dk_at dksX1_swap_1 19 rfl rfl)
theorem dX1_swap_46 : decode cX1_swap 46 = .ok (.if_icmp .ge 83, 3) := dk_162 0 83 (dk_at dksX1_swap_2 0 rfl rfl)
theorem dX1_swap_49 : decode cX1_swap 49 = .ok (.iload_n 3, 1) := dk_29 (dk_at dksX1_swap_2 3 rfl rfl)
theorem dX1_swap_50 : decode cX1_swap 50 = .ok (.iconst 1, 1) := dk_4 (dk_at dksX1_swap_2 4 rfl rfl)
theorem dX1_swap_51 : decode cX1_swap 51 = .ok (.iadd, 1) := dk_96 (dk_at dksX1_swap_2 5 rfl rfl)
theorem dX1_swap_52 : decode cX1_swap 52 = .ok (.istore 4, 2) := dk_54 4 (dk_at dksX1_swap_2 6 rfl rfl)
theorem dX1_swap_54 : decode cX1_swap 54 = .ok (.iload 4, 2) := dk_21 4 (dk_at dksX1_swap_2 8 rfl rfl)
theorem dX1_swap_56 : decode cX1_swap 56 = .ok (.aload_n 0, 1) := dk_42 (dk_at dksX1_swap_2 10 rfl rfl)
theorem dX1_swap_57 : decode cX1_swap 57 = .ok (.getfield 12, 3) := dk_180 0 12 (dk_at dksX1_swap_2 11 rfl rfl)
theorem dX1_swap_60 : decode cX1_swap 60 = .ok (.getfield 108, 3) := dk_180 0 108 (dk_at dksX1_swap_2 14 rfl rfl)
theorem dX1_swap_63 : decode cX1_swap 63 = .ok (.if_icmp .ge 60, 3) := dk_162 0 60 (dk_at dksX1_swap_2 17 rfl rfl)
theorem dX1_swap_66 : decode cX1_swap 66 = .ok (.aload_n 0, 1) := dk_42 (dk_at dksX1_swap_2 20 rfl rfl)
theorem dX1_swap_67 : decode cX1_swap 67 = .ok (.iload_n 3, 1) := dk_29 (dk_at dksX1_swap_2 21 rfl rfl)
theorem dX1_swap_68 : decode cX1_swap 68 = .ok (.iload 4, 2) := dk_21 4 (dk_at dksX1_swap_2 22 rfl rfl)
theorem dX1_swap_70 : decode cX1_swap 70 = .ok (.invokevirtual 291, 3) := dk_182 1 35 (dk_at dksX1_swap_3 0 rfl rfl)
theorem dX1_swap_73 : decode cX1_swap 73 = .ok (.aload_n 0, 1) := dk_42 (dk_at dksX1_swap_3 3 rfl rfl)
theorem dX1_swap_74 : decode cX1_swap 74 = .ok (.aload_n 0, 1) := dk_42 (dk_at dksX1_swap_3 4 rfl rfl)
theorem dX1_swap_75 : decode cX1_swap 75 = .ok (.aload_n 0, 1) := dk_42 (dk_at dksX1_swap_3 5 rfl rfl)
theorem dX1_swap_76 : decode cX1_swap 76 = .ok (.getfield 40, 3) := dk_180 0 40 (dk_at dksX1_swap_3 6 rfl rfl)
theorem dX1_swap_79 : decode cX1_swap 79 = .ok (.getfield 126, 3) := dk_180 0 126 (dk_at dksX1_swap_3 9 rfl rfl)
theorem dX1_swap_82 : decode cX1_swap 82 = .ok (.invokevirtual 288, 3) := dk_182 1 32 (dk_at dksX1_swap_3 12 rfl rfl)
theorem dX1_swap_85 : decode cX1_swap 85 = .ok (.invokevirtual 283, 3) := dk_182 1 27 (dk_at dksX1_swap_3 15 rfl rfl)
theorem dX1_swap_88 : decode cX1_swap 88 = .ok (.istore 5, 2) := dk_54 5 (dk_at dksX1_swap_3 18 rfl rfl)
theorem dX1_swap_90 : decode cX1_swap 90 = .ok (.aload_n 0, 1) := dk_42 (dk_at dksX1_swap_3 20 rfl rfl)
theorem dX1_swap_91 : decode cX1_swap 91 = .ok (.iload_n 3, 1) := dk_29 (dk_at dksX1_swap_3 21 rfl rfl)
theorem dX1_swap_92 : decode cX1_swap 92 = .ok (.iload 4, 2) := dk_21 4 (dk_at dksX1_swap_3 22 rfl rfl)
theorem dX1_swap_94 : decode cX1_swap 94 = .ok (.invokevirtual 291, 3) := dk_182 1 35 (dk_at dksX1_swap_4 0 rfl rfl)
theorem dX1_swap_97 : decode cX1_swap 97 = .ok (.iload 5, 2) := dk_21 5 (dk_at dksX1_swap_4 3 rfl rfl)
theorem dX1_swap_99 : decode cX1_swap 99 = .ok (.iload_n 1, 1) := dk_27 (dk_at dksX1_swap_4 5 rfl rfl)
theorem dX1_swap_100 : decode cX1_swap 100 = .ok (.if_icmp .gt 6, 3) := dk_163 0 6 (dk_at dksX1_swap_4 6 rfl rfl)
theorem dX1_swap_103 : decode cX1_swap 103 = .ok (.goto 14, 3) := dk_167 0 14 (dk_at dksX1_swap_4 9 rfl rfl)
theorem dX1_swap_106 : decode cX1_swap 106 = .ok (.bipush 16, 2) := dk_16 16 (dk_at dksX1_swap_4 12 rfl rfl)
theorem dX1_swap_108 : decode cX1_swap 108 = .ok (.iload_n 3, 1) := dk_29 (dk_at dksX1_swap_4 14 rfl rfl)
theorem dX1_swap_109 : decode cX1_swap 109 = .ok (.imul, 1) := dk_104 (dk_at dksX1_swap_4 15 rfl rfl)
theorem dX1_swap_110 : decode cX1_swap 110 = .ok (.iload 4, 2) := dk_21 4 (dk_at dksX1_swap_4 16 rfl rfl)
theorem dX1_swap_112 : decode cX1_swap 112 = .ok (.iadd, 1) := dk_96 (dk_at dksX1_swap_4 18 rfl rfl)
theorem dX1_swap_113 : decode cX1_swap 113 = .ok (.istore_n 2, 1) := dk_61 (dk_at dksX1_swap_4 19 rfl rfl)
theorem dX1_swap_114 : decode cX1_swap 114 = .ok (.iload 5, 2) := dk_21 5 (dk_at dksX1_swap_4 20 rfl rfl)
theorem dX1_swap_116 : decode cX1_swap 116 = .ok (.istore_n 1, 1) := dk_60 (dk_at dksX1_swap_4 22 rfl rfl)
theorem dX1_swap_117 : decode cX1_swap 117 = .ok (.iinc 4 1, 3) := dk_132 4 1 (dk_at dksX1_swap_5 0 rfl rfl)
theorem dX1_swap_120 : decode cX1_swap 120 = .ok (.goto (-66), 3) := dk_167 255 190 (dk_at dksX1_swap_5 3 rfl rfl)
theorem dX1_swap_123 : decode cX1_swap 123 = .ok (.iinc 3 1, 3) := dk_132 3 1 (dk_at dksX1_swap_5 6 rfl rfl)
theorem dX1_swap_126 : decode cX1_swap 126 = .ok (.goto (-88), 3) := dk_167 255 168 (dk_at dksX1_swap_5 9 rfl rfl)
theorem dX1_swap_129 : decode cX1_swap 129 = .ok (.iload_n 2, 1) := dk_28 (dk_at dksX1_swap_5 12 rfl rfl)
theorem dX1_swap_130 : decode cX1_swap 130 = .ok (.ireturn, 1) := dk_172 (dk_at dksX1_swap_5 13 rfl rfl)
abbrev cX1_trueOf : ByteArray := prog_1_method_33_code
def yX1_trueOf : MethodName := ⟨RX1, "trueOf", "(I)I"⟩
def dkwX1_trueOf_0 : List UInt8 := [27, 42, 182, 1, 10, 126, 184, 1, 13, 172]
abbrev dktX1_trueOf_0 : List UInt8 := dkwX1_trueOf_0 ++ []
theorem dksX1_trueOf_0 : cX1_trueOf.data.toList.drop 0 = dktX1_trueOf_0 := by decide +kernel
theorem dX1_trueOf_0 : decode cX1_trueOf 0 = .ok (.iload_n 1, 1) := dk_27 (dk_at dksX1_trueOf_0 0 rfl rfl)
theorem dX1_trueOf_1 : decode cX1_trueOf 1 = .ok (.aload_n 0, 1) := dk_42 (dk_at dksX1_trueOf_0 1 rfl rfl)
theorem dX1_trueOf_2 : decode cX1_trueOf 2 = .ok (.invokevirtual 266, 3) := dk_182 1 10 (dk_at dksX1_trueOf_0 2 rfl rfl)
theorem dX1_trueOf_5 : decode cX1_trueOf 5 = .ok (.iand, 1) := dk_126 (dk_at dksX1_trueOf_0 5 rfl rfl)
theorem dX1_trueOf_6 : decode cX1_trueOf 6 = .ok (.invokestatic 269, 3) := dk_184 1 13 (dk_at dksX1_trueOf_0 6 rfl rfl)
theorem dX1_trueOf_9 : decode cX1_trueOf 9 = .ok (.ireturn, 1) := dk_172 (dk_at dksX1_trueOf_0 9 rfl rfl)
abbrev cX1_humble : ByteArray := prog_1_method_82_code
def yX1_humble : MethodName := ⟨RX1, "humble", "()I"⟩
def dkwX1_humble_2 : List UInt8 := [167, 255, 214, 27, 172]
abbrev dktX1_humble_2 : List UInt8 := dkwX1_humble_2 ++ []
def dkwX1_humble_1 : List UInt8 := [184, 1, 13, 27, 184, 1, 13, 162, 0, 13, 42, 28, 182, 1, 121, 153, 0, 5, 28, 60, 132, 2, 1]
abbrev dktX1_humble_1 : List UInt8 := dkwX1_humble_1 ++ dktX1_humble_2
def dkwX1_humble_0 : List UInt8 := [2, 60, 3, 61, 28, 4, 42, 180, 0, 12, 180, 0, 108, 120, 162, 0, 35, 27, 2, 159, 0, 14, 28]
abbrev dktX1_humble_0 : List UInt8 := dkwX1_humble_0 ++ dktX1_humble_1
theorem dksX1_humble_0 : cX1_humble.data.toList.drop 0 = dktX1_humble_0 := by decide +kernel
theorem dksX1_humble_1 : cX1_humble.data.toList.drop 23 = dktX1_humble_1 := dk_seg dksX1_humble_0 23 rfl rfl
theorem dksX1_humble_2 : cX1_humble.data.toList.drop 46 = dktX1_humble_2 := dk_seg dksX1_humble_1 23 rfl rfl
theorem dX1_humble_0 : decode cX1_humble 0 = .ok (.iconst (-1), 1) := dk_2 (dk_at dksX1_humble_0 0 rfl rfl)
theorem dX1_humble_1 : decode cX1_humble 1 = .ok (.istore_n 1, 1) := dk_60 (dk_at dksX1_humble_0 1 rfl rfl)
theorem dX1_humble_2 : decode cX1_humble 2 = .ok (.iconst 0, 1) := dk_3 (dk_at dksX1_humble_0 2 rfl rfl)
theorem dX1_humble_3 : decode cX1_humble 3 = .ok (.istore_n 2, 1) := dk_61 (dk_at dksX1_humble_0 3 rfl rfl)
theorem dX1_humble_4 : decode cX1_humble 4 = .ok (.iload_n 2, 1) := dk_28 (dk_at dksX1_humble_0 4 rfl rfl)
theorem dX1_humble_5 : decode cX1_humble 5 = .ok (.iconst 1, 1) := dk_4 (dk_at dksX1_humble_0 5 rfl rfl)
theorem dX1_humble_6 : decode cX1_humble 6 = .ok (.aload_n 0, 1) := dk_42 (dk_at dksX1_humble_0 6 rfl rfl)
theorem dX1_humble_7 : decode cX1_humble 7 = .ok (.getfield 12, 3) := dk_180 0 12 (dk_at dksX1_humble_0 7 rfl rfl)
theorem dX1_humble_10 : decode cX1_humble 10 = .ok (.getfield 108, 3) := dk_180 0 108 (dk_at dksX1_humble_0 10 rfl rfl)
theorem dX1_humble_13 : decode cX1_humble 13 = .ok (.ishl, 1) := dk_120 (dk_at dksX1_humble_0 13 rfl rfl)
theorem dX1_humble_14 : decode cX1_humble 14 = .ok (.if_icmp .ge 35, 3) := dk_162 0 35 (dk_at dksX1_humble_0 14 rfl rfl)
theorem dX1_humble_17 : decode cX1_humble 17 = .ok (.iload_n 1, 1) := dk_27 (dk_at dksX1_humble_0 17 rfl rfl)
theorem dX1_humble_18 : decode cX1_humble 18 = .ok (.iconst (-1), 1) := dk_2 (dk_at dksX1_humble_0 18 rfl rfl)
theorem dX1_humble_19 : decode cX1_humble 19 = .ok (.if_icmp .eq 14, 3) := dk_159 0 14 (dk_at dksX1_humble_0 19 rfl rfl)
theorem dX1_humble_22 : decode cX1_humble 22 = .ok (.iload_n 2, 1) := dk_28 (dk_at dksX1_humble_0 22 rfl rfl)
theorem dX1_humble_23 : decode cX1_humble 23 = .ok (.invokestatic 269, 3) := dk_184 1 13 (dk_at dksX1_humble_1 0 rfl rfl)
theorem dX1_humble_26 : decode cX1_humble 26 = .ok (.iload_n 1, 1) := dk_27 (dk_at dksX1_humble_1 3 rfl rfl)
theorem dX1_humble_27 : decode cX1_humble 27 = .ok (.invokestatic 269, 3) := dk_184 1 13 (dk_at dksX1_humble_1 4 rfl rfl)
theorem dX1_humble_30 : decode cX1_humble 30 = .ok (.if_icmp .ge 13, 3) := dk_162 0 13 (dk_at dksX1_humble_1 7 rfl rfl)
theorem dX1_humble_33 : decode cX1_humble 33 = .ok (.aload_n 0, 1) := dk_42 (dk_at dksX1_humble_1 10 rfl rfl)
theorem dX1_humble_34 : decode cX1_humble 34 = .ok (.iload_n 2, 1) := dk_28 (dk_at dksX1_humble_1 11 rfl rfl)
theorem dX1_humble_35 : decode cX1_humble 35 = .ok (.invokevirtual 377, 3) := dk_182 1 121 (dk_at dksX1_humble_1 12 rfl rfl)
theorem dX1_humble_38 : decode cX1_humble 38 = .ok (.ifCond .eq 5, 3) := dk_153 0 5 (dk_at dksX1_humble_1 15 rfl rfl)
theorem dX1_humble_41 : decode cX1_humble 41 = .ok (.iload_n 2, 1) := dk_28 (dk_at dksX1_humble_1 18 rfl rfl)
theorem dX1_humble_42 : decode cX1_humble 42 = .ok (.istore_n 1, 1) := dk_60 (dk_at dksX1_humble_1 19 rfl rfl)
theorem dX1_humble_43 : decode cX1_humble 43 = .ok (.iinc 2 1, 3) := dk_132 2 1 (dk_at dksX1_humble_1 20 rfl rfl)
theorem dX1_humble_46 : decode cX1_humble 46 = .ok (.goto (-42), 3) := dk_167 255 214 (dk_at dksX1_humble_2 0 rfl rfl)
theorem dX1_humble_49 : decode cX1_humble 49 = .ok (.iload_n 1, 1) := dk_27 (dk_at dksX1_humble_2 3 rfl rfl)
theorem dX1_humble_50 : decode cX1_humble 50 = .ok (.ireturn, 1) := dk_172 (dk_at dksX1_humble_2 4 rfl rfl)
abbrev cX1_isHumble : ByteArray := prog_1_method_81_code
def yX1_isHumble : MethodName := ⟨RX1, "isHumble", "(I)Z"⟩
def dkwX1_isHumble_5 : List UInt8 := [120, 4, 100, 27, 2, 130, 126, 160, 0, 7, 4, 167, 0, 4, 3, 172]
abbrev dktX1_isHumble_5 : List UInt8 := dkwX1_isHumble_5 ++ []
def dkwX1_isHumble_4 : List UInt8 := [132, 2, 1, 132, 3, 1, 167, 255, 178, 42, 180, 0, 64, 182, 1, 18, 4, 42, 180, 0, 12, 180, 0, 108]
abbrev dktX1_isHumble_4 : List UInt8 := dkwX1_isHumble_4 ++ dktX1_isHumble_5
def dkwX1_isHumble_3 : List UInt8 := [180, 0, 108, 162, 0, 15, 42, 180, 0, 40, 180, 0, 120, 28, 46, 167, 0, 4, 2, 182, 0, 237]
abbrev dktX1_isHumble_3 : List UInt8 := dkwX1_isHumble_3 ++ dktX1_isHumble_4
def dkwX1_isHumble_2 : List UInt8 := [122, 4, 126, 4, 160, 0, 9, 132, 2, 1, 167, 255, 225, 42, 180, 0, 64, 29, 28, 42, 180, 0, 12]
abbrev dktX1_isHumble_2 : List UInt8 := dkwX1_isHumble_2 ++ dktX1_isHumble_3
def dkwX1_isHumble_1 : List UInt8 := [162, 0, 78, 28, 42, 180, 0, 12, 180, 0, 108, 162, 0, 26, 27, 42, 180, 0, 40, 180, 0, 120, 28, 46]
abbrev dktX1_isHumble_1 : List UInt8 := dkwX1_isHumble_1 ++ dktX1_isHumble_2
def dkwX1_isHumble_0 : List UInt8 := [42, 180, 0, 64, 42, 180, 0, 40, 180, 0, 126, 182, 0, 234, 87, 3, 61, 3, 62, 29, 16, 52]
abbrev dktX1_isHumble_0 : List UInt8 := dkwX1_isHumble_0 ++ dktX1_isHumble_1
theorem dksX1_isHumble_0 : cX1_isHumble.data.toList.drop 0 = dktX1_isHumble_0 := by decide +kernel
theorem dksX1_isHumble_1 : cX1_isHumble.data.toList.drop 22 = dktX1_isHumble_1 := dk_seg dksX1_isHumble_0 22 rfl rfl
theorem dksX1_isHumble_2 : cX1_isHumble.data.toList.drop 46 = dktX1_isHumble_2 := dk_seg dksX1_isHumble_1 24 rfl rfl
theorem dksX1_isHumble_3 : cX1_isHumble.data.toList.drop 69 = dktX1_isHumble_3 := dk_seg dksX1_isHumble_2 23 rfl rfl
theorem dksX1_isHumble_4 : cX1_isHumble.data.toList.drop 91 = dktX1_isHumble_4 := dk_seg dksX1_isHumble_3 22 rfl rfl
theorem dksX1_isHumble_5 : cX1_isHumble.data.toList.drop 115 = dktX1_isHumble_5 := dk_seg dksX1_isHumble_4 24 rfl rfl
theorem dX1_isHumble_0 : decode cX1_isHumble 0 = .ok (.aload_n 0, 1) := dk_42 (dk_at dksX1_isHumble_0 0 rfl rfl)
theorem dX1_isHumble_1 : decode cX1_isHumble 1 = .ok (.getfield 64, 3) := dk_180 0 64 (dk_at dksX1_isHumble_0 1 rfl rfl)
theorem dX1_isHumble_4 : decode cX1_isHumble 4 = .ok (.aload_n 0, 1) := dk_42 (dk_at dksX1_isHumble_0 4 rfl rfl)
theorem dX1_isHumble_5 : decode cX1_isHumble 5 = .ok (.getfield 40, 3) := dk_180 0 40 (dk_at dksX1_isHumble_0 5 rfl rfl)
theorem dX1_isHumble_8 : decode cX1_isHumble 8 = .ok (.getfield 126, 3) := dk_180 0 126 (dk_at dksX1_isHumble_0 8 rfl rfl)
theorem dX1_isHumble_11 : decode cX1_isHumble 11 = .ok (.invokevirtual 234, 3) := dk_182 0 234 (dk_at dksX1_isHumble_0 11 rfl rfl)
theorem dX1_isHumble_14 : decode cX1_isHumble 14 = .ok (.pop, 1) := dk_87 (dk_at dksX1_isHumble_0 14 rfl rfl)
theorem dX1_isHumble_15 : decode cX1_isHumble 15 = .ok (.iconst 0, 1) := dk_3 (dk_at dksX1_isHumble_0 15 rfl rfl)
theorem dX1_isHumble_16 : decode cX1_isHumble 16 = .ok (.istore_n 2, 1) := dk_61 (dk_at dksX1_isHumble_0 16 rfl rfl)
theorem dX1_isHumble_17 : decode cX1_isHumble 17 = .ok (.iconst 0, 1) := dk_3 (dk_at dksX1_isHumble_0 17 rfl rfl)
theorem dX1_isHumble_18 : decode cX1_isHumble 18 = .ok (.istore_n 3, 1) := dk_62 (dk_at dksX1_isHumble_0 18 rfl rfl)
theorem dX1_isHumble_19 : decode cX1_isHumble 19 = .ok (.iload_n 3, 1) := dk_29 (dk_at dksX1_isHumble_0 19 rfl rfl)
theorem dX1_isHumble_20 : decode cX1_isHumble 20 = .ok (.bipush 52, 2) := dk_16 52 (dk_at dksX1_isHumble_0 20 rfl rfl)
theorem dX1_isHumble_22 : decode cX1_isHumble 22 = .ok (.if_icmp .ge 78, 3) := dk_162 0 78 (dk_at dksX1_isHumble_1 0 rfl rfl)
theorem dX1_isHumble_25 : decode cX1_isHumble 25 = .ok (.iload_n 2, 1) := dk_28 (dk_at dksX1_isHumble_1 3 rfl rfl)
theorem dX1_isHumble_26 : decode cX1_isHumble 26 = .ok (.aload_n 0, 1) := dk_42 (dk_at dksX1_isHumble_1 4 rfl rfl)
theorem dX1_isHumble_27 : decode cX1_isHumble 27 = .ok (.getfield 12, 3) := dk_180 0 12 (dk_at dksX1_isHumble_1 5 rfl rfl)
theorem dX1_isHumble_30 : decode cX1_isHumble 30 = .ok (.getfield 108, 3) := dk_180 0 108 (dk_at dksX1_isHumble_1 8 rfl rfl)
theorem dX1_isHumble_33 : decode cX1_isHumble 33 = .ok (.if_icmp .ge 26, 3) := dk_162 0 26 (dk_at dksX1_isHumble_1 11 rfl rfl)
theorem dX1_isHumble_36 : decode cX1_isHumble 36 = .ok (.iload_n 1, 1) := dk_27 (dk_at dksX1_isHumble_1 14 rfl rfl)
theorem dX1_isHumble_37 : decode cX1_isHumble 37 = .ok (.aload_n 0, 1) := dk_42 (dk_at dksX1_isHumble_1 15 rfl rfl)
theorem dX1_isHumble_38 : decode cX1_isHumble 38 = .ok (.getfield 40, 3) := dk_180 0 40 (dk_at dksX1_isHumble_1 16 rfl rfl)
theorem dX1_isHumble_41 : decode cX1_isHumble 41 = .ok (.getfield 120, 3) := dk_180 0 120 (dk_at dksX1_isHumble_1 19 rfl rfl)
theorem dX1_isHumble_44 : decode cX1_isHumble 44 = .ok (.iload_n 2, 1) := dk_28 (dk_at dksX1_isHumble_1 22 rfl rfl)
theorem dX1_isHumble_45 : decode cX1_isHumble 45 = .ok (.iaload, 1) := dk_46 (dk_at dksX1_isHumble_1 23 rfl rfl)
theorem dX1_isHumble_46 : decode cX1_isHumble 46 = .ok (.ishr, 1) := dk_122 (dk_at dksX1_isHumble_2 0 rfl rfl)
theorem dX1_isHumble_47 : decode cX1_isHumble 47 = .ok (.iconst 1, 1) := dk_4 (dk_at dksX1_isHumble_2 1 rfl rfl)
theorem dX1_isHumble_48 : decode cX1_isHumble 48 = .ok (.iand, 1) := dk_126 (dk_at dksX1_isHumble_2 2 rfl rfl)
theorem dX1_isHumble_49 : decode cX1_isHumble 49 = .ok (.iconst 1, 1) := dk_4 (dk_at dksX1_isHumble_2 3 rfl rfl)
theorem dX1_isHumble_50 : decode cX1_isHumble 50 = .ok (.if_icmp .ne 9, 3) := dk_160 0 9 (dk_at dksX1_isHumble_2 4 rfl rfl)
theorem dX1_isHumble_53 : decode cX1_isHumble 53 = .ok (.iinc 2 1, 3) := dk_132 2 1 (dk_at dksX1_isHumble_2 7 rfl rfl)
theorem dX1_isHumble_56 : decode cX1_isHumble 56 = .ok (.goto (-31), 3) := dk_167 255 225 (dk_at dksX1_isHumble_2 10 rfl rfl)
theorem dX1_isHumble_59 : decode cX1_isHumble 59 = .ok (.aload_n 0, 1) := dk_42 (dk_at dksX1_isHumble_2 13 rfl rfl)
theorem dX1_isHumble_60 : decode cX1_isHumble 60 = .ok (.getfield 64, 3) := dk_180 0 64 (dk_at dksX1_isHumble_2 14 rfl rfl)
theorem dX1_isHumble_63 : decode cX1_isHumble 63 = .ok (.iload_n 3, 1) := dk_29 (dk_at dksX1_isHumble_2 17 rfl rfl)
theorem dX1_isHumble_64 : decode cX1_isHumble 64 = .ok (.iload_n 2, 1) := dk_28 (dk_at dksX1_isHumble_2 18 rfl rfl)
theorem dX1_isHumble_65 : decode cX1_isHumble 65 = .ok (.aload_n 0, 1) := dk_42 (dk_at dksX1_isHumble_2 19 rfl rfl)
theorem dX1_isHumble_66 : decode cX1_isHumble 66 = .ok (.getfield 12, 3) := dk_180 0 12 (dk_at dksX1_isHumble_2 20 rfl rfl)
theorem dX1_isHumble_69 : decode cX1_isHumble 69 = .ok (.getfield 108, 3) := dk_180 0 108 (dk_at dksX1_isHumble_3 0 rfl rfl)
theorem dX1_isHumble_72 : decode cX1_isHumble 72 = .ok (.if_icmp .ge 15, 3) := dk_162 0 15 (dk_at dksX1_isHumble_3 3 rfl rfl)
theorem dX1_isHumble_75 : decode cX1_isHumble 75 = .ok (.aload_n 0, 1) := dk_42 (dk_at dksX1_isHumble_3 6 rfl rfl)
theorem dX1_isHumble_76 : decode cX1_isHumble 76 = .ok (.getfield 40, 3) := dk_180 0 40 (dk_at dksX1_isHumble_3 7 rfl rfl)
theorem dX1_isHumble_79 : decode cX1_isHumble 79 = .ok (.getfield 120, 3) := dk_180 0 120 (dk_at dksX1_isHumble_3 10 rfl rfl)
theorem dX1_isHumble_82 : decode cX1_isHumble 82 = .ok (.iload_n 2, 1) := dk_28 (dk_at dksX1_isHumble_3 13 rfl rfl)
theorem dX1_isHumble_83 : decode cX1_isHumble 83 = .ok (.iaload, 1) := dk_46 (dk_at dksX1_isHumble_3 14 rfl rfl)
theorem dX1_isHumble_84 : decode cX1_isHumble 84 = .ok (.goto 4, 3) := dk_167 0 4 (dk_at dksX1_isHumble_3 15 rfl rfl)
theorem dX1_isHumble_87 : decode cX1_isHumble 87 = .ok (.iconst (-1), 1) := dk_2 (dk_at dksX1_isHumble_3 18 rfl rfl)
theorem dX1_isHumble_88 : decode cX1_isHumble 88 = .ok (.invokevirtual 237, 3) := dk_182 0 237 (dk_at dksX1_isHumble_3 19 rfl rfl)
theorem dX1_isHumble_91 : decode cX1_isHumble 91 = .ok (.iinc 2 1, 3) := dk_132 2 1 (dk_at dksX1_isHumble_4 0 rfl rfl)
theorem dX1_isHumble_94 : decode cX1_isHumble 94 = .ok (.iinc 3 1, 3) := dk_132 3 1 (dk_at dksX1_isHumble_4 3 rfl rfl)
theorem dX1_isHumble_97 : decode cX1_isHumble 97 = .ok (.goto (-78), 3) := dk_167 255 178 (dk_at dksX1_isHumble_4 6 rfl rfl)
theorem dX1_isHumble_100 : decode cX1_isHumble 100 = .ok (.aload_n 0, 1) := dk_42 (dk_at dksX1_isHumble_4 9 rfl rfl)
theorem dX1_isHumble_101 : decode cX1_isHumble 101 = .ok (.getfield 64, 3) := dk_180 0 64 (dk_at dksX1_isHumble_4 10 rfl rfl)
theorem dX1_isHumble_104 : decode cX1_isHumble 104 = .ok (.invokevirtual 274, 3) := dk_182 1 18 (dk_at dksX1_isHumble_4 13 rfl rfl)
theorem dX1_isHumble_107 : decode cX1_isHumble 107 = .ok (.iconst 1, 1) := dk_4 (dk_at dksX1_isHumble_4 16 rfl rfl)
theorem dX1_isHumble_108 : decode cX1_isHumble 108 = .ok (.aload_n 0, 1) := dk_42 (dk_at dksX1_isHumble_4 17 rfl rfl)
theorem dX1_isHumble_109 : decode cX1_isHumble 109 = .ok (.getfield 12, 3) := dk_180 0 12 (dk_at dksX1_isHumble_4 18 rfl rfl)
theorem dX1_isHumble_112 : decode cX1_isHumble 112 = .ok (.getfield 108, 3) := dk_180 0 108 (dk_at dksX1_isHumble_4 21 rfl rfl)
theorem dX1_isHumble_115 : decode cX1_isHumble 115 = .ok (.ishl, 1) := dk_120 (dk_at dksX1_isHumble_5 0 rfl rfl)
theorem dX1_isHumble_116 : decode cX1_isHumble 116 = .ok (.iconst 1, 1) := dk_4 (dk_at dksX1_isHumble_5 1 rfl rfl)
theorem dX1_isHumble_117 : decode cX1_isHumble 117 = .ok (.isub, 1) := dk_100 (dk_at dksX1_isHumble_5 2 rfl rfl)
theorem dX1_isHumble_118 : decode cX1_isHumble 118 = .ok (.iload_n 1, 1) := dk_27 (dk_at dksX1_isHumble_5 3 rfl rfl)
theorem dX1_isHumble_119 : decode cX1_isHumble 119 = .ok (.iconst (-1), 1) := dk_2 (dk_at dksX1_isHumble_5 4 rfl rfl)
theorem dX1_isHumble_120 : decode cX1_isHumble 120 = .ok (.ixor, 1) := dk_130 (dk_at dksX1_isHumble_5 5 rfl rfl)
theorem dX1_isHumble_121 : decode cX1_isHumble 121 = .ok (.iand, 1) := dk_126 (dk_at dksX1_isHumble_5 6 rfl rfl)
theorem dX1_isHumble_122 : decode cX1_isHumble 122 = .ok (.if_icmp .ne 7, 3) := dk_160 0 7 (dk_at dksX1_isHumble_5 7 rfl rfl)
theorem dX1_isHumble_125 : decode cX1_isHumble 125 = .ok (.iconst 1, 1) := dk_4 (dk_at dksX1_isHumble_5 10 rfl rfl)
theorem dX1_isHumble_126 : decode cX1_isHumble 126 = .ok (.goto 4, 3) := dk_167 0 4 (dk_at dksX1_isHumble_5 11 rfl rfl)
theorem dX1_isHumble_129 : decode cX1_isHumble 129 = .ok (.iconst 0, 1) := dk_3 (dk_at dksX1_isHumble_5 14 rfl rfl)
theorem dX1_isHumble_130 : decode cX1_isHumble 130 = .ok (.ireturn, 1) := dk_172 (dk_at dksX1_isHumble_5 15 rfl rfl)
abbrev cX1_image : ByteArray := prog_1_method_84_code
def yX1_image : MethodName := ⟨RX1, "image", "()I"⟩
def dkwX1_image_2 : List UInt8 := [42, 180, 0, 40, 182, 1, 131, 42, 89, 180, 0, 136, 4, 96, 181, 0, 136, 42, 180, 0, 136, 172]
abbrev dktX1_image_2 : List UInt8 := dkwX1_image_2 ++ []
def dkwX1_image_1 : List UInt8 := [180, 0, 52, 42, 180, 0, 136, 187, 0, 37, 89, 183, 0, 39, 83, 42, 180, 0, 52, 42, 180, 0, 136, 50]
abbrev dktX1_image_1 : List UInt8 := dkwX1_image_1 ++ dktX1_image_2
def dkwX1_image_0 : List UInt8 := [42, 180, 0, 136, 6, 160, 0, 5, 2, 172, 42, 180, 0, 52, 42, 180, 0, 136, 50, 199, 0, 19, 42]
abbrev dktX1_image_0 : List UInt8 := dkwX1_image_0 ++ dktX1_image_1
theorem dksX1_image_0 : cX1_image.data.toList.drop 0 = dktX1_image_0 := by decide +kernel
theorem dksX1_image_1 : cX1_image.data.toList.drop 23 = dktX1_image_1 := dk_seg dksX1_image_0 23 rfl rfl
theorem dksX1_image_2 : cX1_image.data.toList.drop 47 = dktX1_image_2 := dk_seg dksX1_image_1 24 rfl rfl
theorem dX1_image_0 : decode cX1_image 0 = .ok (.aload_n 0, 1) := dk_42 (dk_at dksX1_image_0 0 rfl rfl)
theorem dX1_image_1 : decode cX1_image 1 = .ok (.getfield 136, 3) := dk_180 0 136 (dk_at dksX1_image_0 1 rfl rfl)
theorem dX1_image_4 : decode cX1_image 4 = .ok (.iconst 3, 1) := dk_6 (dk_at dksX1_image_0 4 rfl rfl)
theorem dX1_image_5 : decode cX1_image 5 = .ok (.if_icmp .ne 5, 3) := dk_160 0 5 (dk_at dksX1_image_0 5 rfl rfl)
theorem dX1_image_8 : decode cX1_image 8 = .ok (.iconst (-1), 1) := dk_2 (dk_at dksX1_image_0 8 rfl rfl)
theorem dX1_image_9 : decode cX1_image 9 = .ok (.ireturn, 1) := dk_172 (dk_at dksX1_image_0 9 rfl rfl)
theorem dX1_image_10 : decode cX1_image 10 = .ok (.aload_n 0, 1) := dk_42 (dk_at dksX1_image_0 10 rfl rfl)
theorem dX1_image_11 : decode cX1_image 11 = .ok (.getfield 52, 3) := dk_180 0 52 (dk_at dksX1_image_0 11 rfl rfl)
theorem dX1_image_14 : decode cX1_image 14 = .ok (.aload_n 0, 1) := dk_42 (dk_at dksX1_image_0 14 rfl rfl)
theorem dX1_image_15 : decode cX1_image 15 = .ok (.getfield 136, 3) := dk_180 0 136 (dk_at dksX1_image_0 15 rfl rfl)
theorem dX1_image_18 : decode cX1_image 18 = .ok (.aaload, 1) := dk_50 (dk_at dksX1_image_0 18 rfl rfl)
theorem dX1_image_19 : decode cX1_image 19 = .ok (.ifnonnull 19, 3) := dk_199 0 19 (dk_at dksX1_image_0 19 rfl rfl)
theorem dX1_image_22 : decode cX1_image 22 = .ok (.aload_n 0, 1) := dk_42 (dk_at dksX1_image_0 22 rfl rfl)
theorem dX1_image_23 : decode cX1_image 23 = .ok (.getfield 52, 3) := dk_180 0 52 (dk_at dksX1_image_1 0 rfl rfl)
theorem dX1_image_26 : decode cX1_image 26 = .ok (.aload_n 0, 1) := dk_42 (dk_at dksX1_image_1 3 rfl rfl)
theorem dX1_image_27 : decode cX1_image 27 = .ok (.getfield 136, 3) := dk_180 0 136 (dk_at dksX1_image_1 4 rfl rfl)
theorem dX1_image_30 : decode cX1_image 30 = .ok (.new 37, 3) := dk_187 0 37 (dk_at dksX1_image_1 7 rfl rfl)
theorem dX1_image_33 : decode cX1_image 33 = .ok (.dup, 1) := dk_89 (dk_at dksX1_image_1 10 rfl rfl)
theorem dX1_image_34 : decode cX1_image 34 = .ok (.invokespecial 39, 3) := dk_183 0 39 (dk_at dksX1_image_1 11 rfl rfl)
theorem dX1_image_37 : decode cX1_image 37 = .ok (.aastore, 1) := dk_83 (dk_at dksX1_image_1 14 rfl rfl)
theorem dX1_image_38 : decode cX1_image 38 = .ok (.aload_n 0, 1) := dk_42 (dk_at dksX1_image_1 15 rfl rfl)
theorem dX1_image_39 : decode cX1_image 39 = .ok (.getfield 52, 3) := dk_180 0 52 (dk_at dksX1_image_1 16 rfl rfl)
theorem dX1_image_42 : decode cX1_image 42 = .ok (.aload_n 0, 1) := dk_42 (dk_at dksX1_image_1 19 rfl rfl)
theorem dX1_image_43 : decode cX1_image 43 = .ok (.getfield 136, 3) := dk_180 0 136 (dk_at dksX1_image_1 20 rfl rfl)
theorem dX1_image_46 : decode cX1_image 46 = .ok (.aaload, 1) := dk_50 (dk_at dksX1_image_1 23 rfl rfl)
theorem dX1_image_47 : decode cX1_image 47 = .ok (.aload_n 0, 1) := dk_42 (dk_at dksX1_image_2 0 rfl rfl)
theorem dX1_image_48 : decode cX1_image 48 = .ok (.getfield 40, 3) := dk_180 0 40 (dk_at dksX1_image_2 1 rfl rfl)
theorem dX1_image_51 : decode cX1_image 51 = .ok (.invokevirtual 387, 3) := dk_182 1 131 (dk_at dksX1_image_2 4 rfl rfl)
theorem dX1_image_54 : decode cX1_image 54 = .ok (.aload_n 0, 1) := dk_42 (dk_at dksX1_image_2 7 rfl rfl)
theorem dX1_image_55 : decode cX1_image 55 = .ok (.dup, 1) := dk_89 (dk_at dksX1_image_2 8 rfl rfl)
theorem dX1_image_56 : decode cX1_image 56 = .ok (.getfield 136, 3) := dk_180 0 136 (dk_at dksX1_image_2 9 rfl rfl)
theorem dX1_image_59 : decode cX1_image 59 = .ok (.iconst 1, 1) := dk_4 (dk_at dksX1_image_2 12 rfl rfl)
theorem dX1_image_60 : decode cX1_image 60 = .ok (.iadd, 1) := dk_96 (dk_at dksX1_image_2 13 rfl rfl)
theorem dX1_image_61 : decode cX1_image 61 = .ok (.putfield 136, 3) := dk_181 0 136 (dk_at dksX1_image_2 14 rfl rfl)
theorem dX1_image_64 : decode cX1_image 64 = .ok (.aload_n 0, 1) := dk_42 (dk_at dksX1_image_2 17 rfl rfl)
theorem dX1_image_65 : decode cX1_image 65 = .ok (.getfield 136, 3) := dk_180 0 136 (dk_at dksX1_image_2 18 rfl rfl)
theorem dX1_image_68 : decode cX1_image 68 = .ok (.ireturn, 1) := dk_172 (dk_at dksX1_image_2 21 rfl rfl)
abbrev cX1_restore : ByteArray := prog_1_method_85_code
def yX1_restore : MethodName := ⟨RX1, "restore", "()I"⟩
def dkwX1_restore_1 : List UInt8 := [180, 0, 52, 42, 180, 0, 136, 50, 182, 1, 131, 42, 180, 0, 136, 172]
abbrev dktX1_restore_1 : List UInt8 := dkwX1_restore_1 ++ []
def dkwX1_restore_0 : List UInt8 := [42, 180, 0, 136, 154, 0, 5, 2, 172, 42, 89, 180, 0, 136, 4, 100, 181, 0, 136, 42, 180, 0, 40, 42]
abbrev dktX1_restore_0 : List UInt8 := dkwX1_restore_0 ++ dktX1_restore_1
theorem dksX1_restore_0 : cX1_restore.data.toList.drop 0 = dktX1_restore_0 := by decide +kernel
theorem dksX1_restore_1 : cX1_restore.data.toList.drop 24 = dktX1_restore_1 := dk_seg dksX1_restore_0 24 rfl rfl
theorem dX1_restore_0 : decode cX1_restore 0 = .ok (.aload_n 0, 1) := dk_42 (dk_at dksX1_restore_0 0 rfl rfl)
theorem dX1_restore_1 : decode cX1_restore 1 = .ok (.getfield 136, 3) := dk_180 0 136 (dk_at dksX1_restore_0 1 rfl rfl)
theorem dX1_restore_4 : decode cX1_restore 4 = .ok (.ifCond .ne 5, 3) := dk_154 0 5 (dk_at dksX1_restore_0 4 rfl rfl)
theorem dX1_restore_7 : decode cX1_restore 7 = .ok (.iconst (-1), 1) := dk_2 (dk_at dksX1_restore_0 7 rfl rfl)
theorem dX1_restore_8 : decode cX1_restore 8 = .ok (.ireturn, 1) := dk_172 (dk_at dksX1_restore_0 8 rfl rfl)
theorem dX1_restore_9 : decode cX1_restore 9 = .ok (.aload_n 0, 1) := dk_42 (dk_at dksX1_restore_0 9 rfl rfl)
theorem dX1_restore_10 : decode cX1_restore 10 = .ok (.dup, 1) := dk_89 (dk_at dksX1_restore_0 10 rfl rfl)
theorem dX1_restore_11 : decode cX1_restore 11 = .ok (.getfield 136, 3) := dk_180 0 136 (dk_at dksX1_restore_0 11 rfl rfl)
theorem dX1_restore_14 : decode cX1_restore 14 = .ok (.iconst 1, 1) := dk_4 (dk_at dksX1_restore_0 14 rfl rfl)
theorem dX1_restore_15 : decode cX1_restore 15 = .ok (.isub, 1) := dk_100 (dk_at dksX1_restore_0 15 rfl rfl)
theorem dX1_restore_16 : decode cX1_restore 16 = .ok (.putfield 136, 3) := dk_181 0 136 (dk_at dksX1_restore_0 16 rfl rfl)
theorem dX1_restore_19 : decode cX1_restore 19 = .ok (.aload_n 0, 1) := dk_42 (dk_at dksX1_restore_0 19 rfl rfl)
theorem dX1_restore_20 : decode cX1_restore 20 = .ok (.getfield 40, 3) := dk_180 0 40 (dk_at dksX1_restore_0 20 rfl rfl)
theorem dX1_restore_23 : decode cX1_restore 23 = .ok (.aload_n 0, 1) := dk_42 (dk_at dksX1_restore_0 23 rfl rfl)
theorem dX1_restore_24 : decode cX1_restore 24 = .ok (.getfield 52, 3) := dk_180 0 52 (dk_at dksX1_restore_1 0 rfl rfl)
theorem dX1_restore_27 : decode cX1_restore 27 = .ok (.aload_n 0, 1) := dk_42 (dk_at dksX1_restore_1 3 rfl rfl)
theorem dX1_restore_28 : decode cX1_restore 28 = .ok (.getfield 136, 3) := dk_180 0 136 (dk_at dksX1_restore_1 4 rfl rfl)
theorem dX1_restore_31 : decode cX1_restore 31 = .ok (.aaload, 1) := dk_50 (dk_at dksX1_restore_1 7 rfl rfl)
theorem dX1_restore_32 : decode cX1_restore 32 = .ok (.invokevirtual 387, 3) := dk_182 1 131 (dk_at dksX1_restore_1 8 rfl rfl)
theorem dX1_restore_35 : decode cX1_restore 35 = .ok (.aload_n 0, 1) := dk_42 (dk_at dksX1_restore_1 11 rfl rfl)
theorem dX1_restore_36 : decode cX1_restore 36 = .ok (.getfield 136, 3) := dk_180 0 136 (dk_at dksX1_restore_1 12 rfl rfl)
theorem dX1_restore_39 : decode cX1_restore 39 = .ok (.ireturn, 1) := dk_172 (dk_at dksX1_restore_1 15 rfl rfl)
abbrev cX1_status : ByteArray := prog_1_method_86_code
def yX1_status : MethodName := ⟨RX1, "status", "(I)I"⟩
def dkwX1_status_0 : List UInt8 := [27, 155, 0, 17, 27, 5, 163, 0, 12, 42, 180, 0, 56, 27, 46, 167, 0, 4, 2, 172]
abbrev dktX1_status_0 : List UInt8 := dkwX1_status_0 ++ []
theorem dksX1_status_0 : cX1_status.data.toList.drop 0 = dktX1_status_0 := by decide +kernel
theorem dX1_status_0 : decode cX1_status 0 = .ok (.iload_n 1, 1) := dk_27 (dk_at dksX1_status_0 0 rfl rfl)
theorem dX1_status_1 : decode cX1_status 1 = .ok (.ifCond .lt 17, 3) := dk_155 0 17 (dk_at dksX1_status_0 1 rfl rfl)
theorem dX1_status_4 : decode cX1_status 4 = .ok (.iload_n 1, 1) := dk_27 (dk_at dksX1_status_0 4 rfl rfl)
theorem dX1_status_5 : decode cX1_status 5 = .ok (.iconst 2, 1) := dk_5 (dk_at dksX1_status_0 5 rfl rfl)
theorem dX1_status_6 : decode cX1_status 6 = .ok (.if_icmp .gt 12, 3) := dk_163 0 12 (dk_at dksX1_status_0 6 rfl rfl)
theorem dX1_status_9 : decode cX1_status 9 = .ok (.aload_n 0, 1) := dk_42 (dk_at dksX1_status_0 9 rfl rfl)
theorem dX1_status_10 : decode cX1_status 10 = .ok (.getfield 56, 3) := dk_180 0 56 (dk_at dksX1_status_0 10 rfl rfl)
theorem dX1_status_13 : decode cX1_status 13 = .ok (.iload_n 1, 1) := dk_27 (dk_at dksX1_status_0 13 rfl rfl)
theorem dX1_status_14 : decode cX1_status 14 = .ok (.iaload, 1) := dk_46 (dk_at dksX1_status_0 14 rfl rfl)
theorem dX1_status_15 : decode cX1_status 15 = .ok (.goto 4, 3) := dk_167 0 4 (dk_at dksX1_status_0 15 rfl rfl)
theorem dX1_status_18 : decode cX1_status 18 = .ok (.iconst (-1), 1) := dk_2 (dk_at dksX1_status_0 18 rfl rfl)
theorem dX1_status_19 : decode cX1_status 19 = .ok (.ireturn, 1) := dk_172 (dk_at dksX1_status_0 19 rfl rfl)
abbrev cX1_count : ByteArray := prog_1_method_87_code
def yX1_count : MethodName := ⟨RX1, "count", "(I)I"⟩
def dkwX1_count_1 : List UInt8 := [172]
abbrev dktX1_count_1 : List UInt8 := dkwX1_count_1 ++ []
def dkwX1_count_0 : List UInt8 := [27, 154, 0, 10, 42, 180, 0, 136, 167, 0, 16, 27, 4, 160, 0, 10, 42, 180, 0, 139, 167, 0, 4, 2]
abbrev dktX1_count_0 : List UInt8 := dkwX1_count_0 ++ dktX1_count_1
theorem dksX1_count_0 : cX1_count.data.toList.drop 0 = dktX1_count_0 := by decide +kernel
theorem dksX1_count_1 : cX1_count.data.toList.drop 24 = dktX1_count_1 := dk_seg dksX1_count_0 24 rfl rfl
theorem dX1_count_0 : decode cX1_count 0 = .ok (.iload_n 1, 1) := dk_27 (dk_at dksX1_count_0 0 rfl rfl)
theorem dX1_count_1 : decode cX1_count 1 = .ok (.ifCond .ne 10, 3) := dk_154 0 10 (dk_at dksX1_count_0 1 rfl rfl)
theorem dX1_count_4 : decode cX1_count 4 = .ok (.aload_n 0, 1) := dk_42 (dk_at dksX1_count_0 4 rfl rfl)
theorem dX1_count_5 : decode cX1_count 5 = .ok (.getfield 136, 3) := dk_180 0 136 (dk_at dksX1_count_0 5 rfl rfl)
theorem dX1_count_8 : decode cX1_count 8 = .ok (.goto 16, 3) := dk_167 0 16 (dk_at dksX1_count_0 8 rfl rfl)
theorem dX1_count_11 : decode cX1_count 11 = .ok (.iload_n 1, 1) := dk_27 (dk_at dksX1_count_0 11 rfl rfl)
theorem dX1_count_12 : decode cX1_count 12 = .ok (.iconst 1, 1) := dk_4 (dk_at dksX1_count_0 12 rfl rfl)
theorem dX1_count_13 : decode cX1_count 13 = .ok (.if_icmp .ne 10, 3) := dk_160 0 10 (dk_at dksX1_count_0 13 rfl rfl)
theorem dX1_count_16 : decode cX1_count 16 = .ok (.aload_n 0, 1) := dk_42 (dk_at dksX1_count_0 16 rfl rfl)
theorem dX1_count_17 : decode cX1_count 17 = .ok (.getfield 139, 3) := dk_180 0 139 (dk_at dksX1_count_0 17 rfl rfl)
theorem dX1_count_20 : decode cX1_count 20 = .ok (.goto 4, 3) := dk_167 0 4 (dk_at dksX1_count_0 20 rfl rfl)
theorem dX1_count_23 : decode cX1_count 23 = .ok (.iconst (-1), 1) := dk_2 (dk_at dksX1_count_0 23 rfl rfl)
theorem dX1_count_24 : decode cX1_count 24 = .ok (.ireturn, 1) := dk_172 (dk_at dksX1_count_1 0 rfl rfl)
abbrev cX1_jar : ByteArray := prog_1_method_12_code
def yX1_jar : MethodName := ⟨RX1, "jar", "(I)I"⟩
def dkwX1_jar_4 : List UInt8 := [172, 58, 4, 42, 3, 181, 0, 139, 25, 4, 191]
abbrev dktX1_jar_4 : List UInt8 := dkwX1_jar_4 ++ []
def dkwX1_jar_3 : List UInt8 := [172, 77, 42, 44, 180, 0, 161, 181, 0, 44, 44, 180, 0, 164, 16, 10, 100, 62, 42, 3, 181, 0, 139, 29]
abbrev dktX1_jar_3 : List UInt8 := dkwX1_jar_3 ++ dktX1_jar_4
def dkwX1_jar_2 : List UInt8 := [182, 0, 155, 181, 0, 12, 42, 182, 0, 99, 42, 180, 0, 12, 180, 0, 108, 61, 42, 3, 181, 0, 139, 28]
abbrev dktX1_jar_2 : List UInt8 := dkwX1_jar_2 ++ dktX1_jar_3
def dkwX1_jar_1 : List UInt8 := [181, 0, 44, 42, 187, 0, 150, 89, 42, 180, 0, 48, 27, 187, 0, 9, 89, 183, 0, 11, 183, 0, 152]
abbrev dktX1_jar_1 : List UInt8 := dkwX1_jar_1 ++ dktX1_jar_2
def dkwX1_jar_0 : List UInt8 := [42, 27, 155, 0, 15, 27, 42, 180, 0, 139, 163, 0, 7, 4, 167, 0, 4, 3, 182, 0, 146, 42, 2]
abbrev dktX1_jar_0 : List UInt8 := dkwX1_jar_0 ++ dktX1_jar_1
theorem dksX1_jar_0 : cX1_jar.data.toList.drop 0 = dktX1_jar_0 := by decide +kernel
theorem dksX1_jar_1 : cX1_jar.data.toList.drop 23 = dktX1_jar_1 := dk_seg dksX1_jar_0 23 rfl rfl
theorem dksX1_jar_2 : cX1_jar.data.toList.drop 46 = dktX1_jar_2 := dk_seg dksX1_jar_1 23 rfl rfl
theorem dksX1_jar_3 : cX1_jar.data.toList.drop 70 = dktX1_jar_3 := dk_seg dksX1_jar_2 24 rfl rfl
theorem dksX1_jar_4 : cX1_jar.data.toList.drop 94 = dktX1_jar_4 := dk_seg dksX1_jar_3 24 rfl rfl
theorem dX1_jar_0 : decode cX1_jar 0 = .ok (.aload_n 0, 1) := dk_42 (dk_at dksX1_jar_0 0 rfl rfl)
theorem dX1_jar_1 : decode cX1_jar 1 = .ok (.iload_n 1, 1) := dk_27 (dk_at dksX1_jar_0 1 rfl rfl)
theorem dX1_jar_2 : decode cX1_jar 2 = .ok (.ifCond .lt 15, 3) := dk_155 0 15 (dk_at dksX1_jar_0 2 rfl rfl)
theorem dX1_jar_5 : decode cX1_jar 5 = .ok (.iload_n 1, 1) := dk_27 (dk_at dksX1_jar_0 5 rfl rfl)
theorem dX1_jar_6 : decode cX1_jar 6 = .ok (.aload_n 0, 1) := dk_42 (dk_at dksX1_jar_0 6 rfl rfl)
theorem dX1_jar_7 : decode cX1_jar 7 = .ok (.getfield 139, 3) := dk_180 0 139 (dk_at dksX1_jar_0 7 rfl rfl)
theorem dX1_jar_10 : decode cX1_jar 10 = .ok (.if_icmp .gt 7, 3) := dk_163 0 7 (dk_at dksX1_jar_0 10 rfl rfl)
theorem dX1_jar_13 : decode cX1_jar 13 = .ok (.iconst 1, 1) := dk_4 (dk_at dksX1_jar_0 13 rfl rfl)
theorem dX1_jar_14 : decode cX1_jar 14 = .ok (.goto 4, 3) := dk_167 0 4 (dk_at dksX1_jar_0 14 rfl rfl)
theorem dX1_jar_17 : decode cX1_jar 17 = .ok (.iconst 0, 1) := dk_3 (dk_at dksX1_jar_0 17 rfl rfl)
theorem dX1_jar_18 : decode cX1_jar 18 = .ok (.invokevirtual 146, 3) := dk_182 0 146 (dk_at dksX1_jar_0 18 rfl rfl)
theorem dX1_jar_21 : decode cX1_jar 21 = .ok (.aload_n 0, 1) := dk_42 (dk_at dksX1_jar_0 21 rfl rfl)
theorem dX1_jar_22 : decode cX1_jar 22 = .ok (.iconst (-1), 1) := dk_2 (dk_at dksX1_jar_0 22 rfl rfl)
theorem dX1_jar_23 : decode cX1_jar 23 = .ok (.putfield 44, 3) := dk_181 0 44 (dk_at dksX1_jar_1 0 rfl rfl)
theorem dX1_jar_26 : decode cX1_jar 26 = .ok (.aload_n 0, 1) := dk_42 (dk_at dksX1_jar_1 3 rfl rfl)
theorem dX1_jar_27 : decode cX1_jar 27 = .ok (.new 150, 3) := dk_187 0 150 (dk_at dksX1_jar_1 4 rfl rfl)
theorem dX1_jar_30 : decode cX1_jar 30 = .ok (.dup, 1) := dk_89 (dk_at dksX1_jar_1 7 rfl rfl)
theorem dX1_jar_31 : decode cX1_jar 31 = .ok (.aload_n 0, 1) := dk_42 (dk_at dksX1_jar_1 8 rfl rfl)
theorem dX1_jar_32 : decode cX1_jar 32 = .ok (.getfield 48, 3) := dk_180 0 48 (dk_at dksX1_jar_1 9 rfl rfl)
theorem dX1_jar_35 : decode cX1_jar 35 = .ok (.iload_n 1, 1) := dk_27 (dk_at dksX1_jar_1 12 rfl rfl)
theorem dX1_jar_36 : decode cX1_jar 36 = .ok (.new 9, 3) := dk_187 0 9 (dk_at dksX1_jar_1 13 rfl rfl)
theorem dX1_jar_39 : decode cX1_jar 39 = .ok (.dup, 1) := dk_89 (dk_at dksX1_jar_1 16 rfl rfl)
theorem dX1_jar_40 : decode cX1_jar 40 = .ok (.invokespecial 11, 3) := dk_183 0 11 (dk_at dksX1_jar_1 17 rfl rfl)
theorem dX1_jar_43 : decode cX1_jar 43 = .ok (.invokespecial 152, 3) := dk_183 0 152 (dk_at dksX1_jar_1 20 rfl rfl)
theorem dX1_jar_46 : decode cX1_jar 46 = .ok (.invokevirtual 155, 3) := dk_182 0 155 (dk_at dksX1_jar_2 0 rfl rfl)
theorem dX1_jar_49 : decode cX1_jar 49 = .ok (.putfield 12, 3) := dk_181 0 12 (dk_at dksX1_jar_2 3 rfl rfl)
theorem dX1_jar_52 : decode cX1_jar 52 = .ok (.aload_n 0, 1) := dk_42 (dk_at dksX1_jar_2 6 rfl rfl)
theorem dX1_jar_53 : decode cX1_jar 53 = .ok (.invokevirtual 99, 3) := dk_182 0 99 (dk_at dksX1_jar_2 7 rfl rfl)
theorem dX1_jar_56 : decode cX1_jar 56 = .ok (.aload_n 0, 1) := dk_42 (dk_at dksX1_jar_2 10 rfl rfl)
theorem dX1_jar_57 : decode cX1_jar 57 = .ok (.getfield 12, 3) := dk_180 0 12 (dk_at dksX1_jar_2 11 rfl rfl)
theorem dX1_jar_60 : decode cX1_jar 60 = .ok (.getfield 108, 3) := dk_180 0 108 (dk_at dksX1_jar_2 14 rfl rfl)
theorem dX1_jar_63 : decode cX1_jar 63 = .ok (.istore_n 2, 1) := dk_61 (dk_at dksX1_jar_2 17 rfl rfl)
theorem dX1_jar_64 : decode cX1_jar 64 = .ok (.aload_n 0, 1) := dk_42 (dk_at dksX1_jar_2 18 rfl rfl)
theorem dX1_jar_65 : decode cX1_jar 65 = .ok (.iconst 0, 1) := dk_3 (dk_at dksX1_jar_2 19 rfl rfl)
theorem dX1_jar_66 : decode cX1_jar 66 = .ok (.putfield 139, 3) := dk_181 0 139 (dk_at dksX1_jar_2 20 rfl rfl)
theorem dX1_jar_69 : decode cX1_jar 69 = .ok (.iload_n 2, 1) := dk_28 (dk_at dksX1_jar_2 23 rfl rfl)
theorem dX1_jar_70 : decode cX1_jar 70 = .ok (.ireturn, 1) := dk_172 (dk_at dksX1_jar_3 0 rfl rfl)
theorem dX1_jar_71 : decode cX1_jar 71 = .ok (.astore_n 2, 1) := dk_77 (dk_at dksX1_jar_3 1 rfl rfl)
theorem dX1_jar_72 : decode cX1_jar 72 = .ok (.aload_n 0, 1) := dk_42 (dk_at dksX1_jar_3 2 rfl rfl)
theorem dX1_jar_73 : decode cX1_jar 73 = .ok (.aload_n 2, 1) := dk_44 (dk_at dksX1_jar_3 3 rfl rfl)
theorem dX1_jar_74 : decode cX1_jar 74 = .ok (.getfield 161, 3) := dk_180 0 161 (dk_at dksX1_jar_3 4 rfl rfl)
theorem dX1_jar_77 : decode cX1_jar 77 = .ok (.putfield 44, 3) := dk_181 0 44 (dk_at dksX1_jar_3 7 rfl rfl)
theorem dX1_jar_80 : decode cX1_jar 80 = .ok (.aload_n 2, 1) := dk_44 (dk_at dksX1_jar_3 10 rfl rfl)
theorem dX1_jar_81 : decode cX1_jar 81 = .ok (.getfield 164, 3) := dk_180 0 164 (dk_at dksX1_jar_3 11 rfl rfl)
theorem dX1_jar_84 : decode cX1_jar 84 = .ok (.bipush 10, 2) := dk_16 10 (dk_at dksX1_jar_3 14 rfl rfl)
theorem dX1_jar_86 : decode cX1_jar 86 = .ok (.isub, 1) := dk_100 (dk_at dksX1_jar_3 16 rfl rfl)
theorem dX1_jar_87 : decode cX1_jar 87 = .ok (.istore_n 3, 1) := dk_62 (dk_at dksX1_jar_3 17 rfl rfl)
theorem dX1_jar_88 : decode cX1_jar 88 = .ok (.aload_n 0, 1) := dk_42 (dk_at dksX1_jar_3 18 rfl rfl)
theorem dX1_jar_89 : decode cX1_jar 89 = .ok (.iconst 0, 1) := dk_3 (dk_at dksX1_jar_3 19 rfl rfl)
theorem dX1_jar_90 : decode cX1_jar 90 = .ok (.putfield 139, 3) := dk_181 0 139 (dk_at dksX1_jar_3 20 rfl rfl)
theorem dX1_jar_93 : decode cX1_jar 93 = .ok (.iload_n 3, 1) := dk_29 (dk_at dksX1_jar_3 23 rfl rfl)
theorem dX1_jar_94 : decode cX1_jar 94 = .ok (.ireturn, 1) := dk_172 (dk_at dksX1_jar_4 0 rfl rfl)
theorem dX1_jar_95 : decode cX1_jar 95 = .ok (.astore 4, 2) := dk_58 4 (dk_at dksX1_jar_4 1 rfl rfl)
theorem dX1_jar_97 : decode cX1_jar 97 = .ok (.aload_n 0, 1) := dk_42 (dk_at dksX1_jar_4 3 rfl rfl)
theorem dX1_jar_98 : decode cX1_jar 98 = .ok (.iconst 0, 1) := dk_3 (dk_at dksX1_jar_4 4 rfl rfl)
theorem dX1_jar_99 : decode cX1_jar 99 = .ok (.putfield 139, 3) := dk_181 0 139 (dk_at dksX1_jar_4 5 rfl rfl)
theorem dX1_jar_102 : decode cX1_jar 102 = .ok (.aload 4, 2) := dk_25 4 (dk_at dksX1_jar_4 8 rfl rfl)
theorem dX1_jar_104 : decode cX1_jar 104 = .ok (.athrow, 1) := dk_191 (dk_at dksX1_jar_4 10 rfl rfl)
abbrev cX1_need : ByteArray := prog_1_method_2_code
def yX1_need : MethodName := ⟨RX1, "need", "(Z)V"⟩
def dkwX1_need_0 : List UInt8 := [27, 153, 0, 4, 177, 42, 180, 0, 56, 4, 92, 46, 4, 96, 79, 187, 0, 102, 89, 183, 0, 104, 191]
abbrev dktX1_need_0 : List UInt8 := dkwX1_need_0 ++ []
theorem dksX1_need_0 : cX1_need.data.toList.drop 0 = dktX1_need_0 := by decide +kernel
theorem dX1_need_0 : decode cX1_need 0 = .ok (.iload_n 1, 1) := dk_27 (dk_at dksX1_need_0 0 rfl rfl)
theorem dX1_need_1 : decode cX1_need 1 = .ok (.ifCond .eq 4, 3) := dk_153 0 4 (dk_at dksX1_need_0 1 rfl rfl)
theorem dX1_need_4 : decode cX1_need 4 = .ok (.return_, 1) := dk_177 (dk_at dksX1_need_0 4 rfl rfl)
theorem dX1_need_5 : decode cX1_need 5 = .ok (.aload_n 0, 1) := dk_42 (dk_at dksX1_need_0 5 rfl rfl)
theorem dX1_need_6 : decode cX1_need 6 = .ok (.getfield 56, 3) := dk_180 0 56 (dk_at dksX1_need_0 6 rfl rfl)
theorem dX1_need_9 : decode cX1_need 9 = .ok (.iconst 1, 1) := dk_4 (dk_at dksX1_need_0 9 rfl rfl)
theorem dX1_need_10 : decode cX1_need 10 = .ok (.dup2, 1) := dk_92 (dk_at dksX1_need_0 10 rfl rfl)
theorem dX1_need_11 : decode cX1_need 11 = .ok (.iaload, 1) := dk_46 (dk_at dksX1_need_0 11 rfl rfl)
theorem dX1_need_12 : decode cX1_need 12 = .ok (.iconst 1, 1) := dk_4 (dk_at dksX1_need_0 12 rfl rfl)
theorem dX1_need_13 : decode cX1_need 13 = .ok (.iadd, 1) := dk_96 (dk_at dksX1_need_0 13 rfl rfl)
theorem dX1_need_14 : decode cX1_need 14 = .ok (.iastore, 1) := dk_79 (dk_at dksX1_need_0 14 rfl rfl)
theorem dX1_need_15 : decode cX1_need 15 = .ok (.new 102, 3) := dk_187 0 102 (dk_at dksX1_need_0 15 rfl rfl)
theorem dX1_need_18 : decode cX1_need 18 = .ok (.dup, 1) := dk_89 (dk_at dksX1_need_0 18 rfl rfl)
theorem dX1_need_19 : decode cX1_need 19 = .ok (.invokespecial 104, 3) := dk_183 0 104 (dk_at dksX1_need_0 19 rfl rfl)
theorem dX1_need_22 : decode cX1_need 22 = .ok (.athrow, 1) := dk_191 (dk_at dksX1_need_0 22 rfl rfl)
abbrev cX1_question : ByteArray := prog_1_method_13_code
def yX1_question : MethodName := ⟨RX1, "question", "(I)I"⟩
def dkwX1_question_4 : List UInt8 := [58, 4, 42, 3, 181, 0, 139, 25, 4, 191]
abbrev dktX1_question_4 : List UInt8 := dkwX1_question_4 ++ []
def dkwX1_question_3 : List UInt8 := [77, 42, 44, 180, 0, 161, 181, 0, 44, 44, 180, 0, 164, 16, 10, 100, 62, 42, 3, 181, 0, 139, 29, 172]
abbrev dktX1_question_3 : List UInt8 := dkwX1_question_3 ++ dktX1_question_4
def dkwX1_question_2 : List UInt8 := [183, 0, 152, 182, 0, 167, 181, 0, 29, 42, 180, 0, 29, 184, 0, 169, 61, 42, 3, 181, 0, 139, 28, 172]
abbrev dktX1_question_2 : List UInt8 := dkwX1_question_2 ++ dktX1_question_3
def dkwX1_question_1 : List UInt8 := [3, 182, 0, 146, 42, 2, 181, 0, 44, 42, 187, 0, 150, 89, 42, 180, 0, 48, 27, 42, 180, 0, 12]
abbrev dktX1_question_1 : List UInt8 := dkwX1_question_1 ++ dktX1_question_2
def dkwX1_question_0 : List UInt8 := [42, 27, 155, 0, 22, 27, 42, 180, 0, 139, 163, 0, 14, 27, 17, 0, 200, 163, 0, 7, 4, 167, 0, 4]
abbrev dktX1_question_0 : List UInt8 := dkwX1_question_0 ++ dktX1_question_1
theorem dksX1_question_0 : cX1_question.data.toList.drop 0 = dktX1_question_0 := by decide +kernel
theorem dksX1_question_1 : cX1_question.data.toList.drop 24 = dktX1_question_1 := dk_seg dksX1_question_0 24 rfl rfl
theorem dksX1_question_2 : cX1_question.data.toList.drop 47 = dktX1_question_2 := dk_seg dksX1_question_1 23 rfl rfl
theorem dksX1_question_3 : cX1_question.data.toList.drop 71 = dktX1_question_3 := dk_seg dksX1_question_2 24 rfl rfl
theorem dksX1_question_4 : cX1_question.data.toList.drop 95 = dktX1_question_4 := dk_seg dksX1_question_3 24 rfl rfl
theorem dX1_question_0 : decode cX1_question 0 = .ok (.aload_n 0, 1) := dk_42 (dk_at dksX1_question_0 0 rfl rfl)
theorem dX1_question_1 : decode cX1_question 1 = .ok (.iload_n 1, 1) := dk_27 (dk_at dksX1_question_0 1 rfl rfl)
theorem dX1_question_2 : decode cX1_question 2 = .ok (.ifCond .lt 22, 3) := dk_155 0 22 (dk_at dksX1_question_0 2 rfl rfl)
theorem dX1_question_5 : decode cX1_question 5 = .ok (.iload_n 1, 1) := dk_27 (dk_at dksX1_question_0 5 rfl rfl)
theorem dX1_question_6 : decode cX1_question 6 = .ok (.aload_n 0, 1) := dk_42 (dk_at dksX1_question_0 6 rfl rfl)
theorem dX1_question_7 : decode cX1_question 7 = .ok (.getfield 139, 3) := dk_180 0 139 (dk_at dksX1_question_0 7 rfl rfl)
theorem dX1_question_10 : decode cX1_question 10 = .ok (.if_icmp .gt 14, 3) := dk_163 0 14 (dk_at dksX1_question_0 10 rfl rfl)
theorem dX1_question_13 : decode cX1_question 13 = .ok (.iload_n 1, 1) := dk_27 (dk_at dksX1_question_0 13 rfl rfl)
theorem dX1_question_14 : decode cX1_question 14 = .ok (.sipush 200, 3) := dk_17 0 200 (dk_at dksX1_question_0 14 rfl rfl)
theorem dX1_question_17 : decode cX1_question 17 = .ok (.if_icmp .gt 7, 3) := dk_163 0 7 (dk_at dksX1_question_0 17 rfl rfl)
theorem dX1_question_20 : decode cX1_question 20 = .ok (.iconst 1, 1) := dk_4 (dk_at dksX1_question_0 20 rfl rfl)
theorem dX1_question_21 : decode cX1_question 21 = .ok (.goto 4, 3) := dk_167 0 4 (dk_at dksX1_question_0 21 rfl rfl)
theorem dX1_question_24 : decode cX1_question 24 = .ok (.iconst 0, 1) := dk_3 (dk_at dksX1_question_1 0 rfl rfl)
theorem dX1_question_25 : decode cX1_question 25 = .ok (.invokevirtual 146, 3) := dk_182 0 146 (dk_at dksX1_question_1 1 rfl rfl)
theorem dX1_question_28 : decode cX1_question 28 = .ok (.aload_n 0, 1) := dk_42 (dk_at dksX1_question_1 4 rfl rfl)
theorem dX1_question_29 : decode cX1_question 29 = .ok (.iconst (-1), 1) := dk_2 (dk_at dksX1_question_1 5 rfl rfl)
theorem dX1_question_30 : decode cX1_question 30 = .ok (.putfield 44, 3) := dk_181 0 44 (dk_at dksX1_question_1 6 rfl rfl)
theorem dX1_question_33 : decode cX1_question 33 = .ok (.aload_n 0, 1) := dk_42 (dk_at dksX1_question_1 9 rfl rfl)
theorem dX1_question_34 : decode cX1_question 34 = .ok (.new 150, 3) := dk_187 0 150 (dk_at dksX1_question_1 10 rfl rfl)
theorem dX1_question_37 : decode cX1_question 37 = .ok (.dup, 1) := dk_89 (dk_at dksX1_question_1 13 rfl rfl)
theorem dX1_question_38 : decode cX1_question 38 = .ok (.aload_n 0, 1) := dk_42 (dk_at dksX1_question_1 14 rfl rfl)
theorem dX1_question_39 : decode cX1_question 39 = .ok (.getfield 48, 3) := dk_180 0 48 (dk_at dksX1_question_1 15 rfl rfl)
theorem dX1_question_42 : decode cX1_question 42 = .ok (.iload_n 1, 1) := dk_27 (dk_at dksX1_question_1 18 rfl rfl)
theorem dX1_question_43 : decode cX1_question 43 = .ok (.aload_n 0, 1) := dk_42 (dk_at dksX1_question_1 19 rfl rfl)
theorem dX1_question_44 : decode cX1_question 44 = .ok (.getfield 12, 3) := dk_180 0 12 (dk_at dksX1_question_1 20 rfl rfl)
theorem dX1_question_47 : decode cX1_question 47 = .ok (.invokespecial 152, 3) := dk_183 0 152 (dk_at dksX1_question_2 0 rfl rfl)
theorem dX1_question_50 : decode cX1_question 50 = .ok (.invokevirtual 167, 3) := dk_182 0 167 (dk_at dksX1_question_2 3 rfl rfl)
theorem dX1_question_53 : decode cX1_question 53 = .ok (.putfield 29, 3) := dk_181 0 29 (dk_at dksX1_question_2 6 rfl rfl)
theorem dX1_question_56 : decode cX1_question 56 = .ok (.aload_n 0, 1) := dk_42 (dk_at dksX1_question_2 9 rfl rfl)
theorem dX1_question_57 : decode cX1_question 57 = .ok (.getfield 29, 3) := dk_180 0 29 (dk_at dksX1_question_2 10 rfl rfl)
theorem dX1_question_60 : decode cX1_question 60 = .ok (.invokestatic 169, 3) := dk_184 0 169 (dk_at dksX1_question_2 13 rfl rfl)
theorem dX1_question_63 : decode cX1_question 63 = .ok (.istore_n 2, 1) := dk_61 (dk_at dksX1_question_2 16 rfl rfl)
theorem dX1_question_64 : decode cX1_question 64 = .ok (.aload_n 0, 1) := dk_42 (dk_at dksX1_question_2 17 rfl rfl)
theorem dX1_question_65 : decode cX1_question 65 = .ok (.iconst 0, 1) := dk_3 (dk_at dksX1_question_2 18 rfl rfl)
theorem dX1_question_66 : decode cX1_question 66 = .ok (.putfield 139, 3) := dk_181 0 139 (dk_at dksX1_question_2 19 rfl rfl)
theorem dX1_question_69 : decode cX1_question 69 = .ok (.iload_n 2, 1) := dk_28 (dk_at dksX1_question_2 22 rfl rfl)
theorem dX1_question_70 : decode cX1_question 70 = .ok (.ireturn, 1) := dk_172 (dk_at dksX1_question_2 23 rfl rfl)
theorem dX1_question_71 : decode cX1_question 71 = .ok (.astore_n 2, 1) := dk_77 (dk_at dksX1_question_3 0 rfl rfl)
theorem dX1_question_72 : decode cX1_question 72 = .ok (.aload_n 0, 1) := dk_42 (dk_at dksX1_question_3 1 rfl rfl)
theorem dX1_question_73 : decode cX1_question 73 = .ok (.aload_n 2, 1) := dk_44 (dk_at dksX1_question_3 2 rfl rfl)
theorem dX1_question_74 : decode cX1_question 74 = .ok (.getfield 161, 3) := dk_180 0 161 (dk_at dksX1_question_3 3 rfl rfl)
theorem dX1_question_77 : decode cX1_question 77 = .ok (.putfield 44, 3) := dk_181 0 44 (dk_at dksX1_question_3 6 rfl rfl)
theorem dX1_question_80 : decode cX1_question 80 = .ok (.aload_n 2, 1) := dk_44 (dk_at dksX1_question_3 9 rfl rfl)
theorem dX1_question_81 : decode cX1_question 81 = .ok (.getfield 164, 3) := dk_180 0 164 (dk_at dksX1_question_3 10 rfl rfl)
theorem dX1_question_84 : decode cX1_question 84 = .ok (.bipush 10, 2) := dk_16 10 (dk_at dksX1_question_3 13 rfl rfl)
theorem dX1_question_86 : decode cX1_question 86 = .ok (.isub, 1) := dk_100 (dk_at dksX1_question_3 15 rfl rfl)
theorem dX1_question_87 : decode cX1_question 87 = .ok (.istore_n 3, 1) := dk_62 (dk_at dksX1_question_3 16 rfl rfl)
theorem dX1_question_88 : decode cX1_question 88 = .ok (.aload_n 0, 1) := dk_42 (dk_at dksX1_question_3 17 rfl rfl)
theorem dX1_question_89 : decode cX1_question 89 = .ok (.iconst 0, 1) := dk_3 (dk_at dksX1_question_3 18 rfl rfl)
theorem dX1_question_90 : decode cX1_question 90 = .ok (.putfield 139, 3) := dk_181 0 139 (dk_at dksX1_question_3 19 rfl rfl)
theorem dX1_question_93 : decode cX1_question 93 = .ok (.iload_n 3, 1) := dk_29 (dk_at dksX1_question_3 22 rfl rfl)
theorem dX1_question_94 : decode cX1_question 94 = .ok (.ireturn, 1) := dk_172 (dk_at dksX1_question_3 23 rfl rfl)
theorem dX1_question_95 : decode cX1_question 95 = .ok (.astore 4, 2) := dk_58 4 (dk_at dksX1_question_4 0 rfl rfl)
theorem dX1_question_97 : decode cX1_question 97 = .ok (.aload_n 0, 1) := dk_42 (dk_at dksX1_question_4 2 rfl rfl)
theorem dX1_question_98 : decode cX1_question 98 = .ok (.iconst 0, 1) := dk_3 (dk_at dksX1_question_4 3 rfl rfl)
theorem dX1_question_99 : decode cX1_question 99 = .ok (.putfield 139, 3) := dk_181 0 139 (dk_at dksX1_question_4 4 rfl rfl)
theorem dX1_question_102 : decode cX1_question 102 = .ok (.aload 4, 2) := dk_25 4 (dk_at dksX1_question_4 7 rfl rfl)
theorem dX1_question_104 : decode cX1_question 104 = .ok (.athrow, 1) := dk_191 (dk_at dksX1_question_4 9 rfl rfl)
abbrev cX1_tongue : ByteArray := prog_1_method_14_code
def yX1_tongue : MethodName := ⟨RX1, "tongue", "(I)I"⟩
def dkwX1_tongue_4 : List UInt8 := [58, 4, 42, 3, 181, 0, 139, 25, 4, 191]
abbrev dktX1_tongue_4 : List UInt8 := dkwX1_tongue_4 ++ []
def dkwX1_tongue_3 : List UInt8 := [77, 42, 44, 180, 0, 161, 181, 0, 44, 44, 180, 0, 164, 16, 10, 100, 62, 42, 3, 181, 0, 139, 29, 172]
abbrev dktX1_tongue_3 : List UInt8 := dkwX1_tongue_3 ++ dktX1_tongue_4
def dkwX1_tongue_2 : List UInt8 := [182, 0, 180, 181, 0, 19, 42, 180, 0, 19, 180, 0, 183, 182, 0, 187, 61, 42, 3, 181, 0, 139, 28, 172]
abbrev dktX1_tongue_2 : List UInt8 := dkwX1_tongue_2 ++ dktX1_tongue_3
def dkwX1_tongue_1 : List UInt8 := [3, 182, 0, 146, 42, 2, 181, 0, 44, 42, 187, 0, 175, 89, 42, 180, 0, 48, 27, 183, 0, 177]
abbrev dktX1_tongue_1 : List UInt8 := dkwX1_tongue_1 ++ dktX1_tongue_2
def dkwX1_tongue_0 : List UInt8 := [42, 27, 155, 0, 22, 27, 42, 180, 0, 139, 163, 0, 14, 27, 17, 0, 200, 163, 0, 7, 4, 167, 0, 4]
abbrev dktX1_tongue_0 : List UInt8 := dkwX1_tongue_0 ++ dktX1_tongue_1
theorem dksX1_tongue_0 : cX1_tongue.data.toList.drop 0 = dktX1_tongue_0 := by decide +kernel
theorem dksX1_tongue_1 : cX1_tongue.data.toList.drop 24 = dktX1_tongue_1 := dk_seg dksX1_tongue_0 24 rfl rfl
theorem dksX1_tongue_2 : cX1_tongue.data.toList.drop 46 = dktX1_tongue_2 := dk_seg dksX1_tongue_1 22 rfl rfl
theorem dksX1_tongue_3 : cX1_tongue.data.toList.drop 70 = dktX1_tongue_3 := dk_seg dksX1_tongue_2 24 rfl rfl
theorem dksX1_tongue_4 : cX1_tongue.data.toList.drop 94 = dktX1_tongue_4 := dk_seg dksX1_tongue_3 24 rfl rfl
theorem dX1_tongue_0 : decode cX1_tongue 0 = .ok (.aload_n 0, 1) := dk_42 (dk_at dksX1_tongue_0 0 rfl rfl)
theorem dX1_tongue_1 : decode cX1_tongue 1 = .ok (.iload_n 1, 1) := dk_27 (dk_at dksX1_tongue_0 1 rfl rfl)
theorem dX1_tongue_2 : decode cX1_tongue 2 = .ok (.ifCond .lt 22, 3) := dk_155 0 22 (dk_at dksX1_tongue_0 2 rfl rfl)
theorem dX1_tongue_5 : decode cX1_tongue 5 = .ok (.iload_n 1, 1) := dk_27 (dk_at dksX1_tongue_0 5 rfl rfl)
theorem dX1_tongue_6 : decode cX1_tongue 6 = .ok (.aload_n 0, 1) := dk_42 (dk_at dksX1_tongue_0 6 rfl rfl)
theorem dX1_tongue_7 : decode cX1_tongue 7 = .ok (.getfield 139, 3) := dk_180 0 139 (dk_at dksX1_tongue_0 7 rfl rfl)
theorem dX1_tongue_10 : decode cX1_tongue 10 = .ok (.if_icmp .gt 14, 3) := dk_163 0 14 (dk_at dksX1_tongue_0 10 rfl rfl)
theorem dX1_tongue_13 : decode cX1_tongue 13 = .ok (.iload_n 1, 1) := dk_27 (dk_at dksX1_tongue_0 13 rfl rfl)
theorem dX1_tongue_14 : decode cX1_tongue 14 = .ok (.sipush 200, 3) := dk_17 0 200 (dk_at dksX1_tongue_0 14 rfl rfl)
theorem dX1_tongue_17 : decode cX1_tongue 17 = .ok (.if_icmp .gt 7, 3) := dk_163 0 7 (dk_at dksX1_tongue_0 17 rfl rfl)
theorem dX1_tongue_20 : decode cX1_tongue 20 = .ok (.iconst 1, 1) := dk_4 (dk_at dksX1_tongue_0 20 rfl rfl)
theorem dX1_tongue_21 : decode cX1_tongue 21 = .ok (.goto 4, 3) := dk_167 0 4 (dk_at dksX1_tongue_0 21 rfl rfl)
theorem dX1_tongue_24 : decode cX1_tongue 24 = .ok (.iconst 0, 1) := dk_3 (dk_at dksX1_tongue_1 0 rfl rfl)
theorem dX1_tongue_25 : decode cX1_tongue 25 = .ok (.invokevirtual 146, 3) := dk_182 0 146 (dk_at dksX1_tongue_1 1 rfl rfl)
theorem dX1_tongue_28 : decode cX1_tongue 28 = .ok (.aload_n 0, 1) := dk_42 (dk_at dksX1_tongue_1 4 rfl rfl)
theorem dX1_tongue_29 : decode cX1_tongue 29 = .ok (.iconst (-1), 1) := dk_2 (dk_at dksX1_tongue_1 5 rfl rfl)
theorem dX1_tongue_30 : decode cX1_tongue 30 = .ok (.putfield 44, 3) := dk_181 0 44 (dk_at dksX1_tongue_1 6 rfl rfl)
theorem dX1_tongue_33 : decode cX1_tongue 33 = .ok (.aload_n 0, 1) := dk_42 (dk_at dksX1_tongue_1 9 rfl rfl)
theorem dX1_tongue_34 : decode cX1_tongue 34 = .ok (.new 175, 3) := dk_187 0 175 (dk_at dksX1_tongue_1 10 rfl rfl)
theorem dX1_tongue_37 : decode cX1_tongue 37 = .ok (.dup, 1) := dk_89 (dk_at dksX1_tongue_1 13 rfl rfl)
theorem dX1_tongue_38 : decode cX1_tongue 38 = .ok (.aload_n 0, 1) := dk_42 (dk_at dksX1_tongue_1 14 rfl rfl)
theorem dX1_tongue_39 : decode cX1_tongue 39 = .ok (.getfield 48, 3) := dk_180 0 48 (dk_at dksX1_tongue_1 15 rfl rfl)
theorem dX1_tongue_42 : decode cX1_tongue 42 = .ok (.iload_n 1, 1) := dk_27 (dk_at dksX1_tongue_1 18 rfl rfl)
theorem dX1_tongue_43 : decode cX1_tongue 43 = .ok (.invokespecial 177, 3) := dk_183 0 177 (dk_at dksX1_tongue_1 19 rfl rfl)
theorem dX1_tongue_46 : decode cX1_tongue 46 = .ok (.invokevirtual 180, 3) := dk_182 0 180 (dk_at dksX1_tongue_2 0 rfl rfl)
theorem dX1_tongue_49 : decode cX1_tongue 49 = .ok (.putfield 19, 3) := dk_181 0 19 (dk_at dksX1_tongue_2 3 rfl rfl)
theorem dX1_tongue_52 : decode cX1_tongue 52 = .ok (.aload_n 0, 1) := dk_42 (dk_at dksX1_tongue_2 6 rfl rfl)
theorem dX1_tongue_53 : decode cX1_tongue 53 = .ok (.getfield 19, 3) := dk_180 0 19 (dk_at dksX1_tongue_2 7 rfl rfl)
theorem dX1_tongue_56 : decode cX1_tongue 56 = .ok (.getfield 183, 3) := dk_180 0 183 (dk_at dksX1_tongue_2 10 rfl rfl)
theorem dX1_tongue_59 : decode cX1_tongue 59 = .ok (.invokevirtual 187, 3) := dk_182 0 187 (dk_at dksX1_tongue_2 13 rfl rfl)
theorem dX1_tongue_62 : decode cX1_tongue 62 = .ok (.istore_n 2, 1) := dk_61 (dk_at dksX1_tongue_2 16 rfl rfl)
theorem dX1_tongue_63 : decode cX1_tongue 63 = .ok (.aload_n 0, 1) := dk_42 (dk_at dksX1_tongue_2 17 rfl rfl)
theorem dX1_tongue_64 : decode cX1_tongue 64 = .ok (.iconst 0, 1) := dk_3 (dk_at dksX1_tongue_2 18 rfl rfl)
theorem dX1_tongue_65 : decode cX1_tongue 65 = .ok (.putfield 139, 3) := dk_181 0 139 (dk_at dksX1_tongue_2 19 rfl rfl)
theorem dX1_tongue_68 : decode cX1_tongue 68 = .ok (.iload_n 2, 1) := dk_28 (dk_at dksX1_tongue_2 22 rfl rfl)
theorem dX1_tongue_69 : decode cX1_tongue 69 = .ok (.ireturn, 1) := dk_172 (dk_at dksX1_tongue_2 23 rfl rfl)
theorem dX1_tongue_70 : decode cX1_tongue 70 = .ok (.astore_n 2, 1) := dk_77 (dk_at dksX1_tongue_3 0 rfl rfl)
theorem dX1_tongue_71 : decode cX1_tongue 71 = .ok (.aload_n 0, 1) := dk_42 (dk_at dksX1_tongue_3 1 rfl rfl)
theorem dX1_tongue_72 : decode cX1_tongue 72 = .ok (.aload_n 2, 1) := dk_44 (dk_at dksX1_tongue_3 2 rfl rfl)
theorem dX1_tongue_73 : decode cX1_tongue 73 = .ok (.getfield 161, 3) := dk_180 0 161 (dk_at dksX1_tongue_3 3 rfl rfl)
theorem dX1_tongue_76 : decode cX1_tongue 76 = .ok (.putfield 44, 3) := dk_181 0 44 (dk_at dksX1_tongue_3 6 rfl rfl)
theorem dX1_tongue_79 : decode cX1_tongue 79 = .ok (.aload_n 2, 1) := dk_44 (dk_at dksX1_tongue_3 9 rfl rfl)
theorem dX1_tongue_80 : decode cX1_tongue 80 = .ok (.getfield 164, 3) := dk_180 0 164 (dk_at dksX1_tongue_3 10 rfl rfl)
theorem dX1_tongue_83 : decode cX1_tongue 83 = .ok (.bipush 10, 2) := dk_16 10 (dk_at dksX1_tongue_3 13 rfl rfl)
theorem dX1_tongue_85 : decode cX1_tongue 85 = .ok (.isub, 1) := dk_100 (dk_at dksX1_tongue_3 15 rfl rfl)
theorem dX1_tongue_86 : decode cX1_tongue 86 = .ok (.istore_n 3, 1) := dk_62 (dk_at dksX1_tongue_3 16 rfl rfl)
theorem dX1_tongue_87 : decode cX1_tongue 87 = .ok (.aload_n 0, 1) := dk_42 (dk_at dksX1_tongue_3 17 rfl rfl)
theorem dX1_tongue_88 : decode cX1_tongue 88 = .ok (.iconst 0, 1) := dk_3 (dk_at dksX1_tongue_3 18 rfl rfl)
theorem dX1_tongue_89 : decode cX1_tongue 89 = .ok (.putfield 139, 3) := dk_181 0 139 (dk_at dksX1_tongue_3 19 rfl rfl)
theorem dX1_tongue_92 : decode cX1_tongue 92 = .ok (.iload_n 3, 1) := dk_29 (dk_at dksX1_tongue_3 22 rfl rfl)
theorem dX1_tongue_93 : decode cX1_tongue 93 = .ok (.ireturn, 1) := dk_172 (dk_at dksX1_tongue_3 23 rfl rfl)
theorem dX1_tongue_94 : decode cX1_tongue 94 = .ok (.astore 4, 2) := dk_58 4 (dk_at dksX1_tongue_4 0 rfl rfl)
theorem dX1_tongue_96 : decode cX1_tongue 96 = .ok (.aload_n 0, 1) := dk_42 (dk_at dksX1_tongue_4 2 rfl rfl)
theorem dX1_tongue_97 : decode cX1_tongue 97 = .ok (.iconst 0, 1) := dk_3 (dk_at dksX1_tongue_4 3 rfl rfl)
theorem dX1_tongue_98 : decode cX1_tongue 98 = .ok (.putfield 139, 3) := dk_181 0 139 (dk_at dksX1_tongue_4 4 rfl rfl)
theorem dX1_tongue_101 : decode cX1_tongue 101 = .ok (.aload 4, 2) := dk_25 4 (dk_at dksX1_tongue_4 7 rfl rfl)
theorem dX1_tongue_103 : decode cX1_tongue 103 = .ok (.athrow, 1) := dk_191 (dk_at dksX1_tongue_4 9 rfl rfl)
abbrev cX1_told : ByteArray := prog_1_method_17_code
def yX1_told : MethodName := ⟨RX1, "told", "(I)I"⟩
def dkwX1_told_4 : List UInt8 := [180, 0, 126, 172]
abbrev dktX1_told_4 : List UInt8 := dkwX1_told_4 ++ []
def dkwX1_told_3 : List UInt8 := [182, 0, 187, 172, 42, 180, 0, 12, 180, 0, 199, 172, 42, 180, 0, 40, 180, 0, 117, 172, 42, 180, 0, 40]
abbrev dktX1_told_3 : List UInt8 := dkwX1_told_3 ++ dktX1_told_4
def dkwX1_told_2 : List UInt8 := [42, 180, 0, 12, 180, 0, 193, 172, 42, 180, 0, 12, 180, 0, 108, 172, 42, 180, 0, 12, 180, 0, 196]
abbrev dktX1_told_2 : List UInt8 := dkwX1_told_2 ++ dktX1_told_3
def dkwX1_told_1 : List UInt8 := [170, 0, 0, 0, 76, 0, 0, 0, 0, 0, 0, 0, 4, 0, 0, 0, 33, 0, 0, 0, 41, 0, 0, 0, 49, 0, 0, 0, 60, 0, 0, 0, 68]
abbrev dktX1_told_1 : List UInt8 := dkwX1_told_1 ++ dktX1_told_2
def dkwX1_told_0 : List UInt8 := [42, 27, 155, 0, 12, 27, 8, 163, 0, 7, 4, 167, 0, 4, 3, 182, 0, 146, 27]
abbrev dktX1_told_0 : List UInt8 := dkwX1_told_0 ++ dktX1_told_1
theorem dksX1_told_0 : cX1_told.data.toList.drop 0 = dktX1_told_0 := by decide +kernel
theorem dksX1_told_1 : cX1_told.data.toList.drop 19 = dktX1_told_1 := dk_seg dksX1_told_0 19 rfl rfl
theorem dksX1_told_2 : cX1_told.data.toList.drop 52 = dktX1_told_2 := dk_seg dksX1_told_1 33 rfl rfl
theorem dksX1_told_3 : cX1_told.data.toList.drop 75 = dktX1_told_3 := dk_seg dksX1_told_2 23 rfl rfl
theorem dksX1_told_4 : cX1_told.data.toList.drop 99 = dktX1_told_4 := dk_seg dksX1_told_3 24 rfl rfl
theorem dX1_told_0 : decode cX1_told 0 = .ok (.aload_n 0, 1) := dk_42 (dk_at dksX1_told_0 0 rfl rfl)
theorem dX1_told_1 : decode cX1_told 1 = .ok (.iload_n 1, 1) := dk_27 (dk_at dksX1_told_0 1 rfl rfl)
theorem dX1_told_2 : decode cX1_told 2 = .ok (.ifCond .lt 12, 3) := dk_155 0 12 (dk_at dksX1_told_0 2 rfl rfl)
theorem dX1_told_5 : decode cX1_told 5 = .ok (.iload_n 1, 1) := dk_27 (dk_at dksX1_told_0 5 rfl rfl)
theorem dX1_told_6 : decode cX1_told 6 = .ok (.iconst 5, 1) := dk_8 (dk_at dksX1_told_0 6 rfl rfl)
theorem dX1_told_7 : decode cX1_told 7 = .ok (.if_icmp .gt 7, 3) := dk_163 0 7 (dk_at dksX1_told_0 7 rfl rfl)
theorem dX1_told_10 : decode cX1_told 10 = .ok (.iconst 1, 1) := dk_4 (dk_at dksX1_told_0 10 rfl rfl)
theorem dX1_told_11 : decode cX1_told 11 = .ok (.goto 4, 3) := dk_167 0 4 (dk_at dksX1_told_0 11 rfl rfl)
theorem dX1_told_14 : decode cX1_told 14 = .ok (.iconst 0, 1) := dk_3 (dk_at dksX1_told_0 14 rfl rfl)
theorem dX1_told_15 : decode cX1_told 15 = .ok (.invokevirtual 146, 3) := dk_182 0 146 (dk_at dksX1_told_0 15 rfl rfl)
theorem dX1_told_18 : decode cX1_told 18 = .ok (.iload_n 1, 1) := dk_27 (dk_at dksX1_told_0 18 rfl rfl)
theorem dX1_told_19 : decode cX1_told 19 = .ok (.tableswitch 76 0 4 #[33, 41, 49, 60, 68], 33) := by decide +kernel
theorem dX1_told_52 : decode cX1_told 52 = .ok (.aload_n 0, 1) := dk_42 (dk_at dksX1_told_2 0 rfl rfl)
theorem dX1_told_53 : decode cX1_told 53 = .ok (.getfield 12, 3) := dk_180 0 12 (dk_at dksX1_told_2 1 rfl rfl)
theorem dX1_told_56 : decode cX1_told 56 = .ok (.getfield 193, 3) := dk_180 0 193 (dk_at dksX1_told_2 4 rfl rfl)
theorem dX1_told_59 : decode cX1_told 59 = .ok (.ireturn, 1) := dk_172 (dk_at dksX1_told_2 7 rfl rfl)
theorem dX1_told_60 : decode cX1_told 60 = .ok (.aload_n 0, 1) := dk_42 (dk_at dksX1_told_2 8 rfl rfl)
theorem dX1_told_61 : decode cX1_told 61 = .ok (.getfield 12, 3) := dk_180 0 12 (dk_at dksX1_told_2 9 rfl rfl)
theorem dX1_told_64 : decode cX1_told 64 = .ok (.getfield 108, 3) := dk_180 0 108 (dk_at dksX1_told_2 12 rfl rfl)
theorem dX1_told_67 : decode cX1_told 67 = .ok (.ireturn, 1) := dk_172 (dk_at dksX1_told_2 15 rfl rfl)
theorem dX1_told_68 : decode cX1_told 68 = .ok (.aload_n 0, 1) := dk_42 (dk_at dksX1_told_2 16 rfl rfl)
theorem dX1_told_69 : decode cX1_told 69 = .ok (.getfield 12, 3) := dk_180 0 12 (dk_at dksX1_told_2 17 rfl rfl)
theorem dX1_told_72 : decode cX1_told 72 = .ok (.getfield 196, 3) := dk_180 0 196 (dk_at dksX1_told_2 20 rfl rfl)
theorem dX1_told_75 : decode cX1_told 75 = .ok (.invokevirtual 187, 3) := dk_182 0 187 (dk_at dksX1_told_3 0 rfl rfl)
theorem dX1_told_78 : decode cX1_told 78 = .ok (.ireturn, 1) := dk_172 (dk_at dksX1_told_3 3 rfl rfl)
theorem dX1_told_79 : decode cX1_told 79 = .ok (.aload_n 0, 1) := dk_42 (dk_at dksX1_told_3 4 rfl rfl)
theorem dX1_told_80 : decode cX1_told 80 = .ok (.getfield 12, 3) := dk_180 0 12 (dk_at dksX1_told_3 5 rfl rfl)
theorem dX1_told_83 : decode cX1_told 83 = .ok (.getfield 199, 3) := dk_180 0 199 (dk_at dksX1_told_3 8 rfl rfl)
theorem dX1_told_86 : decode cX1_told 86 = .ok (.ireturn, 1) := dk_172 (dk_at dksX1_told_3 11 rfl rfl)
theorem dX1_told_87 : decode cX1_told 87 = .ok (.aload_n 0, 1) := dk_42 (dk_at dksX1_told_3 12 rfl rfl)
theorem dX1_told_88 : decode cX1_told 88 = .ok (.getfield 40, 3) := dk_180 0 40 (dk_at dksX1_told_3 13 rfl rfl)
theorem dX1_told_91 : decode cX1_told 91 = .ok (.getfield 117, 3) := dk_180 0 117 (dk_at dksX1_told_3 16 rfl rfl)
theorem dX1_told_94 : decode cX1_told 94 = .ok (.ireturn, 1) := dk_172 (dk_at dksX1_told_3 19 rfl rfl)
theorem dX1_told_95 : decode cX1_told 95 = .ok (.aload_n 0, 1) := dk_42 (dk_at dksX1_told_3 20 rfl rfl)
theorem dX1_told_96 : decode cX1_told 96 = .ok (.getfield 40, 3) := dk_180 0 40 (dk_at dksX1_told_3 21 rfl rfl)
theorem dX1_told_99 : decode cX1_told 99 = .ok (.getfield 126, 3) := dk_180 0 126 (dk_at dksX1_told_4 0 rfl rfl)
theorem dX1_told_102 : decode cX1_told 102 = .ok (.ireturn, 1) := dk_172 (dk_at dksX1_told_4 3 rfl rfl)
abbrev cX1_models : ByteArray := prog_1_method_18_code
def yX1_models : MethodName := ⟨RX1, "models", "(I)J"⟩
def dkwX1_models_0 : List UInt8 := [42, 27, 42, 180, 0, 12, 180, 0, 108, 182, 0, 202, 42, 180, 0, 12, 180, 0, 114, 27, 47, 173]
abbrev dktX1_models_0 : List UInt8 := dkwX1_models_0 ++ []
theorem dksX1_models_0 : cX1_models.data.toList.drop 0 = dktX1_models_0 := by decide +kernel
theorem dX1_models_0 : decode cX1_models 0 = .ok (.aload_n 0, 1) := dk_42 (dk_at dksX1_models_0 0 rfl rfl)
theorem dX1_models_1 : decode cX1_models 1 = .ok (.iload_n 1, 1) := dk_27 (dk_at dksX1_models_0 1 rfl rfl)
theorem dX1_models_2 : decode cX1_models 2 = .ok (.aload_n 0, 1) := dk_42 (dk_at dksX1_models_0 2 rfl rfl)
theorem dX1_models_3 : decode cX1_models 3 = .ok (.getfield 12, 3) := dk_180 0 12 (dk_at dksX1_models_0 3 rfl rfl)
theorem dX1_models_6 : decode cX1_models 6 = .ok (.getfield 108, 3) := dk_180 0 108 (dk_at dksX1_models_0 6 rfl rfl)
theorem dX1_models_9 : decode cX1_models 9 = .ok (.invokevirtual 202, 3) := dk_182 0 202 (dk_at dksX1_models_0 9 rfl rfl)
theorem dX1_models_12 : decode cX1_models 12 = .ok (.aload_n 0, 1) := dk_42 (dk_at dksX1_models_0 12 rfl rfl)
theorem dX1_models_13 : decode cX1_models 13 = .ok (.getfield 12, 3) := dk_180 0 12 (dk_at dksX1_models_0 13 rfl rfl)
theorem dX1_models_16 : decode cX1_models 16 = .ok (.getfield 114, 3) := dk_180 0 114 (dk_at dksX1_models_0 16 rfl rfl)
theorem dX1_models_19 : decode cX1_models 19 = .ok (.iload_n 1, 1) := dk_27 (dk_at dksX1_models_0 19 rfl rfl)
theorem dX1_models_20 : decode cX1_models 20 = .ok (.laload, 1) := dk_47 (dk_at dksX1_models_0 20 rfl rfl)
theorem dX1_models_21 : decode cX1_models 21 = .ok (.lreturn, 1) := dk_173 (dk_at dksX1_models_0 21 rfl rfl)
abbrev cX1_needIn : ByteArray := prog_1_method_3_code
def yX1_needIn : MethodName := ⟨RX1, "needIn", "(II)V"⟩
def dkwX1_needIn_1 : List UInt8 := [183, 0, 107, 191]
abbrev dktX1_needIn_1 : List UInt8 := dkwX1_needIn_1 ++ []
def dkwX1_needIn_0 : List UInt8 := [27, 155, 0, 9, 27, 28, 162, 0, 4, 177, 42, 180, 0, 56, 3, 92, 46, 4, 96, 79, 187, 0, 105, 89]
abbrev dktX1_needIn_0 : List UInt8 := dkwX1_needIn_0 ++ dktX1_needIn_1
theorem dksX1_needIn_0 : cX1_needIn.data.toList.drop 0 = dktX1_needIn_0 := by decide +kernel
theorem dksX1_needIn_1 : cX1_needIn.data.toList.drop 24 = dktX1_needIn_1 := dk_seg dksX1_needIn_0 24 rfl rfl
theorem dX1_needIn_0 : decode cX1_needIn 0 = .ok (.iload_n 1, 1) := dk_27 (dk_at dksX1_needIn_0 0 rfl rfl)
theorem dX1_needIn_1 : decode cX1_needIn 1 = .ok (.ifCond .lt 9, 3) := dk_155 0 9 (dk_at dksX1_needIn_0 1 rfl rfl)
theorem dX1_needIn_4 : decode cX1_needIn 4 = .ok (.iload_n 1, 1) := dk_27 (dk_at dksX1_needIn_0 4 rfl rfl)
theorem dX1_needIn_5 : decode cX1_needIn 5 = .ok (.iload_n 2, 1) := dk_28 (dk_at dksX1_needIn_0 5 rfl rfl)
theorem dX1_needIn_6 : decode cX1_needIn 6 = .ok (.if_icmp .ge 4, 3) := dk_162 0 4 (dk_at dksX1_needIn_0 6 rfl rfl)
theorem dX1_needIn_9 : decode cX1_needIn 9 = .ok (.return_, 1) := dk_177 (dk_at dksX1_needIn_0 9 rfl rfl)
theorem dX1_needIn_10 : decode cX1_needIn 10 = .ok (.aload_n 0, 1) := dk_42 (dk_at dksX1_needIn_0 10 rfl rfl)
theorem dX1_needIn_11 : decode cX1_needIn 11 = .ok (.getfield 56, 3) := dk_180 0 56 (dk_at dksX1_needIn_0 11 rfl rfl)
theorem dX1_needIn_14 : decode cX1_needIn 14 = .ok (.iconst 0, 1) := dk_3 (dk_at dksX1_needIn_0 14 rfl rfl)
theorem dX1_needIn_15 : decode cX1_needIn 15 = .ok (.dup2, 1) := dk_92 (dk_at dksX1_needIn_0 15 rfl rfl)
theorem dX1_needIn_16 : decode cX1_needIn 16 = .ok (.iaload, 1) := dk_46 (dk_at dksX1_needIn_0 16 rfl rfl)
theorem dX1_needIn_17 : decode cX1_needIn 17 = .ok (.iconst 1, 1) := dk_4 (dk_at dksX1_needIn_0 17 rfl rfl)
theorem dX1_needIn_18 : decode cX1_needIn 18 = .ok (.iadd, 1) := dk_96 (dk_at dksX1_needIn_0 18 rfl rfl)
theorem dX1_needIn_19 : decode cX1_needIn 19 = .ok (.iastore, 1) := dk_79 (dk_at dksX1_needIn_0 19 rfl rfl)
theorem dX1_needIn_20 : decode cX1_needIn 20 = .ok (.new 105, 3) := dk_187 0 105 (dk_at dksX1_needIn_0 20 rfl rfl)
theorem dX1_needIn_23 : decode cX1_needIn 23 = .ok (.dup, 1) := dk_89 (dk_at dksX1_needIn_0 23 rfl rfl)
theorem dX1_needIn_24 : decode cX1_needIn 24 = .ok (.invokespecial 107, 3) := dk_183 0 107 (dk_at dksX1_needIn_1 0 rfl rfl)
theorem dX1_needIn_27 : decode cX1_needIn 27 = .ok (.athrow, 1) := dk_191 (dk_at dksX1_needIn_1 3 rfl rfl)
abbrev cX1_seen : ByteArray := prog_1_method_19_code
def yX1_seen : MethodName := ⟨RX1, "seen", "(I)J"⟩
def dkwX1_seen_1 : List UInt8 := [182, 0, 206, 192, 0, 210, 180, 0, 212, 173]
abbrev dktX1_seen_1 : List UInt8 := dkwX1_seen_1 ++ []
def dkwX1_seen_0 : List UInt8 := [42, 27, 42, 180, 0, 12, 180, 0, 196, 182, 0, 187, 182, 0, 202, 42, 180, 0, 12, 180, 0, 196, 27]
abbrev dktX1_seen_0 : List UInt8 := dkwX1_seen_0 ++ dktX1_seen_1
theorem dksX1_seen_0 : cX1_seen.data.toList.drop 0 = dktX1_seen_0 := by decide +kernel
theorem dksX1_seen_1 : cX1_seen.data.toList.drop 23 = dktX1_seen_1 := dk_seg dksX1_seen_0 23 rfl rfl
theorem dX1_seen_0 : decode cX1_seen 0 = .ok (.aload_n 0, 1) := dk_42 (dk_at dksX1_seen_0 0 rfl rfl)
theorem dX1_seen_1 : decode cX1_seen 1 = .ok (.iload_n 1, 1) := dk_27 (dk_at dksX1_seen_0 1 rfl rfl)
theorem dX1_seen_2 : decode cX1_seen 2 = .ok (.aload_n 0, 1) := dk_42 (dk_at dksX1_seen_0 2 rfl rfl)
theorem dX1_seen_3 : decode cX1_seen 3 = .ok (.getfield 12, 3) := dk_180 0 12 (dk_at dksX1_seen_0 3 rfl rfl)
theorem dX1_seen_6 : decode cX1_seen 6 = .ok (.getfield 196, 3) := dk_180 0 196 (dk_at dksX1_seen_0 6 rfl rfl)
theorem dX1_seen_9 : decode cX1_seen 9 = .ok (.invokevirtual 187, 3) := dk_182 0 187 (dk_at dksX1_seen_0 9 rfl rfl)
theorem dX1_seen_12 : decode cX1_seen 12 = .ok (.invokevirtual 202, 3) := dk_182 0 202 (dk_at dksX1_seen_0 12 rfl rfl)
theorem dX1_seen_15 : decode cX1_seen 15 = .ok (.aload_n 0, 1) := dk_42 (dk_at dksX1_seen_0 15 rfl rfl)
theorem dX1_seen_16 : decode cX1_seen 16 = .ok (.getfield 12, 3) := dk_180 0 12 (dk_at dksX1_seen_0 16 rfl rfl)
theorem dX1_seen_19 : decode cX1_seen 19 = .ok (.getfield 196, 3) := dk_180 0 196 (dk_at dksX1_seen_0 19 rfl rfl)
theorem dX1_seen_22 : decode cX1_seen 22 = .ok (.iload_n 1, 1) := dk_27 (dk_at dksX1_seen_0 22 rfl rfl)
theorem dX1_seen_23 : decode cX1_seen 23 = .ok (.invokevirtual 206, 3) := dk_182 0 206 (dk_at dksX1_seen_1 0 rfl rfl)
theorem dX1_seen_26 : decode cX1_seen 26 = .ok (.checkcast 210, 3) := dk_192 0 210 (dk_at dksX1_seen_1 3 rfl rfl)
theorem dX1_seen_29 : decode cX1_seen 29 = .ok (.getfield 212, 3) := dk_180 0 212 (dk_at dksX1_seen_1 6 rfl rfl)
theorem dX1_seen_32 : decode cX1_seen 32 = .ok (.lreturn, 1) := dk_173 (dk_at dksX1_seen_1 9 rfl rfl)
abbrev cX1_left : ByteArray := prog_1_method_20_code
def yX1_left : MethodName := ⟨RX1, "left", "(I)J"⟩
def dkwX1_left_0 : List UInt8 := [42, 27, 184, 0, 214, 182, 0, 146, 42, 180, 0, 33, 27, 47, 173]
abbrev dktX1_left_0 : List UInt8 := dkwX1_left_0 ++ []
theorem dksX1_left_0 : cX1_left.data.toList.drop 0 = dktX1_left_0 := by decide +kernel
theorem dX1_left_0 : decode cX1_left 0 = .ok (.aload_n 0, 1) := dk_42 (dk_at dksX1_left_0 0 rfl rfl)
theorem dX1_left_1 : decode cX1_left 1 = .ok (.iload_n 1, 1) := dk_27 (dk_at dksX1_left_0 1 rfl rfl)
theorem dX1_left_2 : decode cX1_left 2 = .ok (.invokestatic 214, 3) := dk_184 0 214 (dk_at dksX1_left_0 2 rfl rfl)
theorem dX1_left_5 : decode cX1_left 5 = .ok (.invokevirtual 146, 3) := dk_182 0 146 (dk_at dksX1_left_0 5 rfl rfl)
theorem dX1_left_8 : decode cX1_left 8 = .ok (.aload_n 0, 1) := dk_42 (dk_at dksX1_left_0 8 rfl rfl)
theorem dX1_left_9 : decode cX1_left 9 = .ok (.getfield 33, 3) := dk_180 0 33 (dk_at dksX1_left_0 9 rfl rfl)
theorem dX1_left_12 : decode cX1_left 12 = .ok (.iload_n 1, 1) := dk_27 (dk_at dksX1_left_0 12 rfl rfl)
theorem dX1_left_13 : decode cX1_left 13 = .ok (.laload, 1) := dk_47 (dk_at dksX1_left_0 13 rfl rfl)
theorem dX1_left_14 : decode cX1_left 14 = .ok (.lreturn, 1) := dk_173 (dk_at dksX1_left_0 14 rfl rfl)
abbrev cX1_isWeek : ByteArray := prog_1_method_5_code
def yX1_isWeek : MethodName := ⟨RX1, "isWeek", "(I)Z"⟩
def dkwX1_isWeek_0 : List UInt8 := [26, 155, 0, 13, 26, 16, 52, 162, 0, 7, 4, 167, 0, 4, 3, 172]
abbrev dktX1_isWeek_0 : List UInt8 := dkwX1_isWeek_0 ++ []
theorem dksX1_isWeek_0 : cX1_isWeek.data.toList.drop 0 = dktX1_isWeek_0 := by decide +kernel
theorem dX1_isWeek_0 : decode cX1_isWeek 0 = .ok (.iload_n 0, 1) := dk_26 (dk_at dksX1_isWeek_0 0 rfl rfl)
theorem dX1_isWeek_1 : decode cX1_isWeek 1 = .ok (.ifCond .lt 13, 3) := dk_155 0 13 (dk_at dksX1_isWeek_0 1 rfl rfl)
theorem dX1_isWeek_4 : decode cX1_isWeek 4 = .ok (.iload_n 0, 1) := dk_26 (dk_at dksX1_isWeek_0 4 rfl rfl)
theorem dX1_isWeek_5 : decode cX1_isWeek 5 = .ok (.bipush 52, 2) := dk_16 52 (dk_at dksX1_isWeek_0 5 rfl rfl)
theorem dX1_isWeek_7 : decode cX1_isWeek 7 = .ok (.if_icmp .ge 7, 3) := dk_162 0 7 (dk_at dksX1_isWeek_0 7 rfl rfl)
theorem dX1_isWeek_10 : decode cX1_isWeek 10 = .ok (.iconst 1, 1) := dk_4 (dk_at dksX1_isWeek_0 10 rfl rfl)
theorem dX1_isWeek_11 : decode cX1_isWeek 11 = .ok (.goto 4, 3) := dk_167 0 4 (dk_at dksX1_isWeek_0 11 rfl rfl)
theorem dX1_isWeek_14 : decode cX1_isWeek 14 = .ok (.iconst 0, 1) := dk_3 (dk_at dksX1_isWeek_0 14 rfl rfl)
theorem dX1_isWeek_15 : decode cX1_isWeek 15 = .ok (.ireturn, 1) := dk_172 (dk_at dksX1_isWeek_0 15 rfl rfl)
abbrev cX1_kin : ByteArray := prog_1_method_21_code
def yX1_kin : MethodName := ⟨RX1, "kin", "(II)I"⟩
def dkwX1_kin_4 : List UInt8 := [167, 0, 4, 7, 172]
abbrev dktX1_kin_4 : List UInt8 := dkwX1_kin_4 ++ []
def dkwX1_kin_3 : List UInt8 := [20, 0, 27, 131, 127, 9, 148, 154, 0, 5, 5, 172, 33, 22, 5, 127, 9, 148, 154, 0, 7, 6]
abbrev dktX1_kin_3 : List UInt8 := dkwX1_kin_3 ++ dktX1_kin_4
def dkwX1_kin_2 : List UInt8 := [148, 154, 0, 5, 3, 172, 33, 22, 5, 20, 0, 27, 131, 127, 9, 148, 154, 0, 5, 4, 172, 22, 5, 33]
abbrev dktX1_kin_2 : List UInt8 := dkwX1_kin_2 ++ dktX1_kin_3
def dkwX1_kin_1 : List UInt8 := [42, 180, 0, 12, 180, 0, 114, 27, 47, 66, 42, 180, 0, 12, 180, 0, 114, 28, 47, 55, 5, 33, 22, 5]
abbrev dktX1_kin_1 : List UInt8 := dkwX1_kin_1 ++ dktX1_kin_2
def dkwX1_kin_0 : List UInt8 := [42, 27, 42, 180, 0, 12, 180, 0, 108, 182, 0, 202, 42, 28, 42, 180, 0, 12, 180, 0, 108, 182, 0, 202]
abbrev dktX1_kin_0 : List UInt8 := dkwX1_kin_0 ++ dktX1_kin_1
theorem dksX1_kin_0 : cX1_kin.data.toList.drop 0 = dktX1_kin_0 := by decide +kernel
theorem dksX1_kin_1 : cX1_kin.data.toList.drop 24 = dktX1_kin_1 := dk_seg dksX1_kin_0 24 rfl rfl
theorem dksX1_kin_2 : cX1_kin.data.toList.drop 48 = dktX1_kin_2 := dk_seg dksX1_kin_1 24 rfl rfl
theorem dksX1_kin_3 : cX1_kin.data.toList.drop 72 = dktX1_kin_3 := dk_seg dksX1_kin_2 24 rfl rfl
theorem dksX1_kin_4 : cX1_kin.data.toList.drop 94 = dktX1_kin_4 := dk_seg dksX1_kin_3 22 rfl rfl
theorem dX1_kin_0 : decode cX1_kin 0 = .ok (.aload_n 0, 1) := dk_42 (dk_at dksX1_kin_0 0 rfl rfl)
theorem dX1_kin_1 : decode cX1_kin 1 = .ok (.iload_n 1, 1) := dk_27 (dk_at dksX1_kin_0 1 rfl rfl)
theorem dX1_kin_2 : decode cX1_kin 2 = .ok (.aload_n 0, 1) := dk_42 (dk_at dksX1_kin_0 2 rfl rfl)
theorem dX1_kin_3 : decode cX1_kin 3 = .ok (.getfield 12, 3) := dk_180 0 12 (dk_at dksX1_kin_0 3 rfl rfl)
theorem dX1_kin_6 : decode cX1_kin 6 = .ok (.getfield 108, 3) := dk_180 0 108 (dk_at dksX1_kin_0 6 rfl rfl)
theorem dX1_kin_9 : decode cX1_kin 9 = .ok (.invokevirtual 202, 3) := dk_182 0 202 (dk_at dksX1_kin_0 9 rfl rfl)
theorem dX1_kin_12 : decode cX1_kin 12 = .ok (.aload_n 0, 1) := dk_42 (dk_at dksX1_kin_0 12 rfl rfl)
theorem dX1_kin_13 : decode cX1_kin 13 = .ok (.iload_n 2, 1) := dk_28 (dk_at dksX1_kin_0 13 rfl rfl)
theorem dX1_kin_14 : decode cX1_kin 14 = .ok (.aload_n 0, 1) := dk_42 (dk_at dksX1_kin_0 14 rfl rfl)
theorem dX1_kin_15 : decode cX1_kin 15 = .ok (.getfield 12, 3) := dk_180 0 12 (dk_at dksX1_kin_0 15 rfl rfl)
theorem dX1_kin_18 : decode cX1_kin 18 = .ok (.getfield 108, 3) := dk_180 0 108 (dk_at dksX1_kin_0 18 rfl rfl)
theorem dX1_kin_21 : decode cX1_kin 21 = .ok (.invokevirtual 202, 3) := dk_182 0 202 (dk_at dksX1_kin_0 21 rfl rfl)
theorem dX1_kin_24 : decode cX1_kin 24 = .ok (.aload_n 0, 1) := dk_42 (dk_at dksX1_kin_1 0 rfl rfl)
theorem dX1_kin_25 : decode cX1_kin 25 = .ok (.getfield 12, 3) := dk_180 0 12 (dk_at dksX1_kin_1 1 rfl rfl)
theorem dX1_kin_28 : decode cX1_kin 28 = .ok (.getfield 114, 3) := dk_180 0 114 (dk_at dksX1_kin_1 4 rfl rfl)
theorem dX1_kin_31 : decode cX1_kin 31 = .ok (.iload_n 1, 1) := dk_27 (dk_at dksX1_kin_1 7 rfl rfl)
theorem dX1_kin_32 : decode cX1_kin 32 = .ok (.laload, 1) := dk_47 (dk_at dksX1_kin_1 8 rfl rfl)
theorem dX1_kin_33 : decode cX1_kin 33 = .ok (.lstore_n 3, 1) := dk_66 (dk_at dksX1_kin_1 9 rfl rfl)
theorem dX1_kin_34 : decode cX1_kin 34 = .ok (.aload_n 0, 1) := dk_42 (dk_at dksX1_kin_1 10 rfl rfl)
theorem dX1_kin_35 : decode cX1_kin 35 = .ok (.getfield 12, 3) := dk_180 0 12 (dk_at dksX1_kin_1 11 rfl rfl)
theorem dX1_kin_38 : decode cX1_kin 38 = .ok (.getfield 114, 3) := dk_180 0 114 (dk_at dksX1_kin_1 14 rfl rfl)
theorem dX1_kin_41 : decode cX1_kin 41 = .ok (.iload_n 2, 1) := dk_28 (dk_at dksX1_kin_1 17 rfl rfl)
theorem dX1_kin_42 : decode cX1_kin 42 = .ok (.laload, 1) := dk_47 (dk_at dksX1_kin_1 18 rfl rfl)
theorem dX1_kin_43 : decode cX1_kin 43 = .ok (.lstore 5, 2) := dk_55 5 (dk_at dksX1_kin_1 19 rfl rfl)
theorem dX1_kin_45 : decode cX1_kin 45 = .ok (.lload_n 3, 1) := dk_33 (dk_at dksX1_kin_1 21 rfl rfl)
theorem dX1_kin_46 : decode cX1_kin 46 = .ok (.lload 5, 2) := dk_22 5 (dk_at dksX1_kin_1 22 rfl rfl)
theorem dX1_kin_48 : decode cX1_kin 48 = .ok (.lcmp, 1) := dk_148 (dk_at dksX1_kin_2 0 rfl rfl)
theorem dX1_kin_49 : decode cX1_kin 49 = .ok (.ifCond .ne 5, 3) := dk_154 0 5 (dk_at dksX1_kin_2 1 rfl rfl)
theorem dX1_kin_52 : decode cX1_kin 52 = .ok (.iconst 0, 1) := dk_3 (dk_at dksX1_kin_2 4 rfl rfl)
theorem dX1_kin_53 : decode cX1_kin 53 = .ok (.ireturn, 1) := dk_172 (dk_at dksX1_kin_2 5 rfl rfl)
theorem dX1_kin_54 : decode cX1_kin 54 = .ok (.lload_n 3, 1) := dk_33 (dk_at dksX1_kin_2 6 rfl rfl)
theorem dX1_kin_55 : decode cX1_kin 55 = .ok (.lload 5, 2) := dk_22 5 (dk_at dksX1_kin_2 7 rfl rfl)
theorem dX1_kin_57 : decode cX1_kin 57 = .ok (.ldc2_w 27, 3) := dk_20 0 27 (dk_at dksX1_kin_2 9 rfl rfl)
theorem dX1_kin_60 : decode cX1_kin 60 = .ok (.lxor, 1) := dk_131 (dk_at dksX1_kin_2 12 rfl rfl)
theorem dX1_kin_61 : decode cX1_kin 61 = .ok (.land, 1) := dk_127 (dk_at dksX1_kin_2 13 rfl rfl)
theorem dX1_kin_62 : decode cX1_kin 62 = .ok (.lconst 0, 1) := dk_9 (dk_at dksX1_kin_2 14 rfl rfl)
theorem dX1_kin_63 : decode cX1_kin 63 = .ok (.lcmp, 1) := dk_148 (dk_at dksX1_kin_2 15 rfl rfl)
theorem dX1_kin_64 : decode cX1_kin 64 = .ok (.ifCond .ne 5, 3) := dk_154 0 5 (dk_at dksX1_kin_2 16 rfl rfl)
theorem dX1_kin_67 : decode cX1_kin 67 = .ok (.iconst 1, 1) := dk_4 (dk_at dksX1_kin_2 19 rfl rfl)
theorem dX1_kin_68 : decode cX1_kin 68 = .ok (.ireturn, 1) := dk_172 (dk_at dksX1_kin_2 20 rfl rfl)
theorem dX1_kin_69 : decode cX1_kin 69 = .ok (.lload 5, 2) := dk_22 5 (dk_at dksX1_kin_2 21 rfl rfl)
theorem dX1_kin_71 : decode cX1_kin 71 = .ok (.lload_n 3, 1) := dk_33 (dk_at dksX1_kin_2 23 rfl rfl)
theorem dX1_kin_72 : decode cX1_kin 72 = .ok (.ldc2_w 27, 3) := dk_20 0 27 (dk_at dksX1_kin_3 0 rfl rfl)
theorem dX1_kin_75 : decode cX1_kin 75 = .ok (.lxor, 1) := dk_131 (dk_at dksX1_kin_3 3 rfl rfl)
theorem dX1_kin_76 : decode cX1_kin 76 = .ok (.land, 1) := dk_127 (dk_at dksX1_kin_3 4 rfl rfl)
theorem dX1_kin_77 : decode cX1_kin 77 = .ok (.lconst 0, 1) := dk_9 (dk_at dksX1_kin_3 5 rfl rfl)
theorem dX1_kin_78 : decode cX1_kin 78 = .ok (.lcmp, 1) := dk_148 (dk_at dksX1_kin_3 6 rfl rfl)
theorem dX1_kin_79 : decode cX1_kin 79 = .ok (.ifCond .ne 5, 3) := dk_154 0 5 (dk_at dksX1_kin_3 7 rfl rfl)
theorem dX1_kin_82 : decode cX1_kin 82 = .ok (.iconst 2, 1) := dk_5 (dk_at dksX1_kin_3 10 rfl rfl)
theorem dX1_kin_83 : decode cX1_kin 83 = .ok (.ireturn, 1) := dk_172 (dk_at dksX1_kin_3 11 rfl rfl)
theorem dX1_kin_84 : decode cX1_kin 84 = .ok (.lload_n 3, 1) := dk_33 (dk_at dksX1_kin_3 12 rfl rfl)
theorem dX1_kin_85 : decode cX1_kin 85 = .ok (.lload 5, 2) := dk_22 5 (dk_at dksX1_kin_3 13 rfl rfl)
theorem dX1_kin_87 : decode cX1_kin 87 = .ok (.land, 1) := dk_127 (dk_at dksX1_kin_3 15 rfl rfl)
theorem dX1_kin_88 : decode cX1_kin 88 = .ok (.lconst 0, 1) := dk_9 (dk_at dksX1_kin_3 16 rfl rfl)
theorem dX1_kin_89 : decode cX1_kin 89 = .ok (.lcmp, 1) := dk_148 (dk_at dksX1_kin_3 17 rfl rfl)
theorem dX1_kin_90 : decode cX1_kin 90 = .ok (.ifCond .ne 7, 3) := dk_154 0 7 (dk_at dksX1_kin_3 18 rfl rfl)
theorem dX1_kin_93 : decode cX1_kin 93 = .ok (.iconst 3, 1) := dk_6 (dk_at dksX1_kin_3 21 rfl rfl)
theorem dX1_kin_94 : decode cX1_kin 94 = .ok (.goto 4, 3) := dk_167 0 4 (dk_at dksX1_kin_4 0 rfl rfl)
theorem dX1_kin_97 : decode cX1_kin 97 = .ok (.iconst 4, 1) := dk_7 (dk_at dksX1_kin_4 3 rfl rfl)
theorem dX1_kin_98 : decode cX1_kin 98 = .ok (.ireturn, 1) := dk_172 (dk_at dksX1_kin_4 4 rfl rfl)
abbrev cX1_fallOut : ByteArray := prog_1_method_22_code
def yX1_fallOut : MethodName := ⟨RX1, "fallOut", "(III)Z"⟩
def dkwX1_fallOut_2 : List UInt8 := [28, 47, 127, 42, 180, 0, 33, 29, 47, 127, 9, 148, 154, 0, 7, 4, 167, 0, 4, 3, 172]
abbrev dktX1_fallOut_2 : List UInt8 := dkwX1_fallOut_2 ++ []
def dkwX1_fallOut_1 : List UInt8 := [42, 29, 184, 0, 214, 182, 0, 146, 42, 180, 0, 12, 180, 0, 114, 27, 47, 42, 180, 0, 12, 180, 0, 114]
abbrev dktX1_fallOut_1 : List UInt8 := dkwX1_fallOut_1 ++ dktX1_fallOut_2
def dkwX1_fallOut_0 : List UInt8 := [42, 27, 42, 180, 0, 12, 180, 0, 108, 182, 0, 202, 42, 28, 42, 180, 0, 12, 180, 0, 108, 182, 0, 202]
abbrev dktX1_fallOut_0 : List UInt8 := dkwX1_fallOut_0 ++ dktX1_fallOut_1
theorem dksX1_fallOut_0 : cX1_fallOut.data.toList.drop 0 = dktX1_fallOut_0 := by decide +kernel
theorem dksX1_fallOut_1 : cX1_fallOut.data.toList.drop 24 = dktX1_fallOut_1 := dk_seg dksX1_fallOut_0 24 rfl rfl
theorem dksX1_fallOut_2 : cX1_fallOut.data.toList.drop 48 = dktX1_fallOut_2 := dk_seg dksX1_fallOut_1 24 rfl rfl
theorem dX1_fallOut_0 : decode cX1_fallOut 0 = .ok (.aload_n 0, 1) := dk_42 (dk_at dksX1_fallOut_0 0 rfl rfl)
theorem dX1_fallOut_1 : decode cX1_fallOut 1 = .ok (.iload_n 1, 1) := dk_27 (dk_at dksX1_fallOut_0 1 rfl rfl)
theorem dX1_fallOut_2 : decode cX1_fallOut 2 = .ok (.aload_n 0, 1) := dk_42 (dk_at dksX1_fallOut_0 2 rfl rfl)
theorem dX1_fallOut_3 : decode cX1_fallOut 3 = .ok (.getfield 12, 3) := dk_180 0 12 (dk_at dksX1_fallOut_0 3 rfl rfl)
theorem dX1_fallOut_6 : decode cX1_fallOut 6 = .ok (.getfield 108, 3) := dk_180 0 108 (dk_at dksX1_fallOut_0 6 rfl rfl)
theorem dX1_fallOut_9 : decode cX1_fallOut 9 = .ok (.invokevirtual 202, 3) := dk_182 0 202 (dk_at dksX1_fallOut_0 9 rfl rfl)
theorem dX1_fallOut_12 : decode cX1_fallOut 12 = .ok (.aload_n 0, 1) := dk_42 (dk_at dksX1_fallOut_0 12 rfl rfl)
theorem dX1_fallOut_13 : decode cX1_fallOut 13 = .ok (.iload_n 2, 1) := dk_28 (dk_at dksX1_fallOut_0 13 rfl rfl)
theorem dX1_fallOut_14 : decode cX1_fallOut 14 = .ok (.aload_n 0, 1) := dk_42 (dk_at dksX1_fallOut_0 14 rfl rfl)
theorem dX1_fallOut_15 : decode cX1_fallOut 15 = .ok (.getfield 12, 3) := dk_180 0 12 (dk_at dksX1_fallOut_0 15 rfl rfl)
theorem dX1_fallOut_18 : decode cX1_fallOut 18 = .ok (.getfield 108, 3) := dk_180 0 108 (dk_at dksX1_fallOut_0 18 rfl rfl)
theorem dX1_fallOut_21 : decode cX1_fallOut 21 = .ok (.invokevirtual 202, 3) := dk_182 0 202 (dk_at dksX1_fallOut_0 21 rfl rfl)
theorem dX1_fallOut_24 : decode cX1_fallOut 24 = .ok (.aload_n 0, 1) := dk_42 (dk_at dksX1_fallOut_1 0 rfl rfl)
theorem dX1_fallOut_25 : decode cX1_fallOut 25 = .ok (.iload_n 3, 1) := dk_29 (dk_at dksX1_fallOut_1 1 rfl rfl)
theorem dX1_fallOut_26 : decode cX1_fallOut 26 = .ok (.invokestatic 214, 3) := dk_184 0 214 (dk_at dksX1_fallOut_1 2 rfl rfl)
theorem dX1_fallOut_29 : decode cX1_fallOut 29 = .ok (.invokevirtual 146, 3) := dk_182 0 146 (dk_at dksX1_fallOut_1 5 rfl rfl)
theorem dX1_fallOut_32 : decode cX1_fallOut 32 = .ok (.aload_n 0, 1) := dk_42 (dk_at dksX1_fallOut_1 8 rfl rfl)
theorem dX1_fallOut_33 : decode cX1_fallOut 33 = .ok (.getfield 12, 3) := dk_180 0 12 (dk_at dksX1_fallOut_1 9 rfl rfl)
theorem dX1_fallOut_36 : decode cX1_fallOut 36 = .ok (.getfield 114, 3) := dk_180 0 114 (dk_at dksX1_fallOut_1 12 rfl rfl)
theorem dX1_fallOut_39 : decode cX1_fallOut 39 = .ok (.iload_n 1, 1) := dk_27 (dk_at dksX1_fallOut_1 15 rfl rfl)
theorem dX1_fallOut_40 : decode cX1_fallOut 40 = .ok (.laload, 1) := dk_47 (dk_at dksX1_fallOut_1 16 rfl rfl)
theorem dX1_fallOut_41 : decode cX1_fallOut 41 = .ok (.aload_n 0, 1) := dk_42 (dk_at dksX1_fallOut_1 17 rfl rfl)
theorem dX1_fallOut_42 : decode cX1_fallOut 42 = .ok (.getfield 12, 3) := dk_180 0 12 (dk_at dksX1_fallOut_1 18 rfl rfl)
theorem dX1_fallOut_45 : decode cX1_fallOut 45 = .ok (.getfield 114, 3) := dk_180 0 114 (dk_at dksX1_fallOut_1 21 rfl rfl)
theorem dX1_fallOut_48 : decode cX1_fallOut 48 = .ok (.iload_n 2, 1) := dk_28 (dk_at dksX1_fallOut_2 0 rfl rfl)
theorem dX1_fallOut_49 : decode cX1_fallOut 49 = .ok (.laload, 1) := dk_47 (dk_at dksX1_fallOut_2 1 rfl rfl)
theorem dX1_fallOut_50 : decode cX1_fallOut 50 = .ok (.land, 1) := dk_127 (dk_at dksX1_fallOut_2 2 rfl rfl)
theorem dX1_fallOut_51 : decode cX1_fallOut 51 = .ok (.aload_n 0, 1) := dk_42 (dk_at dksX1_fallOut_2 3 rfl rfl)
theorem dX1_fallOut_52 : decode cX1_fallOut 52 = .ok (.getfield 33, 3) := dk_180 0 33 (dk_at dksX1_fallOut_2 4 rfl rfl)
theorem dX1_fallOut_55 : decode cX1_fallOut 55 = .ok (.iload_n 3, 1) := dk_29 (dk_at dksX1_fallOut_2 7 rfl rfl)
theorem dX1_fallOut_56 : decode cX1_fallOut 56 = .ok (.laload, 1) := dk_47 (dk_at dksX1_fallOut_2 8 rfl rfl)
theorem dX1_fallOut_57 : decode cX1_fallOut 57 = .ok (.land, 1) := dk_127 (dk_at dksX1_fallOut_2 9 rfl rfl)
theorem dX1_fallOut_58 : decode cX1_fallOut 58 = .ok (.lconst 0, 1) := dk_9 (dk_at dksX1_fallOut_2 10 rfl rfl)
theorem dX1_fallOut_59 : decode cX1_fallOut 59 = .ok (.lcmp, 1) := dk_148 (dk_at dksX1_fallOut_2 11 rfl rfl)
theorem dX1_fallOut_60 : decode cX1_fallOut 60 = .ok (.ifCond .ne 7, 3) := dk_154 0 7 (dk_at dksX1_fallOut_2 12 rfl rfl)
theorem dX1_fallOut_63 : decode cX1_fallOut 63 = .ok (.iconst 1, 1) := dk_4 (dk_at dksX1_fallOut_2 15 rfl rfl)
theorem dX1_fallOut_64 : decode cX1_fallOut 64 = .ok (.goto 4, 3) := dk_167 0 4 (dk_at dksX1_fallOut_2 16 rfl rfl)
theorem dX1_fallOut_67 : decode cX1_fallOut 67 = .ok (.iconst 0, 1) := dk_3 (dk_at dksX1_fallOut_2 19 rfl rfl)
theorem dX1_fallOut_68 : decode cX1_fallOut 68 = .ok (.ireturn, 1) := dk_172 (dk_at dksX1_fallOut_2 20 rfl rfl)
abbrev cX1_law : ByteArray := prog_1_method_27_code
def yX1_law : MethodName := ⟨RX1, "law", "(I)I"⟩
def dkwX1_law_1 : List UInt8 := [28, 172]
abbrev dktX1_law_1 : List UInt8 := dkwX1_law_1 ++ []
def dkwX1_law_0 : List UInt8 := [42, 27, 184, 0, 229, 182, 0, 146, 42, 180, 0, 40, 180, 0, 126, 61, 42, 180, 0, 40, 27, 181, 0, 126]
abbrev dktX1_law_0 : List UInt8 := dkwX1_law_0 ++ dktX1_law_1
theorem dksX1_law_0 : cX1_law.data.toList.drop 0 = dktX1_law_0 := by decide +kernel
theorem dksX1_law_1 : cX1_law.data.toList.drop 24 = dktX1_law_1 := dk_seg dksX1_law_0 24 rfl rfl
theorem dX1_law_0 : decode cX1_law 0 = .ok (.aload_n 0, 1) := dk_42 (dk_at dksX1_law_0 0 rfl rfl)
theorem dX1_law_1 : decode cX1_law 1 = .ok (.iload_n 1, 1) := dk_27 (dk_at dksX1_law_0 1 rfl rfl)
theorem dX1_law_2 : decode cX1_law 2 = .ok (.invokestatic 229, 3) := dk_184 0 229 (dk_at dksX1_law_0 2 rfl rfl)
theorem dX1_law_5 : decode cX1_law 5 = .ok (.invokevirtual 146, 3) := dk_182 0 146 (dk_at dksX1_law_0 5 rfl rfl)
theorem dX1_law_8 : decode cX1_law 8 = .ok (.aload_n 0, 1) := dk_42 (dk_at dksX1_law_0 8 rfl rfl)
theorem dX1_law_9 : decode cX1_law 9 = .ok (.getfield 40, 3) := dk_180 0 40 (dk_at dksX1_law_0 9 rfl rfl)
theorem dX1_law_12 : decode cX1_law 12 = .ok (.getfield 126, 3) := dk_180 0 126 (dk_at dksX1_law_0 12 rfl rfl)
theorem dX1_law_15 : decode cX1_law 15 = .ok (.istore_n 2, 1) := dk_61 (dk_at dksX1_law_0 15 rfl rfl)
theorem dX1_law_16 : decode cX1_law 16 = .ok (.aload_n 0, 1) := dk_42 (dk_at dksX1_law_0 16 rfl rfl)
theorem dX1_law_17 : decode cX1_law 17 = .ok (.getfield 40, 3) := dk_180 0 40 (dk_at dksX1_law_0 17 rfl rfl)
theorem dX1_law_20 : decode cX1_law 20 = .ok (.iload_n 1, 1) := dk_27 (dk_at dksX1_law_0 20 rfl rfl)
theorem dX1_law_21 : decode cX1_law 21 = .ok (.putfield 126, 3) := dk_181 0 126 (dk_at dksX1_law_0 21 rfl rfl)
theorem dX1_law_24 : decode cX1_law 24 = .ok (.iload_n 2, 1) := dk_28 (dk_at dksX1_law_1 0 rfl rfl)
theorem dX1_law_25 : decode cX1_law 25 = .ok (.ireturn, 1) := dk_172 (dk_at dksX1_law_1 1 rfl rfl)
abbrev cX1_isLaw : ByteArray := prog_1_method_6_code
def yX1_isLaw : MethodName := ⟨RX1, "isLaw", "(I)Z"⟩
def dkwX1_isLaw_0 : List UInt8 := [26, 155, 0, 12, 26, 8, 162, 0, 7, 4, 167, 0, 4, 3, 172]
abbrev dktX1_isLaw_0 : List UInt8 := dkwX1_isLaw_0 ++ []
theorem dksX1_isLaw_0 : cX1_isLaw.data.toList.drop 0 = dktX1_isLaw_0 := by decide +kernel
theorem dX1_isLaw_0 : decode cX1_isLaw 0 = .ok (.iload_n 0, 1) := dk_26 (dk_at dksX1_isLaw_0 0 rfl rfl)
theorem dX1_isLaw_1 : decode cX1_isLaw 1 = .ok (.ifCond .lt 12, 3) := dk_155 0 12 (dk_at dksX1_isLaw_0 1 rfl rfl)
theorem dX1_isLaw_4 : decode cX1_isLaw 4 = .ok (.iload_n 0, 1) := dk_26 (dk_at dksX1_isLaw_0 4 rfl rfl)
theorem dX1_isLaw_5 : decode cX1_isLaw 5 = .ok (.iconst 5, 1) := dk_8 (dk_at dksX1_isLaw_0 5 rfl rfl)
theorem dX1_isLaw_6 : decode cX1_isLaw 6 = .ok (.if_icmp .ge 7, 3) := dk_162 0 7 (dk_at dksX1_isLaw_0 6 rfl rfl)
theorem dX1_isLaw_9 : decode cX1_isLaw 9 = .ok (.iconst 1, 1) := dk_4 (dk_at dksX1_isLaw_0 9 rfl rfl)
theorem dX1_isLaw_10 : decode cX1_isLaw 10 = .ok (.goto 4, 3) := dk_167 0 4 (dk_at dksX1_isLaw_0 10 rfl rfl)
theorem dX1_isLaw_13 : decode cX1_isLaw 13 = .ok (.iconst 0, 1) := dk_3 (dk_at dksX1_isLaw_0 13 rfl rfl)
theorem dX1_isLaw_14 : decode cX1_isLaw 14 = .ok (.ireturn, 1) := dk_172 (dk_at dksX1_isLaw_0 14 rfl rfl)
abbrev cX1_world : ByteArray := prog_1_method_28_code
def yX1_world : MethodName := ⟨RX1, "world", "(I)I"⟩
def dkwX1_world_1 : List UInt8 := [42, 180, 0, 40, 180, 0, 117, 61, 42, 180, 0, 40, 27, 181, 0, 117, 28, 172]
abbrev dktX1_world_1 : List UInt8 := dkwX1_world_1 ++ []
def dkwX1_world_0 : List UInt8 := [42, 27, 155, 0, 18, 27, 42, 180, 0, 12, 182, 0, 232, 162, 0, 7, 4, 167, 0, 4, 3, 182, 0, 146]
abbrev dktX1_world_0 : List UInt8 := dkwX1_world_0 ++ dktX1_world_1
theorem dksX1_world_0 : cX1_world.data.toList.drop 0 = dktX1_world_0 := by decide +kernel
theorem dksX1_world_1 : cX1_world.data.toList.drop 24 = dktX1_world_1 := dk_seg dksX1_world_0 24 rfl rfl
theorem dX1_world_0 : decode cX1_world 0 = .ok (.aload_n 0, 1) := dk_42 (dk_at dksX1_world_0 0 rfl rfl)
theorem dX1_world_1 : decode cX1_world 1 = .ok (.iload_n 1, 1) := dk_27 (dk_at dksX1_world_0 1 rfl rfl)
theorem dX1_world_2 : decode cX1_world 2 = .ok (.ifCond .lt 18, 3) := dk_155 0 18 (dk_at dksX1_world_0 2 rfl rfl)
theorem dX1_world_5 : decode cX1_world 5 = .ok (.iload_n 1, 1) := dk_27 (dk_at dksX1_world_0 5 rfl rfl)
theorem dX1_world_6 : decode cX1_world 6 = .ok (.aload_n 0, 1) := dk_42 (dk_at dksX1_world_0 6 rfl rfl)
theorem dX1_world_7 : decode cX1_world 7 = .ok (.getfield 12, 3) := dk_180 0 12 (dk_at dksX1_world_0 7 rfl rfl)
theorem dX1_world_10 : decode cX1_world 10 = .ok (.invokevirtual 232, 3) := dk_182 0 232 (dk_at dksX1_world_0 10 rfl rfl)
theorem dX1_world_13 : decode cX1_world 13 = .ok (.if_icmp .ge 7, 3) := dk_162 0 7 (dk_at dksX1_world_0 13 rfl rfl)
theorem dX1_world_16 : decode cX1_world 16 = .ok (.iconst 1, 1) := dk_4 (dk_at dksX1_world_0 16 rfl rfl)
theorem dX1_world_17 : decode cX1_world 17 = .ok (.goto 4, 3) := dk_167 0 4 (dk_at dksX1_world_0 17 rfl rfl)
theorem dX1_world_20 : decode cX1_world 20 = .ok (.iconst 0, 1) := dk_3 (dk_at dksX1_world_0 20 rfl rfl)
theorem dX1_world_21 : decode cX1_world 21 = .ok (.invokevirtual 146, 3) := dk_182 0 146 (dk_at dksX1_world_0 21 rfl rfl)
theorem dX1_world_24 : decode cX1_world 24 = .ok (.aload_n 0, 1) := dk_42 (dk_at dksX1_world_1 0 rfl rfl)
theorem dX1_world_25 : decode cX1_world 25 = .ok (.getfield 40, 3) := dk_180 0 40 (dk_at dksX1_world_1 1 rfl rfl)
theorem dX1_world_28 : decode cX1_world 28 = .ok (.getfield 117, 3) := dk_180 0 117 (dk_at dksX1_world_1 4 rfl rfl)
theorem dX1_world_31 : decode cX1_world 31 = .ok (.istore_n 2, 1) := dk_61 (dk_at dksX1_world_1 7 rfl rfl)
theorem dX1_world_32 : decode cX1_world 32 = .ok (.aload_n 0, 1) := dk_42 (dk_at dksX1_world_1 8 rfl rfl)
theorem dX1_world_33 : decode cX1_world 33 = .ok (.getfield 40, 3) := dk_180 0 40 (dk_at dksX1_world_1 9 rfl rfl)
theorem dX1_world_36 : decode cX1_world 36 = .ok (.iload_n 1, 1) := dk_27 (dk_at dksX1_world_1 12 rfl rfl)
theorem dX1_world_37 : decode cX1_world 37 = .ok (.putfield 117, 3) := dk_181 0 117 (dk_at dksX1_world_1 13 rfl rfl)
theorem dX1_world_40 : decode cX1_world 40 = .ok (.iload_n 2, 1) := dk_28 (dk_at dksX1_world_1 16 rfl rfl)
theorem dX1_world_41 : decode cX1_world 41 = .ok (.ireturn, 1) := dk_172 (dk_at dksX1_world_1 17 rfl rfl)
abbrev cX1_held : ByteArray := prog_1_method_31_code
def yX1_held : MethodName := ⟨RX1, "held", "(I)I"⟩
def dkwX1_held_0 : List UInt8 := [42, 27, 184, 0, 214, 182, 0, 146, 42, 182, 0, 244, 180, 0, 248, 27, 46, 172]
abbrev dktX1_held_0 : List UInt8 := dkwX1_held_0 ++ []
theorem dksX1_held_0 : cX1_held.data.toList.drop 0 = dktX1_held_0 := by decide +kernel
theorem dX1_held_0 : decode cX1_held 0 = .ok (.aload_n 0, 1) := dk_42 (dk_at dksX1_held_0 0 rfl rfl)
theorem dX1_held_1 : decode cX1_held 1 = .ok (.iload_n 1, 1) := dk_27 (dk_at dksX1_held_0 1 rfl rfl)
theorem dX1_held_2 : decode cX1_held 2 = .ok (.invokestatic 214, 3) := dk_184 0 214 (dk_at dksX1_held_0 2 rfl rfl)
theorem dX1_held_5 : decode cX1_held 5 = .ok (.invokevirtual 146, 3) := dk_182 0 146 (dk_at dksX1_held_0 5 rfl rfl)
theorem dX1_held_8 : decode cX1_held 8 = .ok (.aload_n 0, 1) := dk_42 (dk_at dksX1_held_0 8 rfl rfl)
theorem dX1_held_9 : decode cX1_held 9 = .ok (.invokevirtual 244, 3) := dk_182 0 244 (dk_at dksX1_held_0 9 rfl rfl)
theorem dX1_held_12 : decode cX1_held 12 = .ok (.getfield 248, 3) := dk_180 0 248 (dk_at dksX1_held_0 12 rfl rfl)
theorem dX1_held_15 : decode cX1_held 15 = .ok (.iload_n 1, 1) := dk_27 (dk_at dksX1_held_0 15 rfl rfl)
theorem dX1_held_16 : decode cX1_held 16 = .ok (.iaload, 1) := dk_46 (dk_at dksX1_held_0 16 rfl rfl)
theorem dX1_held_17 : decode cX1_held 17 = .ok (.ireturn, 1) := dk_172 (dk_at dksX1_held_0 17 rfl rfl)
abbrev cX1_fate : ByteArray := prog_1_method_32_code
def yX1_fate : MethodName := ⟨RX1, "fate", "(II)I"⟩
def dkwX1_fate_4 : List UInt8 := [180, 1, 4, 27, 46, 172, 45, 180, 1, 7, 27, 46, 172]
abbrev dktX1_fate_4 : List UInt8 := dkwX1_fate_4 ++ []
def dkwX1_fate_3 : List UInt8 := [45, 180, 0, 251, 27, 46, 172, 45, 180, 0, 254, 27, 46, 172, 45, 180, 1, 1, 27, 46, 172, 45]
abbrev dktX1_fate_3 : List UInt8 := dkwX1_fate_3 ++ dktX1_fate_4
def dkwX1_fate_2 : List UInt8 := [170, 0, 0, 0, 0, 0, 0, 60, 0, 0, 0, 0, 0, 0, 0, 3, 0, 0, 0, 32, 0, 0, 0, 39, 0, 0, 0, 46, 0, 0, 0, 53]
abbrev dktX1_fate_2 : List UInt8 := dkwX1_fate_2 ++ dktX1_fate_3
def dkwX1_fate_1 : List UInt8 := [167, 0, 4, 3, 182, 0, 146, 42, 182, 0, 244, 78, 28]
abbrev dktX1_fate_1 : List UInt8 := dkwX1_fate_1 ++ dktX1_fate_2
def dkwX1_fate_0 : List UInt8 := [42, 27, 42, 180, 0, 12, 180, 0, 108, 182, 0, 202, 42, 28, 155, 0, 12, 28, 7, 163, 0, 7, 4]
abbrev dktX1_fate_0 : List UInt8 := dkwX1_fate_0 ++ dktX1_fate_1
theorem dksX1_fate_0 : cX1_fate.data.toList.drop 0 = dktX1_fate_0 := by decide +kernel
theorem dksX1_fate_1 : cX1_fate.data.toList.drop 23 = dktX1_fate_1 := dk_seg dksX1_fate_0 23 rfl rfl
theorem dksX1_fate_2 : cX1_fate.data.toList.drop 36 = dktX1_fate_2 := dk_seg dksX1_fate_1 13 rfl rfl
theorem dksX1_fate_3 : cX1_fate.data.toList.drop 68 = dktX1_fate_3 := dk_seg dksX1_fate_2 32 rfl rfl
theorem dksX1_fate_4 : cX1_fate.data.toList.drop 90 = dktX1_fate_4 := dk_seg dksX1_fate_3 22 rfl rfl
theorem dX1_fate_0 : decode cX1_fate 0 = .ok (.aload_n 0, 1) := dk_42 (dk_at dksX1_fate_0 0 rfl rfl)
theorem dX1_fate_1 : decode cX1_fate 1 = .ok (.iload_n 1, 1) := dk_27 (dk_at dksX1_fate_0 1 rfl rfl)
theorem dX1_fate_2 : decode cX1_fate 2 = .ok (.aload_n 0, 1) := dk_42 (dk_at dksX1_fate_0 2 rfl rfl)
theorem dX1_fate_3 : decode cX1_fate 3 = .ok (.getfield 12, 3) := dk_180 0 12 (dk_at dksX1_fate_0 3 rfl rfl)
theorem dX1_fate_6 : decode cX1_fate 6 = .ok (.getfield 108, 3) := dk_180 0 108 (dk_at dksX1_fate_0 6 rfl rfl)
theorem dX1_fate_9 : decode cX1_fate 9 = .ok (.invokevirtual 202, 3) := dk_182 0 202 (dk_at dksX1_fate_0 9 rfl rfl)
theorem dX1_fate_12 : decode cX1_fate 12 = .ok (.aload_n 0, 1) := dk_42 (dk_at dksX1_fate_0 12 rfl rfl)
theorem dX1_fate_13 : decode cX1_fate 13 = .ok (.iload_n 2, 1) := dk_28 (dk_at dksX1_fate_0 13 rfl rfl)
theorem dX1_fate_14 : decode cX1_fate 14 = .ok (.ifCond .lt 12, 3) := dk_155 0 12 (dk_at dksX1_fate_0 14 rfl rfl)
theorem dX1_fate_17 : decode cX1_fate 17 = .ok (.iload_n 2, 1) := dk_28 (dk_at dksX1_fate_0 17 rfl rfl)
theorem dX1_fate_18 : decode cX1_fate 18 = .ok (.iconst 4, 1) := dk_7 (dk_at dksX1_fate_0 18 rfl rfl)
theorem dX1_fate_19 : decode cX1_fate 19 = .ok (.if_icmp .gt 7, 3) := dk_163 0 7 (dk_at dksX1_fate_0 19 rfl rfl)
theorem dX1_fate_22 : decode cX1_fate 22 = .ok (.iconst 1, 1) := dk_4 (dk_at dksX1_fate_0 22 rfl rfl)
theorem dX1_fate_23 : decode cX1_fate 23 = .ok (.goto 4, 3) := dk_167 0 4 (dk_at dksX1_fate_1 0 rfl rfl)
theorem dX1_fate_26 : decode cX1_fate 26 = .ok (.iconst 0, 1) := dk_3 (dk_at dksX1_fate_1 3 rfl rfl)
theorem dX1_fate_27 : decode cX1_fate 27 = .ok (.invokevirtual 146, 3) := dk_182 0 146 (dk_at dksX1_fate_1 4 rfl rfl)
theorem dX1_fate_30 : decode cX1_fate 30 = .ok (.aload_n 0, 1) := dk_42 (dk_at dksX1_fate_1 7 rfl rfl)
theorem dX1_fate_31 : decode cX1_fate 31 = .ok (.invokevirtual 244, 3) := dk_182 0 244 (dk_at dksX1_fate_1 8 rfl rfl)
theorem dX1_fate_34 : decode cX1_fate 34 = .ok (.astore_n 3, 1) := dk_78 (dk_at dksX1_fate_1 11 rfl rfl)
theorem dX1_fate_35 : decode cX1_fate 35 = .ok (.iload_n 2, 1) := dk_28 (dk_at dksX1_fate_1 12 rfl rfl)
theorem dX1_fate_36 : decode cX1_fate 36 = .ok (.tableswitch 60 0 3 #[32, 39, 46, 53], 32) := by decide +kernel
theorem dX1_fate_68 : decode cX1_fate 68 = .ok (.aload_n 3, 1) := dk_45 (dk_at dksX1_fate_3 0 rfl rfl)
theorem dX1_fate_69 : decode cX1_fate 69 = .ok (.getfield 251, 3) := dk_180 0 251 (dk_at dksX1_fate_3 1 rfl rfl)
theorem dX1_fate_72 : decode cX1_fate 72 = .ok (.iload_n 1, 1) := dk_27 (dk_at dksX1_fate_3 4 rfl rfl)
theorem dX1_fate_73 : decode cX1_fate 73 = .ok (.iaload, 1) := dk_46 (dk_at dksX1_fate_3 5 rfl rfl)
theorem dX1_fate_74 : decode cX1_fate 74 = .ok (.ireturn, 1) := dk_172 (dk_at dksX1_fate_3 6 rfl rfl)
theorem dX1_fate_75 : decode cX1_fate 75 = .ok (.aload_n 3, 1) := dk_45 (dk_at dksX1_fate_3 7 rfl rfl)
theorem dX1_fate_76 : decode cX1_fate 76 = .ok (.getfield 254, 3) := dk_180 0 254 (dk_at dksX1_fate_3 8 rfl rfl)
theorem dX1_fate_79 : decode cX1_fate 79 = .ok (.iload_n 1, 1) := dk_27 (dk_at dksX1_fate_3 11 rfl rfl)
theorem dX1_fate_80 : decode cX1_fate 80 = .ok (.iaload, 1) := dk_46 (dk_at dksX1_fate_3 12 rfl rfl)
theorem dX1_fate_81 : decode cX1_fate 81 = .ok (.ireturn, 1) := dk_172 (dk_at dksX1_fate_3 13 rfl rfl)
theorem dX1_fate_82 : decode cX1_fate 82 = .ok (.aload_n 3, 1) := dk_45 (dk_at dksX1_fate_3 14 rfl rfl)
theorem dX1_fate_83 : decode cX1_fate 83 = .ok (.getfield 257, 3) := dk_180 1 1 (dk_at dksX1_fate_3 15 rfl rfl)
theorem dX1_fate_86 : decode cX1_fate 86 = .ok (.iload_n 1, 1) := dk_27 (dk_at dksX1_fate_3 18 rfl rfl)
theorem dX1_fate_87 : decode cX1_fate 87 = .ok (.iaload, 1) := dk_46 (dk_at dksX1_fate_3 19 rfl rfl)
theorem dX1_fate_88 : decode cX1_fate 88 = .ok (.ireturn, 1) := dk_172 (dk_at dksX1_fate_3 20 rfl rfl)
theorem dX1_fate_89 : decode cX1_fate 89 = .ok (.aload_n 3, 1) := dk_45 (dk_at dksX1_fate_3 21 rfl rfl)
theorem dX1_fate_90 : decode cX1_fate 90 = .ok (.getfield 260, 3) := dk_180 1 4 (dk_at dksX1_fate_4 0 rfl rfl)
theorem dX1_fate_93 : decode cX1_fate 93 = .ok (.iload_n 1, 1) := dk_27 (dk_at dksX1_fate_4 3 rfl rfl)
theorem dX1_fate_94 : decode cX1_fate 94 = .ok (.iaload, 1) := dk_46 (dk_at dksX1_fate_4 4 rfl rfl)
theorem dX1_fate_95 : decode cX1_fate 95 = .ok (.ireturn, 1) := dk_172 (dk_at dksX1_fate_4 5 rfl rfl)
theorem dX1_fate_96 : decode cX1_fate 96 = .ok (.aload_n 3, 1) := dk_45 (dk_at dksX1_fate_4 6 rfl rfl)
theorem dX1_fate_97 : decode cX1_fate 97 = .ok (.getfield 263, 3) := dk_180 1 7 (dk_at dksX1_fate_4 7 rfl rfl)
theorem dX1_fate_100 : decode cX1_fate 100 = .ok (.iload_n 1, 1) := dk_27 (dk_at dksX1_fate_4 10 rfl rfl)
theorem dX1_fate_101 : decode cX1_fate 101 = .ok (.iaload, 1) := dk_46 (dk_at dksX1_fate_4 11 rfl rfl)
theorem dX1_fate_102 : decode cX1_fate 102 = .ok (.ireturn, 1) := dk_172 (dk_at dksX1_fate_4 12 rfl rfl)
abbrev cX1_year_2 : ByteArray := prog_1_method_34_code
def yX1_year_2 : MethodName := ⟨RX1, "year", "(I)I"⟩
def dkwX1_year_2_5 : List UInt8 := [167, 0, 4, 3, 172]
abbrev dktX1_year_2_5 : List UInt8 := dkwX1_year_2_5 ++ []
def dkwX1_year_2_4 : List UInt8 := [167, 255, 231, 29, 172, 42, 44, 182, 1, 18, 182, 1, 27, 172, 44, 182, 1, 30, 9, 148, 153, 0, 7, 4]
abbrev dktX1_year_2_4 : List UInt8 := dkwX1_year_2_4 ++ dktX1_year_2_5
def dkwX1_year_2_3 : List UInt8 := [180, 0, 12, 180, 0, 108, 162, 0, 19, 29, 44, 180, 1, 7, 21, 4, 46, 96, 62, 132, 4, 1]
abbrev dktX1_year_2_3 : List UInt8 := dkwX1_year_2_3 ++ dktX1_year_2_4
def dkwX1_year_2_2 : List UInt8 := [44, 182, 1, 18, 172, 44, 180, 1, 21, 172, 44, 180, 1, 24, 172, 3, 62, 3, 54, 4, 21, 4, 42]
abbrev dktX1_year_2_2 : List UInt8 := dkwX1_year_2_2 ++ dktX1_year_2_3
def dkwX1_year_2_1 : List UInt8 := [170, 0, 0, 0, 0, 0, 0, 95, 0, 0, 0, 0, 0, 0, 0, 4, 0, 0, 0, 36, 0, 0, 0, 41, 0, 0, 0, 46, 0, 0, 0, 51, 0, 0, 0, 86]
abbrev dktX1_year_2_1 : List UInt8 := dkwX1_year_2_1 ++ dktX1_year_2_2
def dkwX1_year_2_0 : List UInt8 := [42, 27, 155, 0, 12, 27, 8, 163, 0, 7, 4, 167, 0, 4, 3, 182, 0, 146, 42, 182, 0, 244, 77, 27]
abbrev dktX1_year_2_0 : List UInt8 := dkwX1_year_2_0 ++ dktX1_year_2_1
theorem dksX1_year_2_0 : cX1_year_2.data.toList.drop 0 = dktX1_year_2_0 := by decide +kernel
theorem dksX1_year_2_1 : cX1_year_2.data.toList.drop 24 = dktX1_year_2_1 := dk_seg dksX1_year_2_0 24 rfl rfl
theorem dksX1_year_2_2 : cX1_year_2.data.toList.drop 60 = dktX1_year_2_2 := dk_seg dksX1_year_2_1 36 rfl rfl
theorem dksX1_year_2_3 : cX1_year_2.data.toList.drop 83 = dktX1_year_2_3 := dk_seg dksX1_year_2_2 23 rfl rfl
theorem dksX1_year_2_4 : cX1_year_2.data.toList.drop 105 = dktX1_year_2_4 := dk_seg dksX1_year_2_3 22 rfl rfl
theorem dksX1_year_2_5 : cX1_year_2.data.toList.drop 129 = dktX1_year_2_5 := dk_seg dksX1_year_2_4 24 rfl rfl
theorem dX1_year_2_0 : decode cX1_year_2 0 = .ok (.aload_n 0, 1) := dk_42 (dk_at dksX1_year_2_0 0 rfl rfl)
theorem dX1_year_2_1 : decode cX1_year_2 1 = .ok (.iload_n 1, 1) := dk_27 (dk_at dksX1_year_2_0 1 rfl rfl)
theorem dX1_year_2_2 : decode cX1_year_2 2 = .ok (.ifCond .lt 12, 3) := dk_155 0 12 (dk_at dksX1_year_2_0 2 rfl rfl)
theorem dX1_year_2_5 : decode cX1_year_2 5 = .ok (.iload_n 1, 1) := dk_27 (dk_at dksX1_year_2_0 5 rfl rfl)
theorem dX1_year_2_6 : decode cX1_year_2 6 = .ok (.iconst 5, 1) := dk_8 (dk_at dksX1_year_2_0 6 rfl rfl)
theorem dX1_year_2_7 : decode cX1_year_2 7 = .ok (.if_icmp .gt 7, 3) := dk_163 0 7 (dk_at dksX1_year_2_0 7 rfl rfl)
theorem dX1_year_2_10 : decode cX1_year_2 10 = .ok (.iconst 1, 1) := dk_4 (dk_at dksX1_year_2_0 10 rfl rfl)
theorem dX1_year_2_11 : decode cX1_year_2 11 = .ok (.goto 4, 3) := dk_167 0 4 (dk_at dksX1_year_2_0 11 rfl rfl)
theorem dX1_year_2_14 : decode cX1_year_2 14 = .ok (.iconst 0, 1) := dk_3 (dk_at dksX1_year_2_0 14 rfl rfl)
theorem dX1_year_2_15 : decode cX1_year_2 15 = .ok (.invokevirtual 146, 3) := dk_182 0 146 (dk_at dksX1_year_2_0 15 rfl rfl)
theorem dX1_year_2_18 : decode cX1_year_2 18 = .ok (.aload_n 0, 1) := dk_42 (dk_at dksX1_year_2_0 18 rfl rfl)
theorem dX1_year_2_19 : decode cX1_year_2 19 = .ok (.invokevirtual 244, 3) := dk_182 0 244 (dk_at dksX1_year_2_0 19 rfl rfl)
theorem dX1_year_2_22 : decode cX1_year_2 22 = .ok (.astore_n 2, 1) := dk_77 (dk_at dksX1_year_2_0 22 rfl rfl)
theorem dX1_year_2_23 : decode cX1_year_2 23 = .ok (.iload_n 1, 1) := dk_27 (dk_at dksX1_year_2_0 23 rfl rfl)
theorem dX1_year_2_24 : decode cX1_year_2 24 = .ok (.tableswitch 95 0 4 #[36, 41, 46, 51, 86], 36) := by decide +kernel
theorem dX1_year_2_60 : decode cX1_year_2 60 = .ok (.aload_n 2, 1) := dk_44 (dk_at dksX1_year_2_2 0 rfl rfl)
theorem dX1_year_2_61 : decode cX1_year_2 61 = .ok (.invokevirtual 274, 3) := dk_182 1 18 (dk_at dksX1_year_2_2 1 rfl rfl)
theorem dX1_year_2_64 : decode cX1_year_2 64 = .ok (.ireturn, 1) := dk_172 (dk_at dksX1_year_2_2 4 rfl rfl)
theorem dX1_year_2_65 : decode cX1_year_2 65 = .ok (.aload_n 2, 1) := dk_44 (dk_at dksX1_year_2_2 5 rfl rfl)
theorem dX1_year_2_66 : decode cX1_year_2 66 = .ok (.getfield 277, 3) := dk_180 1 21 (dk_at dksX1_year_2_2 6 rfl rfl)
theorem dX1_year_2_69 : decode cX1_year_2 69 = .ok (.ireturn, 1) := dk_172 (dk_at dksX1_year_2_2 9 rfl rfl)
theorem dX1_year_2_70 : decode cX1_year_2 70 = .ok (.aload_n 2, 1) := dk_44 (dk_at dksX1_year_2_2 10 rfl rfl)
theorem dX1_year_2_71 : decode cX1_year_2 71 = .ok (.getfield 280, 3) := dk_180 1 24 (dk_at dksX1_year_2_2 11 rfl rfl)
theorem dX1_year_2_74 : decode cX1_year_2 74 = .ok (.ireturn, 1) := dk_172 (dk_at dksX1_year_2_2 14 rfl rfl)
theorem dX1_year_2_75 : decode cX1_year_2 75 = .ok (.iconst 0, 1) := dk_3 (dk_at dksX1_year_2_2 15 rfl rfl)
theorem dX1_year_2_76 : decode cX1_year_2 76 = .ok (.istore_n 3, 1) := dk_62 (dk_at dksX1_year_2_2 16 rfl rfl)
theorem dX1_year_2_77 : decode cX1_year_2 77 = .ok (.iconst 0, 1) := dk_3 (dk_at dksX1_year_2_2 17 rfl rfl)
theorem dX1_year_2_78 : decode cX1_year_2 78 = .ok (.istore 4, 2) := dk_54 4 (dk_at dksX1_year_2_2 18 rfl rfl)
theorem dX1_year_2_80 : decode cX1_year_2 80 = .ok (.iload 4, 2) := dk_21 4 (dk_at dksX1_year_2_2 20 rfl rfl)
theorem dX1_year_2_82 : decode cX1_year_2 82 = .ok (.aload_n 0, 1) := dk_42 (dk_at dksX1_year_2_2 22 rfl rfl)
theorem dX1_year_2_83 : decode cX1_year_2 83 = .ok (.getfield 12, 3) := dk_180 0 12 (dk_at dksX1_year_2_3 0 rfl rfl)
theorem dX1_year_2_86 : decode cX1_year_2 86 = .ok (.getfield 108, 3) := dk_180 0 108 (dk_at dksX1_year_2_3 3 rfl rfl)
theorem dX1_year_2_89 : decode cX1_year_2 89 = .ok (.if_icmp .ge 19, 3) := dk_162 0 19 (dk_at dksX1_year_2_3 6 rfl rfl)
theorem dX1_year_2_92 : decode cX1_year_2 92 = .ok (.iload_n 3, 1) := dk_29 (dk_at dksX1_year_2_3 9 rfl rfl)
theorem dX1_year_2_93 : decode cX1_year_2 93 = .ok (.aload_n 2, 1) := dk_44 (dk_at dksX1_year_2_3 10 rfl rfl)
theorem dX1_year_2_94 : decode cX1_year_2 94 = .ok (.getfield 263, 3) := dk_180 1 7 (dk_at dksX1_year_2_3 11 rfl rfl)
theorem dX1_year_2_97 : decode cX1_year_2 97 = .ok (.iload 4, 2) := dk_21 4 (dk_at dksX1_year_2_3 14 rfl rfl)
theorem dX1_year_2_99 : decode cX1_year_2 99 = .ok (.iaload, 1) := dk_46 (dk_at dksX1_year_2_3 16 rfl rfl)
theorem dX1_year_2_100 : decode cX1_year_2 100 = .ok (.iadd, 1) := dk_96 (dk_at dksX1_year_2_3 17 rfl rfl)
theorem dX1_year_2_101 : decode cX1_year_2 101 = .ok (.istore_n 3, 1) := dk_62 (dk_at dksX1_year_2_3 18 rfl rfl)
theorem dX1_year_2_102 : decode cX1_year_2 102 = .ok (.iinc 4 1, 3) := dk_132 4 1 (dk_at dksX1_year_2_3 19 rfl rfl)
theorem dX1_year_2_105 : decode cX1_year_2 105 = .ok (.goto (-25), 3) := dk_167 255 231 (dk_at dksX1_year_2_4 0 rfl rfl)
theorem dX1_year_2_108 : decode cX1_year_2 108 = .ok (.iload_n 3, 1) := dk_29 (dk_at dksX1_year_2_4 3 rfl rfl)
theorem dX1_year_2_109 : decode cX1_year_2 109 = .ok (.ireturn, 1) := dk_172 (dk_at dksX1_year_2_4 4 rfl rfl)
theorem dX1_year_2_110 : decode cX1_year_2 110 = .ok (.aload_n 0, 1) := dk_42 (dk_at dksX1_year_2_4 5 rfl rfl)
theorem dX1_year_2_111 : decode cX1_year_2 111 = .ok (.aload_n 2, 1) := dk_44 (dk_at dksX1_year_2_4 6 rfl rfl)
theorem dX1_year_2_112 : decode cX1_year_2 112 = .ok (.invokevirtual 274, 3) := dk_182 1 18 (dk_at dksX1_year_2_4 7 rfl rfl)
theorem dX1_year_2_115 : decode cX1_year_2 115 = .ok (.invokevirtual 283, 3) := dk_182 1 27 (dk_at dksX1_year_2_4 10 rfl rfl)
theorem dX1_year_2_118 : decode cX1_year_2 118 = .ok (.ireturn, 1) := dk_172 (dk_at dksX1_year_2_4 13 rfl rfl)
theorem dX1_year_2_119 : decode cX1_year_2 119 = .ok (.aload_n 2, 1) := dk_44 (dk_at dksX1_year_2_4 14 rfl rfl)
theorem dX1_year_2_120 : decode cX1_year_2 120 = .ok (.invokevirtual 286, 3) := dk_182 1 30 (dk_at dksX1_year_2_4 15 rfl rfl)
theorem dX1_year_2_123 : decode cX1_year_2 123 = .ok (.lconst 0, 1) := dk_9 (dk_at dksX1_year_2_4 18 rfl rfl)
theorem dX1_year_2_124 : decode cX1_year_2 124 = .ok (.lcmp, 1) := dk_148 (dk_at dksX1_year_2_4 19 rfl rfl)
theorem dX1_year_2_125 : decode cX1_year_2 125 = .ok (.ifCond .eq 7, 3) := dk_153 0 7 (dk_at dksX1_year_2_4 20 rfl rfl)
theorem dX1_year_2_128 : decode cX1_year_2 128 = .ok (.iconst 1, 1) := dk_4 (dk_at dksX1_year_2_4 23 rfl rfl)
theorem dX1_year_2_129 : decode cX1_year_2 129 = .ok (.goto 4, 3) := dk_167 0 4 (dk_at dksX1_year_2_5 0 rfl rfl)
theorem dX1_year_2_132 : decode cX1_year_2 132 = .ok (.iconst 0, 1) := dk_3 (dk_at dksX1_year_2_5 3 rfl rfl)
theorem dX1_year_2_133 : decode cX1_year_2 133 = .ok (.ireturn, 1) := dk_172 (dk_at dksX1_year_2_5 4 rfl rfl)
abbrev cX1_ends : ByteArray := prog_1_method_41_code
def yX1_ends : MethodName := ⟨RX1, "ends", "(I)I"⟩
def dkwX1_ends_3 : List UInt8 := [180, 1, 44, 2, 130, 126, 172]
abbrev dktX1_ends_3 : List UInt8 := dkwX1_ends_3 ++ []
def dkwX1_ends_2 : List UInt8 := [160, 0, 10, 42, 180, 1, 41, 167, 0, 21, 4, 42, 180, 0, 12, 180, 0, 108, 120, 4, 100, 42]
abbrev dktX1_ends_2 : List UInt8 := dkwX1_ends_2 ++ dktX1_ends_3
def dkwX1_ends_1 : List UInt8 := [180, 0, 40, 180, 0, 126, 182, 1, 63, 27, 154, 0, 10, 42, 180, 1, 38, 167, 0, 33, 27, 4]
abbrev dktX1_ends_1 : List UInt8 := dkwX1_ends_1 ++ dktX1_ends_2
def dkwX1_ends_0 : List UInt8 := [42, 27, 155, 0, 12, 27, 5, 163, 0, 7, 4, 167, 0, 4, 3, 182, 0, 146, 42, 182, 1, 60, 42, 42]
abbrev dktX1_ends_0 : List UInt8 := dkwX1_ends_0 ++ dktX1_ends_1
theorem dksX1_ends_0 : cX1_ends.data.toList.drop 0 = dktX1_ends_0 := by decide +kernel
theorem dksX1_ends_1 : cX1_ends.data.toList.drop 24 = dktX1_ends_1 := dk_seg dksX1_ends_0 24 rfl rfl
theorem dksX1_ends_2 : cX1_ends.data.toList.drop 46 = dktX1_ends_2 := dk_seg dksX1_ends_1 22 rfl rfl
theorem dksX1_ends_3 : cX1_ends.data.toList.drop 68 = dktX1_ends_3 := dk_seg dksX1_ends_2 22 rfl rfl
theorem dX1_ends_0 : decode cX1_ends 0 = .ok (.aload_n 0, 1) := dk_42 (dk_at dksX1_ends_0 0 rfl rfl)
theorem dX1_ends_1 : decode cX1_ends 1 = .ok (.iload_n 1, 1) := dk_27 (dk_at dksX1_ends_0 1 rfl rfl)
theorem dX1_ends_2 : decode cX1_ends 2 = .ok (.ifCond .lt 12, 3) := dk_155 0 12 (dk_at dksX1_ends_0 2 rfl rfl)
theorem dX1_ends_5 : decode cX1_ends 5 = .ok (.iload_n 1, 1) := dk_27 (dk_at dksX1_ends_0 5 rfl rfl)
theorem dX1_ends_6 : decode cX1_ends 6 = .ok (.iconst 2, 1) := dk_5 (dk_at dksX1_ends_0 6 rfl rfl)
theorem dX1_ends_7 : decode cX1_ends 7 = .ok (.if_icmp .gt 7, 3) := dk_163 0 7 (dk_at dksX1_ends_0 7 rfl rfl)
theorem dX1_ends_10 : decode cX1_ends 10 = .ok (.iconst 1, 1) := dk_4 (dk_at dksX1_ends_0 10 rfl rfl)
theorem dX1_ends_11 : decode cX1_ends 11 = .ok (.goto 4, 3) := dk_167 0 4 (dk_at dksX1_ends_0 11 rfl rfl)
theorem dX1_ends_14 : decode cX1_ends 14 = .ok (.iconst 0, 1) := dk_3 (dk_at dksX1_ends_0 14 rfl rfl)
theorem dX1_ends_15 : decode cX1_ends 15 = .ok (.invokevirtual 146, 3) := dk_182 0 146 (dk_at dksX1_ends_0 15 rfl rfl)
theorem dX1_ends_18 : decode cX1_ends 18 = .ok (.aload_n 0, 1) := dk_42 (dk_at dksX1_ends_0 18 rfl rfl)
theorem dX1_ends_19 : decode cX1_ends 19 = .ok (.invokevirtual 316, 3) := dk_182 1 60 (dk_at dksX1_ends_0 19 rfl rfl)
theorem dX1_ends_22 : decode cX1_ends 22 = .ok (.aload_n 0, 1) := dk_42 (dk_at dksX1_ends_0 22 rfl rfl)
theorem dX1_ends_23 : decode cX1_ends 23 = .ok (.aload_n 0, 1) := dk_42 (dk_at dksX1_ends_0 23 rfl rfl)
theorem dX1_ends_24 : decode cX1_ends 24 = .ok (.getfield 40, 3) := dk_180 0 40 (dk_at dksX1_ends_1 0 rfl rfl)
theorem dX1_ends_27 : decode cX1_ends 27 = .ok (.getfield 126, 3) := dk_180 0 126 (dk_at dksX1_ends_1 3 rfl rfl)
theorem dX1_ends_30 : decode cX1_ends 30 = .ok (.invokevirtual 319, 3) := dk_182 1 63 (dk_at dksX1_ends_1 6 rfl rfl)
theorem dX1_ends_33 : decode cX1_ends 33 = .ok (.iload_n 1, 1) := dk_27 (dk_at dksX1_ends_1 9 rfl rfl)
theorem dX1_ends_34 : decode cX1_ends 34 = .ok (.ifCond .ne 10, 3) := dk_154 0 10 (dk_at dksX1_ends_1 10 rfl rfl)
theorem dX1_ends_37 : decode cX1_ends 37 = .ok (.aload_n 0, 1) := dk_42 (dk_at dksX1_ends_1 13 rfl rfl)
theorem dX1_ends_38 : decode cX1_ends 38 = .ok (.getfield 294, 3) := dk_180 1 38 (dk_at dksX1_ends_1 14 rfl rfl)
theorem dX1_ends_41 : decode cX1_ends 41 = .ok (.goto 33, 3) := dk_167 0 33 (dk_at dksX1_ends_1 17 rfl rfl)
theorem dX1_ends_44 : decode cX1_ends 44 = .ok (.iload_n 1, 1) := dk_27 (dk_at dksX1_ends_1 20 rfl rfl)
theorem dX1_ends_45 : decode cX1_ends 45 = .ok (.iconst 1, 1) := dk_4 (dk_at dksX1_ends_1 21 rfl rfl)
theorem dX1_ends_46 : decode cX1_ends 46 = .ok (.if_icmp .ne 10, 3) := dk_160 0 10 (dk_at dksX1_ends_2 0 rfl rfl)
theorem dX1_ends_49 : decode cX1_ends 49 = .ok (.aload_n 0, 1) := dk_42 (dk_at dksX1_ends_2 3 rfl rfl)
theorem dX1_ends_50 : decode cX1_ends 50 = .ok (.getfield 297, 3) := dk_180 1 41 (dk_at dksX1_ends_2 4 rfl rfl)
theorem dX1_ends_53 : decode cX1_ends 53 = .ok (.goto 21, 3) := dk_167 0 21 (dk_at dksX1_ends_2 7 rfl rfl)
theorem dX1_ends_56 : decode cX1_ends 56 = .ok (.iconst 1, 1) := dk_4 (dk_at dksX1_ends_2 10 rfl rfl)
theorem dX1_ends_57 : decode cX1_ends 57 = .ok (.aload_n 0, 1) := dk_42 (dk_at dksX1_ends_2 11 rfl rfl)
theorem dX1_ends_58 : decode cX1_ends 58 = .ok (.getfield 12, 3) := dk_180 0 12 (dk_at dksX1_ends_2 12 rfl rfl)
theorem dX1_ends_61 : decode cX1_ends 61 = .ok (.getfield 108, 3) := dk_180 0 108 (dk_at dksX1_ends_2 15 rfl rfl)
theorem dX1_ends_64 : decode cX1_ends 64 = .ok (.ishl, 1) := dk_120 (dk_at dksX1_ends_2 18 rfl rfl)
theorem dX1_ends_65 : decode cX1_ends 65 = .ok (.iconst 1, 1) := dk_4 (dk_at dksX1_ends_2 19 rfl rfl)
theorem dX1_ends_66 : decode cX1_ends 66 = .ok (.isub, 1) := dk_100 (dk_at dksX1_ends_2 20 rfl rfl)
theorem dX1_ends_67 : decode cX1_ends 67 = .ok (.aload_n 0, 1) := dk_42 (dk_at dksX1_ends_2 21 rfl rfl)
theorem dX1_ends_68 : decode cX1_ends 68 = .ok (.getfield 300, 3) := dk_180 1 44 (dk_at dksX1_ends_3 0 rfl rfl)
theorem dX1_ends_71 : decode cX1_ends 71 = .ok (.iconst (-1), 1) := dk_2 (dk_at dksX1_ends_3 3 rfl rfl)
theorem dX1_ends_72 : decode cX1_ends 72 = .ok (.ixor, 1) := dk_130 (dk_at dksX1_ends_3 4 rfl rfl)
theorem dX1_ends_73 : decode cX1_ends 73 = .ok (.iand, 1) := dk_126 (dk_at dksX1_ends_3 5 rfl rfl)
theorem dX1_ends_74 : decode cX1_ends 74 = .ok (.ireturn, 1) := dk_172 (dk_at dksX1_ends_3 6 rfl rfl)
abbrev cX1_needFew : ByteArray := prog_1_method_4_code
def yX1_needFew : MethodName := ⟨RX1, "needFew", "()V"⟩
def dkwX1_needFew_1 : List UInt8 := [187, 0, 111, 89, 183, 0, 113, 191]
abbrev dktX1_needFew_1 : List UInt8 := dkwX1_needFew_1 ++ []
def dkwX1_needFew_0 : List UInt8 := [42, 180, 0, 12, 180, 0, 108, 16, 7, 163, 0, 4, 177, 42, 180, 0, 56, 5, 92, 46, 4, 96, 79]
abbrev dktX1_needFew_0 : List UInt8 := dkwX1_needFew_0 ++ dktX1_needFew_1
theorem dksX1_needFew_0 : cX1_needFew.data.toList.drop 0 = dktX1_needFew_0 := by decide +kernel
theorem dksX1_needFew_1 : cX1_needFew.data.toList.drop 23 = dktX1_needFew_1 := dk_seg dksX1_needFew_0 23 rfl rfl
theorem dX1_needFew_0 : decode cX1_needFew 0 = .ok (.aload_n 0, 1) := dk_42 (dk_at dksX1_needFew_0 0 rfl rfl)
theorem dX1_needFew_1 : decode cX1_needFew 1 = .ok (.getfield 12, 3) := dk_180 0 12 (dk_at dksX1_needFew_0 1 rfl rfl)
theorem dX1_needFew_4 : decode cX1_needFew 4 = .ok (.getfield 108, 3) := dk_180 0 108 (dk_at dksX1_needFew_0 4 rfl rfl)
theorem dX1_needFew_7 : decode cX1_needFew 7 = .ok (.bipush 7, 2) := dk_16 7 (dk_at dksX1_needFew_0 7 rfl rfl)
theorem dX1_needFew_9 : decode cX1_needFew 9 = .ok (.if_icmp .gt 4, 3) := dk_163 0 4 (dk_at dksX1_needFew_0 9 rfl rfl)
theorem dX1_needFew_12 : decode cX1_needFew 12 = .ok (.return_, 1) := dk_177 (dk_at dksX1_needFew_0 12 rfl rfl)
theorem dX1_needFew_13 : decode cX1_needFew 13 = .ok (.aload_n 0, 1) := dk_42 (dk_at dksX1_needFew_0 13 rfl rfl)
theorem dX1_needFew_14 : decode cX1_needFew 14 = .ok (.getfield 56, 3) := dk_180 0 56 (dk_at dksX1_needFew_0 14 rfl rfl)
theorem dX1_needFew_17 : decode cX1_needFew 17 = .ok (.iconst 2, 1) := dk_5 (dk_at dksX1_needFew_0 17 rfl rfl)
theorem dX1_needFew_18 : decode cX1_needFew 18 = .ok (.dup2, 1) := dk_92 (dk_at dksX1_needFew_0 18 rfl rfl)
theorem dX1_needFew_19 : decode cX1_needFew 19 = .ok (.iaload, 1) := dk_46 (dk_at dksX1_needFew_0 19 rfl rfl)
theorem dX1_needFew_20 : decode cX1_needFew 20 = .ok (.iconst 1, 1) := dk_4 (dk_at dksX1_needFew_0 20 rfl rfl)
theorem dX1_needFew_21 : decode cX1_needFew 21 = .ok (.iadd, 1) := dk_96 (dk_at dksX1_needFew_0 21 rfl rfl)
theorem dX1_needFew_22 : decode cX1_needFew 22 = .ok (.iastore, 1) := dk_79 (dk_at dksX1_needFew_0 22 rfl rfl)
theorem dX1_needFew_23 : decode cX1_needFew 23 = .ok (.new 111, 3) := dk_187 0 111 (dk_at dksX1_needFew_1 0 rfl rfl)
theorem dX1_needFew_26 : decode cX1_needFew 26 = .ok (.dup, 1) := dk_89 (dk_at dksX1_needFew_1 3 rfl rfl)
theorem dX1_needFew_27 : decode cX1_needFew 27 = .ok (.invokespecial 113, 3) := dk_183 0 113 (dk_at dksX1_needFew_1 4 rfl rfl)
theorem dX1_needFew_30 : decode cX1_needFew 30 = .ok (.athrow, 1) := dk_191 (dk_at dksX1_needFew_1 7 rfl rfl)
abbrev cX1_findOrders : ByteArray := prog_1_method_38_code
def yX1_findOrders : MethodName := ⟨RX1, "findOrders", "(I)V"⟩
def dkwX1_findOrders_3 : List UInt8 := [3, 181, 1, 44, 42, 2, 181, 1, 47, 42, 3, 181, 1, 50, 42, 3, 3, 27, 182, 1, 53, 177]
abbrev dktX1_findOrders_3 : List UInt8 := dkwX1_findOrders_3 ++ []
def dkwX1_findOrders_2 : List UInt8 := [167, 255, 240, 42, 3, 181, 1, 38, 42, 4, 42, 180, 0, 12, 180, 0, 108, 120, 4, 100, 181, 1, 41, 42]
abbrev dktX1_findOrders_2 : List UInt8 := dkwX1_findOrders_2 ++ dktX1_findOrders_3
def dkwX1_findOrders_1 : List UInt8 := [132, 2, 1, 167, 255, 233, 3, 61, 28, 16, 12, 162, 0, 16, 42, 180, 0, 81, 28, 3, 79, 132, 2, 1]
abbrev dktX1_findOrders_1 : List UInt8 := dkwX1_findOrders_1 ++ dktX1_findOrders_2
def dkwX1_findOrders_0 : List UInt8 := [3, 61, 28, 4, 42, 180, 0, 12, 180, 0, 108, 120, 162, 0, 16, 42, 180, 0, 77, 28, 3, 84]
abbrev dktX1_findOrders_0 : List UInt8 := dkwX1_findOrders_0 ++ dktX1_findOrders_1
theorem dksX1_findOrders_0 : cX1_findOrders.data.toList.drop 0 = dktX1_findOrders_0 := by decide +kernel
theorem dksX1_findOrders_1 : cX1_findOrders.data.toList.drop 22 = dktX1_findOrders_1 := dk_seg dksX1_findOrders_0 22 rfl rfl
theorem dksX1_findOrders_2 : cX1_findOrders.data.toList.drop 46 = dktX1_findOrders_2 := dk_seg dksX1_findOrders_1 24 rfl rfl
theorem dksX1_findOrders_3 : cX1_findOrders.data.toList.drop 70 = dktX1_findOrders_3 := dk_seg dksX1_findOrders_2 24 rfl rfl
theorem dX1_findOrders_0 : decode cX1_findOrders 0 = .ok (.iconst 0, 1) := dk_3 (dk_at dksX1_findOrders_0 0 rfl rfl)
theorem dX1_findOrders_1 : decode cX1_findOrders 1 = .ok (.istore_n 2, 1) := dk_61 (dk_at dksX1_findOrders_0 1 rfl rfl)
theorem dX1_findOrders_2 : decode cX1_findOrders 2 = .ok (.iload_n 2, 1) := dk_28 (dk_at dksX1_findOrders_0 2 rfl rfl)
theorem dX1_findOrders_3 : decode cX1_findOrders 3 = .ok (.iconst 1, 1) := dk_4 (dk_at dksX1_findOrders_0 3 rfl rfl)
theorem dX1_findOrders_4 : decode cX1_findOrders 4 = .ok (.aload_n 0, 1) := dk_42 (dk_at dksX1_findOrders_0 4 rfl rfl)
theorem dX1_findOrders_5 : decode cX1_findOrders 5 = .ok (.getfield 12, 3) := dk_180 0 12 (dk_at dksX1_findOrders_0 5 rfl rfl)
theorem dX1_findOrders_8 : decode cX1_findOrders 8 = .ok (.getfield 108, 3) := dk_180 0 108 (dk_at dksX1_findOrders_0 8 rfl rfl)
theorem dX1_findOrders_11 : decode cX1_findOrders 11 = .ok (.ishl, 1) := dk_120 (dk_at dksX1_findOrders_0 11 rfl rfl)
theorem dX1_findOrders_12 : decode cX1_findOrders 12 = .ok (.if_icmp .ge 16, 3) := dk_162 0 16 (dk_at dksX1_findOrders_0 12 rfl rfl)
theorem dX1_findOrders_15 : decode cX1_findOrders 15 = .ok (.aload_n 0, 1) := dk_42 (dk_at dksX1_findOrders_0 15 rfl rfl)
theorem dX1_findOrders_16 : decode cX1_findOrders 16 = .ok (.getfield 77, 3) := dk_180 0 77 (dk_at dksX1_findOrders_0 16 rfl rfl)
theorem dX1_findOrders_19 : decode cX1_findOrders 19 = .ok (.iload_n 2, 1) := dk_28 (dk_at dksX1_findOrders_0 19 rfl rfl)
theorem dX1_findOrders_20 : decode cX1_findOrders 20 = .ok (.iconst 0, 1) := dk_3 (dk_at dksX1_findOrders_0 20 rfl rfl)
theorem dX1_findOrders_21 : decode cX1_findOrders 21 = .ok (.bastore, 1) := dk_84 (dk_at dksX1_findOrders_0 21 rfl rfl)
theorem dX1_findOrders_22 : decode cX1_findOrders 22 = .ok (.iinc 2 1, 3) := dk_132 2 1 (dk_at dksX1_findOrders_1 0 rfl rfl)
theorem dX1_findOrders_25 : decode cX1_findOrders 25 = .ok (.goto (-23), 3) := dk_167 255 233 (dk_at dksX1_findOrders_1 3 rfl rfl)
theorem dX1_findOrders_28 : decode cX1_findOrders 28 = .ok (.iconst 0, 1) := dk_3 (dk_at dksX1_findOrders_1 6 rfl rfl)
theorem dX1_findOrders_29 : decode cX1_findOrders 29 = .ok (.istore_n 2, 1) := dk_61 (dk_at dksX1_findOrders_1 7 rfl rfl)
theorem dX1_findOrders_30 : decode cX1_findOrders 30 = .ok (.iload_n 2, 1) := dk_28 (dk_at dksX1_findOrders_1 8 rfl rfl)
theorem dX1_findOrders_31 : decode cX1_findOrders 31 = .ok (.bipush 12, 2) := dk_16 12 (dk_at dksX1_findOrders_1 9 rfl rfl)
theorem dX1_findOrders_33 : decode cX1_findOrders 33 = .ok (.if_icmp .ge 16, 3) := dk_162 0 16 (dk_at dksX1_findOrders_1 11 rfl rfl)
theorem dX1_findOrders_36 : decode cX1_findOrders 36 = .ok (.aload_n 0, 1) := dk_42 (dk_at dksX1_findOrders_1 14 rfl rfl)
theorem dX1_findOrders_37 : decode cX1_findOrders 37 = .ok (.getfield 81, 3) := dk_180 0 81 (dk_at dksX1_findOrders_1 15 rfl rfl)
theorem dX1_findOrders_40 : decode cX1_findOrders 40 = .ok (.iload_n 2, 1) := dk_28 (dk_at dksX1_findOrders_1 18 rfl rfl)
theorem dX1_findOrders_41 : decode cX1_findOrders 41 = .ok (.iconst 0, 1) := dk_3 (dk_at dksX1_findOrders_1 19 rfl rfl)
theorem dX1_findOrders_42 : decode cX1_findOrders 42 = .ok (.iastore, 1) := dk_79 (dk_at dksX1_findOrders_1 20 rfl rfl)
theorem dX1_findOrders_43 : decode cX1_findOrders 43 = .ok (.iinc 2 1, 3) := dk_132 2 1 (dk_at dksX1_findOrders_1 21 rfl rfl)
theorem dX1_findOrders_46 : decode cX1_findOrders 46 = .ok (.goto (-16), 3) := dk_167 255 240 (dk_at dksX1_findOrders_2 0 rfl rfl)
theorem dX1_findOrders_49 : decode cX1_findOrders 49 = .ok (.aload_n 0, 1) := dk_42 (dk_at dksX1_findOrders_2 3 rfl rfl)
theorem dX1_findOrders_50 : decode cX1_findOrders 50 = .ok (.iconst 0, 1) := dk_3 (dk_at dksX1_findOrders_2 4 rfl rfl)
theorem dX1_findOrders_51 : decode cX1_findOrders 51 = .ok (.putfield 294, 3) := dk_181 1 38 (dk_at dksX1_findOrders_2 5 rfl rfl)
theorem dX1_findOrders_54 : decode cX1_findOrders 54 = .ok (.aload_n 0, 1) := dk_42 (dk_at dksX1_findOrders_2 8 rfl rfl)
theorem dX1_findOrders_55 : decode cX1_findOrders 55 = .ok (.iconst 1, 1) := dk_4 (dk_at dksX1_findOrders_2 9 rfl rfl)
theorem dX1_findOrders_56 : decode cX1_findOrders 56 = .ok (.aload_n 0, 1) := dk_42 (dk_at dksX1_findOrders_2 10 rfl rfl)
theorem dX1_findOrders_57 : decode cX1_findOrders 57 = .ok (.getfield 12, 3) := dk_180 0 12 (dk_at dksX1_findOrders_2 11 rfl rfl)
theorem dX1_findOrders_60 : decode cX1_findOrders 60 = .ok (.getfield 108, 3) := dk_180 0 108 (dk_at dksX1_findOrders_2 14 rfl rfl)
theorem dX1_findOrders_63 : decode cX1_findOrders 63 = .ok (.ishl, 1) := dk_120 (dk_at dksX1_findOrders_2 17 rfl rfl)
theorem dX1_findOrders_64 : decode cX1_findOrders 64 = .ok (.iconst 1, 1) := dk_4 (dk_at dksX1_findOrders_2 18 rfl rfl)
theorem dX1_findOrders_65 : decode cX1_findOrders 65 = .ok (.isub, 1) := dk_100 (dk_at dksX1_findOrders_2 19 rfl rfl)
theorem dX1_findOrders_66 : decode cX1_findOrders 66 = .ok (.putfield 297, 3) := dk_181 1 41 (dk_at dksX1_findOrders_2 20 rfl rfl)
theorem dX1_findOrders_69 : decode cX1_findOrders 69 = .ok (.aload_n 0, 1) := dk_42 (dk_at dksX1_findOrders_2 23 rfl rfl)
theorem dX1_findOrders_70 : decode cX1_findOrders 70 = .ok (.iconst 0, 1) := dk_3 (dk_at dksX1_findOrders_3 0 rfl rfl)
theorem dX1_findOrders_71 : decode cX1_findOrders 71 = .ok (.putfield 300, 3) := dk_181 1 44 (dk_at dksX1_findOrders_3 1 rfl rfl)
theorem dX1_findOrders_74 : decode cX1_findOrders 74 = .ok (.aload_n 0, 1) := dk_42 (dk_at dksX1_findOrders_3 4 rfl rfl)
theorem dX1_findOrders_75 : decode cX1_findOrders 75 = .ok (.iconst (-1), 1) := dk_2 (dk_at dksX1_findOrders_3 5 rfl rfl)
theorem dX1_findOrders_76 : decode cX1_findOrders 76 = .ok (.putfield 303, 3) := dk_181 1 47 (dk_at dksX1_findOrders_3 6 rfl rfl)
theorem dX1_findOrders_79 : decode cX1_findOrders 79 = .ok (.aload_n 0, 1) := dk_42 (dk_at dksX1_findOrders_3 9 rfl rfl)
theorem dX1_findOrders_80 : decode cX1_findOrders 80 = .ok (.iconst 0, 1) := dk_3 (dk_at dksX1_findOrders_3 10 rfl rfl)
theorem dX1_findOrders_81 : decode cX1_findOrders 81 = .ok (.putfield 306, 3) := dk_181 1 50 (dk_at dksX1_findOrders_3 11 rfl rfl)
theorem dX1_findOrders_84 : decode cX1_findOrders 84 = .ok (.aload_n 0, 1) := dk_42 (dk_at dksX1_findOrders_3 14 rfl rfl)
theorem dX1_findOrders_85 : decode cX1_findOrders 85 = .ok (.iconst 0, 1) := dk_3 (dk_at dksX1_findOrders_3 15 rfl rfl)
theorem dX1_findOrders_86 : decode cX1_findOrders 86 = .ok (.iconst 0, 1) := dk_3 (dk_at dksX1_findOrders_3 16 rfl rfl)
theorem dX1_findOrders_87 : decode cX1_findOrders 87 = .ok (.iload_n 1, 1) := dk_27 (dk_at dksX1_findOrders_3 17 rfl rfl)
theorem dX1_findOrders_88 : decode cX1_findOrders 88 = .ok (.invokevirtual 309, 3) := dk_182 1 53 (dk_at dksX1_findOrders_3 18 rfl rfl)
theorem dX1_findOrders_91 : decode cX1_findOrders 91 = .ok (.return_, 1) := dk_177 (dk_at dksX1_findOrders_3 21 rfl rfl)
abbrev cX1_goesThrough : ByteArray := prog_1_method_39_code
def yX1_goesThrough : MethodName := ⟨RX1, "goesThrough", "(III)V"⟩
def dkwX1_goesThrough_3 : List UInt8 := [182, 1, 53, 132, 4, 1, 167, 255, 206, 177]
abbrev dktX1_goesThrough_3 : List UInt8 := dkwX1_goesThrough_3 ++ []
def dkwX1_goesThrough_2 : List UInt8 := [167, 0, 25, 42, 180, 0, 74, 27, 21, 4, 79, 42, 27, 4, 96, 28, 4, 21, 4, 120, 128, 29]
abbrev dktX1_goesThrough_2 : List UInt8 := dkwX1_goesThrough_2 ++ dktX1_goesThrough_3
def dkwX1_goesThrough_1 : List UInt8 := [21, 4, 42, 180, 0, 12, 180, 0, 108, 162, 0, 44, 28, 21, 4, 122, 4, 126, 4, 160, 0, 6]
abbrev dktX1_goesThrough_1 : List UInt8 := dkwX1_goesThrough_1 ++ dktX1_goesThrough_2
def dkwX1_goesThrough_0 : List UInt8 := [27, 42, 180, 0, 12, 180, 0, 108, 160, 0, 13, 42, 42, 29, 182, 1, 32, 182, 1, 57, 177, 3, 54, 4]
abbrev dktX1_goesThrough_0 : List UInt8 := dkwX1_goesThrough_0 ++ dktX1_goesThrough_1
theorem dksX1_goesThrough_0 : cX1_goesThrough.data.toList.drop 0 = dktX1_goesThrough_0 := by decide +kernel
theorem dksX1_goesThrough_1 : cX1_goesThrough.data.toList.drop 24 = dktX1_goesThrough_1 := dk_seg dksX1_goesThrough_0 24 rfl rfl
theorem dksX1_goesThrough_2 : cX1_goesThrough.data.toList.drop 46 = dktX1_goesThrough_2 := dk_seg dksX1_goesThrough_1 22 rfl rfl
theorem dksX1_goesThrough_3 : cX1_goesThrough.data.toList.drop 68 = dktX1_goesThrough_3 := dk_seg dksX1_goesThrough_2 22 rfl rfl
theorem dX1_goesThrough_0 : decode cX1_goesThrough 0 = .ok (.iload_n 1, 1) := dk_27 (dk_at dksX1_goesThrough_0 0 rfl rfl)
theorem dX1_goesThrough_1 : decode cX1_goesThrough 1 = .ok (.aload_n 0, 1) := dk_42 (dk_at dksX1_goesThrough_0 1 rfl rfl)
theorem dX1_goesThrough_2 : decode cX1_goesThrough 2 = .ok (.getfield 12, 3) := dk_180 0 12 (dk_at dksX1_goesThrough_0 2 rfl rfl)
theorem dX1_goesThrough_5 : decode cX1_goesThrough 5 = .ok (.getfield 108, 3) := dk_180 0 108 (dk_at dksX1_goesThrough_0 5 rfl rfl)
theorem dX1_goesThrough_8 : decode cX1_goesThrough 8 = .ok (.if_icmp .ne 13, 3) := dk_160 0 13 (dk_at dksX1_goesThrough_0 8 rfl rfl)
theorem dX1_goesThrough_11 : decode cX1_goesThrough 11 = .ok (.aload_n 0, 1) := dk_42 (dk_at dksX1_goesThrough_0 11 rfl rfl)
theorem dX1_goesThrough_12 : decode cX1_goesThrough 12 = .ok (.aload_n 0, 1) := dk_42 (dk_at dksX1_goesThrough_0 12 rfl rfl)
theorem dX1_goesThrough_13 : decode cX1_goesThrough 13 = .ok (.iload_n 3, 1) := dk_29 (dk_at dksX1_goesThrough_0 13 rfl rfl)
theorem dX1_goesThrough_14 : decode cX1_goesThrough 14 = .ok (.invokevirtual 288, 3) := dk_182 1 32 (dk_at dksX1_goesThrough_0 14 rfl rfl)
theorem dX1_goesThrough_17 : decode cX1_goesThrough 17 = .ok (.invokevirtual 313, 3) := dk_182 1 57 (dk_at dksX1_goesThrough_0 17 rfl rfl)
theorem dX1_goesThrough_20 : decode cX1_goesThrough 20 = .ok (.return_, 1) := dk_177 (dk_at dksX1_goesThrough_0 20 rfl rfl)
theorem dX1_goesThrough_21 : decode cX1_goesThrough 21 = .ok (.iconst 0, 1) := dk_3 (dk_at dksX1_goesThrough_0 21 rfl rfl)
theorem dX1_goesThrough_22 : decode cX1_goesThrough 22 = .ok (.istore 4, 2) := dk_54 4 (dk_at dksX1_goesThrough_0 22 rfl rfl)
theorem dX1_goesThrough_24 : decode cX1_goesThrough 24 = .ok (.iload 4, 2) := dk_21 4 (dk_at dksX1_goesThrough_1 0 rfl rfl)
theorem dX1_goesThrough_26 : decode cX1_goesThrough 26 = .ok (.aload_n 0, 1) := dk_42 (dk_at dksX1_goesThrough_1 2 rfl rfl)
theorem dX1_goesThrough_27 : decode cX1_goesThrough 27 = .ok (.getfield 12, 3) := dk_180 0 12 (dk_at dksX1_goesThrough_1 3 rfl rfl)
theorem dX1_goesThrough_30 : decode cX1_goesThrough 30 = .ok (.getfield 108, 3) := dk_180 0 108 (dk_at dksX1_goesThrough_1 6 rfl rfl)
theorem dX1_goesThrough_33 : decode cX1_goesThrough 33 = .ok (.if_icmp .ge 44, 3) := dk_162 0 44 (dk_at dksX1_goesThrough_1 9 rfl rfl)
theorem dX1_goesThrough_36 : decode cX1_goesThrough 36 = .ok (.iload_n 2, 1) := dk_28 (dk_at dksX1_goesThrough_1 12 rfl rfl)
theorem dX1_goesThrough_37 : decode cX1_goesThrough 37 = .ok (.iload 4, 2) := dk_21 4 (dk_at dksX1_goesThrough_1 13 rfl rfl)
theorem dX1_goesThrough_39 : decode cX1_goesThrough 39 = .ok (.ishr, 1) := dk_122 (dk_at dksX1_goesThrough_1 15 rfl rfl)
theorem dX1_goesThrough_40 : decode cX1_goesThrough 40 = .ok (.iconst 1, 1) := dk_4 (dk_at dksX1_goesThrough_1 16 rfl rfl)
theorem dX1_goesThrough_41 : decode cX1_goesThrough 41 = .ok (.iand, 1) := dk_126 (dk_at dksX1_goesThrough_1 17 rfl rfl)
theorem dX1_goesThrough_42 : decode cX1_goesThrough 42 = .ok (.iconst 1, 1) := dk_4 (dk_at dksX1_goesThrough_1 18 rfl rfl)
theorem dX1_goesThrough_43 : decode cX1_goesThrough 43 = .ok (.if_icmp .ne 6, 3) := dk_160 0 6 (dk_at dksX1_goesThrough_1 19 rfl rfl)
theorem dX1_goesThrough_46 : decode cX1_goesThrough 46 = .ok (.goto 25, 3) := dk_167 0 25 (dk_at dksX1_goesThrough_2 0 rfl rfl)
theorem dX1_goesThrough_49 : decode cX1_goesThrough 49 = .ok (.aload_n 0, 1) := dk_42 (dk_at dksX1_goesThrough_2 3 rfl rfl)
theorem dX1_goesThrough_50 : decode cX1_goesThrough 50 = .ok (.getfield 74, 3) := dk_180 0 74 (dk_at dksX1_goesThrough_2 4 rfl rfl)
theorem dX1_goesThrough_53 : decode cX1_goesThrough 53 = .ok (.iload_n 1, 1) := dk_27 (dk_at dksX1_goesThrough_2 7 rfl rfl)
theorem dX1_goesThrough_54 : decode cX1_goesThrough 54 = .ok (.iload 4, 2) := dk_21 4 (dk_at dksX1_goesThrough_2 8 rfl rfl)
theorem dX1_goesThrough_56 : decode cX1_goesThrough 56 = .ok (.iastore, 1) := dk_79 (dk_at dksX1_goesThrough_2 10 rfl rfl)
theorem dX1_goesThrough_57 : decode cX1_goesThrough 57 = .ok (.aload_n 0, 1) := dk_42 (dk_at dksX1_goesThrough_2 11 rfl rfl)
theorem dX1_goesThrough_58 : decode cX1_goesThrough 58 = .ok (.iload_n 1, 1) := dk_27 (dk_at dksX1_goesThrough_2 12 rfl rfl)
theorem dX1_goesThrough_59 : decode cX1_goesThrough 59 = .ok (.iconst 1, 1) := dk_4 (dk_at dksX1_goesThrough_2 13 rfl rfl)
theorem dX1_goesThrough_60 : decode cX1_goesThrough 60 = .ok (.iadd, 1) := dk_96 (dk_at dksX1_goesThrough_2 14 rfl rfl)
theorem dX1_goesThrough_61 : decode cX1_goesThrough 61 = .ok (.iload_n 2, 1) := dk_28 (dk_at dksX1_goesThrough_2 15 rfl rfl)
theorem dX1_goesThrough_62 : decode cX1_goesThrough 62 = .ok (.iconst 1, 1) := dk_4 (dk_at dksX1_goesThrough_2 16 rfl rfl)
theorem dX1_goesThrough_63 : decode cX1_goesThrough 63 = .ok (.iload 4, 2) := dk_21 4 (dk_at dksX1_goesThrough_2 17 rfl rfl)
theorem dX1_goesThrough_65 : decode cX1_goesThrough 65 = .ok (.ishl, 1) := dk_120 (dk_at dksX1_goesThrough_2 19 rfl rfl)
theorem dX1_goesThrough_66 : decode cX1_goesThrough 66 = .ok (.ior, 1) := dk_128 (dk_at dksX1_goesThrough_2 20 rfl rfl)
theorem dX1_goesThrough_67 : decode cX1_goesThrough 67 = .ok (.iload_n 3, 1) := dk_29 (dk_at dksX1_goesThrough_2 21 rfl rfl)
theorem dX1_goesThrough_68 : decode cX1_goesThrough 68 = .ok (.invokevirtual 309, 3) := dk_182 1 53 (dk_at dksX1_goesThrough_3 0 rfl rfl)
theorem dX1_goesThrough_71 : decode cX1_goesThrough 71 = .ok (.iinc 4 1, 3) := dk_132 4 1 (dk_at dksX1_goesThrough_3 3 rfl rfl)
theorem dX1_goesThrough_74 : decode cX1_goesThrough 74 = .ok (.goto (-50), 3) := dk_167 255 206 (dk_at dksX1_goesThrough_3 6 rfl rfl)
theorem dX1_goesThrough_77 : decode cX1_goesThrough 77 = .ok (.return_, 1) := dk_177 (dk_at dksX1_goesThrough_3 9 rfl rfl)
abbrev cX1_counts : ByteArray := prog_1_method_40_code
def yX1_counts : MethodName := ⟨RX1, "counts", "(I)V"⟩
def dkwX1_counts_5 : List UInt8 := [16, 12, 184, 0, 223, 177]
abbrev dktX1_counts_5 : List UInt8 := dkwX1_counts_5 ++ []
def dkwX1_counts_4 : List UInt8 := [42, 180, 1, 47, 163, 0, 4, 177, 42, 28, 181, 1, 47, 42, 180, 0, 74, 3, 42, 180, 0, 84, 3]
abbrev dktX1_counts_4 : List UInt8 := dkwX1_counts_4 ++ dktX1_counts_5
def dkwX1_counts_3 : List UInt8 := [79, 132, 2, 1, 167, 255, 228, 42, 27, 182, 1, 27, 61, 42, 89, 180, 1, 50, 28, 96, 181, 1, 50, 28]
abbrev dktX1_counts_3 : List UInt8 := dkwX1_counts_3 ++ dktX1_counts_4
def dkwX1_counts_2 : List UInt8 := [28, 42, 180, 0, 12, 180, 0, 108, 162, 0, 23, 42, 180, 0, 81, 28, 92, 46, 27, 28, 122, 4, 126, 96]
abbrev dktX1_counts_2 : List UInt8 := dkwX1_counts_2 ++ dktX1_counts_3
def dkwX1_counts_1 : List UInt8 := [4, 84, 42, 89, 180, 1, 41, 27, 126, 181, 1, 41, 42, 89, 180, 1, 44, 27, 128, 181, 1, 44, 3, 61]
abbrev dktX1_counts_1 : List UInt8 := dkwX1_counts_1 ++ dktX1_counts_2
def dkwX1_counts_0 : List UInt8 := [42, 180, 0, 77, 27, 51, 154, 0, 13, 42, 89, 180, 1, 38, 4, 96, 181, 1, 38, 42, 180, 0, 77, 27]
abbrev dktX1_counts_0 : List UInt8 := dkwX1_counts_0 ++ dktX1_counts_1
theorem dksX1_counts_0 : cX1_counts.data.toList.drop 0 = dktX1_counts_0 := by decide +kernel
theorem dksX1_counts_1 : cX1_counts.data.toList.drop 24 = dktX1_counts_1 := dk_seg dksX1_counts_0 24 rfl rfl
theorem dksX1_counts_2 : cX1_counts.data.toList.drop 48 = dktX1_counts_2 := dk_seg dksX1_counts_1 24 rfl rfl
theorem dksX1_counts_3 : cX1_counts.data.toList.drop 72 = dktX1_counts_3 := dk_seg dksX1_counts_2 24 rfl rfl
theorem dksX1_counts_4 : cX1_counts.data.toList.drop 96 = dktX1_counts_4 := dk_seg dksX1_counts_3 24 rfl rfl
theorem dksX1_counts_5 : cX1_counts.data.toList.drop 119 = dktX1_counts_5 := dk_seg dksX1_counts_4 23 rfl rfl
theorem dX1_counts_0 : decode cX1_counts 0 = .ok (.aload_n 0, 1) := dk_42 (dk_at dksX1_counts_0 0 rfl rfl)
theorem dX1_counts_1 : decode cX1_counts 1 = .ok (.getfield 77, 3) := dk_180 0 77 (dk_at dksX1_counts_0 1 rfl rfl)
theorem dX1_counts_4 : decode cX1_counts 4 = .ok (.iload_n 1, 1) := dk_27 (dk_at dksX1_counts_0 4 rfl rfl)
theorem dX1_counts_5 : decode cX1_counts 5 = .ok (.baload, 1) := dk_51 (dk_at dksX1_counts_0 5 rfl rfl)
theorem dX1_counts_6 : decode cX1_counts 6 = .ok (.ifCond .ne 13, 3) := dk_154 0 13 (dk_at dksX1_counts_0 6 rfl rfl)
theorem dX1_counts_9 : decode cX1_counts 9 = .ok (.aload_n 0, 1) := dk_42 (dk_at dksX1_counts_0 9 rfl rfl)
theorem dX1_counts_10 : decode cX1_counts 10 = .ok (.dup, 1) := dk_89 (dk_at dksX1_counts_0 10 rfl rfl)
theorem dX1_counts_11 : decode cX1_counts 11 = .ok (.getfield 294, 3) := dk_180 1 38 (dk_at dksX1_counts_0 11 rfl rfl)
theorem dX1_counts_14 : decode cX1_counts 14 = .ok (.iconst 1, 1) := dk_4 (dk_at dksX1_counts_0 14 rfl rfl)
theorem dX1_counts_15 : decode cX1_counts 15 = .ok (.iadd, 1) := dk_96 (dk_at dksX1_counts_0 15 rfl rfl)
theorem dX1_counts_16 : decode cX1_counts 16 = .ok (.putfield 294, 3) := dk_181 1 38 (dk_at dksX1_counts_0 16 rfl rfl)
theorem dX1_counts_19 : decode cX1_counts 19 = .ok (.aload_n 0, 1) := dk_42 (dk_at dksX1_counts_0 19 rfl rfl)
theorem dX1_counts_20 : decode cX1_counts 20 = .ok (.getfield 77, 3) := dk_180 0 77 (dk_at dksX1_counts_0 20 rfl rfl)
theorem dX1_counts_23 : decode cX1_counts 23 = .ok (.iload_n 1, 1) := dk_27 (dk_at dksX1_counts_0 23 rfl rfl)
theorem dX1_counts_24 : decode cX1_counts 24 = .ok (.iconst 1, 1) := dk_4 (dk_at dksX1_counts_1 0 rfl rfl)
theorem dX1_counts_25 : decode cX1_counts 25 = .ok (.bastore, 1) := dk_84 (dk_at dksX1_counts_1 1 rfl rfl)
theorem dX1_counts_26 : decode cX1_counts 26 = .ok (.aload_n 0, 1) := dk_42 (dk_at dksX1_counts_1 2 rfl rfl)
theorem dX1_counts_27 : decode cX1_counts 27 = .ok (.dup, 1) := dk_89 (dk_at dksX1_counts_1 3 rfl rfl)
theorem dX1_counts_28 : decode cX1_counts 28 = .ok (.getfield 297, 3) := dk_180 1 41 (dk_at dksX1_counts_1 4 rfl rfl)
theorem dX1_counts_31 : decode cX1_counts 31 = .ok (.iload_n 1, 1) := dk_27 (dk_at dksX1_counts_1 7 rfl rfl)
theorem dX1_counts_32 : decode cX1_counts 32 = .ok (.iand, 1) := dk_126 (dk_at dksX1_counts_1 8 rfl rfl)
theorem dX1_counts_33 : decode cX1_counts 33 = .ok (.putfield 297, 3) := dk_181 1 41 (dk_at dksX1_counts_1 9 rfl rfl)
theorem dX1_counts_36 : decode cX1_counts 36 = .ok (.aload_n 0, 1) := dk_42 (dk_at dksX1_counts_1 12 rfl rfl)
theorem dX1_counts_37 : decode cX1_counts 37 = .ok (.dup, 1) := dk_89 (dk_at dksX1_counts_1 13 rfl rfl)
theorem dX1_counts_38 : decode cX1_counts 38 = .ok (.getfield 300, 3) := dk_180 1 44 (dk_at dksX1_counts_1 14 rfl rfl)
theorem dX1_counts_41 : decode cX1_counts 41 = .ok (.iload_n 1, 1) := dk_27 (dk_at dksX1_counts_1 17 rfl rfl)
theorem dX1_counts_42 : decode cX1_counts 42 = .ok (.ior, 1) := dk_128 (dk_at dksX1_counts_1 18 rfl rfl)
theorem dX1_counts_43 : decode cX1_counts 43 = .ok (.putfield 300, 3) := dk_181 1 44 (dk_at dksX1_counts_1 19 rfl rfl)
theorem dX1_counts_46 : decode cX1_counts 46 = .ok (.iconst 0, 1) := dk_3 (dk_at dksX1_counts_1 22 rfl rfl)
theorem dX1_counts_47 : decode cX1_counts 47 = .ok (.istore_n 2, 1) := dk_61 (dk_at dksX1_counts_1 23 rfl rfl)
theorem dX1_counts_48 : decode cX1_counts 48 = .ok (.iload_n 2, 1) := dk_28 (dk_at dksX1_counts_2 0 rfl rfl)
theorem dX1_counts_49 : decode cX1_counts 49 = .ok (.aload_n 0, 1) := dk_42 (dk_at dksX1_counts_2 1 rfl rfl)
theorem dX1_counts_50 : decode cX1_counts 50 = .ok (.getfield 12, 3) := dk_180 0 12 (dk_at dksX1_counts_2 2 rfl rfl)
theorem dX1_counts_53 : decode cX1_counts 53 = .ok (.getfield 108, 3) := dk_180 0 108 (dk_at dksX1_counts_2 5 rfl rfl)
theorem dX1_counts_56 : decode cX1_counts 56 = .ok (.if_icmp .ge 23, 3) := dk_162 0 23 (dk_at dksX1_counts_2 8 rfl rfl)
theorem dX1_counts_59 : decode cX1_counts 59 = .ok (.aload_n 0, 1) := dk_42 (dk_at dksX1_counts_2 11 rfl rfl)
theorem dX1_counts_60 : decode cX1_counts 60 = .ok (.getfield 81, 3) := dk_180 0 81 (dk_at dksX1_counts_2 12 rfl rfl)
theorem dX1_counts_63 : decode cX1_counts 63 = .ok (.iload_n 2, 1) := dk_28 (dk_at dksX1_counts_2 15 rfl rfl)
theorem dX1_counts_64 : decode cX1_counts 64 = .ok (.dup2, 1) := dk_92 (dk_at dksX1_counts_2 16 rfl rfl)
theorem dX1_counts_65 : decode cX1_counts 65 = .ok (.iaload, 1) := dk_46 (dk_at dksX1_counts_2 17 rfl rfl)
theorem dX1_counts_66 : decode cX1_counts 66 = .ok (.iload_n 1, 1) := dk_27 (dk_at dksX1_counts_2 18 rfl rfl)
theorem dX1_counts_67 : decode cX1_counts 67 = .ok (.iload_n 2, 1) := dk_28 (dk_at dksX1_counts_2 19 rfl rfl)
theorem dX1_counts_68 : decode cX1_counts 68 = .ok (.ishr, 1) := dk_122 (dk_at dksX1_counts_2 20 rfl rfl)
theorem dX1_counts_69 : decode cX1_counts 69 = .ok (.iconst 1, 1) := dk_4 (dk_at dksX1_counts_2 21 rfl rfl)
theorem dX1_counts_70 : decode cX1_counts 70 = .ok (.iand, 1) := dk_126 (dk_at dksX1_counts_2 22 rfl rfl)
theorem dX1_counts_71 : decode cX1_counts 71 = .ok (.iadd, 1) := dk_96 (dk_at dksX1_counts_2 23 rfl rfl)
theorem dX1_counts_72 : decode cX1_counts 72 = .ok (.iastore, 1) := dk_79 (dk_at dksX1_counts_3 0 rfl rfl)
theorem dX1_counts_73 : decode cX1_counts 73 = .ok (.iinc 2 1, 3) := dk_132 2 1 (dk_at dksX1_counts_3 1 rfl rfl)
theorem dX1_counts_76 : decode cX1_counts 76 = .ok (.goto (-28), 3) := dk_167 255 228 (dk_at dksX1_counts_3 4 rfl rfl)
theorem dX1_counts_79 : decode cX1_counts 79 = .ok (.aload_n 0, 1) := dk_42 (dk_at dksX1_counts_3 7 rfl rfl)
theorem dX1_counts_80 : decode cX1_counts 80 = .ok (.iload_n 1, 1) := dk_27 (dk_at dksX1_counts_3 8 rfl rfl)
theorem dX1_counts_81 : decode cX1_counts 81 = .ok (.invokevirtual 283, 3) := dk_182 1 27 (dk_at dksX1_counts_3 9 rfl rfl)
theorem dX1_counts_84 : decode cX1_counts 84 = .ok (.istore_n 2, 1) := dk_61 (dk_at dksX1_counts_3 12 rfl rfl)
theorem dX1_counts_85 : decode cX1_counts 85 = .ok (.aload_n 0, 1) := dk_42 (dk_at dksX1_counts_3 13 rfl rfl)
theorem dX1_counts_86 : decode cX1_counts 86 = .ok (.dup, 1) := dk_89 (dk_at dksX1_counts_3 14 rfl rfl)
theorem dX1_counts_87 : decode cX1_counts 87 = .ok (.getfield 306, 3) := dk_180 1 50 (dk_at dksX1_counts_3 15 rfl rfl)
theorem dX1_counts_90 : decode cX1_counts 90 = .ok (.iload_n 2, 1) := dk_28 (dk_at dksX1_counts_3 18 rfl rfl)
theorem dX1_counts_91 : decode cX1_counts 91 = .ok (.iadd, 1) := dk_96 (dk_at dksX1_counts_3 19 rfl rfl)
theorem dX1_counts_92 : decode cX1_counts 92 = .ok (.putfield 306, 3) := dk_181 1 50 (dk_at dksX1_counts_3 20 rfl rfl)
theorem dX1_counts_95 : decode cX1_counts 95 = .ok (.iload_n 2, 1) := dk_28 (dk_at dksX1_counts_3 23 rfl rfl)
theorem dX1_counts_96 : decode cX1_counts 96 = .ok (.aload_n 0, 1) := dk_42 (dk_at dksX1_counts_4 0 rfl rfl)
theorem dX1_counts_97 : decode cX1_counts 97 = .ok (.getfield 303, 3) := dk_180 1 47 (dk_at dksX1_counts_4 1 rfl rfl)
theorem dX1_counts_100 : decode cX1_counts 100 = .ok (.if_icmp .gt 4, 3) := dk_163 0 4 (dk_at dksX1_counts_4 4 rfl rfl)
theorem dX1_counts_103 : decode cX1_counts 103 = .ok (.return_, 1) := dk_177 (dk_at dksX1_counts_4 7 rfl rfl)
theorem dX1_counts_104 : decode cX1_counts 104 = .ok (.aload_n 0, 1) := dk_42 (dk_at dksX1_counts_4 8 rfl rfl)
theorem dX1_counts_105 : decode cX1_counts 105 = .ok (.iload_n 2, 1) := dk_28 (dk_at dksX1_counts_4 9 rfl rfl)
theorem dX1_counts_106 : decode cX1_counts 106 = .ok (.putfield 303, 3) := dk_181 1 47 (dk_at dksX1_counts_4 10 rfl rfl)
theorem dX1_counts_109 : decode cX1_counts 109 = .ok (.aload_n 0, 1) := dk_42 (dk_at dksX1_counts_4 13 rfl rfl)
theorem dX1_counts_110 : decode cX1_counts 110 = .ok (.getfield 74, 3) := dk_180 0 74 (dk_at dksX1_counts_4 14 rfl rfl)
theorem dX1_counts_113 : decode cX1_counts 113 = .ok (.iconst 0, 1) := dk_3 (dk_at dksX1_counts_4 17 rfl rfl)
theorem dX1_counts_114 : decode cX1_counts 114 = .ok (.aload_n 0, 1) := dk_42 (dk_at dksX1_counts_4 18 rfl rfl)
theorem dX1_counts_115 : decode cX1_counts 115 = .ok (.getfield 84, 3) := dk_180 0 84 (dk_at dksX1_counts_4 19 rfl rfl)
theorem dX1_counts_118 : decode cX1_counts 118 = .ok (.iconst 0, 1) := dk_3 (dk_at dksX1_counts_4 22 rfl rfl)
theorem dX1_counts_119 : decode cX1_counts 119 = .ok (.bipush 12, 2) := dk_16 12 (dk_at dksX1_counts_5 0 rfl rfl)
theorem dX1_counts_121 : decode cX1_counts 121 = .ok (.invokestatic 223, 3) := dk_184 0 223 (dk_at dksX1_counts_5 2 rfl rfl)
theorem dX1_counts_124 : decode cX1_counts 124 = .ok (.return_, 1) := dk_177 (dk_at dksX1_counts_5 5 rfl rfl)
abbrev cX1_orders : ByteArray := prog_1_method_42_code
def yX1_orders : MethodName := ⟨RX1, "orders", "(I)I"⟩
def dkwX1_orders_1 : List UInt8 := [182, 1, 63, 42, 180, 0, 81, 27, 46, 172]
abbrev dktX1_orders_1 : List UInt8 := dkwX1_orders_1 ++ []
def dkwX1_orders_0 : List UInt8 := [42, 27, 42, 180, 0, 12, 180, 0, 108, 182, 0, 202, 42, 182, 1, 60, 42, 42, 180, 0, 40, 180, 0, 126]
abbrev dktX1_orders_0 : List UInt8 := dkwX1_orders_0 ++ dktX1_orders_1
theorem dksX1_orders_0 : cX1_orders.data.toList.drop 0 = dktX1_orders_0 := by decide +kernel
theorem dksX1_orders_1 : cX1_orders.data.toList.drop 24 = dktX1_orders_1 := dk_seg dksX1_orders_0 24 rfl rfl
theorem dX1_orders_0 : decode cX1_orders 0 = .ok (.aload_n 0, 1) := dk_42 (dk_at dksX1_orders_0 0 rfl rfl)
theorem dX1_orders_1 : decode cX1_orders 1 = .ok (.iload_n 1, 1) := dk_27 (dk_at dksX1_orders_0 1 rfl rfl)
theorem dX1_orders_2 : decode cX1_orders 2 = .ok (.aload_n 0, 1) := dk_42 (dk_at dksX1_orders_0 2 rfl rfl)
theorem dX1_orders_3 : decode cX1_orders 3 = .ok (.getfield 12, 3) := dk_180 0 12 (dk_at dksX1_orders_0 3 rfl rfl)
theorem dX1_orders_6 : decode cX1_orders 6 = .ok (.getfield 108, 3) := dk_180 0 108 (dk_at dksX1_orders_0 6 rfl rfl)
theorem dX1_orders_9 : decode cX1_orders 9 = .ok (.invokevirtual 202, 3) := dk_182 0 202 (dk_at dksX1_orders_0 9 rfl rfl)
theorem dX1_orders_12 : decode cX1_orders 12 = .ok (.aload_n 0, 1) := dk_42 (dk_at dksX1_orders_0 12 rfl rfl)
theorem dX1_orders_13 : decode cX1_orders 13 = .ok (.invokevirtual 316, 3) := dk_182 1 60 (dk_at dksX1_orders_0 13 rfl rfl)
theorem dX1_orders_16 : decode cX1_orders 16 = .ok (.aload_n 0, 1) := dk_42 (dk_at dksX1_orders_0 16 rfl rfl)
theorem dX1_orders_17 : decode cX1_orders 17 = .ok (.aload_n 0, 1) := dk_42 (dk_at dksX1_orders_0 17 rfl rfl)
theorem dX1_orders_18 : decode cX1_orders 18 = .ok (.getfield 40, 3) := dk_180 0 40 (dk_at dksX1_orders_0 18 rfl rfl)
theorem dX1_orders_21 : decode cX1_orders 21 = .ok (.getfield 126, 3) := dk_180 0 126 (dk_at dksX1_orders_0 21 rfl rfl)
theorem dX1_orders_24 : decode cX1_orders 24 = .ok (.invokevirtual 319, 3) := dk_182 1 63 (dk_at dksX1_orders_1 0 rfl rfl)
theorem dX1_orders_27 : decode cX1_orders 27 = .ok (.aload_n 0, 1) := dk_42 (dk_at dksX1_orders_1 3 rfl rfl)
theorem dX1_orders_28 : decode cX1_orders 28 = .ok (.getfield 81, 3) := dk_180 0 81 (dk_at dksX1_orders_1 4 rfl rfl)
theorem dX1_orders_31 : decode cX1_orders 31 = .ok (.iload_n 1, 1) := dk_27 (dk_at dksX1_orders_1 7 rfl rfl)
theorem dX1_orders_32 : decode cX1_orders 32 = .ok (.iaload, 1) := dk_46 (dk_at dksX1_orders_1 8 rfl rfl)
theorem dX1_orders_33 : decode cX1_orders 33 = .ok (.ireturn, 1) := dk_172 (dk_at dksX1_orders_1 9 rfl rfl)
abbrev cX1_best : ByteArray := prog_1_method_43_code
def yX1_best : MethodName := ⟨RX1, "best", "()I"⟩
def dkwX1_best_1 : List UInt8 := [180, 0, 120, 3, 42, 180, 0, 12, 180, 0, 108, 184, 0, 223, 42, 180, 1, 47, 172]
abbrev dktX1_best_1 : List UInt8 := dkwX1_best_1 ++ []
def dkwX1_best_0 : List UInt8 := [42, 182, 1, 60, 42, 42, 180, 0, 40, 180, 0, 126, 182, 1, 63, 42, 180, 0, 84, 3, 42, 180, 0, 40]
abbrev dktX1_best_0 : List UInt8 := dkwX1_best_0 ++ dktX1_best_1
theorem dksX1_best_0 : cX1_best.data.toList.drop 0 = dktX1_best_0 := by decide +kernel
theorem dksX1_best_1 : cX1_best.data.toList.drop 24 = dktX1_best_1 := dk_seg dksX1_best_0 24 rfl rfl
theorem dX1_best_0 : decode cX1_best 0 = .ok (.aload_n 0, 1) := dk_42 (dk_at dksX1_best_0 0 rfl rfl)
theorem dX1_best_1 : decode cX1_best 1 = .ok (.invokevirtual 316, 3) := dk_182 1 60 (dk_at dksX1_best_0 1 rfl rfl)
theorem dX1_best_4 : decode cX1_best 4 = .ok (.aload_n 0, 1) := dk_42 (dk_at dksX1_best_0 4 rfl rfl)
theorem dX1_best_5 : decode cX1_best 5 = .ok (.aload_n 0, 1) := dk_42 (dk_at dksX1_best_0 5 rfl rfl)
theorem dX1_best_6 : decode cX1_best 6 = .ok (.getfield 40, 3) := dk_180 0 40 (dk_at dksX1_best_0 6 rfl rfl)
theorem dX1_best_9 : decode cX1_best 9 = .ok (.getfield 126, 3) := dk_180 0 126 (dk_at dksX1_best_0 9 rfl rfl)
theorem dX1_best_12 : decode cX1_best 12 = .ok (.invokevirtual 319, 3) := dk_182 1 63 (dk_at dksX1_best_0 12 rfl rfl)
theorem dX1_best_15 : decode cX1_best 15 = .ok (.aload_n 0, 1) := dk_42 (dk_at dksX1_best_0 15 rfl rfl)
theorem dX1_best_16 : decode cX1_best 16 = .ok (.getfield 84, 3) := dk_180 0 84 (dk_at dksX1_best_0 16 rfl rfl)
theorem dX1_best_19 : decode cX1_best 19 = .ok (.iconst 0, 1) := dk_3 (dk_at dksX1_best_0 19 rfl rfl)
theorem dX1_best_20 : decode cX1_best 20 = .ok (.aload_n 0, 1) := dk_42 (dk_at dksX1_best_0 20 rfl rfl)
theorem dX1_best_21 : decode cX1_best 21 = .ok (.getfield 40, 3) := dk_180 0 40 (dk_at dksX1_best_0 21 rfl rfl)
theorem dX1_best_24 : decode cX1_best 24 = .ok (.getfield 120, 3) := dk_180 0 120 (dk_at dksX1_best_1 0 rfl rfl)
theorem dX1_best_27 : decode cX1_best 27 = .ok (.iconst 0, 1) := dk_3 (dk_at dksX1_best_1 3 rfl rfl)
theorem dX1_best_28 : decode cX1_best 28 = .ok (.aload_n 0, 1) := dk_42 (dk_at dksX1_best_1 4 rfl rfl)
theorem dX1_best_29 : decode cX1_best 29 = .ok (.getfield 12, 3) := dk_180 0 12 (dk_at dksX1_best_1 5 rfl rfl)
theorem dX1_best_32 : decode cX1_best 32 = .ok (.getfield 108, 3) := dk_180 0 108 (dk_at dksX1_best_1 8 rfl rfl)
theorem dX1_best_35 : decode cX1_best 35 = .ok (.invokestatic 223, 3) := dk_184 0 223 (dk_at dksX1_best_1 11 rfl rfl)
theorem dX1_best_38 : decode cX1_best 38 = .ok (.aload_n 0, 1) := dk_42 (dk_at dksX1_best_1 14 rfl rfl)
theorem dX1_best_39 : decode cX1_best 39 = .ok (.getfield 303, 3) := dk_180 1 47 (dk_at dksX1_best_1 15 rfl rfl)
theorem dX1_best_42 : decode cX1_best 42 = .ok (.ireturn, 1) := dk_172 (dk_at dksX1_best_1 18 rfl rfl)
abbrev cX1_fits : ByteArray := prog_1_method_46_code
def yX1_fits : MethodName := ⟨RX1, "fits", "(II)Z"⟩
def dkwX1_fits_1 : List UInt8 := [42, 28, 182, 1, 72, 42, 180, 0, 87, 27, 47, 9, 148, 153, 0, 7, 4, 167, 0, 4, 3, 172]
abbrev dktX1_fits_1 : List UInt8 := dkwX1_fits_1 ++ []
def dkwX1_fits_0 : List UInt8 := [42, 42, 27, 182, 1, 69, 153, 0, 14, 28, 184, 0, 214, 153, 0, 7, 4, 167, 0, 4, 3, 182, 0, 146]
abbrev dktX1_fits_0 : List UInt8 := dkwX1_fits_0 ++ dktX1_fits_1
theorem dksX1_fits_0 : cX1_fits.data.toList.drop 0 = dktX1_fits_0 := by decide +kernel
theorem dksX1_fits_1 : cX1_fits.data.toList.drop 24 = dktX1_fits_1 := dk_seg dksX1_fits_0 24 rfl rfl
theorem dX1_fits_0 : decode cX1_fits 0 = .ok (.aload_n 0, 1) := dk_42 (dk_at dksX1_fits_0 0 rfl rfl)
theorem dX1_fits_1 : decode cX1_fits 1 = .ok (.aload_n 0, 1) := dk_42 (dk_at dksX1_fits_0 1 rfl rfl)
theorem dX1_fits_2 : decode cX1_fits 2 = .ok (.iload_n 1, 1) := dk_27 (dk_at dksX1_fits_0 2 rfl rfl)
theorem dX1_fits_3 : decode cX1_fits 3 = .ok (.invokevirtual 325, 3) := dk_182 1 69 (dk_at dksX1_fits_0 3 rfl rfl)
theorem dX1_fits_6 : decode cX1_fits 6 = .ok (.ifCond .eq 14, 3) := dk_153 0 14 (dk_at dksX1_fits_0 6 rfl rfl)
theorem dX1_fits_9 : decode cX1_fits 9 = .ok (.iload_n 2, 1) := dk_28 (dk_at dksX1_fits_0 9 rfl rfl)
theorem dX1_fits_10 : decode cX1_fits 10 = .ok (.invokestatic 214, 3) := dk_184 0 214 (dk_at dksX1_fits_0 10 rfl rfl)
theorem dX1_fits_13 : decode cX1_fits 13 = .ok (.ifCond .eq 7, 3) := dk_153 0 7 (dk_at dksX1_fits_0 13 rfl rfl)
theorem dX1_fits_16 : decode cX1_fits 16 = .ok (.iconst 1, 1) := dk_4 (dk_at dksX1_fits_0 16 rfl rfl)
theorem dX1_fits_17 : decode cX1_fits 17 = .ok (.goto 4, 3) := dk_167 0 4 (dk_at dksX1_fits_0 17 rfl rfl)
theorem dX1_fits_20 : decode cX1_fits 20 = .ok (.iconst 0, 1) := dk_3 (dk_at dksX1_fits_0 20 rfl rfl)
theorem dX1_fits_21 : decode cX1_fits 21 = .ok (.invokevirtual 146, 3) := dk_182 0 146 (dk_at dksX1_fits_0 21 rfl rfl)
theorem dX1_fits_24 : decode cX1_fits 24 = .ok (.aload_n 0, 1) := dk_42 (dk_at dksX1_fits_1 0 rfl rfl)
theorem dX1_fits_25 : decode cX1_fits 25 = .ok (.iload_n 2, 1) := dk_28 (dk_at dksX1_fits_1 1 rfl rfl)
theorem dX1_fits_26 : decode cX1_fits 26 = .ok (.invokevirtual 328, 3) := dk_182 1 72 (dk_at dksX1_fits_1 2 rfl rfl)
theorem dX1_fits_29 : decode cX1_fits 29 = .ok (.aload_n 0, 1) := dk_42 (dk_at dksX1_fits_1 5 rfl rfl)
theorem dX1_fits_30 : decode cX1_fits 30 = .ok (.getfield 87, 3) := dk_180 0 87 (dk_at dksX1_fits_1 6 rfl rfl)
theorem dX1_fits_33 : decode cX1_fits 33 = .ok (.iload_n 1, 1) := dk_27 (dk_at dksX1_fits_1 9 rfl rfl)
theorem dX1_fits_34 : decode cX1_fits 34 = .ok (.laload, 1) := dk_47 (dk_at dksX1_fits_1 10 rfl rfl)
theorem dX1_fits_35 : decode cX1_fits 35 = .ok (.lconst 0, 1) := dk_9 (dk_at dksX1_fits_1 11 rfl rfl)
theorem dX1_fits_36 : decode cX1_fits 36 = .ok (.lcmp, 1) := dk_148 (dk_at dksX1_fits_1 12 rfl rfl)
theorem dX1_fits_37 : decode cX1_fits 37 = .ok (.ifCond .eq 7, 3) := dk_153 0 7 (dk_at dksX1_fits_1 13 rfl rfl)
theorem dX1_fits_40 : decode cX1_fits 40 = .ok (.iconst 1, 1) := dk_4 (dk_at dksX1_fits_1 16 rfl rfl)
theorem dX1_fits_41 : decode cX1_fits 41 = .ok (.goto 4, 3) := dk_167 0 4 (dk_at dksX1_fits_1 17 rfl rfl)
theorem dX1_fits_44 : decode cX1_fits 44 = .ok (.iconst 0, 1) := dk_3 (dk_at dksX1_fits_1 20 rfl rfl)
theorem dX1_fits_45 : decode cX1_fits 45 = .ok (.ireturn, 1) := dk_172 (dk_at dksX1_fits_1 21 rfl rfl)
abbrev cX1_areSlips : ByteArray := prog_1_method_7_code
def yX1_areSlips : MethodName := ⟨RX1, "areSlips", "(I)Z"⟩
def dkwX1_areSlips_0 : List UInt8 := [27, 155, 0, 20, 27, 4, 42, 180, 0, 12, 180, 0, 108, 120, 162, 0, 7, 4, 167, 0, 4, 3, 172]
abbrev dktX1_areSlips_0 : List UInt8 := dkwX1_areSlips_0 ++ []
theorem dksX1_areSlips_0 : cX1_areSlips.data.toList.drop 0 = dktX1_areSlips_0 := by decide +kernel
theorem dX1_areSlips_0 : decode cX1_areSlips 0 = .ok (.iload_n 1, 1) := dk_27 (dk_at dksX1_areSlips_0 0 rfl rfl)
theorem dX1_areSlips_1 : decode cX1_areSlips 1 = .ok (.ifCond .lt 20, 3) := dk_155 0 20 (dk_at dksX1_areSlips_0 1 rfl rfl)
theorem dX1_areSlips_4 : decode cX1_areSlips 4 = .ok (.iload_n 1, 1) := dk_27 (dk_at dksX1_areSlips_0 4 rfl rfl)
theorem dX1_areSlips_5 : decode cX1_areSlips 5 = .ok (.iconst 1, 1) := dk_4 (dk_at dksX1_areSlips_0 5 rfl rfl)
theorem dX1_areSlips_6 : decode cX1_areSlips 6 = .ok (.aload_n 0, 1) := dk_42 (dk_at dksX1_areSlips_0 6 rfl rfl)
theorem dX1_areSlips_7 : decode cX1_areSlips 7 = .ok (.getfield 12, 3) := dk_180 0 12 (dk_at dksX1_areSlips_0 7 rfl rfl)
theorem dX1_areSlips_10 : decode cX1_areSlips 10 = .ok (.getfield 108, 3) := dk_180 0 108 (dk_at dksX1_areSlips_0 10 rfl rfl)
theorem dX1_areSlips_13 : decode cX1_areSlips 13 = .ok (.ishl, 1) := dk_120 (dk_at dksX1_areSlips_0 13 rfl rfl)
theorem dX1_areSlips_14 : decode cX1_areSlips 14 = .ok (.if_icmp .ge 7, 3) := dk_162 0 7 (dk_at dksX1_areSlips_0 14 rfl rfl)
theorem dX1_areSlips_17 : decode cX1_areSlips 17 = .ok (.iconst 1, 1) := dk_4 (dk_at dksX1_areSlips_0 17 rfl rfl)
theorem dX1_areSlips_18 : decode cX1_areSlips 18 = .ok (.goto 4, 3) := dk_167 0 4 (dk_at dksX1_areSlips_0 18 rfl rfl)
theorem dX1_areSlips_21 : decode cX1_areSlips 21 = .ok (.iconst 0, 1) := dk_3 (dk_at dksX1_areSlips_0 21 rfl rfl)
theorem dX1_areSlips_22 : decode cX1_areSlips 22 = .ok (.ireturn, 1) := dk_172 (dk_at dksX1_areSlips_0 22 rfl rfl)
abbrev cX1_findWorlds : ByteArray := prog_1_method_44_code
def yX1_findWorlds : MethodName := ⟨RX1, "findWorlds", "(I)V"⟩
def dkwX1_findWorlds_2 : List UInt8 := [47, 42, 180, 0, 12, 180, 0, 114, 29, 47, 127, 80, 132, 2, 1, 167, 255, 207, 177]
abbrev dktX1_findWorlds_2 : List UInt8 := dkwX1_findWorlds_2 ++ []
def dkwX1_findWorlds_1 : List UInt8 := [162, 0, 42, 28, 184, 1, 66, 62, 42, 180, 0, 87, 28, 42, 180, 0, 87, 28, 4, 29, 120, 2, 130, 126]
abbrev dktX1_findWorlds_1 : List UInt8 := dkwX1_findWorlds_1 ++ dktX1_findWorlds_2
def dkwX1_findWorlds_0 : List UInt8 := [42, 180, 0, 87, 3, 42, 180, 0, 33, 27, 47, 80, 4, 61, 28, 4, 42, 180, 0, 12, 180, 0, 108, 120]
abbrev dktX1_findWorlds_0 : List UInt8 := dkwX1_findWorlds_0 ++ dktX1_findWorlds_1
theorem dksX1_findWorlds_0 : cX1_findWorlds.data.toList.drop 0 = dktX1_findWorlds_0 := by decide +kernel
theorem dksX1_findWorlds_1 : cX1_findWorlds.data.toList.drop 24 = dktX1_findWorlds_1 := dk_seg dksX1_findWorlds_0 24 rfl rfl
theorem dksX1_findWorlds_2 : cX1_findWorlds.data.toList.drop 48 = dktX1_findWorlds_2 := dk_seg dksX1_findWorlds_1 24 rfl rfl
theorem dX1_findWorlds_0 : decode cX1_findWorlds 0 = .ok (.aload_n 0, 1) := dk_42 (dk_at dksX1_findWorlds_0 0 rfl rfl)
theorem dX1_findWorlds_1 : decode cX1_findWorlds 1 = .ok (.getfield 87, 3) := dk_180 0 87 (dk_at dksX1_findWorlds_0 1 rfl rfl)
theorem dX1_findWorlds_4 : decode cX1_findWorlds 4 = .ok (.iconst 0, 1) := dk_3 (dk_at dksX1_findWorlds_0 4 rfl rfl)
theorem dX1_findWorlds_5 : decode cX1_findWorlds 5 = .ok (.aload_n 0, 1) := dk_42 (dk_at dksX1_findWorlds_0 5 rfl rfl)
theorem dX1_findWorlds_6 : decode cX1_findWorlds 6 = .ok (.getfield 33, 3) := dk_180 0 33 (dk_at dksX1_findWorlds_0 6 rfl rfl)
theorem dX1_findWorlds_9 : decode cX1_findWorlds 9 = .ok (.iload_n 1, 1) := dk_27 (dk_at dksX1_findWorlds_0 9 rfl rfl)
theorem dX1_findWorlds_10 : decode cX1_findWorlds 10 = .ok (.laload, 1) := dk_47 (dk_at dksX1_findWorlds_0 10 rfl rfl)
theorem dX1_findWorlds_11 : decode cX1_findWorlds 11 = .ok (.lastore, 1) := dk_80 (dk_at dksX1_findWorlds_0 11 rfl rfl)
theorem dX1_findWorlds_12 : decode cX1_findWorlds 12 = .ok (.iconst 1, 1) := dk_4 (dk_at dksX1_findWorlds_0 12 rfl rfl)
theorem dX1_findWorlds_13 : decode cX1_findWorlds 13 = .ok (.istore_n 2, 1) := dk_61 (dk_at dksX1_findWorlds_0 13 rfl rfl)
theorem dX1_findWorlds_14 : decode cX1_findWorlds 14 = .ok (.iload_n 2, 1) := dk_28 (dk_at dksX1_findWorlds_0 14 rfl rfl)
theorem dX1_findWorlds_15 : decode cX1_findWorlds 15 = .ok (.iconst 1, 1) := dk_4 (dk_at dksX1_findWorlds_0 15 rfl rfl)
theorem dX1_findWorlds_16 : decode cX1_findWorlds 16 = .ok (.aload_n 0, 1) := dk_42 (dk_at dksX1_findWorlds_0 16 rfl rfl)
theorem dX1_findWorlds_17 : decode cX1_findWorlds 17 = .ok (.getfield 12, 3) := dk_180 0 12 (dk_at dksX1_findWorlds_0 17 rfl rfl)
theorem dX1_findWorlds_20 : decode cX1_findWorlds 20 = .ok (.getfield 108, 3) := dk_180 0 108 (dk_at dksX1_findWorlds_0 20 rfl rfl)
theorem dX1_findWorlds_23 : decode cX1_findWorlds 23 = .ok (.ishl, 1) := dk_120 (dk_at dksX1_findWorlds_0 23 rfl rfl)
theorem dX1_findWorlds_24 : decode cX1_findWorlds 24 = .ok (.if_icmp .ge 42, 3) := dk_162 0 42 (dk_at dksX1_findWorlds_1 0 rfl rfl)
theorem dX1_findWorlds_27 : decode cX1_findWorlds 27 = .ok (.iload_n 2, 1) := dk_28 (dk_at dksX1_findWorlds_1 3 rfl rfl)
theorem dX1_findWorlds_28 : decode cX1_findWorlds 28 = .ok (.invokestatic 322, 3) := dk_184 1 66 (dk_at dksX1_findWorlds_1 4 rfl rfl)
theorem dX1_findWorlds_31 : decode cX1_findWorlds 31 = .ok (.istore_n 3, 1) := dk_62 (dk_at dksX1_findWorlds_1 7 rfl rfl)
theorem dX1_findWorlds_32 : decode cX1_findWorlds 32 = .ok (.aload_n 0, 1) := dk_42 (dk_at dksX1_findWorlds_1 8 rfl rfl)
theorem dX1_findWorlds_33 : decode cX1_findWorlds 33 = .ok (.getfield 87, 3) := dk_180 0 87 (dk_at dksX1_findWorlds_1 9 rfl rfl)
theorem dX1_findWorlds_36 : decode cX1_findWorlds 36 = .ok (.iload_n 2, 1) := dk_28 (dk_at dksX1_findWorlds_1 12 rfl rfl)
theorem dX1_findWorlds_37 : decode cX1_findWorlds 37 = .ok (.aload_n 0, 1) := dk_42 (dk_at dksX1_findWorlds_1 13 rfl rfl)
theorem dX1_findWorlds_38 : decode cX1_findWorlds 38 = .ok (.getfield 87, 3) := dk_180 0 87 (dk_at dksX1_findWorlds_1 14 rfl rfl)
theorem dX1_findWorlds_41 : decode cX1_findWorlds 41 = .ok (.iload_n 2, 1) := dk_28 (dk_at dksX1_findWorlds_1 17 rfl rfl)
theorem dX1_findWorlds_42 : decode cX1_findWorlds 42 = .ok (.iconst 1, 1) := dk_4 (dk_at dksX1_findWorlds_1 18 rfl rfl)
theorem dX1_findWorlds_43 : decode cX1_findWorlds 43 = .ok (.iload_n 3, 1) := dk_29 (dk_at dksX1_findWorlds_1 19 rfl rfl)
theorem dX1_findWorlds_44 : decode cX1_findWorlds 44 = .ok (.ishl, 1) := dk_120 (dk_at dksX1_findWorlds_1 20 rfl rfl)
theorem dX1_findWorlds_45 : decode cX1_findWorlds 45 = .ok (.iconst (-1), 1) := dk_2 (dk_at dksX1_findWorlds_1 21 rfl rfl)
theorem dX1_findWorlds_46 : decode cX1_findWorlds 46 = .ok (.ixor, 1) := dk_130 (dk_at dksX1_findWorlds_1 22 rfl rfl)
theorem dX1_findWorlds_47 : decode cX1_findWorlds 47 = .ok (.iand, 1) := dk_126 (dk_at dksX1_findWorlds_1 23 rfl rfl)
theorem dX1_findWorlds_48 : decode cX1_findWorlds 48 = .ok (.laload, 1) := dk_47 (dk_at dksX1_findWorlds_2 0 rfl rfl)
theorem dX1_findWorlds_49 : decode cX1_findWorlds 49 = .ok (.aload_n 0, 1) := dk_42 (dk_at dksX1_findWorlds_2 1 rfl rfl)
theorem dX1_findWorlds_50 : decode cX1_findWorlds 50 = .ok (.getfield 12, 3) := dk_180 0 12 (dk_at dksX1_findWorlds_2 2 rfl rfl)
theorem dX1_findWorlds_53 : decode cX1_findWorlds 53 = .ok (.getfield 114, 3) := dk_180 0 114 (dk_at dksX1_findWorlds_2 5 rfl rfl)
theorem dX1_findWorlds_56 : decode cX1_findWorlds 56 = .ok (.iload_n 3, 1) := dk_29 (dk_at dksX1_findWorlds_2 8 rfl rfl)
theorem dX1_findWorlds_57 : decode cX1_findWorlds 57 = .ok (.laload, 1) := dk_47 (dk_at dksX1_findWorlds_2 9 rfl rfl)
theorem dX1_findWorlds_58 : decode cX1_findWorlds 58 = .ok (.land, 1) := dk_127 (dk_at dksX1_findWorlds_2 10 rfl rfl)
theorem dX1_findWorlds_59 : decode cX1_findWorlds 59 = .ok (.lastore, 1) := dk_80 (dk_at dksX1_findWorlds_2 11 rfl rfl)
theorem dX1_findWorlds_60 : decode cX1_findWorlds 60 = .ok (.iinc 2 1, 3) := dk_132 2 1 (dk_at dksX1_findWorlds_2 12 rfl rfl)
theorem dX1_findWorlds_63 : decode cX1_findWorlds 63 = .ok (.goto (-49), 3) := dk_167 255 207 (dk_at dksX1_findWorlds_2 15 rfl rfl)
theorem dX1_findWorlds_66 : decode cX1_findWorlds 66 = .ok (.return_, 1) := dk_177 (dk_at dksX1_findWorlds_2 18 rfl rfl)
abbrev cX1_sets : ByteArray := prog_1_method_47_code
def yX1_sets : MethodName := ⟨RX1, "sets", "(II)I"⟩
def dkwX1_sets_7 : List UInt8 := [167, 0, 15, 28, 5, 160, 0, 8, 21, 5, 167, 0, 5, 21, 6, 172]
abbrev dktX1_sets_7 : List UInt8 := dkwX1_sets_7 ++ []
def dkwX1_sets_6 : List UInt8 := [54, 5, 132, 7, 1, 167, 255, 155, 28, 154, 0, 7, 29, 167, 0, 25, 28, 4, 160, 0, 8, 21, 4]
abbrev dktX1_sets_6 : List UInt8 := dkwX1_sets_6 ++ dktX1_sets_7
def dkwX1_sets_5 : List UInt8 := [164, 0, 7, 21, 7, 54, 4, 21, 5, 42, 21, 7, 182, 1, 75, 153, 0, 7, 4, 167, 0, 4, 3, 96]
abbrev dktX1_sets_5 : List UInt8 := dkwX1_sets_5 ++ dktX1_sets_6
def dkwX1_sets_4 : List UInt8 := [21, 7, 54, 6, 167, 0, 45, 132, 3, 1, 21, 4, 2, 159, 0, 13, 21, 8, 21, 4, 184, 1, 13]
abbrev dktX1_sets_4 : List UInt8 := dkwX1_sets_4 ++ dktX1_sets_5
def dkwX1_sets_3 : List UInt8 := [21, 7, 47, 9, 148, 154, 0, 26, 21, 6, 2, 159, 0, 13, 21, 8, 21, 6, 184, 1, 13, 162, 0, 52]
abbrev dktX1_sets_3 : List UInt8 := dkwX1_sets_3 ++ dktX1_sets_4
def dkwX1_sets_2 : List UInt8 := [4, 42, 180, 0, 12, 180, 0, 108, 120, 162, 0, 93, 21, 7, 184, 1, 13, 54, 8, 42, 180, 0, 87]
abbrev dktX1_sets_2 : List UInt8 := dkwX1_sets_2 ++ dktX1_sets_3
def dkwX1_sets_1 : List UInt8 := [182, 0, 146, 42, 27, 182, 1, 72, 3, 62, 2, 54, 4, 3, 54, 5, 2, 54, 6, 3, 54, 7, 21, 7]
abbrev dktX1_sets_1 : List UInt8 := dkwX1_sets_1 ++ dktX1_sets_2
def dkwX1_sets_0 : List UInt8 := [42, 27, 184, 0, 214, 153, 0, 16, 28, 155, 0, 12, 28, 6, 163, 0, 7, 4, 167, 0, 4, 3]
abbrev dktX1_sets_0 : List UInt8 := dkwX1_sets_0 ++ dktX1_sets_1
theorem dksX1_sets_0 : cX1_sets.data.toList.drop 0 = dktX1_sets_0 := by decide +kernel
theorem dksX1_sets_1 : cX1_sets.data.toList.drop 22 = dktX1_sets_1 := dk_seg dksX1_sets_0 22 rfl rfl
theorem dksX1_sets_2 : cX1_sets.data.toList.drop 46 = dktX1_sets_2 := dk_seg dksX1_sets_1 24 rfl rfl
theorem dksX1_sets_3 : cX1_sets.data.toList.drop 69 = dktX1_sets_3 := dk_seg dksX1_sets_2 23 rfl rfl
theorem dksX1_sets_4 : cX1_sets.data.toList.drop 93 = dktX1_sets_4 := dk_seg dksX1_sets_3 24 rfl rfl
theorem dksX1_sets_5 : cX1_sets.data.toList.drop 116 = dktX1_sets_5 := dk_seg dksX1_sets_4 23 rfl rfl
theorem dksX1_sets_6 : cX1_sets.data.toList.drop 140 = dktX1_sets_6 := dk_seg dksX1_sets_5 24 rfl rfl
theorem dksX1_sets_7 : cX1_sets.data.toList.drop 163 = dktX1_sets_7 := dk_seg dksX1_sets_6 23 rfl rfl
theorem dX1_sets_0 : decode cX1_sets 0 = .ok (.aload_n 0, 1) := dk_42 (dk_at dksX1_sets_0 0 rfl rfl)
theorem dX1_sets_1 : decode cX1_sets 1 = .ok (.iload_n 1, 1) := dk_27 (dk_at dksX1_sets_0 1 rfl rfl)
theorem dX1_sets_2 : decode cX1_sets 2 = .ok (.invokestatic 214, 3) := dk_184 0 214 (dk_at dksX1_sets_0 2 rfl rfl)
theorem dX1_sets_5 : decode cX1_sets 5 = .ok (.ifCond .eq 16, 3) := dk_153 0 16 (dk_at dksX1_sets_0 5 rfl rfl)
theorem dX1_sets_8 : decode cX1_sets 8 = .ok (.iload_n 2, 1) := dk_28 (dk_at dksX1_sets_0 8 rfl rfl)
theorem dX1_sets_9 : decode cX1_sets 9 = .ok (.ifCond .lt 12, 3) := dk_155 0 12 (dk_at dksX1_sets_0 9 rfl rfl)
theorem dX1_sets_12 : decode cX1_sets 12 = .ok (.iload_n 2, 1) := dk_28 (dk_at dksX1_sets_0 12 rfl rfl)
theorem dX1_sets_13 : decode cX1_sets 13 = .ok (.iconst 3, 1) := dk_6 (dk_at dksX1_sets_0 13 rfl rfl)
theorem dX1_sets_14 : decode cX1_sets 14 = .ok (.if_icmp .gt 7, 3) := dk_163 0 7 (dk_at dksX1_sets_0 14 rfl rfl)
theorem dX1_sets_17 : decode cX1_sets 17 = .ok (.iconst 1, 1) := dk_4 (dk_at dksX1_sets_0 17 rfl rfl)
theorem dX1_sets_18 : decode cX1_sets 18 = .ok (.goto 4, 3) := dk_167 0 4 (dk_at dksX1_sets_0 18 rfl rfl)
theorem dX1_sets_21 : decode cX1_sets 21 = .ok (.iconst 0, 1) := dk_3 (dk_at dksX1_sets_0 21 rfl rfl)
theorem dX1_sets_22 : decode cX1_sets 22 = .ok (.invokevirtual 146, 3) := dk_182 0 146 (dk_at dksX1_sets_1 0 rfl rfl)
theorem dX1_sets_25 : decode cX1_sets 25 = .ok (.aload_n 0, 1) := dk_42 (dk_at dksX1_sets_1 3 rfl rfl)
theorem dX1_sets_26 : decode cX1_sets 26 = .ok (.iload_n 1, 1) := dk_27 (dk_at dksX1_sets_1 4 rfl rfl)
theorem dX1_sets_27 : decode cX1_sets 27 = .ok (.invokevirtual 328, 3) := dk_182 1 72 (dk_at dksX1_sets_1 5 rfl rfl)
theorem dX1_sets_30 : decode cX1_sets 30 = .ok (.iconst 0, 1) := dk_3 (dk_at dksX1_sets_1 8 rfl rfl)
theorem dX1_sets_31 : decode cX1_sets 31 = .ok (.istore_n 3, 1) := dk_62 (dk_at dksX1_sets_1 9 rfl rfl)
theorem dX1_sets_32 : decode cX1_sets 32 = .ok (.iconst (-1), 1) := dk_2 (dk_at dksX1_sets_1 10 rfl rfl)
theorem dX1_sets_33 : decode cX1_sets 33 = .ok (.istore 4, 2) := dk_54 4 (dk_at dksX1_sets_1 11 rfl rfl)
theorem dX1_sets_35 : decode cX1_sets 35 = .ok (.iconst 0, 1) := dk_3 (dk_at dksX1_sets_1 13 rfl rfl)
theorem dX1_sets_36 : decode cX1_sets 36 = .ok (.istore 5, 2) := dk_54 5 (dk_at dksX1_sets_1 14 rfl rfl)
theorem dX1_sets_38 : decode cX1_sets 38 = .ok (.iconst (-1), 1) := dk_2 (dk_at dksX1_sets_1 16 rfl rfl)
theorem dX1_sets_39 : decode cX1_sets 39 = .ok (.istore 6, 2) := dk_54 6 (dk_at dksX1_sets_1 17 rfl rfl)
theorem dX1_sets_41 : decode cX1_sets 41 = .ok (.iconst 0, 1) := dk_3 (dk_at dksX1_sets_1 19 rfl rfl)
theorem dX1_sets_42 : decode cX1_sets 42 = .ok (.istore 7, 2) := dk_54 7 (dk_at dksX1_sets_1 20 rfl rfl)
theorem dX1_sets_44 : decode cX1_sets 44 = .ok (.iload 7, 2) := dk_21 7 (dk_at dksX1_sets_1 22 rfl rfl)
theorem dX1_sets_46 : decode cX1_sets 46 = .ok (.iconst 1, 1) := dk_4 (dk_at dksX1_sets_2 0 rfl rfl)
theorem dX1_sets_47 : decode cX1_sets 47 = .ok (.aload_n 0, 1) := dk_42 (dk_at dksX1_sets_2 1 rfl rfl)
theorem dX1_sets_48 : decode cX1_sets 48 = .ok (.getfield 12, 3) := dk_180 0 12 (dk_at dksX1_sets_2 2 rfl rfl)
theorem dX1_sets_51 : decode cX1_sets 51 = .ok (.getfield 108, 3) := dk_180 0 108 (dk_at dksX1_sets_2 5 rfl rfl)
theorem dX1_sets_54 : decode cX1_sets 54 = .ok (.ishl, 1) := dk_120 (dk_at dksX1_sets_2 8 rfl rfl)
theorem dX1_sets_55 : decode cX1_sets 55 = .ok (.if_icmp .ge 93, 3) := dk_162 0 93 (dk_at dksX1_sets_2 9 rfl rfl)
theorem dX1_sets_58 : decode cX1_sets 58 = .ok (.iload 7, 2) := dk_21 7 (dk_at dksX1_sets_2 12 rfl rfl)
theorem dX1_sets_60 : decode cX1_sets 60 = .ok (.invokestatic 269, 3) := dk_184 1 13 (dk_at dksX1_sets_2 14 rfl rfl)
theorem dX1_sets_63 : decode cX1_sets 63 = .ok (.istore 8, 2) := dk_54 8 (dk_at dksX1_sets_2 17 rfl rfl)
theorem dX1_sets_65 : decode cX1_sets 65 = .ok (.aload_n 0, 1) := dk_42 (dk_at dksX1_sets_2 19 rfl rfl)
theorem dX1_sets_66 : decode cX1_sets 66 = .ok (.getfield 87, 3) := dk_180 0 87 (dk_at dksX1_sets_2 20 rfl rfl)
theorem dX1_sets_69 : decode cX1_sets 69 = .ok (.iload 7, 2) := dk_21 7 (dk_at dksX1_sets_3 0 rfl rfl)
theorem dX1_sets_71 : decode cX1_sets 71 = .ok (.laload, 1) := dk_47 (dk_at dksX1_sets_3 2 rfl rfl)
theorem dX1_sets_72 : decode cX1_sets 72 = .ok (.lconst 0, 1) := dk_9 (dk_at dksX1_sets_3 3 rfl rfl)
theorem dX1_sets_73 : decode cX1_sets 73 = .ok (.lcmp, 1) := dk_148 (dk_at dksX1_sets_3 4 rfl rfl)
theorem dX1_sets_74 : decode cX1_sets 74 = .ok (.ifCond .ne 26, 3) := dk_154 0 26 (dk_at dksX1_sets_3 5 rfl rfl)
theorem dX1_sets_77 : decode cX1_sets 77 = .ok (.iload 6, 2) := dk_21 6 (dk_at dksX1_sets_3 8 rfl rfl)
theorem dX1_sets_79 : decode cX1_sets 79 = .ok (.iconst (-1), 1) := dk_2 (dk_at dksX1_sets_3 10 rfl rfl)
theorem dX1_sets_80 : decode cX1_sets 80 = .ok (.if_icmp .eq 13, 3) := dk_159 0 13 (dk_at dksX1_sets_3 11 rfl rfl)
theorem dX1_sets_83 : decode cX1_sets 83 = .ok (.iload 8, 2) := dk_21 8 (dk_at dksX1_sets_3 14 rfl rfl)
theorem dX1_sets_85 : decode cX1_sets 85 = .ok (.iload 6, 2) := dk_21 6 (dk_at dksX1_sets_3 16 rfl rfl)
theorem dX1_sets_87 : decode cX1_sets 87 = .ok (.invokestatic 269, 3) := dk_184 1 13 (dk_at dksX1_sets_3 18 rfl rfl)
theorem dX1_sets_90 : decode cX1_sets 90 = .ok (.if_icmp .ge 52, 3) := dk_162 0 52 (dk_at dksX1_sets_3 21 rfl rfl)
theorem dX1_sets_93 : decode cX1_sets 93 = .ok (.iload 7, 2) := dk_21 7 (dk_at dksX1_sets_4 0 rfl rfl)
theorem dX1_sets_95 : decode cX1_sets 95 = .ok (.istore 6, 2) := dk_54 6 (dk_at dksX1_sets_4 2 rfl rfl)
theorem dX1_sets_97 : decode cX1_sets 97 = .ok (.goto 45, 3) := dk_167 0 45 (dk_at dksX1_sets_4 4 rfl rfl)
theorem dX1_sets_100 : decode cX1_sets 100 = .ok (.iinc 3 1, 3) := dk_132 3 1 (dk_at dksX1_sets_4 7 rfl rfl)
theorem dX1_sets_103 : decode cX1_sets 103 = .ok (.iload 4, 2) := dk_21 4 (dk_at dksX1_sets_4 10 rfl rfl)
theorem dX1_sets_105 : decode cX1_sets 105 = .ok (.iconst (-1), 1) := dk_2 (dk_at dksX1_sets_4 12 rfl rfl)
theorem dX1_sets_106 : decode cX1_sets 106 = .ok (.if_icmp .eq 13, 3) := dk_159 0 13 (dk_at dksX1_sets_4 13 rfl rfl)
theorem dX1_sets_109 : decode cX1_sets 109 = .ok (.iload 8, 2) := dk_21 8 (dk_at dksX1_sets_4 16 rfl rfl)
theorem dX1_sets_111 : decode cX1_sets 111 = .ok (.iload 4, 2) := dk_21 4 (dk_at dksX1_sets_4 18 rfl rfl)
theorem dX1_sets_113 : decode cX1_sets 113 = .ok (.invokestatic 269, 3) := dk_184 1 13 (dk_at dksX1_sets_4 20 rfl rfl)
theorem dX1_sets_116 : decode cX1_sets 116 = .ok (.if_icmp .le 7, 3) := dk_164 0 7 (dk_at dksX1_sets_5 0 rfl rfl)
theorem dX1_sets_119 : decode cX1_sets 119 = .ok (.iload 7, 2) := dk_21 7 (dk_at dksX1_sets_5 3 rfl rfl)
theorem dX1_sets_121 : decode cX1_sets 121 = .ok (.istore 4, 2) := dk_54 4 (dk_at dksX1_sets_5 5 rfl rfl)
theorem dX1_sets_123 : decode cX1_sets 123 = .ok (.iload 5, 2) := dk_21 5 (dk_at dksX1_sets_5 7 rfl rfl)
theorem dX1_sets_125 : decode cX1_sets 125 = .ok (.aload_n 0, 1) := dk_42 (dk_at dksX1_sets_5 9 rfl rfl)
theorem dX1_sets_126 : decode cX1_sets 126 = .ok (.iload 7, 2) := dk_21 7 (dk_at dksX1_sets_5 10 rfl rfl)
theorem dX1_sets_128 : decode cX1_sets 128 = .ok (.invokevirtual 331, 3) := dk_182 1 75 (dk_at dksX1_sets_5 12 rfl rfl)
theorem dX1_sets_131 : decode cX1_sets 131 = .ok (.ifCond .eq 7, 3) := dk_153 0 7 (dk_at dksX1_sets_5 15 rfl rfl)
theorem dX1_sets_134 : decode cX1_sets 134 = .ok (.iconst 1, 1) := dk_4 (dk_at dksX1_sets_5 18 rfl rfl)
theorem dX1_sets_135 : decode cX1_sets 135 = .ok (.goto 4, 3) := dk_167 0 4 (dk_at dksX1_sets_5 19 rfl rfl)
theorem dX1_sets_138 : decode cX1_sets 138 = .ok (.iconst 0, 1) := dk_3 (dk_at dksX1_sets_5 22 rfl rfl)
theorem dX1_sets_139 : decode cX1_sets 139 = .ok (.iadd, 1) := dk_96 (dk_at dksX1_sets_5 23 rfl rfl)
theorem dX1_sets_140 : decode cX1_sets 140 = .ok (.istore 5, 2) := dk_54 5 (dk_at dksX1_sets_6 0 rfl rfl)
theorem dX1_sets_142 : decode cX1_sets 142 = .ok (.iinc 7 1, 3) := dk_132 7 1 (dk_at dksX1_sets_6 2 rfl rfl)
theorem dX1_sets_145 : decode cX1_sets 145 = .ok (.goto (-101), 3) := dk_167 255 155 (dk_at dksX1_sets_6 5 rfl rfl)
theorem dX1_sets_148 : decode cX1_sets 148 = .ok (.iload_n 2, 1) := dk_28 (dk_at dksX1_sets_6 8 rfl rfl)
theorem dX1_sets_149 : decode cX1_sets 149 = .ok (.ifCond .ne 7, 3) := dk_154 0 7 (dk_at dksX1_sets_6 9 rfl rfl)
theorem dX1_sets_152 : decode cX1_sets 152 = .ok (.iload_n 3, 1) := dk_29 (dk_at dksX1_sets_6 12 rfl rfl)
theorem dX1_sets_153 : decode cX1_sets 153 = .ok (.goto 25, 3) := dk_167 0 25 (dk_at dksX1_sets_6 13 rfl rfl)
theorem dX1_sets_156 : decode cX1_sets 156 = .ok (.iload_n 2, 1) := dk_28 (dk_at dksX1_sets_6 16 rfl rfl)
theorem dX1_sets_157 : decode cX1_sets 157 = .ok (.iconst 1, 1) := dk_4 (dk_at dksX1_sets_6 17 rfl rfl)
theorem dX1_sets_158 : decode cX1_sets 158 = .ok (.if_icmp .ne 8, 3) := dk_160 0 8 (dk_at dksX1_sets_6 18 rfl rfl)
theorem dX1_sets_161 : decode cX1_sets 161 = .ok (.iload 4, 2) := dk_21 4 (dk_at dksX1_sets_6 21 rfl rfl)
theorem dX1_sets_163 : decode cX1_sets 163 = .ok (.goto 15, 3) := dk_167 0 15 (dk_at dksX1_sets_7 0 rfl rfl)
theorem dX1_sets_166 : decode cX1_sets 166 = .ok (.iload_n 2, 1) := dk_28 (dk_at dksX1_sets_7 3 rfl rfl)
theorem dX1_sets_167 : decode cX1_sets 167 = .ok (.iconst 2, 1) := dk_5 (dk_at dksX1_sets_7 4 rfl rfl)
theorem dX1_sets_168 : decode cX1_sets 168 = .ok (.if_icmp .ne 8, 3) := dk_160 0 8 (dk_at dksX1_sets_7 5 rfl rfl)
theorem dX1_sets_171 : decode cX1_sets 171 = .ok (.iload 5, 2) := dk_21 5 (dk_at dksX1_sets_7 8 rfl rfl)
theorem dX1_sets_173 : decode cX1_sets 173 = .ok (.goto 5, 3) := dk_167 0 5 (dk_at dksX1_sets_7 10 rfl rfl)
theorem dX1_sets_176 : decode cX1_sets 176 = .ok (.iload 6, 2) := dk_21 6 (dk_at dksX1_sets_7 13 rfl rfl)
theorem dX1_sets_178 : decode cX1_sets 178 = .ok (.ireturn, 1) := dk_172 (dk_at dksX1_sets_7 15 rfl rfl)
abbrev cX1_isWhole : ByteArray := prog_1_method_45_code
def yX1_isWhole : MethodName := ⟨RX1, "isWhole", "(I)Z"⟩
def dkwX1_isWhole_2 : List UInt8 := [153, 0, 5, 3, 172, 132, 2, 1, 167, 255, 217, 4, 172]
abbrev dktX1_isWhole_2 : List UInt8 := dkwX1_isWhole_2 ++ []
def dkwX1_isWhole_1 : List UInt8 := [162, 0, 34, 27, 28, 122, 4, 126, 154, 0, 20, 42, 180, 0, 87, 27, 4, 28, 120, 128, 47, 9, 148]
abbrev dktX1_isWhole_1 : List UInt8 := dkwX1_isWhole_1 ++ dktX1_isWhole_2
def dkwX1_isWhole_0 : List UInt8 := [42, 180, 0, 87, 27, 47, 9, 148, 154, 0, 5, 3, 172, 3, 61, 28, 42, 180, 0, 12, 180, 0, 108]
abbrev dktX1_isWhole_0 : List UInt8 := dkwX1_isWhole_0 ++ dktX1_isWhole_1
theorem dksX1_isWhole_0 : cX1_isWhole.data.toList.drop 0 = dktX1_isWhole_0 := by decide +kernel
theorem dksX1_isWhole_1 : cX1_isWhole.data.toList.drop 23 = dktX1_isWhole_1 := dk_seg dksX1_isWhole_0 23 rfl rfl
theorem dksX1_isWhole_2 : cX1_isWhole.data.toList.drop 46 = dktX1_isWhole_2 := dk_seg dksX1_isWhole_1 23 rfl rfl
theorem dX1_isWhole_0 : decode cX1_isWhole 0 = .ok (.aload_n 0, 1) := dk_42 (dk_at dksX1_isWhole_0 0 rfl rfl)
theorem dX1_isWhole_1 : decode cX1_isWhole 1 = .ok (.getfield 87, 3) := dk_180 0 87 (dk_at dksX1_isWhole_0 1 rfl rfl)
theorem dX1_isWhole_4 : decode cX1_isWhole 4 = .ok (.iload_n 1, 1) := dk_27 (dk_at dksX1_isWhole_0 4 rfl rfl)
theorem dX1_isWhole_5 : decode cX1_isWhole 5 = .ok (.laload, 1) := dk_47 (dk_at dksX1_isWhole_0 5 rfl rfl)
theorem dX1_isWhole_6 : decode cX1_isWhole 6 = .ok (.lconst 0, 1) := dk_9 (dk_at dksX1_isWhole_0 6 rfl rfl)
theorem dX1_isWhole_7 : decode cX1_isWhole 7 = .ok (.lcmp, 1) := dk_148 (dk_at dksX1_isWhole_0 7 rfl rfl)
theorem dX1_isWhole_8 : decode cX1_isWhole 8 = .ok (.ifCond .ne 5, 3) := dk_154 0 5 (dk_at dksX1_isWhole_0 8 rfl rfl)
theorem dX1_isWhole_11 : decode cX1_isWhole 11 = .ok (.iconst 0, 1) := dk_3 (dk_at dksX1_isWhole_0 11 rfl rfl)
theorem dX1_isWhole_12 : decode cX1_isWhole 12 = .ok (.ireturn, 1) := dk_172 (dk_at dksX1_isWhole_0 12 rfl rfl)
theorem dX1_isWhole_13 : decode cX1_isWhole 13 = .ok (.iconst 0, 1) := dk_3 (dk_at dksX1_isWhole_0 13 rfl rfl)
theorem dX1_isWhole_14 : decode cX1_isWhole 14 = .ok (.istore_n 2, 1) := dk_61 (dk_at dksX1_isWhole_0 14 rfl rfl)
theorem dX1_isWhole_15 : decode cX1_isWhole 15 = .ok (.iload_n 2, 1) := dk_28 (dk_at dksX1_isWhole_0 15 rfl rfl)
theorem dX1_isWhole_16 : decode cX1_isWhole 16 = .ok (.aload_n 0, 1) := dk_42 (dk_at dksX1_isWhole_0 16 rfl rfl)
theorem dX1_isWhole_17 : decode cX1_isWhole 17 = .ok (.getfield 12, 3) := dk_180 0 12 (dk_at dksX1_isWhole_0 17 rfl rfl)
theorem dX1_isWhole_20 : decode cX1_isWhole 20 = .ok (.getfield 108, 3) := dk_180 0 108 (dk_at dksX1_isWhole_0 20 rfl rfl)
theorem dX1_isWhole_23 : decode cX1_isWhole 23 = .ok (.if_icmp .ge 34, 3) := dk_162 0 34 (dk_at dksX1_isWhole_1 0 rfl rfl)
theorem dX1_isWhole_26 : decode cX1_isWhole 26 = .ok (.iload_n 1, 1) := dk_27 (dk_at dksX1_isWhole_1 3 rfl rfl)
theorem dX1_isWhole_27 : decode cX1_isWhole 27 = .ok (.iload_n 2, 1) := dk_28 (dk_at dksX1_isWhole_1 4 rfl rfl)
theorem dX1_isWhole_28 : decode cX1_isWhole 28 = .ok (.ishr, 1) := dk_122 (dk_at dksX1_isWhole_1 5 rfl rfl)
theorem dX1_isWhole_29 : decode cX1_isWhole 29 = .ok (.iconst 1, 1) := dk_4 (dk_at dksX1_isWhole_1 6 rfl rfl)
theorem dX1_isWhole_30 : decode cX1_isWhole 30 = .ok (.iand, 1) := dk_126 (dk_at dksX1_isWhole_1 7 rfl rfl)
theorem dX1_isWhole_31 : decode cX1_isWhole 31 = .ok (.ifCond .ne 20, 3) := dk_154 0 20 (dk_at dksX1_isWhole_1 8 rfl rfl)
theorem dX1_isWhole_34 : decode cX1_isWhole 34 = .ok (.aload_n 0, 1) := dk_42 (dk_at dksX1_isWhole_1 11 rfl rfl)
theorem dX1_isWhole_35 : decode cX1_isWhole 35 = .ok (.getfield 87, 3) := dk_180 0 87 (dk_at dksX1_isWhole_1 12 rfl rfl)
theorem dX1_isWhole_38 : decode cX1_isWhole 38 = .ok (.iload_n 1, 1) := dk_27 (dk_at dksX1_isWhole_1 15 rfl rfl)
theorem dX1_isWhole_39 : decode cX1_isWhole 39 = .ok (.iconst 1, 1) := dk_4 (dk_at dksX1_isWhole_1 16 rfl rfl)
theorem dX1_isWhole_40 : decode cX1_isWhole 40 = .ok (.iload_n 2, 1) := dk_28 (dk_at dksX1_isWhole_1 17 rfl rfl)
theorem dX1_isWhole_41 : decode cX1_isWhole 41 = .ok (.ishl, 1) := dk_120 (dk_at dksX1_isWhole_1 18 rfl rfl)
theorem dX1_isWhole_42 : decode cX1_isWhole 42 = .ok (.ior, 1) := dk_128 (dk_at dksX1_isWhole_1 19 rfl rfl)
theorem dX1_isWhole_43 : decode cX1_isWhole 43 = .ok (.laload, 1) := dk_47 (dk_at dksX1_isWhole_1 20 rfl rfl)
theorem dX1_isWhole_44 : decode cX1_isWhole 44 = .ok (.lconst 0, 1) := dk_9 (dk_at dksX1_isWhole_1 21 rfl rfl)
theorem dX1_isWhole_45 : decode cX1_isWhole 45 = .ok (.lcmp, 1) := dk_148 (dk_at dksX1_isWhole_1 22 rfl rfl)
theorem dX1_isWhole_46 : decode cX1_isWhole 46 = .ok (.ifCond .eq 5, 3) := dk_153 0 5 (dk_at dksX1_isWhole_2 0 rfl rfl)
theorem dX1_isWhole_49 : decode cX1_isWhole 49 = .ok (.iconst 0, 1) := dk_3 (dk_at dksX1_isWhole_2 3 rfl rfl)
theorem dX1_isWhole_50 : decode cX1_isWhole 50 = .ok (.ireturn, 1) := dk_172 (dk_at dksX1_isWhole_2 4 rfl rfl)
theorem dX1_isWhole_51 : decode cX1_isWhole 51 = .ok (.iinc 2 1, 3) := dk_132 2 1 (dk_at dksX1_isWhole_2 5 rfl rfl)
theorem dX1_isWhole_54 : decode cX1_isWhole 54 = .ok (.goto (-39), 3) := dk_167 255 217 (dk_at dksX1_isWhole_2 8 rfl rfl)
theorem dX1_isWhole_57 : decode cX1_isWhole 57 = .ok (.iconst 1, 1) := dk_4 (dk_at dksX1_isWhole_2 11 rfl rfl)
theorem dX1_isWhole_58 : decode cX1_isWhole 58 = .ok (.ireturn, 1) := dk_172 (dk_at dksX1_isWhole_2 12 rfl rfl)
abbrev cX1_whole : ByteArray := prog_1_method_48_code
def yX1_whole : MethodName := ⟨RX1, "whole", "(II)I"⟩
def dkwX1_whole_2 : List UInt8 := [160, 0, 6, 21, 4, 172, 132, 3, 1, 132, 4, 1, 167, 255, 216, 2, 172]
abbrev dktX1_whole_2 : List UInt8 := dkwX1_whole_2 ++ []
def dkwX1_whole_1 : List UInt8 := [180, 0, 12, 180, 0, 108, 120, 162, 0, 32, 42, 21, 4, 182, 1, 75, 154, 0, 6, 167, 0, 14, 29, 28]
abbrev dktX1_whole_1 : List UInt8 := dkwX1_whole_1 ++ dktX1_whole_2
def dkwX1_whole_0 : List UInt8 := [42, 27, 184, 0, 214, 182, 0, 146, 42, 27, 182, 1, 72, 3, 62, 3, 54, 4, 21, 4, 4, 42]
abbrev dktX1_whole_0 : List UInt8 := dkwX1_whole_0 ++ dktX1_whole_1
theorem dksX1_whole_0 : cX1_whole.data.toList.drop 0 = dktX1_whole_0 := by decide +kernel
theorem dksX1_whole_1 : cX1_whole.data.toList.drop 22 = dktX1_whole_1 := dk_seg dksX1_whole_0 22 rfl rfl
theorem dksX1_whole_2 : cX1_whole.data.toList.drop 46 = dktX1_whole_2 := dk_seg dksX1_whole_1 24 rfl rfl
theorem dX1_whole_0 : decode cX1_whole 0 = .ok (.aload_n 0, 1) := dk_42 (dk_at dksX1_whole_0 0 rfl rfl)
theorem dX1_whole_1 : decode cX1_whole 1 = .ok (.iload_n 1, 1) := dk_27 (dk_at dksX1_whole_0 1 rfl rfl)
theorem dX1_whole_2 : decode cX1_whole 2 = .ok (.invokestatic 214, 3) := dk_184 0 214 (dk_at dksX1_whole_0 2 rfl rfl)
theorem dX1_whole_5 : decode cX1_whole 5 = .ok (.invokevirtual 146, 3) := dk_182 0 146 (dk_at dksX1_whole_0 5 rfl rfl)
theorem dX1_whole_8 : decode cX1_whole 8 = .ok (.aload_n 0, 1) := dk_42 (dk_at dksX1_whole_0 8 rfl rfl)
theorem dX1_whole_9 : decode cX1_whole 9 = .ok (.iload_n 1, 1) := dk_27 (dk_at dksX1_whole_0 9 rfl rfl)
theorem dX1_whole_10 : decode cX1_whole 10 = .ok (.invokevirtual 328, 3) := dk_182 1 72 (dk_at dksX1_whole_0 10 rfl rfl)
theorem dX1_whole_13 : decode cX1_whole 13 = .ok (.iconst 0, 1) := dk_3 (dk_at dksX1_whole_0 13 rfl rfl)
theorem dX1_whole_14 : decode cX1_whole 14 = .ok (.istore_n 3, 1) := dk_62 (dk_at dksX1_whole_0 14 rfl rfl)
theorem dX1_whole_15 : decode cX1_whole 15 = .ok (.iconst 0, 1) := dk_3 (dk_at dksX1_whole_0 15 rfl rfl)
theorem dX1_whole_16 : decode cX1_whole 16 = .ok (.istore 4, 2) := dk_54 4 (dk_at dksX1_whole_0 16 rfl rfl)
theorem dX1_whole_18 : decode cX1_whole 18 = .ok (.iload 4, 2) := dk_21 4 (dk_at dksX1_whole_0 18 rfl rfl)
theorem dX1_whole_20 : decode cX1_whole 20 = .ok (.iconst 1, 1) := dk_4 (dk_at dksX1_whole_0 20 rfl rfl)
theorem dX1_whole_21 : decode cX1_whole 21 = .ok (.aload_n 0, 1) := dk_42 (dk_at dksX1_whole_0 21 rfl rfl)
theorem dX1_whole_22 : decode cX1_whole 22 = .ok (.getfield 12, 3) := dk_180 0 12 (dk_at dksX1_whole_1 0 rfl rfl)
theorem dX1_whole_25 : decode cX1_whole 25 = .ok (.getfield 108, 3) := dk_180 0 108 (dk_at dksX1_whole_1 3 rfl rfl)
theorem dX1_whole_28 : decode cX1_whole 28 = .ok (.ishl, 1) := dk_120 (dk_at dksX1_whole_1 6 rfl rfl)
theorem dX1_whole_29 : decode cX1_whole 29 = .ok (.if_icmp .ge 32, 3) := dk_162 0 32 (dk_at dksX1_whole_1 7 rfl rfl)
theorem dX1_whole_32 : decode cX1_whole 32 = .ok (.aload_n 0, 1) := dk_42 (dk_at dksX1_whole_1 10 rfl rfl)
theorem dX1_whole_33 : decode cX1_whole 33 = .ok (.iload 4, 2) := dk_21 4 (dk_at dksX1_whole_1 11 rfl rfl)
theorem dX1_whole_35 : decode cX1_whole 35 = .ok (.invokevirtual 331, 3) := dk_182 1 75 (dk_at dksX1_whole_1 13 rfl rfl)
theorem dX1_whole_38 : decode cX1_whole 38 = .ok (.ifCond .ne 6, 3) := dk_154 0 6 (dk_at dksX1_whole_1 16 rfl rfl)
theorem dX1_whole_41 : decode cX1_whole 41 = .ok (.goto 14, 3) := dk_167 0 14 (dk_at dksX1_whole_1 19 rfl rfl)
theorem dX1_whole_44 : decode cX1_whole 44 = .ok (.iload_n 3, 1) := dk_29 (dk_at dksX1_whole_1 22 rfl rfl)
theorem dX1_whole_45 : decode cX1_whole 45 = .ok (.iload_n 2, 1) := dk_28 (dk_at dksX1_whole_1 23 rfl rfl)
theorem dX1_whole_46 : decode cX1_whole 46 = .ok (.if_icmp .ne 6, 3) := dk_160 0 6 (dk_at dksX1_whole_2 0 rfl rfl)
theorem dX1_whole_49 : decode cX1_whole 49 = .ok (.iload 4, 2) := dk_21 4 (dk_at dksX1_whole_2 3 rfl rfl)
theorem dX1_whole_51 : decode cX1_whole 51 = .ok (.ireturn, 1) := dk_172 (dk_at dksX1_whole_2 5 rfl rfl)
theorem dX1_whole_52 : decode cX1_whole 52 = .ok (.iinc 3 1, 3) := dk_132 3 1 (dk_at dksX1_whole_2 6 rfl rfl)
theorem dX1_whole_55 : decode cX1_whole 55 = .ok (.iinc 4 1, 3) := dk_132 4 1 (dk_at dksX1_whole_2 9 rfl rfl)
theorem dX1_whole_58 : decode cX1_whole 58 = .ok (.goto (-40), 3) := dk_167 255 216 (dk_at dksX1_whole_2 12 rfl rfl)
theorem dX1_whole_61 : decode cX1_whole 61 = .ok (.iconst (-1), 1) := dk_2 (dk_at dksX1_whole_2 15 rfl rfl)
theorem dX1_whole_62 : decode cX1_whole 62 = .ok (.ireturn, 1) := dk_172 (dk_at dksX1_whole_2 16 rfl rfl)
abbrev cX1_proof : ByteArray := prog_1_method_49_code
def yX1_proof : MethodName := ⟨RX1, "proof", "(I)I"⟩
def dkwX1_proof_3 : List UInt8 := [184, 1, 13, 162, 0, 5, 29, 61, 132, 3, 1, 167, 255, 191, 28, 172]
abbrev dktX1_proof_3 : List UInt8 := dkwX1_proof_3 ++ []
def dkwX1_proof_2 : List UInt8 := [42, 180, 0, 29, 20, 0, 27, 131, 127, 9, 148, 154, 0, 21, 28, 2, 159, 0, 14, 29, 184, 1, 13, 28]
abbrev dktX1_proof_2 : List UInt8 := dkwX1_proof_2 ++ dktX1_proof_3
def dkwX1_proof_1 : List UInt8 := [180, 0, 108, 120, 162, 0, 58, 42, 180, 0, 87, 29, 47, 9, 148, 153, 0, 41, 42, 180, 0, 87, 29, 47]
abbrev dktX1_proof_1 : List UInt8 := dkwX1_proof_1 ++ dktX1_proof_2
def dkwX1_proof_0 : List UInt8 := [42, 27, 184, 0, 214, 182, 0, 146, 42, 27, 182, 1, 72, 2, 61, 3, 62, 29, 4, 42, 180, 0, 12]
abbrev dktX1_proof_0 : List UInt8 := dkwX1_proof_0 ++ dktX1_proof_1
theorem dksX1_proof_0 : cX1_proof.data.toList.drop 0 = dktX1_proof_0 := by decide +kernel
theorem dksX1_proof_1 : cX1_proof.data.toList.drop 23 = dktX1_proof_1 := dk_seg dksX1_proof_0 23 rfl rfl
theorem dksX1_proof_2 : cX1_proof.data.toList.drop 47 = dktX1_proof_2 := dk_seg dksX1_proof_1 24 rfl rfl
theorem dksX1_proof_3 : cX1_proof.data.toList.drop 71 = dktX1_proof_3 := dk_seg dksX1_proof_2 24 rfl rfl
theorem dX1_proof_0 : decode cX1_proof 0 = .ok (.aload_n 0, 1) := dk_42 (dk_at dksX1_proof_0 0 rfl rfl)
theorem dX1_proof_1 : decode cX1_proof 1 = .ok (.iload_n 1, 1) := dk_27 (dk_at dksX1_proof_0 1 rfl rfl)
theorem dX1_proof_2 : decode cX1_proof 2 = .ok (.invokestatic 214, 3) := dk_184 0 214 (dk_at dksX1_proof_0 2 rfl rfl)
theorem dX1_proof_5 : decode cX1_proof 5 = .ok (.invokevirtual 146, 3) := dk_182 0 146 (dk_at dksX1_proof_0 5 rfl rfl)
theorem dX1_proof_8 : decode cX1_proof 8 = .ok (.aload_n 0, 1) := dk_42 (dk_at dksX1_proof_0 8 rfl rfl)
theorem dX1_proof_9 : decode cX1_proof 9 = .ok (.iload_n 1, 1) := dk_27 (dk_at dksX1_proof_0 9 rfl rfl)
theorem dX1_proof_10 : decode cX1_proof 10 = .ok (.invokevirtual 328, 3) := dk_182 1 72 (dk_at dksX1_proof_0 10 rfl rfl)
theorem dX1_proof_13 : decode cX1_proof 13 = .ok (.iconst (-1), 1) := dk_2 (dk_at dksX1_proof_0 13 rfl rfl)
theorem dX1_proof_14 : decode cX1_proof 14 = .ok (.istore_n 2, 1) := dk_61 (dk_at dksX1_proof_0 14 rfl rfl)
theorem dX1_proof_15 : decode cX1_proof 15 = .ok (.iconst 0, 1) := dk_3 (dk_at dksX1_proof_0 15 rfl rfl)
theorem dX1_proof_16 : decode cX1_proof 16 = .ok (.istore_n 3, 1) := dk_62 (dk_at dksX1_proof_0 16 rfl rfl)
theorem dX1_proof_17 : decode cX1_proof 17 = .ok (.iload_n 3, 1) := dk_29 (dk_at dksX1_proof_0 17 rfl rfl)
theorem dX1_proof_18 : decode cX1_proof 18 = .ok (.iconst 1, 1) := dk_4 (dk_at dksX1_proof_0 18 rfl rfl)
theorem dX1_proof_19 : decode cX1_proof 19 = .ok (.aload_n 0, 1) := dk_42 (dk_at dksX1_proof_0 19 rfl rfl)
theorem dX1_proof_20 : decode cX1_proof 20 = .ok (.getfield 12, 3) := dk_180 0 12 (dk_at dksX1_proof_0 20 rfl rfl)
theorem dX1_proof_23 : decode cX1_proof 23 = .ok (.getfield 108, 3) := dk_180 0 108 (dk_at dksX1_proof_1 0 rfl rfl)
theorem dX1_proof_26 : decode cX1_proof 26 = .ok (.ishl, 1) := dk_120 (dk_at dksX1_proof_1 3 rfl rfl)
theorem dX1_proof_27 : decode cX1_proof 27 = .ok (.if_icmp .ge 58, 3) := dk_162 0 58 (dk_at dksX1_proof_1 4 rfl rfl)
theorem dX1_proof_30 : decode cX1_proof 30 = .ok (.aload_n 0, 1) := dk_42 (dk_at dksX1_proof_1 7 rfl rfl)
theorem dX1_proof_31 : decode cX1_proof 31 = .ok (.getfield 87, 3) := dk_180 0 87 (dk_at dksX1_proof_1 8 rfl rfl)
theorem dX1_proof_34 : decode cX1_proof 34 = .ok (.iload_n 3, 1) := dk_29 (dk_at dksX1_proof_1 11 rfl rfl)
theorem dX1_proof_35 : decode cX1_proof 35 = .ok (.laload, 1) := dk_47 (dk_at dksX1_proof_1 12 rfl rfl)
theorem dX1_proof_36 : decode cX1_proof 36 = .ok (.lconst 0, 1) := dk_9 (dk_at dksX1_proof_1 13 rfl rfl)
theorem dX1_proof_37 : decode cX1_proof 37 = .ok (.lcmp, 1) := dk_148 (dk_at dksX1_proof_1 14 rfl rfl)
theorem dX1_proof_38 : decode cX1_proof 38 = .ok (.ifCond .eq 41, 3) := dk_153 0 41 (dk_at dksX1_proof_1 15 rfl rfl)
theorem dX1_proof_41 : decode cX1_proof 41 = .ok (.aload_n 0, 1) := dk_42 (dk_at dksX1_proof_1 18 rfl rfl)
theorem dX1_proof_42 : decode cX1_proof 42 = .ok (.getfield 87, 3) := dk_180 0 87 (dk_at dksX1_proof_1 19 rfl rfl)
theorem dX1_proof_45 : decode cX1_proof 45 = .ok (.iload_n 3, 1) := dk_29 (dk_at dksX1_proof_1 22 rfl rfl)
theorem dX1_proof_46 : decode cX1_proof 46 = .ok (.laload, 1) := dk_47 (dk_at dksX1_proof_1 23 rfl rfl)
theorem dX1_proof_47 : decode cX1_proof 47 = .ok (.aload_n 0, 1) := dk_42 (dk_at dksX1_proof_2 0 rfl rfl)
theorem dX1_proof_48 : decode cX1_proof 48 = .ok (.getfield 29, 3) := dk_180 0 29 (dk_at dksX1_proof_2 1 rfl rfl)
theorem dX1_proof_51 : decode cX1_proof 51 = .ok (.ldc2_w 27, 3) := dk_20 0 27 (dk_at dksX1_proof_2 4 rfl rfl)
theorem dX1_proof_54 : decode cX1_proof 54 = .ok (.lxor, 1) := dk_131 (dk_at dksX1_proof_2 7 rfl rfl)
theorem dX1_proof_55 : decode cX1_proof 55 = .ok (.land, 1) := dk_127 (dk_at dksX1_proof_2 8 rfl rfl)
theorem dX1_proof_56 : decode cX1_proof 56 = .ok (.lconst 0, 1) := dk_9 (dk_at dksX1_proof_2 9 rfl rfl)
theorem dX1_proof_57 : decode cX1_proof 57 = .ok (.lcmp, 1) := dk_148 (dk_at dksX1_proof_2 10 rfl rfl)
theorem dX1_proof_58 : decode cX1_proof 58 = .ok (.ifCond .ne 21, 3) := dk_154 0 21 (dk_at dksX1_proof_2 11 rfl rfl)
theorem dX1_proof_61 : decode cX1_proof 61 = .ok (.iload_n 2, 1) := dk_28 (dk_at dksX1_proof_2 14 rfl rfl)
theorem dX1_proof_62 : decode cX1_proof 62 = .ok (.iconst (-1), 1) := dk_2 (dk_at dksX1_proof_2 15 rfl rfl)
theorem dX1_proof_63 : decode cX1_proof 63 = .ok (.if_icmp .eq 14, 3) := dk_159 0 14 (dk_at dksX1_proof_2 16 rfl rfl)
theorem dX1_proof_66 : decode cX1_proof 66 = .ok (.iload_n 3, 1) := dk_29 (dk_at dksX1_proof_2 19 rfl rfl)
theorem dX1_proof_67 : decode cX1_proof 67 = .ok (.invokestatic 269, 3) := dk_184 1 13 (dk_at dksX1_proof_2 20 rfl rfl)
theorem dX1_proof_70 : decode cX1_proof 70 = .ok (.iload_n 2, 1) := dk_28 (dk_at dksX1_proof_2 23 rfl rfl)
theorem dX1_proof_71 : decode cX1_proof 71 = .ok (.invokestatic 269, 3) := dk_184 1 13 (dk_at dksX1_proof_3 0 rfl rfl)
theorem dX1_proof_74 : decode cX1_proof 74 = .ok (.if_icmp .ge 5, 3) := dk_162 0 5 (dk_at dksX1_proof_3 3 rfl rfl)
theorem dX1_proof_77 : decode cX1_proof 77 = .ok (.iload_n 3, 1) := dk_29 (dk_at dksX1_proof_3 6 rfl rfl)
theorem dX1_proof_78 : decode cX1_proof 78 = .ok (.istore_n 2, 1) := dk_61 (dk_at dksX1_proof_3 7 rfl rfl)
theorem dX1_proof_79 : decode cX1_proof 79 = .ok (.iinc 3 1, 3) := dk_132 3 1 (dk_at dksX1_proof_3 8 rfl rfl)
theorem dX1_proof_82 : decode cX1_proof 82 = .ok (.goto (-65), 3) := dk_167 255 191 (dk_at dksX1_proof_3 11 rfl rfl)
theorem dX1_proof_85 : decode cX1_proof 85 = .ok (.iload_n 2, 1) := dk_28 (dk_at dksX1_proof_3 14 rfl rfl)
theorem dX1_proof_86 : decode cX1_proof 86 = .ok (.ireturn, 1) := dk_172 (dk_at dksX1_proof_3 15 rfl rfl)
abbrev cX1_split : ByteArray := prog_1_method_50_code
def yX1_split : MethodName := ⟨RX1, "split", "(II)I"⟩
def dkwX1_split_5 : List UInt8 := [167, 255, 175, 28, 154, 0, 7, 29, 167, 0, 5, 21, 4, 172]
abbrev dktX1_split_5 : List UInt8 := dkwX1_split_5 ++ []
def dkwX1_split_4 : List UInt8 := [159, 0, 13, 21, 8, 21, 4, 161, 0, 6, 167, 0, 10, 21, 5, 62, 21, 8, 54, 4, 132, 5, 1]
abbrev dktX1_split_4 : List UInt8 := dkwX1_split_4 ++ dktX1_split_5
def dkwX1_split_3 : List UInt8 := [180, 0, 33, 27, 47, 22, 6, 20, 0, 27, 131, 127, 184, 0, 169, 184, 1, 80, 54, 8, 29, 2]
abbrev dktX1_split_3 : List UInt8 := dkwX1_split_3 ++ dktX1_split_4
def dkwX1_split_2 : List UInt8 := [180, 0, 33, 27, 47, 42, 180, 0, 12, 21, 5, 182, 1, 78, 127, 55, 6, 22, 6, 184, 0, 169, 42]
abbrev dktX1_split_2 : List UInt8 := dkwX1_split_2 ++ dktX1_split_3
def dkwX1_split_1 : List UInt8 := [182, 0, 146, 2, 62, 3, 54, 4, 3, 54, 5, 21, 5, 42, 180, 0, 12, 180, 0, 193, 162, 0, 75, 42]
abbrev dktX1_split_1 : List UInt8 := dkwX1_split_1 ++ dktX1_split_2
def dkwX1_split_0 : List UInt8 := [42, 27, 184, 0, 214, 153, 0, 16, 28, 153, 0, 8, 28, 4, 160, 0, 7, 4, 167, 0, 4, 3]
abbrev dktX1_split_0 : List UInt8 := dkwX1_split_0 ++ dktX1_split_1
theorem dksX1_split_0 : cX1_split.data.toList.drop 0 = dktX1_split_0 := by decide +kernel
theorem dksX1_split_1 : cX1_split.data.toList.drop 22 = dktX1_split_1 := dk_seg dksX1_split_0 22 rfl rfl
theorem dksX1_split_2 : cX1_split.data.toList.drop 46 = dktX1_split_2 := dk_seg dksX1_split_1 24 rfl rfl
theorem dksX1_split_3 : cX1_split.data.toList.drop 69 = dktX1_split_3 := dk_seg dksX1_split_2 23 rfl rfl
theorem dksX1_split_4 : cX1_split.data.toList.drop 91 = dktX1_split_4 := dk_seg dksX1_split_3 22 rfl rfl
theorem dksX1_split_5 : cX1_split.data.toList.drop 114 = dktX1_split_5 := dk_seg dksX1_split_4 23 rfl rfl
theorem dX1_split_0 : decode cX1_split 0 = .ok (.aload_n 0, 1) := dk_42 (dk_at dksX1_split_0 0 rfl rfl)
theorem dX1_split_1 : decode cX1_split 1 = .ok (.iload_n 1, 1) := dk_27 (dk_at dksX1_split_0 1 rfl rfl)
theorem dX1_split_2 : decode cX1_split 2 = .ok (.invokestatic 214, 3) := dk_184 0 214 (dk_at dksX1_split_0 2 rfl rfl)
theorem dX1_split_5 : decode cX1_split 5 = .ok (.ifCond .eq 16, 3) := dk_153 0 16 (dk_at dksX1_split_0 5 rfl rfl)
theorem dX1_split_8 : decode cX1_split 8 = .ok (.iload_n 2, 1) := dk_28 (dk_at dksX1_split_0 8 rfl rfl)
theorem dX1_split_9 : decode cX1_split 9 = .ok (.ifCond .eq 8, 3) := dk_153 0 8 (dk_at dksX1_split_0 9 rfl rfl)
theorem dX1_split_12 : decode cX1_split 12 = .ok (.iload_n 2, 1) := dk_28 (dk_at dksX1_split_0 12 rfl rfl)
theorem dX1_split_13 : decode cX1_split 13 = .ok (.iconst 1, 1) := dk_4 (dk_at dksX1_split_0 13 rfl rfl)
theorem dX1_split_14 : decode cX1_split 14 = .ok (.if_icmp .ne 7, 3) := dk_160 0 7 (dk_at dksX1_split_0 14 rfl rfl)
theorem dX1_split_17 : decode cX1_split 17 = .ok (.iconst 1, 1) := dk_4 (dk_at dksX1_split_0 17 rfl rfl)
theorem dX1_split_18 : decode cX1_split 18 = .ok (.goto 4, 3) := dk_167 0 4 (dk_at dksX1_split_0 18 rfl rfl)
theorem dX1_split_21 : decode cX1_split 21 = .ok (.iconst 0, 1) := dk_3 (dk_at dksX1_split_0 21 rfl rfl)
theorem dX1_split_22 : decode cX1_split 22 = .ok (.invokevirtual 146, 3) := dk_182 0 146 (dk_at dksX1_split_1 0 rfl rfl)
theorem dX1_split_25 : decode cX1_split 25 = .ok (.iconst (-1), 1) := dk_2 (dk_at dksX1_split_1 3 rfl rfl)
theorem dX1_split_26 : decode cX1_split 26 = .ok (.istore_n 3, 1) := dk_62 (dk_at dksX1_split_1 4 rfl rfl)
theorem dX1_split_27 : decode cX1_split 27 = .ok (.iconst 0, 1) := dk_3 (dk_at dksX1_split_1 5 rfl rfl)
theorem dX1_split_28 : decode cX1_split 28 = .ok (.istore 4, 2) := dk_54 4 (dk_at dksX1_split_1 6 rfl rfl)
theorem dX1_split_30 : decode cX1_split 30 = .ok (.iconst 0, 1) := dk_3 (dk_at dksX1_split_1 8 rfl rfl)
theorem dX1_split_31 : decode cX1_split 31 = .ok (.istore 5, 2) := dk_54 5 (dk_at dksX1_split_1 9 rfl rfl)
theorem dX1_split_33 : decode cX1_split 33 = .ok (.iload 5, 2) := dk_21 5 (dk_at dksX1_split_1 11 rfl rfl)
theorem dX1_split_35 : decode cX1_split 35 = .ok (.aload_n 0, 1) := dk_42 (dk_at dksX1_split_1 13 rfl rfl)
theorem dX1_split_36 : decode cX1_split 36 = .ok (.getfield 12, 3) := dk_180 0 12 (dk_at dksX1_split_1 14 rfl rfl)
theorem dX1_split_39 : decode cX1_split 39 = .ok (.getfield 193, 3) := dk_180 0 193 (dk_at dksX1_split_1 17 rfl rfl)
theorem dX1_split_42 : decode cX1_split 42 = .ok (.if_icmp .ge 75, 3) := dk_162 0 75 (dk_at dksX1_split_1 20 rfl rfl)
theorem dX1_split_45 : decode cX1_split 45 = .ok (.aload_n 0, 1) := dk_42 (dk_at dksX1_split_1 23 rfl rfl)
theorem dX1_split_46 : decode cX1_split 46 = .ok (.getfield 33, 3) := dk_180 0 33 (dk_at dksX1_split_2 0 rfl rfl)
theorem dX1_split_49 : decode cX1_split 49 = .ok (.iload_n 1, 1) := dk_27 (dk_at dksX1_split_2 3 rfl rfl)
theorem dX1_split_50 : decode cX1_split 50 = .ok (.laload, 1) := dk_47 (dk_at dksX1_split_2 4 rfl rfl)
theorem dX1_split_51 : decode cX1_split 51 = .ok (.aload_n 0, 1) := dk_42 (dk_at dksX1_split_2 5 rfl rfl)
theorem dX1_split_52 : decode cX1_split 52 = .ok (.getfield 12, 3) := dk_180 0 12 (dk_at dksX1_split_2 6 rfl rfl)
theorem dX1_split_55 : decode cX1_split 55 = .ok (.iload 5, 2) := dk_21 5 (dk_at dksX1_split_2 9 rfl rfl)
theorem dX1_split_57 : decode cX1_split 57 = .ok (.invokevirtual 334, 3) := dk_182 1 78 (dk_at dksX1_split_2 11 rfl rfl)
theorem dX1_split_60 : decode cX1_split 60 = .ok (.land, 1) := dk_127 (dk_at dksX1_split_2 14 rfl rfl)
theorem dX1_split_61 : decode cX1_split 61 = .ok (.lstore 6, 2) := dk_55 6 (dk_at dksX1_split_2 15 rfl rfl)
theorem dX1_split_63 : decode cX1_split 63 = .ok (.lload 6, 2) := dk_22 6 (dk_at dksX1_split_2 17 rfl rfl)
theorem dX1_split_65 : decode cX1_split 65 = .ok (.invokestatic 169, 3) := dk_184 0 169 (dk_at dksX1_split_2 19 rfl rfl)
theorem dX1_split_68 : decode cX1_split 68 = .ok (.aload_n 0, 1) := dk_42 (dk_at dksX1_split_2 22 rfl rfl)
theorem dX1_split_69 : decode cX1_split 69 = .ok (.getfield 33, 3) := dk_180 0 33 (dk_at dksX1_split_3 0 rfl rfl)
theorem dX1_split_72 : decode cX1_split 72 = .ok (.iload_n 1, 1) := dk_27 (dk_at dksX1_split_3 3 rfl rfl)
theorem dX1_split_73 : decode cX1_split 73 = .ok (.laload, 1) := dk_47 (dk_at dksX1_split_3 4 rfl rfl)
theorem dX1_split_74 : decode cX1_split 74 = .ok (.lload 6, 2) := dk_22 6 (dk_at dksX1_split_3 5 rfl rfl)
theorem dX1_split_76 : decode cX1_split 76 = .ok (.ldc2_w 27, 3) := dk_20 0 27 (dk_at dksX1_split_3 7 rfl rfl)
theorem dX1_split_79 : decode cX1_split 79 = .ok (.lxor, 1) := dk_131 (dk_at dksX1_split_3 10 rfl rfl)
theorem dX1_split_80 : decode cX1_split 80 = .ok (.land, 1) := dk_127 (dk_at dksX1_split_3 11 rfl rfl)
theorem dX1_split_81 : decode cX1_split 81 = .ok (.invokestatic 169, 3) := dk_184 0 169 (dk_at dksX1_split_3 12 rfl rfl)
theorem dX1_split_84 : decode cX1_split 84 = .ok (.invokestatic 336, 3) := dk_184 1 80 (dk_at dksX1_split_3 15 rfl rfl)
theorem dX1_split_87 : decode cX1_split 87 = .ok (.istore 8, 2) := dk_54 8 (dk_at dksX1_split_3 18 rfl rfl)
theorem dX1_split_89 : decode cX1_split 89 = .ok (.iload_n 3, 1) := dk_29 (dk_at dksX1_split_3 20 rfl rfl)
theorem dX1_split_90 : decode cX1_split 90 = .ok (.iconst (-1), 1) := dk_2 (dk_at dksX1_split_3 21 rfl rfl)
theorem dX1_split_91 : decode cX1_split 91 = .ok (.if_icmp .eq 13, 3) := dk_159 0 13 (dk_at dksX1_split_4 0 rfl rfl)
theorem dX1_split_94 : decode cX1_split 94 = .ok (.iload 8, 2) := dk_21 8 (dk_at dksX1_split_4 3 rfl rfl)
theorem dX1_split_96 : decode cX1_split 96 = .ok (.iload 4, 2) := dk_21 4 (dk_at dksX1_split_4 5 rfl rfl)
theorem dX1_split_98 : decode cX1_split 98 = .ok (.if_icmp .lt 6, 3) := dk_161 0 6 (dk_at dksX1_split_4 7 rfl rfl)
theorem dX1_split_101 : decode cX1_split 101 = .ok (.goto 10, 3) := dk_167 0 10 (dk_at dksX1_split_4 10 rfl rfl)
theorem dX1_split_104 : decode cX1_split 104 = .ok (.iload 5, 2) := dk_21 5 (dk_at dksX1_split_4 13 rfl rfl)
theorem dX1_split_106 : decode cX1_split 106 = .ok (.istore_n 3, 1) := dk_62 (dk_at dksX1_split_4 15 rfl rfl)
theorem dX1_split_107 : decode cX1_split 107 = .ok (.iload 8, 2) := dk_21 8 (dk_at dksX1_split_4 16 rfl rfl)
theorem dX1_split_109 : decode cX1_split 109 = .ok (.istore 4, 2) := dk_54 4 (dk_at dksX1_split_4 18 rfl rfl)
theorem dX1_split_111 : decode cX1_split 111 = .ok (.iinc 5 1, 3) := dk_132 5 1 (dk_at dksX1_split_4 20 rfl rfl)
theorem dX1_split_114 : decode cX1_split 114 = .ok (.goto (-81), 3) := dk_167 255 175 (dk_at dksX1_split_5 0 rfl rfl)
theorem dX1_split_117 : decode cX1_split 117 = .ok (.iload_n 2, 1) := dk_28 (dk_at dksX1_split_5 3 rfl rfl)
theorem dX1_split_118 : decode cX1_split 118 = .ok (.ifCond .ne 7, 3) := dk_154 0 7 (dk_at dksX1_split_5 4 rfl rfl)
theorem dX1_split_121 : decode cX1_split 121 = .ok (.iload_n 3, 1) := dk_29 (dk_at dksX1_split_5 7 rfl rfl)
theorem dX1_split_122 : decode cX1_split 122 = .ok (.goto 5, 3) := dk_167 0 5 (dk_at dksX1_split_5 8 rfl rfl)
theorem dX1_split_125 : decode cX1_split 125 = .ok (.iload 4, 2) := dk_21 4 (dk_at dksX1_split_5 11 rfl rfl)
theorem dX1_split_127 : decode cX1_split 127 = .ok (.ireturn, 1) := dk_172 (dk_at dksX1_split_5 13 rfl rfl)
abbrev cX1_likely : ByteArray := prog_1_method_51_code
def yX1_likely : MethodName := ⟨RX1, "likely", "(I)I"⟩
def dkwX1_likely_5 : List UInt8 := [28, 172]
abbrev dktX1_likely_5 : List UInt8 := dkwX1_likely_5 ++ []
def dkwX1_likely_4 : List UInt8 := [159, 0, 12, 21, 5, 29, 163, 0, 6, 167, 0, 9, 21, 4, 61, 21, 5, 62, 132, 4, 1, 167, 255, 157]
abbrev dktX1_likely_4 : List UInt8 := dkwX1_likely_4 ++ dktX1_likely_5
def dkwX1_likely_3 : List UInt8 := [180, 0, 114, 21, 6, 47, 21, 4, 123, 10, 127, 136, 96, 54, 5, 132, 6, 1, 167, 255, 220, 28, 2]
abbrev dktX1_likely_3 : List UInt8 := dkwX1_likely_3 ++ dktX1_likely_4
def dkwX1_likely_2 : List UInt8 := [54, 5, 3, 54, 6, 21, 6, 42, 180, 0, 12, 180, 0, 108, 162, 0, 30, 21, 5, 42, 180, 0, 12]
abbrev dktX1_likely_2 : List UInt8 := dkwX1_likely_2 ++ dktX1_likely_3
def dkwX1_likely_1 : List UInt8 := [162, 0, 93, 42, 180, 0, 33, 27, 47, 21, 4, 123, 10, 127, 9, 148, 154, 0, 6, 167, 0, 68, 3]
abbrev dktX1_likely_1 : List UInt8 := dkwX1_likely_1 ++ dktX1_likely_2
def dkwX1_likely_0 : List UInt8 := [42, 27, 184, 0, 214, 182, 0, 146, 2, 61, 3, 62, 3, 54, 4, 21, 4, 42, 180, 0, 12, 182, 0, 232]
abbrev dktX1_likely_0 : List UInt8 := dkwX1_likely_0 ++ dktX1_likely_1
theorem dksX1_likely_0 : cX1_likely.data.toList.drop 0 = dktX1_likely_0 := by decide +kernel
theorem dksX1_likely_1 : cX1_likely.data.toList.drop 24 = dktX1_likely_1 := dk_seg dksX1_likely_0 24 rfl rfl
theorem dksX1_likely_2 : cX1_likely.data.toList.drop 47 = dktX1_likely_2 := dk_seg dksX1_likely_1 23 rfl rfl
theorem dksX1_likely_3 : cX1_likely.data.toList.drop 70 = dktX1_likely_3 := dk_seg dksX1_likely_2 23 rfl rfl
theorem dksX1_likely_4 : cX1_likely.data.toList.drop 93 = dktX1_likely_4 := dk_seg dksX1_likely_3 23 rfl rfl
theorem dksX1_likely_5 : cX1_likely.data.toList.drop 117 = dktX1_likely_5 := dk_seg dksX1_likely_4 24 rfl rfl
theorem dX1_likely_0 : decode cX1_likely 0 = .ok (.aload_n 0, 1) := dk_42 (dk_at dksX1_likely_0 0 rfl rfl)
theorem dX1_likely_1 : decode cX1_likely 1 = .ok (.iload_n 1, 1) := dk_27 (dk_at dksX1_likely_0 1 rfl rfl)
theorem dX1_likely_2 : decode cX1_likely 2 = .ok (.invokestatic 214, 3) := dk_184 0 214 (dk_at dksX1_likely_0 2 rfl rfl)
theorem dX1_likely_5 : decode cX1_likely 5 = .ok (.invokevirtual 146, 3) := dk_182 0 146 (dk_at dksX1_likely_0 5 rfl rfl)
theorem dX1_likely_8 : decode cX1_likely 8 = .ok (.iconst (-1), 1) := dk_2 (dk_at dksX1_likely_0 8 rfl rfl)
theorem dX1_likely_9 : decode cX1_likely 9 = .ok (.istore_n 2, 1) := dk_61 (dk_at dksX1_likely_0 9 rfl rfl)
theorem dX1_likely_10 : decode cX1_likely 10 = .ok (.iconst 0, 1) := dk_3 (dk_at dksX1_likely_0 10 rfl rfl)
theorem dX1_likely_11 : decode cX1_likely 11 = .ok (.istore_n 3, 1) := dk_62 (dk_at dksX1_likely_0 11 rfl rfl)
theorem dX1_likely_12 : decode cX1_likely 12 = .ok (.iconst 0, 1) := dk_3 (dk_at dksX1_likely_0 12 rfl rfl)
theorem dX1_likely_13 : decode cX1_likely 13 = .ok (.istore 4, 2) := dk_54 4 (dk_at dksX1_likely_0 13 rfl rfl)
theorem dX1_likely_15 : decode cX1_likely 15 = .ok (.iload 4, 2) := dk_21 4 (dk_at dksX1_likely_0 15 rfl rfl)
theorem dX1_likely_17 : decode cX1_likely 17 = .ok (.aload_n 0, 1) := dk_42 (dk_at dksX1_likely_0 17 rfl rfl)
theorem dX1_likely_18 : decode cX1_likely 18 = .ok (.getfield 12, 3) := dk_180 0 12 (dk_at dksX1_likely_0 18 rfl rfl)
theorem dX1_likely_21 : decode cX1_likely 21 = .ok (.invokevirtual 232, 3) := dk_182 0 232 (dk_at dksX1_likely_0 21 rfl rfl)
theorem dX1_likely_24 : decode cX1_likely 24 = .ok (.if_icmp .ge 93, 3) := dk_162 0 93 (dk_at dksX1_likely_1 0 rfl rfl)
theorem dX1_likely_27 : decode cX1_likely 27 = .ok (.aload_n 0, 1) := dk_42 (dk_at dksX1_likely_1 3 rfl rfl)
theorem dX1_likely_28 : decode cX1_likely 28 = .ok (.getfield 33, 3) := dk_180 0 33 (dk_at dksX1_likely_1 4 rfl rfl)
theorem dX1_likely_31 : decode cX1_likely 31 = .ok (.iload_n 1, 1) := dk_27 (dk_at dksX1_likely_1 7 rfl rfl)
theorem dX1_likely_32 : decode cX1_likely 32 = .ok (.laload, 1) := dk_47 (dk_at dksX1_likely_1 8 rfl rfl)
theorem dX1_likely_33 : decode cX1_likely 33 = .ok (.iload 4, 2) := dk_21 4 (dk_at dksX1_likely_1 9 rfl rfl)
theorem dX1_likely_35 : decode cX1_likely 35 = .ok (.lshr, 1) := dk_123 (dk_at dksX1_likely_1 11 rfl rfl)
theorem dX1_likely_36 : decode cX1_likely 36 = .ok (.lconst 1, 1) := dk_10 (dk_at dksX1_likely_1 12 rfl rfl)
theorem dX1_likely_37 : decode cX1_likely 37 = .ok (.land, 1) := dk_127 (dk_at dksX1_likely_1 13 rfl rfl)
theorem dX1_likely_38 : decode cX1_likely 38 = .ok (.lconst 0, 1) := dk_9 (dk_at dksX1_likely_1 14 rfl rfl)
theorem dX1_likely_39 : decode cX1_likely 39 = .ok (.lcmp, 1) := dk_148 (dk_at dksX1_likely_1 15 rfl rfl)
theorem dX1_likely_40 : decode cX1_likely 40 = .ok (.ifCond .ne 6, 3) := dk_154 0 6 (dk_at dksX1_likely_1 16 rfl rfl)
theorem dX1_likely_43 : decode cX1_likely 43 = .ok (.goto 68, 3) := dk_167 0 68 (dk_at dksX1_likely_1 19 rfl rfl)
theorem dX1_likely_46 : decode cX1_likely 46 = .ok (.iconst 0, 1) := dk_3 (dk_at dksX1_likely_1 22 rfl rfl)
theorem dX1_likely_47 : decode cX1_likely 47 = .ok (.istore 5, 2) := dk_54 5 (dk_at dksX1_likely_2 0 rfl rfl)
theorem dX1_likely_49 : decode cX1_likely 49 = .ok (.iconst 0, 1) := dk_3 (dk_at dksX1_likely_2 2 rfl rfl)
theorem dX1_likely_50 : decode cX1_likely 50 = .ok (.istore 6, 2) := dk_54 6 (dk_at dksX1_likely_2 3 rfl rfl)
theorem dX1_likely_52 : decode cX1_likely 52 = .ok (.iload 6, 2) := dk_21 6 (dk_at dksX1_likely_2 5 rfl rfl)
theorem dX1_likely_54 : decode cX1_likely 54 = .ok (.aload_n 0, 1) := dk_42 (dk_at dksX1_likely_2 7 rfl rfl)
theorem dX1_likely_55 : decode cX1_likely 55 = .ok (.getfield 12, 3) := dk_180 0 12 (dk_at dksX1_likely_2 8 rfl rfl)
theorem dX1_likely_58 : decode cX1_likely 58 = .ok (.getfield 108, 3) := dk_180 0 108 (dk_at dksX1_likely_2 11 rfl rfl)
theorem dX1_likely_61 : decode cX1_likely 61 = .ok (.if_icmp .ge 30, 3) := dk_162 0 30 (dk_at dksX1_likely_2 14 rfl rfl)
theorem dX1_likely_64 : decode cX1_likely 64 = .ok (.iload 5, 2) := dk_21 5 (dk_at dksX1_likely_2 17 rfl rfl)
theorem dX1_likely_66 : decode cX1_likely 66 = .ok (.aload_n 0, 1) := dk_42 (dk_at dksX1_likely_2 19 rfl rfl)
theorem dX1_likely_67 : decode cX1_likely 67 = .ok (.getfield 12, 3) := dk_180 0 12 (dk_at dksX1_likely_2 20 rfl rfl)
theorem dX1_likely_70 : decode cX1_likely 70 = .ok (.getfield 114, 3) := dk_180 0 114 (dk_at dksX1_likely_3 0 rfl rfl)
theorem dX1_likely_73 : decode cX1_likely 73 = .ok (.iload 6, 2) := dk_21 6 (dk_at dksX1_likely_3 3 rfl rfl)
theorem dX1_likely_75 : decode cX1_likely 75 = .ok (.laload, 1) := dk_47 (dk_at dksX1_likely_3 5 rfl rfl)
theorem dX1_likely_76 : decode cX1_likely 76 = .ok (.iload 4, 2) := dk_21 4 (dk_at dksX1_likely_3 6 rfl rfl)
theorem dX1_likely_78 : decode cX1_likely 78 = .ok (.lshr, 1) := dk_123 (dk_at dksX1_likely_3 8 rfl rfl)
theorem dX1_likely_79 : decode cX1_likely 79 = .ok (.lconst 1, 1) := dk_10 (dk_at dksX1_likely_3 9 rfl rfl)
theorem dX1_likely_80 : decode cX1_likely 80 = .ok (.land, 1) := dk_127 (dk_at dksX1_likely_3 10 rfl rfl)
theorem dX1_likely_81 : decode cX1_likely 81 = .ok (.l2i, 1) := dk_136 (dk_at dksX1_likely_3 11 rfl rfl)
theorem dX1_likely_82 : decode cX1_likely 82 = .ok (.iadd, 1) := dk_96 (dk_at dksX1_likely_3 12 rfl rfl)
theorem dX1_likely_83 : decode cX1_likely 83 = .ok (.istore 5, 2) := dk_54 5 (dk_at dksX1_likely_3 13 rfl rfl)
theorem dX1_likely_85 : decode cX1_likely 85 = .ok (.iinc 6 1, 3) := dk_132 6 1 (dk_at dksX1_likely_3 15 rfl rfl)
theorem dX1_likely_88 : decode cX1_likely 88 = .ok (.goto (-36), 3) := dk_167 255 220 (dk_at dksX1_likely_3 18 rfl rfl)
theorem dX1_likely_91 : decode cX1_likely 91 = .ok (.iload_n 2, 1) := dk_28 (dk_at dksX1_likely_3 21 rfl rfl)
theorem dX1_likely_92 : decode cX1_likely 92 = .ok (.iconst (-1), 1) := dk_2 (dk_at dksX1_likely_3 22 rfl rfl)
theorem dX1_likely_93 : decode cX1_likely 93 = .ok (.if_icmp .eq 12, 3) := dk_159 0 12 (dk_at dksX1_likely_4 0 rfl rfl)
theorem dX1_likely_96 : decode cX1_likely 96 = .ok (.iload 5, 2) := dk_21 5 (dk_at dksX1_likely_4 3 rfl rfl)
theorem dX1_likely_98 : decode cX1_likely 98 = .ok (.iload_n 3, 1) := dk_29 (dk_at dksX1_likely_4 5 rfl rfl)
theorem dX1_likely_99 : decode cX1_likely 99 = .ok (.if_icmp .gt 6, 3) := dk_163 0 6 (dk_at dksX1_likely_4 6 rfl rfl)
theorem dX1_likely_102 : decode cX1_likely 102 = .ok (.goto 9, 3) := dk_167 0 9 (dk_at dksX1_likely_4 9 rfl rfl)
theorem dX1_likely_105 : decode cX1_likely 105 = .ok (.iload 4, 2) := dk_21 4 (dk_at dksX1_likely_4 12 rfl rfl)
theorem dX1_likely_107 : decode cX1_likely 107 = .ok (.istore_n 2, 1) := dk_61 (dk_at dksX1_likely_4 14 rfl rfl)
theorem dX1_likely_108 : decode cX1_likely 108 = .ok (.iload 5, 2) := dk_21 5 (dk_at dksX1_likely_4 15 rfl rfl)
theorem dX1_likely_110 : decode cX1_likely 110 = .ok (.istore_n 3, 1) := dk_62 (dk_at dksX1_likely_4 17 rfl rfl)
theorem dX1_likely_111 : decode cX1_likely 111 = .ok (.iinc 4 1, 3) := dk_132 4 1 (dk_at dksX1_likely_4 18 rfl rfl)
theorem dX1_likely_114 : decode cX1_likely 114 = .ok (.goto (-99), 3) := dk_167 255 157 (dk_at dksX1_likely_4 21 rfl rfl)
theorem dX1_likely_117 : decode cX1_likely 117 = .ok (.iload_n 2, 1) := dk_28 (dk_at dksX1_likely_5 0 rfl rfl)
theorem dX1_likely_118 : decode cX1_likely 118 = .ok (.ireturn, 1) := dk_172 (dk_at dksX1_likely_5 1 rfl rfl)
abbrev cX1_salted : ByteArray := prog_1_method_52_code
def yX1_salted : MethodName := ⟨RX1, "salted", "(I)I"⟩
def dkwX1_salted_3 : List UInt8 := [160, 0, 5, 29, 61, 132, 3, 1, 167, 255, 191, 28, 172]
abbrev dktX1_salted_3 : List UInt8 := dkwX1_salted_3 ++ []
def dkwX1_salted_2 : List UInt8 := [180, 0, 40, 180, 0, 120, 42, 180, 0, 40, 180, 0, 126, 29, 182, 0, 240, 182, 1, 18, 27, 126, 27]
abbrev dktX1_salted_2 : List UInt8 := dkwX1_salted_2 ++ dktX1_salted_3
def dkwX1_salted_1 : List UInt8 := [162, 0, 58, 28, 2, 159, 0, 17, 29, 184, 1, 13, 28, 184, 1, 13, 161, 0, 6, 167, 0, 33, 42, 42]
abbrev dktX1_salted_1 : List UInt8 := dkwX1_salted_1 ++ dktX1_salted_2
def dkwX1_salted_0 : List UInt8 := [42, 42, 27, 182, 1, 69, 182, 0, 146, 2, 61, 3, 62, 29, 4, 42, 180, 0, 12, 180, 0, 199, 120]
abbrev dktX1_salted_0 : List UInt8 := dkwX1_salted_0 ++ dktX1_salted_1
theorem dksX1_salted_0 : cX1_salted.data.toList.drop 0 = dktX1_salted_0 := by decide +kernel
theorem dksX1_salted_1 : cX1_salted.data.toList.drop 23 = dktX1_salted_1 := dk_seg dksX1_salted_0 23 rfl rfl
theorem dksX1_salted_2 : cX1_salted.data.toList.drop 47 = dktX1_salted_2 := dk_seg dksX1_salted_1 24 rfl rfl
theorem dksX1_salted_3 : cX1_salted.data.toList.drop 70 = dktX1_salted_3 := dk_seg dksX1_salted_2 23 rfl rfl
theorem dX1_salted_0 : decode cX1_salted 0 = .ok (.aload_n 0, 1) := dk_42 (dk_at dksX1_salted_0 0 rfl rfl)
theorem dX1_salted_1 : decode cX1_salted 1 = .ok (.aload_n 0, 1) := dk_42 (dk_at dksX1_salted_0 1 rfl rfl)
theorem dX1_salted_2 : decode cX1_salted 2 = .ok (.iload_n 1, 1) := dk_27 (dk_at dksX1_salted_0 2 rfl rfl)
theorem dX1_salted_3 : decode cX1_salted 3 = .ok (.invokevirtual 325, 3) := dk_182 1 69 (dk_at dksX1_salted_0 3 rfl rfl)
theorem dX1_salted_6 : decode cX1_salted 6 = .ok (.invokevirtual 146, 3) := dk_182 0 146 (dk_at dksX1_salted_0 6 rfl rfl)
theorem dX1_salted_9 : decode cX1_salted 9 = .ok (.iconst (-1), 1) := dk_2 (dk_at dksX1_salted_0 9 rfl rfl)
theorem dX1_salted_10 : decode cX1_salted 10 = .ok (.istore_n 2, 1) := dk_61 (dk_at dksX1_salted_0 10 rfl rfl)
theorem dX1_salted_11 : decode cX1_salted 11 = .ok (.iconst 0, 1) := dk_3 (dk_at dksX1_salted_0 11 rfl rfl)
theorem dX1_salted_12 : decode cX1_salted 12 = .ok (.istore_n 3, 1) := dk_62 (dk_at dksX1_salted_0 12 rfl rfl)
theorem dX1_salted_13 : decode cX1_salted 13 = .ok (.iload_n 3, 1) := dk_29 (dk_at dksX1_salted_0 13 rfl rfl)
theorem dX1_salted_14 : decode cX1_salted 14 = .ok (.iconst 1, 1) := dk_4 (dk_at dksX1_salted_0 14 rfl rfl)
theorem dX1_salted_15 : decode cX1_salted 15 = .ok (.aload_n 0, 1) := dk_42 (dk_at dksX1_salted_0 15 rfl rfl)
theorem dX1_salted_16 : decode cX1_salted 16 = .ok (.getfield 12, 3) := dk_180 0 12 (dk_at dksX1_salted_0 16 rfl rfl)
theorem dX1_salted_19 : decode cX1_salted 19 = .ok (.getfield 199, 3) := dk_180 0 199 (dk_at dksX1_salted_0 19 rfl rfl)
theorem dX1_salted_22 : decode cX1_salted 22 = .ok (.ishl, 1) := dk_120 (dk_at dksX1_salted_0 22 rfl rfl)
theorem dX1_salted_23 : decode cX1_salted 23 = .ok (.if_icmp .ge 58, 3) := dk_162 0 58 (dk_at dksX1_salted_1 0 rfl rfl)
theorem dX1_salted_26 : decode cX1_salted 26 = .ok (.iload_n 2, 1) := dk_28 (dk_at dksX1_salted_1 3 rfl rfl)
theorem dX1_salted_27 : decode cX1_salted 27 = .ok (.iconst (-1), 1) := dk_2 (dk_at dksX1_salted_1 4 rfl rfl)
theorem dX1_salted_28 : decode cX1_salted 28 = .ok (.if_icmp .eq 17, 3) := dk_159 0 17 (dk_at dksX1_salted_1 5 rfl rfl)
theorem dX1_salted_31 : decode cX1_salted 31 = .ok (.iload_n 3, 1) := dk_29 (dk_at dksX1_salted_1 8 rfl rfl)
theorem dX1_salted_32 : decode cX1_salted 32 = .ok (.invokestatic 269, 3) := dk_184 1 13 (dk_at dksX1_salted_1 9 rfl rfl)
theorem dX1_salted_35 : decode cX1_salted 35 = .ok (.iload_n 2, 1) := dk_28 (dk_at dksX1_salted_1 12 rfl rfl)
theorem dX1_salted_36 : decode cX1_salted 36 = .ok (.invokestatic 269, 3) := dk_184 1 13 (dk_at dksX1_salted_1 13 rfl rfl)
theorem dX1_salted_39 : decode cX1_salted 39 = .ok (.if_icmp .lt 6, 3) := dk_161 0 6 (dk_at dksX1_salted_1 16 rfl rfl)
theorem dX1_salted_42 : decode cX1_salted 42 = .ok (.goto 33, 3) := dk_167 0 33 (dk_at dksX1_salted_1 19 rfl rfl)
theorem dX1_salted_45 : decode cX1_salted 45 = .ok (.aload_n 0, 1) := dk_42 (dk_at dksX1_salted_1 22 rfl rfl)
theorem dX1_salted_46 : decode cX1_salted 46 = .ok (.aload_n 0, 1) := dk_42 (dk_at dksX1_salted_1 23 rfl rfl)
theorem dX1_salted_47 : decode cX1_salted 47 = .ok (.getfield 40, 3) := dk_180 0 40 (dk_at dksX1_salted_2 0 rfl rfl)
theorem dX1_salted_50 : decode cX1_salted 50 = .ok (.getfield 120, 3) := dk_180 0 120 (dk_at dksX1_salted_2 3 rfl rfl)
theorem dX1_salted_53 : decode cX1_salted 53 = .ok (.aload_n 0, 1) := dk_42 (dk_at dksX1_salted_2 6 rfl rfl)
theorem dX1_salted_54 : decode cX1_salted 54 = .ok (.getfield 40, 3) := dk_180 0 40 (dk_at dksX1_salted_2 7 rfl rfl)
theorem dX1_salted_57 : decode cX1_salted 57 = .ok (.getfield 126, 3) := dk_180 0 126 (dk_at dksX1_salted_2 10 rfl rfl)
theorem dX1_salted_60 : decode cX1_salted 60 = .ok (.iload_n 3, 1) := dk_29 (dk_at dksX1_salted_2 13 rfl rfl)
theorem dX1_salted_61 : decode cX1_salted 61 = .ok (.invokevirtual 240, 3) := dk_182 0 240 (dk_at dksX1_salted_2 14 rfl rfl)
theorem dX1_salted_64 : decode cX1_salted 64 = .ok (.invokevirtual 274, 3) := dk_182 1 18 (dk_at dksX1_salted_2 17 rfl rfl)
theorem dX1_salted_67 : decode cX1_salted 67 = .ok (.iload_n 1, 1) := dk_27 (dk_at dksX1_salted_2 20 rfl rfl)
theorem dX1_salted_68 : decode cX1_salted 68 = .ok (.iand, 1) := dk_126 (dk_at dksX1_salted_2 21 rfl rfl)
theorem dX1_salted_69 : decode cX1_salted 69 = .ok (.iload_n 1, 1) := dk_27 (dk_at dksX1_salted_2 22 rfl rfl)
theorem dX1_salted_70 : decode cX1_salted 70 = .ok (.if_icmp .ne 5, 3) := dk_160 0 5 (dk_at dksX1_salted_3 0 rfl rfl)
theorem dX1_salted_73 : decode cX1_salted 73 = .ok (.iload_n 3, 1) := dk_29 (dk_at dksX1_salted_3 3 rfl rfl)
theorem dX1_salted_74 : decode cX1_salted 74 = .ok (.istore_n 2, 1) := dk_61 (dk_at dksX1_salted_3 4 rfl rfl)
theorem dX1_salted_75 : decode cX1_salted 75 = .ok (.iinc 3 1, 3) := dk_132 3 1 (dk_at dksX1_salted_3 5 rfl rfl)
theorem dX1_salted_78 : decode cX1_salted 78 = .ok (.goto (-65), 3) := dk_167 255 191 (dk_at dksX1_salted_3 8 rfl rfl)
theorem dX1_salted_81 : decode cX1_salted 81 = .ok (.iload_n 2, 1) := dk_28 (dk_at dksX1_salted_3 11 rfl rfl)
theorem dX1_salted_82 : decode cX1_salted 82 = .ok (.ireturn, 1) := dk_172 (dk_at dksX1_salted_3 12 rfl rfl)
abbrev cX1_salty : ByteArray := prog_1_method_53_code
def yX1_salty : MethodName := ⟨RX1, "salty", "(I)I"⟩
def dkwX1_salty_2 : List UInt8 := [182, 1, 18, 172]
abbrev dktX1_salty_2 : List UInt8 := dkwX1_salty_2 ++ []
def dkwX1_salty_1 : List UInt8 := [182, 0, 146, 42, 42, 180, 0, 40, 180, 0, 120, 42, 180, 0, 40, 180, 0, 126, 27, 182, 0, 240]
abbrev dktX1_salty_1 : List UInt8 := dkwX1_salty_1 ++ dktX1_salty_2
def dkwX1_salty_0 : List UInt8 := [42, 27, 155, 0, 20, 27, 4, 42, 180, 0, 12, 180, 0, 199, 120, 162, 0, 7, 4, 167, 0, 4, 3]
abbrev dktX1_salty_0 : List UInt8 := dkwX1_salty_0 ++ dktX1_salty_1
theorem dksX1_salty_0 : cX1_salty.data.toList.drop 0 = dktX1_salty_0 := by decide +kernel
theorem dksX1_salty_1 : cX1_salty.data.toList.drop 23 = dktX1_salty_1 := dk_seg dksX1_salty_0 23 rfl rfl
theorem dksX1_salty_2 : cX1_salty.data.toList.drop 45 = dktX1_salty_2 := dk_seg dksX1_salty_1 22 rfl rfl
theorem dX1_salty_0 : decode cX1_salty 0 = .ok (.aload_n 0, 1) := dk_42 (dk_at dksX1_salty_0 0 rfl rfl)
theorem dX1_salty_1 : decode cX1_salty 1 = .ok (.iload_n 1, 1) := dk_27 (dk_at dksX1_salty_0 1 rfl rfl)
theorem dX1_salty_2 : decode cX1_salty 2 = .ok (.ifCond .lt 20, 3) := dk_155 0 20 (dk_at dksX1_salty_0 2 rfl rfl)
theorem dX1_salty_5 : decode cX1_salty 5 = .ok (.iload_n 1, 1) := dk_27 (dk_at dksX1_salty_0 5 rfl rfl)
theorem dX1_salty_6 : decode cX1_salty 6 = .ok (.iconst 1, 1) := dk_4 (dk_at dksX1_salty_0 6 rfl rfl)
theorem dX1_salty_7 : decode cX1_salty 7 = .ok (.aload_n 0, 1) := dk_42 (dk_at dksX1_salty_0 7 rfl rfl)
theorem dX1_salty_8 : decode cX1_salty 8 = .ok (.getfield 12, 3) := dk_180 0 12 (dk_at dksX1_salty_0 8 rfl rfl)
theorem dX1_salty_11 : decode cX1_salty 11 = .ok (.getfield 199, 3) := dk_180 0 199 (dk_at dksX1_salty_0 11 rfl rfl)
theorem dX1_salty_14 : decode cX1_salty 14 = .ok (.ishl, 1) := dk_120 (dk_at dksX1_salty_0 14 rfl rfl)
theorem dX1_salty_15 : decode cX1_salty 15 = .ok (.if_icmp .ge 7, 3) := dk_162 0 7 (dk_at dksX1_salty_0 15 rfl rfl)
theorem dX1_salty_18 : decode cX1_salty 18 = .ok (.iconst 1, 1) := dk_4 (dk_at dksX1_salty_0 18 rfl rfl)
theorem dX1_salty_19 : decode cX1_salty 19 = .ok (.goto 4, 3) := dk_167 0 4 (dk_at dksX1_salty_0 19 rfl rfl)
theorem dX1_salty_22 : decode cX1_salty 22 = .ok (.iconst 0, 1) := dk_3 (dk_at dksX1_salty_0 22 rfl rfl)
theorem dX1_salty_23 : decode cX1_salty 23 = .ok (.invokevirtual 146, 3) := dk_182 0 146 (dk_at dksX1_salty_1 0 rfl rfl)
theorem dX1_salty_26 : decode cX1_salty 26 = .ok (.aload_n 0, 1) := dk_42 (dk_at dksX1_salty_1 3 rfl rfl)
theorem dX1_salty_27 : decode cX1_salty 27 = .ok (.aload_n 0, 1) := dk_42 (dk_at dksX1_salty_1 4 rfl rfl)
theorem dX1_salty_28 : decode cX1_salty 28 = .ok (.getfield 40, 3) := dk_180 0 40 (dk_at dksX1_salty_1 5 rfl rfl)
theorem dX1_salty_31 : decode cX1_salty 31 = .ok (.getfield 120, 3) := dk_180 0 120 (dk_at dksX1_salty_1 8 rfl rfl)
theorem dX1_salty_34 : decode cX1_salty 34 = .ok (.aload_n 0, 1) := dk_42 (dk_at dksX1_salty_1 11 rfl rfl)
theorem dX1_salty_35 : decode cX1_salty 35 = .ok (.getfield 40, 3) := dk_180 0 40 (dk_at dksX1_salty_1 12 rfl rfl)
theorem dX1_salty_38 : decode cX1_salty 38 = .ok (.getfield 126, 3) := dk_180 0 126 (dk_at dksX1_salty_1 15 rfl rfl)
theorem dX1_salty_41 : decode cX1_salty 41 = .ok (.iload_n 1, 1) := dk_27 (dk_at dksX1_salty_1 18 rfl rfl)
theorem dX1_salty_42 : decode cX1_salty 42 = .ok (.invokevirtual 240, 3) := dk_182 0 240 (dk_at dksX1_salty_1 19 rfl rfl)
theorem dX1_salty_45 : decode cX1_salty 45 = .ok (.invokevirtual 274, 3) := dk_182 1 18 (dk_at dksX1_salty_2 0 rfl rfl)
theorem dX1_salty_48 : decode cX1_salty 48 = .ok (.ireturn, 1) := dk_172 (dk_at dksX1_salty_2 3 rfl rfl)
abbrev cX1_compared : ByteArray := prog_1_method_54_code
def yX1_compared : MethodName := ⟨RX1, "compared", "(I)I"⟩
def dkwX1_compared_0 : List UInt8 := [42, 27, 184, 0, 229, 182, 0, 146, 42, 182, 1, 60, 42, 27, 182, 1, 63, 42, 180, 1, 50, 172]
abbrev dktX1_compared_0 : List UInt8 := dkwX1_compared_0 ++ []
theorem dksX1_compared_0 : cX1_compared.data.toList.drop 0 = dktX1_compared_0 := by decide +kernel
theorem dX1_compared_0 : decode cX1_compared 0 = .ok (.aload_n 0, 1) := dk_42 (dk_at dksX1_compared_0 0 rfl rfl)
theorem dX1_compared_1 : decode cX1_compared 1 = .ok (.iload_n 1, 1) := dk_27 (dk_at dksX1_compared_0 1 rfl rfl)
theorem dX1_compared_2 : decode cX1_compared 2 = .ok (.invokestatic 229, 3) := dk_184 0 229 (dk_at dksX1_compared_0 2 rfl rfl)
theorem dX1_compared_5 : decode cX1_compared 5 = .ok (.invokevirtual 146, 3) := dk_182 0 146 (dk_at dksX1_compared_0 5 rfl rfl)
theorem dX1_compared_8 : decode cX1_compared 8 = .ok (.aload_n 0, 1) := dk_42 (dk_at dksX1_compared_0 8 rfl rfl)
theorem dX1_compared_9 : decode cX1_compared 9 = .ok (.invokevirtual 316, 3) := dk_182 1 60 (dk_at dksX1_compared_0 9 rfl rfl)
theorem dX1_compared_12 : decode cX1_compared 12 = .ok (.aload_n 0, 1) := dk_42 (dk_at dksX1_compared_0 12 rfl rfl)
theorem dX1_compared_13 : decode cX1_compared 13 = .ok (.iload_n 1, 1) := dk_27 (dk_at dksX1_compared_0 13 rfl rfl)
theorem dX1_compared_14 : decode cX1_compared 14 = .ok (.invokevirtual 319, 3) := dk_182 1 63 (dk_at dksX1_compared_0 14 rfl rfl)
theorem dX1_compared_17 : decode cX1_compared 17 = .ok (.aload_n 0, 1) := dk_42 (dk_at dksX1_compared_0 17 rfl rfl)
theorem dX1_compared_18 : decode cX1_compared 18 = .ok (.getfield 306, 3) := dk_180 1 50 (dk_at dksX1_compared_0 18 rfl rfl)
theorem dX1_compared_21 : decode cX1_compared 21 = .ok (.ireturn, 1) := dk_172 (dk_at dksX1_compared_0 21 rfl rfl)
abbrev cX1_drawn : ByteArray := prog_1_method_56_code
def yX1_drawn : MethodName := ⟨RX1, "drawn", "(III)I"⟩
def dkwX1_drawn_2 : List UInt8 := [21, 4, 42, 42, 27, 182, 1, 32, 182, 1, 27, 96, 54, 4, 132, 5, 1, 167, 255, 225, 21, 4, 172]
abbrev dktX1_drawn_2 : List UInt8 := dkwX1_drawn_2 ++ []
def dkwX1_drawn_1 : List UInt8 := [182, 0, 146, 3, 54, 4, 3, 54, 5, 21, 5, 29, 162, 0, 31, 42, 28, 21, 5, 96, 182, 1, 87]
abbrev dktX1_drawn_1 : List UInt8 := dkwX1_drawn_1 ++ dktX1_drawn_2
def dkwX1_drawn_0 : List UInt8 := [42, 27, 184, 0, 229, 153, 0, 18, 29, 4, 161, 0, 13, 29, 16, 60, 163, 0, 7, 4, 167, 0, 4, 3]
abbrev dktX1_drawn_0 : List UInt8 := dkwX1_drawn_0 ++ dktX1_drawn_1
theorem dksX1_drawn_0 : cX1_drawn.data.toList.drop 0 = dktX1_drawn_0 := by decide +kernel
theorem dksX1_drawn_1 : cX1_drawn.data.toList.drop 24 = dktX1_drawn_1 := dk_seg dksX1_drawn_0 24 rfl rfl
theorem dksX1_drawn_2 : cX1_drawn.data.toList.drop 47 = dktX1_drawn_2 := dk_seg dksX1_drawn_1 23 rfl rfl
theorem dX1_drawn_0 : decode cX1_drawn 0 = .ok (.aload_n 0, 1) := dk_42 (dk_at dksX1_drawn_0 0 rfl rfl)
theorem dX1_drawn_1 : decode cX1_drawn 1 = .ok (.iload_n 1, 1) := dk_27 (dk_at dksX1_drawn_0 1 rfl rfl)
theorem dX1_drawn_2 : decode cX1_drawn 2 = .ok (.invokestatic 229, 3) := dk_184 0 229 (dk_at dksX1_drawn_0 2 rfl rfl)
theorem dX1_drawn_5 : decode cX1_drawn 5 = .ok (.ifCond .eq 18, 3) := dk_153 0 18 (dk_at dksX1_drawn_0 5 rfl rfl)
theorem dX1_drawn_8 : decode cX1_drawn 8 = .ok (.iload_n 3, 1) := dk_29 (dk_at dksX1_drawn_0 8 rfl rfl)
theorem dX1_drawn_9 : decode cX1_drawn 9 = .ok (.iconst 1, 1) := dk_4 (dk_at dksX1_drawn_0 9 rfl rfl)
theorem dX1_drawn_10 : decode cX1_drawn 10 = .ok (.if_icmp .lt 13, 3) := dk_161 0 13 (dk_at dksX1_drawn_0 10 rfl rfl)
theorem dX1_drawn_13 : decode cX1_drawn 13 = .ok (.iload_n 3, 1) := dk_29 (dk_at dksX1_drawn_0 13 rfl rfl)
theorem dX1_drawn_14 : decode cX1_drawn 14 = .ok (.bipush 60, 2) := dk_16 60 (dk_at dksX1_drawn_0 14 rfl rfl)
theorem dX1_drawn_16 : decode cX1_drawn 16 = .ok (.if_icmp .gt 7, 3) := dk_163 0 7 (dk_at dksX1_drawn_0 16 rfl rfl)
theorem dX1_drawn_19 : decode cX1_drawn 19 = .ok (.iconst 1, 1) := dk_4 (dk_at dksX1_drawn_0 19 rfl rfl)
theorem dX1_drawn_20 : decode cX1_drawn 20 = .ok (.goto 4, 3) := dk_167 0 4 (dk_at dksX1_drawn_0 20 rfl rfl)
theorem dX1_drawn_23 : decode cX1_drawn 23 = .ok (.iconst 0, 1) := dk_3 (dk_at dksX1_drawn_0 23 rfl rfl)
theorem dX1_drawn_24 : decode cX1_drawn 24 = .ok (.invokevirtual 146, 3) := dk_182 0 146 (dk_at dksX1_drawn_1 0 rfl rfl)
theorem dX1_drawn_27 : decode cX1_drawn 27 = .ok (.iconst 0, 1) := dk_3 (dk_at dksX1_drawn_1 3 rfl rfl)
theorem dX1_drawn_28 : decode cX1_drawn 28 = .ok (.istore 4, 2) := dk_54 4 (dk_at dksX1_drawn_1 4 rfl rfl)
theorem dX1_drawn_30 : decode cX1_drawn 30 = .ok (.iconst 0, 1) := dk_3 (dk_at dksX1_drawn_1 6 rfl rfl)
theorem dX1_drawn_31 : decode cX1_drawn 31 = .ok (.istore 5, 2) := dk_54 5 (dk_at dksX1_drawn_1 7 rfl rfl)
theorem dX1_drawn_33 : decode cX1_drawn 33 = .ok (.iload 5, 2) := dk_21 5 (dk_at dksX1_drawn_1 9 rfl rfl)
theorem dX1_drawn_35 : decode cX1_drawn 35 = .ok (.iload_n 3, 1) := dk_29 (dk_at dksX1_drawn_1 11 rfl rfl)
theorem dX1_drawn_36 : decode cX1_drawn 36 = .ok (.if_icmp .ge 31, 3) := dk_162 0 31 (dk_at dksX1_drawn_1 12 rfl rfl)
theorem dX1_drawn_39 : decode cX1_drawn 39 = .ok (.aload_n 0, 1) := dk_42 (dk_at dksX1_drawn_1 15 rfl rfl)
theorem dX1_drawn_40 : decode cX1_drawn 40 = .ok (.iload_n 2, 1) := dk_28 (dk_at dksX1_drawn_1 16 rfl rfl)
theorem dX1_drawn_41 : decode cX1_drawn 41 = .ok (.iload 5, 2) := dk_21 5 (dk_at dksX1_drawn_1 17 rfl rfl)
theorem dX1_drawn_43 : decode cX1_drawn 43 = .ok (.iadd, 1) := dk_96 (dk_at dksX1_drawn_1 19 rfl rfl)
theorem dX1_drawn_44 : decode cX1_drawn 44 = .ok (.invokevirtual 343, 3) := dk_182 1 87 (dk_at dksX1_drawn_1 20 rfl rfl)
theorem dX1_drawn_47 : decode cX1_drawn 47 = .ok (.iload 4, 2) := dk_21 4 (dk_at dksX1_drawn_2 0 rfl rfl)
theorem dX1_drawn_49 : decode cX1_drawn 49 = .ok (.aload_n 0, 1) := dk_42 (dk_at dksX1_drawn_2 2 rfl rfl)
theorem dX1_drawn_50 : decode cX1_drawn 50 = .ok (.aload_n 0, 1) := dk_42 (dk_at dksX1_drawn_2 3 rfl rfl)
theorem dX1_drawn_51 : decode cX1_drawn 51 = .ok (.iload_n 1, 1) := dk_27 (dk_at dksX1_drawn_2 4 rfl rfl)
theorem dX1_drawn_52 : decode cX1_drawn 52 = .ok (.invokevirtual 288, 3) := dk_182 1 32 (dk_at dksX1_drawn_2 5 rfl rfl)
theorem dX1_drawn_55 : decode cX1_drawn 55 = .ok (.invokevirtual 283, 3) := dk_182 1 27 (dk_at dksX1_drawn_2 8 rfl rfl)
theorem dX1_drawn_58 : decode cX1_drawn 58 = .ok (.iadd, 1) := dk_96 (dk_at dksX1_drawn_2 11 rfl rfl)
theorem dX1_drawn_59 : decode cX1_drawn 59 = .ok (.istore 4, 2) := dk_54 4 (dk_at dksX1_drawn_2 12 rfl rfl)
theorem dX1_drawn_61 : decode cX1_drawn 61 = .ok (.iinc 5 1, 3) := dk_132 5 1 (dk_at dksX1_drawn_2 14 rfl rfl)
theorem dX1_drawn_64 : decode cX1_drawn 64 = .ok (.goto (-31), 3) := dk_167 255 225 (dk_at dksX1_drawn_2 17 rfl rfl)
theorem dX1_drawn_67 : decode cX1_drawn 67 = .ok (.iload 4, 2) := dk_21 4 (dk_at dksX1_drawn_2 20 rfl rfl)
theorem dX1_drawn_69 : decode cX1_drawn 69 = .ok (.ireturn, 1) := dk_172 (dk_at dksX1_drawn_2 22 rfl rfl)
abbrev cX1_school : ByteArray := prog_1_method_59_code
def yX1_school : MethodName := ⟨RX1, "school", "(II)I"⟩
def dkwX1_school_2 : List UInt8 := [180, 0, 248, 28, 46, 172]
abbrev dktX1_school_2 : List UInt8 := dkwX1_school_2 ++ []
def dkwX1_school_1 : List UInt8 := [182, 0, 146, 42, 182, 1, 90, 27, 154, 0, 10, 42, 180, 0, 64, 167, 0, 7, 42, 180, 0, 68]
abbrev dktX1_school_1 : List UInt8 := dkwX1_school_1 ++ dktX1_school_2
def dkwX1_school_0 : List UInt8 := [42, 27, 153, 0, 8, 27, 4, 160, 0, 14, 28, 184, 0, 214, 153, 0, 7, 4, 167, 0, 4, 3]
abbrev dktX1_school_0 : List UInt8 := dkwX1_school_0 ++ dktX1_school_1
theorem dksX1_school_0 : cX1_school.data.toList.drop 0 = dktX1_school_0 := by decide +kernel
theorem dksX1_school_1 : cX1_school.data.toList.drop 22 = dktX1_school_1 := dk_seg dksX1_school_0 22 rfl rfl
theorem dksX1_school_2 : cX1_school.data.toList.drop 44 = dktX1_school_2 := dk_seg dksX1_school_1 22 rfl rfl
theorem dX1_school_0 : decode cX1_school 0 = .ok (.aload_n 0, 1) := dk_42 (dk_at dksX1_school_0 0 rfl rfl)
theorem dX1_school_1 : decode cX1_school 1 = .ok (.iload_n 1, 1) := dk_27 (dk_at dksX1_school_0 1 rfl rfl)
theorem dX1_school_2 : decode cX1_school 2 = .ok (.ifCond .eq 8, 3) := dk_153 0 8 (dk_at dksX1_school_0 2 rfl rfl)
theorem dX1_school_5 : decode cX1_school 5 = .ok (.iload_n 1, 1) := dk_27 (dk_at dksX1_school_0 5 rfl rfl)
theorem dX1_school_6 : decode cX1_school 6 = .ok (.iconst 1, 1) := dk_4 (dk_at dksX1_school_0 6 rfl rfl)
theorem dX1_school_7 : decode cX1_school 7 = .ok (.if_icmp .ne 14, 3) := dk_160 0 14 (dk_at dksX1_school_0 7 rfl rfl)
theorem dX1_school_10 : decode cX1_school 10 = .ok (.iload_n 2, 1) := dk_28 (dk_at dksX1_school_0 10 rfl rfl)
theorem dX1_school_11 : decode cX1_school 11 = .ok (.invokestatic 214, 3) := dk_184 0 214 (dk_at dksX1_school_0 11 rfl rfl)
theorem dX1_school_14 : decode cX1_school 14 = .ok (.ifCond .eq 7, 3) := dk_153 0 7 (dk_at dksX1_school_0 14 rfl rfl)
theorem dX1_school_17 : decode cX1_school 17 = .ok (.iconst 1, 1) := dk_4 (dk_at dksX1_school_0 17 rfl rfl)
theorem dX1_school_18 : decode cX1_school 18 = .ok (.goto 4, 3) := dk_167 0 4 (dk_at dksX1_school_0 18 rfl rfl)
theorem dX1_school_21 : decode cX1_school 21 = .ok (.iconst 0, 1) := dk_3 (dk_at dksX1_school_0 21 rfl rfl)
theorem dX1_school_22 : decode cX1_school 22 = .ok (.invokevirtual 146, 3) := dk_182 0 146 (dk_at dksX1_school_1 0 rfl rfl)
theorem dX1_school_25 : decode cX1_school 25 = .ok (.aload_n 0, 1) := dk_42 (dk_at dksX1_school_1 3 rfl rfl)
theorem dX1_school_26 : decode cX1_school 26 = .ok (.invokevirtual 346, 3) := dk_182 1 90 (dk_at dksX1_school_1 4 rfl rfl)
theorem dX1_school_29 : decode cX1_school 29 = .ok (.iload_n 1, 1) := dk_27 (dk_at dksX1_school_1 7 rfl rfl)
theorem dX1_school_30 : decode cX1_school 30 = .ok (.ifCond .ne 10, 3) := dk_154 0 10 (dk_at dksX1_school_1 8 rfl rfl)
theorem dX1_school_33 : decode cX1_school 33 = .ok (.aload_n 0, 1) := dk_42 (dk_at dksX1_school_1 11 rfl rfl)
theorem dX1_school_34 : decode cX1_school 34 = .ok (.getfield 64, 3) := dk_180 0 64 (dk_at dksX1_school_1 12 rfl rfl)
theorem dX1_school_37 : decode cX1_school 37 = .ok (.goto 7, 3) := dk_167 0 7 (dk_at dksX1_school_1 15 rfl rfl)
theorem dX1_school_40 : decode cX1_school 40 = .ok (.aload_n 0, 1) := dk_42 (dk_at dksX1_school_1 18 rfl rfl)
theorem dX1_school_41 : decode cX1_school 41 = .ok (.getfield 68, 3) := dk_180 0 68 (dk_at dksX1_school_1 19 rfl rfl)
theorem dX1_school_44 : decode cX1_school 44 = .ok (.getfield 248, 3) := dk_180 0 248 (dk_at dksX1_school_2 0 rfl rfl)
theorem dX1_school_47 : decode cX1_school 47 = .ok (.iload_n 2, 1) := dk_28 (dk_at dksX1_school_2 3 rfl rfl)
theorem dX1_school_48 : decode cX1_school 48 = .ok (.iaload, 1) := dk_46 (dk_at dksX1_school_2 4 rfl rfl)
theorem dX1_school_49 : decode cX1_school 49 = .ok (.ireturn, 1) := dk_172 (dk_at dksX1_school_2 5 rfl rfl)
abbrev cX1_findSchools : ByteArray := prog_1_method_58_code
def yX1_findSchools : MethodName := ⟨RX1, "findSchools", "()V"⟩
def dkwX1_findSchools_5 : List UInt8 := [180, 0, 93, 27, 42, 180, 0, 68, 182, 1, 30, 80, 132, 1, 1, 167, 255, 157, 177]
abbrev dktX1_findSchools_5 : List UInt8 := dkwX1_findSchools_5 ++ []
def dkwX1_findSchools_4 : List UInt8 := [28, 167, 0, 4, 2, 182, 0, 237, 42, 180, 0, 90, 27, 42, 180, 0, 64, 182, 1, 30, 80, 42]
abbrev dktX1_findSchools_4 : List UInt8 := dkwX1_findSchools_4 ++ dktX1_findSchools_5
def dkwX1_findSchools_3 : List UInt8 := [112, 154, 0, 7, 28, 167, 0, 4, 2, 182, 0, 237, 42, 180, 0, 68, 27, 27, 5, 112, 4, 160, 0, 7]
abbrev dktX1_findSchools_3 : List UInt8 := dkwX1_findSchools_3 ++ dktX1_findSchools_4
def dkwX1_findSchools_2 : List UInt8 := [162, 0, 15, 42, 180, 0, 40, 180, 0, 120, 27, 46, 167, 0, 4, 2, 61, 42, 180, 0, 64, 27, 27, 5]
abbrev dktX1_findSchools_2 : List UInt8 := dkwX1_findSchools_2 ++ dktX1_findSchools_3
def dkwX1_findSchools_1 : List UInt8 := [180, 0, 126, 182, 0, 234, 87, 3, 60, 27, 16, 52, 162, 0, 99, 27, 42, 180, 0, 12, 180, 0, 108]
abbrev dktX1_findSchools_1 : List UInt8 := dkwX1_findSchools_1 ++ dktX1_findSchools_2
def dkwX1_findSchools_0 : List UInt8 := [42, 180, 0, 64, 42, 180, 0, 40, 180, 0, 126, 182, 0, 234, 87, 42, 180, 0, 68, 42, 180, 0, 40]
abbrev dktX1_findSchools_0 : List UInt8 := dkwX1_findSchools_0 ++ dktX1_findSchools_1
theorem dksX1_findSchools_0 : cX1_findSchools.data.toList.drop 0 = dktX1_findSchools_0 := by decide +kernel
theorem dksX1_findSchools_1 : cX1_findSchools.data.toList.drop 23 = dktX1_findSchools_1 := dk_seg dksX1_findSchools_0 23 rfl rfl
theorem dksX1_findSchools_2 : cX1_findSchools.data.toList.drop 46 = dktX1_findSchools_2 := dk_seg dksX1_findSchools_1 23 rfl rfl
theorem dksX1_findSchools_3 : cX1_findSchools.data.toList.drop 70 = dktX1_findSchools_3 := dk_seg dksX1_findSchools_2 24 rfl rfl
theorem dksX1_findSchools_4 : cX1_findSchools.data.toList.drop 94 = dktX1_findSchools_4 := dk_seg dksX1_findSchools_3 24 rfl rfl
theorem dksX1_findSchools_5 : cX1_findSchools.data.toList.drop 116 = dktX1_findSchools_5 := dk_seg dksX1_findSchools_4 22 rfl rfl
theorem dX1_findSchools_0 : decode cX1_findSchools 0 = .ok (.aload_n 0, 1) := dk_42 (dk_at dksX1_findSchools_0 0 rfl rfl)
theorem dX1_findSchools_1 : decode cX1_findSchools 1 = .ok (.getfield 64, 3) := dk_180 0 64 (dk_at dksX1_findSchools_0 1 rfl rfl)
theorem dX1_findSchools_4 : decode cX1_findSchools 4 = .ok (.aload_n 0, 1) := dk_42 (dk_at dksX1_findSchools_0 4 rfl rfl)
theorem dX1_findSchools_5 : decode cX1_findSchools 5 = .ok (.getfield 40, 3) := dk_180 0 40 (dk_at dksX1_findSchools_0 5 rfl rfl)
theorem dX1_findSchools_8 : decode cX1_findSchools 8 = .ok (.getfield 126, 3) := dk_180 0 126 (dk_at dksX1_findSchools_0 8 rfl rfl)
theorem dX1_findSchools_11 : decode cX1_findSchools 11 = .ok (.invokevirtual 234, 3) := dk_182 0 234 (dk_at dksX1_findSchools_0 11 rfl rfl)
theorem dX1_findSchools_14 : decode cX1_findSchools 14 = .ok (.pop, 1) := dk_87 (dk_at dksX1_findSchools_0 14 rfl rfl)
theorem dX1_findSchools_15 : decode cX1_findSchools 15 = .ok (.aload_n 0, 1) := dk_42 (dk_at dksX1_findSchools_0 15 rfl rfl)
theorem dX1_findSchools_16 : decode cX1_findSchools 16 = .ok (.getfield 68, 3) := dk_180 0 68 (dk_at dksX1_findSchools_0 16 rfl rfl)
theorem dX1_findSchools_19 : decode cX1_findSchools 19 = .ok (.aload_n 0, 1) := dk_42 (dk_at dksX1_findSchools_0 19 rfl rfl)
theorem dX1_findSchools_20 : decode cX1_findSchools 20 = .ok (.getfield 40, 3) := dk_180 0 40 (dk_at dksX1_findSchools_0 20 rfl rfl)
theorem dX1_findSchools_23 : decode cX1_findSchools 23 = .ok (.getfield 126, 3) := dk_180 0 126 (dk_at dksX1_findSchools_1 0 rfl rfl)
theorem dX1_findSchools_26 : decode cX1_findSchools 26 = .ok (.invokevirtual 234, 3) := dk_182 0 234 (dk_at dksX1_findSchools_1 3 rfl rfl)
theorem dX1_findSchools_29 : decode cX1_findSchools 29 = .ok (.pop, 1) := dk_87 (dk_at dksX1_findSchools_1 6 rfl rfl)
theorem dX1_findSchools_30 : decode cX1_findSchools 30 = .ok (.iconst 0, 1) := dk_3 (dk_at dksX1_findSchools_1 7 rfl rfl)
theorem dX1_findSchools_31 : decode cX1_findSchools 31 = .ok (.istore_n 1, 1) := dk_60 (dk_at dksX1_findSchools_1 8 rfl rfl)
theorem dX1_findSchools_32 : decode cX1_findSchools 32 = .ok (.iload_n 1, 1) := dk_27 (dk_at dksX1_findSchools_1 9 rfl rfl)
theorem dX1_findSchools_33 : decode cX1_findSchools 33 = .ok (.bipush 52, 2) := dk_16 52 (dk_at dksX1_findSchools_1 10 rfl rfl)
theorem dX1_findSchools_35 : decode cX1_findSchools 35 = .ok (.if_icmp .ge 99, 3) := dk_162 0 99 (dk_at dksX1_findSchools_1 12 rfl rfl)
theorem dX1_findSchools_38 : decode cX1_findSchools 38 = .ok (.iload_n 1, 1) := dk_27 (dk_at dksX1_findSchools_1 15 rfl rfl)
theorem dX1_findSchools_39 : decode cX1_findSchools 39 = .ok (.aload_n 0, 1) := dk_42 (dk_at dksX1_findSchools_1 16 rfl rfl)
theorem dX1_findSchools_40 : decode cX1_findSchools 40 = .ok (.getfield 12, 3) := dk_180 0 12 (dk_at dksX1_findSchools_1 17 rfl rfl)
theorem dX1_findSchools_43 : decode cX1_findSchools 43 = .ok (.getfield 108, 3) := dk_180 0 108 (dk_at dksX1_findSchools_1 20 rfl rfl)
theorem dX1_findSchools_46 : decode cX1_findSchools 46 = .ok (.if_icmp .ge 15, 3) := dk_162 0 15 (dk_at dksX1_findSchools_2 0 rfl rfl)
theorem dX1_findSchools_49 : decode cX1_findSchools 49 = .ok (.aload_n 0, 1) := dk_42 (dk_at dksX1_findSchools_2 3 rfl rfl)
theorem dX1_findSchools_50 : decode cX1_findSchools 50 = .ok (.getfield 40, 3) := dk_180 0 40 (dk_at dksX1_findSchools_2 4 rfl rfl)
theorem dX1_findSchools_53 : decode cX1_findSchools 53 = .ok (.getfield 120, 3) := dk_180 0 120 (dk_at dksX1_findSchools_2 7 rfl rfl)
theorem dX1_findSchools_56 : decode cX1_findSchools 56 = .ok (.iload_n 1, 1) := dk_27 (dk_at dksX1_findSchools_2 10 rfl rfl)
theorem dX1_findSchools_57 : decode cX1_findSchools 57 = .ok (.iaload, 1) := dk_46 (dk_at dksX1_findSchools_2 11 rfl rfl)
theorem dX1_findSchools_58 : decode cX1_findSchools 58 = .ok (.goto 4, 3) := dk_167 0 4 (dk_at dksX1_findSchools_2 12 rfl rfl)
theorem dX1_findSchools_61 : decode cX1_findSchools 61 = .ok (.iconst (-1), 1) := dk_2 (dk_at dksX1_findSchools_2 15 rfl rfl)
theorem dX1_findSchools_62 : decode cX1_findSchools 62 = .ok (.istore_n 2, 1) := dk_61 (dk_at dksX1_findSchools_2 16 rfl rfl)
theorem dX1_findSchools_63 : decode cX1_findSchools 63 = .ok (.aload_n 0, 1) := dk_42 (dk_at dksX1_findSchools_2 17 rfl rfl)
theorem dX1_findSchools_64 : decode cX1_findSchools 64 = .ok (.getfield 64, 3) := dk_180 0 64 (dk_at dksX1_findSchools_2 18 rfl rfl)
theorem dX1_findSchools_67 : decode cX1_findSchools 67 = .ok (.iload_n 1, 1) := dk_27 (dk_at dksX1_findSchools_2 21 rfl rfl)
theorem dX1_findSchools_68 : decode cX1_findSchools 68 = .ok (.iload_n 1, 1) := dk_27 (dk_at dksX1_findSchools_2 22 rfl rfl)
theorem dX1_findSchools_69 : decode cX1_findSchools 69 = .ok (.iconst 2, 1) := dk_5 (dk_at dksX1_findSchools_2 23 rfl rfl)
theorem dX1_findSchools_70 : decode cX1_findSchools 70 = .ok (.irem, 1) := dk_112 (dk_at dksX1_findSchools_3 0 rfl rfl)
theorem dX1_findSchools_71 : decode cX1_findSchools 71 = .ok (.ifCond .ne 7, 3) := dk_154 0 7 (dk_at dksX1_findSchools_3 1 rfl rfl)
theorem dX1_findSchools_74 : decode cX1_findSchools 74 = .ok (.iload_n 2, 1) := dk_28 (dk_at dksX1_findSchools_3 4 rfl rfl)
theorem dX1_findSchools_75 : decode cX1_findSchools 75 = .ok (.goto 4, 3) := dk_167 0 4 (dk_at dksX1_findSchools_3 5 rfl rfl)
theorem dX1_findSchools_78 : decode cX1_findSchools 78 = .ok (.iconst (-1), 1) := dk_2 (dk_at dksX1_findSchools_3 8 rfl rfl)
theorem dX1_findSchools_79 : decode cX1_findSchools 79 = .ok (.invokevirtual 237, 3) := dk_182 0 237 (dk_at dksX1_findSchools_3 9 rfl rfl)
theorem dX1_findSchools_82 : decode cX1_findSchools 82 = .ok (.aload_n 0, 1) := dk_42 (dk_at dksX1_findSchools_3 12 rfl rfl)
theorem dX1_findSchools_83 : decode cX1_findSchools 83 = .ok (.getfield 68, 3) := dk_180 0 68 (dk_at dksX1_findSchools_3 13 rfl rfl)
theorem dX1_findSchools_86 : decode cX1_findSchools 86 = .ok (.iload_n 1, 1) := dk_27 (dk_at dksX1_findSchools_3 16 rfl rfl)
theorem dX1_findSchools_87 : decode cX1_findSchools 87 = .ok (.iload_n 1, 1) := dk_27 (dk_at dksX1_findSchools_3 17 rfl rfl)
theorem dX1_findSchools_88 : decode cX1_findSchools 88 = .ok (.iconst 2, 1) := dk_5 (dk_at dksX1_findSchools_3 18 rfl rfl)
theorem dX1_findSchools_89 : decode cX1_findSchools 89 = .ok (.irem, 1) := dk_112 (dk_at dksX1_findSchools_3 19 rfl rfl)
theorem dX1_findSchools_90 : decode cX1_findSchools 90 = .ok (.iconst 1, 1) := dk_4 (dk_at dksX1_findSchools_3 20 rfl rfl)
theorem dX1_findSchools_91 : decode cX1_findSchools 91 = .ok (.if_icmp .ne 7, 3) := dk_160 0 7 (dk_at dksX1_findSchools_3 21 rfl rfl)
theorem dX1_findSchools_94 : decode cX1_findSchools 94 = .ok (.iload_n 2, 1) := dk_28 (dk_at dksX1_findSchools_4 0 rfl rfl)
theorem dX1_findSchools_95 : decode cX1_findSchools 95 = .ok (.goto 4, 3) := dk_167 0 4 (dk_at dksX1_findSchools_4 1 rfl rfl)
theorem dX1_findSchools_98 : decode cX1_findSchools 98 = .ok (.iconst (-1), 1) := dk_2 (dk_at dksX1_findSchools_4 4 rfl rfl)
theorem dX1_findSchools_99 : decode cX1_findSchools 99 = .ok (.invokevirtual 237, 3) := dk_182 0 237 (dk_at dksX1_findSchools_4 5 rfl rfl)
theorem dX1_findSchools_102 : decode cX1_findSchools 102 = .ok (.aload_n 0, 1) := dk_42 (dk_at dksX1_findSchools_4 8 rfl rfl)
theorem dX1_findSchools_103 : decode cX1_findSchools 103 = .ok (.getfield 90, 3) := dk_180 0 90 (dk_at dksX1_findSchools_4 9 rfl rfl)
theorem dX1_findSchools_106 : decode cX1_findSchools 106 = .ok (.iload_n 1, 1) := dk_27 (dk_at dksX1_findSchools_4 12 rfl rfl)
theorem dX1_findSchools_107 : decode cX1_findSchools 107 = .ok (.aload_n 0, 1) := dk_42 (dk_at dksX1_findSchools_4 13 rfl rfl)
theorem dX1_findSchools_108 : decode cX1_findSchools 108 = .ok (.getfield 64, 3) := dk_180 0 64 (dk_at dksX1_findSchools_4 14 rfl rfl)
theorem dX1_findSchools_111 : decode cX1_findSchools 111 = .ok (.invokevirtual 286, 3) := dk_182 1 30 (dk_at dksX1_findSchools_4 17 rfl rfl)
theorem dX1_findSchools_114 : decode cX1_findSchools 114 = .ok (.lastore, 1) := dk_80 (dk_at dksX1_findSchools_4 20 rfl rfl)
theorem dX1_findSchools_115 : decode cX1_findSchools 115 = .ok (.aload_n 0, 1) := dk_42 (dk_at dksX1_findSchools_4 21 rfl rfl)
theorem dX1_findSchools_116 : decode cX1_findSchools 116 = .ok (.getfield 93, 3) := dk_180 0 93 (dk_at dksX1_findSchools_5 0 rfl rfl)
theorem dX1_findSchools_119 : decode cX1_findSchools 119 = .ok (.iload_n 1, 1) := dk_27 (dk_at dksX1_findSchools_5 3 rfl rfl)
theorem dX1_findSchools_120 : decode cX1_findSchools 120 = .ok (.aload_n 0, 1) := dk_42 (dk_at dksX1_findSchools_5 4 rfl rfl)
theorem dX1_findSchools_121 : decode cX1_findSchools 121 = .ok (.getfield 68, 3) := dk_180 0 68 (dk_at dksX1_findSchools_5 5 rfl rfl)
theorem dX1_findSchools_124 : decode cX1_findSchools 124 = .ok (.invokevirtual 286, 3) := dk_182 1 30 (dk_at dksX1_findSchools_5 8 rfl rfl)
theorem dX1_findSchools_127 : decode cX1_findSchools 127 = .ok (.lastore, 1) := dk_80 (dk_at dksX1_findSchools_5 11 rfl rfl)
theorem dX1_findSchools_128 : decode cX1_findSchools 128 = .ok (.iinc 1 1, 3) := dk_132 1 1 (dk_at dksX1_findSchools_5 12 rfl rfl)
theorem dX1_findSchools_131 : decode cX1_findSchools 131 = .ok (.goto (-99), 3) := dk_167 255 157 (dk_at dksX1_findSchools_5 15 rfl rfl)
theorem dX1_findSchools_134 : decode cX1_findSchools 134 = .ok (.return_, 1) := dk_177 (dk_at dksX1_findSchools_5 18 rfl rfl)
abbrev cX1_right : ByteArray := prog_1_method_60_code
def yX1_right : MethodName := ⟨RX1, "right", "(I)I"⟩
def dkwX1_right_2 : List UInt8 := [42, 180, 0, 40, 180, 0, 117, 121, 148, 154, 0, 5, 28, 172, 132, 2, 1, 167, 255, 215, 2, 172]
abbrev dktX1_right_2 : List UInt8 := dkwX1_right_2 ++ []
def dkwX1_right_1 : List UInt8 := [28, 16, 52, 162, 0, 41, 27, 154, 0, 10, 42, 180, 0, 90, 167, 0, 7, 42, 180, 0, 93, 28, 47, 10]
abbrev dktX1_right_1 : List UInt8 := dkwX1_right_1 ++ dktX1_right_2
def dkwX1_right_0 : List UInt8 := [42, 27, 153, 0, 8, 27, 4, 160, 0, 7, 4, 167, 0, 4, 3, 182, 0, 146, 42, 182, 1, 90, 3, 61]
abbrev dktX1_right_0 : List UInt8 := dkwX1_right_0 ++ dktX1_right_1
theorem dksX1_right_0 : cX1_right.data.toList.drop 0 = dktX1_right_0 := by decide +kernel
theorem dksX1_right_1 : cX1_right.data.toList.drop 24 = dktX1_right_1 := dk_seg dksX1_right_0 24 rfl rfl
theorem dksX1_right_2 : cX1_right.data.toList.drop 48 = dktX1_right_2 := dk_seg dksX1_right_1 24 rfl rfl
theorem dX1_right_0 : decode cX1_right 0 = .ok (.aload_n 0, 1) := dk_42 (dk_at dksX1_right_0 0 rfl rfl)
theorem dX1_right_1 : decode cX1_right 1 = .ok (.iload_n 1, 1) := dk_27 (dk_at dksX1_right_0 1 rfl rfl)
theorem dX1_right_2 : decode cX1_right 2 = .ok (.ifCond .eq 8, 3) := dk_153 0 8 (dk_at dksX1_right_0 2 rfl rfl)
theorem dX1_right_5 : decode cX1_right 5 = .ok (.iload_n 1, 1) := dk_27 (dk_at dksX1_right_0 5 rfl rfl)
theorem dX1_right_6 : decode cX1_right 6 = .ok (.iconst 1, 1) := dk_4 (dk_at dksX1_right_0 6 rfl rfl)
theorem dX1_right_7 : decode cX1_right 7 = .ok (.if_icmp .ne 7, 3) := dk_160 0 7 (dk_at dksX1_right_0 7 rfl rfl)
theorem dX1_right_10 : decode cX1_right 10 = .ok (.iconst 1, 1) := dk_4 (dk_at dksX1_right_0 10 rfl rfl)
theorem dX1_right_11 : decode cX1_right 11 = .ok (.goto 4, 3) := dk_167 0 4 (dk_at dksX1_right_0 11 rfl rfl)
theorem dX1_right_14 : decode cX1_right 14 = .ok (.iconst 0, 1) := dk_3 (dk_at dksX1_right_0 14 rfl rfl)
theorem dX1_right_15 : decode cX1_right 15 = .ok (.invokevirtual 146, 3) := dk_182 0 146 (dk_at dksX1_right_0 15 rfl rfl)
theorem dX1_right_18 : decode cX1_right 18 = .ok (.aload_n 0, 1) := dk_42 (dk_at dksX1_right_0 18 rfl rfl)
theorem dX1_right_19 : decode cX1_right 19 = .ok (.invokevirtual 346, 3) := dk_182 1 90 (dk_at dksX1_right_0 19 rfl rfl)
theorem dX1_right_22 : decode cX1_right 22 = .ok (.iconst 0, 1) := dk_3 (dk_at dksX1_right_0 22 rfl rfl)
theorem dX1_right_23 : decode cX1_right 23 = .ok (.istore_n 2, 1) := dk_61 (dk_at dksX1_right_0 23 rfl rfl)
theorem dX1_right_24 : decode cX1_right 24 = .ok (.iload_n 2, 1) := dk_28 (dk_at dksX1_right_1 0 rfl rfl)
theorem dX1_right_25 : decode cX1_right 25 = .ok (.bipush 52, 2) := dk_16 52 (dk_at dksX1_right_1 1 rfl rfl)
theorem dX1_right_27 : decode cX1_right 27 = .ok (.if_icmp .ge 41, 3) := dk_162 0 41 (dk_at dksX1_right_1 3 rfl rfl)
theorem dX1_right_30 : decode cX1_right 30 = .ok (.iload_n 1, 1) := dk_27 (dk_at dksX1_right_1 6 rfl rfl)
theorem dX1_right_31 : decode cX1_right 31 = .ok (.ifCond .ne 10, 3) := dk_154 0 10 (dk_at dksX1_right_1 7 rfl rfl)
theorem dX1_right_34 : decode cX1_right 34 = .ok (.aload_n 0, 1) := dk_42 (dk_at dksX1_right_1 10 rfl rfl)
theorem dX1_right_35 : decode cX1_right 35 = .ok (.getfield 90, 3) := dk_180 0 90 (dk_at dksX1_right_1 11 rfl rfl)
theorem dX1_right_38 : decode cX1_right 38 = .ok (.goto 7, 3) := dk_167 0 7 (dk_at dksX1_right_1 14 rfl rfl)
theorem dX1_right_41 : decode cX1_right 41 = .ok (.aload_n 0, 1) := dk_42 (dk_at dksX1_right_1 17 rfl rfl)
theorem dX1_right_42 : decode cX1_right 42 = .ok (.getfield 93, 3) := dk_180 0 93 (dk_at dksX1_right_1 18 rfl rfl)
theorem dX1_right_45 : decode cX1_right 45 = .ok (.iload_n 2, 1) := dk_28 (dk_at dksX1_right_1 21 rfl rfl)
theorem dX1_right_46 : decode cX1_right 46 = .ok (.laload, 1) := dk_47 (dk_at dksX1_right_1 22 rfl rfl)
theorem dX1_right_47 : decode cX1_right 47 = .ok (.lconst 1, 1) := dk_10 (dk_at dksX1_right_1 23 rfl rfl)
theorem dX1_right_48 : decode cX1_right 48 = .ok (.aload_n 0, 1) := dk_42 (dk_at dksX1_right_2 0 rfl rfl)
theorem dX1_right_49 : decode cX1_right 49 = .ok (.getfield 40, 3) := dk_180 0 40 (dk_at dksX1_right_2 1 rfl rfl)
theorem dX1_right_52 : decode cX1_right 52 = .ok (.getfield 117, 3) := dk_180 0 117 (dk_at dksX1_right_2 4 rfl rfl)
theorem dX1_right_55 : decode cX1_right 55 = .ok (.lshl, 1) := dk_121 (dk_at dksX1_right_2 7 rfl rfl)
theorem dX1_right_56 : decode cX1_right 56 = .ok (.lcmp, 1) := dk_148 (dk_at dksX1_right_2 8 rfl rfl)
theorem dX1_right_57 : decode cX1_right 57 = .ok (.ifCond .ne 5, 3) := dk_154 0 5 (dk_at dksX1_right_2 9 rfl rfl)
theorem dX1_right_60 : decode cX1_right 60 = .ok (.iload_n 2, 1) := dk_28 (dk_at dksX1_right_2 12 rfl rfl)
theorem dX1_right_61 : decode cX1_right 61 = .ok (.ireturn, 1) := dk_172 (dk_at dksX1_right_2 13 rfl rfl)
theorem dX1_right_62 : decode cX1_right 62 = .ok (.iinc 2 1, 3) := dk_132 2 1 (dk_at dksX1_right_2 14 rfl rfl)
theorem dX1_right_65 : decode cX1_right 65 = .ok (.goto (-41), 3) := dk_167 255 215 (dk_at dksX1_right_2 17 rfl rfl)
theorem dX1_right_68 : decode cX1_right 68 = .ok (.iconst (-1), 1) := dk_2 (dk_at dksX1_right_2 20 rfl rfl)
theorem dX1_right_69 : decode cX1_right 69 = .ok (.ireturn, 1) := dk_172 (dk_at dksX1_right_2 21 rfl rfl)
abbrev cX1_killer : ByteArray := prog_1_method_61_code
def yX1_killer : MethodName := ⟨RX1, "killer", "(I)I"⟩
def dkwX1_killer_5 : List UInt8 := [33, 9, 148, 154, 0, 6, 21, 5, 172, 132, 5, 1, 167, 255, 178, 2, 172]
abbrev dktX1_killer_5 : List UInt8 := dkwX1_killer_5 ++ []
def dkwX1_killer_4 : List UInt8 := [167, 0, 33, 33, 42, 180, 0, 12, 180, 0, 196, 21, 5, 182, 0, 206, 192, 0, 210, 180, 0, 212, 127, 66]
abbrev dktX1_killer_4 : List UInt8 := dkwX1_killer_4 ++ dktX1_killer_5
def dkwX1_killer_3 : List UInt8 := [180, 0, 196, 21, 5, 182, 0, 206, 192, 0, 210, 180, 1, 93, 44, 180, 0, 254, 27, 46, 164, 0, 6]
abbrev dktX1_killer_3 : List UInt8 := dkwX1_killer_3 ++ dktX1_killer_4
def dkwX1_killer_2 : List UInt8 := [66, 3, 54, 5, 21, 5, 42, 180, 0, 12, 180, 0, 196, 182, 0, 187, 162, 0, 69, 42, 180, 0, 12]
abbrev dktX1_killer_2 : List UInt8 := dkwX1_killer_2 ++ dktX1_killer_3
def dkwX1_killer_1 : List UInt8 := [159, 0, 13, 44, 180, 1, 1, 27, 46, 2, 159, 0, 5, 2, 172, 42, 180, 0, 12, 180, 0, 114, 27, 47]
abbrev dktX1_killer_1 : List UInt8 := dkwX1_killer_1 ++ dktX1_killer_2
def dkwX1_killer_0 : List UInt8 := [42, 27, 42, 180, 0, 12, 180, 0, 108, 182, 0, 202, 42, 182, 0, 244, 77, 44, 180, 0, 254, 27, 46, 2]
abbrev dktX1_killer_0 : List UInt8 := dkwX1_killer_0 ++ dktX1_killer_1
theorem dksX1_killer_0 : cX1_killer.data.toList.drop 0 = dktX1_killer_0 := by decide +kernel
theorem dksX1_killer_1 : cX1_killer.data.toList.drop 24 = dktX1_killer_1 := dk_seg dksX1_killer_0 24 rfl rfl
theorem dksX1_killer_2 : cX1_killer.data.toList.drop 48 = dktX1_killer_2 := dk_seg dksX1_killer_1 24 rfl rfl
theorem dksX1_killer_3 : cX1_killer.data.toList.drop 71 = dktX1_killer_3 := dk_seg dksX1_killer_2 23 rfl rfl
theorem dksX1_killer_4 : cX1_killer.data.toList.drop 94 = dktX1_killer_4 := dk_seg dksX1_killer_3 23 rfl rfl
theorem dksX1_killer_5 : cX1_killer.data.toList.drop 118 = dktX1_killer_5 := dk_seg dksX1_killer_4 24 rfl rfl
theorem dX1_killer_0 : decode cX1_killer 0 = .ok (.aload_n 0, 1) := dk_42 (dk_at dksX1_killer_0 0 rfl rfl)
theorem dX1_killer_1 : decode cX1_killer 1 = .ok (.iload_n 1, 1) := dk_27 (dk_at dksX1_killer_0 1 rfl rfl)
theorem dX1_killer_2 : decode cX1_killer 2 = .ok (.aload_n 0, 1) := dk_42 (dk_at dksX1_killer_0 2 rfl rfl)
theorem dX1_killer_3 : decode cX1_killer 3 = .ok (.getfield 12, 3) := dk_180 0 12 (dk_at dksX1_killer_0 3 rfl rfl)
theorem dX1_killer_6 : decode cX1_killer 6 = .ok (.getfield 108, 3) := dk_180 0 108 (dk_at dksX1_killer_0 6 rfl rfl)
theorem dX1_killer_9 : decode cX1_killer 9 = .ok (.invokevirtual 202, 3) := dk_182 0 202 (dk_at dksX1_killer_0 9 rfl rfl)
theorem dX1_killer_12 : decode cX1_killer 12 = .ok (.aload_n 0, 1) := dk_42 (dk_at dksX1_killer_0 12 rfl rfl)
theorem dX1_killer_13 : decode cX1_killer 13 = .ok (.invokevirtual 244, 3) := dk_182 0 244 (dk_at dksX1_killer_0 13 rfl rfl)
theorem dX1_killer_16 : decode cX1_killer 16 = .ok (.astore_n 2, 1) := dk_77 (dk_at dksX1_killer_0 16 rfl rfl)
theorem dX1_killer_17 : decode cX1_killer 17 = .ok (.aload_n 2, 1) := dk_44 (dk_at dksX1_killer_0 17 rfl rfl)
theorem dX1_killer_18 : decode cX1_killer 18 = .ok (.getfield 254, 3) := dk_180 0 254 (dk_at dksX1_killer_0 18 rfl rfl)
theorem dX1_killer_21 : decode cX1_killer 21 = .ok (.iload_n 1, 1) := dk_27 (dk_at dksX1_killer_0 21 rfl rfl)
theorem dX1_killer_22 : decode cX1_killer 22 = .ok (.iaload, 1) := dk_46 (dk_at dksX1_killer_0 22 rfl rfl)
theorem dX1_killer_23 : decode cX1_killer 23 = .ok (.iconst (-1), 1) := dk_2 (dk_at dksX1_killer_0 23 rfl rfl)
theorem dX1_killer_24 : decode cX1_killer 24 = .ok (.if_icmp .eq 13, 3) := dk_159 0 13 (dk_at dksX1_killer_1 0 rfl rfl)
theorem dX1_killer_27 : decode cX1_killer 27 = .ok (.aload_n 2, 1) := dk_44 (dk_at dksX1_killer_1 3 rfl rfl)
theorem dX1_killer_28 : decode cX1_killer 28 = .ok (.getfield 257, 3) := dk_180 1 1 (dk_at dksX1_killer_1 4 rfl rfl)
theorem dX1_killer_31 : decode cX1_killer 31 = .ok (.iload_n 1, 1) := dk_27 (dk_at dksX1_killer_1 7 rfl rfl)
theorem dX1_killer_32 : decode cX1_killer 32 = .ok (.iaload, 1) := dk_46 (dk_at dksX1_killer_1 8 rfl rfl)
theorem dX1_killer_33 : decode cX1_killer 33 = .ok (.iconst (-1), 1) := dk_2 (dk_at dksX1_killer_1 9 rfl rfl)
theorem dX1_killer_34 : decode cX1_killer 34 = .ok (.if_icmp .eq 5, 3) := dk_159 0 5 (dk_at dksX1_killer_1 10 rfl rfl)
theorem dX1_killer_37 : decode cX1_killer 37 = .ok (.iconst (-1), 1) := dk_2 (dk_at dksX1_killer_1 13 rfl rfl)
theorem dX1_killer_38 : decode cX1_killer 38 = .ok (.ireturn, 1) := dk_172 (dk_at dksX1_killer_1 14 rfl rfl)
theorem dX1_killer_39 : decode cX1_killer 39 = .ok (.aload_n 0, 1) := dk_42 (dk_at dksX1_killer_1 15 rfl rfl)
theorem dX1_killer_40 : decode cX1_killer 40 = .ok (.getfield 12, 3) := dk_180 0 12 (dk_at dksX1_killer_1 16 rfl rfl)
theorem dX1_killer_43 : decode cX1_killer 43 = .ok (.getfield 114, 3) := dk_180 0 114 (dk_at dksX1_killer_1 19 rfl rfl)
theorem dX1_killer_46 : decode cX1_killer 46 = .ok (.iload_n 1, 1) := dk_27 (dk_at dksX1_killer_1 22 rfl rfl)
theorem dX1_killer_47 : decode cX1_killer 47 = .ok (.laload, 1) := dk_47 (dk_at dksX1_killer_1 23 rfl rfl)
theorem dX1_killer_48 : decode cX1_killer 48 = .ok (.lstore_n 3, 1) := dk_66 (dk_at dksX1_killer_2 0 rfl rfl)
theorem dX1_killer_49 : decode cX1_killer 49 = .ok (.iconst 0, 1) := dk_3 (dk_at dksX1_killer_2 1 rfl rfl)
theorem dX1_killer_50 : decode cX1_killer 50 = .ok (.istore 5, 2) := dk_54 5 (dk_at dksX1_killer_2 2 rfl rfl)
theorem dX1_killer_52 : decode cX1_killer 52 = .ok (.iload 5, 2) := dk_21 5 (dk_at dksX1_killer_2 4 rfl rfl)
theorem dX1_killer_54 : decode cX1_killer 54 = .ok (.aload_n 0, 1) := dk_42 (dk_at dksX1_killer_2 6 rfl rfl)
theorem dX1_killer_55 : decode cX1_killer 55 = .ok (.getfield 12, 3) := dk_180 0 12 (dk_at dksX1_killer_2 7 rfl rfl)
theorem dX1_killer_58 : decode cX1_killer 58 = .ok (.getfield 196, 3) := dk_180 0 196 (dk_at dksX1_killer_2 10 rfl rfl)
theorem dX1_killer_61 : decode cX1_killer 61 = .ok (.invokevirtual 187, 3) := dk_182 0 187 (dk_at dksX1_killer_2 13 rfl rfl)
theorem dX1_killer_64 : decode cX1_killer 64 = .ok (.if_icmp .ge 69, 3) := dk_162 0 69 (dk_at dksX1_killer_2 16 rfl rfl)
theorem dX1_killer_67 : decode cX1_killer 67 = .ok (.aload_n 0, 1) := dk_42 (dk_at dksX1_killer_2 19 rfl rfl)
theorem dX1_killer_68 : decode cX1_killer 68 = .ok (.getfield 12, 3) := dk_180 0 12 (dk_at dksX1_killer_2 20 rfl rfl)
theorem dX1_killer_71 : decode cX1_killer 71 = .ok (.getfield 196, 3) := dk_180 0 196 (dk_at dksX1_killer_3 0 rfl rfl)
theorem dX1_killer_74 : decode cX1_killer 74 = .ok (.iload 5, 2) := dk_21 5 (dk_at dksX1_killer_3 3 rfl rfl)
theorem dX1_killer_76 : decode cX1_killer 76 = .ok (.invokevirtual 206, 3) := dk_182 0 206 (dk_at dksX1_killer_3 5 rfl rfl)
theorem dX1_killer_79 : decode cX1_killer 79 = .ok (.checkcast 210, 3) := dk_192 0 210 (dk_at dksX1_killer_3 8 rfl rfl)
theorem dX1_killer_82 : decode cX1_killer 82 = .ok (.getfield 349, 3) := dk_180 1 93 (dk_at dksX1_killer_3 11 rfl rfl)
theorem dX1_killer_85 : decode cX1_killer 85 = .ok (.aload_n 2, 1) := dk_44 (dk_at dksX1_killer_3 14 rfl rfl)
theorem dX1_killer_86 : decode cX1_killer 86 = .ok (.getfield 254, 3) := dk_180 0 254 (dk_at dksX1_killer_3 15 rfl rfl)
theorem dX1_killer_89 : decode cX1_killer 89 = .ok (.iload_n 1, 1) := dk_27 (dk_at dksX1_killer_3 18 rfl rfl)
theorem dX1_killer_90 : decode cX1_killer 90 = .ok (.iaload, 1) := dk_46 (dk_at dksX1_killer_3 19 rfl rfl)
theorem dX1_killer_91 : decode cX1_killer 91 = .ok (.if_icmp .le 6, 3) := dk_164 0 6 (dk_at dksX1_killer_3 20 rfl rfl)
theorem dX1_killer_94 : decode cX1_killer 94 = .ok (.goto 33, 3) := dk_167 0 33 (dk_at dksX1_killer_4 0 rfl rfl)
theorem dX1_killer_97 : decode cX1_killer 97 = .ok (.lload_n 3, 1) := dk_33 (dk_at dksX1_killer_4 3 rfl rfl)
theorem dX1_killer_98 : decode cX1_killer 98 = .ok (.aload_n 0, 1) := dk_42 (dk_at dksX1_killer_4 4 rfl rfl)
theorem dX1_killer_99 : decode cX1_killer 99 = .ok (.getfield 12, 3) := dk_180 0 12 (dk_at dksX1_killer_4 5 rfl rfl)
theorem dX1_killer_102 : decode cX1_killer 102 = .ok (.getfield 196, 3) := dk_180 0 196 (dk_at dksX1_killer_4 8 rfl rfl)
theorem dX1_killer_105 : decode cX1_killer 105 = .ok (.iload 5, 2) := dk_21 5 (dk_at dksX1_killer_4 11 rfl rfl)
theorem dX1_killer_107 : decode cX1_killer 107 = .ok (.invokevirtual 206, 3) := dk_182 0 206 (dk_at dksX1_killer_4 13 rfl rfl)
theorem dX1_killer_110 : decode cX1_killer 110 = .ok (.checkcast 210, 3) := dk_192 0 210 (dk_at dksX1_killer_4 16 rfl rfl)
theorem dX1_killer_113 : decode cX1_killer 113 = .ok (.getfield 212, 3) := dk_180 0 212 (dk_at dksX1_killer_4 19 rfl rfl)
theorem dX1_killer_116 : decode cX1_killer 116 = .ok (.land, 1) := dk_127 (dk_at dksX1_killer_4 22 rfl rfl)
theorem dX1_killer_117 : decode cX1_killer 117 = .ok (.lstore_n 3, 1) := dk_66 (dk_at dksX1_killer_4 23 rfl rfl)
theorem dX1_killer_118 : decode cX1_killer 118 = .ok (.lload_n 3, 1) := dk_33 (dk_at dksX1_killer_5 0 rfl rfl)
theorem dX1_killer_119 : decode cX1_killer 119 = .ok (.lconst 0, 1) := dk_9 (dk_at dksX1_killer_5 1 rfl rfl)
theorem dX1_killer_120 : decode cX1_killer 120 = .ok (.lcmp, 1) := dk_148 (dk_at dksX1_killer_5 2 rfl rfl)
theorem dX1_killer_121 : decode cX1_killer 121 = .ok (.ifCond .ne 6, 3) := dk_154 0 6 (dk_at dksX1_killer_5 3 rfl rfl)
theorem dX1_killer_124 : decode cX1_killer 124 = .ok (.iload 5, 2) := dk_21 5 (dk_at dksX1_killer_5 6 rfl rfl)
theorem dX1_killer_126 : decode cX1_killer 126 = .ok (.ireturn, 1) := dk_172 (dk_at dksX1_killer_5 8 rfl rfl)
theorem dX1_killer_127 : decode cX1_killer 127 = .ok (.iinc 5 1, 3) := dk_132 5 1 (dk_at dksX1_killer_5 9 rfl rfl)
theorem dX1_killer_130 : decode cX1_killer 130 = .ok (.goto (-78), 3) := dk_167 255 178 (dk_at dksX1_killer_5 12 rfl rfl)
theorem dX1_killer_133 : decode cX1_killer 133 = .ok (.iconst (-1), 1) := dk_2 (dk_at dksX1_killer_5 15 rfl rfl)
theorem dX1_killer_134 : decode cX1_killer 134 = .ok (.ireturn, 1) := dk_172 (dk_at dksX1_killer_5 16 rfl rfl)
abbrev cX1_together : ByteArray := prog_1_method_62_code
def yX1_together : MethodName := ⟨RX1, "together", "(II)J"⟩
def dkwX1_together_1 : List UInt8 := [42, 28, 182, 1, 72, 42, 180, 0, 87, 27, 47, 173]
abbrev dktX1_together_1 : List UInt8 := dkwX1_together_1 ++ []
def dkwX1_together_0 : List UInt8 := [42, 42, 27, 182, 1, 69, 153, 0, 14, 28, 184, 0, 214, 153, 0, 7, 4, 167, 0, 4, 3, 182, 0, 146]
abbrev dktX1_together_0 : List UInt8 := dkwX1_together_0 ++ dktX1_together_1
theorem dksX1_together_0 : cX1_together.data.toList.drop 0 = dktX1_together_0 := by decide +kernel
theorem dksX1_together_1 : cX1_together.data.toList.drop 24 = dktX1_together_1 := dk_seg dksX1_together_0 24 rfl rfl
theorem dX1_together_0 : decode cX1_together 0 = .ok (.aload_n 0, 1) := dk_42 (dk_at dksX1_together_0 0 rfl rfl)
theorem dX1_together_1 : decode cX1_together 1 = .ok (.aload_n 0, 1) := dk_42 (dk_at dksX1_together_0 1 rfl rfl)
theorem dX1_together_2 : decode cX1_together 2 = .ok (.iload_n 1, 1) := dk_27 (dk_at dksX1_together_0 2 rfl rfl)
theorem dX1_together_3 : decode cX1_together 3 = .ok (.invokevirtual 325, 3) := dk_182 1 69 (dk_at dksX1_together_0 3 rfl rfl)
theorem dX1_together_6 : decode cX1_together 6 = .ok (.ifCond .eq 14, 3) := dk_153 0 14 (dk_at dksX1_together_0 6 rfl rfl)
theorem dX1_together_9 : decode cX1_together 9 = .ok (.iload_n 2, 1) := dk_28 (dk_at dksX1_together_0 9 rfl rfl)
theorem dX1_together_10 : decode cX1_together 10 = .ok (.invokestatic 214, 3) := dk_184 0 214 (dk_at dksX1_together_0 10 rfl rfl)
theorem dX1_together_13 : decode cX1_together 13 = .ok (.ifCond .eq 7, 3) := dk_153 0 7 (dk_at dksX1_together_0 13 rfl rfl)
theorem dX1_together_16 : decode cX1_together 16 = .ok (.iconst 1, 1) := dk_4 (dk_at dksX1_together_0 16 rfl rfl)
theorem dX1_together_17 : decode cX1_together 17 = .ok (.goto 4, 3) := dk_167 0 4 (dk_at dksX1_together_0 17 rfl rfl)
theorem dX1_together_20 : decode cX1_together 20 = .ok (.iconst 0, 1) := dk_3 (dk_at dksX1_together_0 20 rfl rfl)
theorem dX1_together_21 : decode cX1_together 21 = .ok (.invokevirtual 146, 3) := dk_182 0 146 (dk_at dksX1_together_0 21 rfl rfl)
theorem dX1_together_24 : decode cX1_together 24 = .ok (.aload_n 0, 1) := dk_42 (dk_at dksX1_together_1 0 rfl rfl)
theorem dX1_together_25 : decode cX1_together 25 = .ok (.iload_n 2, 1) := dk_28 (dk_at dksX1_together_1 1 rfl rfl)
theorem dX1_together_26 : decode cX1_together 26 = .ok (.invokevirtual 328, 3) := dk_182 1 72 (dk_at dksX1_together_1 2 rfl rfl)
theorem dX1_together_29 : decode cX1_together 29 = .ok (.aload_n 0, 1) := dk_42 (dk_at dksX1_together_1 5 rfl rfl)
theorem dX1_together_30 : decode cX1_together 30 = .ok (.getfield 87, 3) := dk_180 0 87 (dk_at dksX1_together_1 6 rfl rfl)
theorem dX1_together_33 : decode cX1_together 33 = .ok (.iload_n 1, 1) := dk_27 (dk_at dksX1_together_1 9 rfl rfl)
theorem dX1_together_34 : decode cX1_together 34 = .ok (.laload, 1) := dk_47 (dk_at dksX1_together_1 10 rfl rfl)
theorem dX1_together_35 : decode cX1_together 35 = .ok (.lreturn, 1) := dk_173 (dk_at dksX1_together_1 11 rfl rfl)
abbrev cX1_following : ByteArray := prog_1_method_63_code
def yX1_following : MethodName := ⟨RX1, "following", "(II)I"⟩
def dkwX1_following_3 : List UInt8 := [154, 0, 10, 4, 21, 4, 120, 167, 0, 4, 3, 128, 62, 132, 4, 1, 167, 255, 204, 29, 172]
abbrev dktX1_following_3 : List UInt8 := dkwX1_following_3 ++ []
def dkwX1_following_2 : List UInt8 := [180, 0, 87, 27, 47, 42, 180, 0, 12, 180, 0, 114, 21, 4, 47, 20, 0, 27, 131, 127, 9, 148]
abbrev dktX1_following_2 : List UInt8 := dkwX1_following_2 ++ dktX1_following_3
def dkwX1_following_1 : List UInt8 := [42, 28, 182, 1, 72, 3, 62, 3, 54, 4, 21, 4, 42, 180, 0, 12, 180, 0, 108, 162, 0, 46, 29, 42]
abbrev dktX1_following_1 : List UInt8 := dkwX1_following_1 ++ dktX1_following_2
def dkwX1_following_0 : List UInt8 := [42, 42, 27, 182, 1, 69, 153, 0, 14, 28, 184, 0, 214, 153, 0, 7, 4, 167, 0, 4, 3, 182, 0, 146]
abbrev dktX1_following_0 : List UInt8 := dkwX1_following_0 ++ dktX1_following_1
theorem dksX1_following_0 : cX1_following.data.toList.drop 0 = dktX1_following_0 := by decide +kernel
theorem dksX1_following_1 : cX1_following.data.toList.drop 24 = dktX1_following_1 := dk_seg dksX1_following_0 24 rfl rfl
theorem dksX1_following_2 : cX1_following.data.toList.drop 48 = dktX1_following_2 := dk_seg dksX1_following_1 24 rfl rfl
theorem dksX1_following_3 : cX1_following.data.toList.drop 70 = dktX1_following_3 := dk_seg dksX1_following_2 22 rfl rfl
theorem dX1_following_0 : decode cX1_following 0 = .ok (.aload_n 0, 1) := dk_42 (dk_at dksX1_following_0 0 rfl rfl)
theorem dX1_following_1 : decode cX1_following 1 = .ok (.aload_n 0, 1) := dk_42 (dk_at dksX1_following_0 1 rfl rfl)
theorem dX1_following_2 : decode cX1_following 2 = .ok (.iload_n 1, 1) := dk_27 (dk_at dksX1_following_0 2 rfl rfl)
theorem dX1_following_3 : decode cX1_following 3 = .ok (.invokevirtual 325, 3) := dk_182 1 69 (dk_at dksX1_following_0 3 rfl rfl)
theorem dX1_following_6 : decode cX1_following 6 = .ok (.ifCond .eq 14, 3) := dk_153 0 14 (dk_at dksX1_following_0 6 rfl rfl)
theorem dX1_following_9 : decode cX1_following 9 = .ok (.iload_n 2, 1) := dk_28 (dk_at dksX1_following_0 9 rfl rfl)
theorem dX1_following_10 : decode cX1_following 10 = .ok (.invokestatic 214, 3) := dk_184 0 214 (dk_at dksX1_following_0 10 rfl rfl)
theorem dX1_following_13 : decode cX1_following 13 = .ok (.ifCond .eq 7, 3) := dk_153 0 7 (dk_at dksX1_following_0 13 rfl rfl)
theorem dX1_following_16 : decode cX1_following 16 = .ok (.iconst 1, 1) := dk_4 (dk_at dksX1_following_0 16 rfl rfl)
theorem dX1_following_17 : decode cX1_following 17 = .ok (.goto 4, 3) := dk_167 0 4 (dk_at dksX1_following_0 17 rfl rfl)
theorem dX1_following_20 : decode cX1_following 20 = .ok (.iconst 0, 1) := dk_3 (dk_at dksX1_following_0 20 rfl rfl)
theorem dX1_following_21 : decode cX1_following 21 = .ok (.invokevirtual 146, 3) := dk_182 0 146 (dk_at dksX1_following_0 21 rfl rfl)
theorem dX1_following_24 : decode cX1_following 24 = .ok (.aload_n 0, 1) := dk_42 (dk_at dksX1_following_1 0 rfl rfl)
theorem dX1_following_25 : decode cX1_following 25 = .ok (.iload_n 2, 1) := dk_28 (dk_at dksX1_following_1 1 rfl rfl)
theorem dX1_following_26 : decode cX1_following 26 = .ok (.invokevirtual 328, 3) := dk_182 1 72 (dk_at dksX1_following_1 2 rfl rfl)
theorem dX1_following_29 : decode cX1_following 29 = .ok (.iconst 0, 1) := dk_3 (dk_at dksX1_following_1 5 rfl rfl)
theorem dX1_following_30 : decode cX1_following 30 = .ok (.istore_n 3, 1) := dk_62 (dk_at dksX1_following_1 6 rfl rfl)
theorem dX1_following_31 : decode cX1_following 31 = .ok (.iconst 0, 1) := dk_3 (dk_at dksX1_following_1 7 rfl rfl)
theorem dX1_following_32 : decode cX1_following 32 = .ok (.istore 4, 2) := dk_54 4 (dk_at dksX1_following_1 8 rfl rfl)
theorem dX1_following_34 : decode cX1_following 34 = .ok (.iload 4, 2) := dk_21 4 (dk_at dksX1_following_1 10 rfl rfl)
theorem dX1_following_36 : decode cX1_following 36 = .ok (.aload_n 0, 1) := dk_42 (dk_at dksX1_following_1 12 rfl rfl)
theorem dX1_following_37 : decode cX1_following 37 = .ok (.getfield 12, 3) := dk_180 0 12 (dk_at dksX1_following_1 13 rfl rfl)
theorem dX1_following_40 : decode cX1_following 40 = .ok (.getfield 108, 3) := dk_180 0 108 (dk_at dksX1_following_1 16 rfl rfl)
theorem dX1_following_43 : decode cX1_following 43 = .ok (.if_icmp .ge 46, 3) := dk_162 0 46 (dk_at dksX1_following_1 19 rfl rfl)
theorem dX1_following_46 : decode cX1_following 46 = .ok (.iload_n 3, 1) := dk_29 (dk_at dksX1_following_1 22 rfl rfl)
theorem dX1_following_47 : decode cX1_following 47 = .ok (.aload_n 0, 1) := dk_42 (dk_at dksX1_following_1 23 rfl rfl)
theorem dX1_following_48 : decode cX1_following 48 = .ok (.getfield 87, 3) := dk_180 0 87 (dk_at dksX1_following_2 0 rfl rfl)
theorem dX1_following_51 : decode cX1_following 51 = .ok (.iload_n 1, 1) := dk_27 (dk_at dksX1_following_2 3 rfl rfl)
theorem dX1_following_52 : decode cX1_following 52 = .ok (.laload, 1) := dk_47 (dk_at dksX1_following_2 4 rfl rfl)
theorem dX1_following_53 : decode cX1_following 53 = .ok (.aload_n 0, 1) := dk_42 (dk_at dksX1_following_2 5 rfl rfl)
theorem dX1_following_54 : decode cX1_following 54 = .ok (.getfield 12, 3) := dk_180 0 12 (dk_at dksX1_following_2 6 rfl rfl)
theorem dX1_following_57 : decode cX1_following 57 = .ok (.getfield 114, 3) := dk_180 0 114 (dk_at dksX1_following_2 9 rfl rfl)
theorem dX1_following_60 : decode cX1_following 60 = .ok (.iload 4, 2) := dk_21 4 (dk_at dksX1_following_2 12 rfl rfl)
theorem dX1_following_62 : decode cX1_following 62 = .ok (.laload, 1) := dk_47 (dk_at dksX1_following_2 14 rfl rfl)
theorem dX1_following_63 : decode cX1_following 63 = .ok (.ldc2_w 27, 3) := dk_20 0 27 (dk_at dksX1_following_2 15 rfl rfl)
theorem dX1_following_66 : decode cX1_following 66 = .ok (.lxor, 1) := dk_131 (dk_at dksX1_following_2 18 rfl rfl)
theorem dX1_following_67 : decode cX1_following 67 = .ok (.land, 1) := dk_127 (dk_at dksX1_following_2 19 rfl rfl)
theorem dX1_following_68 : decode cX1_following 68 = .ok (.lconst 0, 1) := dk_9 (dk_at dksX1_following_2 20 rfl rfl)
theorem dX1_following_69 : decode cX1_following 69 = .ok (.lcmp, 1) := dk_148 (dk_at dksX1_following_2 21 rfl rfl)
theorem dX1_following_70 : decode cX1_following 70 = .ok (.ifCond .ne 10, 3) := dk_154 0 10 (dk_at dksX1_following_3 0 rfl rfl)
theorem dX1_following_73 : decode cX1_following 73 = .ok (.iconst 1, 1) := dk_4 (dk_at dksX1_following_3 3 rfl rfl)
theorem dX1_following_74 : decode cX1_following 74 = .ok (.iload 4, 2) := dk_21 4 (dk_at dksX1_following_3 4 rfl rfl)
theorem dX1_following_76 : decode cX1_following 76 = .ok (.ishl, 1) := dk_120 (dk_at dksX1_following_3 6 rfl rfl)
theorem dX1_following_77 : decode cX1_following 77 = .ok (.goto 4, 3) := dk_167 0 4 (dk_at dksX1_following_3 7 rfl rfl)
theorem dX1_following_80 : decode cX1_following 80 = .ok (.iconst 0, 1) := dk_3 (dk_at dksX1_following_3 10 rfl rfl)
theorem dX1_following_81 : decode cX1_following 81 = .ok (.ior, 1) := dk_128 (dk_at dksX1_following_3 11 rfl rfl)
theorem dX1_following_82 : decode cX1_following 82 = .ok (.istore_n 3, 1) := dk_62 (dk_at dksX1_following_3 12 rfl rfl)
theorem dX1_following_83 : decode cX1_following 83 = .ok (.iinc 4 1, 3) := dk_132 4 1 (dk_at dksX1_following_3 13 rfl rfl)
theorem dX1_following_86 : decode cX1_following 86 = .ok (.goto (-52), 3) := dk_167 255 204 (dk_at dksX1_following_3 16 rfl rfl)
theorem dX1_following_89 : decode cX1_following 89 = .ok (.iload_n 3, 1) := dk_29 (dk_at dksX1_following_3 19 rfl rfl)
theorem dX1_following_90 : decode cX1_following 90 = .ok (.ireturn, 1) := dk_172 (dk_at dksX1_following_3 20 rfl rfl)
abbrev cX1_eldest : ByteArray := prog_1_method_64_code
def yX1_eldest : MethodName := ⟨RX1, "eldest", "(I)I"⟩
def dkwX1_eldest_2 : List UInt8 := [160, 0, 13, 42, 180, 0, 40, 180, 0, 120, 29, 46, 172, 132, 3, 1, 167, 255, 215, 2, 172]
abbrev dktX1_eldest_2 : List UInt8 := dkwX1_eldest_2 ++ []
def dkwX1_eldest_1 : List UInt8 := [180, 0, 12, 180, 0, 108, 162, 0, 36, 28, 42, 180, 0, 40, 180, 0, 120, 29, 46, 122, 4, 126, 4]
abbrev dktX1_eldest_1 : List UInt8 := dkwX1_eldest_1 ++ dktX1_eldest_2
def dkwX1_eldest_0 : List UInt8 := [42, 27, 184, 0, 214, 182, 0, 146, 42, 182, 0, 244, 180, 0, 248, 27, 46, 61, 3, 62, 29, 42]
abbrev dktX1_eldest_0 : List UInt8 := dkwX1_eldest_0 ++ dktX1_eldest_1
theorem dksX1_eldest_0 : cX1_eldest.data.toList.drop 0 = dktX1_eldest_0 := by decide +kernel
theorem dksX1_eldest_1 : cX1_eldest.data.toList.drop 22 = dktX1_eldest_1 := dk_seg dksX1_eldest_0 22 rfl rfl
theorem dksX1_eldest_2 : cX1_eldest.data.toList.drop 45 = dktX1_eldest_2 := dk_seg dksX1_eldest_1 23 rfl rfl
theorem dX1_eldest_0 : decode cX1_eldest 0 = .ok (.aload_n 0, 1) := dk_42 (dk_at dksX1_eldest_0 0 rfl rfl)
theorem dX1_eldest_1 : decode cX1_eldest 1 = .ok (.iload_n 1, 1) := dk_27 (dk_at dksX1_eldest_0 1 rfl rfl)
theorem dX1_eldest_2 : decode cX1_eldest 2 = .ok (.invokestatic 214, 3) := dk_184 0 214 (dk_at dksX1_eldest_0 2 rfl rfl)
theorem dX1_eldest_5 : decode cX1_eldest 5 = .ok (.invokevirtual 146, 3) := dk_182 0 146 (dk_at dksX1_eldest_0 5 rfl rfl)
theorem dX1_eldest_8 : decode cX1_eldest 8 = .ok (.aload_n 0, 1) := dk_42 (dk_at dksX1_eldest_0 8 rfl rfl)
theorem dX1_eldest_9 : decode cX1_eldest 9 = .ok (.invokevirtual 244, 3) := dk_182 0 244 (dk_at dksX1_eldest_0 9 rfl rfl)
theorem dX1_eldest_12 : decode cX1_eldest 12 = .ok (.getfield 248, 3) := dk_180 0 248 (dk_at dksX1_eldest_0 12 rfl rfl)
theorem dX1_eldest_15 : decode cX1_eldest 15 = .ok (.iload_n 1, 1) := dk_27 (dk_at dksX1_eldest_0 15 rfl rfl)
theorem dX1_eldest_16 : decode cX1_eldest 16 = .ok (.iaload, 1) := dk_46 (dk_at dksX1_eldest_0 16 rfl rfl)
theorem dX1_eldest_17 : decode cX1_eldest 17 = .ok (.istore_n 2, 1) := dk_61 (dk_at dksX1_eldest_0 17 rfl rfl)
theorem dX1_eldest_18 : decode cX1_eldest 18 = .ok (.iconst 0, 1) := dk_3 (dk_at dksX1_eldest_0 18 rfl rfl)
theorem dX1_eldest_19 : decode cX1_eldest 19 = .ok (.istore_n 3, 1) := dk_62 (dk_at dksX1_eldest_0 19 rfl rfl)
theorem dX1_eldest_20 : decode cX1_eldest 20 = .ok (.iload_n 3, 1) := dk_29 (dk_at dksX1_eldest_0 20 rfl rfl)
theorem dX1_eldest_21 : decode cX1_eldest 21 = .ok (.aload_n 0, 1) := dk_42 (dk_at dksX1_eldest_0 21 rfl rfl)
theorem dX1_eldest_22 : decode cX1_eldest 22 = .ok (.getfield 12, 3) := dk_180 0 12 (dk_at dksX1_eldest_1 0 rfl rfl)
theorem dX1_eldest_25 : decode cX1_eldest 25 = .ok (.getfield 108, 3) := dk_180 0 108 (dk_at dksX1_eldest_1 3 rfl rfl)
theorem dX1_eldest_28 : decode cX1_eldest 28 = .ok (.if_icmp .ge 36, 3) := dk_162 0 36 (dk_at dksX1_eldest_1 6 rfl rfl)
theorem dX1_eldest_31 : decode cX1_eldest 31 = .ok (.iload_n 2, 1) := dk_28 (dk_at dksX1_eldest_1 9 rfl rfl)
theorem dX1_eldest_32 : decode cX1_eldest 32 = .ok (.aload_n 0, 1) := dk_42 (dk_at dksX1_eldest_1 10 rfl rfl)
theorem dX1_eldest_33 : decode cX1_eldest 33 = .ok (.getfield 40, 3) := dk_180 0 40 (dk_at dksX1_eldest_1 11 rfl rfl)
theorem dX1_eldest_36 : decode cX1_eldest 36 = .ok (.getfield 120, 3) := dk_180 0 120 (dk_at dksX1_eldest_1 14 rfl rfl)
theorem dX1_eldest_39 : decode cX1_eldest 39 = .ok (.iload_n 3, 1) := dk_29 (dk_at dksX1_eldest_1 17 rfl rfl)
theorem dX1_eldest_40 : decode cX1_eldest 40 = .ok (.iaload, 1) := dk_46 (dk_at dksX1_eldest_1 18 rfl rfl)
theorem dX1_eldest_41 : decode cX1_eldest 41 = .ok (.ishr, 1) := dk_122 (dk_at dksX1_eldest_1 19 rfl rfl)
theorem dX1_eldest_42 : decode cX1_eldest 42 = .ok (.iconst 1, 1) := dk_4 (dk_at dksX1_eldest_1 20 rfl rfl)
theorem dX1_eldest_43 : decode cX1_eldest 43 = .ok (.iand, 1) := dk_126 (dk_at dksX1_eldest_1 21 rfl rfl)
theorem dX1_eldest_44 : decode cX1_eldest 44 = .ok (.iconst 1, 1) := dk_4 (dk_at dksX1_eldest_1 22 rfl rfl)
theorem dX1_eldest_45 : decode cX1_eldest 45 = .ok (.if_icmp .ne 13, 3) := dk_160 0 13 (dk_at dksX1_eldest_2 0 rfl rfl)
theorem dX1_eldest_48 : decode cX1_eldest 48 = .ok (.aload_n 0, 1) := dk_42 (dk_at dksX1_eldest_2 3 rfl rfl)
theorem dX1_eldest_49 : decode cX1_eldest 49 = .ok (.getfield 40, 3) := dk_180 0 40 (dk_at dksX1_eldest_2 4 rfl rfl)
theorem dX1_eldest_52 : decode cX1_eldest 52 = .ok (.getfield 120, 3) := dk_180 0 120 (dk_at dksX1_eldest_2 7 rfl rfl)
theorem dX1_eldest_55 : decode cX1_eldest 55 = .ok (.iload_n 3, 1) := dk_29 (dk_at dksX1_eldest_2 10 rfl rfl)
theorem dX1_eldest_56 : decode cX1_eldest 56 = .ok (.iaload, 1) := dk_46 (dk_at dksX1_eldest_2 11 rfl rfl)
theorem dX1_eldest_57 : decode cX1_eldest 57 = .ok (.ireturn, 1) := dk_172 (dk_at dksX1_eldest_2 12 rfl rfl)
theorem dX1_eldest_58 : decode cX1_eldest 58 = .ok (.iinc 3 1, 3) := dk_132 3 1 (dk_at dksX1_eldest_2 13 rfl rfl)
theorem dX1_eldest_61 : decode cX1_eldest 61 = .ok (.goto (-41), 3) := dk_167 255 215 (dk_at dksX1_eldest_2 16 rfl rfl)
theorem dX1_eldest_64 : decode cX1_eldest 64 = .ok (.iconst (-1), 1) := dk_2 (dk_at dksX1_eldest_2 19 rfl rfl)
theorem dX1_eldest_65 : decode cX1_eldest 65 = .ok (.ireturn, 1) := dk_172 (dk_at dksX1_eldest_2 20 rfl rfl)
abbrev cX1_quarrels : ByteArray := prog_1_method_66_code
def yX1_quarrels : MethodName := ⟨RX1, "quarrels", "(I)I"⟩
def dkwX1_quarrels_3 : List UInt8 := [167, 255, 200, 28, 172]
abbrev dktX1_quarrels_3 : List UInt8 := dkwX1_quarrels_3 ++ []
def dkwX1_quarrels_2 : List UInt8 := [182, 1, 96, 153, 0, 7, 4, 167, 0, 4, 3, 96, 61, 132, 4, 1, 167, 255, 222, 132, 3, 1]
abbrev dktX1_quarrels_2 : List UInt8 := dkwX1_quarrels_2 ++ dktX1_quarrels_3
def dkwX1_quarrels_1 : List UInt8 := [4, 96, 54, 4, 21, 4, 42, 180, 0, 12, 180, 0, 108, 162, 0, 28, 28, 42, 29, 21, 4, 27]
abbrev dktX1_quarrels_1 : List UInt8 := dkwX1_quarrels_1 ++ dktX1_quarrels_2
def dkwX1_quarrels_0 : List UInt8 := [42, 27, 184, 0, 214, 182, 0, 146, 3, 61, 3, 62, 29, 42, 180, 0, 12, 180, 0, 108, 162, 0, 51, 29]
abbrev dktX1_quarrels_0 : List UInt8 := dkwX1_quarrels_0 ++ dktX1_quarrels_1
theorem dksX1_quarrels_0 : cX1_quarrels.data.toList.drop 0 = dktX1_quarrels_0 := by decide +kernel
theorem dksX1_quarrels_1 : cX1_quarrels.data.toList.drop 24 = dktX1_quarrels_1 := dk_seg dksX1_quarrels_0 24 rfl rfl
theorem dksX1_quarrels_2 : cX1_quarrels.data.toList.drop 46 = dktX1_quarrels_2 := dk_seg dksX1_quarrels_1 22 rfl rfl
theorem dksX1_quarrels_3 : cX1_quarrels.data.toList.drop 68 = dktX1_quarrels_3 := dk_seg dksX1_quarrels_2 22 rfl rfl
theorem dX1_quarrels_0 : decode cX1_quarrels 0 = .ok (.aload_n 0, 1) := dk_42 (dk_at dksX1_quarrels_0 0 rfl rfl)
theorem dX1_quarrels_1 : decode cX1_quarrels 1 = .ok (.iload_n 1, 1) := dk_27 (dk_at dksX1_quarrels_0 1 rfl rfl)
theorem dX1_quarrels_2 : decode cX1_quarrels 2 = .ok (.invokestatic 214, 3) := dk_184 0 214 (dk_at dksX1_quarrels_0 2 rfl rfl)
theorem dX1_quarrels_5 : decode cX1_quarrels 5 = .ok (.invokevirtual 146, 3) := dk_182 0 146 (dk_at dksX1_quarrels_0 5 rfl rfl)
theorem dX1_quarrels_8 : decode cX1_quarrels 8 = .ok (.iconst 0, 1) := dk_3 (dk_at dksX1_quarrels_0 8 rfl rfl)
theorem dX1_quarrels_9 : decode cX1_quarrels 9 = .ok (.istore_n 2, 1) := dk_61 (dk_at dksX1_quarrels_0 9 rfl rfl)
theorem dX1_quarrels_10 : decode cX1_quarrels 10 = .ok (.iconst 0, 1) := dk_3 (dk_at dksX1_quarrels_0 10 rfl rfl)
theorem dX1_quarrels_11 : decode cX1_quarrels 11 = .ok (.istore_n 3, 1) := dk_62 (dk_at dksX1_quarrels_0 11 rfl rfl)
theorem dX1_quarrels_12 : decode cX1_quarrels 12 = .ok (.iload_n 3, 1) := dk_29 (dk_at dksX1_quarrels_0 12 rfl rfl)
theorem dX1_quarrels_13 : decode cX1_quarrels 13 = .ok (.aload_n 0, 1) := dk_42 (dk_at dksX1_quarrels_0 13 rfl rfl)
theorem dX1_quarrels_14 : decode cX1_quarrels 14 = .ok (.getfield 12, 3) := dk_180 0 12 (dk_at dksX1_quarrels_0 14 rfl rfl)
theorem dX1_quarrels_17 : decode cX1_quarrels 17 = .ok (.getfield 108, 3) := dk_180 0 108 (dk_at dksX1_quarrels_0 17 rfl rfl)
theorem dX1_quarrels_20 : decode cX1_quarrels 20 = .ok (.if_icmp .ge 51, 3) := dk_162 0 51 (dk_at dksX1_quarrels_0 20 rfl rfl)
theorem dX1_quarrels_23 : decode cX1_quarrels 23 = .ok (.iload_n 3, 1) := dk_29 (dk_at dksX1_quarrels_0 23 rfl rfl)
theorem dX1_quarrels_24 : decode cX1_quarrels 24 = .ok (.iconst 1, 1) := dk_4 (dk_at dksX1_quarrels_1 0 rfl rfl)
theorem dX1_quarrels_25 : decode cX1_quarrels 25 = .ok (.iadd, 1) := dk_96 (dk_at dksX1_quarrels_1 1 rfl rfl)
theorem dX1_quarrels_26 : decode cX1_quarrels 26 = .ok (.istore 4, 2) := dk_54 4 (dk_at dksX1_quarrels_1 2 rfl rfl)
theorem dX1_quarrels_28 : decode cX1_quarrels 28 = .ok (.iload 4, 2) := dk_21 4 (dk_at dksX1_quarrels_1 4 rfl rfl)
theorem dX1_quarrels_30 : decode cX1_quarrels 30 = .ok (.aload_n 0, 1) := dk_42 (dk_at dksX1_quarrels_1 6 rfl rfl)
theorem dX1_quarrels_31 : decode cX1_quarrels 31 = .ok (.getfield 12, 3) := dk_180 0 12 (dk_at dksX1_quarrels_1 7 rfl rfl)
theorem dX1_quarrels_34 : decode cX1_quarrels 34 = .ok (.getfield 108, 3) := dk_180 0 108 (dk_at dksX1_quarrels_1 10 rfl rfl)
theorem dX1_quarrels_37 : decode cX1_quarrels 37 = .ok (.if_icmp .ge 28, 3) := dk_162 0 28 (dk_at dksX1_quarrels_1 13 rfl rfl)
theorem dX1_quarrels_40 : decode cX1_quarrels 40 = .ok (.iload_n 2, 1) := dk_28 (dk_at dksX1_quarrels_1 16 rfl rfl)
theorem dX1_quarrels_41 : decode cX1_quarrels 41 = .ok (.aload_n 0, 1) := dk_42 (dk_at dksX1_quarrels_1 17 rfl rfl)
theorem dX1_quarrels_42 : decode cX1_quarrels 42 = .ok (.iload_n 3, 1) := dk_29 (dk_at dksX1_quarrels_1 18 rfl rfl)
theorem dX1_quarrels_43 : decode cX1_quarrels 43 = .ok (.iload 4, 2) := dk_21 4 (dk_at dksX1_quarrels_1 19 rfl rfl)
theorem dX1_quarrels_45 : decode cX1_quarrels 45 = .ok (.iload_n 1, 1) := dk_27 (dk_at dksX1_quarrels_1 21 rfl rfl)
theorem dX1_quarrels_46 : decode cX1_quarrels 46 = .ok (.invokevirtual 352, 3) := dk_182 1 96 (dk_at dksX1_quarrels_2 0 rfl rfl)
theorem dX1_quarrels_49 : decode cX1_quarrels 49 = .ok (.ifCond .eq 7, 3) := dk_153 0 7 (dk_at dksX1_quarrels_2 3 rfl rfl)
theorem dX1_quarrels_52 : decode cX1_quarrels 52 = .ok (.iconst 1, 1) := dk_4 (dk_at dksX1_quarrels_2 6 rfl rfl)
theorem dX1_quarrels_53 : decode cX1_quarrels 53 = .ok (.goto 4, 3) := dk_167 0 4 (dk_at dksX1_quarrels_2 7 rfl rfl)
theorem dX1_quarrels_56 : decode cX1_quarrels 56 = .ok (.iconst 0, 1) := dk_3 (dk_at dksX1_quarrels_2 10 rfl rfl)
theorem dX1_quarrels_57 : decode cX1_quarrels 57 = .ok (.iadd, 1) := dk_96 (dk_at dksX1_quarrels_2 11 rfl rfl)
theorem dX1_quarrels_58 : decode cX1_quarrels 58 = .ok (.istore_n 2, 1) := dk_61 (dk_at dksX1_quarrels_2 12 rfl rfl)
theorem dX1_quarrels_59 : decode cX1_quarrels 59 = .ok (.iinc 4 1, 3) := dk_132 4 1 (dk_at dksX1_quarrels_2 13 rfl rfl)
theorem dX1_quarrels_62 : decode cX1_quarrels 62 = .ok (.goto (-34), 3) := dk_167 255 222 (dk_at dksX1_quarrels_2 16 rfl rfl)
theorem dX1_quarrels_65 : decode cX1_quarrels 65 = .ok (.iinc 3 1, 3) := dk_132 3 1 (dk_at dksX1_quarrels_2 19 rfl rfl)
theorem dX1_quarrels_68 : decode cX1_quarrels 68 = .ok (.goto (-56), 3) := dk_167 255 200 (dk_at dksX1_quarrels_3 0 rfl rfl)
theorem dX1_quarrels_71 : decode cX1_quarrels 71 = .ok (.iload_n 2, 1) := dk_28 (dk_at dksX1_quarrels_3 3 rfl rfl)
theorem dX1_quarrels_72 : decode cX1_quarrels 72 = .ok (.ireturn, 1) := dk_172 (dk_at dksX1_quarrels_3 4 rfl rfl)
abbrev cX1_doFallOut : ByteArray := prog_1_method_65_code
def yX1_doFallOut : MethodName := ⟨RX1, "doFallOut", "(III)Z"⟩
def dkwX1_doFallOut_1 : List UInt8 := [47, 127, 9, 148, 154, 0, 7, 4, 167, 0, 4, 3, 172]
abbrev dktX1_doFallOut_1 : List UInt8 := dkwX1_doFallOut_1 ++ []
def dkwX1_doFallOut_0 : List UInt8 := [42, 180, 0, 12, 180, 0, 114, 27, 47, 42, 180, 0, 12, 180, 0, 114, 28, 47, 127, 42, 180, 0, 33, 29]
abbrev dktX1_doFallOut_0 : List UInt8 := dkwX1_doFallOut_0 ++ dktX1_doFallOut_1
theorem dksX1_doFallOut_0 : cX1_doFallOut.data.toList.drop 0 = dktX1_doFallOut_0 := by decide +kernel
theorem dksX1_doFallOut_1 : cX1_doFallOut.data.toList.drop 24 = dktX1_doFallOut_1 := dk_seg dksX1_doFallOut_0 24 rfl rfl
theorem dX1_doFallOut_0 : decode cX1_doFallOut 0 = .ok (.aload_n 0, 1) := dk_42 (dk_at dksX1_doFallOut_0 0 rfl rfl)
theorem dX1_doFallOut_1 : decode cX1_doFallOut 1 = .ok (.getfield 12, 3) := dk_180 0 12 (dk_at dksX1_doFallOut_0 1 rfl rfl)
theorem dX1_doFallOut_4 : decode cX1_doFallOut 4 = .ok (.getfield 114, 3) := dk_180 0 114 (dk_at dksX1_doFallOut_0 4 rfl rfl)
theorem dX1_doFallOut_7 : decode cX1_doFallOut 7 = .ok (.iload_n 1, 1) := dk_27 (dk_at dksX1_doFallOut_0 7 rfl rfl)
theorem dX1_doFallOut_8 : decode cX1_doFallOut 8 = .ok (.laload, 1) := dk_47 (dk_at dksX1_doFallOut_0 8 rfl rfl)
theorem dX1_doFallOut_9 : decode cX1_doFallOut 9 = .ok (.aload_n 0, 1) := dk_42 (dk_at dksX1_doFallOut_0 9 rfl rfl)
theorem dX1_doFallOut_10 : decode cX1_doFallOut 10 = .ok (.getfield 12, 3) := dk_180 0 12 (dk_at dksX1_doFallOut_0 10 rfl rfl)
theorem dX1_doFallOut_13 : decode cX1_doFallOut 13 = .ok (.getfield 114, 3) := dk_180 0 114 (dk_at dksX1_doFallOut_0 13 rfl rfl)
theorem dX1_doFallOut_16 : decode cX1_doFallOut 16 = .ok (.iload_n 2, 1) := dk_28 (dk_at dksX1_doFallOut_0 16 rfl rfl)
theorem dX1_doFallOut_17 : decode cX1_doFallOut 17 = .ok (.laload, 1) := dk_47 (dk_at dksX1_doFallOut_0 17 rfl rfl)
theorem dX1_doFallOut_18 : decode cX1_doFallOut 18 = .ok (.land, 1) := dk_127 (dk_at dksX1_doFallOut_0 18 rfl rfl)
theorem dX1_doFallOut_19 : decode cX1_doFallOut 19 = .ok (.aload_n 0, 1) := dk_42 (dk_at dksX1_doFallOut_0 19 rfl rfl)
theorem dX1_doFallOut_20 : decode cX1_doFallOut 20 = .ok (.getfield 33, 3) := dk_180 0 33 (dk_at dksX1_doFallOut_0 20 rfl rfl)
theorem dX1_doFallOut_23 : decode cX1_doFallOut 23 = .ok (.iload_n 3, 1) := dk_29 (dk_at dksX1_doFallOut_0 23 rfl rfl)
theorem dX1_doFallOut_24 : decode cX1_doFallOut 24 = .ok (.laload, 1) := dk_47 (dk_at dksX1_doFallOut_1 0 rfl rfl)
theorem dX1_doFallOut_25 : decode cX1_doFallOut 25 = .ok (.land, 1) := dk_127 (dk_at dksX1_doFallOut_1 1 rfl rfl)
theorem dX1_doFallOut_26 : decode cX1_doFallOut 26 = .ok (.lconst 0, 1) := dk_9 (dk_at dksX1_doFallOut_1 2 rfl rfl)
theorem dX1_doFallOut_27 : decode cX1_doFallOut 27 = .ok (.lcmp, 1) := dk_148 (dk_at dksX1_doFallOut_1 3 rfl rfl)
theorem dX1_doFallOut_28 : decode cX1_doFallOut 28 = .ok (.ifCond .ne 7, 3) := dk_154 0 7 (dk_at dksX1_doFallOut_1 4 rfl rfl)
theorem dX1_doFallOut_31 : decode cX1_doFallOut 31 = .ok (.iconst 1, 1) := dk_4 (dk_at dksX1_doFallOut_1 7 rfl rfl)
theorem dX1_doFallOut_32 : decode cX1_doFallOut 32 = .ok (.goto 4, 3) := dk_167 0 4 (dk_at dksX1_doFallOut_1 8 rfl rfl)
theorem dX1_doFallOut_35 : decode cX1_doFallOut 35 = .ok (.iconst 0, 1) := dk_3 (dk_at dksX1_doFallOut_1 11 rfl rfl)
theorem dX1_doFallOut_36 : decode cX1_doFallOut 36 = .ok (.ireturn, 1) := dk_172 (dk_at dksX1_doFallOut_1 12 rfl rfl)
abbrev cX1_peace : ByteArray := prog_1_method_68_code
def yX1_peace : MethodName := ⟨RX1, "peace", "(I)I"⟩
def dkwX1_peace_2 : List UInt8 := [61, 132, 3, 1, 167, 255, 218, 28, 172]
abbrev dktX1_peace_2 : List UInt8 := dkwX1_peace_2 ++ []
def dkwX1_peace_1 : List UInt8 := [162, 0, 31, 29, 184, 1, 13, 28, 184, 1, 13, 164, 0, 14, 42, 29, 27, 182, 1, 100, 153, 0, 5, 29]
abbrev dktX1_peace_1 : List UInt8 := dkwX1_peace_1 ++ dktX1_peace_2
def dkwX1_peace_0 : List UInt8 := [42, 27, 184, 0, 214, 182, 0, 146, 3, 61, 4, 62, 29, 4, 42, 180, 0, 12, 180, 0, 108, 120]
abbrev dktX1_peace_0 : List UInt8 := dkwX1_peace_0 ++ dktX1_peace_1
theorem dksX1_peace_0 : cX1_peace.data.toList.drop 0 = dktX1_peace_0 := by decide +kernel
theorem dksX1_peace_1 : cX1_peace.data.toList.drop 22 = dktX1_peace_1 := dk_seg dksX1_peace_0 22 rfl rfl
theorem dksX1_peace_2 : cX1_peace.data.toList.drop 46 = dktX1_peace_2 := dk_seg dksX1_peace_1 24 rfl rfl
theorem dX1_peace_0 : decode cX1_peace 0 = .ok (.aload_n 0, 1) := dk_42 (dk_at dksX1_peace_0 0 rfl rfl)
theorem dX1_peace_1 : decode cX1_peace 1 = .ok (.iload_n 1, 1) := dk_27 (dk_at dksX1_peace_0 1 rfl rfl)
theorem dX1_peace_2 : decode cX1_peace 2 = .ok (.invokestatic 214, 3) := dk_184 0 214 (dk_at dksX1_peace_0 2 rfl rfl)
theorem dX1_peace_5 : decode cX1_peace 5 = .ok (.invokevirtual 146, 3) := dk_182 0 146 (dk_at dksX1_peace_0 5 rfl rfl)
theorem dX1_peace_8 : decode cX1_peace 8 = .ok (.iconst 0, 1) := dk_3 (dk_at dksX1_peace_0 8 rfl rfl)
theorem dX1_peace_9 : decode cX1_peace 9 = .ok (.istore_n 2, 1) := dk_61 (dk_at dksX1_peace_0 9 rfl rfl)
theorem dX1_peace_10 : decode cX1_peace 10 = .ok (.iconst 1, 1) := dk_4 (dk_at dksX1_peace_0 10 rfl rfl)
theorem dX1_peace_11 : decode cX1_peace 11 = .ok (.istore_n 3, 1) := dk_62 (dk_at dksX1_peace_0 11 rfl rfl)
theorem dX1_peace_12 : decode cX1_peace 12 = .ok (.iload_n 3, 1) := dk_29 (dk_at dksX1_peace_0 12 rfl rfl)
theorem dX1_peace_13 : decode cX1_peace 13 = .ok (.iconst 1, 1) := dk_4 (dk_at dksX1_peace_0 13 rfl rfl)
theorem dX1_peace_14 : decode cX1_peace 14 = .ok (.aload_n 0, 1) := dk_42 (dk_at dksX1_peace_0 14 rfl rfl)
theorem dX1_peace_15 : decode cX1_peace 15 = .ok (.getfield 12, 3) := dk_180 0 12 (dk_at dksX1_peace_0 15 rfl rfl)
theorem dX1_peace_18 : decode cX1_peace 18 = .ok (.getfield 108, 3) := dk_180 0 108 (dk_at dksX1_peace_0 18 rfl rfl)
theorem dX1_peace_21 : decode cX1_peace 21 = .ok (.ishl, 1) := dk_120 (dk_at dksX1_peace_0 21 rfl rfl)
theorem dX1_peace_22 : decode cX1_peace 22 = .ok (.if_icmp .ge 31, 3) := dk_162 0 31 (dk_at dksX1_peace_1 0 rfl rfl)
theorem dX1_peace_25 : decode cX1_peace 25 = .ok (.iload_n 3, 1) := dk_29 (dk_at dksX1_peace_1 3 rfl rfl)
theorem dX1_peace_26 : decode cX1_peace 26 = .ok (.invokestatic 269, 3) := dk_184 1 13 (dk_at dksX1_peace_1 4 rfl rfl)
theorem dX1_peace_29 : decode cX1_peace 29 = .ok (.iload_n 2, 1) := dk_28 (dk_at dksX1_peace_1 7 rfl rfl)
theorem dX1_peace_30 : decode cX1_peace 30 = .ok (.invokestatic 269, 3) := dk_184 1 13 (dk_at dksX1_peace_1 8 rfl rfl)
theorem dX1_peace_33 : decode cX1_peace 33 = .ok (.if_icmp .le 14, 3) := dk_164 0 14 (dk_at dksX1_peace_1 11 rfl rfl)
theorem dX1_peace_36 : decode cX1_peace 36 = .ok (.aload_n 0, 1) := dk_42 (dk_at dksX1_peace_1 14 rfl rfl)
theorem dX1_peace_37 : decode cX1_peace 37 = .ok (.iload_n 3, 1) := dk_29 (dk_at dksX1_peace_1 15 rfl rfl)
theorem dX1_peace_38 : decode cX1_peace 38 = .ok (.iload_n 1, 1) := dk_27 (dk_at dksX1_peace_1 16 rfl rfl)
theorem dX1_peace_39 : decode cX1_peace 39 = .ok (.invokevirtual 356, 3) := dk_182 1 100 (dk_at dksX1_peace_1 17 rfl rfl)
theorem dX1_peace_42 : decode cX1_peace 42 = .ok (.ifCond .eq 5, 3) := dk_153 0 5 (dk_at dksX1_peace_1 20 rfl rfl)
theorem dX1_peace_45 : decode cX1_peace 45 = .ok (.iload_n 3, 1) := dk_29 (dk_at dksX1_peace_1 23 rfl rfl)
theorem dX1_peace_46 : decode cX1_peace 46 = .ok (.istore_n 2, 1) := dk_61 (dk_at dksX1_peace_2 0 rfl rfl)
theorem dX1_peace_47 : decode cX1_peace 47 = .ok (.iinc 3 1, 3) := dk_132 3 1 (dk_at dksX1_peace_2 1 rfl rfl)
theorem dX1_peace_50 : decode cX1_peace 50 = .ok (.goto (-38), 3) := dk_167 255 218 (dk_at dksX1_peace_2 4 rfl rfl)
theorem dX1_peace_53 : decode cX1_peace 53 = .ok (.iload_n 2, 1) := dk_28 (dk_at dksX1_peace_2 7 rfl rfl)
theorem dX1_peace_54 : decode cX1_peace 54 = .ok (.ireturn, 1) := dk_172 (dk_at dksX1_peace_2 8 rfl rfl)
abbrev cX1_isPeace : ByteArray := prog_1_method_67_code
def yX1_isPeace : MethodName := ⟨RX1, "isPeace", "(II)Z"⟩
def dkwX1_isPeace_3 : List UInt8 := [132, 3, 1, 167, 255, 189, 4, 172]
abbrev dktX1_isPeace_3 : List UInt8 := dkwX1_isPeace_3 ++ []
def dkwX1_isPeace_2 : List UInt8 := [160, 0, 16, 42, 29, 21, 4, 28, 182, 1, 96, 153, 0, 5, 3, 172, 132, 4, 1, 167, 255, 209]
abbrev dktX1_isPeace_2 : List UInt8 := dkwX1_isPeace_2 ++ dktX1_isPeace_3
def dkwX1_isPeace_1 : List UInt8 := [180, 0, 108, 162, 0, 41, 27, 29, 122, 4, 126, 4, 160, 0, 26, 27, 21, 4, 122, 4, 126, 4]
abbrev dktX1_isPeace_1 : List UInt8 := dkwX1_isPeace_1 ++ dktX1_isPeace_2
def dkwX1_isPeace_0 : List UInt8 := [3, 62, 29, 42, 180, 0, 12, 180, 0, 108, 162, 0, 62, 29, 54, 4, 21, 4, 42, 180, 0, 12]
abbrev dktX1_isPeace_0 : List UInt8 := dkwX1_isPeace_0 ++ dktX1_isPeace_1
theorem dksX1_isPeace_0 : cX1_isPeace.data.toList.drop 0 = dktX1_isPeace_0 := by decide +kernel
theorem dksX1_isPeace_1 : cX1_isPeace.data.toList.drop 22 = dktX1_isPeace_1 := dk_seg dksX1_isPeace_0 22 rfl rfl
theorem dksX1_isPeace_2 : cX1_isPeace.data.toList.drop 44 = dktX1_isPeace_2 := dk_seg dksX1_isPeace_1 22 rfl rfl
theorem dksX1_isPeace_3 : cX1_isPeace.data.toList.drop 66 = dktX1_isPeace_3 := dk_seg dksX1_isPeace_2 22 rfl rfl
theorem dX1_isPeace_0 : decode cX1_isPeace 0 = .ok (.iconst 0, 1) := dk_3 (dk_at dksX1_isPeace_0 0 rfl rfl)
theorem dX1_isPeace_1 : decode cX1_isPeace 1 = .ok (.istore_n 3, 1) := dk_62 (dk_at dksX1_isPeace_0 1 rfl rfl)
theorem dX1_isPeace_2 : decode cX1_isPeace 2 = .ok (.iload_n 3, 1) := dk_29 (dk_at dksX1_isPeace_0 2 rfl rfl)
theorem dX1_isPeace_3 : decode cX1_isPeace 3 = .ok (.aload_n 0, 1) := dk_42 (dk_at dksX1_isPeace_0 3 rfl rfl)
theorem dX1_isPeace_4 : decode cX1_isPeace 4 = .ok (.getfield 12, 3) := dk_180 0 12 (dk_at dksX1_isPeace_0 4 rfl rfl)
theorem dX1_isPeace_7 : decode cX1_isPeace 7 = .ok (.getfield 108, 3) := dk_180 0 108 (dk_at dksX1_isPeace_0 7 rfl rfl)
theorem dX1_isPeace_10 : decode cX1_isPeace 10 = .ok (.if_icmp .ge 62, 3) := dk_162 0 62 (dk_at dksX1_isPeace_0 10 rfl rfl)
theorem dX1_isPeace_13 : decode cX1_isPeace 13 = .ok (.iload_n 3, 1) := dk_29 (dk_at dksX1_isPeace_0 13 rfl rfl)
theorem dX1_isPeace_14 : decode cX1_isPeace 14 = .ok (.istore 4, 2) := dk_54 4 (dk_at dksX1_isPeace_0 14 rfl rfl)
theorem dX1_isPeace_16 : decode cX1_isPeace 16 = .ok (.iload 4, 2) := dk_21 4 (dk_at dksX1_isPeace_0 16 rfl rfl)
theorem dX1_isPeace_18 : decode cX1_isPeace 18 = .ok (.aload_n 0, 1) := dk_42 (dk_at dksX1_isPeace_0 18 rfl rfl)
theorem dX1_isPeace_19 : decode cX1_isPeace 19 = .ok (.getfield 12, 3) := dk_180 0 12 (dk_at dksX1_isPeace_0 19 rfl rfl)
theorem dX1_isPeace_22 : decode cX1_isPeace 22 = .ok (.getfield 108, 3) := dk_180 0 108 (dk_at dksX1_isPeace_1 0 rfl rfl)
theorem dX1_isPeace_25 : decode cX1_isPeace 25 = .ok (.if_icmp .ge 41, 3) := dk_162 0 41 (dk_at dksX1_isPeace_1 3 rfl rfl)
theorem dX1_isPeace_28 : decode cX1_isPeace 28 = .ok (.iload_n 1, 1) := dk_27 (dk_at dksX1_isPeace_1 6 rfl rfl)
theorem dX1_isPeace_29 : decode cX1_isPeace 29 = .ok (.iload_n 3, 1) := dk_29 (dk_at dksX1_isPeace_1 7 rfl rfl)
theorem dX1_isPeace_30 : decode cX1_isPeace 30 = .ok (.ishr, 1) := dk_122 (dk_at dksX1_isPeace_1 8 rfl rfl)
theorem dX1_isPeace_31 : decode cX1_isPeace 31 = .ok (.iconst 1, 1) := dk_4 (dk_at dksX1_isPeace_1 9 rfl rfl)
theorem dX1_isPeace_32 : decode cX1_isPeace 32 = .ok (.iand, 1) := dk_126 (dk_at dksX1_isPeace_1 10 rfl rfl)
theorem dX1_isPeace_33 : decode cX1_isPeace 33 = .ok (.iconst 1, 1) := dk_4 (dk_at dksX1_isPeace_1 11 rfl rfl)
theorem dX1_isPeace_34 : decode cX1_isPeace 34 = .ok (.if_icmp .ne 26, 3) := dk_160 0 26 (dk_at dksX1_isPeace_1 12 rfl rfl)
theorem dX1_isPeace_37 : decode cX1_isPeace 37 = .ok (.iload_n 1, 1) := dk_27 (dk_at dksX1_isPeace_1 15 rfl rfl)
theorem dX1_isPeace_38 : decode cX1_isPeace 38 = .ok (.iload 4, 2) := dk_21 4 (dk_at dksX1_isPeace_1 16 rfl rfl)
theorem dX1_isPeace_40 : decode cX1_isPeace 40 = .ok (.ishr, 1) := dk_122 (dk_at dksX1_isPeace_1 18 rfl rfl)
theorem dX1_isPeace_41 : decode cX1_isPeace 41 = .ok (.iconst 1, 1) := dk_4 (dk_at dksX1_isPeace_1 19 rfl rfl)
theorem dX1_isPeace_42 : decode cX1_isPeace 42 = .ok (.iand, 1) := dk_126 (dk_at dksX1_isPeace_1 20 rfl rfl)
theorem dX1_isPeace_43 : decode cX1_isPeace 43 = .ok (.iconst 1, 1) := dk_4 (dk_at dksX1_isPeace_1 21 rfl rfl)
theorem dX1_isPeace_44 : decode cX1_isPeace 44 = .ok (.if_icmp .ne 16, 3) := dk_160 0 16 (dk_at dksX1_isPeace_2 0 rfl rfl)
theorem dX1_isPeace_47 : decode cX1_isPeace 47 = .ok (.aload_n 0, 1) := dk_42 (dk_at dksX1_isPeace_2 3 rfl rfl)
theorem dX1_isPeace_48 : decode cX1_isPeace 48 = .ok (.iload_n 3, 1) := dk_29 (dk_at dksX1_isPeace_2 4 rfl rfl)
theorem dX1_isPeace_49 : decode cX1_isPeace 49 = .ok (.iload 4, 2) := dk_21 4 (dk_at dksX1_isPeace_2 5 rfl rfl)
theorem dX1_isPeace_51 : decode cX1_isPeace 51 = .ok (.iload_n 2, 1) := dk_28 (dk_at dksX1_isPeace_2 7 rfl rfl)
theorem dX1_isPeace_52 : decode cX1_isPeace 52 = .ok (.invokevirtual 352, 3) := dk_182 1 96 (dk_at dksX1_isPeace_2 8 rfl rfl)
theorem dX1_isPeace_55 : decode cX1_isPeace 55 = .ok (.ifCond .eq 5, 3) := dk_153 0 5 (dk_at dksX1_isPeace_2 11 rfl rfl)
theorem dX1_isPeace_58 : decode cX1_isPeace 58 = .ok (.iconst 0, 1) := dk_3 (dk_at dksX1_isPeace_2 14 rfl rfl)
theorem dX1_isPeace_59 : decode cX1_isPeace 59 = .ok (.ireturn, 1) := dk_172 (dk_at dksX1_isPeace_2 15 rfl rfl)
theorem dX1_isPeace_60 : decode cX1_isPeace 60 = .ok (.iinc 4 1, 3) := dk_132 4 1 (dk_at dksX1_isPeace_2 16 rfl rfl)
theorem dX1_isPeace_63 : decode cX1_isPeace 63 = .ok (.goto (-47), 3) := dk_167 255 209 (dk_at dksX1_isPeace_2 19 rfl rfl)
theorem dX1_isPeace_66 : decode cX1_isPeace 66 = .ok (.iinc 3 1, 3) := dk_132 3 1 (dk_at dksX1_isPeace_3 0 rfl rfl)
theorem dX1_isPeace_69 : decode cX1_isPeace 69 = .ok (.goto (-67), 3) := dk_167 255 189 (dk_at dksX1_isPeace_3 3 rfl rfl)
theorem dX1_isPeace_72 : decode cX1_isPeace 72 = .ok (.iconst 1, 1) := dk_4 (dk_at dksX1_isPeace_3 6 rfl rfl)
theorem dX1_isPeace_73 : decode cX1_isPeace 73 = .ok (.ireturn, 1) := dk_172 (dk_at dksX1_isPeace_3 7 rfl rfl)
abbrev cX1_worst : ByteArray := prog_1_method_70_code
def yX1_worst : MethodName := ⟨RX1, "worst", "(I)J"⟩
def dkwX1_worst_2 : List UInt8 := [180, 1, 107, 173]
abbrev dktX1_worst_2 : List UInt8 := dkwX1_worst_2 ++ []
def dkwX1_worst_1 : List UInt8 := [181, 1, 104, 42, 3, 3, 9, 182, 1, 110, 27, 154, 0, 11, 42, 180, 1, 104, 133, 167, 0, 7, 42]
abbrev dktX1_worst_1 : List UInt8 := dkwX1_worst_1 ++ dktX1_worst_2
def dkwX1_worst_0 : List UInt8 := [42, 27, 153, 0, 8, 27, 4, 160, 0, 7, 4, 167, 0, 4, 3, 182, 0, 146, 42, 182, 1, 60, 42, 2]
abbrev dktX1_worst_0 : List UInt8 := dkwX1_worst_0 ++ dktX1_worst_1
theorem dksX1_worst_0 : cX1_worst.data.toList.drop 0 = dktX1_worst_0 := by decide +kernel
theorem dksX1_worst_1 : cX1_worst.data.toList.drop 24 = dktX1_worst_1 := dk_seg dksX1_worst_0 24 rfl rfl
theorem dksX1_worst_2 : cX1_worst.data.toList.drop 47 = dktX1_worst_2 := dk_seg dksX1_worst_1 23 rfl rfl
theorem dX1_worst_0 : decode cX1_worst 0 = .ok (.aload_n 0, 1) := dk_42 (dk_at dksX1_worst_0 0 rfl rfl)
theorem dX1_worst_1 : decode cX1_worst 1 = .ok (.iload_n 1, 1) := dk_27 (dk_at dksX1_worst_0 1 rfl rfl)
theorem dX1_worst_2 : decode cX1_worst 2 = .ok (.ifCond .eq 8, 3) := dk_153 0 8 (dk_at dksX1_worst_0 2 rfl rfl)
theorem dX1_worst_5 : decode cX1_worst 5 = .ok (.iload_n 1, 1) := dk_27 (dk_at dksX1_worst_0 5 rfl rfl)
theorem dX1_worst_6 : decode cX1_worst 6 = .ok (.iconst 1, 1) := dk_4 (dk_at dksX1_worst_0 6 rfl rfl)
theorem dX1_worst_7 : decode cX1_worst 7 = .ok (.if_icmp .ne 7, 3) := dk_160 0 7 (dk_at dksX1_worst_0 7 rfl rfl)
theorem dX1_worst_10 : decode cX1_worst 10 = .ok (.iconst 1, 1) := dk_4 (dk_at dksX1_worst_0 10 rfl rfl)
theorem dX1_worst_11 : decode cX1_worst 11 = .ok (.goto 4, 3) := dk_167 0 4 (dk_at dksX1_worst_0 11 rfl rfl)
theorem dX1_worst_14 : decode cX1_worst 14 = .ok (.iconst 0, 1) := dk_3 (dk_at dksX1_worst_0 14 rfl rfl)
theorem dX1_worst_15 : decode cX1_worst 15 = .ok (.invokevirtual 146, 3) := dk_182 0 146 (dk_at dksX1_worst_0 15 rfl rfl)
theorem dX1_worst_18 : decode cX1_worst 18 = .ok (.aload_n 0, 1) := dk_42 (dk_at dksX1_worst_0 18 rfl rfl)
theorem dX1_worst_19 : decode cX1_worst 19 = .ok (.invokevirtual 316, 3) := dk_182 1 60 (dk_at dksX1_worst_0 19 rfl rfl)
theorem dX1_worst_22 : decode cX1_worst 22 = .ok (.aload_n 0, 1) := dk_42 (dk_at dksX1_worst_0 22 rfl rfl)
theorem dX1_worst_23 : decode cX1_worst 23 = .ok (.iconst (-1), 1) := dk_2 (dk_at dksX1_worst_0 23 rfl rfl)
theorem dX1_worst_24 : decode cX1_worst 24 = .ok (.putfield 360, 3) := dk_181 1 104 (dk_at dksX1_worst_1 0 rfl rfl)
theorem dX1_worst_27 : decode cX1_worst 27 = .ok (.aload_n 0, 1) := dk_42 (dk_at dksX1_worst_1 3 rfl rfl)
theorem dX1_worst_28 : decode cX1_worst 28 = .ok (.iconst 0, 1) := dk_3 (dk_at dksX1_worst_1 4 rfl rfl)
theorem dX1_worst_29 : decode cX1_worst 29 = .ok (.iconst 0, 1) := dk_3 (dk_at dksX1_worst_1 5 rfl rfl)
theorem dX1_worst_30 : decode cX1_worst 30 = .ok (.lconst 0, 1) := dk_9 (dk_at dksX1_worst_1 6 rfl rfl)
theorem dX1_worst_31 : decode cX1_worst 31 = .ok (.invokevirtual 366, 3) := dk_182 1 110 (dk_at dksX1_worst_1 7 rfl rfl)
theorem dX1_worst_34 : decode cX1_worst 34 = .ok (.iload_n 1, 1) := dk_27 (dk_at dksX1_worst_1 10 rfl rfl)
theorem dX1_worst_35 : decode cX1_worst 35 = .ok (.ifCond .ne 11, 3) := dk_154 0 11 (dk_at dksX1_worst_1 11 rfl rfl)
theorem dX1_worst_38 : decode cX1_worst 38 = .ok (.aload_n 0, 1) := dk_42 (dk_at dksX1_worst_1 14 rfl rfl)
theorem dX1_worst_39 : decode cX1_worst 39 = .ok (.getfield 360, 3) := dk_180 1 104 (dk_at dksX1_worst_1 15 rfl rfl)
theorem dX1_worst_42 : decode cX1_worst 42 = .ok (.i2l, 1) := dk_133 (dk_at dksX1_worst_1 18 rfl rfl)
theorem dX1_worst_43 : decode cX1_worst 43 = .ok (.goto 7, 3) := dk_167 0 7 (dk_at dksX1_worst_1 19 rfl rfl)
theorem dX1_worst_46 : decode cX1_worst 46 = .ok (.aload_n 0, 1) := dk_42 (dk_at dksX1_worst_1 22 rfl rfl)
theorem dX1_worst_47 : decode cX1_worst 47 = .ok (.getfield 363, 3) := dk_180 1 107 (dk_at dksX1_worst_2 0 rfl rfl)
theorem dX1_worst_50 : decode cX1_worst 50 = .ok (.lreturn, 1) := dk_173 (dk_at dksX1_worst_2 3 rfl rfl)
abbrev cX1_hurtsBy : ByteArray := prog_1_method_69_code
def yX1_hurtsBy : MethodName := ⟨RX1, "hurtsBy", "(IIJ)V"⟩
def dkwX1_hurtsBy_6 : List UInt8 := [132, 5, 1, 167, 255, 200, 177]
abbrev dktX1_hurtsBy_6 : List UInt8 := dkwX1_hurtsBy_6 ++ []
def dkwX1_hurtsBy_5 : List UInt8 := [21, 5, 79, 42, 27, 4, 96, 28, 4, 21, 5, 120, 128, 33, 7, 121, 21, 5, 133, 129, 182, 1, 110]
abbrev dktX1_hurtsBy_5 : List UInt8 := dkwX1_hurtsBy_5 ++ dktX1_hurtsBy_6
def dkwX1_hurtsBy_4 : List UInt8 := [180, 0, 108, 162, 0, 50, 28, 21, 5, 122, 4, 126, 4, 160, 0, 6, 167, 0, 31, 42, 180, 0, 74, 27]
abbrev dktX1_hurtsBy_4 : List UInt8 := dkwX1_hurtsBy_4 ++ dktX1_hurtsBy_5
def dkwX1_hurtsBy_3 : List UInt8 := [177, 42, 21, 5, 181, 1, 104, 42, 33, 181, 1, 107, 177, 3, 54, 5, 21, 5, 42, 180, 0, 12]
abbrev dktX1_hurtsBy_3 : List UInt8 := dkwX1_hurtsBy_3 ++ dktX1_hurtsBy_4
def dkwX1_hurtsBy_2 : List UInt8 := [180, 1, 7, 21, 6, 46, 96, 54, 5, 132, 6, 1, 167, 255, 226, 21, 5, 42, 180, 1, 104, 163, 0, 4]
abbrev dktX1_hurtsBy_2 : List UInt8 := dkwX1_hurtsBy_2 ++ dktX1_hurtsBy_3
def dkwX1_hurtsBy_1 : List UInt8 := [54, 5, 3, 54, 6, 21, 6, 42, 180, 0, 12, 180, 0, 108, 162, 0, 24, 21, 5, 42, 180, 0, 64]
abbrev dktX1_hurtsBy_1 : List UInt8 := dkwX1_hurtsBy_1 ++ dktX1_hurtsBy_2
def dkwX1_hurtsBy_0 : List UInt8 := [27, 42, 180, 0, 12, 180, 0, 108, 160, 0, 76, 42, 42, 180, 0, 40, 180, 0, 126, 182, 1, 32, 87, 3]
abbrev dktX1_hurtsBy_0 : List UInt8 := dkwX1_hurtsBy_0 ++ dktX1_hurtsBy_1
theorem dksX1_hurtsBy_0 : cX1_hurtsBy.data.toList.drop 0 = dktX1_hurtsBy_0 := by decide +kernel
theorem dksX1_hurtsBy_1 : cX1_hurtsBy.data.toList.drop 24 = dktX1_hurtsBy_1 := dk_seg dksX1_hurtsBy_0 24 rfl rfl
theorem dksX1_hurtsBy_2 : cX1_hurtsBy.data.toList.drop 47 = dktX1_hurtsBy_2 := dk_seg dksX1_hurtsBy_1 23 rfl rfl
theorem dksX1_hurtsBy_3 : cX1_hurtsBy.data.toList.drop 71 = dktX1_hurtsBy_3 := dk_seg dksX1_hurtsBy_2 24 rfl rfl
theorem dksX1_hurtsBy_4 : cX1_hurtsBy.data.toList.drop 93 = dktX1_hurtsBy_4 := dk_seg dksX1_hurtsBy_3 22 rfl rfl
theorem dksX1_hurtsBy_5 : cX1_hurtsBy.data.toList.drop 117 = dktX1_hurtsBy_5 := dk_seg dksX1_hurtsBy_4 24 rfl rfl
theorem dksX1_hurtsBy_6 : cX1_hurtsBy.data.toList.drop 140 = dktX1_hurtsBy_6 := dk_seg dksX1_hurtsBy_5 23 rfl rfl
theorem dX1_hurtsBy_0 : decode cX1_hurtsBy 0 = .ok (.iload_n 1, 1) := dk_27 (dk_at dksX1_hurtsBy_0 0 rfl rfl)
theorem dX1_hurtsBy_1 : decode cX1_hurtsBy 1 = .ok (.aload_n 0, 1) := dk_42 (dk_at dksX1_hurtsBy_0 1 rfl rfl)
theorem dX1_hurtsBy_2 : decode cX1_hurtsBy 2 = .ok (.getfield 12, 3) := dk_180 0 12 (dk_at dksX1_hurtsBy_0 2 rfl rfl)
theorem dX1_hurtsBy_5 : decode cX1_hurtsBy 5 = .ok (.getfield 108, 3) := dk_180 0 108 (dk_at dksX1_hurtsBy_0 5 rfl rfl)
theorem dX1_hurtsBy_8 : decode cX1_hurtsBy 8 = .ok (.if_icmp .ne 76, 3) := dk_160 0 76 (dk_at dksX1_hurtsBy_0 8 rfl rfl)
theorem dX1_hurtsBy_11 : decode cX1_hurtsBy 11 = .ok (.aload_n 0, 1) := dk_42 (dk_at dksX1_hurtsBy_0 11 rfl rfl)
theorem dX1_hurtsBy_12 : decode cX1_hurtsBy 12 = .ok (.aload_n 0, 1) := dk_42 (dk_at dksX1_hurtsBy_0 12 rfl rfl)
theorem dX1_hurtsBy_13 : decode cX1_hurtsBy 13 = .ok (.getfield 40, 3) := dk_180 0 40 (dk_at dksX1_hurtsBy_0 13 rfl rfl)
theorem dX1_hurtsBy_16 : decode cX1_hurtsBy 16 = .ok (.getfield 126, 3) := dk_180 0 126 (dk_at dksX1_hurtsBy_0 16 rfl rfl)
theorem dX1_hurtsBy_19 : decode cX1_hurtsBy 19 = .ok (.invokevirtual 288, 3) := dk_182 1 32 (dk_at dksX1_hurtsBy_0 19 rfl rfl)
theorem dX1_hurtsBy_22 : decode cX1_hurtsBy 22 = .ok (.pop, 1) := dk_87 (dk_at dksX1_hurtsBy_0 22 rfl rfl)
theorem dX1_hurtsBy_23 : decode cX1_hurtsBy 23 = .ok (.iconst 0, 1) := dk_3 (dk_at dksX1_hurtsBy_0 23 rfl rfl)
theorem dX1_hurtsBy_24 : decode cX1_hurtsBy 24 = .ok (.istore 5, 2) := dk_54 5 (dk_at dksX1_hurtsBy_1 0 rfl rfl)
theorem dX1_hurtsBy_26 : decode cX1_hurtsBy 26 = .ok (.iconst 0, 1) := dk_3 (dk_at dksX1_hurtsBy_1 2 rfl rfl)
theorem dX1_hurtsBy_27 : decode cX1_hurtsBy 27 = .ok (.istore 6, 2) := dk_54 6 (dk_at dksX1_hurtsBy_1 3 rfl rfl)
theorem dX1_hurtsBy_29 : decode cX1_hurtsBy 29 = .ok (.iload 6, 2) := dk_21 6 (dk_at dksX1_hurtsBy_1 5 rfl rfl)
theorem dX1_hurtsBy_31 : decode cX1_hurtsBy 31 = .ok (.aload_n 0, 1) := dk_42 (dk_at dksX1_hurtsBy_1 7 rfl rfl)
theorem dX1_hurtsBy_32 : decode cX1_hurtsBy 32 = .ok (.getfield 12, 3) := dk_180 0 12 (dk_at dksX1_hurtsBy_1 8 rfl rfl)
theorem dX1_hurtsBy_35 : decode cX1_hurtsBy 35 = .ok (.getfield 108, 3) := dk_180 0 108 (dk_at dksX1_hurtsBy_1 11 rfl rfl)
theorem dX1_hurtsBy_38 : decode cX1_hurtsBy 38 = .ok (.if_icmp .ge 24, 3) := dk_162 0 24 (dk_at dksX1_hurtsBy_1 14 rfl rfl)
theorem dX1_hurtsBy_41 : decode cX1_hurtsBy 41 = .ok (.iload 5, 2) := dk_21 5 (dk_at dksX1_hurtsBy_1 17 rfl rfl)
theorem dX1_hurtsBy_43 : decode cX1_hurtsBy 43 = .ok (.aload_n 0, 1) := dk_42 (dk_at dksX1_hurtsBy_1 19 rfl rfl)
theorem dX1_hurtsBy_44 : decode cX1_hurtsBy 44 = .ok (.getfield 64, 3) := dk_180 0 64 (dk_at dksX1_hurtsBy_1 20 rfl rfl)
theorem dX1_hurtsBy_47 : decode cX1_hurtsBy 47 = .ok (.getfield 263, 3) := dk_180 1 7 (dk_at dksX1_hurtsBy_2 0 rfl rfl)
theorem dX1_hurtsBy_50 : decode cX1_hurtsBy 50 = .ok (.iload 6, 2) := dk_21 6 (dk_at dksX1_hurtsBy_2 3 rfl rfl)
theorem dX1_hurtsBy_52 : decode cX1_hurtsBy 52 = .ok (.iaload, 1) := dk_46 (dk_at dksX1_hurtsBy_2 5 rfl rfl)
theorem dX1_hurtsBy_53 : decode cX1_hurtsBy 53 = .ok (.iadd, 1) := dk_96 (dk_at dksX1_hurtsBy_2 6 rfl rfl)
theorem dX1_hurtsBy_54 : decode cX1_hurtsBy 54 = .ok (.istore 5, 2) := dk_54 5 (dk_at dksX1_hurtsBy_2 7 rfl rfl)
theorem dX1_hurtsBy_56 : decode cX1_hurtsBy 56 = .ok (.iinc 6 1, 3) := dk_132 6 1 (dk_at dksX1_hurtsBy_2 9 rfl rfl)
theorem dX1_hurtsBy_59 : decode cX1_hurtsBy 59 = .ok (.goto (-30), 3) := dk_167 255 226 (dk_at dksX1_hurtsBy_2 12 rfl rfl)
theorem dX1_hurtsBy_62 : decode cX1_hurtsBy 62 = .ok (.iload 5, 2) := dk_21 5 (dk_at dksX1_hurtsBy_2 15 rfl rfl)
theorem dX1_hurtsBy_64 : decode cX1_hurtsBy 64 = .ok (.aload_n 0, 1) := dk_42 (dk_at dksX1_hurtsBy_2 17 rfl rfl)
theorem dX1_hurtsBy_65 : decode cX1_hurtsBy 65 = .ok (.getfield 360, 3) := dk_180 1 104 (dk_at dksX1_hurtsBy_2 18 rfl rfl)
theorem dX1_hurtsBy_68 : decode cX1_hurtsBy 68 = .ok (.if_icmp .gt 4, 3) := dk_163 0 4 (dk_at dksX1_hurtsBy_2 21 rfl rfl)
theorem dX1_hurtsBy_71 : decode cX1_hurtsBy 71 = .ok (.return_, 1) := dk_177 (dk_at dksX1_hurtsBy_3 0 rfl rfl)
theorem dX1_hurtsBy_72 : decode cX1_hurtsBy 72 = .ok (.aload_n 0, 1) := dk_42 (dk_at dksX1_hurtsBy_3 1 rfl rfl)
theorem dX1_hurtsBy_73 : decode cX1_hurtsBy 73 = .ok (.iload 5, 2) := dk_21 5 (dk_at dksX1_hurtsBy_3 2 rfl rfl)
theorem dX1_hurtsBy_75 : decode cX1_hurtsBy 75 = .ok (.putfield 360, 3) := dk_181 1 104 (dk_at dksX1_hurtsBy_3 4 rfl rfl)
theorem dX1_hurtsBy_78 : decode cX1_hurtsBy 78 = .ok (.aload_n 0, 1) := dk_42 (dk_at dksX1_hurtsBy_3 7 rfl rfl)
theorem dX1_hurtsBy_79 : decode cX1_hurtsBy 79 = .ok (.lload_n 3, 1) := dk_33 (dk_at dksX1_hurtsBy_3 8 rfl rfl)
theorem dX1_hurtsBy_80 : decode cX1_hurtsBy 80 = .ok (.putfield 363, 3) := dk_181 1 107 (dk_at dksX1_hurtsBy_3 9 rfl rfl)
theorem dX1_hurtsBy_83 : decode cX1_hurtsBy 83 = .ok (.return_, 1) := dk_177 (dk_at dksX1_hurtsBy_3 12 rfl rfl)
theorem dX1_hurtsBy_84 : decode cX1_hurtsBy 84 = .ok (.iconst 0, 1) := dk_3 (dk_at dksX1_hurtsBy_3 13 rfl rfl)
theorem dX1_hurtsBy_85 : decode cX1_hurtsBy 85 = .ok (.istore 5, 2) := dk_54 5 (dk_at dksX1_hurtsBy_3 14 rfl rfl)
theorem dX1_hurtsBy_87 : decode cX1_hurtsBy 87 = .ok (.iload 5, 2) := dk_21 5 (dk_at dksX1_hurtsBy_3 16 rfl rfl)
theorem dX1_hurtsBy_89 : decode cX1_hurtsBy 89 = .ok (.aload_n 0, 1) := dk_42 (dk_at dksX1_hurtsBy_3 18 rfl rfl)
theorem dX1_hurtsBy_90 : decode cX1_hurtsBy 90 = .ok (.getfield 12, 3) := dk_180 0 12 (dk_at dksX1_hurtsBy_3 19 rfl rfl)
theorem dX1_hurtsBy_93 : decode cX1_hurtsBy 93 = .ok (.getfield 108, 3) := dk_180 0 108 (dk_at dksX1_hurtsBy_4 0 rfl rfl)
theorem dX1_hurtsBy_96 : decode cX1_hurtsBy 96 = .ok (.if_icmp .ge 50, 3) := dk_162 0 50 (dk_at dksX1_hurtsBy_4 3 rfl rfl)
theorem dX1_hurtsBy_99 : decode cX1_hurtsBy 99 = .ok (.iload_n 2, 1) := dk_28 (dk_at dksX1_hurtsBy_4 6 rfl rfl)
theorem dX1_hurtsBy_100 : decode cX1_hurtsBy 100 = .ok (.iload 5, 2) := dk_21 5 (dk_at dksX1_hurtsBy_4 7 rfl rfl)
theorem dX1_hurtsBy_102 : decode cX1_hurtsBy 102 = .ok (.ishr, 1) := dk_122 (dk_at dksX1_hurtsBy_4 9 rfl rfl)
theorem dX1_hurtsBy_103 : decode cX1_hurtsBy 103 = .ok (.iconst 1, 1) := dk_4 (dk_at dksX1_hurtsBy_4 10 rfl rfl)
theorem dX1_hurtsBy_104 : decode cX1_hurtsBy 104 = .ok (.iand, 1) := dk_126 (dk_at dksX1_hurtsBy_4 11 rfl rfl)
theorem dX1_hurtsBy_105 : decode cX1_hurtsBy 105 = .ok (.iconst 1, 1) := dk_4 (dk_at dksX1_hurtsBy_4 12 rfl rfl)
theorem dX1_hurtsBy_106 : decode cX1_hurtsBy 106 = .ok (.if_icmp .ne 6, 3) := dk_160 0 6 (dk_at dksX1_hurtsBy_4 13 rfl rfl)
theorem dX1_hurtsBy_109 : decode cX1_hurtsBy 109 = .ok (.goto 31, 3) := dk_167 0 31 (dk_at dksX1_hurtsBy_4 16 rfl rfl)
theorem dX1_hurtsBy_112 : decode cX1_hurtsBy 112 = .ok (.aload_n 0, 1) := dk_42 (dk_at dksX1_hurtsBy_4 19 rfl rfl)
theorem dX1_hurtsBy_113 : decode cX1_hurtsBy 113 = .ok (.getfield 74, 3) := dk_180 0 74 (dk_at dksX1_hurtsBy_4 20 rfl rfl)
theorem dX1_hurtsBy_116 : decode cX1_hurtsBy 116 = .ok (.iload_n 1, 1) := dk_27 (dk_at dksX1_hurtsBy_4 23 rfl rfl)
theorem dX1_hurtsBy_117 : decode cX1_hurtsBy 117 = .ok (.iload 5, 2) := dk_21 5 (dk_at dksX1_hurtsBy_5 0 rfl rfl)
theorem dX1_hurtsBy_119 : decode cX1_hurtsBy 119 = .ok (.iastore, 1) := dk_79 (dk_at dksX1_hurtsBy_5 2 rfl rfl)
theorem dX1_hurtsBy_120 : decode cX1_hurtsBy 120 = .ok (.aload_n 0, 1) := dk_42 (dk_at dksX1_hurtsBy_5 3 rfl rfl)
theorem dX1_hurtsBy_121 : decode cX1_hurtsBy 121 = .ok (.iload_n 1, 1) := dk_27 (dk_at dksX1_hurtsBy_5 4 rfl rfl)
theorem dX1_hurtsBy_122 : decode cX1_hurtsBy 122 = .ok (.iconst 1, 1) := dk_4 (dk_at dksX1_hurtsBy_5 5 rfl rfl)
theorem dX1_hurtsBy_123 : decode cX1_hurtsBy 123 = .ok (.iadd, 1) := dk_96 (dk_at dksX1_hurtsBy_5 6 rfl rfl)
theorem dX1_hurtsBy_124 : decode cX1_hurtsBy 124 = .ok (.iload_n 2, 1) := dk_28 (dk_at dksX1_hurtsBy_5 7 rfl rfl)
theorem dX1_hurtsBy_125 : decode cX1_hurtsBy 125 = .ok (.iconst 1, 1) := dk_4 (dk_at dksX1_hurtsBy_5 8 rfl rfl)
theorem dX1_hurtsBy_126 : decode cX1_hurtsBy 126 = .ok (.iload 5, 2) := dk_21 5 (dk_at dksX1_hurtsBy_5 9 rfl rfl)
theorem dX1_hurtsBy_128 : decode cX1_hurtsBy 128 = .ok (.ishl, 1) := dk_120 (dk_at dksX1_hurtsBy_5 11 rfl rfl)
theorem dX1_hurtsBy_129 : decode cX1_hurtsBy 129 = .ok (.ior, 1) := dk_128 (dk_at dksX1_hurtsBy_5 12 rfl rfl)
theorem dX1_hurtsBy_130 : decode cX1_hurtsBy 130 = .ok (.lload_n 3, 1) := dk_33 (dk_at dksX1_hurtsBy_5 13 rfl rfl)
theorem dX1_hurtsBy_131 : decode cX1_hurtsBy 131 = .ok (.iconst 4, 1) := dk_7 (dk_at dksX1_hurtsBy_5 14 rfl rfl)
theorem dX1_hurtsBy_132 : decode cX1_hurtsBy 132 = .ok (.lshl, 1) := dk_121 (dk_at dksX1_hurtsBy_5 15 rfl rfl)
theorem dX1_hurtsBy_133 : decode cX1_hurtsBy 133 = .ok (.iload 5, 2) := dk_21 5 (dk_at dksX1_hurtsBy_5 16 rfl rfl)
theorem dX1_hurtsBy_135 : decode cX1_hurtsBy 135 = .ok (.i2l, 1) := dk_133 (dk_at dksX1_hurtsBy_5 18 rfl rfl)
theorem dX1_hurtsBy_136 : decode cX1_hurtsBy 136 = .ok (.lor, 1) := dk_129 (dk_at dksX1_hurtsBy_5 19 rfl rfl)
theorem dX1_hurtsBy_137 : decode cX1_hurtsBy 137 = .ok (.invokevirtual 366, 3) := dk_182 1 110 (dk_at dksX1_hurtsBy_5 20 rfl rfl)
theorem dX1_hurtsBy_140 : decode cX1_hurtsBy 140 = .ok (.iinc 5 1, 3) := dk_132 5 1 (dk_at dksX1_hurtsBy_6 0 rfl rfl)
theorem dX1_hurtsBy_143 : decode cX1_hurtsBy 143 = .ok (.goto (-56), 3) := dk_167 255 200 (dk_at dksX1_hurtsBy_6 3 rfl rfl)
theorem dX1_hurtsBy_146 : decode cX1_hurtsBy 146 = .ok (.return_, 1) := dk_177 (dk_at dksX1_hurtsBy_6 6 rfl rfl)
abbrev cX1_century : ByteArray := prog_1_method_71_code
def yX1_century : MethodName := ⟨RX1, "century", "(III)I"⟩
def dkwX1_century_3 : List UInt8 := [132, 5, 1, 167, 255, 219, 21, 4, 172]
abbrev dktX1_century_3 : List UInt8 := dkwX1_century_3 ++ []
def dkwX1_century_2 : List UInt8 := [96, 182, 1, 87, 21, 4, 42, 42, 180, 0, 40, 180, 0, 126, 182, 1, 32, 27, 122, 4, 126, 96, 54, 4]
abbrev dktX1_century_2 : List UInt8 := dkwX1_century_2 ++ dktX1_century_3
def dkwX1_century_1 : List UInt8 := [4, 167, 0, 4, 3, 182, 0, 146, 3, 54, 4, 3, 54, 5, 21, 5, 29, 162, 0, 37, 42, 28, 21, 5]
abbrev dktX1_century_1 : List UInt8 := dkwX1_century_1 ++ dktX1_century_2
def dkwX1_century_0 : List UInt8 := [42, 27, 42, 180, 0, 12, 180, 0, 108, 182, 0, 202, 42, 29, 4, 161, 0, 13, 29, 16, 60, 163, 0, 7]
abbrev dktX1_century_0 : List UInt8 := dkwX1_century_0 ++ dktX1_century_1
theorem dksX1_century_0 : cX1_century.data.toList.drop 0 = dktX1_century_0 := by decide +kernel
theorem dksX1_century_1 : cX1_century.data.toList.drop 24 = dktX1_century_1 := dk_seg dksX1_century_0 24 rfl rfl
theorem dksX1_century_2 : cX1_century.data.toList.drop 48 = dktX1_century_2 := dk_seg dksX1_century_1 24 rfl rfl
theorem dksX1_century_3 : cX1_century.data.toList.drop 72 = dktX1_century_3 := dk_seg dksX1_century_2 24 rfl rfl
theorem dX1_century_0 : decode cX1_century 0 = .ok (.aload_n 0, 1) := dk_42 (dk_at dksX1_century_0 0 rfl rfl)
theorem dX1_century_1 : decode cX1_century 1 = .ok (.iload_n 1, 1) := dk_27 (dk_at dksX1_century_0 1 rfl rfl)
theorem dX1_century_2 : decode cX1_century 2 = .ok (.aload_n 0, 1) := dk_42 (dk_at dksX1_century_0 2 rfl rfl)
theorem dX1_century_3 : decode cX1_century 3 = .ok (.getfield 12, 3) := dk_180 0 12 (dk_at dksX1_century_0 3 rfl rfl)
theorem dX1_century_6 : decode cX1_century 6 = .ok (.getfield 108, 3) := dk_180 0 108 (dk_at dksX1_century_0 6 rfl rfl)
theorem dX1_century_9 : decode cX1_century 9 = .ok (.invokevirtual 202, 3) := dk_182 0 202 (dk_at dksX1_century_0 9 rfl rfl)
theorem dX1_century_12 : decode cX1_century 12 = .ok (.aload_n 0, 1) := dk_42 (dk_at dksX1_century_0 12 rfl rfl)
theorem dX1_century_13 : decode cX1_century 13 = .ok (.iload_n 3, 1) := dk_29 (dk_at dksX1_century_0 13 rfl rfl)
theorem dX1_century_14 : decode cX1_century 14 = .ok (.iconst 1, 1) := dk_4 (dk_at dksX1_century_0 14 rfl rfl)
theorem dX1_century_15 : decode cX1_century 15 = .ok (.if_icmp .lt 13, 3) := dk_161 0 13 (dk_at dksX1_century_0 15 rfl rfl)
theorem dX1_century_18 : decode cX1_century 18 = .ok (.iload_n 3, 1) := dk_29 (dk_at dksX1_century_0 18 rfl rfl)
theorem dX1_century_19 : decode cX1_century 19 = .ok (.bipush 60, 2) := dk_16 60 (dk_at dksX1_century_0 19 rfl rfl)
theorem dX1_century_21 : decode cX1_century 21 = .ok (.if_icmp .gt 7, 3) := dk_163 0 7 (dk_at dksX1_century_0 21 rfl rfl)
theorem dX1_century_24 : decode cX1_century 24 = .ok (.iconst 1, 1) := dk_4 (dk_at dksX1_century_1 0 rfl rfl)
theorem dX1_century_25 : decode cX1_century 25 = .ok (.goto 4, 3) := dk_167 0 4 (dk_at dksX1_century_1 1 rfl rfl)
theorem dX1_century_28 : decode cX1_century 28 = .ok (.iconst 0, 1) := dk_3 (dk_at dksX1_century_1 4 rfl rfl)
theorem dX1_century_29 : decode cX1_century 29 = .ok (.invokevirtual 146, 3) := dk_182 0 146 (dk_at dksX1_century_1 5 rfl rfl)
theorem dX1_century_32 : decode cX1_century 32 = .ok (.iconst 0, 1) := dk_3 (dk_at dksX1_century_1 8 rfl rfl)
theorem dX1_century_33 : decode cX1_century 33 = .ok (.istore 4, 2) := dk_54 4 (dk_at dksX1_century_1 9 rfl rfl)
theorem dX1_century_35 : decode cX1_century 35 = .ok (.iconst 0, 1) := dk_3 (dk_at dksX1_century_1 11 rfl rfl)
theorem dX1_century_36 : decode cX1_century 36 = .ok (.istore 5, 2) := dk_54 5 (dk_at dksX1_century_1 12 rfl rfl)
theorem dX1_century_38 : decode cX1_century 38 = .ok (.iload 5, 2) := dk_21 5 (dk_at dksX1_century_1 14 rfl rfl)
theorem dX1_century_40 : decode cX1_century 40 = .ok (.iload_n 3, 1) := dk_29 (dk_at dksX1_century_1 16 rfl rfl)
theorem dX1_century_41 : decode cX1_century 41 = .ok (.if_icmp .ge 37, 3) := dk_162 0 37 (dk_at dksX1_century_1 17 rfl rfl)
theorem dX1_century_44 : decode cX1_century 44 = .ok (.aload_n 0, 1) := dk_42 (dk_at dksX1_century_1 20 rfl rfl)
theorem dX1_century_45 : decode cX1_century 45 = .ok (.iload_n 2, 1) := dk_28 (dk_at dksX1_century_1 21 rfl rfl)
theorem dX1_century_46 : decode cX1_century 46 = .ok (.iload 5, 2) := dk_21 5 (dk_at dksX1_century_1 22 rfl rfl)
theorem dX1_century_48 : decode cX1_century 48 = .ok (.iadd, 1) := dk_96 (dk_at dksX1_century_2 0 rfl rfl)
theorem dX1_century_49 : decode cX1_century 49 = .ok (.invokevirtual 343, 3) := dk_182 1 87 (dk_at dksX1_century_2 1 rfl rfl)
theorem dX1_century_52 : decode cX1_century 52 = .ok (.iload 4, 2) := dk_21 4 (dk_at dksX1_century_2 4 rfl rfl)
theorem dX1_century_54 : decode cX1_century 54 = .ok (.aload_n 0, 1) := dk_42 (dk_at dksX1_century_2 6 rfl rfl)
theorem dX1_century_55 : decode cX1_century 55 = .ok (.aload_n 0, 1) := dk_42 (dk_at dksX1_century_2 7 rfl rfl)
theorem dX1_century_56 : decode cX1_century 56 = .ok (.getfield 40, 3) := dk_180 0 40 (dk_at dksX1_century_2 8 rfl rfl)
theorem dX1_century_59 : decode cX1_century 59 = .ok (.getfield 126, 3) := dk_180 0 126 (dk_at dksX1_century_2 11 rfl rfl)
theorem dX1_century_62 : decode cX1_century 62 = .ok (.invokevirtual 288, 3) := dk_182 1 32 (dk_at dksX1_century_2 14 rfl rfl)
theorem dX1_century_65 : decode cX1_century 65 = .ok (.iload_n 1, 1) := dk_27 (dk_at dksX1_century_2 17 rfl rfl)
theorem dX1_century_66 : decode cX1_century 66 = .ok (.ishr, 1) := dk_122 (dk_at dksX1_century_2 18 rfl rfl)
theorem dX1_century_67 : decode cX1_century 67 = .ok (.iconst 1, 1) := dk_4 (dk_at dksX1_century_2 19 rfl rfl)
theorem dX1_century_68 : decode cX1_century 68 = .ok (.iand, 1) := dk_126 (dk_at dksX1_century_2 20 rfl rfl)
theorem dX1_century_69 : decode cX1_century 69 = .ok (.iadd, 1) := dk_96 (dk_at dksX1_century_2 21 rfl rfl)
theorem dX1_century_70 : decode cX1_century 70 = .ok (.istore 4, 2) := dk_54 4 (dk_at dksX1_century_2 22 rfl rfl)
theorem dX1_century_72 : decode cX1_century 72 = .ok (.iinc 5 1, 3) := dk_132 5 1 (dk_at dksX1_century_3 0 rfl rfl)
theorem dX1_century_75 : decode cX1_century 75 = .ok (.goto (-37), 3) := dk_167 255 219 (dk_at dksX1_century_3 3 rfl rfl)
theorem dX1_century_78 : decode cX1_century 78 = .ok (.iload 4, 2) := dk_21 4 (dk_at dksX1_century_3 6 rfl rfl)
theorem dX1_century_80 : decode cX1_century 80 = .ok (.ireturn, 1) := dk_172 (dk_at dksX1_century_3 8 rfl rfl)
abbrev cX1_known : ByteArray := prog_1_method_72_code
def yX1_known : MethodName := ⟨RX1, "known", "(II)I"⟩
def dkwX1_known_3 : List UInt8 := [167, 0, 14, 33, 9, 148, 154, 0, 7, 3, 167, 0, 4, 5, 172]
abbrev dktX1_known_3 : List UInt8 := dkwX1_known_3 ++ []
def dkwX1_known_2 : List UInt8 := [180, 0, 33, 28, 47, 9, 148, 154, 0, 5, 2, 172, 33, 42, 180, 0, 33, 28, 47, 148, 154, 0, 7, 4]
abbrev dktX1_known_2 : List UInt8 := dkwX1_known_2 ++ dktX1_known_3
def dkwX1_known_1 : List UInt8 := [167, 0, 4, 3, 182, 0, 146, 42, 180, 0, 33, 28, 47, 42, 180, 0, 12, 27, 182, 1, 78, 127, 66, 42]
abbrev dktX1_known_1 : List UInt8 := dkwX1_known_1 ++ dktX1_known_2
def dkwX1_known_0 : List UInt8 := [42, 27, 155, 0, 25, 27, 42, 180, 0, 12, 180, 0, 193, 162, 0, 14, 28, 184, 0, 214, 153, 0, 7, 4]
abbrev dktX1_known_0 : List UInt8 := dkwX1_known_0 ++ dktX1_known_1
theorem dksX1_known_0 : cX1_known.data.toList.drop 0 = dktX1_known_0 := by decide +kernel
theorem dksX1_known_1 : cX1_known.data.toList.drop 24 = dktX1_known_1 := dk_seg dksX1_known_0 24 rfl rfl
theorem dksX1_known_2 : cX1_known.data.toList.drop 48 = dktX1_known_2 := dk_seg dksX1_known_1 24 rfl rfl
theorem dksX1_known_3 : cX1_known.data.toList.drop 72 = dktX1_known_3 := dk_seg dksX1_known_2 24 rfl rfl
theorem dX1_known_0 : decode cX1_known 0 = .ok (.aload_n 0, 1) := dk_42 (dk_at dksX1_known_0 0 rfl rfl)
theorem dX1_known_1 : decode cX1_known 1 = .ok (.iload_n 1, 1) := dk_27 (dk_at dksX1_known_0 1 rfl rfl)
theorem dX1_known_2 : decode cX1_known 2 = .ok (.ifCond .lt 25, 3) := dk_155 0 25 (dk_at dksX1_known_0 2 rfl rfl)
theorem dX1_known_5 : decode cX1_known 5 = .ok (.iload_n 1, 1) := dk_27 (dk_at dksX1_known_0 5 rfl rfl)
theorem dX1_known_6 : decode cX1_known 6 = .ok (.aload_n 0, 1) := dk_42 (dk_at dksX1_known_0 6 rfl rfl)
theorem dX1_known_7 : decode cX1_known 7 = .ok (.getfield 12, 3) := dk_180 0 12 (dk_at dksX1_known_0 7 rfl rfl)
theorem dX1_known_10 : decode cX1_known 10 = .ok (.getfield 193, 3) := dk_180 0 193 (dk_at dksX1_known_0 10 rfl rfl)
theorem dX1_known_13 : decode cX1_known 13 = .ok (.if_icmp .ge 14, 3) := dk_162 0 14 (dk_at dksX1_known_0 13 rfl rfl)
theorem dX1_known_16 : decode cX1_known 16 = .ok (.iload_n 2, 1) := dk_28 (dk_at dksX1_known_0 16 rfl rfl)
theorem dX1_known_17 : decode cX1_known 17 = .ok (.invokestatic 214, 3) := dk_184 0 214 (dk_at dksX1_known_0 17 rfl rfl)
theorem dX1_known_20 : decode cX1_known 20 = .ok (.ifCond .eq 7, 3) := dk_153 0 7 (dk_at dksX1_known_0 20 rfl rfl)
theorem dX1_known_23 : decode cX1_known 23 = .ok (.iconst 1, 1) := dk_4 (dk_at dksX1_known_0 23 rfl rfl)
theorem dX1_known_24 : decode cX1_known 24 = .ok (.goto 4, 3) := dk_167 0 4 (dk_at dksX1_known_1 0 rfl rfl)
theorem dX1_known_27 : decode cX1_known 27 = .ok (.iconst 0, 1) := dk_3 (dk_at dksX1_known_1 3 rfl rfl)
theorem dX1_known_28 : decode cX1_known 28 = .ok (.invokevirtual 146, 3) := dk_182 0 146 (dk_at dksX1_known_1 4 rfl rfl)
theorem dX1_known_31 : decode cX1_known 31 = .ok (.aload_n 0, 1) := dk_42 (dk_at dksX1_known_1 7 rfl rfl)
theorem dX1_known_32 : decode cX1_known 32 = .ok (.getfield 33, 3) := dk_180 0 33 (dk_at dksX1_known_1 8 rfl rfl)
theorem dX1_known_35 : decode cX1_known 35 = .ok (.iload_n 2, 1) := dk_28 (dk_at dksX1_known_1 11 rfl rfl)
theorem dX1_known_36 : decode cX1_known 36 = .ok (.laload, 1) := dk_47 (dk_at dksX1_known_1 12 rfl rfl)
theorem dX1_known_37 : decode cX1_known 37 = .ok (.aload_n 0, 1) := dk_42 (dk_at dksX1_known_1 13 rfl rfl)
theorem dX1_known_38 : decode cX1_known 38 = .ok (.getfield 12, 3) := dk_180 0 12 (dk_at dksX1_known_1 14 rfl rfl)
theorem dX1_known_41 : decode cX1_known 41 = .ok (.iload_n 1, 1) := dk_27 (dk_at dksX1_known_1 17 rfl rfl)
theorem dX1_known_42 : decode cX1_known 42 = .ok (.invokevirtual 334, 3) := dk_182 1 78 (dk_at dksX1_known_1 18 rfl rfl)
theorem dX1_known_45 : decode cX1_known 45 = .ok (.land, 1) := dk_127 (dk_at dksX1_known_1 21 rfl rfl)
theorem dX1_known_46 : decode cX1_known 46 = .ok (.lstore_n 3, 1) := dk_66 (dk_at dksX1_known_1 22 rfl rfl)
theorem dX1_known_47 : decode cX1_known 47 = .ok (.aload_n 0, 1) := dk_42 (dk_at dksX1_known_1 23 rfl rfl)
theorem dX1_known_48 : decode cX1_known 48 = .ok (.getfield 33, 3) := dk_180 0 33 (dk_at dksX1_known_2 0 rfl rfl)
theorem dX1_known_51 : decode cX1_known 51 = .ok (.iload_n 2, 1) := dk_28 (dk_at dksX1_known_2 3 rfl rfl)
theorem dX1_known_52 : decode cX1_known 52 = .ok (.laload, 1) := dk_47 (dk_at dksX1_known_2 4 rfl rfl)
theorem dX1_known_53 : decode cX1_known 53 = .ok (.lconst 0, 1) := dk_9 (dk_at dksX1_known_2 5 rfl rfl)
theorem dX1_known_54 : decode cX1_known 54 = .ok (.lcmp, 1) := dk_148 (dk_at dksX1_known_2 6 rfl rfl)
theorem dX1_known_55 : decode cX1_known 55 = .ok (.ifCond .ne 5, 3) := dk_154 0 5 (dk_at dksX1_known_2 7 rfl rfl)
theorem dX1_known_58 : decode cX1_known 58 = .ok (.iconst (-1), 1) := dk_2 (dk_at dksX1_known_2 10 rfl rfl)
theorem dX1_known_59 : decode cX1_known 59 = .ok (.ireturn, 1) := dk_172 (dk_at dksX1_known_2 11 rfl rfl)
theorem dX1_known_60 : decode cX1_known 60 = .ok (.lload_n 3, 1) := dk_33 (dk_at dksX1_known_2 12 rfl rfl)
theorem dX1_known_61 : decode cX1_known 61 = .ok (.aload_n 0, 1) := dk_42 (dk_at dksX1_known_2 13 rfl rfl)
theorem dX1_known_62 : decode cX1_known 62 = .ok (.getfield 33, 3) := dk_180 0 33 (dk_at dksX1_known_2 14 rfl rfl)
theorem dX1_known_65 : decode cX1_known 65 = .ok (.iload_n 2, 1) := dk_28 (dk_at dksX1_known_2 17 rfl rfl)
theorem dX1_known_66 : decode cX1_known 66 = .ok (.laload, 1) := dk_47 (dk_at dksX1_known_2 18 rfl rfl)
theorem dX1_known_67 : decode cX1_known 67 = .ok (.lcmp, 1) := dk_148 (dk_at dksX1_known_2 19 rfl rfl)
theorem dX1_known_68 : decode cX1_known 68 = .ok (.ifCond .ne 7, 3) := dk_154 0 7 (dk_at dksX1_known_2 20 rfl rfl)
theorem dX1_known_71 : decode cX1_known 71 = .ok (.iconst 1, 1) := dk_4 (dk_at dksX1_known_2 23 rfl rfl)
theorem dX1_known_72 : decode cX1_known 72 = .ok (.goto 14, 3) := dk_167 0 14 (dk_at dksX1_known_3 0 rfl rfl)
theorem dX1_known_75 : decode cX1_known 75 = .ok (.lload_n 3, 1) := dk_33 (dk_at dksX1_known_3 3 rfl rfl)
theorem dX1_known_76 : decode cX1_known 76 = .ok (.lconst 0, 1) := dk_9 (dk_at dksX1_known_3 4 rfl rfl)
theorem dX1_known_77 : decode cX1_known 77 = .ok (.lcmp, 1) := dk_148 (dk_at dksX1_known_3 5 rfl rfl)
theorem dX1_known_78 : decode cX1_known 78 = .ok (.ifCond .ne 7, 3) := dk_154 0 7 (dk_at dksX1_known_3 6 rfl rfl)
theorem dX1_known_81 : decode cX1_known 81 = .ok (.iconst 0, 1) := dk_3 (dk_at dksX1_known_3 9 rfl rfl)
theorem dX1_known_82 : decode cX1_known 82 = .ok (.goto 4, 3) := dk_167 0 4 (dk_at dksX1_known_3 10 rfl rfl)
theorem dX1_known_85 : decode cX1_known 85 = .ok (.iconst 2, 1) := dk_5 (dk_at dksX1_known_3 13 rfl rfl)
theorem dX1_known_86 : decode cX1_known 86 = .ok (.ireturn, 1) := dk_172 (dk_at dksX1_known_3 14 rfl rfl)
abbrev cX1_plain : ByteArray := prog_1_method_75_code
def yX1_plain : MethodName := ⟨RX1, "plain", "(I)I"⟩
def dkwX1_plain_2 : List UInt8 := [180, 0, 96, 42, 180, 0, 12, 180, 0, 114, 27, 47, 136, 46, 172]
abbrev dktX1_plain_2 : List UInt8 := dkwX1_plain_2 ++ []
def dkwX1_plain_1 : List UInt8 := [180, 0, 56, 5, 92, 46, 4, 96, 79, 187, 0, 111, 89, 183, 0, 113, 191, 42, 182, 1, 118, 42]
abbrev dktX1_plain_1 : List UInt8 := dkwX1_plain_1 ++ dktX1_plain_2
def dkwX1_plain_0 : List UInt8 := [42, 27, 42, 180, 0, 12, 180, 0, 108, 182, 0, 202, 42, 180, 0, 12, 180, 0, 193, 6, 164, 0, 21, 42]
abbrev dktX1_plain_0 : List UInt8 := dkwX1_plain_0 ++ dktX1_plain_1
theorem dksX1_plain_0 : cX1_plain.data.toList.drop 0 = dktX1_plain_0 := by decide +kernel
theorem dksX1_plain_1 : cX1_plain.data.toList.drop 24 = dktX1_plain_1 := dk_seg dksX1_plain_0 24 rfl rfl
theorem dksX1_plain_2 : cX1_plain.data.toList.drop 46 = dktX1_plain_2 := dk_seg dksX1_plain_1 22 rfl rfl
theorem dX1_plain_0 : decode cX1_plain 0 = .ok (.aload_n 0, 1) := dk_42 (dk_at dksX1_plain_0 0 rfl rfl)
theorem dX1_plain_1 : decode cX1_plain 1 = .ok (.iload_n 1, 1) := dk_27 (dk_at dksX1_plain_0 1 rfl rfl)
theorem dX1_plain_2 : decode cX1_plain 2 = .ok (.aload_n 0, 1) := dk_42 (dk_at dksX1_plain_0 2 rfl rfl)
theorem dX1_plain_3 : decode cX1_plain 3 = .ok (.getfield 12, 3) := dk_180 0 12 (dk_at dksX1_plain_0 3 rfl rfl)
theorem dX1_plain_6 : decode cX1_plain 6 = .ok (.getfield 108, 3) := dk_180 0 108 (dk_at dksX1_plain_0 6 rfl rfl)
theorem dX1_plain_9 : decode cX1_plain 9 = .ok (.invokevirtual 202, 3) := dk_182 0 202 (dk_at dksX1_plain_0 9 rfl rfl)
theorem dX1_plain_12 : decode cX1_plain 12 = .ok (.aload_n 0, 1) := dk_42 (dk_at dksX1_plain_0 12 rfl rfl)
theorem dX1_plain_13 : decode cX1_plain 13 = .ok (.getfield 12, 3) := dk_180 0 12 (dk_at dksX1_plain_0 13 rfl rfl)
theorem dX1_plain_16 : decode cX1_plain 16 = .ok (.getfield 193, 3) := dk_180 0 193 (dk_at dksX1_plain_0 16 rfl rfl)
theorem dX1_plain_19 : decode cX1_plain 19 = .ok (.iconst 3, 1) := dk_6 (dk_at dksX1_plain_0 19 rfl rfl)
theorem dX1_plain_20 : decode cX1_plain 20 = .ok (.if_icmp .le 21, 3) := dk_164 0 21 (dk_at dksX1_plain_0 20 rfl rfl)
theorem dX1_plain_23 : decode cX1_plain 23 = .ok (.aload_n 0, 1) := dk_42 (dk_at dksX1_plain_0 23 rfl rfl)
theorem dX1_plain_24 : decode cX1_plain 24 = .ok (.getfield 56, 3) := dk_180 0 56 (dk_at dksX1_plain_1 0 rfl rfl)
theorem dX1_plain_27 : decode cX1_plain 27 = .ok (.iconst 2, 1) := dk_5 (dk_at dksX1_plain_1 3 rfl rfl)
theorem dX1_plain_28 : decode cX1_plain 28 = .ok (.dup2, 1) := dk_92 (dk_at dksX1_plain_1 4 rfl rfl)
theorem dX1_plain_29 : decode cX1_plain 29 = .ok (.iaload, 1) := dk_46 (dk_at dksX1_plain_1 5 rfl rfl)
theorem dX1_plain_30 : decode cX1_plain 30 = .ok (.iconst 1, 1) := dk_4 (dk_at dksX1_plain_1 6 rfl rfl)
theorem dX1_plain_31 : decode cX1_plain 31 = .ok (.iadd, 1) := dk_96 (dk_at dksX1_plain_1 7 rfl rfl)
theorem dX1_plain_32 : decode cX1_plain 32 = .ok (.iastore, 1) := dk_79 (dk_at dksX1_plain_1 8 rfl rfl)
theorem dX1_plain_33 : decode cX1_plain 33 = .ok (.new 111, 3) := dk_187 0 111 (dk_at dksX1_plain_1 9 rfl rfl)
theorem dX1_plain_36 : decode cX1_plain 36 = .ok (.dup, 1) := dk_89 (dk_at dksX1_plain_1 12 rfl rfl)
theorem dX1_plain_37 : decode cX1_plain 37 = .ok (.invokespecial 113, 3) := dk_183 0 113 (dk_at dksX1_plain_1 13 rfl rfl)
theorem dX1_plain_40 : decode cX1_plain 40 = .ok (.athrow, 1) := dk_191 (dk_at dksX1_plain_1 16 rfl rfl)
theorem dX1_plain_41 : decode cX1_plain 41 = .ok (.aload_n 0, 1) := dk_42 (dk_at dksX1_plain_1 17 rfl rfl)
theorem dX1_plain_42 : decode cX1_plain 42 = .ok (.invokevirtual 374, 3) := dk_182 1 118 (dk_at dksX1_plain_1 18 rfl rfl)
theorem dX1_plain_45 : decode cX1_plain 45 = .ok (.aload_n 0, 1) := dk_42 (dk_at dksX1_plain_1 21 rfl rfl)
theorem dX1_plain_46 : decode cX1_plain 46 = .ok (.getfield 96, 3) := dk_180 0 96 (dk_at dksX1_plain_2 0 rfl rfl)
theorem dX1_plain_49 : decode cX1_plain 49 = .ok (.aload_n 0, 1) := dk_42 (dk_at dksX1_plain_2 3 rfl rfl)
theorem dX1_plain_50 : decode cX1_plain 50 = .ok (.getfield 12, 3) := dk_180 0 12 (dk_at dksX1_plain_2 4 rfl rfl)
theorem dX1_plain_53 : decode cX1_plain 53 = .ok (.getfield 114, 3) := dk_180 0 114 (dk_at dksX1_plain_2 7 rfl rfl)
theorem dX1_plain_56 : decode cX1_plain 56 = .ok (.iload_n 1, 1) := dk_27 (dk_at dksX1_plain_2 10 rfl rfl)
theorem dX1_plain_57 : decode cX1_plain 57 = .ok (.laload, 1) := dk_47 (dk_at dksX1_plain_2 11 rfl rfl)
theorem dX1_plain_58 : decode cX1_plain 58 = .ok (.l2i, 1) := dk_136 (dk_at dksX1_plain_2 12 rfl rfl)
theorem dX1_plain_59 : decode cX1_plain 59 = .ok (.iaload, 1) := dk_46 (dk_at dksX1_plain_2 13 rfl rfl)
theorem dX1_plain_60 : decode cX1_plain 60 = .ok (.ireturn, 1) := dk_172 (dk_at dksX1_plain_2 14 rfl rfl)
abbrev cX1_findLengths : ByteArray := prog_1_method_74_code
def yX1_findLengths : MethodName := ⟨RX1, "findLengths", "()V"⟩
def dkwX1_findLengths_8 : List UInt8 := [182, 1, 115, 128, 61, 132, 4, 1, 167, 255, 177, 132, 3, 1, 167, 255, 128, 167, 255, 117, 177]
abbrev dktX1_findLengths_8 : List UInt8 := dkwX1_findLengths_8 ++ []
def dkwX1_findLengths_7 : List UInt8 := [28, 42, 29, 21, 4, 128, 42, 180, 0, 96, 29, 46, 42, 180, 0, 96, 21, 4, 46, 96, 4, 96]
abbrev dktX1_findLengths_7 : List UInt8 := dkwX1_findLengths_7 ++ dktX1_findLengths_8
def dkwX1_findLengths_6 : List UInt8 := [21, 4, 126, 42, 180, 0, 96, 29, 46, 42, 180, 0, 96, 21, 4, 46, 96, 4, 96, 182, 1, 115, 128, 61]
abbrev dktX1_findLengths_6 : List UInt8 := dkwX1_findLengths_6 ++ dktX1_findLengths_7
def dkwX1_findLengths_5 : List UInt8 := [29, 163, 0, 79, 42, 180, 0, 96, 21, 4, 46, 19, 1, 114, 160, 0, 6, 167, 0, 57, 28, 42, 29]
abbrev dktX1_findLengths_5 : List UInt8 := dkwX1_findLengths_5 ++ dktX1_findLengths_6
def dkwX1_findLengths_4 : List UInt8 := [42, 27, 29, 2, 130, 126, 42, 180, 0, 96, 29, 46, 4, 96, 182, 1, 115, 128, 61, 3, 54, 4, 21, 4]
abbrev dktX1_findLengths_4 : List UInt8 := dkwX1_findLengths_4 ++ dktX1_findLengths_5
def dkwX1_findLengths_3 : List UInt8 := [61, 3, 62, 29, 27, 163, 0, 129, 42, 180, 0, 96, 29, 46, 19, 1, 114, 160, 0, 6, 167, 0, 108, 28]
abbrev dktX1_findLengths_3 : List UInt8 := dkwX1_findLengths_3 ++ dktX1_findLengths_4
def dkwX1_findLengths_2 : List UInt8 := [42, 180, 0, 12, 28, 182, 1, 78, 136, 4, 79, 132, 2, 1, 167, 255, 227, 4, 61, 28, 153, 0, 141, 3]
abbrev dktX1_findLengths_2 : List UInt8 := dkwX1_findLengths_2 ++ dktX1_findLengths_3
def dkwX1_findLengths_1 : List UInt8 := [79, 132, 2, 1, 167, 255, 239, 3, 61, 28, 42, 180, 0, 12, 180, 0, 193, 162, 0, 24, 42, 180, 0, 96]
abbrev dktX1_findLengths_1 : List UInt8 := dkwX1_findLengths_1 ++ dktX1_findLengths_2
def dkwX1_findLengths_0 : List UInt8 := [42, 180, 0, 12, 182, 0, 132, 136, 60, 3, 61, 28, 27, 163, 0, 18, 42, 180, 0, 96, 28, 19, 1, 114]
abbrev dktX1_findLengths_0 : List UInt8 := dkwX1_findLengths_0 ++ dktX1_findLengths_1
theorem dksX1_findLengths_0 : cX1_findLengths.data.toList.drop 0 = dktX1_findLengths_0 := by decide +kernel
theorem dksX1_findLengths_1 : cX1_findLengths.data.toList.drop 24 = dktX1_findLengths_1 := dk_seg dksX1_findLengths_0 24 rfl rfl
theorem dksX1_findLengths_2 : cX1_findLengths.data.toList.drop 48 = dktX1_findLengths_2 := dk_seg dksX1_findLengths_1 24 rfl rfl
theorem dksX1_findLengths_3 : cX1_findLengths.data.toList.drop 72 = dktX1_findLengths_3 := dk_seg dksX1_findLengths_2 24 rfl rfl
theorem dksX1_findLengths_4 : cX1_findLengths.data.toList.drop 96 = dktX1_findLengths_4 := dk_seg dksX1_findLengths_3 24 rfl rfl
theorem dksX1_findLengths_5 : cX1_findLengths.data.toList.drop 120 = dktX1_findLengths_5 := dk_seg dksX1_findLengths_4 24 rfl rfl
theorem dksX1_findLengths_6 : cX1_findLengths.data.toList.drop 143 = dktX1_findLengths_6 := dk_seg dksX1_findLengths_5 23 rfl rfl
theorem dksX1_findLengths_7 : cX1_findLengths.data.toList.drop 167 = dktX1_findLengths_7 := dk_seg dksX1_findLengths_6 24 rfl rfl
theorem dksX1_findLengths_8 : cX1_findLengths.data.toList.drop 189 = dktX1_findLengths_8 := dk_seg dksX1_findLengths_7 22 rfl rfl
theorem dX1_findLengths_0 : decode cX1_findLengths 0 = .ok (.aload_n 0, 1) := dk_42 (dk_at dksX1_findLengths_0 0 rfl rfl)
theorem dX1_findLengths_1 : decode cX1_findLengths 1 = .ok (.getfield 12, 3) := dk_180 0 12 (dk_at dksX1_findLengths_0 1 rfl rfl)
theorem dX1_findLengths_4 : decode cX1_findLengths 4 = .ok (.invokevirtual 132, 3) := dk_182 0 132 (dk_at dksX1_findLengths_0 4 rfl rfl)
theorem dX1_findLengths_7 : decode cX1_findLengths 7 = .ok (.l2i, 1) := dk_136 (dk_at dksX1_findLengths_0 7 rfl rfl)
theorem dX1_findLengths_8 : decode cX1_findLengths 8 = .ok (.istore_n 1, 1) := dk_60 (dk_at dksX1_findLengths_0 8 rfl rfl)
theorem dX1_findLengths_9 : decode cX1_findLengths 9 = .ok (.iconst 0, 1) := dk_3 (dk_at dksX1_findLengths_0 9 rfl rfl)
theorem dX1_findLengths_10 : decode cX1_findLengths 10 = .ok (.istore_n 2, 1) := dk_61 (dk_at dksX1_findLengths_0 10 rfl rfl)
theorem dX1_findLengths_11 : decode cX1_findLengths 11 = .ok (.iload_n 2, 1) := dk_28 (dk_at dksX1_findLengths_0 11 rfl rfl)
theorem dX1_findLengths_12 : decode cX1_findLengths 12 = .ok (.iload_n 1, 1) := dk_27 (dk_at dksX1_findLengths_0 12 rfl rfl)
theorem dX1_findLengths_13 : decode cX1_findLengths 13 = .ok (.if_icmp .gt 18, 3) := dk_163 0 18 (dk_at dksX1_findLengths_0 13 rfl rfl)
theorem dX1_findLengths_16 : decode cX1_findLengths 16 = .ok (.aload_n 0, 1) := dk_42 (dk_at dksX1_findLengths_0 16 rfl rfl)
theorem dX1_findLengths_17 : decode cX1_findLengths 17 = .ok (.getfield 96, 3) := dk_180 0 96 (dk_at dksX1_findLengths_0 17 rfl rfl)
theorem dX1_findLengths_20 : decode cX1_findLengths 20 = .ok (.iload_n 2, 1) := dk_28 (dk_at dksX1_findLengths_0 20 rfl rfl)
theorem dX1_findLengths_21 : decode cX1_findLengths 21 = .ok (.ldc_w 370, 3) := dk_19 1 114 (dk_at dksX1_findLengths_0 21 rfl rfl)
theorem dX1_findLengths_24 : decode cX1_findLengths 24 = .ok (.iastore, 1) := dk_79 (dk_at dksX1_findLengths_1 0 rfl rfl)
theorem dX1_findLengths_25 : decode cX1_findLengths 25 = .ok (.iinc 2 1, 3) := dk_132 2 1 (dk_at dksX1_findLengths_1 1 rfl rfl)
theorem dX1_findLengths_28 : decode cX1_findLengths 28 = .ok (.goto (-17), 3) := dk_167 255 239 (dk_at dksX1_findLengths_1 4 rfl rfl)
theorem dX1_findLengths_31 : decode cX1_findLengths 31 = .ok (.iconst 0, 1) := dk_3 (dk_at dksX1_findLengths_1 7 rfl rfl)
theorem dX1_findLengths_32 : decode cX1_findLengths 32 = .ok (.istore_n 2, 1) := dk_61 (dk_at dksX1_findLengths_1 8 rfl rfl)
theorem dX1_findLengths_33 : decode cX1_findLengths 33 = .ok (.iload_n 2, 1) := dk_28 (dk_at dksX1_findLengths_1 9 rfl rfl)
theorem dX1_findLengths_34 : decode cX1_findLengths 34 = .ok (.aload_n 0, 1) := dk_42 (dk_at dksX1_findLengths_1 10 rfl rfl)
theorem dX1_findLengths_35 : decode cX1_findLengths 35 = .ok (.getfield 12, 3) := dk_180 0 12 (dk_at dksX1_findLengths_1 11 rfl rfl)
theorem dX1_findLengths_38 : decode cX1_findLengths 38 = .ok (.getfield 193, 3) := dk_180 0 193 (dk_at dksX1_findLengths_1 14 rfl rfl)
theorem dX1_findLengths_41 : decode cX1_findLengths 41 = .ok (.if_icmp .ge 24, 3) := dk_162 0 24 (dk_at dksX1_findLengths_1 17 rfl rfl)
theorem dX1_findLengths_44 : decode cX1_findLengths 44 = .ok (.aload_n 0, 1) := dk_42 (dk_at dksX1_findLengths_1 20 rfl rfl)
theorem dX1_findLengths_45 : decode cX1_findLengths 45 = .ok (.getfield 96, 3) := dk_180 0 96 (dk_at dksX1_findLengths_1 21 rfl rfl)
theorem dX1_findLengths_48 : decode cX1_findLengths 48 = .ok (.aload_n 0, 1) := dk_42 (dk_at dksX1_findLengths_2 0 rfl rfl)
theorem dX1_findLengths_49 : decode cX1_findLengths 49 = .ok (.getfield 12, 3) := dk_180 0 12 (dk_at dksX1_findLengths_2 1 rfl rfl)
theorem dX1_findLengths_52 : decode cX1_findLengths 52 = .ok (.iload_n 2, 1) := dk_28 (dk_at dksX1_findLengths_2 4 rfl rfl)
theorem dX1_findLengths_53 : decode cX1_findLengths 53 = .ok (.invokevirtual 334, 3) := dk_182 1 78 (dk_at dksX1_findLengths_2 5 rfl rfl)
theorem dX1_findLengths_56 : decode cX1_findLengths 56 = .ok (.l2i, 1) := dk_136 (dk_at dksX1_findLengths_2 8 rfl rfl)
theorem dX1_findLengths_57 : decode cX1_findLengths 57 = .ok (.iconst 1, 1) := dk_4 (dk_at dksX1_findLengths_2 9 rfl rfl)
theorem dX1_findLengths_58 : decode cX1_findLengths 58 = .ok (.iastore, 1) := dk_79 (dk_at dksX1_findLengths_2 10 rfl rfl)
theorem dX1_findLengths_59 : decode cX1_findLengths 59 = .ok (.iinc 2 1, 3) := dk_132 2 1 (dk_at dksX1_findLengths_2 11 rfl rfl)
theorem dX1_findLengths_62 : decode cX1_findLengths 62 = .ok (.goto (-29), 3) := dk_167 255 227 (dk_at dksX1_findLengths_2 14 rfl rfl)
theorem dX1_findLengths_65 : decode cX1_findLengths 65 = .ok (.iconst 1, 1) := dk_4 (dk_at dksX1_findLengths_2 17 rfl rfl)
theorem dX1_findLengths_66 : decode cX1_findLengths 66 = .ok (.istore_n 2, 1) := dk_61 (dk_at dksX1_findLengths_2 18 rfl rfl)
theorem dX1_findLengths_67 : decode cX1_findLengths 67 = .ok (.iload_n 2, 1) := dk_28 (dk_at dksX1_findLengths_2 19 rfl rfl)
theorem dX1_findLengths_68 : decode cX1_findLengths 68 = .ok (.ifCond .eq 141, 3) := dk_153 0 141 (dk_at dksX1_findLengths_2 20 rfl rfl)
theorem dX1_findLengths_71 : decode cX1_findLengths 71 = .ok (.iconst 0, 1) := dk_3 (dk_at dksX1_findLengths_2 23 rfl rfl)
theorem dX1_findLengths_72 : decode cX1_findLengths 72 = .ok (.istore_n 2, 1) := dk_61 (dk_at dksX1_findLengths_3 0 rfl rfl)
theorem dX1_findLengths_73 : decode cX1_findLengths 73 = .ok (.iconst 0, 1) := dk_3 (dk_at dksX1_findLengths_3 1 rfl rfl)
theorem dX1_findLengths_74 : decode cX1_findLengths 74 = .ok (.istore_n 3, 1) := dk_62 (dk_at dksX1_findLengths_3 2 rfl rfl)
theorem dX1_findLengths_75 : decode cX1_findLengths 75 = .ok (.iload_n 3, 1) := dk_29 (dk_at dksX1_findLengths_3 3 rfl rfl)
theorem dX1_findLengths_76 : decode cX1_findLengths 76 = .ok (.iload_n 1, 1) := dk_27 (dk_at dksX1_findLengths_3 4 rfl rfl)
theorem dX1_findLengths_77 : decode cX1_findLengths 77 = .ok (.if_icmp .gt 129, 3) := dk_163 0 129 (dk_at dksX1_findLengths_3 5 rfl rfl)
theorem dX1_findLengths_80 : decode cX1_findLengths 80 = .ok (.aload_n 0, 1) := dk_42 (dk_at dksX1_findLengths_3 8 rfl rfl)
theorem dX1_findLengths_81 : decode cX1_findLengths 81 = .ok (.getfield 96, 3) := dk_180 0 96 (dk_at dksX1_findLengths_3 9 rfl rfl)
theorem dX1_findLengths_84 : decode cX1_findLengths 84 = .ok (.iload_n 3, 1) := dk_29 (dk_at dksX1_findLengths_3 12 rfl rfl)
theorem dX1_findLengths_85 : decode cX1_findLengths 85 = .ok (.iaload, 1) := dk_46 (dk_at dksX1_findLengths_3 13 rfl rfl)
theorem dX1_findLengths_86 : decode cX1_findLengths 86 = .ok (.ldc_w 370, 3) := dk_19 1 114 (dk_at dksX1_findLengths_3 14 rfl rfl)
theorem dX1_findLengths_89 : decode cX1_findLengths 89 = .ok (.if_icmp .ne 6, 3) := dk_160 0 6 (dk_at dksX1_findLengths_3 17 rfl rfl)
theorem dX1_findLengths_92 : decode cX1_findLengths 92 = .ok (.goto 108, 3) := dk_167 0 108 (dk_at dksX1_findLengths_3 20 rfl rfl)
theorem dX1_findLengths_95 : decode cX1_findLengths 95 = .ok (.iload_n 2, 1) := dk_28 (dk_at dksX1_findLengths_3 23 rfl rfl)
theorem dX1_findLengths_96 : decode cX1_findLengths 96 = .ok (.aload_n 0, 1) := dk_42 (dk_at dksX1_findLengths_4 0 rfl rfl)
theorem dX1_findLengths_97 : decode cX1_findLengths 97 = .ok (.iload_n 1, 1) := dk_27 (dk_at dksX1_findLengths_4 1 rfl rfl)
theorem dX1_findLengths_98 : decode cX1_findLengths 98 = .ok (.iload_n 3, 1) := dk_29 (dk_at dksX1_findLengths_4 2 rfl rfl)
theorem dX1_findLengths_99 : decode cX1_findLengths 99 = .ok (.iconst (-1), 1) := dk_2 (dk_at dksX1_findLengths_4 3 rfl rfl)
theorem dX1_findLengths_100 : decode cX1_findLengths 100 = .ok (.ixor, 1) := dk_130 (dk_at dksX1_findLengths_4 4 rfl rfl)
theorem dX1_findLengths_101 : decode cX1_findLengths 101 = .ok (.iand, 1) := dk_126 (dk_at dksX1_findLengths_4 5 rfl rfl)
theorem dX1_findLengths_102 : decode cX1_findLengths 102 = .ok (.aload_n 0, 1) := dk_42 (dk_at dksX1_findLengths_4 6 rfl rfl)
theorem dX1_findLengths_103 : decode cX1_findLengths 103 = .ok (.getfield 96, 3) := dk_180 0 96 (dk_at dksX1_findLengths_4 7 rfl rfl)
theorem dX1_findLengths_106 : decode cX1_findLengths 106 = .ok (.iload_n 3, 1) := dk_29 (dk_at dksX1_findLengths_4 10 rfl rfl)
theorem dX1_findLengths_107 : decode cX1_findLengths 107 = .ok (.iaload, 1) := dk_46 (dk_at dksX1_findLengths_4 11 rfl rfl)
theorem dX1_findLengths_108 : decode cX1_findLengths 108 = .ok (.iconst 1, 1) := dk_4 (dk_at dksX1_findLengths_4 12 rfl rfl)
theorem dX1_findLengths_109 : decode cX1_findLengths 109 = .ok (.iadd, 1) := dk_96 (dk_at dksX1_findLengths_4 13 rfl rfl)
theorem dX1_findLengths_110 : decode cX1_findLengths 110 = .ok (.invokevirtual 371, 3) := dk_182 1 115 (dk_at dksX1_findLengths_4 14 rfl rfl)
theorem dX1_findLengths_113 : decode cX1_findLengths 113 = .ok (.ior, 1) := dk_128 (dk_at dksX1_findLengths_4 17 rfl rfl)
theorem dX1_findLengths_114 : decode cX1_findLengths 114 = .ok (.istore_n 2, 1) := dk_61 (dk_at dksX1_findLengths_4 18 rfl rfl)
theorem dX1_findLengths_115 : decode cX1_findLengths 115 = .ok (.iconst 0, 1) := dk_3 (dk_at dksX1_findLengths_4 19 rfl rfl)
theorem dX1_findLengths_116 : decode cX1_findLengths 116 = .ok (.istore 4, 2) := dk_54 4 (dk_at dksX1_findLengths_4 20 rfl rfl)
theorem dX1_findLengths_118 : decode cX1_findLengths 118 = .ok (.iload 4, 2) := dk_21 4 (dk_at dksX1_findLengths_4 22 rfl rfl)
theorem dX1_findLengths_120 : decode cX1_findLengths 120 = .ok (.iload_n 3, 1) := dk_29 (dk_at dksX1_findLengths_5 0 rfl rfl)
theorem dX1_findLengths_121 : decode cX1_findLengths 121 = .ok (.if_icmp .gt 79, 3) := dk_163 0 79 (dk_at dksX1_findLengths_5 1 rfl rfl)
theorem dX1_findLengths_124 : decode cX1_findLengths 124 = .ok (.aload_n 0, 1) := dk_42 (dk_at dksX1_findLengths_5 4 rfl rfl)
theorem dX1_findLengths_125 : decode cX1_findLengths 125 = .ok (.getfield 96, 3) := dk_180 0 96 (dk_at dksX1_findLengths_5 5 rfl rfl)
theorem dX1_findLengths_128 : decode cX1_findLengths 128 = .ok (.iload 4, 2) := dk_21 4 (dk_at dksX1_findLengths_5 8 rfl rfl)
theorem dX1_findLengths_130 : decode cX1_findLengths 130 = .ok (.iaload, 1) := dk_46 (dk_at dksX1_findLengths_5 10 rfl rfl)
theorem dX1_findLengths_131 : decode cX1_findLengths 131 = .ok (.ldc_w 370, 3) := dk_19 1 114 (dk_at dksX1_findLengths_5 11 rfl rfl)
theorem dX1_findLengths_134 : decode cX1_findLengths 134 = .ok (.if_icmp .ne 6, 3) := dk_160 0 6 (dk_at dksX1_findLengths_5 14 rfl rfl)
theorem dX1_findLengths_137 : decode cX1_findLengths 137 = .ok (.goto 57, 3) := dk_167 0 57 (dk_at dksX1_findLengths_5 17 rfl rfl)
theorem dX1_findLengths_140 : decode cX1_findLengths 140 = .ok (.iload_n 2, 1) := dk_28 (dk_at dksX1_findLengths_5 20 rfl rfl)
theorem dX1_findLengths_141 : decode cX1_findLengths 141 = .ok (.aload_n 0, 1) := dk_42 (dk_at dksX1_findLengths_5 21 rfl rfl)
theorem dX1_findLengths_142 : decode cX1_findLengths 142 = .ok (.iload_n 3, 1) := dk_29 (dk_at dksX1_findLengths_5 22 rfl rfl)
theorem dX1_findLengths_143 : decode cX1_findLengths 143 = .ok (.iload 4, 2) := dk_21 4 (dk_at dksX1_findLengths_6 0 rfl rfl)
theorem dX1_findLengths_145 : decode cX1_findLengths 145 = .ok (.iand, 1) := dk_126 (dk_at dksX1_findLengths_6 2 rfl rfl)
theorem dX1_findLengths_146 : decode cX1_findLengths 146 = .ok (.aload_n 0, 1) := dk_42 (dk_at dksX1_findLengths_6 3 rfl rfl)
theorem dX1_findLengths_147 : decode cX1_findLengths 147 = .ok (.getfield 96, 3) := dk_180 0 96 (dk_at dksX1_findLengths_6 4 rfl rfl)
theorem dX1_findLengths_150 : decode cX1_findLengths 150 = .ok (.iload_n 3, 1) := dk_29 (dk_at dksX1_findLengths_6 7 rfl rfl)
theorem dX1_findLengths_151 : decode cX1_findLengths 151 = .ok (.iaload, 1) := dk_46 (dk_at dksX1_findLengths_6 8 rfl rfl)
theorem dX1_findLengths_152 : decode cX1_findLengths 152 = .ok (.aload_n 0, 1) := dk_42 (dk_at dksX1_findLengths_6 9 rfl rfl)
theorem dX1_findLengths_153 : decode cX1_findLengths 153 = .ok (.getfield 96, 3) := dk_180 0 96 (dk_at dksX1_findLengths_6 10 rfl rfl)
theorem dX1_findLengths_156 : decode cX1_findLengths 156 = .ok (.iload 4, 2) := dk_21 4 (dk_at dksX1_findLengths_6 13 rfl rfl)
theorem dX1_findLengths_158 : decode cX1_findLengths 158 = .ok (.iaload, 1) := dk_46 (dk_at dksX1_findLengths_6 15 rfl rfl)
theorem dX1_findLengths_159 : decode cX1_findLengths 159 = .ok (.iadd, 1) := dk_96 (dk_at dksX1_findLengths_6 16 rfl rfl)
theorem dX1_findLengths_160 : decode cX1_findLengths 160 = .ok (.iconst 1, 1) := dk_4 (dk_at dksX1_findLengths_6 17 rfl rfl)
theorem dX1_findLengths_161 : decode cX1_findLengths 161 = .ok (.iadd, 1) := dk_96 (dk_at dksX1_findLengths_6 18 rfl rfl)
theorem dX1_findLengths_162 : decode cX1_findLengths 162 = .ok (.invokevirtual 371, 3) := dk_182 1 115 (dk_at dksX1_findLengths_6 19 rfl rfl)
theorem dX1_findLengths_165 : decode cX1_findLengths 165 = .ok (.ior, 1) := dk_128 (dk_at dksX1_findLengths_6 22 rfl rfl)
theorem dX1_findLengths_166 : decode cX1_findLengths 166 = .ok (.istore_n 2, 1) := dk_61 (dk_at dksX1_findLengths_6 23 rfl rfl)
theorem dX1_findLengths_167 : decode cX1_findLengths 167 = .ok (.iload_n 2, 1) := dk_28 (dk_at dksX1_findLengths_7 0 rfl rfl)
theorem dX1_findLengths_168 : decode cX1_findLengths 168 = .ok (.aload_n 0, 1) := dk_42 (dk_at dksX1_findLengths_7 1 rfl rfl)
theorem dX1_findLengths_169 : decode cX1_findLengths 169 = .ok (.iload_n 3, 1) := dk_29 (dk_at dksX1_findLengths_7 2 rfl rfl)
theorem dX1_findLengths_170 : decode cX1_findLengths 170 = .ok (.iload 4, 2) := dk_21 4 (dk_at dksX1_findLengths_7 3 rfl rfl)
theorem dX1_findLengths_172 : decode cX1_findLengths 172 = .ok (.ior, 1) := dk_128 (dk_at dksX1_findLengths_7 5 rfl rfl)
theorem dX1_findLengths_173 : decode cX1_findLengths 173 = .ok (.aload_n 0, 1) := dk_42 (dk_at dksX1_findLengths_7 6 rfl rfl)
theorem dX1_findLengths_174 : decode cX1_findLengths 174 = .ok (.getfield 96, 3) := dk_180 0 96 (dk_at dksX1_findLengths_7 7 rfl rfl)
theorem dX1_findLengths_177 : decode cX1_findLengths 177 = .ok (.iload_n 3, 1) := dk_29 (dk_at dksX1_findLengths_7 10 rfl rfl)
theorem dX1_findLengths_178 : decode cX1_findLengths 178 = .ok (.iaload, 1) := dk_46 (dk_at dksX1_findLengths_7 11 rfl rfl)
theorem dX1_findLengths_179 : decode cX1_findLengths 179 = .ok (.aload_n 0, 1) := dk_42 (dk_at dksX1_findLengths_7 12 rfl rfl)
theorem dX1_findLengths_180 : decode cX1_findLengths 180 = .ok (.getfield 96, 3) := dk_180 0 96 (dk_at dksX1_findLengths_7 13 rfl rfl)
theorem dX1_findLengths_183 : decode cX1_findLengths 183 = .ok (.iload 4, 2) := dk_21 4 (dk_at dksX1_findLengths_7 16 rfl rfl)
theorem dX1_findLengths_185 : decode cX1_findLengths 185 = .ok (.iaload, 1) := dk_46 (dk_at dksX1_findLengths_7 18 rfl rfl)
theorem dX1_findLengths_186 : decode cX1_findLengths 186 = .ok (.iadd, 1) := dk_96 (dk_at dksX1_findLengths_7 19 rfl rfl)
theorem dX1_findLengths_187 : decode cX1_findLengths 187 = .ok (.iconst 1, 1) := dk_4 (dk_at dksX1_findLengths_7 20 rfl rfl)
theorem dX1_findLengths_188 : decode cX1_findLengths 188 = .ok (.iadd, 1) := dk_96 (dk_at dksX1_findLengths_7 21 rfl rfl)
theorem dX1_findLengths_189 : decode cX1_findLengths 189 = .ok (.invokevirtual 371, 3) := dk_182 1 115 (dk_at dksX1_findLengths_8 0 rfl rfl)
theorem dX1_findLengths_192 : decode cX1_findLengths 192 = .ok (.ior, 1) := dk_128 (dk_at dksX1_findLengths_8 3 rfl rfl)
theorem dX1_findLengths_193 : decode cX1_findLengths 193 = .ok (.istore_n 2, 1) := dk_61 (dk_at dksX1_findLengths_8 4 rfl rfl)
theorem dX1_findLengths_194 : decode cX1_findLengths 194 = .ok (.iinc 4 1, 3) := dk_132 4 1 (dk_at dksX1_findLengths_8 5 rfl rfl)
theorem dX1_findLengths_197 : decode cX1_findLengths 197 = .ok (.goto (-79), 3) := dk_167 255 177 (dk_at dksX1_findLengths_8 8 rfl rfl)
theorem dX1_findLengths_200 : decode cX1_findLengths 200 = .ok (.iinc 3 1, 3) := dk_132 3 1 (dk_at dksX1_findLengths_8 11 rfl rfl)
theorem dX1_findLengths_203 : decode cX1_findLengths 203 = .ok (.goto (-128), 3) := dk_167 255 128 (dk_at dksX1_findLengths_8 14 rfl rfl)
theorem dX1_findLengths_206 : decode cX1_findLengths 206 = .ok (.goto (-139), 3) := dk_167 255 117 (dk_at dksX1_findLengths_8 17 rfl rfl)
theorem dX1_findLengths_209 : decode cX1_findLengths 209 = .ok (.return_, 1) := dk_177 (dk_at dksX1_findLengths_8 20 rfl rfl)
abbrev cX1_shortens : ByteArray := prog_1_method_73_code
def yX1_shortens : MethodName := ⟨RX1, "shortens", "(II)Z"⟩
def dkwX1_shortens_0 : List UInt8 := [28, 42, 180, 0, 96, 27, 46, 161, 0, 5, 3, 172, 42, 180, 0, 96, 27, 28, 79, 4, 172]
abbrev dktX1_shortens_0 : List UInt8 := dkwX1_shortens_0 ++ []
theorem dksX1_shortens_0 : cX1_shortens.data.toList.drop 0 = dktX1_shortens_0 := by decide +kernel
theorem dX1_shortens_0 : decode cX1_shortens 0 = .ok (.iload_n 2, 1) := dk_28 (dk_at dksX1_shortens_0 0 rfl rfl)
theorem dX1_shortens_1 : decode cX1_shortens 1 = .ok (.aload_n 0, 1) := dk_42 (dk_at dksX1_shortens_0 1 rfl rfl)
theorem dX1_shortens_2 : decode cX1_shortens 2 = .ok (.getfield 96, 3) := dk_180 0 96 (dk_at dksX1_shortens_0 2 rfl rfl)
theorem dX1_shortens_5 : decode cX1_shortens 5 = .ok (.iload_n 1, 1) := dk_27 (dk_at dksX1_shortens_0 5 rfl rfl)
theorem dX1_shortens_6 : decode cX1_shortens 6 = .ok (.iaload, 1) := dk_46 (dk_at dksX1_shortens_0 6 rfl rfl)
theorem dX1_shortens_7 : decode cX1_shortens 7 = .ok (.if_icmp .lt 5, 3) := dk_161 0 5 (dk_at dksX1_shortens_0 7 rfl rfl)
theorem dX1_shortens_10 : decode cX1_shortens 10 = .ok (.iconst 0, 1) := dk_3 (dk_at dksX1_shortens_0 10 rfl rfl)
theorem dX1_shortens_11 : decode cX1_shortens 11 = .ok (.ireturn, 1) := dk_172 (dk_at dksX1_shortens_0 11 rfl rfl)
theorem dX1_shortens_12 : decode cX1_shortens 12 = .ok (.aload_n 0, 1) := dk_42 (dk_at dksX1_shortens_0 12 rfl rfl)
theorem dX1_shortens_13 : decode cX1_shortens 13 = .ok (.getfield 96, 3) := dk_180 0 96 (dk_at dksX1_shortens_0 13 rfl rfl)
theorem dX1_shortens_16 : decode cX1_shortens 16 = .ok (.iload_n 1, 1) := dk_27 (dk_at dksX1_shortens_0 16 rfl rfl)
theorem dX1_shortens_17 : decode cX1_shortens 17 = .ok (.iload_n 2, 1) := dk_28 (dk_at dksX1_shortens_0 17 rfl rfl)
theorem dX1_shortens_18 : decode cX1_shortens 18 = .ok (.iastore, 1) := dk_79 (dk_at dksX1_shortens_0 18 rfl rfl)
theorem dX1_shortens_19 : decode cX1_shortens 19 = .ok (.iconst 1, 1) := dk_4 (dk_at dksX1_shortens_0 19 rfl rfl)
theorem dX1_shortens_20 : decode cX1_shortens 20 = .ok (.ireturn, 1) := dk_172 (dk_at dksX1_shortens_0 20 rfl rfl)
abbrev cX1_asks : ByteArray := prog_1_method_76_code
def yX1_asks : MethodName := ⟨RX1, "asks", "(I)I"⟩
def dkwX1_asks_7 : List UInt8 := [29, 61, 132, 3, 1, 167, 255, 119, 28, 172]
abbrev dktX1_asks_7 : List UInt8 := dkwX1_asks_7 ++ []
def dkwX1_asks_6 : List UInt8 := [127, 55, 4, 132, 6, 1, 167, 255, 185, 22, 4, 10, 42, 180, 0, 40, 180, 0, 117, 121, 148, 154, 0, 5]
abbrev dktX1_asks_6 : List UInt8 := dkwX1_asks_6 ++ dktX1_asks_7
def dkwX1_asks_5 : List UInt8 := [180, 0, 12, 21, 6, 182, 1, 78, 167, 0, 16, 42, 180, 0, 12, 21, 6, 182, 1, 78, 20, 0, 27, 131]
abbrev dktX1_asks_5 : List UInt8 := dkwX1_asks_5 ++ dktX1_asks_6
def dkwX1_asks_4 : List UInt8 := [4, 160, 0, 49, 22, 4, 42, 180, 0, 40, 180, 0, 117, 21, 6, 122, 4, 126, 4, 160, 0, 15, 42]
abbrev dktX1_asks_4 : List UInt8 := dkwX1_asks_4 ++ dktX1_asks_5
def dkwX1_asks_3 : List UInt8 := [47, 55, 4, 3, 54, 6, 21, 6, 42, 180, 0, 12, 180, 0, 193, 162, 0, 65, 29, 21, 6, 122, 4, 126]
abbrev dktX1_asks_3 : List UInt8 := dkwX1_asks_3 ++ dktX1_asks_4
def dkwX1_asks_2 : List UInt8 := [28, 2, 159, 0, 17, 29, 184, 1, 13, 28, 184, 1, 13, 161, 0, 6, 167, 0, 105, 42, 180, 0, 33, 27]
abbrev dktX1_asks_2 : List UInt8 := dkwX1_asks_2 ++ dktX1_asks_3
def dkwX1_asks_1 : List UInt8 := [9, 148, 154, 0, 5, 2, 172, 2, 61, 3, 62, 29, 4, 42, 180, 0, 12, 180, 0, 193, 120, 162, 0, 130]
abbrev dktX1_asks_1 : List UInt8 := dkwX1_asks_1 ++ dktX1_asks_2
def dkwX1_asks_0 : List UInt8 := [42, 27, 184, 0, 214, 182, 0, 146, 42, 180, 0, 33, 27, 47, 42, 180, 0, 40, 180, 0, 117, 123, 10, 127]
abbrev dktX1_asks_0 : List UInt8 := dkwX1_asks_0 ++ dktX1_asks_1
theorem dksX1_asks_0 : cX1_asks.data.toList.drop 0 = dktX1_asks_0 := by decide +kernel
theorem dksX1_asks_1 : cX1_asks.data.toList.drop 24 = dktX1_asks_1 := dk_seg dksX1_asks_0 24 rfl rfl
theorem dksX1_asks_2 : cX1_asks.data.toList.drop 48 = dktX1_asks_2 := dk_seg dksX1_asks_1 24 rfl rfl
theorem dksX1_asks_3 : cX1_asks.data.toList.drop 72 = dktX1_asks_3 := dk_seg dksX1_asks_2 24 rfl rfl
theorem dksX1_asks_4 : cX1_asks.data.toList.drop 96 = dktX1_asks_4 := dk_seg dksX1_asks_3 24 rfl rfl
theorem dksX1_asks_5 : cX1_asks.data.toList.drop 119 = dktX1_asks_5 := dk_seg dksX1_asks_4 23 rfl rfl
theorem dksX1_asks_6 : cX1_asks.data.toList.drop 143 = dktX1_asks_6 := dk_seg dksX1_asks_5 24 rfl rfl
theorem dksX1_asks_7 : cX1_asks.data.toList.drop 167 = dktX1_asks_7 := dk_seg dksX1_asks_6 24 rfl rfl
theorem dX1_asks_0 : decode cX1_asks 0 = .ok (.aload_n 0, 1) := dk_42 (dk_at dksX1_asks_0 0 rfl rfl)
theorem dX1_asks_1 : decode cX1_asks 1 = .ok (.iload_n 1, 1) := dk_27 (dk_at dksX1_asks_0 1 rfl rfl)
theorem dX1_asks_2 : decode cX1_asks 2 = .ok (.invokestatic 214, 3) := dk_184 0 214 (dk_at dksX1_asks_0 2 rfl rfl)
theorem dX1_asks_5 : decode cX1_asks 5 = .ok (.invokevirtual 146, 3) := dk_182 0 146 (dk_at dksX1_asks_0 5 rfl rfl)
theorem dX1_asks_8 : decode cX1_asks 8 = .ok (.aload_n 0, 1) := dk_42 (dk_at dksX1_asks_0 8 rfl rfl)
theorem dX1_asks_9 : decode cX1_asks 9 = .ok (.getfield 33, 3) := dk_180 0 33 (dk_at dksX1_asks_0 9 rfl rfl)
theorem dX1_asks_12 : decode cX1_asks 12 = .ok (.iload_n 1, 1) := dk_27 (dk_at dksX1_asks_0 12 rfl rfl)
theorem dX1_asks_13 : decode cX1_asks 13 = .ok (.laload, 1) := dk_47 (dk_at dksX1_asks_0 13 rfl rfl)
theorem dX1_asks_14 : decode cX1_asks 14 = .ok (.aload_n 0, 1) := dk_42 (dk_at dksX1_asks_0 14 rfl rfl)
theorem dX1_asks_15 : decode cX1_asks 15 = .ok (.getfield 40, 3) := dk_180 0 40 (dk_at dksX1_asks_0 15 rfl rfl)
theorem dX1_asks_18 : decode cX1_asks 18 = .ok (.getfield 117, 3) := dk_180 0 117 (dk_at dksX1_asks_0 18 rfl rfl)
theorem dX1_asks_21 : decode cX1_asks 21 = .ok (.lshr, 1) := dk_123 (dk_at dksX1_asks_0 21 rfl rfl)
theorem dX1_asks_22 : decode cX1_asks 22 = .ok (.lconst 1, 1) := dk_10 (dk_at dksX1_asks_0 22 rfl rfl)
theorem dX1_asks_23 : decode cX1_asks 23 = .ok (.land, 1) := dk_127 (dk_at dksX1_asks_0 23 rfl rfl)
theorem dX1_asks_24 : decode cX1_asks 24 = .ok (.lconst 0, 1) := dk_9 (dk_at dksX1_asks_1 0 rfl rfl)
theorem dX1_asks_25 : decode cX1_asks 25 = .ok (.lcmp, 1) := dk_148 (dk_at dksX1_asks_1 1 rfl rfl)
theorem dX1_asks_26 : decode cX1_asks 26 = .ok (.ifCond .ne 5, 3) := dk_154 0 5 (dk_at dksX1_asks_1 2 rfl rfl)
theorem dX1_asks_29 : decode cX1_asks 29 = .ok (.iconst (-1), 1) := dk_2 (dk_at dksX1_asks_1 5 rfl rfl)
theorem dX1_asks_30 : decode cX1_asks 30 = .ok (.ireturn, 1) := dk_172 (dk_at dksX1_asks_1 6 rfl rfl)
theorem dX1_asks_31 : decode cX1_asks 31 = .ok (.iconst (-1), 1) := dk_2 (dk_at dksX1_asks_1 7 rfl rfl)
theorem dX1_asks_32 : decode cX1_asks 32 = .ok (.istore_n 2, 1) := dk_61 (dk_at dksX1_asks_1 8 rfl rfl)
theorem dX1_asks_33 : decode cX1_asks 33 = .ok (.iconst 0, 1) := dk_3 (dk_at dksX1_asks_1 9 rfl rfl)
theorem dX1_asks_34 : decode cX1_asks 34 = .ok (.istore_n 3, 1) := dk_62 (dk_at dksX1_asks_1 10 rfl rfl)
theorem dX1_asks_35 : decode cX1_asks 35 = .ok (.iload_n 3, 1) := dk_29 (dk_at dksX1_asks_1 11 rfl rfl)
theorem dX1_asks_36 : decode cX1_asks 36 = .ok (.iconst 1, 1) := dk_4 (dk_at dksX1_asks_1 12 rfl rfl)
theorem dX1_asks_37 : decode cX1_asks 37 = .ok (.aload_n 0, 1) := dk_42 (dk_at dksX1_asks_1 13 rfl rfl)
theorem dX1_asks_38 : decode cX1_asks 38 = .ok (.getfield 12, 3) := dk_180 0 12 (dk_at dksX1_asks_1 14 rfl rfl)
theorem dX1_asks_41 : decode cX1_asks 41 = .ok (.getfield 193, 3) := dk_180 0 193 (dk_at dksX1_asks_1 17 rfl rfl)
theorem dX1_asks_44 : decode cX1_asks 44 = .ok (.ishl, 1) := dk_120 (dk_at dksX1_asks_1 20 rfl rfl)
theorem dX1_asks_45 : decode cX1_asks 45 = .ok (.if_icmp .ge 130, 3) := dk_162 0 130 (dk_at dksX1_asks_1 21 rfl rfl)
theorem dX1_asks_48 : decode cX1_asks 48 = .ok (.iload_n 2, 1) := dk_28 (dk_at dksX1_asks_2 0 rfl rfl)
theorem dX1_asks_49 : decode cX1_asks 49 = .ok (.iconst (-1), 1) := dk_2 (dk_at dksX1_asks_2 1 rfl rfl)
theorem dX1_asks_50 : decode cX1_asks 50 = .ok (.if_icmp .eq 17, 3) := dk_159 0 17 (dk_at dksX1_asks_2 2 rfl rfl)
theorem dX1_asks_53 : decode cX1_asks 53 = .ok (.iload_n 3, 1) := dk_29 (dk_at dksX1_asks_2 5 rfl rfl)
theorem dX1_asks_54 : decode cX1_asks 54 = .ok (.invokestatic 269, 3) := dk_184 1 13 (dk_at dksX1_asks_2 6 rfl rfl)
theorem dX1_asks_57 : decode cX1_asks 57 = .ok (.iload_n 2, 1) := dk_28 (dk_at dksX1_asks_2 9 rfl rfl)
theorem dX1_asks_58 : decode cX1_asks 58 = .ok (.invokestatic 269, 3) := dk_184 1 13 (dk_at dksX1_asks_2 10 rfl rfl)
theorem dX1_asks_61 : decode cX1_asks 61 = .ok (.if_icmp .lt 6, 3) := dk_161 0 6 (dk_at dksX1_asks_2 13 rfl rfl)
theorem dX1_asks_64 : decode cX1_asks 64 = .ok (.goto 105, 3) := dk_167 0 105 (dk_at dksX1_asks_2 16 rfl rfl)
theorem dX1_asks_67 : decode cX1_asks 67 = .ok (.aload_n 0, 1) := dk_42 (dk_at dksX1_asks_2 19 rfl rfl)
theorem dX1_asks_68 : decode cX1_asks 68 = .ok (.getfield 33, 3) := dk_180 0 33 (dk_at dksX1_asks_2 20 rfl rfl)
theorem dX1_asks_71 : decode cX1_asks 71 = .ok (.iload_n 1, 1) := dk_27 (dk_at dksX1_asks_2 23 rfl rfl)
theorem dX1_asks_72 : decode cX1_asks 72 = .ok (.laload, 1) := dk_47 (dk_at dksX1_asks_3 0 rfl rfl)
theorem dX1_asks_73 : decode cX1_asks 73 = .ok (.lstore 4, 2) := dk_55 4 (dk_at dksX1_asks_3 1 rfl rfl)
theorem dX1_asks_75 : decode cX1_asks 75 = .ok (.iconst 0, 1) := dk_3 (dk_at dksX1_asks_3 3 rfl rfl)
theorem dX1_asks_76 : decode cX1_asks 76 = .ok (.istore 6, 2) := dk_54 6 (dk_at dksX1_asks_3 4 rfl rfl)
theorem dX1_asks_78 : decode cX1_asks 78 = .ok (.iload 6, 2) := dk_21 6 (dk_at dksX1_asks_3 6 rfl rfl)
theorem dX1_asks_80 : decode cX1_asks 80 = .ok (.aload_n 0, 1) := dk_42 (dk_at dksX1_asks_3 8 rfl rfl)
theorem dX1_asks_81 : decode cX1_asks 81 = .ok (.getfield 12, 3) := dk_180 0 12 (dk_at dksX1_asks_3 9 rfl rfl)
theorem dX1_asks_84 : decode cX1_asks 84 = .ok (.getfield 193, 3) := dk_180 0 193 (dk_at dksX1_asks_3 12 rfl rfl)
theorem dX1_asks_87 : decode cX1_asks 87 = .ok (.if_icmp .ge 65, 3) := dk_162 0 65 (dk_at dksX1_asks_3 15 rfl rfl)
theorem dX1_asks_90 : decode cX1_asks 90 = .ok (.iload_n 3, 1) := dk_29 (dk_at dksX1_asks_3 18 rfl rfl)
theorem dX1_asks_91 : decode cX1_asks 91 = .ok (.iload 6, 2) := dk_21 6 (dk_at dksX1_asks_3 19 rfl rfl)
theorem dX1_asks_93 : decode cX1_asks 93 = .ok (.ishr, 1) := dk_122 (dk_at dksX1_asks_3 21 rfl rfl)
theorem dX1_asks_94 : decode cX1_asks 94 = .ok (.iconst 1, 1) := dk_4 (dk_at dksX1_asks_3 22 rfl rfl)
theorem dX1_asks_95 : decode cX1_asks 95 = .ok (.iand, 1) := dk_126 (dk_at dksX1_asks_3 23 rfl rfl)
theorem dX1_asks_96 : decode cX1_asks 96 = .ok (.iconst 1, 1) := dk_4 (dk_at dksX1_asks_4 0 rfl rfl)
theorem dX1_asks_97 : decode cX1_asks 97 = .ok (.if_icmp .ne 49, 3) := dk_160 0 49 (dk_at dksX1_asks_4 1 rfl rfl)
theorem dX1_asks_100 : decode cX1_asks 100 = .ok (.lload 4, 2) := dk_22 4 (dk_at dksX1_asks_4 4 rfl rfl)
theorem dX1_asks_102 : decode cX1_asks 102 = .ok (.aload_n 0, 1) := dk_42 (dk_at dksX1_asks_4 6 rfl rfl)
theorem dX1_asks_103 : decode cX1_asks 103 = .ok (.getfield 40, 3) := dk_180 0 40 (dk_at dksX1_asks_4 7 rfl rfl)
theorem dX1_asks_106 : decode cX1_asks 106 = .ok (.getfield 117, 3) := dk_180 0 117 (dk_at dksX1_asks_4 10 rfl rfl)
theorem dX1_asks_109 : decode cX1_asks 109 = .ok (.iload 6, 2) := dk_21 6 (dk_at dksX1_asks_4 13 rfl rfl)
theorem dX1_asks_111 : decode cX1_asks 111 = .ok (.ishr, 1) := dk_122 (dk_at dksX1_asks_4 15 rfl rfl)
theorem dX1_asks_112 : decode cX1_asks 112 = .ok (.iconst 1, 1) := dk_4 (dk_at dksX1_asks_4 16 rfl rfl)
theorem dX1_asks_113 : decode cX1_asks 113 = .ok (.iand, 1) := dk_126 (dk_at dksX1_asks_4 17 rfl rfl)
theorem dX1_asks_114 : decode cX1_asks 114 = .ok (.iconst 1, 1) := dk_4 (dk_at dksX1_asks_4 18 rfl rfl)
theorem dX1_asks_115 : decode cX1_asks 115 = .ok (.if_icmp .ne 15, 3) := dk_160 0 15 (dk_at dksX1_asks_4 19 rfl rfl)
theorem dX1_asks_118 : decode cX1_asks 118 = .ok (.aload_n 0, 1) := dk_42 (dk_at dksX1_asks_4 22 rfl rfl)
theorem dX1_asks_119 : decode cX1_asks 119 = .ok (.getfield 12, 3) := dk_180 0 12 (dk_at dksX1_asks_5 0 rfl rfl)
theorem dX1_asks_122 : decode cX1_asks 122 = .ok (.iload 6, 2) := dk_21 6 (dk_at dksX1_asks_5 3 rfl rfl)
theorem dX1_asks_124 : decode cX1_asks 124 = .ok (.invokevirtual 334, 3) := dk_182 1 78 (dk_at dksX1_asks_5 5 rfl rfl)
theorem dX1_asks_127 : decode cX1_asks 127 = .ok (.goto 16, 3) := dk_167 0 16 (dk_at dksX1_asks_5 8 rfl rfl)
theorem dX1_asks_130 : decode cX1_asks 130 = .ok (.aload_n 0, 1) := dk_42 (dk_at dksX1_asks_5 11 rfl rfl)
theorem dX1_asks_131 : decode cX1_asks 131 = .ok (.getfield 12, 3) := dk_180 0 12 (dk_at dksX1_asks_5 12 rfl rfl)
theorem dX1_asks_134 : decode cX1_asks 134 = .ok (.iload 6, 2) := dk_21 6 (dk_at dksX1_asks_5 15 rfl rfl)
theorem dX1_asks_136 : decode cX1_asks 136 = .ok (.invokevirtual 334, 3) := dk_182 1 78 (dk_at dksX1_asks_5 17 rfl rfl)
theorem dX1_asks_139 : decode cX1_asks 139 = .ok (.ldc2_w 27, 3) := dk_20 0 27 (dk_at dksX1_asks_5 20 rfl rfl)
theorem dX1_asks_142 : decode cX1_asks 142 = .ok (.lxor, 1) := dk_131 (dk_at dksX1_asks_5 23 rfl rfl)
theorem dX1_asks_143 : decode cX1_asks 143 = .ok (.land, 1) := dk_127 (dk_at dksX1_asks_6 0 rfl rfl)
theorem dX1_asks_144 : decode cX1_asks 144 = .ok (.lstore 4, 2) := dk_55 4 (dk_at dksX1_asks_6 1 rfl rfl)
theorem dX1_asks_146 : decode cX1_asks 146 = .ok (.iinc 6 1, 3) := dk_132 6 1 (dk_at dksX1_asks_6 3 rfl rfl)
theorem dX1_asks_149 : decode cX1_asks 149 = .ok (.goto (-71), 3) := dk_167 255 185 (dk_at dksX1_asks_6 6 rfl rfl)
theorem dX1_asks_152 : decode cX1_asks 152 = .ok (.lload 4, 2) := dk_22 4 (dk_at dksX1_asks_6 9 rfl rfl)
theorem dX1_asks_154 : decode cX1_asks 154 = .ok (.lconst 1, 1) := dk_10 (dk_at dksX1_asks_6 11 rfl rfl)
theorem dX1_asks_155 : decode cX1_asks 155 = .ok (.aload_n 0, 1) := dk_42 (dk_at dksX1_asks_6 12 rfl rfl)
theorem dX1_asks_156 : decode cX1_asks 156 = .ok (.getfield 40, 3) := dk_180 0 40 (dk_at dksX1_asks_6 13 rfl rfl)
theorem dX1_asks_159 : decode cX1_asks 159 = .ok (.getfield 117, 3) := dk_180 0 117 (dk_at dksX1_asks_6 16 rfl rfl)
theorem dX1_asks_162 : decode cX1_asks 162 = .ok (.lshl, 1) := dk_121 (dk_at dksX1_asks_6 19 rfl rfl)
theorem dX1_asks_163 : decode cX1_asks 163 = .ok (.lcmp, 1) := dk_148 (dk_at dksX1_asks_6 20 rfl rfl)
theorem dX1_asks_164 : decode cX1_asks 164 = .ok (.ifCond .ne 5, 3) := dk_154 0 5 (dk_at dksX1_asks_6 21 rfl rfl)
theorem dX1_asks_167 : decode cX1_asks 167 = .ok (.iload_n 3, 1) := dk_29 (dk_at dksX1_asks_7 0 rfl rfl)
theorem dX1_asks_168 : decode cX1_asks 168 = .ok (.istore_n 2, 1) := dk_61 (dk_at dksX1_asks_7 1 rfl rfl)
theorem dX1_asks_169 : decode cX1_asks 169 = .ok (.iinc 3 1, 3) := dk_132 3 1 (dk_at dksX1_asks_7 2 rfl rfl)
theorem dX1_asks_172 : decode cX1_asks 172 = .ok (.goto (-137), 3) := dk_167 255 119 (dk_at dksX1_asks_7 5 rfl rfl)
theorem dX1_asks_175 : decode cX1_asks 175 = .ok (.iload_n 2, 1) := dk_28 (dk_at dksX1_asks_7 8 rfl rfl)
theorem dX1_asks_176 : decode cX1_asks 176 = .ok (.ireturn, 1) := dk_172 (dk_at dksX1_asks_7 9 rfl rfl)
abbrev cX1_war : ByteArray := prog_1_method_77_code
def yX1_war : MethodName := ⟨RX1, "war", "(I)I"⟩
def dkwX1_war_3 : List UInt8 := [132, 4, 1, 167, 255, 213, 27, 154, 0, 7, 28, 167, 0, 4, 29, 172]
abbrev dktX1_war_3 : List UInt8 := dkwX1_war_3 ++ []
def dkwX1_war_2 : List UInt8 := [21, 4, 47, 127, 9, 148, 153, 0, 6, 167, 0, 13, 28, 154, 0, 6, 21, 4, 62, 132, 2, 1]
abbrev dktX1_war_2 : List UInt8 := dkwX1_war_2 ++ dktX1_war_3
def dkwX1_war_1 : List UInt8 := [2, 62, 3, 54, 4, 21, 4, 16, 52, 162, 0, 42, 42, 180, 0, 90, 21, 4, 47, 42, 180, 0, 93]
abbrev dktX1_war_1 : List UInt8 := dkwX1_war_1 ++ dktX1_war_2
def dkwX1_war_0 : List UInt8 := [42, 27, 153, 0, 8, 27, 4, 160, 0, 7, 4, 167, 0, 4, 3, 182, 0, 146, 42, 182, 1, 90, 3, 61]
abbrev dktX1_war_0 : List UInt8 := dkwX1_war_0 ++ dktX1_war_1
theorem dksX1_war_0 : cX1_war.data.toList.drop 0 = dktX1_war_0 := by decide +kernel
theorem dksX1_war_1 : cX1_war.data.toList.drop 24 = dktX1_war_1 := dk_seg dksX1_war_0 24 rfl rfl
theorem dksX1_war_2 : cX1_war.data.toList.drop 47 = dktX1_war_2 := dk_seg dksX1_war_1 23 rfl rfl
theorem dksX1_war_3 : cX1_war.data.toList.drop 69 = dktX1_war_3 := dk_seg dksX1_war_2 22 rfl rfl
theorem dX1_war_0 : decode cX1_war 0 = .ok (.aload_n 0, 1) := dk_42 (dk_at dksX1_war_0 0 rfl rfl)
theorem dX1_war_1 : decode cX1_war 1 = .ok (.iload_n 1, 1) := dk_27 (dk_at dksX1_war_0 1 rfl rfl)
theorem dX1_war_2 : decode cX1_war 2 = .ok (.ifCond .eq 8, 3) := dk_153 0 8 (dk_at dksX1_war_0 2 rfl rfl)
theorem dX1_war_5 : decode cX1_war 5 = .ok (.iload_n 1, 1) := dk_27 (dk_at dksX1_war_0 5 rfl rfl)
theorem dX1_war_6 : decode cX1_war 6 = .ok (.iconst 1, 1) := dk_4 (dk_at dksX1_war_0 6 rfl rfl)
theorem dX1_war_7 : decode cX1_war 7 = .ok (.if_icmp .ne 7, 3) := dk_160 0 7 (dk_at dksX1_war_0 7 rfl rfl)
theorem dX1_war_10 : decode cX1_war 10 = .ok (.iconst 1, 1) := dk_4 (dk_at dksX1_war_0 10 rfl rfl)
theorem dX1_war_11 : decode cX1_war 11 = .ok (.goto 4, 3) := dk_167 0 4 (dk_at dksX1_war_0 11 rfl rfl)
theorem dX1_war_14 : decode cX1_war 14 = .ok (.iconst 0, 1) := dk_3 (dk_at dksX1_war_0 14 rfl rfl)
theorem dX1_war_15 : decode cX1_war 15 = .ok (.invokevirtual 146, 3) := dk_182 0 146 (dk_at dksX1_war_0 15 rfl rfl)
theorem dX1_war_18 : decode cX1_war 18 = .ok (.aload_n 0, 1) := dk_42 (dk_at dksX1_war_0 18 rfl rfl)
theorem dX1_war_19 : decode cX1_war 19 = .ok (.invokevirtual 346, 3) := dk_182 1 90 (dk_at dksX1_war_0 19 rfl rfl)
theorem dX1_war_22 : decode cX1_war 22 = .ok (.iconst 0, 1) := dk_3 (dk_at dksX1_war_0 22 rfl rfl)
theorem dX1_war_23 : decode cX1_war 23 = .ok (.istore_n 2, 1) := dk_61 (dk_at dksX1_war_0 23 rfl rfl)
theorem dX1_war_24 : decode cX1_war 24 = .ok (.iconst (-1), 1) := dk_2 (dk_at dksX1_war_1 0 rfl rfl)
theorem dX1_war_25 : decode cX1_war 25 = .ok (.istore_n 3, 1) := dk_62 (dk_at dksX1_war_1 1 rfl rfl)
theorem dX1_war_26 : decode cX1_war 26 = .ok (.iconst 0, 1) := dk_3 (dk_at dksX1_war_1 2 rfl rfl)
theorem dX1_war_27 : decode cX1_war 27 = .ok (.istore 4, 2) := dk_54 4 (dk_at dksX1_war_1 3 rfl rfl)
theorem dX1_war_29 : decode cX1_war 29 = .ok (.iload 4, 2) := dk_21 4 (dk_at dksX1_war_1 5 rfl rfl)
theorem dX1_war_31 : decode cX1_war 31 = .ok (.bipush 52, 2) := dk_16 52 (dk_at dksX1_war_1 7 rfl rfl)
theorem dX1_war_33 : decode cX1_war 33 = .ok (.if_icmp .ge 42, 3) := dk_162 0 42 (dk_at dksX1_war_1 9 rfl rfl)
theorem dX1_war_36 : decode cX1_war 36 = .ok (.aload_n 0, 1) := dk_42 (dk_at dksX1_war_1 12 rfl rfl)
theorem dX1_war_37 : decode cX1_war 37 = .ok (.getfield 90, 3) := dk_180 0 90 (dk_at dksX1_war_1 13 rfl rfl)
theorem dX1_war_40 : decode cX1_war 40 = .ok (.iload 4, 2) := dk_21 4 (dk_at dksX1_war_1 16 rfl rfl)
theorem dX1_war_42 : decode cX1_war 42 = .ok (.laload, 1) := dk_47 (dk_at dksX1_war_1 18 rfl rfl)
theorem dX1_war_43 : decode cX1_war 43 = .ok (.aload_n 0, 1) := dk_42 (dk_at dksX1_war_1 19 rfl rfl)
theorem dX1_war_44 : decode cX1_war 44 = .ok (.getfield 93, 3) := dk_180 0 93 (dk_at dksX1_war_1 20 rfl rfl)
theorem dX1_war_47 : decode cX1_war 47 = .ok (.iload 4, 2) := dk_21 4 (dk_at dksX1_war_2 0 rfl rfl)
theorem dX1_war_49 : decode cX1_war 49 = .ok (.laload, 1) := dk_47 (dk_at dksX1_war_2 2 rfl rfl)
theorem dX1_war_50 : decode cX1_war 50 = .ok (.land, 1) := dk_127 (dk_at dksX1_war_2 3 rfl rfl)
theorem dX1_war_51 : decode cX1_war 51 = .ok (.lconst 0, 1) := dk_9 (dk_at dksX1_war_2 4 rfl rfl)
theorem dX1_war_52 : decode cX1_war 52 = .ok (.lcmp, 1) := dk_148 (dk_at dksX1_war_2 5 rfl rfl)
theorem dX1_war_53 : decode cX1_war 53 = .ok (.ifCond .eq 6, 3) := dk_153 0 6 (dk_at dksX1_war_2 6 rfl rfl)
theorem dX1_war_56 : decode cX1_war 56 = .ok (.goto 13, 3) := dk_167 0 13 (dk_at dksX1_war_2 9 rfl rfl)
theorem dX1_war_59 : decode cX1_war 59 = .ok (.iload_n 2, 1) := dk_28 (dk_at dksX1_war_2 12 rfl rfl)
theorem dX1_war_60 : decode cX1_war 60 = .ok (.ifCond .ne 6, 3) := dk_154 0 6 (dk_at dksX1_war_2 13 rfl rfl)
theorem dX1_war_63 : decode cX1_war 63 = .ok (.iload 4, 2) := dk_21 4 (dk_at dksX1_war_2 16 rfl rfl)
theorem dX1_war_65 : decode cX1_war 65 = .ok (.istore_n 3, 1) := dk_62 (dk_at dksX1_war_2 18 rfl rfl)
theorem dX1_war_66 : decode cX1_war 66 = .ok (.iinc 2 1, 3) := dk_132 2 1 (dk_at dksX1_war_2 19 rfl rfl)
theorem dX1_war_69 : decode cX1_war 69 = .ok (.iinc 4 1, 3) := dk_132 4 1 (dk_at dksX1_war_3 0 rfl rfl)
theorem dX1_war_72 : decode cX1_war 72 = .ok (.goto (-43), 3) := dk_167 255 213 (dk_at dksX1_war_3 3 rfl rfl)
theorem dX1_war_75 : decode cX1_war 75 = .ok (.iload_n 1, 1) := dk_27 (dk_at dksX1_war_3 6 rfl rfl)
theorem dX1_war_76 : decode cX1_war 76 = .ok (.ifCond .ne 7, 3) := dk_154 0 7 (dk_at dksX1_war_3 7 rfl rfl)
theorem dX1_war_79 : decode cX1_war 79 = .ok (.iload_n 2, 1) := dk_28 (dk_at dksX1_war_3 10 rfl rfl)
theorem dX1_war_80 : decode cX1_war 80 = .ok (.goto 4, 3) := dk_167 0 4 (dk_at dksX1_war_3 11 rfl rfl)
theorem dX1_war_83 : decode cX1_war 83 = .ok (.iload_n 3, 1) := dk_29 (dk_at dksX1_war_3 14 rfl rfl)
theorem dX1_war_84 : decode cX1_war 84 = .ok (.ireturn, 1) := dk_172 (dk_at dksX1_war_3 15 rfl rfl)
abbrev cX1_canon : ByteArray := prog_1_method_79_code
def yX1_canon : MethodName := ⟨RX1, "canon", "(I)I"⟩
def dkwX1_canon_3 : List UInt8 := [46, 154, 0, 10, 4, 21, 4, 120, 167, 0, 4, 3, 128, 62, 132, 4, 1, 167, 255, 196, 29, 172]
abbrev dktX1_canon_3 : List UInt8 := dkwX1_canon_3 ++ []
def dkwX1_canon_2 : List UInt8 := [122, 4, 126, 4, 160, 0, 31, 44, 180, 1, 4, 21, 4, 46, 27, 161, 0, 20, 44, 180, 1, 7, 21, 4]
abbrev dktX1_canon_2 : List UInt8 := dkwX1_canon_2 ++ dktX1_canon_3
def dkwX1_canon_1 : List UInt8 := [3, 62, 3, 54, 4, 21, 4, 42, 180, 0, 12, 180, 0, 108, 162, 0, 54, 29, 44, 182, 1, 18, 21, 4]
abbrev dktX1_canon_1 : List UInt8 := dkwX1_canon_1 ++ dktX1_canon_2
def dkwX1_canon_0 : List UInt8 := [42, 27, 155, 0, 13, 27, 16, 52, 163, 0, 7, 4, 167, 0, 4, 3, 182, 0, 146, 42, 182, 0, 244, 77]
abbrev dktX1_canon_0 : List UInt8 := dkwX1_canon_0 ++ dktX1_canon_1
theorem dksX1_canon_0 : cX1_canon.data.toList.drop 0 = dktX1_canon_0 := by decide +kernel
theorem dksX1_canon_1 : cX1_canon.data.toList.drop 24 = dktX1_canon_1 := dk_seg dksX1_canon_0 24 rfl rfl
theorem dksX1_canon_2 : cX1_canon.data.toList.drop 48 = dktX1_canon_2 := dk_seg dksX1_canon_1 24 rfl rfl
theorem dksX1_canon_3 : cX1_canon.data.toList.drop 72 = dktX1_canon_3 := dk_seg dksX1_canon_2 24 rfl rfl
theorem dX1_canon_0 : decode cX1_canon 0 = .ok (.aload_n 0, 1) := dk_42 (dk_at dksX1_canon_0 0 rfl rfl)
theorem dX1_canon_1 : decode cX1_canon 1 = .ok (.iload_n 1, 1) := dk_27 (dk_at dksX1_canon_0 1 rfl rfl)
theorem dX1_canon_2 : decode cX1_canon 2 = .ok (.ifCond .lt 13, 3) := dk_155 0 13 (dk_at dksX1_canon_0 2 rfl rfl)
theorem dX1_canon_5 : decode cX1_canon 5 = .ok (.iload_n 1, 1) := dk_27 (dk_at dksX1_canon_0 5 rfl rfl)
theorem dX1_canon_6 : decode cX1_canon 6 = .ok (.bipush 52, 2) := dk_16 52 (dk_at dksX1_canon_0 6 rfl rfl)
theorem dX1_canon_8 : decode cX1_canon 8 = .ok (.if_icmp .gt 7, 3) := dk_163 0 7 (dk_at dksX1_canon_0 8 rfl rfl)
theorem dX1_canon_11 : decode cX1_canon 11 = .ok (.iconst 1, 1) := dk_4 (dk_at dksX1_canon_0 11 rfl rfl)
theorem dX1_canon_12 : decode cX1_canon 12 = .ok (.goto 4, 3) := dk_167 0 4 (dk_at dksX1_canon_0 12 rfl rfl)
theorem dX1_canon_15 : decode cX1_canon 15 = .ok (.iconst 0, 1) := dk_3 (dk_at dksX1_canon_0 15 rfl rfl)
theorem dX1_canon_16 : decode cX1_canon 16 = .ok (.invokevirtual 146, 3) := dk_182 0 146 (dk_at dksX1_canon_0 16 rfl rfl)
theorem dX1_canon_19 : decode cX1_canon 19 = .ok (.aload_n 0, 1) := dk_42 (dk_at dksX1_canon_0 19 rfl rfl)
theorem dX1_canon_20 : decode cX1_canon 20 = .ok (.invokevirtual 244, 3) := dk_182 0 244 (dk_at dksX1_canon_0 20 rfl rfl)
theorem dX1_canon_23 : decode cX1_canon 23 = .ok (.astore_n 2, 1) := dk_77 (dk_at dksX1_canon_0 23 rfl rfl)
theorem dX1_canon_24 : decode cX1_canon 24 = .ok (.iconst 0, 1) := dk_3 (dk_at dksX1_canon_1 0 rfl rfl)
theorem dX1_canon_25 : decode cX1_canon 25 = .ok (.istore_n 3, 1) := dk_62 (dk_at dksX1_canon_1 1 rfl rfl)
theorem dX1_canon_26 : decode cX1_canon 26 = .ok (.iconst 0, 1) := dk_3 (dk_at dksX1_canon_1 2 rfl rfl)
theorem dX1_canon_27 : decode cX1_canon 27 = .ok (.istore 4, 2) := dk_54 4 (dk_at dksX1_canon_1 3 rfl rfl)
theorem dX1_canon_29 : decode cX1_canon 29 = .ok (.iload 4, 2) := dk_21 4 (dk_at dksX1_canon_1 5 rfl rfl)
theorem dX1_canon_31 : decode cX1_canon 31 = .ok (.aload_n 0, 1) := dk_42 (dk_at dksX1_canon_1 7 rfl rfl)
theorem dX1_canon_32 : decode cX1_canon 32 = .ok (.getfield 12, 3) := dk_180 0 12 (dk_at dksX1_canon_1 8 rfl rfl)
theorem dX1_canon_35 : decode cX1_canon 35 = .ok (.getfield 108, 3) := dk_180 0 108 (dk_at dksX1_canon_1 11 rfl rfl)
theorem dX1_canon_38 : decode cX1_canon 38 = .ok (.if_icmp .ge 54, 3) := dk_162 0 54 (dk_at dksX1_canon_1 14 rfl rfl)
theorem dX1_canon_41 : decode cX1_canon 41 = .ok (.iload_n 3, 1) := dk_29 (dk_at dksX1_canon_1 17 rfl rfl)
theorem dX1_canon_42 : decode cX1_canon 42 = .ok (.aload_n 2, 1) := dk_44 (dk_at dksX1_canon_1 18 rfl rfl)
theorem dX1_canon_43 : decode cX1_canon 43 = .ok (.invokevirtual 274, 3) := dk_182 1 18 (dk_at dksX1_canon_1 19 rfl rfl)
theorem dX1_canon_46 : decode cX1_canon 46 = .ok (.iload 4, 2) := dk_21 4 (dk_at dksX1_canon_1 22 rfl rfl)
theorem dX1_canon_48 : decode cX1_canon 48 = .ok (.ishr, 1) := dk_122 (dk_at dksX1_canon_2 0 rfl rfl)
theorem dX1_canon_49 : decode cX1_canon 49 = .ok (.iconst 1, 1) := dk_4 (dk_at dksX1_canon_2 1 rfl rfl)
theorem dX1_canon_50 : decode cX1_canon 50 = .ok (.iand, 1) := dk_126 (dk_at dksX1_canon_2 2 rfl rfl)
theorem dX1_canon_51 : decode cX1_canon 51 = .ok (.iconst 1, 1) := dk_4 (dk_at dksX1_canon_2 3 rfl rfl)
theorem dX1_canon_52 : decode cX1_canon 52 = .ok (.if_icmp .ne 31, 3) := dk_160 0 31 (dk_at dksX1_canon_2 4 rfl rfl)
theorem dX1_canon_55 : decode cX1_canon 55 = .ok (.aload_n 2, 1) := dk_44 (dk_at dksX1_canon_2 7 rfl rfl)
theorem dX1_canon_56 : decode cX1_canon 56 = .ok (.getfield 260, 3) := dk_180 1 4 (dk_at dksX1_canon_2 8 rfl rfl)
theorem dX1_canon_59 : decode cX1_canon 59 = .ok (.iload 4, 2) := dk_21 4 (dk_at dksX1_canon_2 11 rfl rfl)
theorem dX1_canon_61 : decode cX1_canon 61 = .ok (.iaload, 1) := dk_46 (dk_at dksX1_canon_2 13 rfl rfl)
theorem dX1_canon_62 : decode cX1_canon 62 = .ok (.iload_n 1, 1) := dk_27 (dk_at dksX1_canon_2 14 rfl rfl)
theorem dX1_canon_63 : decode cX1_canon 63 = .ok (.if_icmp .lt 20, 3) := dk_161 0 20 (dk_at dksX1_canon_2 15 rfl rfl)
theorem dX1_canon_66 : decode cX1_canon 66 = .ok (.aload_n 2, 1) := dk_44 (dk_at dksX1_canon_2 18 rfl rfl)
theorem dX1_canon_67 : decode cX1_canon 67 = .ok (.getfield 263, 3) := dk_180 1 7 (dk_at dksX1_canon_2 19 rfl rfl)
theorem dX1_canon_70 : decode cX1_canon 70 = .ok (.iload 4, 2) := dk_21 4 (dk_at dksX1_canon_2 22 rfl rfl)
theorem dX1_canon_72 : decode cX1_canon 72 = .ok (.iaload, 1) := dk_46 (dk_at dksX1_canon_3 0 rfl rfl)
theorem dX1_canon_73 : decode cX1_canon 73 = .ok (.ifCond .ne 10, 3) := dk_154 0 10 (dk_at dksX1_canon_3 1 rfl rfl)
theorem dX1_canon_76 : decode cX1_canon 76 = .ok (.iconst 1, 1) := dk_4 (dk_at dksX1_canon_3 4 rfl rfl)
theorem dX1_canon_77 : decode cX1_canon 77 = .ok (.iload 4, 2) := dk_21 4 (dk_at dksX1_canon_3 5 rfl rfl)
theorem dX1_canon_79 : decode cX1_canon 79 = .ok (.ishl, 1) := dk_120 (dk_at dksX1_canon_3 7 rfl rfl)
theorem dX1_canon_80 : decode cX1_canon 80 = .ok (.goto 4, 3) := dk_167 0 4 (dk_at dksX1_canon_3 8 rfl rfl)
theorem dX1_canon_83 : decode cX1_canon 83 = .ok (.iconst 0, 1) := dk_3 (dk_at dksX1_canon_3 11 rfl rfl)
theorem dX1_canon_84 : decode cX1_canon 84 = .ok (.ior, 1) := dk_128 (dk_at dksX1_canon_3 12 rfl rfl)
theorem dX1_canon_85 : decode cX1_canon 85 = .ok (.istore_n 3, 1) := dk_62 (dk_at dksX1_canon_3 13 rfl rfl)
theorem dX1_canon_86 : decode cX1_canon 86 = .ok (.iinc 4 1, 3) := dk_132 4 1 (dk_at dksX1_canon_3 14 rfl rfl)
theorem dX1_canon_89 : decode cX1_canon 89 = .ok (.goto (-60), 3) := dk_167 255 196 (dk_at dksX1_canon_3 17 rfl rfl)
theorem dX1_canon_92 : decode cX1_canon 92 = .ok (.iload_n 3, 1) := dk_29 (dk_at dksX1_canon_3 20 rfl rfl)
theorem dX1_canon_93 : decode cX1_canon 93 = .ok (.ireturn, 1) := dk_172 (dk_at dksX1_canon_3 21 rfl rfl)
abbrev cX1_judge : ByteArray := prog_1_method_83_code
def yX1_judge : MethodName := ⟨RX1, "judge", "(IIII)I"⟩
def dkwX1_judge_3 : List UInt8 := [180, 0, 19, 42, 180, 0, 23, 182, 1, 128, 172]
abbrev dktX1_judge_3 : List UInt8 := dkwX1_judge_3 ++ []
def dkwX1_judge_2 : List UInt8 := [182, 0, 146, 42, 27, 28, 29, 3, 21, 4, 4, 42, 180, 0, 33, 21, 4, 47, 182, 1, 124, 42]
abbrev dktX1_judge_2 : List UInt8 := dkwX1_judge_2 ++ dktX1_judge_3
def dkwX1_judge_1 : List UInt8 := [42, 29, 155, 0, 21, 29, 16, 52, 163, 0, 15, 21, 4, 184, 0, 214, 153, 0, 7, 4, 167, 0, 4, 3]
abbrev dktX1_judge_1 : List UInt8 := dkwX1_judge_1 ++ dktX1_judge_2
def dkwX1_judge_0 : List UInt8 := [42, 27, 42, 180, 0, 12, 180, 0, 108, 182, 0, 202, 42, 28, 42, 180, 0, 12, 180, 0, 108, 182, 0, 202]
abbrev dktX1_judge_0 : List UInt8 := dkwX1_judge_0 ++ dktX1_judge_1
theorem dksX1_judge_0 : cX1_judge.data.toList.drop 0 = dktX1_judge_0 := by decide +kernel
theorem dksX1_judge_1 : cX1_judge.data.toList.drop 24 = dktX1_judge_1 := dk_seg dksX1_judge_0 24 rfl rfl
theorem dksX1_judge_2 : cX1_judge.data.toList.drop 48 = dktX1_judge_2 := dk_seg dksX1_judge_1 24 rfl rfl
theorem dksX1_judge_3 : cX1_judge.data.toList.drop 70 = dktX1_judge_3 := dk_seg dksX1_judge_2 22 rfl rfl
theorem dX1_judge_0 : decode cX1_judge 0 = .ok (.aload_n 0, 1) := dk_42 (dk_at dksX1_judge_0 0 rfl rfl)
theorem dX1_judge_1 : decode cX1_judge 1 = .ok (.iload_n 1, 1) := dk_27 (dk_at dksX1_judge_0 1 rfl rfl)
theorem dX1_judge_2 : decode cX1_judge 2 = .ok (.aload_n 0, 1) := dk_42 (dk_at dksX1_judge_0 2 rfl rfl)
theorem dX1_judge_3 : decode cX1_judge 3 = .ok (.getfield 12, 3) := dk_180 0 12 (dk_at dksX1_judge_0 3 rfl rfl)
theorem dX1_judge_6 : decode cX1_judge 6 = .ok (.getfield 108, 3) := dk_180 0 108 (dk_at dksX1_judge_0 6 rfl rfl)
theorem dX1_judge_9 : decode cX1_judge 9 = .ok (.invokevirtual 202, 3) := dk_182 0 202 (dk_at dksX1_judge_0 9 rfl rfl)
theorem dX1_judge_12 : decode cX1_judge 12 = .ok (.aload_n 0, 1) := dk_42 (dk_at dksX1_judge_0 12 rfl rfl)
theorem dX1_judge_13 : decode cX1_judge 13 = .ok (.iload_n 2, 1) := dk_28 (dk_at dksX1_judge_0 13 rfl rfl)
theorem dX1_judge_14 : decode cX1_judge 14 = .ok (.aload_n 0, 1) := dk_42 (dk_at dksX1_judge_0 14 rfl rfl)
theorem dX1_judge_15 : decode cX1_judge 15 = .ok (.getfield 12, 3) := dk_180 0 12 (dk_at dksX1_judge_0 15 rfl rfl)
theorem dX1_judge_18 : decode cX1_judge 18 = .ok (.getfield 108, 3) := dk_180 0 108 (dk_at dksX1_judge_0 18 rfl rfl)
theorem dX1_judge_21 : decode cX1_judge 21 = .ok (.invokevirtual 202, 3) := dk_182 0 202 (dk_at dksX1_judge_0 21 rfl rfl)
theorem dX1_judge_24 : decode cX1_judge 24 = .ok (.aload_n 0, 1) := dk_42 (dk_at dksX1_judge_1 0 rfl rfl)
theorem dX1_judge_25 : decode cX1_judge 25 = .ok (.iload_n 3, 1) := dk_29 (dk_at dksX1_judge_1 1 rfl rfl)
theorem dX1_judge_26 : decode cX1_judge 26 = .ok (.ifCond .lt 21, 3) := dk_155 0 21 (dk_at dksX1_judge_1 2 rfl rfl)
theorem dX1_judge_29 : decode cX1_judge 29 = .ok (.iload_n 3, 1) := dk_29 (dk_at dksX1_judge_1 5 rfl rfl)
theorem dX1_judge_30 : decode cX1_judge 30 = .ok (.bipush 52, 2) := dk_16 52 (dk_at dksX1_judge_1 6 rfl rfl)
theorem dX1_judge_32 : decode cX1_judge 32 = .ok (.if_icmp .gt 15, 3) := dk_163 0 15 (dk_at dksX1_judge_1 8 rfl rfl)
theorem dX1_judge_35 : decode cX1_judge 35 = .ok (.iload 4, 2) := dk_21 4 (dk_at dksX1_judge_1 11 rfl rfl)
theorem dX1_judge_37 : decode cX1_judge 37 = .ok (.invokestatic 214, 3) := dk_184 0 214 (dk_at dksX1_judge_1 13 rfl rfl)
theorem dX1_judge_40 : decode cX1_judge 40 = .ok (.ifCond .eq 7, 3) := dk_153 0 7 (dk_at dksX1_judge_1 16 rfl rfl)
theorem dX1_judge_43 : decode cX1_judge 43 = .ok (.iconst 1, 1) := dk_4 (dk_at dksX1_judge_1 19 rfl rfl)
theorem dX1_judge_44 : decode cX1_judge 44 = .ok (.goto 4, 3) := dk_167 0 4 (dk_at dksX1_judge_1 20 rfl rfl)
theorem dX1_judge_47 : decode cX1_judge 47 = .ok (.iconst 0, 1) := dk_3 (dk_at dksX1_judge_1 23 rfl rfl)
theorem dX1_judge_48 : decode cX1_judge 48 = .ok (.invokevirtual 146, 3) := dk_182 0 146 (dk_at dksX1_judge_2 0 rfl rfl)
theorem dX1_judge_51 : decode cX1_judge 51 = .ok (.aload_n 0, 1) := dk_42 (dk_at dksX1_judge_2 3 rfl rfl)
theorem dX1_judge_52 : decode cX1_judge 52 = .ok (.iload_n 1, 1) := dk_27 (dk_at dksX1_judge_2 4 rfl rfl)
theorem dX1_judge_53 : decode cX1_judge 53 = .ok (.iload_n 2, 1) := dk_28 (dk_at dksX1_judge_2 5 rfl rfl)
theorem dX1_judge_54 : decode cX1_judge 54 = .ok (.iload_n 3, 1) := dk_29 (dk_at dksX1_judge_2 6 rfl rfl)
theorem dX1_judge_55 : decode cX1_judge 55 = .ok (.iconst 0, 1) := dk_3 (dk_at dksX1_judge_2 7 rfl rfl)
theorem dX1_judge_56 : decode cX1_judge 56 = .ok (.iload 4, 2) := dk_21 4 (dk_at dksX1_judge_2 8 rfl rfl)
theorem dX1_judge_58 : decode cX1_judge 58 = .ok (.iconst 1, 1) := dk_4 (dk_at dksX1_judge_2 10 rfl rfl)
theorem dX1_judge_59 : decode cX1_judge 59 = .ok (.aload_n 0, 1) := dk_42 (dk_at dksX1_judge_2 11 rfl rfl)
theorem dX1_judge_60 : decode cX1_judge 60 = .ok (.getfield 33, 3) := dk_180 0 33 (dk_at dksX1_judge_2 12 rfl rfl)
theorem dX1_judge_63 : decode cX1_judge 63 = .ok (.iload 4, 2) := dk_21 4 (dk_at dksX1_judge_2 15 rfl rfl)
theorem dX1_judge_65 : decode cX1_judge 65 = .ok (.laload, 1) := dk_47 (dk_at dksX1_judge_2 17 rfl rfl)
theorem dX1_judge_66 : decode cX1_judge 66 = .ok (.invokevirtual 380, 3) := dk_182 1 124 (dk_at dksX1_judge_2 18 rfl rfl)
theorem dX1_judge_69 : decode cX1_judge 69 = .ok (.aload_n 0, 1) := dk_42 (dk_at dksX1_judge_2 21 rfl rfl)
theorem dX1_judge_70 : decode cX1_judge 70 = .ok (.getfield 19, 3) := dk_180 0 19 (dk_at dksX1_judge_3 0 rfl rfl)
theorem dX1_judge_73 : decode cX1_judge 73 = .ok (.aload_n 0, 1) := dk_42 (dk_at dksX1_judge_3 3 rfl rfl)
theorem dX1_judge_74 : decode cX1_judge 74 = .ok (.getfield 23, 3) := dk_180 0 23 (dk_at dksX1_judge_3 4 rfl rfl)
theorem dX1_judge_77 : decode cX1_judge 77 = .ok (.invokevirtual 384, 3) := dk_182 1 128 (dk_at dksX1_judge_3 7 rfl rfl)
theorem dX1_judge_80 : decode cX1_judge 80 = .ok (.ireturn, 1) := dk_172 (dk_at dksX1_judge_3 10 rfl rfl)
theorem q125 : (Jvm.Cond.initialized "LotBeliefs") ∈ lw_all := lw_g (lw_at lw_m1 1 rfl) rfl
theorem q169 : (Jvm.Cond.instantiable "LotBeliefs" (30 : Nat)) ∈ lw_all := lw_g (lw_at lw_m1 45 rfl) rfl
theorem q171 : (Jvm.Cond.instanceMethod ({ cls := "LotBeliefs", name := "<init>", desc := "()V" } : Jvm.MethodName)) ∈ lw_all := lw_g (lw_at lw_m1 47 rfl) rfl
theorem q172 : (Jvm.Cond.code ({ cls := "LotBeliefs", name := "<init>", desc := "()V" } : Jvm.MethodName) prog_1_method_1_code (1 : Nat) (Option.none : Option Jvm.ClassFile.FieldType)) ∈ lw_all := lw_g (lw_at lw_m1 48 rfl) rfl
theorem q173 : (Jvm.Cond.methodLink "LotBeliefs" (3 : Nat) ({ cls := "java/lang/Object", name := "<init>", desc := "()V" } : Jvm.MethodName)) ∈ lw_all := lw_g (lw_at lw_m1 49 rfl) rfl
theorem q176 : (Jvm.Cond.classLink "LotBeliefs" (9 : Nat) "LotBeliefs$Jar") ∈ lw_all := lw_g (lw_at lw_m1 52 rfl) rfl
theorem q178 : (Jvm.Cond.methodLinkNest "LotBeliefs" (11 : Nat) ({ cls := "LotBeliefs$Jar", name := "<init>", desc := "()V" } : Jvm.MethodName) "LotBeliefs") ∈ lw_tbl := lw_at lw_m1 54 rfl
theorem q528 : (Jvm.Cond.fieldLinkNest "LotBeliefs" (196 : Nat) "LotBeliefs$Jar" "seeings" "Ljava/util/ArrayList;" "LotBeliefs") ∈ lw_tbl := lw_at lw_m2 164 rfl
theorem q531 : (Jvm.Cond.fieldLinkNest "LotBeliefs" (114 : Nat) "LotBeliefs$Jar" "models" "[J" "LotBeliefs") ∈ lw_tbl := lw_at lw_m2 167 rfl
theorem q535 : (Jvm.Cond.fieldLinkNest "LotBeliefs" (193 : Nat) "LotBeliefs$Jar" "atoms" "I" "LotBeliefs") ∈ lw_tbl := lw_at lw_m2 171 rfl
theorem q536 : (Jvm.Cond.fieldLinkNest "LotBeliefs" (108 : Nat) "LotBeliefs$Jar" "slips" "I" "LotBeliefs") ∈ lw_tbl := lw_at lw_m2 172 rfl
theorem q539 : (Jvm.Cond.fieldLinkNest "LotBeliefs" (199 : Nat) "LotBeliefs$Jar" "salts" "I" "LotBeliefs") ∈ lw_tbl := lw_at lw_m2 175 rfl
theorem q540 : (Jvm.Cond.fieldLinkNest "LotBeliefs" (127 : Nat) "LotBeliefs$Jar" "world" "I" "LotBeliefs") ∈ lw_tbl := lw_at lw_m2 176 rfl
theorem q542 : (Jvm.Cond.fieldLinkNest "LotBeliefs" (123 : Nat) "LotBeliefs$Jar" "law" "I" "LotBeliefs") ∈ lw_tbl := lw_at lw_m2 178 rfl
theorem q563 : (Jvm.Cond.classLink "LotBeliefs" (16 : Nat) "LotBeliefs$Tongue") ∈ lw_all := lw_g (lw_at lw_m2 199 rfl) rfl
theorem q565 : (Jvm.Cond.methodLinkNest "LotBeliefs" (18 : Nat) ({ cls := "LotBeliefs$Tongue", name := "<init>", desc := "()V" } : Jvm.MethodName) "LotBeliefs") ∈ lw_tbl := lw_at lw_m2 201 rfl
theorem q573 : (Jvm.Cond.fieldLinkNest "LotBeliefs" (183 : Nat) "LotBeliefs$Tongue" "grounds" "Ljava/util/ArrayList;" "LotBeliefs") ∈ lw_tbl := lw_at lw_m2 209 rfl
theorem q582 : (Jvm.Cond.constantLong "LotBeliefs" (27 : Nat) (-1 : Int64)) ∈ lw_all := lw_g (lw_at lw_m2 218 rfl) rfl
theorem q583 : (Jvm.Cond.classLink "LotBeliefs" (37 : Nat) "LotBeliefs$State") ∈ lw_all := lw_g (lw_at lw_m2 219 rfl) rfl
theorem q585 : (Jvm.Cond.methodLinkNest "LotBeliefs" (39 : Nat) ({ cls := "LotBeliefs$State", name := "<init>", desc := "()V" } : Jvm.MethodName) "LotBeliefs") ∈ lw_tbl := lw_at lw_m2 221 rfl
theorem q590 : (Jvm.Cond.fieldLinkNest "LotBeliefs" (120 : Nat) "LotBeliefs$State" "order" "[I" "LotBeliefs") ∈ lw_tbl := lw_at lw_m2 226 rfl
theorem q592 : (Jvm.Cond.fieldLinkNest "LotBeliefs" (126 : Nat) "LotBeliefs$State" "law" "I" "LotBeliefs") ∈ lw_tbl := lw_at lw_m2 228 rfl
theorem q594 : (Jvm.Cond.fieldLinkNest "LotBeliefs" (117 : Nat) "LotBeliefs$State" "world" "I" "LotBeliefs") ∈ lw_tbl := lw_at lw_m2 230 rfl
theorem q603 : (Jvm.Cond.classLink "LotBeliefs" (59 : Nat) "LotBeliefs$School") ∈ lw_all := lw_g (lw_at lw_m2 239 rfl) rfl
theorem q605 : (Jvm.Cond.methodLinkNest "LotBeliefs" (61 : Nat) ({ cls := "LotBeliefs$School", name := "<init>", desc := "(LLotBeliefs;)V" } : Jvm.MethodName) "LotBeliefs") ∈ lw_tbl := lw_at lw_m3 1 rfl
theorem q611 : (Jvm.Cond.fieldLinkNest "LotBeliefs" (251 : Nat) "LotBeliefs$School" "drawn" "[I" "LotBeliefs") ∈ lw_tbl := lw_at lw_m3 7 rfl
theorem q613 : (Jvm.Cond.fieldLinkNest "LotBeliefs" (254 : Nat) "LotBeliefs$School" "fell" "[I" "LotBeliefs") ∈ lw_tbl := lw_at lw_m3 9 rfl
theorem q615 : (Jvm.Cond.fieldLinkNest "LotBeliefs" (257 : Nat) "LotBeliefs$School" "by" "[I" "LotBeliefs") ∈ lw_tbl := lw_at lw_m3 11 rfl
theorem q617 : (Jvm.Cond.fieldLinkNest "LotBeliefs" (260 : Nat) "LotBeliefs$School" "weeks" "[I" "LotBeliefs") ∈ lw_tbl := lw_at lw_m3 13 rfl
theorem q619 : (Jvm.Cond.fieldLinkNest "LotBeliefs" (263 : Nat) "LotBeliefs$School" "hurts" "[I" "LotBeliefs") ∈ lw_tbl := lw_at lw_m3 15 rfl
theorem q621 : (Jvm.Cond.fieldLinkNest "LotBeliefs" (248 : Nat) "LotBeliefs$School" "heldIn" "[I" "LotBeliefs") ∈ lw_tbl := lw_at lw_m3 17 rfl
theorem q624 : (Jvm.Cond.fieldLinkNest "LotBeliefs" (277 : Nat) "LotBeliefs$School" "falls" "I" "LotBeliefs") ∈ lw_tbl := lw_at lw_m3 20 rfl
theorem q626 : (Jvm.Cond.fieldLinkNest "LotBeliefs" (280 : Nat) "LotBeliefs$School" "kills" "I" "LotBeliefs") ∈ lw_tbl := lw_at lw_m3 22 rfl
theorem q657 : (Jvm.Cond.methodLink "LotBeliefs" (99 : Nat) ({ cls := "LotBeliefs", name := "begins", desc := "()V" } : Jvm.MethodName)) ∈ lw_all := lw_g (lw_at lw_m3 53 rfl) rfl
theorem q658 : (Jvm.Cond.privateMethod ({ cls := "LotBeliefs", name := "begins", desc := "()V" } : Jvm.MethodName)) ∈ lw_tbl := lw_at lw_m3 54 rfl
theorem q659 : (Jvm.Cond.instanceMethod ({ cls := "LotBeliefs", name := "begins", desc := "()V" } : Jvm.MethodName)) ∈ lw_all := lw_g (lw_at lw_m3 55 rfl) rfl
theorem q660 : (Jvm.Cond.code ({ cls := "LotBeliefs", name := "begins", desc := "()V" } : Jvm.MethodName) prog_1_method_9_code (2 : Nat) (Option.none : Option Jvm.ClassFile.FieldType)) ∈ lw_all := lw_g (lw_at lw_m3 56 rfl) rfl
theorem q661 : (Jvm.Cond.methodLink "LotBeliefs" (128 : Nat) ({ cls := "LotBeliefs$Jar", name := "left", desc := "(I)J" } : Jvm.MethodName)) ∈ lw_all := lw_g (lw_at lw_m3 57 rfl) rfl
theorem q693 : (Jvm.Cond.methodLink "LotBeliefs" (132 : Nat) ({ cls := "LotBeliefs$Jar", name := "all", desc := "()J" } : Jvm.MethodName)) ∈ lw_all := lw_g (lw_at lw_m3 89 rfl) rfl
theorem q694 : (Jvm.Cond.fieldLink "LotBeliefs" (12 : Nat) "LotBeliefs" "jar" "LLotBeliefs$Jar;") ∈ lw_all := lw_g (lw_at lw_m3 90 rfl) rfl
theorem q696 : (Jvm.Cond.fieldLink "LotBeliefs" (19 : Nat) "LotBeliefs" "tongue" "LLotBeliefs$Tongue;") ∈ lw_all := lw_g (lw_at lw_m3 92 rfl) rfl
theorem q698 : (Jvm.Cond.fieldLink "LotBeliefs" (23 : Nat) "LotBeliefs" "facts" "[I") ∈ lw_all := lw_g (lw_at lw_m3 94 rfl) rfl
theorem q700 : (Jvm.Cond.fieldLink "LotBeliefs" (29 : Nat) "LotBeliefs" "question" "J") ∈ lw_all := lw_g (lw_at lw_m3 96 rfl) rfl
theorem q701 : (Jvm.Cond.fieldLink "LotBeliefs" (33 : Nat) "LotBeliefs" "lefts" "[J") ∈ lw_all := lw_g (lw_at lw_m3 97 rfl) rfl
theorem q703 : (Jvm.Cond.fieldLink "LotBeliefs" (40 : Nat) "LotBeliefs" "s" "LLotBeliefs$State;") ∈ lw_all := lw_g (lw_at lw_m3 99 rfl) rfl
theorem q704 : (Jvm.Cond.fieldLink "LotBeliefs" (139 : Nat) "LotBeliefs" "taped" "I") ∈ lw_all := lw_g (lw_at lw_m3 100 rfl) rfl
theorem q705 : (Jvm.Cond.fieldLink "LotBeliefs" (44 : Nat) "LotBeliefs" "faultAt" "I") ∈ lw_all := lw_g (lw_at lw_m3 101 rfl) rfl
theorem q706 : (Jvm.Cond.fieldLink "LotBeliefs" (136 : Nat) "LotBeliefs" "imageMany" "I") ∈ lw_all := lw_g (lw_at lw_m3 102 rfl) rfl
theorem q707 : (Jvm.Cond.fieldLink "LotBeliefs" (48 : Nat) "LotBeliefs" "tape" "[B") ∈ lw_all := lw_g (lw_at lw_m3 103 rfl) rfl
theorem q708 : (Jvm.Cond.fieldLink "LotBeliefs" (52 : Nat) "LotBeliefs" "images" "[LLotBeliefs$State;") ∈ lw_all := lw_g (lw_at lw_m3 104 rfl) rfl
theorem q709 : (Jvm.Cond.fieldLink "LotBeliefs" (56 : Nat) "LotBeliefs" "refused" "[I") ∈ lw_all := lw_g (lw_at lw_m3 105 rfl) rfl
theorem q710 : (Jvm.Cond.fieldLink "LotBeliefs" (64 : Nat) "LotBeliefs" "school" "LLotBeliefs$School;") ∈ lw_all := lw_g (lw_at lw_m3 106 rfl) rfl
theorem q711 : (Jvm.Cond.fieldLink "LotBeliefs" (68 : Nat) "LotBeliefs" "second" "LLotBeliefs$School;") ∈ lw_all := lw_g (lw_at lw_m3 107 rfl) rfl
theorem q712 : (Jvm.Cond.fieldLink "LotBeliefs" (71 : Nat) "LotBeliefs" "digits" "[I") ∈ lw_all := lw_g (lw_at lw_m3 108 rfl) rfl
theorem q713 : (Jvm.Cond.fieldLink "LotBeliefs" (74 : Nat) "LotBeliefs" "tried" "[I") ∈ lw_all := lw_g (lw_at lw_m3 109 rfl) rfl
theorem q714 : (Jvm.Cond.fieldLink "LotBeliefs" (77 : Nat) "LotBeliefs" "ended" "[Z") ∈ lw_all := lw_g (lw_at lw_m3 110 rfl) rfl
theorem q715 : (Jvm.Cond.fieldLink "LotBeliefs" (81 : Nat) "LotBeliefs" "heldBy" "[I") ∈ lw_all := lw_g (lw_at lw_m3 111 rfl) rfl
theorem q716 : (Jvm.Cond.fieldLink "LotBeliefs" (84 : Nat) "LotBeliefs" "best" "[I") ∈ lw_all := lw_g (lw_at lw_m3 112 rfl) rfl
theorem q717 : (Jvm.Cond.fieldLink "LotBeliefs" (294 : Nat) "LotBeliefs" "unlike" "I") ∈ lw_all := lw_g (lw_at lw_m3 113 rfl) rfl
theorem q718 : (Jvm.Cond.fieldLink "LotBeliefs" (297 : Nat) "LotBeliefs" "always" "I") ∈ lw_all := lw_g (lw_at lw_m3 114 rfl) rfl
theorem q719 : (Jvm.Cond.fieldLink "LotBeliefs" (300 : Nat) "LotBeliefs" "ever" "I") ∈ lw_all := lw_g (lw_at lw_m3 115 rfl) rfl
theorem q720 : (Jvm.Cond.fieldLink "LotBeliefs" (303 : Nat) "LotBeliefs" "mostTrue" "I") ∈ lw_all := lw_g (lw_at lw_m3 116 rfl) rfl
theorem q721 : (Jvm.Cond.fieldLink "LotBeliefs" (306 : Nat) "LotBeliefs" "allTrue" "I") ∈ lw_all := lw_g (lw_at lw_m3 117 rfl) rfl
theorem q722 : (Jvm.Cond.fieldLink "LotBeliefs" (87 : Nat) "LotBeliefs" "worlds" "[J") ∈ lw_all := lw_g (lw_at lw_m3 118 rfl) rfl
theorem q723 : (Jvm.Cond.fieldLink "LotBeliefs" (90 : Nat) "LotBeliefs" "ofFirst" "[J") ∈ lw_all := lw_g (lw_at lw_m3 119 rfl) rfl
theorem q724 : (Jvm.Cond.fieldLink "LotBeliefs" (93 : Nat) "LotBeliefs" "ofSecond" "[J") ∈ lw_all := lw_g (lw_at lw_m3 120 rfl) rfl
theorem q725 : (Jvm.Cond.fieldLink "LotBeliefs" (360 : Nat) "LotBeliefs" "mostHurt" "I") ∈ lw_all := lw_g (lw_at lw_m3 121 rfl) rfl
theorem q726 : (Jvm.Cond.fieldLink "LotBeliefs" (363 : Nat) "LotBeliefs" "hurtOrder" "J") ∈ lw_all := lw_g (lw_at lw_m3 122 rfl) rfl
theorem q727 : (Jvm.Cond.fieldLink "LotBeliefs" (96 : Nat) "LotBeliefs" "length" "[I") ∈ lw_all := lw_g (lw_at lw_m3 123 rfl) rfl
theorem q728 : (Jvm.Cond.lays "LotBeliefs" "LotBeliefs" "jar" "LLotBeliefs$Jar;") ∈ lw_all := lw_g (lw_at lw_m3 124 rfl) rfl
theorem q729 : (Jvm.Cond.soleField "LotBeliefs" "jar") ∈ lw_all := lw_g (lw_at lw_m3 125 rfl) rfl
theorem q730 : (Jvm.Cond.lays "LotBeliefs" "LotBeliefs" "tongue" "LLotBeliefs$Tongue;") ∈ lw_all := lw_g (lw_at lw_m3 126 rfl) rfl
theorem q731 : (Jvm.Cond.soleField "LotBeliefs" "tongue") ∈ lw_all := lw_g (lw_at lw_m3 127 rfl) rfl
theorem q732 : (Jvm.Cond.laysFinal "LotBeliefs" "LotBeliefs" "facts" "[I") ∈ lw_all := lw_g (lw_at lw_m3 128 rfl) rfl
theorem q733 : (Jvm.Cond.soleField "LotBeliefs" "facts") ∈ lw_all := lw_g (lw_at lw_m3 129 rfl) rfl
theorem q734 : (Jvm.Cond.lays "LotBeliefs" "LotBeliefs" "question" "J") ∈ lw_all := lw_g (lw_at lw_m3 130 rfl) rfl
theorem q735 : (Jvm.Cond.soleField "LotBeliefs" "question") ∈ lw_all := lw_g (lw_at lw_m3 131 rfl) rfl
theorem q736 : (Jvm.Cond.laysFinal "LotBeliefs" "LotBeliefs" "lefts" "[J") ∈ lw_all := lw_g (lw_at lw_m3 132 rfl) rfl
theorem q737 : (Jvm.Cond.soleField "LotBeliefs" "lefts") ∈ lw_all := lw_g (lw_at lw_m3 133 rfl) rfl
theorem q738 : (Jvm.Cond.laysFinal "LotBeliefs" "LotBeliefs" "s" "LLotBeliefs$State;") ∈ lw_all := lw_g (lw_at lw_m3 134 rfl) rfl
theorem q739 : (Jvm.Cond.soleField "LotBeliefs" "s") ∈ lw_all := lw_g (lw_at lw_m3 135 rfl) rfl
theorem q740 : (Jvm.Cond.lays "LotBeliefs" "LotBeliefs" "taped" "I") ∈ lw_all := lw_g (lw_at lw_m3 136 rfl) rfl
theorem q741 : (Jvm.Cond.soleField "LotBeliefs" "taped") ∈ lw_all := lw_g (lw_at lw_m3 137 rfl) rfl
theorem q742 : (Jvm.Cond.lays "LotBeliefs" "LotBeliefs" "faultAt" "I") ∈ lw_all := lw_g (lw_at lw_m3 138 rfl) rfl
theorem q743 : (Jvm.Cond.soleField "LotBeliefs" "faultAt") ∈ lw_all := lw_g (lw_at lw_m3 139 rfl) rfl
theorem q744 : (Jvm.Cond.lays "LotBeliefs" "LotBeliefs" "imageMany" "I") ∈ lw_all := lw_g (lw_at lw_m3 140 rfl) rfl
theorem q745 : (Jvm.Cond.soleField "LotBeliefs" "imageMany") ∈ lw_all := lw_g (lw_at lw_m3 141 rfl) rfl
theorem q746 : (Jvm.Cond.laysFinal "LotBeliefs" "LotBeliefs" "tape" "[B") ∈ lw_all := lw_g (lw_at lw_m3 142 rfl) rfl
theorem q747 : (Jvm.Cond.soleField "LotBeliefs" "tape") ∈ lw_all := lw_g (lw_at lw_m3 143 rfl) rfl
theorem q748 : (Jvm.Cond.laysFinal "LotBeliefs" "LotBeliefs" "images" "[LLotBeliefs$State;") ∈ lw_all := lw_g (lw_at lw_m3 144 rfl) rfl
theorem q749 : (Jvm.Cond.soleField "LotBeliefs" "images") ∈ lw_all := lw_g (lw_at lw_m3 145 rfl) rfl
theorem q750 : (Jvm.Cond.laysFinal "LotBeliefs" "LotBeliefs" "refused" "[I") ∈ lw_all := lw_g (lw_at lw_m3 146 rfl) rfl
theorem q751 : (Jvm.Cond.soleField "LotBeliefs" "refused") ∈ lw_all := lw_g (lw_at lw_m3 147 rfl) rfl
theorem q752 : (Jvm.Cond.laysFinal "LotBeliefs" "LotBeliefs" "school" "LLotBeliefs$School;") ∈ lw_all := lw_g (lw_at lw_m3 148 rfl) rfl
theorem q753 : (Jvm.Cond.soleField "LotBeliefs" "school") ∈ lw_all := lw_g (lw_at lw_m3 149 rfl) rfl
theorem q754 : (Jvm.Cond.laysFinal "LotBeliefs" "LotBeliefs" "second" "LLotBeliefs$School;") ∈ lw_all := lw_g (lw_at lw_m3 150 rfl) rfl
theorem q755 : (Jvm.Cond.soleField "LotBeliefs" "second") ∈ lw_all := lw_g (lw_at lw_m3 151 rfl) rfl
theorem q756 : (Jvm.Cond.laysFinal "LotBeliefs" "LotBeliefs" "digits" "[I") ∈ lw_all := lw_g (lw_at lw_m3 152 rfl) rfl
theorem q757 : (Jvm.Cond.soleField "LotBeliefs" "digits") ∈ lw_all := lw_g (lw_at lw_m3 153 rfl) rfl
theorem q758 : (Jvm.Cond.laysFinal "LotBeliefs" "LotBeliefs" "tried" "[I") ∈ lw_all := lw_g (lw_at lw_m3 154 rfl) rfl
theorem q759 : (Jvm.Cond.soleField "LotBeliefs" "tried") ∈ lw_all := lw_g (lw_at lw_m3 155 rfl) rfl
theorem q760 : (Jvm.Cond.laysFinal "LotBeliefs" "LotBeliefs" "ended" "[Z") ∈ lw_all := lw_g (lw_at lw_m3 156 rfl) rfl
theorem q761 : (Jvm.Cond.soleField "LotBeliefs" "ended") ∈ lw_all := lw_g (lw_at lw_m3 157 rfl) rfl
theorem q762 : (Jvm.Cond.laysFinal "LotBeliefs" "LotBeliefs" "heldBy" "[I") ∈ lw_all := lw_g (lw_at lw_m3 158 rfl) rfl
theorem q763 : (Jvm.Cond.soleField "LotBeliefs" "heldBy") ∈ lw_all := lw_g (lw_at lw_m3 159 rfl) rfl
theorem q764 : (Jvm.Cond.laysFinal "LotBeliefs" "LotBeliefs" "best" "[I") ∈ lw_all := lw_g (lw_at lw_m3 160 rfl) rfl
theorem q765 : (Jvm.Cond.soleField "LotBeliefs" "best") ∈ lw_all := lw_g (lw_at lw_m3 161 rfl) rfl
theorem q766 : (Jvm.Cond.lays "LotBeliefs" "LotBeliefs" "unlike" "I") ∈ lw_all := lw_g (lw_at lw_m3 162 rfl) rfl
theorem q767 : (Jvm.Cond.soleField "LotBeliefs" "unlike") ∈ lw_all := lw_g (lw_at lw_m3 163 rfl) rfl
theorem q768 : (Jvm.Cond.lays "LotBeliefs" "LotBeliefs" "always" "I") ∈ lw_all := lw_g (lw_at lw_m3 164 rfl) rfl
theorem q769 : (Jvm.Cond.soleField "LotBeliefs" "always") ∈ lw_all := lw_g (lw_at lw_m3 165 rfl) rfl
theorem q770 : (Jvm.Cond.lays "LotBeliefs" "LotBeliefs" "ever" "I") ∈ lw_all := lw_g (lw_at lw_m3 166 rfl) rfl
theorem q771 : (Jvm.Cond.soleField "LotBeliefs" "ever") ∈ lw_all := lw_g (lw_at lw_m3 167 rfl) rfl
theorem q772 : (Jvm.Cond.lays "LotBeliefs" "LotBeliefs" "mostTrue" "I") ∈ lw_all := lw_g (lw_at lw_m3 168 rfl) rfl
theorem q773 : (Jvm.Cond.soleField "LotBeliefs" "mostTrue") ∈ lw_all := lw_g (lw_at lw_m3 169 rfl) rfl
theorem q774 : (Jvm.Cond.lays "LotBeliefs" "LotBeliefs" "allTrue" "I") ∈ lw_all := lw_g (lw_at lw_m3 170 rfl) rfl
theorem q775 : (Jvm.Cond.soleField "LotBeliefs" "allTrue") ∈ lw_all := lw_g (lw_at lw_m3 171 rfl) rfl
theorem q776 : (Jvm.Cond.laysFinal "LotBeliefs" "LotBeliefs" "worlds" "[J") ∈ lw_all := lw_g (lw_at lw_m3 172 rfl) rfl
theorem q777 : (Jvm.Cond.soleField "LotBeliefs" "worlds") ∈ lw_all := lw_g (lw_at lw_m3 173 rfl) rfl
theorem q778 : (Jvm.Cond.laysFinal "LotBeliefs" "LotBeliefs" "ofFirst" "[J") ∈ lw_all := lw_g (lw_at lw_m3 174 rfl) rfl
theorem q779 : (Jvm.Cond.soleField "LotBeliefs" "ofFirst") ∈ lw_all := lw_g (lw_at lw_m3 175 rfl) rfl
theorem q780 : (Jvm.Cond.laysFinal "LotBeliefs" "LotBeliefs" "ofSecond" "[J") ∈ lw_all := lw_g (lw_at lw_m3 176 rfl) rfl
theorem q781 : (Jvm.Cond.soleField "LotBeliefs" "ofSecond") ∈ lw_all := lw_g (lw_at lw_m3 177 rfl) rfl
theorem q782 : (Jvm.Cond.lays "LotBeliefs" "LotBeliefs" "mostHurt" "I") ∈ lw_all := lw_g (lw_at lw_m3 178 rfl) rfl
theorem q783 : (Jvm.Cond.soleField "LotBeliefs" "mostHurt") ∈ lw_all := lw_g (lw_at lw_m3 179 rfl) rfl
theorem q784 : (Jvm.Cond.lays "LotBeliefs" "LotBeliefs" "hurtOrder" "J") ∈ lw_all := lw_g (lw_at lw_m3 180 rfl) rfl
theorem q785 : (Jvm.Cond.soleField "LotBeliefs" "hurtOrder") ∈ lw_all := lw_g (lw_at lw_m3 181 rfl) rfl
theorem q786 : (Jvm.Cond.laysFinal "LotBeliefs" "LotBeliefs" "length" "[I") ∈ lw_all := lw_g (lw_at lw_m3 182 rfl) rfl
theorem q787 : (Jvm.Cond.soleField "LotBeliefs" "length") ∈ lw_all := lw_g (lw_at lw_m3 183 rfl) rfl
theorem q788 : (Jvm.Cond.superclass "LotBeliefs" "java/lang/Object") ∈ lw_all := lw_g (lw_at lw_m3 184 rfl) rfl
theorem q791 : (Jvm.Cond.instanceMethod ({ cls := "LotBeliefs", name := "feed", desc := "(IIIII)I" } : Jvm.MethodName)) ∈ lw_all := lw_g (lw_at lw_m3 187 rfl) rfl
theorem q792 : (Jvm.Cond.selects "LotBeliefs" ({ cls := "LotBeliefs", name := "feed", desc := "(IIIII)I" } : Jvm.MethodName) ({ cls := "LotBeliefs", name := "feed", desc := "(IIIII)I" } : Jvm.MethodName)) ∈ lw_all := lw_g (lw_at lw_m3 188 rfl) rfl
theorem q793 : (Jvm.Cond.code ({ cls := "LotBeliefs", name := "feed", desc := "(IIIII)I" } : Jvm.MethodName) prog_1_method_10_code (6 : Nat) (Option.some Jvm.ClassFile.FieldType.int)) ∈ lw_all := lw_g (lw_at lw_m3 189 rfl) rfl
theorem q794 : (Jvm.Cond.methodLink "LotBeliefs" (142 : Nat) ({ cls := "LotBeliefs", name := "put", desc := "(I)V" } : Jvm.MethodName)) ∈ lw_all := lw_g (lw_at lw_m3 190 rfl) rfl
theorem q795 : (Jvm.Cond.privateMethod ({ cls := "LotBeliefs", name := "put", desc := "(I)V" } : Jvm.MethodName)) ∈ lw_tbl := lw_at lw_m3 191 rfl
theorem q796 : (Jvm.Cond.instanceMethod ({ cls := "LotBeliefs", name := "put", desc := "(I)V" } : Jvm.MethodName)) ∈ lw_all := lw_g (lw_at lw_m3 192 rfl) rfl
theorem q797 : (Jvm.Cond.code ({ cls := "LotBeliefs", name := "put", desc := "(I)V" } : Jvm.MethodName) prog_1_method_11_code (3 : Nat) (Option.none : Option Jvm.ClassFile.FieldType)) ∈ lw_all := lw_g (lw_at lw_m3 193 rfl) rfl
theorem q799 : (Jvm.Cond.instanceMethod ({ cls := "LotBeliefs", name := "fault", desc := "()I" } : Jvm.MethodName)) ∈ lw_all := lw_g (lw_at lw_m3 195 rfl) rfl
theorem q800 : (Jvm.Cond.selects "LotBeliefs" ({ cls := "LotBeliefs", name := "fault", desc := "()I" } : Jvm.MethodName) ({ cls := "LotBeliefs", name := "fault", desc := "()I" } : Jvm.MethodName)) ∈ lw_all := lw_g (lw_at lw_m3 196 rfl) rfl
theorem q801 : (Jvm.Cond.code ({ cls := "LotBeliefs", name := "fault", desc := "()I" } : Jvm.MethodName) prog_1_method_16_code (1 : Nat) (Option.some Jvm.ClassFile.FieldType.int)) ∈ lw_all := lw_g (lw_at lw_m3 197 rfl) rfl
theorem q803 : (Jvm.Cond.instanceMethod ({ cls := "LotBeliefs", name := "truths", desc := "()I" } : Jvm.MethodName)) ∈ lw_all := lw_g (lw_at lw_m3 199 rfl) rfl
theorem q804 : (Jvm.Cond.selects "LotBeliefs" ({ cls := "LotBeliefs", name := "truths", desc := "()I" } : Jvm.MethodName) ({ cls := "LotBeliefs", name := "truths", desc := "()I" } : Jvm.MethodName)) ∈ lw_all := lw_g (lw_at lw_m3 200 rfl) rfl
theorem q805 : (Jvm.Cond.code ({ cls := "LotBeliefs", name := "truths", desc := "()I" } : Jvm.MethodName) prog_1_method_23_code (3 : Nat) (Option.some Jvm.ClassFile.FieldType.int)) ∈ lw_all := lw_g (lw_at lw_m3 201 rfl) rfl
theorem q806 : (Jvm.Cond.methodLink "LotBeliefs" (218 : Nat) ({ cls := "LotBeliefs", name := "isTrue", desc := "(I)Z" } : Jvm.MethodName)) ∈ lw_all := lw_g (lw_at lw_m3 202 rfl) rfl
theorem q807 : (Jvm.Cond.privateMethod ({ cls := "LotBeliefs", name := "isTrue", desc := "(I)Z" } : Jvm.MethodName)) ∈ lw_tbl := lw_at lw_m3 203 rfl
theorem q808 : (Jvm.Cond.instanceMethod ({ cls := "LotBeliefs", name := "isTrue", desc := "(I)Z" } : Jvm.MethodName)) ∈ lw_all := lw_g (lw_at lw_m3 204 rfl) rfl
theorem q809 : (Jvm.Cond.code ({ cls := "LotBeliefs", name := "isTrue", desc := "(I)Z" } : Jvm.MethodName) prog_1_method_8_code (2 : Nat) (Option.some Jvm.ClassFile.FieldType.boolean)) ∈ lw_all := lw_g (lw_at lw_m3 205 rfl) rfl
theorem q811 : (Jvm.Cond.instanceMethod ({ cls := "LotBeliefs", name := "dull", desc := "()I" } : Jvm.MethodName)) ∈ lw_all := lw_g (lw_at lw_m3 207 rfl) rfl
theorem q812 : (Jvm.Cond.selects "LotBeliefs" ({ cls := "LotBeliefs", name := "dull", desc := "()I" } : Jvm.MethodName) ({ cls := "LotBeliefs", name := "dull", desc := "()I" } : Jvm.MethodName)) ∈ lw_all := lw_g (lw_at lw_m3 208 rfl) rfl
theorem q813 : (Jvm.Cond.code ({ cls := "LotBeliefs", name := "dull", desc := "()I" } : Jvm.MethodName) prog_1_method_24_code (3 : Nat) (Option.some Jvm.ClassFile.FieldType.int)) ∈ lw_all := lw_g (lw_at lw_m3 209 rfl) rfl
theorem q815 : (Jvm.Cond.instanceMethod ({ cls := "LotBeliefs", name := "order", desc := "(J)I" } : Jvm.MethodName)) ∈ lw_all := lw_g (lw_at lw_m3 211 rfl) rfl
theorem q816 : (Jvm.Cond.selects "LotBeliefs" ({ cls := "LotBeliefs", name := "order", desc := "(J)I" } : Jvm.MethodName) ({ cls := "LotBeliefs", name := "order", desc := "(J)I" } : Jvm.MethodName)) ∈ lw_all := lw_g (lw_at lw_m3 212 rfl) rfl
theorem q817 : (Jvm.Cond.code ({ cls := "LotBeliefs", name := "order", desc := "(J)I" } : Jvm.MethodName) prog_1_method_25_code (7 : Nat) (Option.some Jvm.ClassFile.FieldType.int)) ∈ lw_all := lw_g (lw_at lw_m3 213 rfl) rfl
theorem q818 : (Jvm.Cond.constantLong "LotBeliefs" (221 : Nat) (15 : Int64)) ∈ lw_all := lw_g (lw_at lw_m3 214 rfl) rfl
theorem q819 : (Jvm.Cond.methodLink "LotBeliefs" (223 : Nat) ({ cls := "java/lang/System", name := "arraycopy", desc := "(Ljava/lang/Object;ILjava/lang/Object;II)V" } : Jvm.MethodName)) ∈ lw_all := lw_g (lw_at lw_m3 215 rfl) rfl
theorem q821 : (Jvm.Cond.instanceMethod ({ cls := "LotBeliefs", name := "at", desc := "(I)I" } : Jvm.MethodName)) ∈ lw_all := lw_g (lw_at lw_m3 217 rfl) rfl
theorem q822 : (Jvm.Cond.selects "LotBeliefs" ({ cls := "LotBeliefs", name := "at", desc := "(I)I" } : Jvm.MethodName) ({ cls := "LotBeliefs", name := "at", desc := "(I)I" } : Jvm.MethodName)) ∈ lw_all := lw_g (lw_at lw_m3 218 rfl) rfl
theorem q823 : (Jvm.Cond.code ({ cls := "LotBeliefs", name := "at", desc := "(I)I" } : Jvm.MethodName) prog_1_method_26_code (2 : Nat) (Option.some Jvm.ClassFile.FieldType.int)) ∈ lw_all := lw_g (lw_at lw_m3 219 rfl) rfl
theorem q825 : (Jvm.Cond.instanceMethod ({ cls := "LotBeliefs", name := "touchy", desc := "()I" } : Jvm.MethodName)) ∈ lw_all := lw_g (lw_at lw_m3 221 rfl) rfl
theorem q826 : (Jvm.Cond.selects "LotBeliefs" ({ cls := "LotBeliefs", name := "touchy", desc := "()I" } : Jvm.MethodName) ({ cls := "LotBeliefs", name := "touchy", desc := "()I" } : Jvm.MethodName)) ∈ lw_all := lw_g (lw_at lw_m3 222 rfl) rfl
theorem q827 : (Jvm.Cond.code ({ cls := "LotBeliefs", name := "touchy", desc := "()I" } : Jvm.MethodName) prog_1_method_37_code (4 : Nat) (Option.some Jvm.ClassFile.FieldType.int)) ∈ lw_all := lw_g (lw_at lw_m3 223 rfl) rfl
theorem q828 : (Jvm.Cond.methodLink "LotBeliefs" (288 : Nat) ({ cls := "LotBeliefs", name := "endBy", desc := "(I)I" } : Jvm.MethodName)) ∈ lw_all := lw_g (lw_at lw_m3 224 rfl) rfl
theorem q829 : (Jvm.Cond.privateMethod ({ cls := "LotBeliefs", name := "endBy", desc := "(I)I" } : Jvm.MethodName)) ∈ lw_tbl := lw_at lw_m3 225 rfl
theorem q830 : (Jvm.Cond.instanceMethod ({ cls := "LotBeliefs", name := "endBy", desc := "(I)I" } : Jvm.MethodName)) ∈ lw_all := lw_g (lw_at lw_m3 226 rfl) rfl
theorem q831 : (Jvm.Cond.code ({ cls := "LotBeliefs", name := "endBy", desc := "(I)I" } : Jvm.MethodName) prog_1_method_35_code (2 : Nat) (Option.some Jvm.ClassFile.FieldType.int)) ∈ lw_all := lw_g (lw_at lw_m3 227 rfl) rfl
theorem q832 : (Jvm.Cond.methodLink "LotBeliefs" (240 : Nat) ({ cls := "LotBeliefs", name := "runs", desc := "([III)LLotBeliefs$School;" } : Jvm.MethodName)) ∈ lw_all := lw_g (lw_at lw_m3 228 rfl) rfl
theorem q833 : (Jvm.Cond.privateMethod ({ cls := "LotBeliefs", name := "runs", desc := "([III)LLotBeliefs$School;" } : Jvm.MethodName)) ∈ lw_tbl := lw_at lw_m3 229 rfl
theorem q834 : (Jvm.Cond.instanceMethod ({ cls := "LotBeliefs", name := "runs", desc := "([III)LLotBeliefs$School;" } : Jvm.MethodName)) ∈ lw_all := lw_g (lw_at lw_m3 230 rfl) rfl
theorem q835 : (Jvm.Cond.code ({ cls := "LotBeliefs", name := "runs", desc := "([III)LLotBeliefs$School;" } : Jvm.MethodName) prog_1_method_29_code (8 : Nat) (Option.some (Jvm.ClassFile.FieldType.object "LotBeliefs$School"))) ∈ lw_all := lw_g (lw_at lw_m3 231 rfl) rfl
theorem q836 : (Jvm.Cond.methodLink "LotBeliefs" (234 : Nat) ({ cls := "LotBeliefs$School", name := "begins", desc := "(I)LLotBeliefs$School;" } : Jvm.MethodName)) ∈ lw_all := lw_g (lw_at lw_m3 232 rfl) rfl
theorem q840 : (Jvm.Cond.methodLink "LotBeliefs" (237 : Nat) ({ cls := "LotBeliefs$School", name := "goes", desc := "(II)V" } : Jvm.MethodName)) ∈ lw_all := lw_g (lw_at lw_m3 236 rfl) rfl
theorem q867 : (Jvm.Cond.privateMethod ({ cls := "LotBeliefs", name := "tells", desc := "(IIIIIIJ)V" } : Jvm.MethodName)) ∈ lw_tbl := lw_at lw_m4 23 rfl
theorem q868 : (Jvm.Cond.instanceMethod ({ cls := "LotBeliefs", name := "tells", desc := "(IIIIIIJ)V" } : Jvm.MethodName)) ∈ lw_all := lw_g (lw_at lw_m4 24 rfl) rfl
theorem q869 : (Jvm.Cond.code ({ cls := "LotBeliefs", name := "tells", desc := "(IIIIIIJ)V" } : Jvm.MethodName) prog_1_method_15_code (9 : Nat) (Option.none : Option Jvm.ClassFile.FieldType)) ∈ lw_all := lw_g (lw_at lw_m4 25 rfl) rfl
theorem q870 : (Jvm.Cond.methodLink "LotBeliefs" (169 : Nat) ({ cls := "java/lang/Long", name := "bitCount", desc := "(J)I" } : Jvm.MethodName)) ∈ lw_all := lw_g (lw_at lw_m4 26 rfl) rfl
theorem q921 : (Jvm.Cond.methodLink "LotBeliefs" (274 : Nat) ({ cls := "LotBeliefs$School", name := "end", desc := "()I" } : Jvm.MethodName)) ∈ lw_all := lw_g (lw_at lw_m4 77 rfl) rfl
theorem q925 : (Jvm.Cond.methodLink "LotBeliefs" (291 : Nat) ({ cls := "LotBeliefs", name := "change", desc := "(II)V" } : Jvm.MethodName)) ∈ lw_all := lw_g (lw_at lw_m4 81 rfl) rfl
theorem q926 : (Jvm.Cond.privateMethod ({ cls := "LotBeliefs", name := "change", desc := "(II)V" } : Jvm.MethodName)) ∈ lw_tbl := lw_at lw_m4 82 rfl
theorem q927 : (Jvm.Cond.instanceMethod ({ cls := "LotBeliefs", name := "change", desc := "(II)V" } : Jvm.MethodName)) ∈ lw_all := lw_g (lw_at lw_m4 83 rfl) rfl
theorem q928 : (Jvm.Cond.code ({ cls := "LotBeliefs", name := "change", desc := "(II)V" } : Jvm.MethodName) prog_1_method_36_code (4 : Nat) (Option.none : Option Jvm.ClassFile.FieldType)) ∈ lw_all := lw_g (lw_at lw_m4 84 rfl) rfl
theorem q930 : (Jvm.Cond.instanceMethod ({ cls := "LotBeliefs", name := "draw", desc := "(II)I" } : Jvm.MethodName)) ∈ lw_all := lw_g (lw_at lw_m4 86 rfl) rfl
theorem q931 : (Jvm.Cond.selects "LotBeliefs" ({ cls := "LotBeliefs", name := "draw", desc := "(II)I" } : Jvm.MethodName) ({ cls := "LotBeliefs", name := "draw", desc := "(II)I" } : Jvm.MethodName)) ∈ lw_all := lw_g (lw_at lw_m4 87 rfl) rfl
theorem q932 : (Jvm.Cond.code ({ cls := "LotBeliefs", name := "draw", desc := "(II)I" } : Jvm.MethodName) prog_1_method_57_code (3 : Nat) (Option.some Jvm.ClassFile.FieldType.int)) ∈ lw_all := lw_g (lw_at lw_m4 88 rfl) rfl
theorem q933 : (Jvm.Cond.methodLink "LotBeliefs" (343 : Nat) ({ cls := "LotBeliefs", name := "draws", desc := "(I)V" } : Jvm.MethodName)) ∈ lw_all := lw_g (lw_at lw_m4 89 rfl) rfl
theorem q934 : (Jvm.Cond.privateMethod ({ cls := "LotBeliefs", name := "draws", desc := "(I)V" } : Jvm.MethodName)) ∈ lw_tbl := lw_at lw_m4 90 rfl
theorem q935 : (Jvm.Cond.instanceMethod ({ cls := "LotBeliefs", name := "draws", desc := "(I)V" } : Jvm.MethodName)) ∈ lw_all := lw_g (lw_at lw_m4 91 rfl) rfl
theorem q936 : (Jvm.Cond.code ({ cls := "LotBeliefs", name := "draws", desc := "(I)V" } : Jvm.MethodName) prog_1_method_55_code (4 : Nat) (Option.none : Option Jvm.ClassFile.FieldType)) ∈ lw_all := lw_g (lw_at lw_m4 92 rfl) rfl
theorem q937 : (Jvm.Cond.constant "LotBeliefs" (342 : Nat) (1103515245 : Int32)) ∈ lw_all := lw_g (lw_at lw_m4 93 rfl) rfl
theorem q939 : (Jvm.Cond.instanceMethod ({ cls := "LotBeliefs", name := "grave", desc := "(I)I" } : Jvm.MethodName)) ∈ lw_all := lw_g (lw_at lw_m4 95 rfl) rfl
theorem q940 : (Jvm.Cond.selects "LotBeliefs" ({ cls := "LotBeliefs", name := "grave", desc := "(I)I" } : Jvm.MethodName) ({ cls := "LotBeliefs", name := "grave", desc := "(I)I" } : Jvm.MethodName)) ∈ lw_all := lw_g (lw_at lw_m4 96 rfl) rfl
theorem q941 : (Jvm.Cond.code ({ cls := "LotBeliefs", name := "grave", desc := "(I)I" } : Jvm.MethodName) prog_1_method_78_code (7 : Nat) (Option.some Jvm.ClassFile.FieldType.int)) ∈ lw_all := lw_g (lw_at lw_m4 97 rfl) rfl
theorem q942 : (Jvm.Cond.methodLink "LotBeliefs" (244 : Nat) ({ cls := "LotBeliefs", name := "year", desc := "()LLotBeliefs$School;" } : Jvm.MethodName)) ∈ lw_all := lw_g (lw_at lw_m4 98 rfl) rfl
theorem q943 : (Jvm.Cond.privateMethod ({ cls := "LotBeliefs", name := "year", desc := "()LLotBeliefs$School;" } : Jvm.MethodName)) ∈ lw_tbl := lw_at lw_m4 99 rfl
theorem q944 : (Jvm.Cond.instanceMethod ({ cls := "LotBeliefs", name := "year", desc := "()LLotBeliefs$School;" } : Jvm.MethodName)) ∈ lw_all := lw_g (lw_at lw_m4 100 rfl) rfl
theorem q945 : (Jvm.Cond.code ({ cls := "LotBeliefs", name := "year", desc := "()LLotBeliefs$School;" } : Jvm.MethodName) prog_1_method_30_code (1 : Nat) (Option.some (Jvm.ClassFile.FieldType.object "LotBeliefs$School"))) ∈ lw_all := lw_g (lw_at lw_m4 101 rfl) rfl
theorem q947 : (Jvm.Cond.instanceMethod ({ cls := "LotBeliefs", name := "swap", desc := "()I" } : Jvm.MethodName)) ∈ lw_all := lw_g (lw_at lw_m4 103 rfl) rfl
theorem q948 : (Jvm.Cond.selects "LotBeliefs" ({ cls := "LotBeliefs", name := "swap", desc := "()I" } : Jvm.MethodName) ({ cls := "LotBeliefs", name := "swap", desc := "()I" } : Jvm.MethodName)) ∈ lw_all := lw_g (lw_at lw_m4 104 rfl) rfl
theorem q949 : (Jvm.Cond.code ({ cls := "LotBeliefs", name := "swap", desc := "()I" } : Jvm.MethodName) prog_1_method_80_code (6 : Nat) (Option.some Jvm.ClassFile.FieldType.int)) ∈ lw_all := lw_g (lw_at lw_m4 105 rfl) rfl
theorem q950 : (Jvm.Cond.methodLink "LotBeliefs" (283 : Nat) ({ cls := "LotBeliefs", name := "trueOf", desc := "(I)I" } : Jvm.MethodName)) ∈ lw_all := lw_g (lw_at lw_m4 106 rfl) rfl
theorem q951 : (Jvm.Cond.privateMethod ({ cls := "LotBeliefs", name := "trueOf", desc := "(I)I" } : Jvm.MethodName)) ∈ lw_tbl := lw_at lw_m4 107 rfl
theorem q952 : (Jvm.Cond.instanceMethod ({ cls := "LotBeliefs", name := "trueOf", desc := "(I)I" } : Jvm.MethodName)) ∈ lw_all := lw_g (lw_at lw_m4 108 rfl) rfl
theorem q953 : (Jvm.Cond.code ({ cls := "LotBeliefs", name := "trueOf", desc := "(I)I" } : Jvm.MethodName) prog_1_method_33_code (2 : Nat) (Option.some Jvm.ClassFile.FieldType.int)) ∈ lw_all := lw_g (lw_at lw_m4 109 rfl) rfl
theorem q954 : (Jvm.Cond.methodLink "LotBeliefs" (266 : Nat) ({ cls := "LotBeliefs", name := "truths", desc := "()I" } : Jvm.MethodName)) ∈ lw_all := lw_g (lw_at lw_m4 110 rfl) rfl
theorem q955 : (Jvm.Cond.methodLink "LotBeliefs" (269 : Nat) ({ cls := "java/lang/Integer", name := "bitCount", desc := "(I)I" } : Jvm.MethodName)) ∈ lw_all := lw_g (lw_at lw_m4 111 rfl) rfl
theorem q962 : (Jvm.Cond.instanceMethod ({ cls := "LotBeliefs", name := "humble", desc := "()I" } : Jvm.MethodName)) ∈ lw_all := lw_g (lw_at lw_m4 118 rfl) rfl
theorem q963 : (Jvm.Cond.selects "LotBeliefs" ({ cls := "LotBeliefs", name := "humble", desc := "()I" } : Jvm.MethodName) ({ cls := "LotBeliefs", name := "humble", desc := "()I" } : Jvm.MethodName)) ∈ lw_all := lw_g (lw_at lw_m4 119 rfl) rfl
theorem q964 : (Jvm.Cond.code ({ cls := "LotBeliefs", name := "humble", desc := "()I" } : Jvm.MethodName) prog_1_method_82_code (3 : Nat) (Option.some Jvm.ClassFile.FieldType.int)) ∈ lw_all := lw_g (lw_at lw_m4 120 rfl) rfl
theorem q965 : (Jvm.Cond.methodLink "LotBeliefs" (377 : Nat) ({ cls := "LotBeliefs", name := "isHumble", desc := "(I)Z" } : Jvm.MethodName)) ∈ lw_all := lw_g (lw_at lw_m4 121 rfl) rfl
theorem q966 : (Jvm.Cond.privateMethod ({ cls := "LotBeliefs", name := "isHumble", desc := "(I)Z" } : Jvm.MethodName)) ∈ lw_tbl := lw_at lw_m4 122 rfl
theorem q967 : (Jvm.Cond.instanceMethod ({ cls := "LotBeliefs", name := "isHumble", desc := "(I)Z" } : Jvm.MethodName)) ∈ lw_all := lw_g (lw_at lw_m4 123 rfl) rfl
theorem q968 : (Jvm.Cond.code ({ cls := "LotBeliefs", name := "isHumble", desc := "(I)Z" } : Jvm.MethodName) prog_1_method_81_code (4 : Nat) (Option.some Jvm.ClassFile.FieldType.boolean)) ∈ lw_all := lw_g (lw_at lw_m4 124 rfl) rfl
theorem q970 : (Jvm.Cond.instanceMethod ({ cls := "LotBeliefs", name := "image", desc := "()I" } : Jvm.MethodName)) ∈ lw_all := lw_g (lw_at lw_m4 126 rfl) rfl
theorem q971 : (Jvm.Cond.selects "LotBeliefs" ({ cls := "LotBeliefs", name := "image", desc := "()I" } : Jvm.MethodName) ({ cls := "LotBeliefs", name := "image", desc := "()I" } : Jvm.MethodName)) ∈ lw_all := lw_g (lw_at lw_m4 127 rfl) rfl
theorem q972 : (Jvm.Cond.code ({ cls := "LotBeliefs", name := "image", desc := "()I" } : Jvm.MethodName) prog_1_method_84_code (1 : Nat) (Option.some Jvm.ClassFile.FieldType.int)) ∈ lw_all := lw_g (lw_at lw_m4 128 rfl) rfl
theorem q973 : (Jvm.Cond.methodLink "LotBeliefs" (387 : Nat) ({ cls := "LotBeliefs$State", name := "become", desc := "(LLotBeliefs$State;)V" } : Jvm.MethodName)) ∈ lw_all := lw_g (lw_at lw_m4 129 rfl) rfl
theorem q979 : (Jvm.Cond.instanceMethod ({ cls := "LotBeliefs", name := "restore", desc := "()I" } : Jvm.MethodName)) ∈ lw_all := lw_g (lw_at lw_m4 135 rfl) rfl
theorem q980 : (Jvm.Cond.selects "LotBeliefs" ({ cls := "LotBeliefs", name := "restore", desc := "()I" } : Jvm.MethodName) ({ cls := "LotBeliefs", name := "restore", desc := "()I" } : Jvm.MethodName)) ∈ lw_all := lw_g (lw_at lw_m4 136 rfl) rfl
theorem q981 : (Jvm.Cond.code ({ cls := "LotBeliefs", name := "restore", desc := "()I" } : Jvm.MethodName) prog_1_method_85_code (1 : Nat) (Option.some Jvm.ClassFile.FieldType.int)) ∈ lw_all := lw_g (lw_at lw_m4 137 rfl) rfl
theorem q983 : (Jvm.Cond.instanceMethod ({ cls := "LotBeliefs", name := "status", desc := "(I)I" } : Jvm.MethodName)) ∈ lw_all := lw_g (lw_at lw_m4 139 rfl) rfl
theorem q984 : (Jvm.Cond.selects "LotBeliefs" ({ cls := "LotBeliefs", name := "status", desc := "(I)I" } : Jvm.MethodName) ({ cls := "LotBeliefs", name := "status", desc := "(I)I" } : Jvm.MethodName)) ∈ lw_all := lw_g (lw_at lw_m4 140 rfl) rfl
theorem q985 : (Jvm.Cond.code ({ cls := "LotBeliefs", name := "status", desc := "(I)I" } : Jvm.MethodName) prog_1_method_86_code (2 : Nat) (Option.some Jvm.ClassFile.FieldType.int)) ∈ lw_all := lw_g (lw_at lw_m4 141 rfl) rfl
theorem q987 : (Jvm.Cond.instanceMethod ({ cls := "LotBeliefs", name := "count", desc := "(I)I" } : Jvm.MethodName)) ∈ lw_all := lw_g (lw_at lw_m4 143 rfl) rfl
theorem q988 : (Jvm.Cond.selects "LotBeliefs" ({ cls := "LotBeliefs", name := "count", desc := "(I)I" } : Jvm.MethodName) ({ cls := "LotBeliefs", name := "count", desc := "(I)I" } : Jvm.MethodName)) ∈ lw_all := lw_g (lw_at lw_m4 144 rfl) rfl
theorem q989 : (Jvm.Cond.code ({ cls := "LotBeliefs", name := "count", desc := "(I)I" } : Jvm.MethodName) prog_1_method_87_code (2 : Nat) (Option.some Jvm.ClassFile.FieldType.int)) ∈ lw_all := lw_g (lw_at lw_m4 145 rfl) rfl
theorem q995 : (Jvm.Cond.instanceMethod ({ cls := "LotBeliefs", name := "jar", desc := "(I)I" } : Jvm.MethodName)) ∈ lw_all := lw_g (lw_at lw_m4 151 rfl) rfl
theorem q996 : (Jvm.Cond.selects "LotBeliefs" ({ cls := "LotBeliefs", name := "jar", desc := "(I)I" } : Jvm.MethodName) ({ cls := "LotBeliefs", name := "jar", desc := "(I)I" } : Jvm.MethodName)) ∈ lw_all := lw_g (lw_at lw_m4 152 rfl) rfl
theorem q997 : (Jvm.Cond.codeWith ({ cls := "LotBeliefs", name := "jar", desc := "(I)I" } : Jvm.MethodName) prog_1_method_12_code (5 : Nat) (Option.some Jvm.ClassFile.FieldType.int) [((21 : Nat), (64 : Nat), (71 : Nat), (159 : Nat)), ((21 : Nat), (64 : Nat), (95 : Nat), (0 : Nat)), ((71 : Nat), (88 : Nat), (95 : Nat), (0 : Nat)), ((95 : Nat), (97 : Nat), (95 : Nat), (0 : Nat))]) ∈ lw_all := lw_g (lw_at lw_m4 153 rfl) rfl
theorem q998 : (Jvm.Cond.classLink "LotBeliefs" (159 : Nat) "LotBeliefs$Wrong") ∈ lw_all := lw_g (lw_at lw_m4 154 rfl) rfl
theorem q999 : (Jvm.Cond.methodLink "LotBeliefs" (146 : Nat) ({ cls := "LotBeliefs", name := "need", desc := "(Z)V" } : Jvm.MethodName)) ∈ lw_all := lw_g (lw_at lw_m4 155 rfl) rfl
theorem q1000 : (Jvm.Cond.privateMethod ({ cls := "LotBeliefs", name := "need", desc := "(Z)V" } : Jvm.MethodName)) ∈ lw_tbl := lw_at lw_m4 156 rfl
theorem q1001 : (Jvm.Cond.instanceMethod ({ cls := "LotBeliefs", name := "need", desc := "(Z)V" } : Jvm.MethodName)) ∈ lw_all := lw_g (lw_at lw_m4 157 rfl) rfl
theorem q1002 : (Jvm.Cond.code ({ cls := "LotBeliefs", name := "need", desc := "(Z)V" } : Jvm.MethodName) prog_1_method_2_code (2 : Nat) (Option.none : Option Jvm.ClassFile.FieldType)) ∈ lw_all := lw_g (lw_at lw_m4 158 rfl) rfl
theorem q1003 : (Jvm.Cond.classLink "LotBeliefs" (102 : Nat) "java/lang/IllegalArgumentException") ∈ lw_all := lw_g (lw_at lw_m4 159 rfl) rfl
theorem q1004 : (Jvm.Cond.methodLink "LotBeliefs" (104 : Nat) ({ cls := "java/lang/IllegalArgumentException", name := "<init>", desc := "()V" } : Jvm.MethodName)) ∈ lw_all := lw_g (lw_at lw_m4 160 rfl) rfl
theorem q1014 : (Jvm.Cond.classLink "LotBeliefs" (150 : Nat) "LotBeliefs$Reader") ∈ lw_all := lw_g (lw_at lw_m4 170 rfl) rfl
theorem q1016 : (Jvm.Cond.methodLink "LotBeliefs" (152 : Nat) ({ cls := "LotBeliefs$Reader", name := "<init>", desc := "([BILLotBeliefs$Jar;)V" } : Jvm.MethodName)) ∈ lw_all := lw_g (lw_at lw_m4 172 rfl) rfl
theorem q1039 : (Jvm.Cond.methodLink "LotBeliefs" (155 : Nat) ({ cls := "LotBeliefs$Reader", name := "reads", desc := "()LLotBeliefs$Jar;" } : Jvm.MethodName)) ∈ lw_all := lw_g (lw_at lw_m4 195 rfl) rfl
theorem q1177 : (Jvm.Cond.fieldLinkNest "LotBeliefs" (164 : Nat) "LotBeliefs$Wrong" "kind" "I" "LotBeliefs") ∈ lw_tbl := lw_at lw_m5 93 rfl
theorem q1179 : (Jvm.Cond.fieldLinkNest "LotBeliefs" (161 : Nat) "LotBeliefs$Wrong" "place" "I" "LotBeliefs") ∈ lw_tbl := lw_at lw_m5 95 rfl
theorem q1251 : (Jvm.Cond.fieldLinkNest "LotBeliefs" (349 : Nat) "LotBeliefs$Seeing" "week" "I" "LotBeliefs") ∈ lw_tbl := lw_at lw_m5 167 rfl
theorem q1254 : (Jvm.Cond.fieldLinkNest "LotBeliefs" (212 : Nat) "LotBeliefs$Seeing" "models" "J" "LotBeliefs") ∈ lw_tbl := lw_at lw_m5 170 rfl
theorem q1285 : (Jvm.Cond.selects "LotBeliefs" ({ cls := "java/lang/Object", name := "getClass", desc := "()Ljava/lang/Class;" } : Jvm.MethodName) ({ cls := "java/lang/Object", name := "getClass", desc := "()Ljava/lang/Class;" } : Jvm.MethodName)) ∈ lw_all := lw_g (lw_at lw_m5 201 rfl) rfl
theorem q1322 : (Jvm.Cond.instanceMethod ({ cls := "LotBeliefs", name := "question", desc := "(I)I" } : Jvm.MethodName)) ∈ lw_all := lw_g (lw_at lw_m5 238 rfl) rfl
theorem q1323 : (Jvm.Cond.selects "LotBeliefs" ({ cls := "LotBeliefs", name := "question", desc := "(I)I" } : Jvm.MethodName) ({ cls := "LotBeliefs", name := "question", desc := "(I)I" } : Jvm.MethodName)) ∈ lw_all := lw_g (lw_at lw_m5 239 rfl) rfl
theorem q1324 : (Jvm.Cond.codeWith ({ cls := "LotBeliefs", name := "question", desc := "(I)I" } : Jvm.MethodName) prog_1_method_13_code (5 : Nat) (Option.some Jvm.ClassFile.FieldType.int) [((28 : Nat), (64 : Nat), (71 : Nat), (159 : Nat)), ((28 : Nat), (64 : Nat), (95 : Nat), (0 : Nat)), ((71 : Nat), (88 : Nat), (95 : Nat), (0 : Nat)), ((95 : Nat), (97 : Nat), (95 : Nat), (0 : Nat))]) ∈ lw_all := lw_g (lw_at lw_m6 0 rfl) rfl
theorem q1325 : (Jvm.Cond.methodLink "LotBeliefs" (167 : Nat) ({ cls := "LotBeliefs$Reader", name := "question", desc := "()J" } : Jvm.MethodName)) ∈ lw_all := lw_g (lw_at lw_m6 1 rfl) rfl
theorem q1333 : (Jvm.Cond.instanceMethod ({ cls := "LotBeliefs", name := "tongue", desc := "(I)I" } : Jvm.MethodName)) ∈ lw_all := lw_g (lw_at lw_m6 9 rfl) rfl
theorem q1334 : (Jvm.Cond.selects "LotBeliefs" ({ cls := "LotBeliefs", name := "tongue", desc := "(I)I" } : Jvm.MethodName) ({ cls := "LotBeliefs", name := "tongue", desc := "(I)I" } : Jvm.MethodName)) ∈ lw_all := lw_g (lw_at lw_m6 10 rfl) rfl
theorem q1335 : (Jvm.Cond.codeWith ({ cls := "LotBeliefs", name := "tongue", desc := "(I)I" } : Jvm.MethodName) prog_1_method_14_code (5 : Nat) (Option.some Jvm.ClassFile.FieldType.int) [((28 : Nat), (63 : Nat), (70 : Nat), (159 : Nat)), ((28 : Nat), (63 : Nat), (94 : Nat), (0 : Nat)), ((70 : Nat), (87 : Nat), (94 : Nat), (0 : Nat)), ((94 : Nat), (96 : Nat), (94 : Nat), (0 : Nat))]) ∈ lw_all := lw_g (lw_at lw_m6 11 rfl) rfl
theorem q1336 : (Jvm.Cond.classLink "LotBeliefs" (175 : Nat) "LotBeliefs$TongueReader") ∈ lw_all := lw_g (lw_at lw_m6 12 rfl) rfl
theorem q1338 : (Jvm.Cond.methodLink "LotBeliefs" (177 : Nat) ({ cls := "LotBeliefs$TongueReader", name := "<init>", desc := "([BI)V" } : Jvm.MethodName)) ∈ lw_all := lw_g (lw_at lw_m6 14 rfl) rfl
theorem q1360 : (Jvm.Cond.methodLink "LotBeliefs" (180 : Nat) ({ cls := "LotBeliefs$TongueReader", name := "reads", desc := "()LLotBeliefs$Tongue;" } : Jvm.MethodName)) ∈ lw_all := lw_g (lw_at lw_m6 36 rfl) rfl
theorem q1557 : (Jvm.Cond.methodLink "LotBeliefs" (187 : Nat) ({ cls := "java/util/ArrayList", name := "size", desc := "()I" } : Jvm.MethodName)) ∈ lw_all := lw_g (lw_at lw_m6 233 rfl) rfl
theorem q1562 : (Jvm.Cond.instanceMethod ({ cls := "LotBeliefs", name := "told", desc := "(I)I" } : Jvm.MethodName)) ∈ lw_all := lw_g (lw_at lw_m6 238 rfl) rfl
theorem q1563 : (Jvm.Cond.selects "LotBeliefs" ({ cls := "LotBeliefs", name := "told", desc := "(I)I" } : Jvm.MethodName) ({ cls := "LotBeliefs", name := "told", desc := "(I)I" } : Jvm.MethodName)) ∈ lw_all := lw_g (lw_at lw_m6 239 rfl) rfl
theorem q1564 : (Jvm.Cond.code ({ cls := "LotBeliefs", name := "told", desc := "(I)I" } : Jvm.MethodName) prog_1_method_17_code (2 : Nat) (Option.some Jvm.ClassFile.FieldType.int)) ∈ lw_all := lw_g (lw_at lw_m7 0 rfl) rfl
theorem q1588 : (Jvm.Cond.instanceMethod ({ cls := "LotBeliefs", name := "models", desc := "(I)J" } : Jvm.MethodName)) ∈ lw_all := lw_g (lw_at lw_m7 24 rfl) rfl
theorem q1589 : (Jvm.Cond.selects "LotBeliefs" ({ cls := "LotBeliefs", name := "models", desc := "(I)J" } : Jvm.MethodName) ({ cls := "LotBeliefs", name := "models", desc := "(I)J" } : Jvm.MethodName)) ∈ lw_all := lw_g (lw_at lw_m7 25 rfl) rfl
theorem q1590 : (Jvm.Cond.code ({ cls := "LotBeliefs", name := "models", desc := "(I)J" } : Jvm.MethodName) prog_1_method_18_code (2 : Nat) (Option.some Jvm.ClassFile.FieldType.long)) ∈ lw_all := lw_g (lw_at lw_m7 26 rfl) rfl
theorem q1591 : (Jvm.Cond.methodLink "LotBeliefs" (202 : Nat) ({ cls := "LotBeliefs", name := "needIn", desc := "(II)V" } : Jvm.MethodName)) ∈ lw_all := lw_g (lw_at lw_m7 27 rfl) rfl
theorem q1592 : (Jvm.Cond.privateMethod ({ cls := "LotBeliefs", name := "needIn", desc := "(II)V" } : Jvm.MethodName)) ∈ lw_tbl := lw_at lw_m7 28 rfl
theorem q1593 : (Jvm.Cond.instanceMethod ({ cls := "LotBeliefs", name := "needIn", desc := "(II)V" } : Jvm.MethodName)) ∈ lw_all := lw_g (lw_at lw_m7 29 rfl) rfl
theorem q1594 : (Jvm.Cond.code ({ cls := "LotBeliefs", name := "needIn", desc := "(II)V" } : Jvm.MethodName) prog_1_method_3_code (3 : Nat) (Option.none : Option Jvm.ClassFile.FieldType)) ∈ lw_all := lw_g (lw_at lw_m7 30 rfl) rfl
theorem q1595 : (Jvm.Cond.classLink "LotBeliefs" (105 : Nat) "java/lang/IndexOutOfBoundsException") ∈ lw_all := lw_g (lw_at lw_m7 31 rfl) rfl
theorem q1604 : (Jvm.Cond.methodLink "LotBeliefs" (107 : Nat) ({ cls := "java/lang/IndexOutOfBoundsException", name := "<init>", desc := "()V" } : Jvm.MethodName)) ∈ lw_all := lw_g (lw_at lw_m7 40 rfl) rfl
theorem q1614 : (Jvm.Cond.instanceMethod ({ cls := "LotBeliefs", name := "seen", desc := "(I)J" } : Jvm.MethodName)) ∈ lw_all := lw_g (lw_at lw_m7 50 rfl) rfl
theorem q1615 : (Jvm.Cond.selects "LotBeliefs" ({ cls := "LotBeliefs", name := "seen", desc := "(I)J" } : Jvm.MethodName) ({ cls := "LotBeliefs", name := "seen", desc := "(I)J" } : Jvm.MethodName)) ∈ lw_all := lw_g (lw_at lw_m7 51 rfl) rfl
theorem q1616 : (Jvm.Cond.code ({ cls := "LotBeliefs", name := "seen", desc := "(I)J" } : Jvm.MethodName) prog_1_method_19_code (2 : Nat) (Option.some Jvm.ClassFile.FieldType.long)) ∈ lw_all := lw_g (lw_at lw_m7 52 rfl) rfl
theorem q1617 : (Jvm.Cond.methodLink "LotBeliefs" (206 : Nat) ({ cls := "java/util/ArrayList", name := "get", desc := "(I)Ljava/lang/Object;" } : Jvm.MethodName)) ∈ lw_all := lw_g (lw_at lw_m7 53 rfl) rfl
theorem q1618 : (Jvm.Cond.classLink "LotBeliefs" (210 : Nat) "LotBeliefs$Seeing") ∈ lw_all := lw_g (lw_at lw_m7 54 rfl) rfl
theorem q1623 : (Jvm.Cond.instanceMethod ({ cls := "LotBeliefs", name := "left", desc := "(I)J" } : Jvm.MethodName)) ∈ lw_all := lw_g (lw_at lw_m7 59 rfl) rfl
theorem q1624 : (Jvm.Cond.selects "LotBeliefs" ({ cls := "LotBeliefs", name := "left", desc := "(I)J" } : Jvm.MethodName) ({ cls := "LotBeliefs", name := "left", desc := "(I)J" } : Jvm.MethodName)) ∈ lw_all := lw_g (lw_at lw_m7 60 rfl) rfl
theorem q1625 : (Jvm.Cond.code ({ cls := "LotBeliefs", name := "left", desc := "(I)J" } : Jvm.MethodName) prog_1_method_20_code (2 : Nat) (Option.some Jvm.ClassFile.FieldType.long)) ∈ lw_all := lw_g (lw_at lw_m7 61 rfl) rfl
theorem q1626 : (Jvm.Cond.methodLink "LotBeliefs" (214 : Nat) ({ cls := "LotBeliefs", name := "isWeek", desc := "(I)Z" } : Jvm.MethodName)) ∈ lw_all := lw_g (lw_at lw_m7 62 rfl) rfl
theorem q1627 : (Jvm.Cond.static ({ cls := "LotBeliefs", name := "isWeek", desc := "(I)Z" } : Jvm.MethodName)) ∈ lw_all := lw_g (lw_at lw_m7 63 rfl) rfl
theorem q1628 : (Jvm.Cond.code ({ cls := "LotBeliefs", name := "isWeek", desc := "(I)Z" } : Jvm.MethodName) prog_1_method_5_code (1 : Nat) (Option.some Jvm.ClassFile.FieldType.boolean)) ∈ lw_all := lw_g (lw_at lw_m7 64 rfl) rfl
theorem q1633 : (Jvm.Cond.instanceMethod ({ cls := "LotBeliefs", name := "kin", desc := "(II)I" } : Jvm.MethodName)) ∈ lw_all := lw_g (lw_at lw_m7 69 rfl) rfl
theorem q1634 : (Jvm.Cond.selects "LotBeliefs" ({ cls := "LotBeliefs", name := "kin", desc := "(II)I" } : Jvm.MethodName) ({ cls := "LotBeliefs", name := "kin", desc := "(II)I" } : Jvm.MethodName)) ∈ lw_all := lw_g (lw_at lw_m7 70 rfl) rfl
theorem q1635 : (Jvm.Cond.code ({ cls := "LotBeliefs", name := "kin", desc := "(II)I" } : Jvm.MethodName) prog_1_method_21_code (7 : Nat) (Option.some Jvm.ClassFile.FieldType.int)) ∈ lw_all := lw_g (lw_at lw_m7 71 rfl) rfl
theorem q1640 : (Jvm.Cond.instanceMethod ({ cls := "LotBeliefs", name := "fallOut", desc := "(III)Z" } : Jvm.MethodName)) ∈ lw_all := lw_g (lw_at lw_m7 76 rfl) rfl
theorem q1641 : (Jvm.Cond.selects "LotBeliefs" ({ cls := "LotBeliefs", name := "fallOut", desc := "(III)Z" } : Jvm.MethodName) ({ cls := "LotBeliefs", name := "fallOut", desc := "(III)Z" } : Jvm.MethodName)) ∈ lw_all := lw_g (lw_at lw_m7 77 rfl) rfl
theorem q1642 : (Jvm.Cond.code ({ cls := "LotBeliefs", name := "fallOut", desc := "(III)Z" } : Jvm.MethodName) prog_1_method_22_code (4 : Nat) (Option.some Jvm.ClassFile.FieldType.boolean)) ∈ lw_all := lw_g (lw_at lw_m7 78 rfl) rfl
theorem q1647 : (Jvm.Cond.instanceMethod ({ cls := "LotBeliefs", name := "law", desc := "(I)I" } : Jvm.MethodName)) ∈ lw_all := lw_g (lw_at lw_m7 83 rfl) rfl
theorem q1648 : (Jvm.Cond.selects "LotBeliefs" ({ cls := "LotBeliefs", name := "law", desc := "(I)I" } : Jvm.MethodName) ({ cls := "LotBeliefs", name := "law", desc := "(I)I" } : Jvm.MethodName)) ∈ lw_all := lw_g (lw_at lw_m7 84 rfl) rfl
theorem q1649 : (Jvm.Cond.code ({ cls := "LotBeliefs", name := "law", desc := "(I)I" } : Jvm.MethodName) prog_1_method_27_code (3 : Nat) (Option.some Jvm.ClassFile.FieldType.int)) ∈ lw_all := lw_g (lw_at lw_m7 85 rfl) rfl
theorem q1650 : (Jvm.Cond.methodLink "LotBeliefs" (229 : Nat) ({ cls := "LotBeliefs", name := "isLaw", desc := "(I)Z" } : Jvm.MethodName)) ∈ lw_all := lw_g (lw_at lw_m7 86 rfl) rfl
theorem q1651 : (Jvm.Cond.static ({ cls := "LotBeliefs", name := "isLaw", desc := "(I)Z" } : Jvm.MethodName)) ∈ lw_all := lw_g (lw_at lw_m7 87 rfl) rfl
theorem q1652 : (Jvm.Cond.code ({ cls := "LotBeliefs", name := "isLaw", desc := "(I)Z" } : Jvm.MethodName) prog_1_method_6_code (1 : Nat) (Option.some Jvm.ClassFile.FieldType.boolean)) ∈ lw_all := lw_g (lw_at lw_m7 88 rfl) rfl
theorem q1657 : (Jvm.Cond.instanceMethod ({ cls := "LotBeliefs", name := "world", desc := "(I)I" } : Jvm.MethodName)) ∈ lw_all := lw_g (lw_at lw_m7 93 rfl) rfl
theorem q1658 : (Jvm.Cond.selects "LotBeliefs" ({ cls := "LotBeliefs", name := "world", desc := "(I)I" } : Jvm.MethodName) ({ cls := "LotBeliefs", name := "world", desc := "(I)I" } : Jvm.MethodName)) ∈ lw_all := lw_g (lw_at lw_m7 94 rfl) rfl
theorem q1659 : (Jvm.Cond.code ({ cls := "LotBeliefs", name := "world", desc := "(I)I" } : Jvm.MethodName) prog_1_method_28_code (3 : Nat) (Option.some Jvm.ClassFile.FieldType.int)) ∈ lw_all := lw_g (lw_at lw_m7 95 rfl) rfl
theorem q1660 : (Jvm.Cond.methodLink "LotBeliefs" (232 : Nat) ({ cls := "LotBeliefs$Jar", name := "worlds", desc := "()I" } : Jvm.MethodName)) ∈ lw_all := lw_g (lw_at lw_m7 96 rfl) rfl
theorem q1665 : (Jvm.Cond.instanceMethod ({ cls := "LotBeliefs", name := "held", desc := "(I)I" } : Jvm.MethodName)) ∈ lw_all := lw_g (lw_at lw_m7 101 rfl) rfl
theorem q1666 : (Jvm.Cond.selects "LotBeliefs" ({ cls := "LotBeliefs", name := "held", desc := "(I)I" } : Jvm.MethodName) ({ cls := "LotBeliefs", name := "held", desc := "(I)I" } : Jvm.MethodName)) ∈ lw_all := lw_g (lw_at lw_m7 102 rfl) rfl
theorem q1667 : (Jvm.Cond.code ({ cls := "LotBeliefs", name := "held", desc := "(I)I" } : Jvm.MethodName) prog_1_method_31_code (2 : Nat) (Option.some Jvm.ClassFile.FieldType.int)) ∈ lw_all := lw_g (lw_at lw_m7 103 rfl) rfl
theorem q1672 : (Jvm.Cond.instanceMethod ({ cls := "LotBeliefs", name := "fate", desc := "(II)I" } : Jvm.MethodName)) ∈ lw_all := lw_g (lw_at lw_m7 108 rfl) rfl
theorem q1673 : (Jvm.Cond.selects "LotBeliefs" ({ cls := "LotBeliefs", name := "fate", desc := "(II)I" } : Jvm.MethodName) ({ cls := "LotBeliefs", name := "fate", desc := "(II)I" } : Jvm.MethodName)) ∈ lw_all := lw_g (lw_at lw_m7 109 rfl) rfl
theorem q1674 : (Jvm.Cond.code ({ cls := "LotBeliefs", name := "fate", desc := "(II)I" } : Jvm.MethodName) prog_1_method_32_code (4 : Nat) (Option.some Jvm.ClassFile.FieldType.int)) ∈ lw_all := lw_g (lw_at lw_m7 110 rfl) rfl
theorem q1679 : (Jvm.Cond.instanceMethod ({ cls := "LotBeliefs", name := "year", desc := "(I)I" } : Jvm.MethodName)) ∈ lw_all := lw_g (lw_at lw_m7 115 rfl) rfl
theorem q1680 : (Jvm.Cond.selects "LotBeliefs" ({ cls := "LotBeliefs", name := "year", desc := "(I)I" } : Jvm.MethodName) ({ cls := "LotBeliefs", name := "year", desc := "(I)I" } : Jvm.MethodName)) ∈ lw_all := lw_g (lw_at lw_m7 116 rfl) rfl
theorem q1681 : (Jvm.Cond.code ({ cls := "LotBeliefs", name := "year", desc := "(I)I" } : Jvm.MethodName) prog_1_method_34_code (5 : Nat) (Option.some Jvm.ClassFile.FieldType.int)) ∈ lw_all := lw_g (lw_at lw_m7 117 rfl) rfl
theorem q1682 : (Jvm.Cond.methodLink "LotBeliefs" (286 : Nat) ({ cls := "LotBeliefs$School", name := "worlds", desc := "()J" } : Jvm.MethodName)) ∈ lw_all := lw_g (lw_at lw_m7 118 rfl) rfl
theorem q1691 : (Jvm.Cond.instanceMethod ({ cls := "LotBeliefs", name := "ends", desc := "(I)I" } : Jvm.MethodName)) ∈ lw_all := lw_g (lw_at lw_m7 127 rfl) rfl
theorem q1692 : (Jvm.Cond.selects "LotBeliefs" ({ cls := "LotBeliefs", name := "ends", desc := "(I)I" } : Jvm.MethodName) ({ cls := "LotBeliefs", name := "ends", desc := "(I)I" } : Jvm.MethodName)) ∈ lw_all := lw_g (lw_at lw_m7 128 rfl) rfl
theorem q1693 : (Jvm.Cond.code ({ cls := "LotBeliefs", name := "ends", desc := "(I)I" } : Jvm.MethodName) prog_1_method_41_code (2 : Nat) (Option.some Jvm.ClassFile.FieldType.int)) ∈ lw_all := lw_g (lw_at lw_m7 129 rfl) rfl
theorem q1694 : (Jvm.Cond.methodLink "LotBeliefs" (316 : Nat) ({ cls := "LotBeliefs", name := "needFew", desc := "()V" } : Jvm.MethodName)) ∈ lw_all := lw_g (lw_at lw_m7 130 rfl) rfl
theorem q1695 : (Jvm.Cond.privateMethod ({ cls := "LotBeliefs", name := "needFew", desc := "()V" } : Jvm.MethodName)) ∈ lw_tbl := lw_at lw_m7 131 rfl
theorem q1696 : (Jvm.Cond.instanceMethod ({ cls := "LotBeliefs", name := "needFew", desc := "()V" } : Jvm.MethodName)) ∈ lw_all := lw_g (lw_at lw_m7 132 rfl) rfl
theorem q1697 : (Jvm.Cond.code ({ cls := "LotBeliefs", name := "needFew", desc := "()V" } : Jvm.MethodName) prog_1_method_4_code (1 : Nat) (Option.none : Option Jvm.ClassFile.FieldType)) ∈ lw_all := lw_g (lw_at lw_m7 133 rfl) rfl
theorem q1698 : (Jvm.Cond.classLink "LotBeliefs" (111 : Nat) "java/lang/IllegalStateException") ∈ lw_all := lw_g (lw_at lw_m7 134 rfl) rfl
theorem q1707 : (Jvm.Cond.methodLink "LotBeliefs" (113 : Nat) ({ cls := "java/lang/IllegalStateException", name := "<init>", desc := "()V" } : Jvm.MethodName)) ∈ lw_all := lw_g (lw_at lw_m7 143 rfl) rfl
theorem q1713 : (Jvm.Cond.methodLink "LotBeliefs" (319 : Nat) ({ cls := "LotBeliefs", name := "findOrders", desc := "(I)V" } : Jvm.MethodName)) ∈ lw_all := lw_g (lw_at lw_m7 149 rfl) rfl
theorem q1714 : (Jvm.Cond.privateMethod ({ cls := "LotBeliefs", name := "findOrders", desc := "(I)V" } : Jvm.MethodName)) ∈ lw_tbl := lw_at lw_m7 150 rfl
theorem q1715 : (Jvm.Cond.instanceMethod ({ cls := "LotBeliefs", name := "findOrders", desc := "(I)V" } : Jvm.MethodName)) ∈ lw_all := lw_g (lw_at lw_m7 151 rfl) rfl
theorem q1716 : (Jvm.Cond.code ({ cls := "LotBeliefs", name := "findOrders", desc := "(I)V" } : Jvm.MethodName) prog_1_method_38_code (3 : Nat) (Option.none : Option Jvm.ClassFile.FieldType)) ∈ lw_all := lw_g (lw_at lw_m7 152 rfl) rfl
theorem q1717 : (Jvm.Cond.methodLink "LotBeliefs" (309 : Nat) ({ cls := "LotBeliefs", name := "goesThrough", desc := "(III)V" } : Jvm.MethodName)) ∈ lw_all := lw_g (lw_at lw_m7 153 rfl) rfl
theorem q1718 : (Jvm.Cond.privateMethod ({ cls := "LotBeliefs", name := "goesThrough", desc := "(III)V" } : Jvm.MethodName)) ∈ lw_tbl := lw_at lw_m7 154 rfl
theorem q1719 : (Jvm.Cond.instanceMethod ({ cls := "LotBeliefs", name := "goesThrough", desc := "(III)V" } : Jvm.MethodName)) ∈ lw_all := lw_g (lw_at lw_m7 155 rfl) rfl
theorem q1720 : (Jvm.Cond.code ({ cls := "LotBeliefs", name := "goesThrough", desc := "(III)V" } : Jvm.MethodName) prog_1_method_39_code (5 : Nat) (Option.none : Option Jvm.ClassFile.FieldType)) ∈ lw_all := lw_g (lw_at lw_m7 156 rfl) rfl
theorem q1721 : (Jvm.Cond.methodLink "LotBeliefs" (313 : Nat) ({ cls := "LotBeliefs", name := "counts", desc := "(I)V" } : Jvm.MethodName)) ∈ lw_all := lw_g (lw_at lw_m7 157 rfl) rfl
theorem q1722 : (Jvm.Cond.privateMethod ({ cls := "LotBeliefs", name := "counts", desc := "(I)V" } : Jvm.MethodName)) ∈ lw_tbl := lw_at lw_m7 158 rfl
theorem q1723 : (Jvm.Cond.instanceMethod ({ cls := "LotBeliefs", name := "counts", desc := "(I)V" } : Jvm.MethodName)) ∈ lw_all := lw_g (lw_at lw_m7 159 rfl) rfl
theorem q1724 : (Jvm.Cond.code ({ cls := "LotBeliefs", name := "counts", desc := "(I)V" } : Jvm.MethodName) prog_1_method_40_code (3 : Nat) (Option.none : Option Jvm.ClassFile.FieldType)) ∈ lw_all := lw_g (lw_at lw_m7 160 rfl) rfl
theorem q1729 : (Jvm.Cond.instanceMethod ({ cls := "LotBeliefs", name := "orders", desc := "(I)I" } : Jvm.MethodName)) ∈ lw_all := lw_g (lw_at lw_m7 165 rfl) rfl
theorem q1730 : (Jvm.Cond.selects "LotBeliefs" ({ cls := "LotBeliefs", name := "orders", desc := "(I)I" } : Jvm.MethodName) ({ cls := "LotBeliefs", name := "orders", desc := "(I)I" } : Jvm.MethodName)) ∈ lw_all := lw_g (lw_at lw_m7 166 rfl) rfl
theorem q1731 : (Jvm.Cond.code ({ cls := "LotBeliefs", name := "orders", desc := "(I)I" } : Jvm.MethodName) prog_1_method_42_code (2 : Nat) (Option.some Jvm.ClassFile.FieldType.int)) ∈ lw_all := lw_g (lw_at lw_m7 167 rfl) rfl
theorem q1736 : (Jvm.Cond.instanceMethod ({ cls := "LotBeliefs", name := "best", desc := "()I" } : Jvm.MethodName)) ∈ lw_all := lw_g (lw_at lw_m7 172 rfl) rfl
theorem q1737 : (Jvm.Cond.selects "LotBeliefs" ({ cls := "LotBeliefs", name := "best", desc := "()I" } : Jvm.MethodName) ({ cls := "LotBeliefs", name := "best", desc := "()I" } : Jvm.MethodName)) ∈ lw_all := lw_g (lw_at lw_m7 173 rfl) rfl
theorem q1738 : (Jvm.Cond.code ({ cls := "LotBeliefs", name := "best", desc := "()I" } : Jvm.MethodName) prog_1_method_43_code (1 : Nat) (Option.some Jvm.ClassFile.FieldType.int)) ∈ lw_all := lw_g (lw_at lw_m7 174 rfl) rfl
theorem q1743 : (Jvm.Cond.instanceMethod ({ cls := "LotBeliefs", name := "fits", desc := "(II)Z" } : Jvm.MethodName)) ∈ lw_all := lw_g (lw_at lw_m7 179 rfl) rfl
theorem q1744 : (Jvm.Cond.selects "LotBeliefs" ({ cls := "LotBeliefs", name := "fits", desc := "(II)Z" } : Jvm.MethodName) ({ cls := "LotBeliefs", name := "fits", desc := "(II)Z" } : Jvm.MethodName)) ∈ lw_all := lw_g (lw_at lw_m7 180 rfl) rfl
theorem q1745 : (Jvm.Cond.code ({ cls := "LotBeliefs", name := "fits", desc := "(II)Z" } : Jvm.MethodName) prog_1_method_46_code (3 : Nat) (Option.some Jvm.ClassFile.FieldType.boolean)) ∈ lw_all := lw_g (lw_at lw_m7 181 rfl) rfl
theorem q1746 : (Jvm.Cond.methodLink "LotBeliefs" (325 : Nat) ({ cls := "LotBeliefs", name := "areSlips", desc := "(I)Z" } : Jvm.MethodName)) ∈ lw_all := lw_g (lw_at lw_m7 182 rfl) rfl
theorem q1747 : (Jvm.Cond.privateMethod ({ cls := "LotBeliefs", name := "areSlips", desc := "(I)Z" } : Jvm.MethodName)) ∈ lw_tbl := lw_at lw_m7 183 rfl
theorem q1748 : (Jvm.Cond.instanceMethod ({ cls := "LotBeliefs", name := "areSlips", desc := "(I)Z" } : Jvm.MethodName)) ∈ lw_all := lw_g (lw_at lw_m7 184 rfl) rfl
theorem q1749 : (Jvm.Cond.code ({ cls := "LotBeliefs", name := "areSlips", desc := "(I)Z" } : Jvm.MethodName) prog_1_method_7_code (2 : Nat) (Option.some Jvm.ClassFile.FieldType.boolean)) ∈ lw_all := lw_g (lw_at lw_m7 185 rfl) rfl
theorem q1750 : (Jvm.Cond.methodLink "LotBeliefs" (328 : Nat) ({ cls := "LotBeliefs", name := "findWorlds", desc := "(I)V" } : Jvm.MethodName)) ∈ lw_all := lw_g (lw_at lw_m7 186 rfl) rfl
theorem q1751 : (Jvm.Cond.privateMethod ({ cls := "LotBeliefs", name := "findWorlds", desc := "(I)V" } : Jvm.MethodName)) ∈ lw_tbl := lw_at lw_m7 187 rfl
theorem q1752 : (Jvm.Cond.instanceMethod ({ cls := "LotBeliefs", name := "findWorlds", desc := "(I)V" } : Jvm.MethodName)) ∈ lw_all := lw_g (lw_at lw_m7 188 rfl) rfl
theorem q1753 : (Jvm.Cond.code ({ cls := "LotBeliefs", name := "findWorlds", desc := "(I)V" } : Jvm.MethodName) prog_1_method_44_code (4 : Nat) (Option.none : Option Jvm.ClassFile.FieldType)) ∈ lw_all := lw_g (lw_at lw_m7 189 rfl) rfl
theorem q1754 : (Jvm.Cond.methodLink "LotBeliefs" (322 : Nat) ({ cls := "java/lang/Integer", name := "numberOfTrailingZeros", desc := "(I)I" } : Jvm.MethodName)) ∈ lw_all := lw_g (lw_at lw_m7 190 rfl) rfl
theorem q1762 : (Jvm.Cond.instanceMethod ({ cls := "LotBeliefs", name := "sets", desc := "(II)I" } : Jvm.MethodName)) ∈ lw_all := lw_g (lw_at lw_m7 198 rfl) rfl
theorem q1763 : (Jvm.Cond.selects "LotBeliefs" ({ cls := "LotBeliefs", name := "sets", desc := "(II)I" } : Jvm.MethodName) ({ cls := "LotBeliefs", name := "sets", desc := "(II)I" } : Jvm.MethodName)) ∈ lw_all := lw_g (lw_at lw_m7 199 rfl) rfl
theorem q1764 : (Jvm.Cond.code ({ cls := "LotBeliefs", name := "sets", desc := "(II)I" } : Jvm.MethodName) prog_1_method_47_code (9 : Nat) (Option.some Jvm.ClassFile.FieldType.int)) ∈ lw_all := lw_g (lw_at lw_m7 200 rfl) rfl
theorem q1765 : (Jvm.Cond.methodLink "LotBeliefs" (331 : Nat) ({ cls := "LotBeliefs", name := "isWhole", desc := "(I)Z" } : Jvm.MethodName)) ∈ lw_all := lw_g (lw_at lw_m7 201 rfl) rfl
theorem q1766 : (Jvm.Cond.privateMethod ({ cls := "LotBeliefs", name := "isWhole", desc := "(I)Z" } : Jvm.MethodName)) ∈ lw_tbl := lw_at lw_m7 202 rfl
theorem q1767 : (Jvm.Cond.instanceMethod ({ cls := "LotBeliefs", name := "isWhole", desc := "(I)Z" } : Jvm.MethodName)) ∈ lw_all := lw_g (lw_at lw_m7 203 rfl) rfl
theorem q1768 : (Jvm.Cond.code ({ cls := "LotBeliefs", name := "isWhole", desc := "(I)Z" } : Jvm.MethodName) prog_1_method_45_code (3 : Nat) (Option.some Jvm.ClassFile.FieldType.boolean)) ∈ lw_all := lw_g (lw_at lw_m7 204 rfl) rfl
theorem q1773 : (Jvm.Cond.instanceMethod ({ cls := "LotBeliefs", name := "whole", desc := "(II)I" } : Jvm.MethodName)) ∈ lw_all := lw_g (lw_at lw_m7 209 rfl) rfl
theorem q1774 : (Jvm.Cond.selects "LotBeliefs" ({ cls := "LotBeliefs", name := "whole", desc := "(II)I" } : Jvm.MethodName) ({ cls := "LotBeliefs", name := "whole", desc := "(II)I" } : Jvm.MethodName)) ∈ lw_all := lw_g (lw_at lw_m7 210 rfl) rfl
theorem q1775 : (Jvm.Cond.code ({ cls := "LotBeliefs", name := "whole", desc := "(II)I" } : Jvm.MethodName) prog_1_method_48_code (5 : Nat) (Option.some Jvm.ClassFile.FieldType.int)) ∈ lw_all := lw_g (lw_at lw_m7 211 rfl) rfl
theorem q1780 : (Jvm.Cond.instanceMethod ({ cls := "LotBeliefs", name := "proof", desc := "(I)I" } : Jvm.MethodName)) ∈ lw_all := lw_g (lw_at lw_m7 216 rfl) rfl
theorem q1781 : (Jvm.Cond.selects "LotBeliefs" ({ cls := "LotBeliefs", name := "proof", desc := "(I)I" } : Jvm.MethodName) ({ cls := "LotBeliefs", name := "proof", desc := "(I)I" } : Jvm.MethodName)) ∈ lw_all := lw_g (lw_at lw_m7 217 rfl) rfl
theorem q1782 : (Jvm.Cond.code ({ cls := "LotBeliefs", name := "proof", desc := "(I)I" } : Jvm.MethodName) prog_1_method_49_code (4 : Nat) (Option.some Jvm.ClassFile.FieldType.int)) ∈ lw_all := lw_g (lw_at lw_m7 218 rfl) rfl
theorem q1787 : (Jvm.Cond.instanceMethod ({ cls := "LotBeliefs", name := "split", desc := "(II)I" } : Jvm.MethodName)) ∈ lw_all := lw_g (lw_at lw_m7 223 rfl) rfl
theorem q1788 : (Jvm.Cond.selects "LotBeliefs" ({ cls := "LotBeliefs", name := "split", desc := "(II)I" } : Jvm.MethodName) ({ cls := "LotBeliefs", name := "split", desc := "(II)I" } : Jvm.MethodName)) ∈ lw_all := lw_g (lw_at lw_m7 224 rfl) rfl
theorem q1789 : (Jvm.Cond.code ({ cls := "LotBeliefs", name := "split", desc := "(II)I" } : Jvm.MethodName) prog_1_method_50_code (9 : Nat) (Option.some Jvm.ClassFile.FieldType.int)) ∈ lw_all := lw_g (lw_at lw_m7 225 rfl) rfl
theorem q1790 : (Jvm.Cond.methodLink "LotBeliefs" (334 : Nat) ({ cls := "LotBeliefs$Jar", name := "models", desc := "(I)J" } : Jvm.MethodName)) ∈ lw_all := lw_g (lw_at lw_m7 226 rfl) rfl
theorem q1791 : (Jvm.Cond.methodLink "LotBeliefs" (336 : Nat) ({ cls := "java/lang/Math", name := "max", desc := "(II)I" } : Jvm.MethodName)) ∈ lw_all := lw_g (lw_at lw_m7 227 rfl) rfl
theorem q1796 : (Jvm.Cond.instanceMethod ({ cls := "LotBeliefs", name := "likely", desc := "(I)I" } : Jvm.MethodName)) ∈ lw_all := lw_g (lw_at lw_m7 232 rfl) rfl
theorem q1797 : (Jvm.Cond.selects "LotBeliefs" ({ cls := "LotBeliefs", name := "likely", desc := "(I)I" } : Jvm.MethodName) ({ cls := "LotBeliefs", name := "likely", desc := "(I)I" } : Jvm.MethodName)) ∈ lw_all := lw_g (lw_at lw_m7 233 rfl) rfl
theorem q1798 : (Jvm.Cond.code ({ cls := "LotBeliefs", name := "likely", desc := "(I)I" } : Jvm.MethodName) prog_1_method_51_code (7 : Nat) (Option.some Jvm.ClassFile.FieldType.int)) ∈ lw_all := lw_g (lw_at lw_m7 234 rfl) rfl
theorem q1803 : (Jvm.Cond.instanceMethod ({ cls := "LotBeliefs", name := "salted", desc := "(I)I" } : Jvm.MethodName)) ∈ lw_all := lw_g (lw_at lw_m7 239 rfl) rfl
theorem q1804 : (Jvm.Cond.selects "LotBeliefs" ({ cls := "LotBeliefs", name := "salted", desc := "(I)I" } : Jvm.MethodName) ({ cls := "LotBeliefs", name := "salted", desc := "(I)I" } : Jvm.MethodName)) ∈ lw_all := lw_g (lw_at lw_m8 0 rfl) rfl
theorem q1805 : (Jvm.Cond.code ({ cls := "LotBeliefs", name := "salted", desc := "(I)I" } : Jvm.MethodName) prog_1_method_52_code (4 : Nat) (Option.some Jvm.ClassFile.FieldType.int)) ∈ lw_all := lw_g (lw_at lw_m8 1 rfl) rfl
theorem q1810 : (Jvm.Cond.instanceMethod ({ cls := "LotBeliefs", name := "salty", desc := "(I)I" } : Jvm.MethodName)) ∈ lw_all := lw_g (lw_at lw_m8 6 rfl) rfl
theorem q1811 : (Jvm.Cond.selects "LotBeliefs" ({ cls := "LotBeliefs", name := "salty", desc := "(I)I" } : Jvm.MethodName) ({ cls := "LotBeliefs", name := "salty", desc := "(I)I" } : Jvm.MethodName)) ∈ lw_all := lw_g (lw_at lw_m8 7 rfl) rfl
theorem q1812 : (Jvm.Cond.code ({ cls := "LotBeliefs", name := "salty", desc := "(I)I" } : Jvm.MethodName) prog_1_method_53_code (2 : Nat) (Option.some Jvm.ClassFile.FieldType.int)) ∈ lw_all := lw_g (lw_at lw_m8 8 rfl) rfl
theorem q1817 : (Jvm.Cond.instanceMethod ({ cls := "LotBeliefs", name := "compared", desc := "(I)I" } : Jvm.MethodName)) ∈ lw_all := lw_g (lw_at lw_m8 13 rfl) rfl
theorem q1818 : (Jvm.Cond.selects "LotBeliefs" ({ cls := "LotBeliefs", name := "compared", desc := "(I)I" } : Jvm.MethodName) ({ cls := "LotBeliefs", name := "compared", desc := "(I)I" } : Jvm.MethodName)) ∈ lw_all := lw_g (lw_at lw_m8 14 rfl) rfl
theorem q1819 : (Jvm.Cond.code ({ cls := "LotBeliefs", name := "compared", desc := "(I)I" } : Jvm.MethodName) prog_1_method_54_code (2 : Nat) (Option.some Jvm.ClassFile.FieldType.int)) ∈ lw_all := lw_g (lw_at lw_m8 15 rfl) rfl
theorem q1824 : (Jvm.Cond.instanceMethod ({ cls := "LotBeliefs", name := "drawn", desc := "(III)I" } : Jvm.MethodName)) ∈ lw_all := lw_g (lw_at lw_m8 20 rfl) rfl
theorem q1825 : (Jvm.Cond.selects "LotBeliefs" ({ cls := "LotBeliefs", name := "drawn", desc := "(III)I" } : Jvm.MethodName) ({ cls := "LotBeliefs", name := "drawn", desc := "(III)I" } : Jvm.MethodName)) ∈ lw_all := lw_g (lw_at lw_m8 21 rfl) rfl
theorem q1826 : (Jvm.Cond.code ({ cls := "LotBeliefs", name := "drawn", desc := "(III)I" } : Jvm.MethodName) prog_1_method_56_code (6 : Nat) (Option.some Jvm.ClassFile.FieldType.int)) ∈ lw_all := lw_g (lw_at lw_m8 22 rfl) rfl
theorem q1831 : (Jvm.Cond.instanceMethod ({ cls := "LotBeliefs", name := "school", desc := "(II)I" } : Jvm.MethodName)) ∈ lw_all := lw_g (lw_at lw_m8 27 rfl) rfl
theorem q1832 : (Jvm.Cond.selects "LotBeliefs" ({ cls := "LotBeliefs", name := "school", desc := "(II)I" } : Jvm.MethodName) ({ cls := "LotBeliefs", name := "school", desc := "(II)I" } : Jvm.MethodName)) ∈ lw_all := lw_g (lw_at lw_m8 28 rfl) rfl
theorem q1833 : (Jvm.Cond.code ({ cls := "LotBeliefs", name := "school", desc := "(II)I" } : Jvm.MethodName) prog_1_method_59_code (3 : Nat) (Option.some Jvm.ClassFile.FieldType.int)) ∈ lw_all := lw_g (lw_at lw_m8 29 rfl) rfl
theorem q1834 : (Jvm.Cond.methodLink "LotBeliefs" (346 : Nat) ({ cls := "LotBeliefs", name := "findSchools", desc := "()V" } : Jvm.MethodName)) ∈ lw_all := lw_g (lw_at lw_m8 30 rfl) rfl
theorem q1835 : (Jvm.Cond.privateMethod ({ cls := "LotBeliefs", name := "findSchools", desc := "()V" } : Jvm.MethodName)) ∈ lw_tbl := lw_at lw_m8 31 rfl
theorem q1836 : (Jvm.Cond.instanceMethod ({ cls := "LotBeliefs", name := "findSchools", desc := "()V" } : Jvm.MethodName)) ∈ lw_all := lw_g (lw_at lw_m8 32 rfl) rfl
theorem q1837 : (Jvm.Cond.code ({ cls := "LotBeliefs", name := "findSchools", desc := "()V" } : Jvm.MethodName) prog_1_method_58_code (3 : Nat) (Option.none : Option Jvm.ClassFile.FieldType)) ∈ lw_all := lw_g (lw_at lw_m8 33 rfl) rfl
theorem q1842 : (Jvm.Cond.instanceMethod ({ cls := "LotBeliefs", name := "right", desc := "(I)I" } : Jvm.MethodName)) ∈ lw_all := lw_g (lw_at lw_m8 38 rfl) rfl
theorem q1843 : (Jvm.Cond.selects "LotBeliefs" ({ cls := "LotBeliefs", name := "right", desc := "(I)I" } : Jvm.MethodName) ({ cls := "LotBeliefs", name := "right", desc := "(I)I" } : Jvm.MethodName)) ∈ lw_all := lw_g (lw_at lw_m8 39 rfl) rfl
theorem q1844 : (Jvm.Cond.code ({ cls := "LotBeliefs", name := "right", desc := "(I)I" } : Jvm.MethodName) prog_1_method_60_code (3 : Nat) (Option.some Jvm.ClassFile.FieldType.int)) ∈ lw_all := lw_g (lw_at lw_m8 40 rfl) rfl
theorem q1849 : (Jvm.Cond.instanceMethod ({ cls := "LotBeliefs", name := "killer", desc := "(I)I" } : Jvm.MethodName)) ∈ lw_all := lw_g (lw_at lw_m8 45 rfl) rfl
theorem q1850 : (Jvm.Cond.selects "LotBeliefs" ({ cls := "LotBeliefs", name := "killer", desc := "(I)I" } : Jvm.MethodName) ({ cls := "LotBeliefs", name := "killer", desc := "(I)I" } : Jvm.MethodName)) ∈ lw_all := lw_g (lw_at lw_m8 46 rfl) rfl
theorem q1851 : (Jvm.Cond.code ({ cls := "LotBeliefs", name := "killer", desc := "(I)I" } : Jvm.MethodName) prog_1_method_61_code (6 : Nat) (Option.some Jvm.ClassFile.FieldType.int)) ∈ lw_all := lw_g (lw_at lw_m8 47 rfl) rfl
theorem q1856 : (Jvm.Cond.instanceMethod ({ cls := "LotBeliefs", name := "together", desc := "(II)J" } : Jvm.MethodName)) ∈ lw_all := lw_g (lw_at lw_m8 52 rfl) rfl
theorem q1857 : (Jvm.Cond.selects "LotBeliefs" ({ cls := "LotBeliefs", name := "together", desc := "(II)J" } : Jvm.MethodName) ({ cls := "LotBeliefs", name := "together", desc := "(II)J" } : Jvm.MethodName)) ∈ lw_all := lw_g (lw_at lw_m8 53 rfl) rfl
theorem q1858 : (Jvm.Cond.code ({ cls := "LotBeliefs", name := "together", desc := "(II)J" } : Jvm.MethodName) prog_1_method_62_code (3 : Nat) (Option.some Jvm.ClassFile.FieldType.long)) ∈ lw_all := lw_g (lw_at lw_m8 54 rfl) rfl
theorem q1863 : (Jvm.Cond.instanceMethod ({ cls := "LotBeliefs", name := "following", desc := "(II)I" } : Jvm.MethodName)) ∈ lw_all := lw_g (lw_at lw_m8 59 rfl) rfl
theorem q1864 : (Jvm.Cond.selects "LotBeliefs" ({ cls := "LotBeliefs", name := "following", desc := "(II)I" } : Jvm.MethodName) ({ cls := "LotBeliefs", name := "following", desc := "(II)I" } : Jvm.MethodName)) ∈ lw_all := lw_g (lw_at lw_m8 60 rfl) rfl
theorem q1865 : (Jvm.Cond.code ({ cls := "LotBeliefs", name := "following", desc := "(II)I" } : Jvm.MethodName) prog_1_method_63_code (5 : Nat) (Option.some Jvm.ClassFile.FieldType.int)) ∈ lw_all := lw_g (lw_at lw_m8 61 rfl) rfl
theorem q1870 : (Jvm.Cond.instanceMethod ({ cls := "LotBeliefs", name := "eldest", desc := "(I)I" } : Jvm.MethodName)) ∈ lw_all := lw_g (lw_at lw_m8 66 rfl) rfl
theorem q1871 : (Jvm.Cond.selects "LotBeliefs" ({ cls := "LotBeliefs", name := "eldest", desc := "(I)I" } : Jvm.MethodName) ({ cls := "LotBeliefs", name := "eldest", desc := "(I)I" } : Jvm.MethodName)) ∈ lw_all := lw_g (lw_at lw_m8 67 rfl) rfl
theorem q1872 : (Jvm.Cond.code ({ cls := "LotBeliefs", name := "eldest", desc := "(I)I" } : Jvm.MethodName) prog_1_method_64_code (4 : Nat) (Option.some Jvm.ClassFile.FieldType.int)) ∈ lw_all := lw_g (lw_at lw_m8 68 rfl) rfl
theorem q1877 : (Jvm.Cond.instanceMethod ({ cls := "LotBeliefs", name := "quarrels", desc := "(I)I" } : Jvm.MethodName)) ∈ lw_all := lw_g (lw_at lw_m8 73 rfl) rfl
theorem q1878 : (Jvm.Cond.selects "LotBeliefs" ({ cls := "LotBeliefs", name := "quarrels", desc := "(I)I" } : Jvm.MethodName) ({ cls := "LotBeliefs", name := "quarrels", desc := "(I)I" } : Jvm.MethodName)) ∈ lw_all := lw_g (lw_at lw_m8 74 rfl) rfl
theorem q1879 : (Jvm.Cond.code ({ cls := "LotBeliefs", name := "quarrels", desc := "(I)I" } : Jvm.MethodName) prog_1_method_66_code (5 : Nat) (Option.some Jvm.ClassFile.FieldType.int)) ∈ lw_all := lw_g (lw_at lw_m8 75 rfl) rfl
theorem q1880 : (Jvm.Cond.methodLink "LotBeliefs" (352 : Nat) ({ cls := "LotBeliefs", name := "doFallOut", desc := "(III)Z" } : Jvm.MethodName)) ∈ lw_all := lw_g (lw_at lw_m8 76 rfl) rfl
theorem q1881 : (Jvm.Cond.privateMethod ({ cls := "LotBeliefs", name := "doFallOut", desc := "(III)Z" } : Jvm.MethodName)) ∈ lw_tbl := lw_at lw_m8 77 rfl
theorem q1882 : (Jvm.Cond.instanceMethod ({ cls := "LotBeliefs", name := "doFallOut", desc := "(III)Z" } : Jvm.MethodName)) ∈ lw_all := lw_g (lw_at lw_m8 78 rfl) rfl
theorem q1883 : (Jvm.Cond.code ({ cls := "LotBeliefs", name := "doFallOut", desc := "(III)Z" } : Jvm.MethodName) prog_1_method_65_code (4 : Nat) (Option.some Jvm.ClassFile.FieldType.boolean)) ∈ lw_all := lw_g (lw_at lw_m8 79 rfl) rfl
theorem q1888 : (Jvm.Cond.instanceMethod ({ cls := "LotBeliefs", name := "peace", desc := "(I)I" } : Jvm.MethodName)) ∈ lw_all := lw_g (lw_at lw_m8 84 rfl) rfl
theorem q1889 : (Jvm.Cond.selects "LotBeliefs" ({ cls := "LotBeliefs", name := "peace", desc := "(I)I" } : Jvm.MethodName) ({ cls := "LotBeliefs", name := "peace", desc := "(I)I" } : Jvm.MethodName)) ∈ lw_all := lw_g (lw_at lw_m8 85 rfl) rfl
theorem q1890 : (Jvm.Cond.code ({ cls := "LotBeliefs", name := "peace", desc := "(I)I" } : Jvm.MethodName) prog_1_method_68_code (4 : Nat) (Option.some Jvm.ClassFile.FieldType.int)) ∈ lw_all := lw_g (lw_at lw_m8 86 rfl) rfl
theorem q1891 : (Jvm.Cond.methodLink "LotBeliefs" (356 : Nat) ({ cls := "LotBeliefs", name := "isPeace", desc := "(II)Z" } : Jvm.MethodName)) ∈ lw_all := lw_g (lw_at lw_m8 87 rfl) rfl
theorem q1892 : (Jvm.Cond.privateMethod ({ cls := "LotBeliefs", name := "isPeace", desc := "(II)Z" } : Jvm.MethodName)) ∈ lw_tbl := lw_at lw_m8 88 rfl
theorem q1893 : (Jvm.Cond.instanceMethod ({ cls := "LotBeliefs", name := "isPeace", desc := "(II)Z" } : Jvm.MethodName)) ∈ lw_all := lw_g (lw_at lw_m8 89 rfl) rfl
theorem q1894 : (Jvm.Cond.code ({ cls := "LotBeliefs", name := "isPeace", desc := "(II)Z" } : Jvm.MethodName) prog_1_method_67_code (5 : Nat) (Option.some Jvm.ClassFile.FieldType.boolean)) ∈ lw_all := lw_g (lw_at lw_m8 90 rfl) rfl
theorem q1899 : (Jvm.Cond.instanceMethod ({ cls := "LotBeliefs", name := "worst", desc := "(I)J" } : Jvm.MethodName)) ∈ lw_all := lw_g (lw_at lw_m8 95 rfl) rfl
theorem q1900 : (Jvm.Cond.selects "LotBeliefs" ({ cls := "LotBeliefs", name := "worst", desc := "(I)J" } : Jvm.MethodName) ({ cls := "LotBeliefs", name := "worst", desc := "(I)J" } : Jvm.MethodName)) ∈ lw_all := lw_g (lw_at lw_m8 96 rfl) rfl
theorem q1901 : (Jvm.Cond.code ({ cls := "LotBeliefs", name := "worst", desc := "(I)J" } : Jvm.MethodName) prog_1_method_70_code (2 : Nat) (Option.some Jvm.ClassFile.FieldType.long)) ∈ lw_all := lw_g (lw_at lw_m8 97 rfl) rfl
theorem q1902 : (Jvm.Cond.methodLink "LotBeliefs" (366 : Nat) ({ cls := "LotBeliefs", name := "hurtsBy", desc := "(IIJ)V" } : Jvm.MethodName)) ∈ lw_all := lw_g (lw_at lw_m8 98 rfl) rfl
theorem q1903 : (Jvm.Cond.privateMethod ({ cls := "LotBeliefs", name := "hurtsBy", desc := "(IIJ)V" } : Jvm.MethodName)) ∈ lw_tbl := lw_at lw_m8 99 rfl
theorem q1904 : (Jvm.Cond.instanceMethod ({ cls := "LotBeliefs", name := "hurtsBy", desc := "(IIJ)V" } : Jvm.MethodName)) ∈ lw_all := lw_g (lw_at lw_m8 100 rfl) rfl
theorem q1905 : (Jvm.Cond.code ({ cls := "LotBeliefs", name := "hurtsBy", desc := "(IIJ)V" } : Jvm.MethodName) prog_1_method_69_code (7 : Nat) (Option.none : Option Jvm.ClassFile.FieldType)) ∈ lw_all := lw_g (lw_at lw_m8 101 rfl) rfl
theorem q1910 : (Jvm.Cond.instanceMethod ({ cls := "LotBeliefs", name := "century", desc := "(III)I" } : Jvm.MethodName)) ∈ lw_all := lw_g (lw_at lw_m8 106 rfl) rfl
theorem q1911 : (Jvm.Cond.selects "LotBeliefs" ({ cls := "LotBeliefs", name := "century", desc := "(III)I" } : Jvm.MethodName) ({ cls := "LotBeliefs", name := "century", desc := "(III)I" } : Jvm.MethodName)) ∈ lw_all := lw_g (lw_at lw_m8 107 rfl) rfl
theorem q1912 : (Jvm.Cond.code ({ cls := "LotBeliefs", name := "century", desc := "(III)I" } : Jvm.MethodName) prog_1_method_71_code (6 : Nat) (Option.some Jvm.ClassFile.FieldType.int)) ∈ lw_all := lw_g (lw_at lw_m8 108 rfl) rfl
theorem q1917 : (Jvm.Cond.instanceMethod ({ cls := "LotBeliefs", name := "known", desc := "(II)I" } : Jvm.MethodName)) ∈ lw_all := lw_g (lw_at lw_m8 113 rfl) rfl
theorem q1918 : (Jvm.Cond.selects "LotBeliefs" ({ cls := "LotBeliefs", name := "known", desc := "(II)I" } : Jvm.MethodName) ({ cls := "LotBeliefs", name := "known", desc := "(II)I" } : Jvm.MethodName)) ∈ lw_all := lw_g (lw_at lw_m8 114 rfl) rfl
theorem q1919 : (Jvm.Cond.code ({ cls := "LotBeliefs", name := "known", desc := "(II)I" } : Jvm.MethodName) prog_1_method_72_code (5 : Nat) (Option.some Jvm.ClassFile.FieldType.int)) ∈ lw_all := lw_g (lw_at lw_m8 115 rfl) rfl
theorem q1924 : (Jvm.Cond.instanceMethod ({ cls := "LotBeliefs", name := "plain", desc := "(I)I" } : Jvm.MethodName)) ∈ lw_all := lw_g (lw_at lw_m8 120 rfl) rfl
theorem q1925 : (Jvm.Cond.selects "LotBeliefs" ({ cls := "LotBeliefs", name := "plain", desc := "(I)I" } : Jvm.MethodName) ({ cls := "LotBeliefs", name := "plain", desc := "(I)I" } : Jvm.MethodName)) ∈ lw_all := lw_g (lw_at lw_m8 121 rfl) rfl
theorem q1926 : (Jvm.Cond.code ({ cls := "LotBeliefs", name := "plain", desc := "(I)I" } : Jvm.MethodName) prog_1_method_75_code (2 : Nat) (Option.some Jvm.ClassFile.FieldType.int)) ∈ lw_all := lw_g (lw_at lw_m8 122 rfl) rfl
theorem q1927 : (Jvm.Cond.methodLink "LotBeliefs" (374 : Nat) ({ cls := "LotBeliefs", name := "findLengths", desc := "()V" } : Jvm.MethodName)) ∈ lw_all := lw_g (lw_at lw_m8 123 rfl) rfl
theorem q1928 : (Jvm.Cond.privateMethod ({ cls := "LotBeliefs", name := "findLengths", desc := "()V" } : Jvm.MethodName)) ∈ lw_tbl := lw_at lw_m8 124 rfl
theorem q1929 : (Jvm.Cond.instanceMethod ({ cls := "LotBeliefs", name := "findLengths", desc := "()V" } : Jvm.MethodName)) ∈ lw_all := lw_g (lw_at lw_m8 125 rfl) rfl
theorem q1930 : (Jvm.Cond.code ({ cls := "LotBeliefs", name := "findLengths", desc := "()V" } : Jvm.MethodName) prog_1_method_74_code (5 : Nat) (Option.none : Option Jvm.ClassFile.FieldType)) ∈ lw_all := lw_g (lw_at lw_m8 126 rfl) rfl
theorem q1931 : (Jvm.Cond.constant "LotBeliefs" (370 : Nat) (1000000 : Int32)) ∈ lw_all := lw_g (lw_at lw_m8 127 rfl) rfl
theorem q1932 : (Jvm.Cond.methodLink "LotBeliefs" (371 : Nat) ({ cls := "LotBeliefs", name := "shortens", desc := "(II)Z" } : Jvm.MethodName)) ∈ lw_all := lw_g (lw_at lw_m8 128 rfl) rfl
theorem q1933 : (Jvm.Cond.privateMethod ({ cls := "LotBeliefs", name := "shortens", desc := "(II)Z" } : Jvm.MethodName)) ∈ lw_tbl := lw_at lw_m8 129 rfl
theorem q1934 : (Jvm.Cond.instanceMethod ({ cls := "LotBeliefs", name := "shortens", desc := "(II)Z" } : Jvm.MethodName)) ∈ lw_all := lw_g (lw_at lw_m8 130 rfl) rfl
theorem q1935 : (Jvm.Cond.code ({ cls := "LotBeliefs", name := "shortens", desc := "(II)Z" } : Jvm.MethodName) prog_1_method_73_code (3 : Nat) (Option.some Jvm.ClassFile.FieldType.boolean)) ∈ lw_all := lw_g (lw_at lw_m8 131 rfl) rfl
theorem q1940 : (Jvm.Cond.instanceMethod ({ cls := "LotBeliefs", name := "asks", desc := "(I)I" } : Jvm.MethodName)) ∈ lw_all := lw_g (lw_at lw_m8 136 rfl) rfl
theorem q1941 : (Jvm.Cond.selects "LotBeliefs" ({ cls := "LotBeliefs", name := "asks", desc := "(I)I" } : Jvm.MethodName) ({ cls := "LotBeliefs", name := "asks", desc := "(I)I" } : Jvm.MethodName)) ∈ lw_all := lw_g (lw_at lw_m8 137 rfl) rfl
theorem q1942 : (Jvm.Cond.code ({ cls := "LotBeliefs", name := "asks", desc := "(I)I" } : Jvm.MethodName) prog_1_method_76_code (7 : Nat) (Option.some Jvm.ClassFile.FieldType.int)) ∈ lw_all := lw_g (lw_at lw_m8 138 rfl) rfl
theorem q1947 : (Jvm.Cond.instanceMethod ({ cls := "LotBeliefs", name := "war", desc := "(I)I" } : Jvm.MethodName)) ∈ lw_all := lw_g (lw_at lw_m8 143 rfl) rfl
theorem q1948 : (Jvm.Cond.selects "LotBeliefs" ({ cls := "LotBeliefs", name := "war", desc := "(I)I" } : Jvm.MethodName) ({ cls := "LotBeliefs", name := "war", desc := "(I)I" } : Jvm.MethodName)) ∈ lw_all := lw_g (lw_at lw_m8 144 rfl) rfl
theorem q1949 : (Jvm.Cond.code ({ cls := "LotBeliefs", name := "war", desc := "(I)I" } : Jvm.MethodName) prog_1_method_77_code (5 : Nat) (Option.some Jvm.ClassFile.FieldType.int)) ∈ lw_all := lw_g (lw_at lw_m8 145 rfl) rfl
theorem q1954 : (Jvm.Cond.instanceMethod ({ cls := "LotBeliefs", name := "canon", desc := "(I)I" } : Jvm.MethodName)) ∈ lw_all := lw_g (lw_at lw_m8 150 rfl) rfl
theorem q1955 : (Jvm.Cond.selects "LotBeliefs" ({ cls := "LotBeliefs", name := "canon", desc := "(I)I" } : Jvm.MethodName) ({ cls := "LotBeliefs", name := "canon", desc := "(I)I" } : Jvm.MethodName)) ∈ lw_all := lw_g (lw_at lw_m8 151 rfl) rfl
theorem q1956 : (Jvm.Cond.code ({ cls := "LotBeliefs", name := "canon", desc := "(I)I" } : Jvm.MethodName) prog_1_method_79_code (5 : Nat) (Option.some Jvm.ClassFile.FieldType.int)) ∈ lw_all := lw_g (lw_at lw_m8 152 rfl) rfl
theorem q1961 : (Jvm.Cond.instanceMethod ({ cls := "LotBeliefs", name := "judge", desc := "(IIII)I" } : Jvm.MethodName)) ∈ lw_all := lw_g (lw_at lw_m8 157 rfl) rfl
theorem q1962 : (Jvm.Cond.selects "LotBeliefs" ({ cls := "LotBeliefs", name := "judge", desc := "(IIII)I" } : Jvm.MethodName) ({ cls := "LotBeliefs", name := "judge", desc := "(IIII)I" } : Jvm.MethodName)) ∈ lw_all := lw_g (lw_at lw_m8 158 rfl) rfl
theorem q1963 : (Jvm.Cond.code ({ cls := "LotBeliefs", name := "judge", desc := "(IIII)I" } : Jvm.MethodName) prog_1_method_83_code (5 : Nat) (Option.some Jvm.ClassFile.FieldType.int)) ∈ lw_all := lw_g (lw_at lw_m8 159 rfl) rfl
theorem q1964 : (Jvm.Cond.methodLink "LotBeliefs" (380 : Nat) ({ cls := "LotBeliefs", name := "tells", desc := "(IIIIIIJ)V" } : Jvm.MethodName)) ∈ lw_all := lw_g (lw_at lw_m8 160 rfl) rfl
theorem q1965 : (Jvm.Cond.methodLink "LotBeliefs" (384 : Nat) ({ cls := "LotBeliefs$Tongue", name := "falls", desc := "([I)I" } : Jvm.MethodName)) ∈ lw_all := lw_g (lw_at lw_m8 161 rfl) rfl
theorem q2709 : (Jvm.Cond.castable "LotBeliefs" "java/lang/Object") ∈ lw_tbl := lw_at lw_m11 185 rfl

def RX0 : String := "LotBeliefsLaw"
abbrev cX0_jar : ByteArray := method_3_code
def yX0_jar : MethodName := ⟨RX0, "jar", "(LLotBeliefs;I[J)I"⟩
def dkwX0_jar_0 : List UInt8 := [44, 3, 42, 27, 182, 0, 7, 133, 80, 167, 0, 6, 78, 4, 172, 3, 172]
abbrev dktX0_jar_0 : List UInt8 := dkwX0_jar_0 ++ []
theorem dksX0_jar_0 : cX0_jar.data.toList.drop 0 = dktX0_jar_0 := by decide +kernel
theorem dX0_jar_0 : decode cX0_jar 0 = .ok (.aload_n 2, 1) := dk_44 (dk_at dksX0_jar_0 0 rfl rfl)
theorem dX0_jar_1 : decode cX0_jar 1 = .ok (.iconst 0, 1) := dk_3 (dk_at dksX0_jar_0 1 rfl rfl)
theorem dX0_jar_2 : decode cX0_jar 2 = .ok (.aload_n 0, 1) := dk_42 (dk_at dksX0_jar_0 2 rfl rfl)
theorem dX0_jar_3 : decode cX0_jar 3 = .ok (.iload_n 1, 1) := dk_27 (dk_at dksX0_jar_0 3 rfl rfl)
theorem dX0_jar_4 : decode cX0_jar 4 = .ok (.invokevirtual 7, 3) := dk_182 0 7 (dk_at dksX0_jar_0 4 rfl rfl)
theorem dX0_jar_7 : decode cX0_jar 7 = .ok (.i2l, 1) := dk_133 (dk_at dksX0_jar_0 7 rfl rfl)
theorem dX0_jar_8 : decode cX0_jar 8 = .ok (.lastore, 1) := dk_80 (dk_at dksX0_jar_0 8 rfl rfl)
theorem dX0_jar_9 : decode cX0_jar 9 = .ok (.goto 6, 3) := dk_167 0 6 (dk_at dksX0_jar_0 9 rfl rfl)
theorem dX0_jar_12 : decode cX0_jar 12 = .ok (.astore_n 3, 1) := dk_78 (dk_at dksX0_jar_0 12 rfl rfl)
theorem dX0_jar_13 : decode cX0_jar 13 = .ok (.iconst 1, 1) := dk_4 (dk_at dksX0_jar_0 13 rfl rfl)
theorem dX0_jar_14 : decode cX0_jar 14 = .ok (.ireturn, 1) := dk_172 (dk_at dksX0_jar_0 14 rfl rfl)
theorem dX0_jar_15 : decode cX0_jar 15 = .ok (.iconst 0, 1) := dk_3 (dk_at dksX0_jar_0 15 rfl rfl)
theorem dX0_jar_16 : decode cX0_jar 16 = .ok (.ireturn, 1) := dk_172 (dk_at dksX0_jar_0 16 rfl rfl)
abbrev cX0_question : ByteArray := method_4_code
def yX0_question : MethodName := ⟨RX0, "question", "(LLotBeliefs;I[J)I"⟩
def dkwX0_question_0 : List UInt8 := [44, 3, 42, 27, 182, 0, 15, 133, 80, 167, 0, 6, 78, 4, 172, 3, 172]
abbrev dktX0_question_0 : List UInt8 := dkwX0_question_0 ++ []
theorem dksX0_question_0 : cX0_question.data.toList.drop 0 = dktX0_question_0 := by decide +kernel
theorem dX0_question_0 : decode cX0_question 0 = .ok (.aload_n 2, 1) := dk_44 (dk_at dksX0_question_0 0 rfl rfl)
theorem dX0_question_1 : decode cX0_question 1 = .ok (.iconst 0, 1) := dk_3 (dk_at dksX0_question_0 1 rfl rfl)
theorem dX0_question_2 : decode cX0_question 2 = .ok (.aload_n 0, 1) := dk_42 (dk_at dksX0_question_0 2 rfl rfl)
theorem dX0_question_3 : decode cX0_question 3 = .ok (.iload_n 1, 1) := dk_27 (dk_at dksX0_question_0 3 rfl rfl)
theorem dX0_question_4 : decode cX0_question 4 = .ok (.invokevirtual 15, 3) := dk_182 0 15 (dk_at dksX0_question_0 4 rfl rfl)
theorem dX0_question_7 : decode cX0_question 7 = .ok (.i2l, 1) := dk_133 (dk_at dksX0_question_0 7 rfl rfl)
theorem dX0_question_8 : decode cX0_question 8 = .ok (.lastore, 1) := dk_80 (dk_at dksX0_question_0 8 rfl rfl)
theorem dX0_question_9 : decode cX0_question 9 = .ok (.goto 6, 3) := dk_167 0 6 (dk_at dksX0_question_0 9 rfl rfl)
theorem dX0_question_12 : decode cX0_question 12 = .ok (.astore_n 3, 1) := dk_78 (dk_at dksX0_question_0 12 rfl rfl)
theorem dX0_question_13 : decode cX0_question 13 = .ok (.iconst 1, 1) := dk_4 (dk_at dksX0_question_0 13 rfl rfl)
theorem dX0_question_14 : decode cX0_question 14 = .ok (.ireturn, 1) := dk_172 (dk_at dksX0_question_0 14 rfl rfl)
theorem dX0_question_15 : decode cX0_question 15 = .ok (.iconst 0, 1) := dk_3 (dk_at dksX0_question_0 15 rfl rfl)
theorem dX0_question_16 : decode cX0_question 16 = .ok (.ireturn, 1) := dk_172 (dk_at dksX0_question_0 16 rfl rfl)
abbrev cX0_tongue : ByteArray := method_5_code
def yX0_tongue : MethodName := ⟨RX0, "tongue", "(LLotBeliefs;I[J)I"⟩
def dkwX0_tongue_0 : List UInt8 := [44, 3, 42, 27, 182, 0, 18, 133, 80, 167, 0, 6, 78, 4, 172, 3, 172]
abbrev dktX0_tongue_0 : List UInt8 := dkwX0_tongue_0 ++ []
theorem dksX0_tongue_0 : cX0_tongue.data.toList.drop 0 = dktX0_tongue_0 := by decide +kernel
theorem dX0_tongue_0 : decode cX0_tongue 0 = .ok (.aload_n 2, 1) := dk_44 (dk_at dksX0_tongue_0 0 rfl rfl)
theorem dX0_tongue_1 : decode cX0_tongue 1 = .ok (.iconst 0, 1) := dk_3 (dk_at dksX0_tongue_0 1 rfl rfl)
theorem dX0_tongue_2 : decode cX0_tongue 2 = .ok (.aload_n 0, 1) := dk_42 (dk_at dksX0_tongue_0 2 rfl rfl)
theorem dX0_tongue_3 : decode cX0_tongue 3 = .ok (.iload_n 1, 1) := dk_27 (dk_at dksX0_tongue_0 3 rfl rfl)
theorem dX0_tongue_4 : decode cX0_tongue 4 = .ok (.invokevirtual 18, 3) := dk_182 0 18 (dk_at dksX0_tongue_0 4 rfl rfl)
theorem dX0_tongue_7 : decode cX0_tongue 7 = .ok (.i2l, 1) := dk_133 (dk_at dksX0_tongue_0 7 rfl rfl)
theorem dX0_tongue_8 : decode cX0_tongue 8 = .ok (.lastore, 1) := dk_80 (dk_at dksX0_tongue_0 8 rfl rfl)
theorem dX0_tongue_9 : decode cX0_tongue 9 = .ok (.goto 6, 3) := dk_167 0 6 (dk_at dksX0_tongue_0 9 rfl rfl)
theorem dX0_tongue_12 : decode cX0_tongue 12 = .ok (.astore_n 3, 1) := dk_78 (dk_at dksX0_tongue_0 12 rfl rfl)
theorem dX0_tongue_13 : decode cX0_tongue 13 = .ok (.iconst 1, 1) := dk_4 (dk_at dksX0_tongue_0 13 rfl rfl)
theorem dX0_tongue_14 : decode cX0_tongue 14 = .ok (.ireturn, 1) := dk_172 (dk_at dksX0_tongue_0 14 rfl rfl)
theorem dX0_tongue_15 : decode cX0_tongue 15 = .ok (.iconst 0, 1) := dk_3 (dk_at dksX0_tongue_0 15 rfl rfl)
theorem dX0_tongue_16 : decode cX0_tongue 16 = .ok (.ireturn, 1) := dk_172 (dk_at dksX0_tongue_0 16 rfl rfl)
abbrev cX0_told : ByteArray := method_6_code
def yX0_told : MethodName := ⟨RX0, "told", "(LLotBeliefs;I[J)I"⟩
def dkwX0_told_0 : List UInt8 := [44, 3, 42, 27, 182, 0, 21, 133, 80, 167, 0, 6, 78, 4, 172, 3, 172]
abbrev dktX0_told_0 : List UInt8 := dkwX0_told_0 ++ []
theorem dksX0_told_0 : cX0_told.data.toList.drop 0 = dktX0_told_0 := by decide +kernel
theorem dX0_told_0 : decode cX0_told 0 = .ok (.aload_n 2, 1) := dk_44 (dk_at dksX0_told_0 0 rfl rfl)
theorem dX0_told_1 : decode cX0_told 1 = .ok (.iconst 0, 1) := dk_3 (dk_at dksX0_told_0 1 rfl rfl)
theorem dX0_told_2 : decode cX0_told 2 = .ok (.aload_n 0, 1) := dk_42 (dk_at dksX0_told_0 2 rfl rfl)
theorem dX0_told_3 : decode cX0_told 3 = .ok (.iload_n 1, 1) := dk_27 (dk_at dksX0_told_0 3 rfl rfl)
theorem dX0_told_4 : decode cX0_told 4 = .ok (.invokevirtual 21, 3) := dk_182 0 21 (dk_at dksX0_told_0 4 rfl rfl)
theorem dX0_told_7 : decode cX0_told 7 = .ok (.i2l, 1) := dk_133 (dk_at dksX0_told_0 7 rfl rfl)
theorem dX0_told_8 : decode cX0_told 8 = .ok (.lastore, 1) := dk_80 (dk_at dksX0_told_0 8 rfl rfl)
theorem dX0_told_9 : decode cX0_told 9 = .ok (.goto 6, 3) := dk_167 0 6 (dk_at dksX0_told_0 9 rfl rfl)
theorem dX0_told_12 : decode cX0_told 12 = .ok (.astore_n 3, 1) := dk_78 (dk_at dksX0_told_0 12 rfl rfl)
theorem dX0_told_13 : decode cX0_told 13 = .ok (.iconst 1, 1) := dk_4 (dk_at dksX0_told_0 13 rfl rfl)
theorem dX0_told_14 : decode cX0_told 14 = .ok (.ireturn, 1) := dk_172 (dk_at dksX0_told_0 14 rfl rfl)
theorem dX0_told_15 : decode cX0_told 15 = .ok (.iconst 0, 1) := dk_3 (dk_at dksX0_told_0 15 rfl rfl)
theorem dX0_told_16 : decode cX0_told 16 = .ok (.ireturn, 1) := dk_172 (dk_at dksX0_told_0 16 rfl rfl)
abbrev cX0_models : ByteArray := method_7_code
def yX0_models : MethodName := ⟨RX0, "models", "(LLotBeliefs;I[J)I"⟩
def dkwX0_models_0 : List UInt8 := [44, 3, 42, 27, 182, 0, 24, 80, 167, 0, 6, 78, 4, 172, 3, 172]
abbrev dktX0_models_0 : List UInt8 := dkwX0_models_0 ++ []
theorem dksX0_models_0 : cX0_models.data.toList.drop 0 = dktX0_models_0 := by decide +kernel
theorem dX0_models_0 : decode cX0_models 0 = .ok (.aload_n 2, 1) := dk_44 (dk_at dksX0_models_0 0 rfl rfl)
theorem dX0_models_1 : decode cX0_models 1 = .ok (.iconst 0, 1) := dk_3 (dk_at dksX0_models_0 1 rfl rfl)
theorem dX0_models_2 : decode cX0_models 2 = .ok (.aload_n 0, 1) := dk_42 (dk_at dksX0_models_0 2 rfl rfl)
theorem dX0_models_3 : decode cX0_models 3 = .ok (.iload_n 1, 1) := dk_27 (dk_at dksX0_models_0 3 rfl rfl)
theorem dX0_models_4 : decode cX0_models 4 = .ok (.invokevirtual 24, 3) := dk_182 0 24 (dk_at dksX0_models_0 4 rfl rfl)
theorem dX0_models_7 : decode cX0_models 7 = .ok (.lastore, 1) := dk_80 (dk_at dksX0_models_0 7 rfl rfl)
theorem dX0_models_8 : decode cX0_models 8 = .ok (.goto 6, 3) := dk_167 0 6 (dk_at dksX0_models_0 8 rfl rfl)
theorem dX0_models_11 : decode cX0_models 11 = .ok (.astore_n 3, 1) := dk_78 (dk_at dksX0_models_0 11 rfl rfl)
theorem dX0_models_12 : decode cX0_models 12 = .ok (.iconst 1, 1) := dk_4 (dk_at dksX0_models_0 12 rfl rfl)
theorem dX0_models_13 : decode cX0_models 13 = .ok (.ireturn, 1) := dk_172 (dk_at dksX0_models_0 13 rfl rfl)
theorem dX0_models_14 : decode cX0_models 14 = .ok (.iconst 0, 1) := dk_3 (dk_at dksX0_models_0 14 rfl rfl)
theorem dX0_models_15 : decode cX0_models 15 = .ok (.ireturn, 1) := dk_172 (dk_at dksX0_models_0 15 rfl rfl)
abbrev cX0_seen : ByteArray := method_8_code
def yX0_seen : MethodName := ⟨RX0, "seen", "(LLotBeliefs;I[J)I"⟩
def dkwX0_seen_0 : List UInt8 := [44, 3, 42, 27, 182, 0, 30, 80, 167, 0, 6, 78, 4, 172, 3, 172]
abbrev dktX0_seen_0 : List UInt8 := dkwX0_seen_0 ++ []
theorem dksX0_seen_0 : cX0_seen.data.toList.drop 0 = dktX0_seen_0 := by decide +kernel
theorem dX0_seen_0 : decode cX0_seen 0 = .ok (.aload_n 2, 1) := dk_44 (dk_at dksX0_seen_0 0 rfl rfl)
theorem dX0_seen_1 : decode cX0_seen 1 = .ok (.iconst 0, 1) := dk_3 (dk_at dksX0_seen_0 1 rfl rfl)
theorem dX0_seen_2 : decode cX0_seen 2 = .ok (.aload_n 0, 1) := dk_42 (dk_at dksX0_seen_0 2 rfl rfl)
theorem dX0_seen_3 : decode cX0_seen 3 = .ok (.iload_n 1, 1) := dk_27 (dk_at dksX0_seen_0 3 rfl rfl)
theorem dX0_seen_4 : decode cX0_seen 4 = .ok (.invokevirtual 30, 3) := dk_182 0 30 (dk_at dksX0_seen_0 4 rfl rfl)
theorem dX0_seen_7 : decode cX0_seen 7 = .ok (.lastore, 1) := dk_80 (dk_at dksX0_seen_0 7 rfl rfl)
theorem dX0_seen_8 : decode cX0_seen 8 = .ok (.goto 6, 3) := dk_167 0 6 (dk_at dksX0_seen_0 8 rfl rfl)
theorem dX0_seen_11 : decode cX0_seen 11 = .ok (.astore_n 3, 1) := dk_78 (dk_at dksX0_seen_0 11 rfl rfl)
theorem dX0_seen_12 : decode cX0_seen 12 = .ok (.iconst 1, 1) := dk_4 (dk_at dksX0_seen_0 12 rfl rfl)
theorem dX0_seen_13 : decode cX0_seen 13 = .ok (.ireturn, 1) := dk_172 (dk_at dksX0_seen_0 13 rfl rfl)
theorem dX0_seen_14 : decode cX0_seen 14 = .ok (.iconst 0, 1) := dk_3 (dk_at dksX0_seen_0 14 rfl rfl)
theorem dX0_seen_15 : decode cX0_seen 15 = .ok (.ireturn, 1) := dk_172 (dk_at dksX0_seen_0 15 rfl rfl)
abbrev cX0_left : ByteArray := method_9_code
def yX0_left : MethodName := ⟨RX0, "left", "(LLotBeliefs;I[J)I"⟩
def dkwX0_left_0 : List UInt8 := [44, 3, 42, 27, 182, 0, 33, 80, 167, 0, 6, 78, 4, 172, 3, 172]
abbrev dktX0_left_0 : List UInt8 := dkwX0_left_0 ++ []
theorem dksX0_left_0 : cX0_left.data.toList.drop 0 = dktX0_left_0 := by decide +kernel
theorem dX0_left_0 : decode cX0_left 0 = .ok (.aload_n 2, 1) := dk_44 (dk_at dksX0_left_0 0 rfl rfl)
theorem dX0_left_1 : decode cX0_left 1 = .ok (.iconst 0, 1) := dk_3 (dk_at dksX0_left_0 1 rfl rfl)
theorem dX0_left_2 : decode cX0_left 2 = .ok (.aload_n 0, 1) := dk_42 (dk_at dksX0_left_0 2 rfl rfl)
theorem dX0_left_3 : decode cX0_left 3 = .ok (.iload_n 1, 1) := dk_27 (dk_at dksX0_left_0 3 rfl rfl)
theorem dX0_left_4 : decode cX0_left 4 = .ok (.invokevirtual 33, 3) := dk_182 0 33 (dk_at dksX0_left_0 4 rfl rfl)
theorem dX0_left_7 : decode cX0_left 7 = .ok (.lastore, 1) := dk_80 (dk_at dksX0_left_0 7 rfl rfl)
theorem dX0_left_8 : decode cX0_left 8 = .ok (.goto 6, 3) := dk_167 0 6 (dk_at dksX0_left_0 8 rfl rfl)
theorem dX0_left_11 : decode cX0_left 11 = .ok (.astore_n 3, 1) := dk_78 (dk_at dksX0_left_0 11 rfl rfl)
theorem dX0_left_12 : decode cX0_left 12 = .ok (.iconst 1, 1) := dk_4 (dk_at dksX0_left_0 12 rfl rfl)
theorem dX0_left_13 : decode cX0_left 13 = .ok (.ireturn, 1) := dk_172 (dk_at dksX0_left_0 13 rfl rfl)
theorem dX0_left_14 : decode cX0_left 14 = .ok (.iconst 0, 1) := dk_3 (dk_at dksX0_left_0 14 rfl rfl)
theorem dX0_left_15 : decode cX0_left 15 = .ok (.ireturn, 1) := dk_172 (dk_at dksX0_left_0 15 rfl rfl)
abbrev cX0_kin : ByteArray := method_10_code
def yX0_kin : MethodName := ⟨RX0, "kin", "(LLotBeliefs;II[J)I"⟩
def dkwX0_kin_0 : List UInt8 := [45, 3, 42, 27, 28, 182, 0, 36, 133, 80, 167, 0, 7, 58, 4, 4, 172, 3, 172]
abbrev dktX0_kin_0 : List UInt8 := dkwX0_kin_0 ++ []
theorem dksX0_kin_0 : cX0_kin.data.toList.drop 0 = dktX0_kin_0 := by decide +kernel
theorem dX0_kin_0 : decode cX0_kin 0 = .ok (.aload_n 3, 1) := dk_45 (dk_at dksX0_kin_0 0 rfl rfl)
theorem dX0_kin_1 : decode cX0_kin 1 = .ok (.iconst 0, 1) := dk_3 (dk_at dksX0_kin_0 1 rfl rfl)
theorem dX0_kin_2 : decode cX0_kin 2 = .ok (.aload_n 0, 1) := dk_42 (dk_at dksX0_kin_0 2 rfl rfl)
theorem dX0_kin_3 : decode cX0_kin 3 = .ok (.iload_n 1, 1) := dk_27 (dk_at dksX0_kin_0 3 rfl rfl)
theorem dX0_kin_4 : decode cX0_kin 4 = .ok (.iload_n 2, 1) := dk_28 (dk_at dksX0_kin_0 4 rfl rfl)
theorem dX0_kin_5 : decode cX0_kin 5 = .ok (.invokevirtual 36, 3) := dk_182 0 36 (dk_at dksX0_kin_0 5 rfl rfl)
theorem dX0_kin_8 : decode cX0_kin 8 = .ok (.i2l, 1) := dk_133 (dk_at dksX0_kin_0 8 rfl rfl)
theorem dX0_kin_9 : decode cX0_kin 9 = .ok (.lastore, 1) := dk_80 (dk_at dksX0_kin_0 9 rfl rfl)
theorem dX0_kin_10 : decode cX0_kin 10 = .ok (.goto 7, 3) := dk_167 0 7 (dk_at dksX0_kin_0 10 rfl rfl)
theorem dX0_kin_13 : decode cX0_kin 13 = .ok (.astore 4, 2) := dk_58 4 (dk_at dksX0_kin_0 13 rfl rfl)
theorem dX0_kin_15 : decode cX0_kin 15 = .ok (.iconst 1, 1) := dk_4 (dk_at dksX0_kin_0 15 rfl rfl)
theorem dX0_kin_16 : decode cX0_kin 16 = .ok (.ireturn, 1) := dk_172 (dk_at dksX0_kin_0 16 rfl rfl)
theorem dX0_kin_17 : decode cX0_kin 17 = .ok (.iconst 0, 1) := dk_3 (dk_at dksX0_kin_0 17 rfl rfl)
theorem dX0_kin_18 : decode cX0_kin 18 = .ok (.ireturn, 1) := dk_172 (dk_at dksX0_kin_0 18 rfl rfl)
abbrev cX0_fallOut : ByteArray := method_11_code
def yX0_fallOut : MethodName := ⟨RX0, "fallOut", "(LLotBeliefs;III[J)I"⟩
def dkwX0_fallOut_1 : List UInt8 := [4, 172, 58, 5, 5, 172, 3, 172]
abbrev dktX0_fallOut_1 : List UInt8 := dkwX0_fallOut_1 ++ []
def dkwX0_fallOut_0 : List UInt8 := [25, 4, 3, 42, 27, 28, 29, 182, 0, 40, 153, 0, 7, 10, 167, 0, 4, 9, 80, 167, 0, 11, 58, 5]
abbrev dktX0_fallOut_0 : List UInt8 := dkwX0_fallOut_0 ++ dktX0_fallOut_1
theorem dksX0_fallOut_0 : cX0_fallOut.data.toList.drop 0 = dktX0_fallOut_0 := by decide +kernel
theorem dksX0_fallOut_1 : cX0_fallOut.data.toList.drop 24 = dktX0_fallOut_1 := dk_seg dksX0_fallOut_0 24 rfl rfl
theorem dX0_fallOut_0 : decode cX0_fallOut 0 = .ok (.aload 4, 2) := dk_25 4 (dk_at dksX0_fallOut_0 0 rfl rfl)
theorem dX0_fallOut_2 : decode cX0_fallOut 2 = .ok (.iconst 0, 1) := dk_3 (dk_at dksX0_fallOut_0 2 rfl rfl)
theorem dX0_fallOut_3 : decode cX0_fallOut 3 = .ok (.aload_n 0, 1) := dk_42 (dk_at dksX0_fallOut_0 3 rfl rfl)
theorem dX0_fallOut_4 : decode cX0_fallOut 4 = .ok (.iload_n 1, 1) := dk_27 (dk_at dksX0_fallOut_0 4 rfl rfl)
theorem dX0_fallOut_5 : decode cX0_fallOut 5 = .ok (.iload_n 2, 1) := dk_28 (dk_at dksX0_fallOut_0 5 rfl rfl)
theorem dX0_fallOut_6 : decode cX0_fallOut 6 = .ok (.iload_n 3, 1) := dk_29 (dk_at dksX0_fallOut_0 6 rfl rfl)
theorem dX0_fallOut_7 : decode cX0_fallOut 7 = .ok (.invokevirtual 40, 3) := dk_182 0 40 (dk_at dksX0_fallOut_0 7 rfl rfl)
theorem dX0_fallOut_10 : decode cX0_fallOut 10 = .ok (.ifCond .eq 7, 3) := dk_153 0 7 (dk_at dksX0_fallOut_0 10 rfl rfl)
theorem dX0_fallOut_13 : decode cX0_fallOut 13 = .ok (.lconst 1, 1) := dk_10 (dk_at dksX0_fallOut_0 13 rfl rfl)
theorem dX0_fallOut_14 : decode cX0_fallOut 14 = .ok (.goto 4, 3) := dk_167 0 4 (dk_at dksX0_fallOut_0 14 rfl rfl)
theorem dX0_fallOut_17 : decode cX0_fallOut 17 = .ok (.lconst 0, 1) := dk_9 (dk_at dksX0_fallOut_0 17 rfl rfl)
theorem dX0_fallOut_18 : decode cX0_fallOut 18 = .ok (.lastore, 1) := dk_80 (dk_at dksX0_fallOut_0 18 rfl rfl)
theorem dX0_fallOut_19 : decode cX0_fallOut 19 = .ok (.goto 11, 3) := dk_167 0 11 (dk_at dksX0_fallOut_0 19 rfl rfl)
theorem dX0_fallOut_22 : decode cX0_fallOut 22 = .ok (.astore 5, 2) := dk_58 5 (dk_at dksX0_fallOut_0 22 rfl rfl)
theorem dX0_fallOut_24 : decode cX0_fallOut 24 = .ok (.iconst 1, 1) := dk_4 (dk_at dksX0_fallOut_1 0 rfl rfl)
theorem dX0_fallOut_25 : decode cX0_fallOut 25 = .ok (.ireturn, 1) := dk_172 (dk_at dksX0_fallOut_1 1 rfl rfl)
theorem dX0_fallOut_26 : decode cX0_fallOut 26 = .ok (.astore 5, 2) := dk_58 5 (dk_at dksX0_fallOut_1 2 rfl rfl)
theorem dX0_fallOut_28 : decode cX0_fallOut 28 = .ok (.iconst 2, 1) := dk_5 (dk_at dksX0_fallOut_1 4 rfl rfl)
theorem dX0_fallOut_29 : decode cX0_fallOut 29 = .ok (.ireturn, 1) := dk_172 (dk_at dksX0_fallOut_1 5 rfl rfl)
theorem dX0_fallOut_30 : decode cX0_fallOut 30 = .ok (.iconst 0, 1) := dk_3 (dk_at dksX0_fallOut_1 6 rfl rfl)
theorem dX0_fallOut_31 : decode cX0_fallOut 31 = .ok (.ireturn, 1) := dk_172 (dk_at dksX0_fallOut_1 7 rfl rfl)
abbrev cX0_law : ByteArray := method_12_code
def yX0_law : MethodName := ⟨RX0, "law", "(LLotBeliefs;I[J)I"⟩
def dkwX0_law_0 : List UInt8 := [44, 3, 42, 27, 182, 0, 44, 133, 80, 167, 0, 6, 78, 4, 172, 3, 172]
abbrev dktX0_law_0 : List UInt8 := dkwX0_law_0 ++ []
theorem dksX0_law_0 : cX0_law.data.toList.drop 0 = dktX0_law_0 := by decide +kernel
theorem dX0_law_0 : decode cX0_law 0 = .ok (.aload_n 2, 1) := dk_44 (dk_at dksX0_law_0 0 rfl rfl)
theorem dX0_law_1 : decode cX0_law 1 = .ok (.iconst 0, 1) := dk_3 (dk_at dksX0_law_0 1 rfl rfl)
theorem dX0_law_2 : decode cX0_law 2 = .ok (.aload_n 0, 1) := dk_42 (dk_at dksX0_law_0 2 rfl rfl)
theorem dX0_law_3 : decode cX0_law 3 = .ok (.iload_n 1, 1) := dk_27 (dk_at dksX0_law_0 3 rfl rfl)
theorem dX0_law_4 : decode cX0_law 4 = .ok (.invokevirtual 44, 3) := dk_182 0 44 (dk_at dksX0_law_0 4 rfl rfl)
theorem dX0_law_7 : decode cX0_law 7 = .ok (.i2l, 1) := dk_133 (dk_at dksX0_law_0 7 rfl rfl)
theorem dX0_law_8 : decode cX0_law 8 = .ok (.lastore, 1) := dk_80 (dk_at dksX0_law_0 8 rfl rfl)
theorem dX0_law_9 : decode cX0_law 9 = .ok (.goto 6, 3) := dk_167 0 6 (dk_at dksX0_law_0 9 rfl rfl)
theorem dX0_law_12 : decode cX0_law 12 = .ok (.astore_n 3, 1) := dk_78 (dk_at dksX0_law_0 12 rfl rfl)
theorem dX0_law_13 : decode cX0_law 13 = .ok (.iconst 1, 1) := dk_4 (dk_at dksX0_law_0 13 rfl rfl)
theorem dX0_law_14 : decode cX0_law 14 = .ok (.ireturn, 1) := dk_172 (dk_at dksX0_law_0 14 rfl rfl)
theorem dX0_law_15 : decode cX0_law 15 = .ok (.iconst 0, 1) := dk_3 (dk_at dksX0_law_0 15 rfl rfl)
theorem dX0_law_16 : decode cX0_law 16 = .ok (.ireturn, 1) := dk_172 (dk_at dksX0_law_0 16 rfl rfl)
abbrev cX0_world : ByteArray := method_13_code
def yX0_world : MethodName := ⟨RX0, "world", "(LLotBeliefs;I[J)I"⟩
def dkwX0_world_0 : List UInt8 := [44, 3, 42, 27, 182, 0, 47, 133, 80, 167, 0, 6, 78, 4, 172, 3, 172]
abbrev dktX0_world_0 : List UInt8 := dkwX0_world_0 ++ []
theorem dksX0_world_0 : cX0_world.data.toList.drop 0 = dktX0_world_0 := by decide +kernel
theorem dX0_world_0 : decode cX0_world 0 = .ok (.aload_n 2, 1) := dk_44 (dk_at dksX0_world_0 0 rfl rfl)
theorem dX0_world_1 : decode cX0_world 1 = .ok (.iconst 0, 1) := dk_3 (dk_at dksX0_world_0 1 rfl rfl)
theorem dX0_world_2 : decode cX0_world 2 = .ok (.aload_n 0, 1) := dk_42 (dk_at dksX0_world_0 2 rfl rfl)
theorem dX0_world_3 : decode cX0_world 3 = .ok (.iload_n 1, 1) := dk_27 (dk_at dksX0_world_0 3 rfl rfl)
theorem dX0_world_4 : decode cX0_world 4 = .ok (.invokevirtual 47, 3) := dk_182 0 47 (dk_at dksX0_world_0 4 rfl rfl)
theorem dX0_world_7 : decode cX0_world 7 = .ok (.i2l, 1) := dk_133 (dk_at dksX0_world_0 7 rfl rfl)
theorem dX0_world_8 : decode cX0_world 8 = .ok (.lastore, 1) := dk_80 (dk_at dksX0_world_0 8 rfl rfl)
theorem dX0_world_9 : decode cX0_world 9 = .ok (.goto 6, 3) := dk_167 0 6 (dk_at dksX0_world_0 9 rfl rfl)
theorem dX0_world_12 : decode cX0_world 12 = .ok (.astore_n 3, 1) := dk_78 (dk_at dksX0_world_0 12 rfl rfl)
theorem dX0_world_13 : decode cX0_world 13 = .ok (.iconst 1, 1) := dk_4 (dk_at dksX0_world_0 13 rfl rfl)
theorem dX0_world_14 : decode cX0_world 14 = .ok (.ireturn, 1) := dk_172 (dk_at dksX0_world_0 14 rfl rfl)
theorem dX0_world_15 : decode cX0_world 15 = .ok (.iconst 0, 1) := dk_3 (dk_at dksX0_world_0 15 rfl rfl)
theorem dX0_world_16 : decode cX0_world 16 = .ok (.ireturn, 1) := dk_172 (dk_at dksX0_world_0 16 rfl rfl)
abbrev cX0_held : ByteArray := method_14_code
def yX0_held : MethodName := ⟨RX0, "held", "(LLotBeliefs;I[J)I"⟩
def dkwX0_held_0 : List UInt8 := [44, 3, 42, 27, 182, 0, 50, 133, 80, 167, 0, 6, 78, 4, 172, 3, 172]
abbrev dktX0_held_0 : List UInt8 := dkwX0_held_0 ++ []
theorem dksX0_held_0 : cX0_held.data.toList.drop 0 = dktX0_held_0 := by decide +kernel
theorem dX0_held_0 : decode cX0_held 0 = .ok (.aload_n 2, 1) := dk_44 (dk_at dksX0_held_0 0 rfl rfl)
theorem dX0_held_1 : decode cX0_held 1 = .ok (.iconst 0, 1) := dk_3 (dk_at dksX0_held_0 1 rfl rfl)
theorem dX0_held_2 : decode cX0_held 2 = .ok (.aload_n 0, 1) := dk_42 (dk_at dksX0_held_0 2 rfl rfl)
theorem dX0_held_3 : decode cX0_held 3 = .ok (.iload_n 1, 1) := dk_27 (dk_at dksX0_held_0 3 rfl rfl)
theorem dX0_held_4 : decode cX0_held 4 = .ok (.invokevirtual 50, 3) := dk_182 0 50 (dk_at dksX0_held_0 4 rfl rfl)
theorem dX0_held_7 : decode cX0_held 7 = .ok (.i2l, 1) := dk_133 (dk_at dksX0_held_0 7 rfl rfl)
theorem dX0_held_8 : decode cX0_held 8 = .ok (.lastore, 1) := dk_80 (dk_at dksX0_held_0 8 rfl rfl)
theorem dX0_held_9 : decode cX0_held 9 = .ok (.goto 6, 3) := dk_167 0 6 (dk_at dksX0_held_0 9 rfl rfl)
theorem dX0_held_12 : decode cX0_held 12 = .ok (.astore_n 3, 1) := dk_78 (dk_at dksX0_held_0 12 rfl rfl)
theorem dX0_held_13 : decode cX0_held 13 = .ok (.iconst 1, 1) := dk_4 (dk_at dksX0_held_0 13 rfl rfl)
theorem dX0_held_14 : decode cX0_held 14 = .ok (.ireturn, 1) := dk_172 (dk_at dksX0_held_0 14 rfl rfl)
theorem dX0_held_15 : decode cX0_held 15 = .ok (.iconst 0, 1) := dk_3 (dk_at dksX0_held_0 15 rfl rfl)
theorem dX0_held_16 : decode cX0_held 16 = .ok (.ireturn, 1) := dk_172 (dk_at dksX0_held_0 16 rfl rfl)
abbrev cX0_fate : ByteArray := method_15_code
def yX0_fate : MethodName := ⟨RX0, "fate", "(LLotBeliefs;II[J)I"⟩
def dkwX0_fate_0 : List UInt8 := [45, 3, 42, 27, 28, 182, 0, 53, 133, 80, 167, 0, 11, 58, 4, 4, 172, 58, 4, 5, 172, 3, 172]
abbrev dktX0_fate_0 : List UInt8 := dkwX0_fate_0 ++ []
theorem dksX0_fate_0 : cX0_fate.data.toList.drop 0 = dktX0_fate_0 := by decide +kernel
theorem dX0_fate_0 : decode cX0_fate 0 = .ok (.aload_n 3, 1) := dk_45 (dk_at dksX0_fate_0 0 rfl rfl)
theorem dX0_fate_1 : decode cX0_fate 1 = .ok (.iconst 0, 1) := dk_3 (dk_at dksX0_fate_0 1 rfl rfl)
theorem dX0_fate_2 : decode cX0_fate 2 = .ok (.aload_n 0, 1) := dk_42 (dk_at dksX0_fate_0 2 rfl rfl)
theorem dX0_fate_3 : decode cX0_fate 3 = .ok (.iload_n 1, 1) := dk_27 (dk_at dksX0_fate_0 3 rfl rfl)
theorem dX0_fate_4 : decode cX0_fate 4 = .ok (.iload_n 2, 1) := dk_28 (dk_at dksX0_fate_0 4 rfl rfl)
theorem dX0_fate_5 : decode cX0_fate 5 = .ok (.invokevirtual 53, 3) := dk_182 0 53 (dk_at dksX0_fate_0 5 rfl rfl)
theorem dX0_fate_8 : decode cX0_fate 8 = .ok (.i2l, 1) := dk_133 (dk_at dksX0_fate_0 8 rfl rfl)
theorem dX0_fate_9 : decode cX0_fate 9 = .ok (.lastore, 1) := dk_80 (dk_at dksX0_fate_0 9 rfl rfl)
theorem dX0_fate_10 : decode cX0_fate 10 = .ok (.goto 11, 3) := dk_167 0 11 (dk_at dksX0_fate_0 10 rfl rfl)
theorem dX0_fate_13 : decode cX0_fate 13 = .ok (.astore 4, 2) := dk_58 4 (dk_at dksX0_fate_0 13 rfl rfl)
theorem dX0_fate_15 : decode cX0_fate 15 = .ok (.iconst 1, 1) := dk_4 (dk_at dksX0_fate_0 15 rfl rfl)
theorem dX0_fate_16 : decode cX0_fate 16 = .ok (.ireturn, 1) := dk_172 (dk_at dksX0_fate_0 16 rfl rfl)
theorem dX0_fate_17 : decode cX0_fate 17 = .ok (.astore 4, 2) := dk_58 4 (dk_at dksX0_fate_0 17 rfl rfl)
theorem dX0_fate_19 : decode cX0_fate 19 = .ok (.iconst 2, 1) := dk_5 (dk_at dksX0_fate_0 19 rfl rfl)
theorem dX0_fate_20 : decode cX0_fate 20 = .ok (.ireturn, 1) := dk_172 (dk_at dksX0_fate_0 20 rfl rfl)
theorem dX0_fate_21 : decode cX0_fate 21 = .ok (.iconst 0, 1) := dk_3 (dk_at dksX0_fate_0 21 rfl rfl)
theorem dX0_fate_22 : decode cX0_fate 22 = .ok (.ireturn, 1) := dk_172 (dk_at dksX0_fate_0 22 rfl rfl)
abbrev cX0_year : ByteArray := method_16_code
def yX0_year : MethodName := ⟨RX0, "year", "(LLotBeliefs;I[J)I"⟩
def dkwX0_year_0 : List UInt8 := [44, 3, 42, 27, 182, 0, 56, 133, 80, 167, 0, 6, 78, 4, 172, 3, 172]
abbrev dktX0_year_0 : List UInt8 := dkwX0_year_0 ++ []
theorem dksX0_year_0 : cX0_year.data.toList.drop 0 = dktX0_year_0 := by decide +kernel
theorem dX0_year_0 : decode cX0_year 0 = .ok (.aload_n 2, 1) := dk_44 (dk_at dksX0_year_0 0 rfl rfl)
theorem dX0_year_1 : decode cX0_year 1 = .ok (.iconst 0, 1) := dk_3 (dk_at dksX0_year_0 1 rfl rfl)
theorem dX0_year_2 : decode cX0_year 2 = .ok (.aload_n 0, 1) := dk_42 (dk_at dksX0_year_0 2 rfl rfl)
theorem dX0_year_3 : decode cX0_year 3 = .ok (.iload_n 1, 1) := dk_27 (dk_at dksX0_year_0 3 rfl rfl)
theorem dX0_year_4 : decode cX0_year 4 = .ok (.invokevirtual 56, 3) := dk_182 0 56 (dk_at dksX0_year_0 4 rfl rfl)
theorem dX0_year_7 : decode cX0_year 7 = .ok (.i2l, 1) := dk_133 (dk_at dksX0_year_0 7 rfl rfl)
theorem dX0_year_8 : decode cX0_year 8 = .ok (.lastore, 1) := dk_80 (dk_at dksX0_year_0 8 rfl rfl)
theorem dX0_year_9 : decode cX0_year 9 = .ok (.goto 6, 3) := dk_167 0 6 (dk_at dksX0_year_0 9 rfl rfl)
theorem dX0_year_12 : decode cX0_year 12 = .ok (.astore_n 3, 1) := dk_78 (dk_at dksX0_year_0 12 rfl rfl)
theorem dX0_year_13 : decode cX0_year 13 = .ok (.iconst 1, 1) := dk_4 (dk_at dksX0_year_0 13 rfl rfl)
theorem dX0_year_14 : decode cX0_year 14 = .ok (.ireturn, 1) := dk_172 (dk_at dksX0_year_0 14 rfl rfl)
theorem dX0_year_15 : decode cX0_year 15 = .ok (.iconst 0, 1) := dk_3 (dk_at dksX0_year_0 15 rfl rfl)
theorem dX0_year_16 : decode cX0_year 16 = .ok (.ireturn, 1) := dk_172 (dk_at dksX0_year_0 16 rfl rfl)
abbrev cX0_ends : ByteArray := method_17_code
def yX0_ends : MethodName := ⟨RX0, "ends", "(LLotBeliefs;I[J)I"⟩
def dkwX0_ends_0 : List UInt8 := [44, 3, 42, 27, 182, 0, 59, 133, 80, 167, 0, 9, 78, 4, 172, 78, 5, 172, 3, 172]
abbrev dktX0_ends_0 : List UInt8 := dkwX0_ends_0 ++ []
theorem dksX0_ends_0 : cX0_ends.data.toList.drop 0 = dktX0_ends_0 := by decide +kernel
theorem dX0_ends_0 : decode cX0_ends 0 = .ok (.aload_n 2, 1) := dk_44 (dk_at dksX0_ends_0 0 rfl rfl)
theorem dX0_ends_1 : decode cX0_ends 1 = .ok (.iconst 0, 1) := dk_3 (dk_at dksX0_ends_0 1 rfl rfl)
theorem dX0_ends_2 : decode cX0_ends 2 = .ok (.aload_n 0, 1) := dk_42 (dk_at dksX0_ends_0 2 rfl rfl)
theorem dX0_ends_3 : decode cX0_ends 3 = .ok (.iload_n 1, 1) := dk_27 (dk_at dksX0_ends_0 3 rfl rfl)
theorem dX0_ends_4 : decode cX0_ends 4 = .ok (.invokevirtual 59, 3) := dk_182 0 59 (dk_at dksX0_ends_0 4 rfl rfl)
theorem dX0_ends_7 : decode cX0_ends 7 = .ok (.i2l, 1) := dk_133 (dk_at dksX0_ends_0 7 rfl rfl)
theorem dX0_ends_8 : decode cX0_ends 8 = .ok (.lastore, 1) := dk_80 (dk_at dksX0_ends_0 8 rfl rfl)
theorem dX0_ends_9 : decode cX0_ends 9 = .ok (.goto 9, 3) := dk_167 0 9 (dk_at dksX0_ends_0 9 rfl rfl)
theorem dX0_ends_12 : decode cX0_ends 12 = .ok (.astore_n 3, 1) := dk_78 (dk_at dksX0_ends_0 12 rfl rfl)
theorem dX0_ends_13 : decode cX0_ends 13 = .ok (.iconst 1, 1) := dk_4 (dk_at dksX0_ends_0 13 rfl rfl)
theorem dX0_ends_14 : decode cX0_ends 14 = .ok (.ireturn, 1) := dk_172 (dk_at dksX0_ends_0 14 rfl rfl)
theorem dX0_ends_15 : decode cX0_ends 15 = .ok (.astore_n 3, 1) := dk_78 (dk_at dksX0_ends_0 15 rfl rfl)
theorem dX0_ends_16 : decode cX0_ends 16 = .ok (.iconst 2, 1) := dk_5 (dk_at dksX0_ends_0 16 rfl rfl)
theorem dX0_ends_17 : decode cX0_ends 17 = .ok (.ireturn, 1) := dk_172 (dk_at dksX0_ends_0 17 rfl rfl)
theorem dX0_ends_18 : decode cX0_ends 18 = .ok (.iconst 0, 1) := dk_3 (dk_at dksX0_ends_0 18 rfl rfl)
theorem dX0_ends_19 : decode cX0_ends 19 = .ok (.ireturn, 1) := dk_172 (dk_at dksX0_ends_0 19 rfl rfl)
abbrev cX0_orders : ByteArray := method_18_code
def yX0_orders : MethodName := ⟨RX0, "orders", "(LLotBeliefs;I[J)I"⟩
def dkwX0_orders_0 : List UInt8 := [44, 3, 42, 27, 182, 0, 64, 133, 80, 167, 0, 9, 78, 4, 172, 78, 5, 172, 3, 172]
abbrev dktX0_orders_0 : List UInt8 := dkwX0_orders_0 ++ []
theorem dksX0_orders_0 : cX0_orders.data.toList.drop 0 = dktX0_orders_0 := by decide +kernel
theorem dX0_orders_0 : decode cX0_orders 0 = .ok (.aload_n 2, 1) := dk_44 (dk_at dksX0_orders_0 0 rfl rfl)
theorem dX0_orders_1 : decode cX0_orders 1 = .ok (.iconst 0, 1) := dk_3 (dk_at dksX0_orders_0 1 rfl rfl)
theorem dX0_orders_2 : decode cX0_orders 2 = .ok (.aload_n 0, 1) := dk_42 (dk_at dksX0_orders_0 2 rfl rfl)
theorem dX0_orders_3 : decode cX0_orders 3 = .ok (.iload_n 1, 1) := dk_27 (dk_at dksX0_orders_0 3 rfl rfl)
theorem dX0_orders_4 : decode cX0_orders 4 = .ok (.invokevirtual 64, 3) := dk_182 0 64 (dk_at dksX0_orders_0 4 rfl rfl)
theorem dX0_orders_7 : decode cX0_orders 7 = .ok (.i2l, 1) := dk_133 (dk_at dksX0_orders_0 7 rfl rfl)
theorem dX0_orders_8 : decode cX0_orders 8 = .ok (.lastore, 1) := dk_80 (dk_at dksX0_orders_0 8 rfl rfl)
theorem dX0_orders_9 : decode cX0_orders 9 = .ok (.goto 9, 3) := dk_167 0 9 (dk_at dksX0_orders_0 9 rfl rfl)
theorem dX0_orders_12 : decode cX0_orders 12 = .ok (.astore_n 3, 1) := dk_78 (dk_at dksX0_orders_0 12 rfl rfl)
theorem dX0_orders_13 : decode cX0_orders 13 = .ok (.iconst 1, 1) := dk_4 (dk_at dksX0_orders_0 13 rfl rfl)
theorem dX0_orders_14 : decode cX0_orders 14 = .ok (.ireturn, 1) := dk_172 (dk_at dksX0_orders_0 14 rfl rfl)
theorem dX0_orders_15 : decode cX0_orders 15 = .ok (.astore_n 3, 1) := dk_78 (dk_at dksX0_orders_0 15 rfl rfl)
theorem dX0_orders_16 : decode cX0_orders 16 = .ok (.iconst 2, 1) := dk_5 (dk_at dksX0_orders_0 16 rfl rfl)
theorem dX0_orders_17 : decode cX0_orders 17 = .ok (.ireturn, 1) := dk_172 (dk_at dksX0_orders_0 17 rfl rfl)
theorem dX0_orders_18 : decode cX0_orders 18 = .ok (.iconst 0, 1) := dk_3 (dk_at dksX0_orders_0 18 rfl rfl)
theorem dX0_orders_19 : decode cX0_orders 19 = .ok (.ireturn, 1) := dk_172 (dk_at dksX0_orders_0 19 rfl rfl)
abbrev cX0_best : ByteArray := method_19_code
def yX0_best : MethodName := ⟨RX0, "best", "(LLotBeliefs;[J)I"⟩
def dkwX0_best_0 : List UInt8 := [43, 3, 42, 182, 0, 67, 133, 80, 167, 0, 6, 77, 4, 172, 3, 172]
abbrev dktX0_best_0 : List UInt8 := dkwX0_best_0 ++ []
theorem dksX0_best_0 : cX0_best.data.toList.drop 0 = dktX0_best_0 := by decide +kernel
theorem dX0_best_0 : decode cX0_best 0 = .ok (.aload_n 1, 1) := dk_43 (dk_at dksX0_best_0 0 rfl rfl)
theorem dX0_best_1 : decode cX0_best 1 = .ok (.iconst 0, 1) := dk_3 (dk_at dksX0_best_0 1 rfl rfl)
theorem dX0_best_2 : decode cX0_best 2 = .ok (.aload_n 0, 1) := dk_42 (dk_at dksX0_best_0 2 rfl rfl)
theorem dX0_best_3 : decode cX0_best 3 = .ok (.invokevirtual 67, 3) := dk_182 0 67 (dk_at dksX0_best_0 3 rfl rfl)
theorem dX0_best_6 : decode cX0_best 6 = .ok (.i2l, 1) := dk_133 (dk_at dksX0_best_0 6 rfl rfl)
theorem dX0_best_7 : decode cX0_best 7 = .ok (.lastore, 1) := dk_80 (dk_at dksX0_best_0 7 rfl rfl)
theorem dX0_best_8 : decode cX0_best 8 = .ok (.goto 6, 3) := dk_167 0 6 (dk_at dksX0_best_0 8 rfl rfl)
theorem dX0_best_11 : decode cX0_best 11 = .ok (.astore_n 2, 1) := dk_77 (dk_at dksX0_best_0 11 rfl rfl)
theorem dX0_best_12 : decode cX0_best 12 = .ok (.iconst 1, 1) := dk_4 (dk_at dksX0_best_0 12 rfl rfl)
theorem dX0_best_13 : decode cX0_best 13 = .ok (.ireturn, 1) := dk_172 (dk_at dksX0_best_0 13 rfl rfl)
theorem dX0_best_14 : decode cX0_best 14 = .ok (.iconst 0, 1) := dk_3 (dk_at dksX0_best_0 14 rfl rfl)
theorem dX0_best_15 : decode cX0_best 15 = .ok (.ireturn, 1) := dk_172 (dk_at dksX0_best_0 15 rfl rfl)
abbrev cX0_fits : ByteArray := method_20_code
def yX0_fits : MethodName := ⟨RX0, "fits", "(LLotBeliefs;II[J)I"⟩
def dkwX0_fits_1 : List UInt8 := [3, 172]
abbrev dktX0_fits_1 : List UInt8 := dkwX0_fits_1 ++ []
def dkwX0_fits_0 : List UInt8 := [45, 3, 42, 27, 28, 182, 0, 71, 153, 0, 7, 10, 167, 0, 4, 9, 80, 167, 0, 7, 58, 4, 4, 172]
abbrev dktX0_fits_0 : List UInt8 := dkwX0_fits_0 ++ dktX0_fits_1
theorem dksX0_fits_0 : cX0_fits.data.toList.drop 0 = dktX0_fits_0 := by decide +kernel
theorem dksX0_fits_1 : cX0_fits.data.toList.drop 24 = dktX0_fits_1 := dk_seg dksX0_fits_0 24 rfl rfl
theorem dX0_fits_0 : decode cX0_fits 0 = .ok (.aload_n 3, 1) := dk_45 (dk_at dksX0_fits_0 0 rfl rfl)
theorem dX0_fits_1 : decode cX0_fits 1 = .ok (.iconst 0, 1) := dk_3 (dk_at dksX0_fits_0 1 rfl rfl)
theorem dX0_fits_2 : decode cX0_fits 2 = .ok (.aload_n 0, 1) := dk_42 (dk_at dksX0_fits_0 2 rfl rfl)
theorem dX0_fits_3 : decode cX0_fits 3 = .ok (.iload_n 1, 1) := dk_27 (dk_at dksX0_fits_0 3 rfl rfl)
theorem dX0_fits_4 : decode cX0_fits 4 = .ok (.iload_n 2, 1) := dk_28 (dk_at dksX0_fits_0 4 rfl rfl)
theorem dX0_fits_5 : decode cX0_fits 5 = .ok (.invokevirtual 71, 3) := dk_182 0 71 (dk_at dksX0_fits_0 5 rfl rfl)
theorem dX0_fits_8 : decode cX0_fits 8 = .ok (.ifCond .eq 7, 3) := dk_153 0 7 (dk_at dksX0_fits_0 8 rfl rfl)
theorem dX0_fits_11 : decode cX0_fits 11 = .ok (.lconst 1, 1) := dk_10 (dk_at dksX0_fits_0 11 rfl rfl)
theorem dX0_fits_12 : decode cX0_fits 12 = .ok (.goto 4, 3) := dk_167 0 4 (dk_at dksX0_fits_0 12 rfl rfl)
theorem dX0_fits_15 : decode cX0_fits 15 = .ok (.lconst 0, 1) := dk_9 (dk_at dksX0_fits_0 15 rfl rfl)
theorem dX0_fits_16 : decode cX0_fits 16 = .ok (.lastore, 1) := dk_80 (dk_at dksX0_fits_0 16 rfl rfl)
theorem dX0_fits_17 : decode cX0_fits 17 = .ok (.goto 7, 3) := dk_167 0 7 (dk_at dksX0_fits_0 17 rfl rfl)
theorem dX0_fits_20 : decode cX0_fits 20 = .ok (.astore 4, 2) := dk_58 4 (dk_at dksX0_fits_0 20 rfl rfl)
theorem dX0_fits_22 : decode cX0_fits 22 = .ok (.iconst 1, 1) := dk_4 (dk_at dksX0_fits_0 22 rfl rfl)
theorem dX0_fits_23 : decode cX0_fits 23 = .ok (.ireturn, 1) := dk_172 (dk_at dksX0_fits_0 23 rfl rfl)
theorem dX0_fits_24 : decode cX0_fits 24 = .ok (.iconst 0, 1) := dk_3 (dk_at dksX0_fits_1 0 rfl rfl)
theorem dX0_fits_25 : decode cX0_fits 25 = .ok (.ireturn, 1) := dk_172 (dk_at dksX0_fits_1 1 rfl rfl)
abbrev cX0_sets : ByteArray := method_21_code
def yX0_sets : MethodName := ⟨RX0, "sets", "(LLotBeliefs;II[J)I"⟩
def dkwX0_sets_0 : List UInt8 := [45, 3, 42, 27, 28, 182, 0, 75, 133, 80, 167, 0, 7, 58, 4, 4, 172, 3, 172]
abbrev dktX0_sets_0 : List UInt8 := dkwX0_sets_0 ++ []
theorem dksX0_sets_0 : cX0_sets.data.toList.drop 0 = dktX0_sets_0 := by decide +kernel
theorem dX0_sets_0 : decode cX0_sets 0 = .ok (.aload_n 3, 1) := dk_45 (dk_at dksX0_sets_0 0 rfl rfl)
theorem dX0_sets_1 : decode cX0_sets 1 = .ok (.iconst 0, 1) := dk_3 (dk_at dksX0_sets_0 1 rfl rfl)
theorem dX0_sets_2 : decode cX0_sets 2 = .ok (.aload_n 0, 1) := dk_42 (dk_at dksX0_sets_0 2 rfl rfl)
theorem dX0_sets_3 : decode cX0_sets 3 = .ok (.iload_n 1, 1) := dk_27 (dk_at dksX0_sets_0 3 rfl rfl)
theorem dX0_sets_4 : decode cX0_sets 4 = .ok (.iload_n 2, 1) := dk_28 (dk_at dksX0_sets_0 4 rfl rfl)
theorem dX0_sets_5 : decode cX0_sets 5 = .ok (.invokevirtual 75, 3) := dk_182 0 75 (dk_at dksX0_sets_0 5 rfl rfl)
theorem dX0_sets_8 : decode cX0_sets 8 = .ok (.i2l, 1) := dk_133 (dk_at dksX0_sets_0 8 rfl rfl)
theorem dX0_sets_9 : decode cX0_sets 9 = .ok (.lastore, 1) := dk_80 (dk_at dksX0_sets_0 9 rfl rfl)
theorem dX0_sets_10 : decode cX0_sets 10 = .ok (.goto 7, 3) := dk_167 0 7 (dk_at dksX0_sets_0 10 rfl rfl)
theorem dX0_sets_13 : decode cX0_sets 13 = .ok (.astore 4, 2) := dk_58 4 (dk_at dksX0_sets_0 13 rfl rfl)
theorem dX0_sets_15 : decode cX0_sets 15 = .ok (.iconst 1, 1) := dk_4 (dk_at dksX0_sets_0 15 rfl rfl)
theorem dX0_sets_16 : decode cX0_sets 16 = .ok (.ireturn, 1) := dk_172 (dk_at dksX0_sets_0 16 rfl rfl)
theorem dX0_sets_17 : decode cX0_sets 17 = .ok (.iconst 0, 1) := dk_3 (dk_at dksX0_sets_0 17 rfl rfl)
theorem dX0_sets_18 : decode cX0_sets 18 = .ok (.ireturn, 1) := dk_172 (dk_at dksX0_sets_0 18 rfl rfl)
abbrev cX0_whole : ByteArray := method_22_code
def yX0_whole : MethodName := ⟨RX0, "whole", "(LLotBeliefs;II[J)I"⟩
def dkwX0_whole_0 : List UInt8 := [45, 3, 42, 27, 28, 182, 0, 78, 133, 80, 167, 0, 7, 58, 4, 4, 172, 3, 172]
abbrev dktX0_whole_0 : List UInt8 := dkwX0_whole_0 ++ []
theorem dksX0_whole_0 : cX0_whole.data.toList.drop 0 = dktX0_whole_0 := by decide +kernel
theorem dX0_whole_0 : decode cX0_whole 0 = .ok (.aload_n 3, 1) := dk_45 (dk_at dksX0_whole_0 0 rfl rfl)
theorem dX0_whole_1 : decode cX0_whole 1 = .ok (.iconst 0, 1) := dk_3 (dk_at dksX0_whole_0 1 rfl rfl)
theorem dX0_whole_2 : decode cX0_whole 2 = .ok (.aload_n 0, 1) := dk_42 (dk_at dksX0_whole_0 2 rfl rfl)
theorem dX0_whole_3 : decode cX0_whole 3 = .ok (.iload_n 1, 1) := dk_27 (dk_at dksX0_whole_0 3 rfl rfl)
theorem dX0_whole_4 : decode cX0_whole 4 = .ok (.iload_n 2, 1) := dk_28 (dk_at dksX0_whole_0 4 rfl rfl)
theorem dX0_whole_5 : decode cX0_whole 5 = .ok (.invokevirtual 78, 3) := dk_182 0 78 (dk_at dksX0_whole_0 5 rfl rfl)
theorem dX0_whole_8 : decode cX0_whole 8 = .ok (.i2l, 1) := dk_133 (dk_at dksX0_whole_0 8 rfl rfl)
theorem dX0_whole_9 : decode cX0_whole 9 = .ok (.lastore, 1) := dk_80 (dk_at dksX0_whole_0 9 rfl rfl)
theorem dX0_whole_10 : decode cX0_whole 10 = .ok (.goto 7, 3) := dk_167 0 7 (dk_at dksX0_whole_0 10 rfl rfl)
theorem dX0_whole_13 : decode cX0_whole 13 = .ok (.astore 4, 2) := dk_58 4 (dk_at dksX0_whole_0 13 rfl rfl)
theorem dX0_whole_15 : decode cX0_whole 15 = .ok (.iconst 1, 1) := dk_4 (dk_at dksX0_whole_0 15 rfl rfl)
theorem dX0_whole_16 : decode cX0_whole 16 = .ok (.ireturn, 1) := dk_172 (dk_at dksX0_whole_0 16 rfl rfl)
theorem dX0_whole_17 : decode cX0_whole 17 = .ok (.iconst 0, 1) := dk_3 (dk_at dksX0_whole_0 17 rfl rfl)
theorem dX0_whole_18 : decode cX0_whole 18 = .ok (.ireturn, 1) := dk_172 (dk_at dksX0_whole_0 18 rfl rfl)
abbrev cX0_proof : ByteArray := method_23_code
def yX0_proof : MethodName := ⟨RX0, "proof", "(LLotBeliefs;I[J)I"⟩
def dkwX0_proof_0 : List UInt8 := [44, 3, 42, 27, 182, 0, 81, 133, 80, 167, 0, 6, 78, 4, 172, 3, 172]
abbrev dktX0_proof_0 : List UInt8 := dkwX0_proof_0 ++ []
theorem dksX0_proof_0 : cX0_proof.data.toList.drop 0 = dktX0_proof_0 := by decide +kernel
theorem dX0_proof_0 : decode cX0_proof 0 = .ok (.aload_n 2, 1) := dk_44 (dk_at dksX0_proof_0 0 rfl rfl)
theorem dX0_proof_1 : decode cX0_proof 1 = .ok (.iconst 0, 1) := dk_3 (dk_at dksX0_proof_0 1 rfl rfl)
theorem dX0_proof_2 : decode cX0_proof 2 = .ok (.aload_n 0, 1) := dk_42 (dk_at dksX0_proof_0 2 rfl rfl)
theorem dX0_proof_3 : decode cX0_proof 3 = .ok (.iload_n 1, 1) := dk_27 (dk_at dksX0_proof_0 3 rfl rfl)
theorem dX0_proof_4 : decode cX0_proof 4 = .ok (.invokevirtual 81, 3) := dk_182 0 81 (dk_at dksX0_proof_0 4 rfl rfl)
theorem dX0_proof_7 : decode cX0_proof 7 = .ok (.i2l, 1) := dk_133 (dk_at dksX0_proof_0 7 rfl rfl)
theorem dX0_proof_8 : decode cX0_proof 8 = .ok (.lastore, 1) := dk_80 (dk_at dksX0_proof_0 8 rfl rfl)
theorem dX0_proof_9 : decode cX0_proof 9 = .ok (.goto 6, 3) := dk_167 0 6 (dk_at dksX0_proof_0 9 rfl rfl)
theorem dX0_proof_12 : decode cX0_proof 12 = .ok (.astore_n 3, 1) := dk_78 (dk_at dksX0_proof_0 12 rfl rfl)
theorem dX0_proof_13 : decode cX0_proof 13 = .ok (.iconst 1, 1) := dk_4 (dk_at dksX0_proof_0 13 rfl rfl)
theorem dX0_proof_14 : decode cX0_proof 14 = .ok (.ireturn, 1) := dk_172 (dk_at dksX0_proof_0 14 rfl rfl)
theorem dX0_proof_15 : decode cX0_proof 15 = .ok (.iconst 0, 1) := dk_3 (dk_at dksX0_proof_0 15 rfl rfl)
theorem dX0_proof_16 : decode cX0_proof 16 = .ok (.ireturn, 1) := dk_172 (dk_at dksX0_proof_0 16 rfl rfl)
abbrev cX0_split : ByteArray := method_24_code
def yX0_split : MethodName := ⟨RX0, "split", "(LLotBeliefs;II[J)I"⟩
def dkwX0_split_0 : List UInt8 := [45, 3, 42, 27, 28, 182, 0, 84, 133, 80, 167, 0, 7, 58, 4, 4, 172, 3, 172]
abbrev dktX0_split_0 : List UInt8 := dkwX0_split_0 ++ []
theorem dksX0_split_0 : cX0_split.data.toList.drop 0 = dktX0_split_0 := by decide +kernel
theorem dX0_split_0 : decode cX0_split 0 = .ok (.aload_n 3, 1) := dk_45 (dk_at dksX0_split_0 0 rfl rfl)
theorem dX0_split_1 : decode cX0_split 1 = .ok (.iconst 0, 1) := dk_3 (dk_at dksX0_split_0 1 rfl rfl)
theorem dX0_split_2 : decode cX0_split 2 = .ok (.aload_n 0, 1) := dk_42 (dk_at dksX0_split_0 2 rfl rfl)
theorem dX0_split_3 : decode cX0_split 3 = .ok (.iload_n 1, 1) := dk_27 (dk_at dksX0_split_0 3 rfl rfl)
theorem dX0_split_4 : decode cX0_split 4 = .ok (.iload_n 2, 1) := dk_28 (dk_at dksX0_split_0 4 rfl rfl)
theorem dX0_split_5 : decode cX0_split 5 = .ok (.invokevirtual 84, 3) := dk_182 0 84 (dk_at dksX0_split_0 5 rfl rfl)
theorem dX0_split_8 : decode cX0_split 8 = .ok (.i2l, 1) := dk_133 (dk_at dksX0_split_0 8 rfl rfl)
theorem dX0_split_9 : decode cX0_split 9 = .ok (.lastore, 1) := dk_80 (dk_at dksX0_split_0 9 rfl rfl)
theorem dX0_split_10 : decode cX0_split 10 = .ok (.goto 7, 3) := dk_167 0 7 (dk_at dksX0_split_0 10 rfl rfl)
theorem dX0_split_13 : decode cX0_split 13 = .ok (.astore 4, 2) := dk_58 4 (dk_at dksX0_split_0 13 rfl rfl)
theorem dX0_split_15 : decode cX0_split 15 = .ok (.iconst 1, 1) := dk_4 (dk_at dksX0_split_0 15 rfl rfl)
theorem dX0_split_16 : decode cX0_split 16 = .ok (.ireturn, 1) := dk_172 (dk_at dksX0_split_0 16 rfl rfl)
theorem dX0_split_17 : decode cX0_split 17 = .ok (.iconst 0, 1) := dk_3 (dk_at dksX0_split_0 17 rfl rfl)
theorem dX0_split_18 : decode cX0_split 18 = .ok (.ireturn, 1) := dk_172 (dk_at dksX0_split_0 18 rfl rfl)
abbrev cX0_likely : ByteArray := method_25_code
def yX0_likely : MethodName := ⟨RX0, "likely", "(LLotBeliefs;I[J)I"⟩
def dkwX0_likely_0 : List UInt8 := [44, 3, 42, 27, 182, 0, 87, 133, 80, 167, 0, 6, 78, 4, 172, 3, 172]
abbrev dktX0_likely_0 : List UInt8 := dkwX0_likely_0 ++ []
theorem dksX0_likely_0 : cX0_likely.data.toList.drop 0 = dktX0_likely_0 := by decide +kernel
theorem dX0_likely_0 : decode cX0_likely 0 = .ok (.aload_n 2, 1) := dk_44 (dk_at dksX0_likely_0 0 rfl rfl)
theorem dX0_likely_1 : decode cX0_likely 1 = .ok (.iconst 0, 1) := dk_3 (dk_at dksX0_likely_0 1 rfl rfl)
theorem dX0_likely_2 : decode cX0_likely 2 = .ok (.aload_n 0, 1) := dk_42 (dk_at dksX0_likely_0 2 rfl rfl)
theorem dX0_likely_3 : decode cX0_likely 3 = .ok (.iload_n 1, 1) := dk_27 (dk_at dksX0_likely_0 3 rfl rfl)
theorem dX0_likely_4 : decode cX0_likely 4 = .ok (.invokevirtual 87, 3) := dk_182 0 87 (dk_at dksX0_likely_0 4 rfl rfl)
theorem dX0_likely_7 : decode cX0_likely 7 = .ok (.i2l, 1) := dk_133 (dk_at dksX0_likely_0 7 rfl rfl)
theorem dX0_likely_8 : decode cX0_likely 8 = .ok (.lastore, 1) := dk_80 (dk_at dksX0_likely_0 8 rfl rfl)
theorem dX0_likely_9 : decode cX0_likely 9 = .ok (.goto 6, 3) := dk_167 0 6 (dk_at dksX0_likely_0 9 rfl rfl)
theorem dX0_likely_12 : decode cX0_likely 12 = .ok (.astore_n 3, 1) := dk_78 (dk_at dksX0_likely_0 12 rfl rfl)
theorem dX0_likely_13 : decode cX0_likely 13 = .ok (.iconst 1, 1) := dk_4 (dk_at dksX0_likely_0 13 rfl rfl)
theorem dX0_likely_14 : decode cX0_likely 14 = .ok (.ireturn, 1) := dk_172 (dk_at dksX0_likely_0 14 rfl rfl)
theorem dX0_likely_15 : decode cX0_likely 15 = .ok (.iconst 0, 1) := dk_3 (dk_at dksX0_likely_0 15 rfl rfl)
theorem dX0_likely_16 : decode cX0_likely 16 = .ok (.ireturn, 1) := dk_172 (dk_at dksX0_likely_0 16 rfl rfl)
abbrev cX0_salted : ByteArray := method_26_code
def yX0_salted : MethodName := ⟨RX0, "salted", "(LLotBeliefs;I[J)I"⟩
def dkwX0_salted_0 : List UInt8 := [44, 3, 42, 27, 182, 0, 90, 133, 80, 167, 0, 6, 78, 4, 172, 3, 172]
abbrev dktX0_salted_0 : List UInt8 := dkwX0_salted_0 ++ []
theorem dksX0_salted_0 : cX0_salted.data.toList.drop 0 = dktX0_salted_0 := by decide +kernel
theorem dX0_salted_0 : decode cX0_salted 0 = .ok (.aload_n 2, 1) := dk_44 (dk_at dksX0_salted_0 0 rfl rfl)
theorem dX0_salted_1 : decode cX0_salted 1 = .ok (.iconst 0, 1) := dk_3 (dk_at dksX0_salted_0 1 rfl rfl)
theorem dX0_salted_2 : decode cX0_salted 2 = .ok (.aload_n 0, 1) := dk_42 (dk_at dksX0_salted_0 2 rfl rfl)
theorem dX0_salted_3 : decode cX0_salted 3 = .ok (.iload_n 1, 1) := dk_27 (dk_at dksX0_salted_0 3 rfl rfl)
theorem dX0_salted_4 : decode cX0_salted 4 = .ok (.invokevirtual 90, 3) := dk_182 0 90 (dk_at dksX0_salted_0 4 rfl rfl)
theorem dX0_salted_7 : decode cX0_salted 7 = .ok (.i2l, 1) := dk_133 (dk_at dksX0_salted_0 7 rfl rfl)
theorem dX0_salted_8 : decode cX0_salted 8 = .ok (.lastore, 1) := dk_80 (dk_at dksX0_salted_0 8 rfl rfl)
theorem dX0_salted_9 : decode cX0_salted 9 = .ok (.goto 6, 3) := dk_167 0 6 (dk_at dksX0_salted_0 9 rfl rfl)
theorem dX0_salted_12 : decode cX0_salted 12 = .ok (.astore_n 3, 1) := dk_78 (dk_at dksX0_salted_0 12 rfl rfl)
theorem dX0_salted_13 : decode cX0_salted 13 = .ok (.iconst 1, 1) := dk_4 (dk_at dksX0_salted_0 13 rfl rfl)
theorem dX0_salted_14 : decode cX0_salted 14 = .ok (.ireturn, 1) := dk_172 (dk_at dksX0_salted_0 14 rfl rfl)
theorem dX0_salted_15 : decode cX0_salted 15 = .ok (.iconst 0, 1) := dk_3 (dk_at dksX0_salted_0 15 rfl rfl)
theorem dX0_salted_16 : decode cX0_salted 16 = .ok (.ireturn, 1) := dk_172 (dk_at dksX0_salted_0 16 rfl rfl)
abbrev cX0_salty : ByteArray := method_27_code
def yX0_salty : MethodName := ⟨RX0, "salty", "(LLotBeliefs;I[J)I"⟩
def dkwX0_salty_0 : List UInt8 := [44, 3, 42, 27, 182, 0, 93, 133, 80, 167, 0, 6, 78, 4, 172, 3, 172]
abbrev dktX0_salty_0 : List UInt8 := dkwX0_salty_0 ++ []
theorem dksX0_salty_0 : cX0_salty.data.toList.drop 0 = dktX0_salty_0 := by decide +kernel
theorem dX0_salty_0 : decode cX0_salty 0 = .ok (.aload_n 2, 1) := dk_44 (dk_at dksX0_salty_0 0 rfl rfl)
theorem dX0_salty_1 : decode cX0_salty 1 = .ok (.iconst 0, 1) := dk_3 (dk_at dksX0_salty_0 1 rfl rfl)
theorem dX0_salty_2 : decode cX0_salty 2 = .ok (.aload_n 0, 1) := dk_42 (dk_at dksX0_salty_0 2 rfl rfl)
theorem dX0_salty_3 : decode cX0_salty 3 = .ok (.iload_n 1, 1) := dk_27 (dk_at dksX0_salty_0 3 rfl rfl)
theorem dX0_salty_4 : decode cX0_salty 4 = .ok (.invokevirtual 93, 3) := dk_182 0 93 (dk_at dksX0_salty_0 4 rfl rfl)
theorem dX0_salty_7 : decode cX0_salty 7 = .ok (.i2l, 1) := dk_133 (dk_at dksX0_salty_0 7 rfl rfl)
theorem dX0_salty_8 : decode cX0_salty 8 = .ok (.lastore, 1) := dk_80 (dk_at dksX0_salty_0 8 rfl rfl)
theorem dX0_salty_9 : decode cX0_salty 9 = .ok (.goto 6, 3) := dk_167 0 6 (dk_at dksX0_salty_0 9 rfl rfl)
theorem dX0_salty_12 : decode cX0_salty 12 = .ok (.astore_n 3, 1) := dk_78 (dk_at dksX0_salty_0 12 rfl rfl)
theorem dX0_salty_13 : decode cX0_salty 13 = .ok (.iconst 1, 1) := dk_4 (dk_at dksX0_salty_0 13 rfl rfl)
theorem dX0_salty_14 : decode cX0_salty 14 = .ok (.ireturn, 1) := dk_172 (dk_at dksX0_salty_0 14 rfl rfl)
theorem dX0_salty_15 : decode cX0_salty 15 = .ok (.iconst 0, 1) := dk_3 (dk_at dksX0_salty_0 15 rfl rfl)
theorem dX0_salty_16 : decode cX0_salty 16 = .ok (.ireturn, 1) := dk_172 (dk_at dksX0_salty_0 16 rfl rfl)
abbrev cX0_compared : ByteArray := method_28_code
def yX0_compared : MethodName := ⟨RX0, "compared", "(LLotBeliefs;I[J)I"⟩
def dkwX0_compared_0 : List UInt8 := [44, 3, 42, 27, 182, 0, 96, 133, 80, 167, 0, 9, 78, 4, 172, 78, 5, 172, 3, 172]
abbrev dktX0_compared_0 : List UInt8 := dkwX0_compared_0 ++ []
theorem dksX0_compared_0 : cX0_compared.data.toList.drop 0 = dktX0_compared_0 := by decide +kernel
theorem dX0_compared_0 : decode cX0_compared 0 = .ok (.aload_n 2, 1) := dk_44 (dk_at dksX0_compared_0 0 rfl rfl)
theorem dX0_compared_1 : decode cX0_compared 1 = .ok (.iconst 0, 1) := dk_3 (dk_at dksX0_compared_0 1 rfl rfl)
theorem dX0_compared_2 : decode cX0_compared 2 = .ok (.aload_n 0, 1) := dk_42 (dk_at dksX0_compared_0 2 rfl rfl)
theorem dX0_compared_3 : decode cX0_compared 3 = .ok (.iload_n 1, 1) := dk_27 (dk_at dksX0_compared_0 3 rfl rfl)
theorem dX0_compared_4 : decode cX0_compared 4 = .ok (.invokevirtual 96, 3) := dk_182 0 96 (dk_at dksX0_compared_0 4 rfl rfl)
theorem dX0_compared_7 : decode cX0_compared 7 = .ok (.i2l, 1) := dk_133 (dk_at dksX0_compared_0 7 rfl rfl)
theorem dX0_compared_8 : decode cX0_compared 8 = .ok (.lastore, 1) := dk_80 (dk_at dksX0_compared_0 8 rfl rfl)
theorem dX0_compared_9 : decode cX0_compared 9 = .ok (.goto 9, 3) := dk_167 0 9 (dk_at dksX0_compared_0 9 rfl rfl)
theorem dX0_compared_12 : decode cX0_compared 12 = .ok (.astore_n 3, 1) := dk_78 (dk_at dksX0_compared_0 12 rfl rfl)
theorem dX0_compared_13 : decode cX0_compared 13 = .ok (.iconst 1, 1) := dk_4 (dk_at dksX0_compared_0 13 rfl rfl)
theorem dX0_compared_14 : decode cX0_compared 14 = .ok (.ireturn, 1) := dk_172 (dk_at dksX0_compared_0 14 rfl rfl)
theorem dX0_compared_15 : decode cX0_compared 15 = .ok (.astore_n 3, 1) := dk_78 (dk_at dksX0_compared_0 15 rfl rfl)
theorem dX0_compared_16 : decode cX0_compared 16 = .ok (.iconst 2, 1) := dk_5 (dk_at dksX0_compared_0 16 rfl rfl)
theorem dX0_compared_17 : decode cX0_compared 17 = .ok (.ireturn, 1) := dk_172 (dk_at dksX0_compared_0 17 rfl rfl)
theorem dX0_compared_18 : decode cX0_compared 18 = .ok (.iconst 0, 1) := dk_3 (dk_at dksX0_compared_0 18 rfl rfl)
theorem dX0_compared_19 : decode cX0_compared 19 = .ok (.ireturn, 1) := dk_172 (dk_at dksX0_compared_0 19 rfl rfl)
abbrev cX0_drawn : ByteArray := method_29_code
def yX0_drawn : MethodName := ⟨RX0, "drawn", "(LLotBeliefs;III[J)I"⟩
def dkwX0_drawn_0 : List UInt8 := [25, 4, 3, 42, 27, 28, 29, 182, 0, 99, 133, 80, 167, 0, 7, 58, 5, 4, 172, 3, 172]
abbrev dktX0_drawn_0 : List UInt8 := dkwX0_drawn_0 ++ []
theorem dksX0_drawn_0 : cX0_drawn.data.toList.drop 0 = dktX0_drawn_0 := by decide +kernel
theorem dX0_drawn_0 : decode cX0_drawn 0 = .ok (.aload 4, 2) := dk_25 4 (dk_at dksX0_drawn_0 0 rfl rfl)
theorem dX0_drawn_2 : decode cX0_drawn 2 = .ok (.iconst 0, 1) := dk_3 (dk_at dksX0_drawn_0 2 rfl rfl)
theorem dX0_drawn_3 : decode cX0_drawn 3 = .ok (.aload_n 0, 1) := dk_42 (dk_at dksX0_drawn_0 3 rfl rfl)
theorem dX0_drawn_4 : decode cX0_drawn 4 = .ok (.iload_n 1, 1) := dk_27 (dk_at dksX0_drawn_0 4 rfl rfl)
theorem dX0_drawn_5 : decode cX0_drawn 5 = .ok (.iload_n 2, 1) := dk_28 (dk_at dksX0_drawn_0 5 rfl rfl)
theorem dX0_drawn_6 : decode cX0_drawn 6 = .ok (.iload_n 3, 1) := dk_29 (dk_at dksX0_drawn_0 6 rfl rfl)
theorem dX0_drawn_7 : decode cX0_drawn 7 = .ok (.invokevirtual 99, 3) := dk_182 0 99 (dk_at dksX0_drawn_0 7 rfl rfl)
theorem dX0_drawn_10 : decode cX0_drawn 10 = .ok (.i2l, 1) := dk_133 (dk_at dksX0_drawn_0 10 rfl rfl)
theorem dX0_drawn_11 : decode cX0_drawn 11 = .ok (.lastore, 1) := dk_80 (dk_at dksX0_drawn_0 11 rfl rfl)
theorem dX0_drawn_12 : decode cX0_drawn 12 = .ok (.goto 7, 3) := dk_167 0 7 (dk_at dksX0_drawn_0 12 rfl rfl)
theorem dX0_drawn_15 : decode cX0_drawn 15 = .ok (.astore 5, 2) := dk_58 5 (dk_at dksX0_drawn_0 15 rfl rfl)
theorem dX0_drawn_17 : decode cX0_drawn 17 = .ok (.iconst 1, 1) := dk_4 (dk_at dksX0_drawn_0 17 rfl rfl)
theorem dX0_drawn_18 : decode cX0_drawn 18 = .ok (.ireturn, 1) := dk_172 (dk_at dksX0_drawn_0 18 rfl rfl)
theorem dX0_drawn_19 : decode cX0_drawn 19 = .ok (.iconst 0, 1) := dk_3 (dk_at dksX0_drawn_0 19 rfl rfl)
theorem dX0_drawn_20 : decode cX0_drawn 20 = .ok (.ireturn, 1) := dk_172 (dk_at dksX0_drawn_0 20 rfl rfl)
abbrev cX0_school : ByteArray := method_30_code
def yX0_school : MethodName := ⟨RX0, "school", "(LLotBeliefs;II[J)I"⟩
def dkwX0_school_0 : List UInt8 := [45, 3, 42, 27, 28, 182, 0, 103, 133, 80, 167, 0, 7, 58, 4, 4, 172, 3, 172]
abbrev dktX0_school_0 : List UInt8 := dkwX0_school_0 ++ []
theorem dksX0_school_0 : cX0_school.data.toList.drop 0 = dktX0_school_0 := by decide +kernel
theorem dX0_school_0 : decode cX0_school 0 = .ok (.aload_n 3, 1) := dk_45 (dk_at dksX0_school_0 0 rfl rfl)
theorem dX0_school_1 : decode cX0_school 1 = .ok (.iconst 0, 1) := dk_3 (dk_at dksX0_school_0 1 rfl rfl)
theorem dX0_school_2 : decode cX0_school 2 = .ok (.aload_n 0, 1) := dk_42 (dk_at dksX0_school_0 2 rfl rfl)
theorem dX0_school_3 : decode cX0_school 3 = .ok (.iload_n 1, 1) := dk_27 (dk_at dksX0_school_0 3 rfl rfl)
theorem dX0_school_4 : decode cX0_school 4 = .ok (.iload_n 2, 1) := dk_28 (dk_at dksX0_school_0 4 rfl rfl)
theorem dX0_school_5 : decode cX0_school 5 = .ok (.invokevirtual 103, 3) := dk_182 0 103 (dk_at dksX0_school_0 5 rfl rfl)
theorem dX0_school_8 : decode cX0_school 8 = .ok (.i2l, 1) := dk_133 (dk_at dksX0_school_0 8 rfl rfl)
theorem dX0_school_9 : decode cX0_school 9 = .ok (.lastore, 1) := dk_80 (dk_at dksX0_school_0 9 rfl rfl)
theorem dX0_school_10 : decode cX0_school 10 = .ok (.goto 7, 3) := dk_167 0 7 (dk_at dksX0_school_0 10 rfl rfl)
theorem dX0_school_13 : decode cX0_school 13 = .ok (.astore 4, 2) := dk_58 4 (dk_at dksX0_school_0 13 rfl rfl)
theorem dX0_school_15 : decode cX0_school 15 = .ok (.iconst 1, 1) := dk_4 (dk_at dksX0_school_0 15 rfl rfl)
theorem dX0_school_16 : decode cX0_school 16 = .ok (.ireturn, 1) := dk_172 (dk_at dksX0_school_0 16 rfl rfl)
theorem dX0_school_17 : decode cX0_school 17 = .ok (.iconst 0, 1) := dk_3 (dk_at dksX0_school_0 17 rfl rfl)
theorem dX0_school_18 : decode cX0_school 18 = .ok (.ireturn, 1) := dk_172 (dk_at dksX0_school_0 18 rfl rfl)
abbrev cX0_right : ByteArray := method_31_code
def yX0_right : MethodName := ⟨RX0, "right", "(LLotBeliefs;I[J)I"⟩
def dkwX0_right_0 : List UInt8 := [44, 3, 42, 27, 182, 0, 106, 133, 80, 167, 0, 6, 78, 4, 172, 3, 172]
abbrev dktX0_right_0 : List UInt8 := dkwX0_right_0 ++ []
theorem dksX0_right_0 : cX0_right.data.toList.drop 0 = dktX0_right_0 := by decide +kernel
theorem dX0_right_0 : decode cX0_right 0 = .ok (.aload_n 2, 1) := dk_44 (dk_at dksX0_right_0 0 rfl rfl)
theorem dX0_right_1 : decode cX0_right 1 = .ok (.iconst 0, 1) := dk_3 (dk_at dksX0_right_0 1 rfl rfl)
theorem dX0_right_2 : decode cX0_right 2 = .ok (.aload_n 0, 1) := dk_42 (dk_at dksX0_right_0 2 rfl rfl)
theorem dX0_right_3 : decode cX0_right 3 = .ok (.iload_n 1, 1) := dk_27 (dk_at dksX0_right_0 3 rfl rfl)
theorem dX0_right_4 : decode cX0_right 4 = .ok (.invokevirtual 106, 3) := dk_182 0 106 (dk_at dksX0_right_0 4 rfl rfl)
theorem dX0_right_7 : decode cX0_right 7 = .ok (.i2l, 1) := dk_133 (dk_at dksX0_right_0 7 rfl rfl)
theorem dX0_right_8 : decode cX0_right 8 = .ok (.lastore, 1) := dk_80 (dk_at dksX0_right_0 8 rfl rfl)
theorem dX0_right_9 : decode cX0_right 9 = .ok (.goto 6, 3) := dk_167 0 6 (dk_at dksX0_right_0 9 rfl rfl)
theorem dX0_right_12 : decode cX0_right 12 = .ok (.astore_n 3, 1) := dk_78 (dk_at dksX0_right_0 12 rfl rfl)
theorem dX0_right_13 : decode cX0_right 13 = .ok (.iconst 1, 1) := dk_4 (dk_at dksX0_right_0 13 rfl rfl)
theorem dX0_right_14 : decode cX0_right 14 = .ok (.ireturn, 1) := dk_172 (dk_at dksX0_right_0 14 rfl rfl)
theorem dX0_right_15 : decode cX0_right 15 = .ok (.iconst 0, 1) := dk_3 (dk_at dksX0_right_0 15 rfl rfl)
theorem dX0_right_16 : decode cX0_right 16 = .ok (.ireturn, 1) := dk_172 (dk_at dksX0_right_0 16 rfl rfl)
abbrev cX0_killer : ByteArray := method_32_code
def yX0_killer : MethodName := ⟨RX0, "killer", "(LLotBeliefs;I[J)I"⟩
def dkwX0_killer_0 : List UInt8 := [44, 3, 42, 27, 182, 0, 109, 133, 80, 167, 0, 6, 78, 4, 172, 3, 172]
abbrev dktX0_killer_0 : List UInt8 := dkwX0_killer_0 ++ []
theorem dksX0_killer_0 : cX0_killer.data.toList.drop 0 = dktX0_killer_0 := by decide +kernel
theorem dX0_killer_0 : decode cX0_killer 0 = .ok (.aload_n 2, 1) := dk_44 (dk_at dksX0_killer_0 0 rfl rfl)
theorem dX0_killer_1 : decode cX0_killer 1 = .ok (.iconst 0, 1) := dk_3 (dk_at dksX0_killer_0 1 rfl rfl)
theorem dX0_killer_2 : decode cX0_killer 2 = .ok (.aload_n 0, 1) := dk_42 (dk_at dksX0_killer_0 2 rfl rfl)
theorem dX0_killer_3 : decode cX0_killer 3 = .ok (.iload_n 1, 1) := dk_27 (dk_at dksX0_killer_0 3 rfl rfl)
theorem dX0_killer_4 : decode cX0_killer 4 = .ok (.invokevirtual 109, 3) := dk_182 0 109 (dk_at dksX0_killer_0 4 rfl rfl)
theorem dX0_killer_7 : decode cX0_killer 7 = .ok (.i2l, 1) := dk_133 (dk_at dksX0_killer_0 7 rfl rfl)
theorem dX0_killer_8 : decode cX0_killer 8 = .ok (.lastore, 1) := dk_80 (dk_at dksX0_killer_0 8 rfl rfl)
theorem dX0_killer_9 : decode cX0_killer 9 = .ok (.goto 6, 3) := dk_167 0 6 (dk_at dksX0_killer_0 9 rfl rfl)
theorem dX0_killer_12 : decode cX0_killer 12 = .ok (.astore_n 3, 1) := dk_78 (dk_at dksX0_killer_0 12 rfl rfl)
theorem dX0_killer_13 : decode cX0_killer 13 = .ok (.iconst 1, 1) := dk_4 (dk_at dksX0_killer_0 13 rfl rfl)
theorem dX0_killer_14 : decode cX0_killer 14 = .ok (.ireturn, 1) := dk_172 (dk_at dksX0_killer_0 14 rfl rfl)
theorem dX0_killer_15 : decode cX0_killer 15 = .ok (.iconst 0, 1) := dk_3 (dk_at dksX0_killer_0 15 rfl rfl)
theorem dX0_killer_16 : decode cX0_killer 16 = .ok (.ireturn, 1) := dk_172 (dk_at dksX0_killer_0 16 rfl rfl)
abbrev cX0_together : ByteArray := method_33_code
def yX0_together : MethodName := ⟨RX0, "together", "(LLotBeliefs;II[J)I"⟩
def dkwX0_together_0 : List UInt8 := [45, 3, 42, 27, 28, 182, 0, 112, 80, 167, 0, 7, 58, 4, 4, 172, 3, 172]
abbrev dktX0_together_0 : List UInt8 := dkwX0_together_0 ++ []
theorem dksX0_together_0 : cX0_together.data.toList.drop 0 = dktX0_together_0 := by decide +kernel
theorem dX0_together_0 : decode cX0_together 0 = .ok (.aload_n 3, 1) := dk_45 (dk_at dksX0_together_0 0 rfl rfl)
theorem dX0_together_1 : decode cX0_together 1 = .ok (.iconst 0, 1) := dk_3 (dk_at dksX0_together_0 1 rfl rfl)
theorem dX0_together_2 : decode cX0_together 2 = .ok (.aload_n 0, 1) := dk_42 (dk_at dksX0_together_0 2 rfl rfl)
theorem dX0_together_3 : decode cX0_together 3 = .ok (.iload_n 1, 1) := dk_27 (dk_at dksX0_together_0 3 rfl rfl)
theorem dX0_together_4 : decode cX0_together 4 = .ok (.iload_n 2, 1) := dk_28 (dk_at dksX0_together_0 4 rfl rfl)
theorem dX0_together_5 : decode cX0_together 5 = .ok (.invokevirtual 112, 3) := dk_182 0 112 (dk_at dksX0_together_0 5 rfl rfl)
theorem dX0_together_8 : decode cX0_together 8 = .ok (.lastore, 1) := dk_80 (dk_at dksX0_together_0 8 rfl rfl)
theorem dX0_together_9 : decode cX0_together 9 = .ok (.goto 7, 3) := dk_167 0 7 (dk_at dksX0_together_0 9 rfl rfl)
theorem dX0_together_12 : decode cX0_together 12 = .ok (.astore 4, 2) := dk_58 4 (dk_at dksX0_together_0 12 rfl rfl)
theorem dX0_together_14 : decode cX0_together 14 = .ok (.iconst 1, 1) := dk_4 (dk_at dksX0_together_0 14 rfl rfl)
theorem dX0_together_15 : decode cX0_together 15 = .ok (.ireturn, 1) := dk_172 (dk_at dksX0_together_0 15 rfl rfl)
theorem dX0_together_16 : decode cX0_together 16 = .ok (.iconst 0, 1) := dk_3 (dk_at dksX0_together_0 16 rfl rfl)
theorem dX0_together_17 : decode cX0_together 17 = .ok (.ireturn, 1) := dk_172 (dk_at dksX0_together_0 17 rfl rfl)
abbrev cX0_following : ByteArray := method_34_code
def yX0_following : MethodName := ⟨RX0, "following", "(LLotBeliefs;II[J)I"⟩
def dkwX0_following_0 : List UInt8 := [45, 3, 42, 27, 28, 182, 0, 116, 133, 80, 167, 0, 7, 58, 4, 4, 172, 3, 172]
abbrev dktX0_following_0 : List UInt8 := dkwX0_following_0 ++ []
theorem dksX0_following_0 : cX0_following.data.toList.drop 0 = dktX0_following_0 := by decide +kernel
theorem dX0_following_0 : decode cX0_following 0 = .ok (.aload_n 3, 1) := dk_45 (dk_at dksX0_following_0 0 rfl rfl)
theorem dX0_following_1 : decode cX0_following 1 = .ok (.iconst 0, 1) := dk_3 (dk_at dksX0_following_0 1 rfl rfl)
theorem dX0_following_2 : decode cX0_following 2 = .ok (.aload_n 0, 1) := dk_42 (dk_at dksX0_following_0 2 rfl rfl)
theorem dX0_following_3 : decode cX0_following 3 = .ok (.iload_n 1, 1) := dk_27 (dk_at dksX0_following_0 3 rfl rfl)
theorem dX0_following_4 : decode cX0_following 4 = .ok (.iload_n 2, 1) := dk_28 (dk_at dksX0_following_0 4 rfl rfl)
theorem dX0_following_5 : decode cX0_following 5 = .ok (.invokevirtual 116, 3) := dk_182 0 116 (dk_at dksX0_following_0 5 rfl rfl)
theorem dX0_following_8 : decode cX0_following 8 = .ok (.i2l, 1) := dk_133 (dk_at dksX0_following_0 8 rfl rfl)
theorem dX0_following_9 : decode cX0_following 9 = .ok (.lastore, 1) := dk_80 (dk_at dksX0_following_0 9 rfl rfl)
theorem dX0_following_10 : decode cX0_following 10 = .ok (.goto 7, 3) := dk_167 0 7 (dk_at dksX0_following_0 10 rfl rfl)
theorem dX0_following_13 : decode cX0_following 13 = .ok (.astore 4, 2) := dk_58 4 (dk_at dksX0_following_0 13 rfl rfl)
theorem dX0_following_15 : decode cX0_following 15 = .ok (.iconst 1, 1) := dk_4 (dk_at dksX0_following_0 15 rfl rfl)
theorem dX0_following_16 : decode cX0_following 16 = .ok (.ireturn, 1) := dk_172 (dk_at dksX0_following_0 16 rfl rfl)
theorem dX0_following_17 : decode cX0_following 17 = .ok (.iconst 0, 1) := dk_3 (dk_at dksX0_following_0 17 rfl rfl)
theorem dX0_following_18 : decode cX0_following 18 = .ok (.ireturn, 1) := dk_172 (dk_at dksX0_following_0 18 rfl rfl)
abbrev cX0_eldest : ByteArray := method_35_code
def yX0_eldest : MethodName := ⟨RX0, "eldest", "(LLotBeliefs;I[J)I"⟩
def dkwX0_eldest_0 : List UInt8 := [44, 3, 42, 27, 182, 0, 119, 133, 80, 167, 0, 6, 78, 4, 172, 3, 172]
abbrev dktX0_eldest_0 : List UInt8 := dkwX0_eldest_0 ++ []
theorem dksX0_eldest_0 : cX0_eldest.data.toList.drop 0 = dktX0_eldest_0 := by decide +kernel
theorem dX0_eldest_0 : decode cX0_eldest 0 = .ok (.aload_n 2, 1) := dk_44 (dk_at dksX0_eldest_0 0 rfl rfl)
theorem dX0_eldest_1 : decode cX0_eldest 1 = .ok (.iconst 0, 1) := dk_3 (dk_at dksX0_eldest_0 1 rfl rfl)
theorem dX0_eldest_2 : decode cX0_eldest 2 = .ok (.aload_n 0, 1) := dk_42 (dk_at dksX0_eldest_0 2 rfl rfl)
theorem dX0_eldest_3 : decode cX0_eldest 3 = .ok (.iload_n 1, 1) := dk_27 (dk_at dksX0_eldest_0 3 rfl rfl)
theorem dX0_eldest_4 : decode cX0_eldest 4 = .ok (.invokevirtual 119, 3) := dk_182 0 119 (dk_at dksX0_eldest_0 4 rfl rfl)
theorem dX0_eldest_7 : decode cX0_eldest 7 = .ok (.i2l, 1) := dk_133 (dk_at dksX0_eldest_0 7 rfl rfl)
theorem dX0_eldest_8 : decode cX0_eldest 8 = .ok (.lastore, 1) := dk_80 (dk_at dksX0_eldest_0 8 rfl rfl)
theorem dX0_eldest_9 : decode cX0_eldest 9 = .ok (.goto 6, 3) := dk_167 0 6 (dk_at dksX0_eldest_0 9 rfl rfl)
theorem dX0_eldest_12 : decode cX0_eldest 12 = .ok (.astore_n 3, 1) := dk_78 (dk_at dksX0_eldest_0 12 rfl rfl)
theorem dX0_eldest_13 : decode cX0_eldest 13 = .ok (.iconst 1, 1) := dk_4 (dk_at dksX0_eldest_0 13 rfl rfl)
theorem dX0_eldest_14 : decode cX0_eldest 14 = .ok (.ireturn, 1) := dk_172 (dk_at dksX0_eldest_0 14 rfl rfl)
theorem dX0_eldest_15 : decode cX0_eldest 15 = .ok (.iconst 0, 1) := dk_3 (dk_at dksX0_eldest_0 15 rfl rfl)
theorem dX0_eldest_16 : decode cX0_eldest 16 = .ok (.ireturn, 1) := dk_172 (dk_at dksX0_eldest_0 16 rfl rfl)
abbrev cX0_quarrels : ByteArray := method_36_code
def yX0_quarrels : MethodName := ⟨RX0, "quarrels", "(LLotBeliefs;I[J)I"⟩
def dkwX0_quarrels_0 : List UInt8 := [44, 3, 42, 27, 182, 0, 122, 133, 80, 167, 0, 6, 78, 4, 172, 3, 172]
abbrev dktX0_quarrels_0 : List UInt8 := dkwX0_quarrels_0 ++ []
theorem dksX0_quarrels_0 : cX0_quarrels.data.toList.drop 0 = dktX0_quarrels_0 := by decide +kernel
theorem dX0_quarrels_0 : decode cX0_quarrels 0 = .ok (.aload_n 2, 1) := dk_44 (dk_at dksX0_quarrels_0 0 rfl rfl)
theorem dX0_quarrels_1 : decode cX0_quarrels 1 = .ok (.iconst 0, 1) := dk_3 (dk_at dksX0_quarrels_0 1 rfl rfl)
theorem dX0_quarrels_2 : decode cX0_quarrels 2 = .ok (.aload_n 0, 1) := dk_42 (dk_at dksX0_quarrels_0 2 rfl rfl)
theorem dX0_quarrels_3 : decode cX0_quarrels 3 = .ok (.iload_n 1, 1) := dk_27 (dk_at dksX0_quarrels_0 3 rfl rfl)
theorem dX0_quarrels_4 : decode cX0_quarrels 4 = .ok (.invokevirtual 122, 3) := dk_182 0 122 (dk_at dksX0_quarrels_0 4 rfl rfl)
theorem dX0_quarrels_7 : decode cX0_quarrels 7 = .ok (.i2l, 1) := dk_133 (dk_at dksX0_quarrels_0 7 rfl rfl)
theorem dX0_quarrels_8 : decode cX0_quarrels 8 = .ok (.lastore, 1) := dk_80 (dk_at dksX0_quarrels_0 8 rfl rfl)
theorem dX0_quarrels_9 : decode cX0_quarrels 9 = .ok (.goto 6, 3) := dk_167 0 6 (dk_at dksX0_quarrels_0 9 rfl rfl)
theorem dX0_quarrels_12 : decode cX0_quarrels 12 = .ok (.astore_n 3, 1) := dk_78 (dk_at dksX0_quarrels_0 12 rfl rfl)
theorem dX0_quarrels_13 : decode cX0_quarrels 13 = .ok (.iconst 1, 1) := dk_4 (dk_at dksX0_quarrels_0 13 rfl rfl)
theorem dX0_quarrels_14 : decode cX0_quarrels 14 = .ok (.ireturn, 1) := dk_172 (dk_at dksX0_quarrels_0 14 rfl rfl)
theorem dX0_quarrels_15 : decode cX0_quarrels 15 = .ok (.iconst 0, 1) := dk_3 (dk_at dksX0_quarrels_0 15 rfl rfl)
theorem dX0_quarrels_16 : decode cX0_quarrels 16 = .ok (.ireturn, 1) := dk_172 (dk_at dksX0_quarrels_0 16 rfl rfl)
abbrev cX0_peace : ByteArray := method_37_code
def yX0_peace : MethodName := ⟨RX0, "peace", "(LLotBeliefs;I[J)I"⟩
def dkwX0_peace_0 : List UInt8 := [44, 3, 42, 27, 182, 0, 125, 133, 80, 167, 0, 6, 78, 4, 172, 3, 172]
abbrev dktX0_peace_0 : List UInt8 := dkwX0_peace_0 ++ []
theorem dksX0_peace_0 : cX0_peace.data.toList.drop 0 = dktX0_peace_0 := by decide +kernel
theorem dX0_peace_0 : decode cX0_peace 0 = .ok (.aload_n 2, 1) := dk_44 (dk_at dksX0_peace_0 0 rfl rfl)
theorem dX0_peace_1 : decode cX0_peace 1 = .ok (.iconst 0, 1) := dk_3 (dk_at dksX0_peace_0 1 rfl rfl)
theorem dX0_peace_2 : decode cX0_peace 2 = .ok (.aload_n 0, 1) := dk_42 (dk_at dksX0_peace_0 2 rfl rfl)
theorem dX0_peace_3 : decode cX0_peace 3 = .ok (.iload_n 1, 1) := dk_27 (dk_at dksX0_peace_0 3 rfl rfl)
theorem dX0_peace_4 : decode cX0_peace 4 = .ok (.invokevirtual 125, 3) := dk_182 0 125 (dk_at dksX0_peace_0 4 rfl rfl)
theorem dX0_peace_7 : decode cX0_peace 7 = .ok (.i2l, 1) := dk_133 (dk_at dksX0_peace_0 7 rfl rfl)
theorem dX0_peace_8 : decode cX0_peace 8 = .ok (.lastore, 1) := dk_80 (dk_at dksX0_peace_0 8 rfl rfl)
theorem dX0_peace_9 : decode cX0_peace 9 = .ok (.goto 6, 3) := dk_167 0 6 (dk_at dksX0_peace_0 9 rfl rfl)
theorem dX0_peace_12 : decode cX0_peace 12 = .ok (.astore_n 3, 1) := dk_78 (dk_at dksX0_peace_0 12 rfl rfl)
theorem dX0_peace_13 : decode cX0_peace 13 = .ok (.iconst 1, 1) := dk_4 (dk_at dksX0_peace_0 13 rfl rfl)
theorem dX0_peace_14 : decode cX0_peace 14 = .ok (.ireturn, 1) := dk_172 (dk_at dksX0_peace_0 14 rfl rfl)
theorem dX0_peace_15 : decode cX0_peace 15 = .ok (.iconst 0, 1) := dk_3 (dk_at dksX0_peace_0 15 rfl rfl)
theorem dX0_peace_16 : decode cX0_peace 16 = .ok (.ireturn, 1) := dk_172 (dk_at dksX0_peace_0 16 rfl rfl)
abbrev cX0_worst : ByteArray := method_38_code
def yX0_worst : MethodName := ⟨RX0, "worst", "(LLotBeliefs;I[J)I"⟩
def dkwX0_worst_0 : List UInt8 := [44, 3, 42, 27, 182, 0, 128, 80, 167, 0, 9, 78, 4, 172, 78, 5, 172, 3, 172]
abbrev dktX0_worst_0 : List UInt8 := dkwX0_worst_0 ++ []
theorem dksX0_worst_0 : cX0_worst.data.toList.drop 0 = dktX0_worst_0 := by decide +kernel
theorem dX0_worst_0 : decode cX0_worst 0 = .ok (.aload_n 2, 1) := dk_44 (dk_at dksX0_worst_0 0 rfl rfl)
theorem dX0_worst_1 : decode cX0_worst 1 = .ok (.iconst 0, 1) := dk_3 (dk_at dksX0_worst_0 1 rfl rfl)
theorem dX0_worst_2 : decode cX0_worst 2 = .ok (.aload_n 0, 1) := dk_42 (dk_at dksX0_worst_0 2 rfl rfl)
theorem dX0_worst_3 : decode cX0_worst 3 = .ok (.iload_n 1, 1) := dk_27 (dk_at dksX0_worst_0 3 rfl rfl)
theorem dX0_worst_4 : decode cX0_worst 4 = .ok (.invokevirtual 128, 3) := dk_182 0 128 (dk_at dksX0_worst_0 4 rfl rfl)
theorem dX0_worst_7 : decode cX0_worst 7 = .ok (.lastore, 1) := dk_80 (dk_at dksX0_worst_0 7 rfl rfl)
theorem dX0_worst_8 : decode cX0_worst 8 = .ok (.goto 9, 3) := dk_167 0 9 (dk_at dksX0_worst_0 8 rfl rfl)
theorem dX0_worst_11 : decode cX0_worst 11 = .ok (.astore_n 3, 1) := dk_78 (dk_at dksX0_worst_0 11 rfl rfl)
theorem dX0_worst_12 : decode cX0_worst 12 = .ok (.iconst 1, 1) := dk_4 (dk_at dksX0_worst_0 12 rfl rfl)
theorem dX0_worst_13 : decode cX0_worst 13 = .ok (.ireturn, 1) := dk_172 (dk_at dksX0_worst_0 13 rfl rfl)
theorem dX0_worst_14 : decode cX0_worst 14 = .ok (.astore_n 3, 1) := dk_78 (dk_at dksX0_worst_0 14 rfl rfl)
theorem dX0_worst_15 : decode cX0_worst 15 = .ok (.iconst 2, 1) := dk_5 (dk_at dksX0_worst_0 15 rfl rfl)
theorem dX0_worst_16 : decode cX0_worst 16 = .ok (.ireturn, 1) := dk_172 (dk_at dksX0_worst_0 16 rfl rfl)
theorem dX0_worst_17 : decode cX0_worst 17 = .ok (.iconst 0, 1) := dk_3 (dk_at dksX0_worst_0 17 rfl rfl)
theorem dX0_worst_18 : decode cX0_worst 18 = .ok (.ireturn, 1) := dk_172 (dk_at dksX0_worst_0 18 rfl rfl)
abbrev cX0_century : ByteArray := method_39_code
def yX0_century : MethodName := ⟨RX0, "century", "(LLotBeliefs;III[J)I"⟩
def dkwX0_century_1 : List UInt8 := [172]
abbrev dktX0_century_1 : List UInt8 := dkwX0_century_1 ++ []
def dkwX0_century_0 : List UInt8 := [25, 4, 3, 42, 27, 28, 29, 182, 0, 131, 133, 80, 167, 0, 11, 58, 5, 4, 172, 58, 5, 5, 172, 3]
abbrev dktX0_century_0 : List UInt8 := dkwX0_century_0 ++ dktX0_century_1
theorem dksX0_century_0 : cX0_century.data.toList.drop 0 = dktX0_century_0 := by decide +kernel
theorem dksX0_century_1 : cX0_century.data.toList.drop 24 = dktX0_century_1 := dk_seg dksX0_century_0 24 rfl rfl
theorem dX0_century_0 : decode cX0_century 0 = .ok (.aload 4, 2) := dk_25 4 (dk_at dksX0_century_0 0 rfl rfl)
theorem dX0_century_2 : decode cX0_century 2 = .ok (.iconst 0, 1) := dk_3 (dk_at dksX0_century_0 2 rfl rfl)
theorem dX0_century_3 : decode cX0_century 3 = .ok (.aload_n 0, 1) := dk_42 (dk_at dksX0_century_0 3 rfl rfl)
theorem dX0_century_4 : decode cX0_century 4 = .ok (.iload_n 1, 1) := dk_27 (dk_at dksX0_century_0 4 rfl rfl)
theorem dX0_century_5 : decode cX0_century 5 = .ok (.iload_n 2, 1) := dk_28 (dk_at dksX0_century_0 5 rfl rfl)
theorem dX0_century_6 : decode cX0_century 6 = .ok (.iload_n 3, 1) := dk_29 (dk_at dksX0_century_0 6 rfl rfl)
theorem dX0_century_7 : decode cX0_century 7 = .ok (.invokevirtual 131, 3) := dk_182 0 131 (dk_at dksX0_century_0 7 rfl rfl)
theorem dX0_century_10 : decode cX0_century 10 = .ok (.i2l, 1) := dk_133 (dk_at dksX0_century_0 10 rfl rfl)
theorem dX0_century_11 : decode cX0_century 11 = .ok (.lastore, 1) := dk_80 (dk_at dksX0_century_0 11 rfl rfl)
theorem dX0_century_12 : decode cX0_century 12 = .ok (.goto 11, 3) := dk_167 0 11 (dk_at dksX0_century_0 12 rfl rfl)
theorem dX0_century_15 : decode cX0_century 15 = .ok (.astore 5, 2) := dk_58 5 (dk_at dksX0_century_0 15 rfl rfl)
theorem dX0_century_17 : decode cX0_century 17 = .ok (.iconst 1, 1) := dk_4 (dk_at dksX0_century_0 17 rfl rfl)
theorem dX0_century_18 : decode cX0_century 18 = .ok (.ireturn, 1) := dk_172 (dk_at dksX0_century_0 18 rfl rfl)
theorem dX0_century_19 : decode cX0_century 19 = .ok (.astore 5, 2) := dk_58 5 (dk_at dksX0_century_0 19 rfl rfl)
theorem dX0_century_21 : decode cX0_century 21 = .ok (.iconst 2, 1) := dk_5 (dk_at dksX0_century_0 21 rfl rfl)
theorem dX0_century_22 : decode cX0_century 22 = .ok (.ireturn, 1) := dk_172 (dk_at dksX0_century_0 22 rfl rfl)
theorem dX0_century_23 : decode cX0_century 23 = .ok (.iconst 0, 1) := dk_3 (dk_at dksX0_century_0 23 rfl rfl)
theorem dX0_century_24 : decode cX0_century 24 = .ok (.ireturn, 1) := dk_172 (dk_at dksX0_century_1 0 rfl rfl)
abbrev cX0_known : ByteArray := method_40_code
def yX0_known : MethodName := ⟨RX0, "known", "(LLotBeliefs;II[J)I"⟩
def dkwX0_known_0 : List UInt8 := [45, 3, 42, 27, 28, 182, 0, 134, 133, 80, 167, 0, 7, 58, 4, 4, 172, 3, 172]
abbrev dktX0_known_0 : List UInt8 := dkwX0_known_0 ++ []
theorem dksX0_known_0 : cX0_known.data.toList.drop 0 = dktX0_known_0 := by decide +kernel
theorem dX0_known_0 : decode cX0_known 0 = .ok (.aload_n 3, 1) := dk_45 (dk_at dksX0_known_0 0 rfl rfl)
theorem dX0_known_1 : decode cX0_known 1 = .ok (.iconst 0, 1) := dk_3 (dk_at dksX0_known_0 1 rfl rfl)
theorem dX0_known_2 : decode cX0_known 2 = .ok (.aload_n 0, 1) := dk_42 (dk_at dksX0_known_0 2 rfl rfl)
theorem dX0_known_3 : decode cX0_known 3 = .ok (.iload_n 1, 1) := dk_27 (dk_at dksX0_known_0 3 rfl rfl)
theorem dX0_known_4 : decode cX0_known 4 = .ok (.iload_n 2, 1) := dk_28 (dk_at dksX0_known_0 4 rfl rfl)
theorem dX0_known_5 : decode cX0_known 5 = .ok (.invokevirtual 134, 3) := dk_182 0 134 (dk_at dksX0_known_0 5 rfl rfl)
theorem dX0_known_8 : decode cX0_known 8 = .ok (.i2l, 1) := dk_133 (dk_at dksX0_known_0 8 rfl rfl)
theorem dX0_known_9 : decode cX0_known 9 = .ok (.lastore, 1) := dk_80 (dk_at dksX0_known_0 9 rfl rfl)
theorem dX0_known_10 : decode cX0_known 10 = .ok (.goto 7, 3) := dk_167 0 7 (dk_at dksX0_known_0 10 rfl rfl)
theorem dX0_known_13 : decode cX0_known 13 = .ok (.astore 4, 2) := dk_58 4 (dk_at dksX0_known_0 13 rfl rfl)
theorem dX0_known_15 : decode cX0_known 15 = .ok (.iconst 1, 1) := dk_4 (dk_at dksX0_known_0 15 rfl rfl)
theorem dX0_known_16 : decode cX0_known 16 = .ok (.ireturn, 1) := dk_172 (dk_at dksX0_known_0 16 rfl rfl)
theorem dX0_known_17 : decode cX0_known 17 = .ok (.iconst 0, 1) := dk_3 (dk_at dksX0_known_0 17 rfl rfl)
theorem dX0_known_18 : decode cX0_known 18 = .ok (.ireturn, 1) := dk_172 (dk_at dksX0_known_0 18 rfl rfl)
abbrev cX0_plain : ByteArray := method_41_code
def yX0_plain : MethodName := ⟨RX0, "plain", "(LLotBeliefs;I[J)I"⟩
def dkwX0_plain_0 : List UInt8 := [44, 3, 42, 27, 182, 0, 137, 133, 80, 167, 0, 9, 78, 4, 172, 78, 5, 172, 3, 172]
abbrev dktX0_plain_0 : List UInt8 := dkwX0_plain_0 ++ []
theorem dksX0_plain_0 : cX0_plain.data.toList.drop 0 = dktX0_plain_0 := by decide +kernel
theorem dX0_plain_0 : decode cX0_plain 0 = .ok (.aload_n 2, 1) := dk_44 (dk_at dksX0_plain_0 0 rfl rfl)
theorem dX0_plain_1 : decode cX0_plain 1 = .ok (.iconst 0, 1) := dk_3 (dk_at dksX0_plain_0 1 rfl rfl)
theorem dX0_plain_2 : decode cX0_plain 2 = .ok (.aload_n 0, 1) := dk_42 (dk_at dksX0_plain_0 2 rfl rfl)
theorem dX0_plain_3 : decode cX0_plain 3 = .ok (.iload_n 1, 1) := dk_27 (dk_at dksX0_plain_0 3 rfl rfl)
theorem dX0_plain_4 : decode cX0_plain 4 = .ok (.invokevirtual 137, 3) := dk_182 0 137 (dk_at dksX0_plain_0 4 rfl rfl)
theorem dX0_plain_7 : decode cX0_plain 7 = .ok (.i2l, 1) := dk_133 (dk_at dksX0_plain_0 7 rfl rfl)
theorem dX0_plain_8 : decode cX0_plain 8 = .ok (.lastore, 1) := dk_80 (dk_at dksX0_plain_0 8 rfl rfl)
theorem dX0_plain_9 : decode cX0_plain 9 = .ok (.goto 9, 3) := dk_167 0 9 (dk_at dksX0_plain_0 9 rfl rfl)
theorem dX0_plain_12 : decode cX0_plain 12 = .ok (.astore_n 3, 1) := dk_78 (dk_at dksX0_plain_0 12 rfl rfl)
theorem dX0_plain_13 : decode cX0_plain 13 = .ok (.iconst 1, 1) := dk_4 (dk_at dksX0_plain_0 13 rfl rfl)
theorem dX0_plain_14 : decode cX0_plain 14 = .ok (.ireturn, 1) := dk_172 (dk_at dksX0_plain_0 14 rfl rfl)
theorem dX0_plain_15 : decode cX0_plain 15 = .ok (.astore_n 3, 1) := dk_78 (dk_at dksX0_plain_0 15 rfl rfl)
theorem dX0_plain_16 : decode cX0_plain 16 = .ok (.iconst 2, 1) := dk_5 (dk_at dksX0_plain_0 16 rfl rfl)
theorem dX0_plain_17 : decode cX0_plain 17 = .ok (.ireturn, 1) := dk_172 (dk_at dksX0_plain_0 17 rfl rfl)
theorem dX0_plain_18 : decode cX0_plain 18 = .ok (.iconst 0, 1) := dk_3 (dk_at dksX0_plain_0 18 rfl rfl)
theorem dX0_plain_19 : decode cX0_plain 19 = .ok (.ireturn, 1) := dk_172 (dk_at dksX0_plain_0 19 rfl rfl)
abbrev cX0_asks : ByteArray := method_42_code
def yX0_asks : MethodName := ⟨RX0, "asks", "(LLotBeliefs;I[J)I"⟩
def dkwX0_asks_0 : List UInt8 := [44, 3, 42, 27, 182, 0, 140, 133, 80, 167, 0, 6, 78, 4, 172, 3, 172]
abbrev dktX0_asks_0 : List UInt8 := dkwX0_asks_0 ++ []
theorem dksX0_asks_0 : cX0_asks.data.toList.drop 0 = dktX0_asks_0 := by decide +kernel
theorem dX0_asks_0 : decode cX0_asks 0 = .ok (.aload_n 2, 1) := dk_44 (dk_at dksX0_asks_0 0 rfl rfl)
theorem dX0_asks_1 : decode cX0_asks 1 = .ok (.iconst 0, 1) := dk_3 (dk_at dksX0_asks_0 1 rfl rfl)
theorem dX0_asks_2 : decode cX0_asks 2 = .ok (.aload_n 0, 1) := dk_42 (dk_at dksX0_asks_0 2 rfl rfl)
theorem dX0_asks_3 : decode cX0_asks 3 = .ok (.iload_n 1, 1) := dk_27 (dk_at dksX0_asks_0 3 rfl rfl)
theorem dX0_asks_4 : decode cX0_asks 4 = .ok (.invokevirtual 140, 3) := dk_182 0 140 (dk_at dksX0_asks_0 4 rfl rfl)
theorem dX0_asks_7 : decode cX0_asks 7 = .ok (.i2l, 1) := dk_133 (dk_at dksX0_asks_0 7 rfl rfl)
theorem dX0_asks_8 : decode cX0_asks 8 = .ok (.lastore, 1) := dk_80 (dk_at dksX0_asks_0 8 rfl rfl)
theorem dX0_asks_9 : decode cX0_asks 9 = .ok (.goto 6, 3) := dk_167 0 6 (dk_at dksX0_asks_0 9 rfl rfl)
theorem dX0_asks_12 : decode cX0_asks 12 = .ok (.astore_n 3, 1) := dk_78 (dk_at dksX0_asks_0 12 rfl rfl)
theorem dX0_asks_13 : decode cX0_asks 13 = .ok (.iconst 1, 1) := dk_4 (dk_at dksX0_asks_0 13 rfl rfl)
theorem dX0_asks_14 : decode cX0_asks 14 = .ok (.ireturn, 1) := dk_172 (dk_at dksX0_asks_0 14 rfl rfl)
theorem dX0_asks_15 : decode cX0_asks 15 = .ok (.iconst 0, 1) := dk_3 (dk_at dksX0_asks_0 15 rfl rfl)
theorem dX0_asks_16 : decode cX0_asks 16 = .ok (.ireturn, 1) := dk_172 (dk_at dksX0_asks_0 16 rfl rfl)
abbrev cX0_war : ByteArray := method_43_code
def yX0_war : MethodName := ⟨RX0, "war", "(LLotBeliefs;I[J)I"⟩
def dkwX0_war_0 : List UInt8 := [44, 3, 42, 27, 182, 0, 143, 133, 80, 167, 0, 6, 78, 4, 172, 3, 172]
abbrev dktX0_war_0 : List UInt8 := dkwX0_war_0 ++ []
theorem dksX0_war_0 : cX0_war.data.toList.drop 0 = dktX0_war_0 := by decide +kernel
theorem dX0_war_0 : decode cX0_war 0 = .ok (.aload_n 2, 1) := dk_44 (dk_at dksX0_war_0 0 rfl rfl)
theorem dX0_war_1 : decode cX0_war 1 = .ok (.iconst 0, 1) := dk_3 (dk_at dksX0_war_0 1 rfl rfl)
theorem dX0_war_2 : decode cX0_war 2 = .ok (.aload_n 0, 1) := dk_42 (dk_at dksX0_war_0 2 rfl rfl)
theorem dX0_war_3 : decode cX0_war 3 = .ok (.iload_n 1, 1) := dk_27 (dk_at dksX0_war_0 3 rfl rfl)
theorem dX0_war_4 : decode cX0_war 4 = .ok (.invokevirtual 143, 3) := dk_182 0 143 (dk_at dksX0_war_0 4 rfl rfl)
theorem dX0_war_7 : decode cX0_war 7 = .ok (.i2l, 1) := dk_133 (dk_at dksX0_war_0 7 rfl rfl)
theorem dX0_war_8 : decode cX0_war 8 = .ok (.lastore, 1) := dk_80 (dk_at dksX0_war_0 8 rfl rfl)
theorem dX0_war_9 : decode cX0_war 9 = .ok (.goto 6, 3) := dk_167 0 6 (dk_at dksX0_war_0 9 rfl rfl)
theorem dX0_war_12 : decode cX0_war 12 = .ok (.astore_n 3, 1) := dk_78 (dk_at dksX0_war_0 12 rfl rfl)
theorem dX0_war_13 : decode cX0_war 13 = .ok (.iconst 1, 1) := dk_4 (dk_at dksX0_war_0 13 rfl rfl)
theorem dX0_war_14 : decode cX0_war 14 = .ok (.ireturn, 1) := dk_172 (dk_at dksX0_war_0 14 rfl rfl)
theorem dX0_war_15 : decode cX0_war 15 = .ok (.iconst 0, 1) := dk_3 (dk_at dksX0_war_0 15 rfl rfl)
theorem dX0_war_16 : decode cX0_war 16 = .ok (.ireturn, 1) := dk_172 (dk_at dksX0_war_0 16 rfl rfl)
abbrev cX0_canon : ByteArray := method_44_code
def yX0_canon : MethodName := ⟨RX0, "canon", "(LLotBeliefs;I[J)I"⟩
def dkwX0_canon_0 : List UInt8 := [44, 3, 42, 27, 182, 0, 146, 133, 80, 167, 0, 6, 78, 4, 172, 3, 172]
abbrev dktX0_canon_0 : List UInt8 := dkwX0_canon_0 ++ []
theorem dksX0_canon_0 : cX0_canon.data.toList.drop 0 = dktX0_canon_0 := by decide +kernel
theorem dX0_canon_0 : decode cX0_canon 0 = .ok (.aload_n 2, 1) := dk_44 (dk_at dksX0_canon_0 0 rfl rfl)
theorem dX0_canon_1 : decode cX0_canon 1 = .ok (.iconst 0, 1) := dk_3 (dk_at dksX0_canon_0 1 rfl rfl)
theorem dX0_canon_2 : decode cX0_canon 2 = .ok (.aload_n 0, 1) := dk_42 (dk_at dksX0_canon_0 2 rfl rfl)
theorem dX0_canon_3 : decode cX0_canon 3 = .ok (.iload_n 1, 1) := dk_27 (dk_at dksX0_canon_0 3 rfl rfl)
theorem dX0_canon_4 : decode cX0_canon 4 = .ok (.invokevirtual 146, 3) := dk_182 0 146 (dk_at dksX0_canon_0 4 rfl rfl)
theorem dX0_canon_7 : decode cX0_canon 7 = .ok (.i2l, 1) := dk_133 (dk_at dksX0_canon_0 7 rfl rfl)
theorem dX0_canon_8 : decode cX0_canon 8 = .ok (.lastore, 1) := dk_80 (dk_at dksX0_canon_0 8 rfl rfl)
theorem dX0_canon_9 : decode cX0_canon 9 = .ok (.goto 6, 3) := dk_167 0 6 (dk_at dksX0_canon_0 9 rfl rfl)
theorem dX0_canon_12 : decode cX0_canon 12 = .ok (.astore_n 3, 1) := dk_78 (dk_at dksX0_canon_0 12 rfl rfl)
theorem dX0_canon_13 : decode cX0_canon 13 = .ok (.iconst 1, 1) := dk_4 (dk_at dksX0_canon_0 13 rfl rfl)
theorem dX0_canon_14 : decode cX0_canon 14 = .ok (.ireturn, 1) := dk_172 (dk_at dksX0_canon_0 14 rfl rfl)
theorem dX0_canon_15 : decode cX0_canon 15 = .ok (.iconst 0, 1) := dk_3 (dk_at dksX0_canon_0 15 rfl rfl)
theorem dX0_canon_16 : decode cX0_canon 16 = .ok (.ireturn, 1) := dk_172 (dk_at dksX0_canon_0 16 rfl rfl)
abbrev cX0_judge : ByteArray := method_45_code
def yX0_judge : MethodName := ⟨RX0, "judge", "(LLotBeliefs;IIII[J)I"⟩
def dkwX0_judge_1 : List UInt8 := [172, 3, 172]
abbrev dktX0_judge_1 : List UInt8 := dkwX0_judge_1 ++ []
def dkwX0_judge_0 : List UInt8 := [25, 5, 3, 42, 27, 28, 29, 21, 4, 182, 0, 149, 133, 80, 167, 0, 11, 58, 6, 4, 172, 58, 6, 5]
abbrev dktX0_judge_0 : List UInt8 := dkwX0_judge_0 ++ dktX0_judge_1
theorem dksX0_judge_0 : cX0_judge.data.toList.drop 0 = dktX0_judge_0 := by decide +kernel
theorem dksX0_judge_1 : cX0_judge.data.toList.drop 24 = dktX0_judge_1 := dk_seg dksX0_judge_0 24 rfl rfl
theorem dX0_judge_0 : decode cX0_judge 0 = .ok (.aload 5, 2) := dk_25 5 (dk_at dksX0_judge_0 0 rfl rfl)
theorem dX0_judge_2 : decode cX0_judge 2 = .ok (.iconst 0, 1) := dk_3 (dk_at dksX0_judge_0 2 rfl rfl)
theorem dX0_judge_3 : decode cX0_judge 3 = .ok (.aload_n 0, 1) := dk_42 (dk_at dksX0_judge_0 3 rfl rfl)
theorem dX0_judge_4 : decode cX0_judge 4 = .ok (.iload_n 1, 1) := dk_27 (dk_at dksX0_judge_0 4 rfl rfl)
theorem dX0_judge_5 : decode cX0_judge 5 = .ok (.iload_n 2, 1) := dk_28 (dk_at dksX0_judge_0 5 rfl rfl)
theorem dX0_judge_6 : decode cX0_judge 6 = .ok (.iload_n 3, 1) := dk_29 (dk_at dksX0_judge_0 6 rfl rfl)
theorem dX0_judge_7 : decode cX0_judge 7 = .ok (.iload 4, 2) := dk_21 4 (dk_at dksX0_judge_0 7 rfl rfl)
theorem dX0_judge_9 : decode cX0_judge 9 = .ok (.invokevirtual 149, 3) := dk_182 0 149 (dk_at dksX0_judge_0 9 rfl rfl)
theorem dX0_judge_12 : decode cX0_judge 12 = .ok (.i2l, 1) := dk_133 (dk_at dksX0_judge_0 12 rfl rfl)
theorem dX0_judge_13 : decode cX0_judge 13 = .ok (.lastore, 1) := dk_80 (dk_at dksX0_judge_0 13 rfl rfl)
theorem dX0_judge_14 : decode cX0_judge 14 = .ok (.goto 11, 3) := dk_167 0 11 (dk_at dksX0_judge_0 14 rfl rfl)
theorem dX0_judge_17 : decode cX0_judge 17 = .ok (.astore 6, 2) := dk_58 6 (dk_at dksX0_judge_0 17 rfl rfl)
theorem dX0_judge_19 : decode cX0_judge 19 = .ok (.iconst 1, 1) := dk_4 (dk_at dksX0_judge_0 19 rfl rfl)
theorem dX0_judge_20 : decode cX0_judge 20 = .ok (.ireturn, 1) := dk_172 (dk_at dksX0_judge_0 20 rfl rfl)
theorem dX0_judge_21 : decode cX0_judge 21 = .ok (.astore 6, 2) := dk_58 6 (dk_at dksX0_judge_0 21 rfl rfl)
theorem dX0_judge_23 : decode cX0_judge 23 = .ok (.iconst 2, 1) := dk_5 (dk_at dksX0_judge_0 23 rfl rfl)
theorem dX0_judge_24 : decode cX0_judge 24 = .ok (.ireturn, 1) := dk_172 (dk_at dksX0_judge_1 0 rfl rfl)
theorem dX0_judge_25 : decode cX0_judge 25 = .ok (.iconst 0, 1) := dk_3 (dk_at dksX0_judge_1 1 rfl rfl)
theorem dX0_judge_26 : decode cX0_judge 26 = .ok (.ireturn, 1) := dk_172 (dk_at dksX0_judge_1 2 rfl rfl)
theorem q124 : (Jvm.Cond.initialized "LotBeliefsLaw") ∈ lw_all := lw_g (lw_at lw_m1 0 rfl) rfl
theorem q168 : (Jvm.Cond.classLink "LotBeliefsLaw" (8 : Nat) "LotBeliefs") ∈ lw_all := lw_g (lw_at lw_m1 44 rfl) rfl
theorem q170 : (Jvm.Cond.methodLink "LotBeliefsLaw" (153 : Nat) ({ cls := "LotBeliefs", name := "<init>", desc := "()V" } : Jvm.MethodName)) ∈ lw_all := lw_g (lw_at lw_m1 46 rfl) rfl
theorem q790 : (Jvm.Cond.methodLink "LotBeliefsLaw" (157 : Nat) ({ cls := "LotBeliefs", name := "feed", desc := "(IIIII)I" } : Jvm.MethodName)) ∈ lw_all := lw_g (lw_at lw_m3 186 rfl) rfl
theorem q798 : (Jvm.Cond.methodLink "LotBeliefsLaw" (177 : Nat) ({ cls := "LotBeliefs", name := "fault", desc := "()I" } : Jvm.MethodName)) ∈ lw_all := lw_g (lw_at lw_m3 194 rfl) rfl
theorem q802 : (Jvm.Cond.methodLink "LotBeliefsLaw" (201 : Nat) ({ cls := "LotBeliefs", name := "truths", desc := "()I" } : Jvm.MethodName)) ∈ lw_all := lw_g (lw_at lw_m3 198 rfl) rfl
theorem q810 : (Jvm.Cond.methodLink "LotBeliefsLaw" (205 : Nat) ({ cls := "LotBeliefs", name := "dull", desc := "()I" } : Jvm.MethodName)) ∈ lw_all := lw_g (lw_at lw_m3 206 rfl) rfl
theorem q814 : (Jvm.Cond.methodLink "LotBeliefsLaw" (211 : Nat) ({ cls := "LotBeliefs", name := "order", desc := "(J)I" } : Jvm.MethodName)) ∈ lw_all := lw_g (lw_at lw_m3 210 rfl) rfl
theorem q820 : (Jvm.Cond.methodLink "LotBeliefsLaw" (216 : Nat) ({ cls := "LotBeliefs", name := "at", desc := "(I)I" } : Jvm.MethodName)) ∈ lw_all := lw_g (lw_at lw_m3 216 rfl) rfl
theorem q824 : (Jvm.Cond.methodLink "LotBeliefsLaw" (235 : Nat) ({ cls := "LotBeliefs", name := "touchy", desc := "()I" } : Jvm.MethodName)) ∈ lw_all := lw_g (lw_at lw_m3 220 rfl) rfl
theorem q929 : (Jvm.Cond.methodLink "LotBeliefsLaw" (279 : Nat) ({ cls := "LotBeliefs", name := "draw", desc := "(II)I" } : Jvm.MethodName)) ∈ lw_all := lw_g (lw_at lw_m4 85 rfl) rfl
theorem q938 : (Jvm.Cond.methodLink "LotBeliefsLaw" (325 : Nat) ({ cls := "LotBeliefs", name := "grave", desc := "(I)I" } : Jvm.MethodName)) ∈ lw_all := lw_g (lw_at lw_m4 94 rfl) rfl
theorem q946 : (Jvm.Cond.methodLink "LotBeliefsLaw" (332 : Nat) ({ cls := "LotBeliefs", name := "swap", desc := "()I" } : Jvm.MethodName)) ∈ lw_all := lw_g (lw_at lw_m4 102 rfl) rfl
theorem q961 : (Jvm.Cond.methodLink "LotBeliefsLaw" (336 : Nat) ({ cls := "LotBeliefs", name := "humble", desc := "()I" } : Jvm.MethodName)) ∈ lw_all := lw_g (lw_at lw_m4 117 rfl) rfl
theorem q969 : (Jvm.Cond.methodLink "LotBeliefsLaw" (344 : Nat) ({ cls := "LotBeliefs", name := "image", desc := "()I" } : Jvm.MethodName)) ∈ lw_all := lw_g (lw_at lw_m4 125 rfl) rfl
theorem q978 : (Jvm.Cond.methodLink "LotBeliefsLaw" (348 : Nat) ({ cls := "LotBeliefs", name := "restore", desc := "()I" } : Jvm.MethodName)) ∈ lw_all := lw_g (lw_at lw_m4 134 rfl) rfl
theorem q982 : (Jvm.Cond.methodLink "LotBeliefsLaw" (352 : Nat) ({ cls := "LotBeliefs", name := "status", desc := "(I)I" } : Jvm.MethodName)) ∈ lw_all := lw_g (lw_at lw_m4 138 rfl) rfl
theorem q986 : (Jvm.Cond.methodLink "LotBeliefsLaw" (356 : Nat) ({ cls := "LotBeliefs", name := "count", desc := "(I)I" } : Jvm.MethodName)) ∈ lw_all := lw_g (lw_at lw_m4 142 rfl) rfl
theorem q990 : (Jvm.Cond.methodLink "LotBeliefsLaw" (162 : Nat) ({ cls := "LotBeliefsLaw", name := "jar", desc := "(LLotBeliefs;I[J)I" } : Jvm.MethodName)) ∈ lw_all := lw_g (lw_at lw_m4 146 rfl) rfl
theorem q991 : (Jvm.Cond.static ({ cls := "LotBeliefsLaw", name := "jar", desc := "(LLotBeliefs;I[J)I" } : Jvm.MethodName)) ∈ lw_all := lw_g (lw_at lw_m4 147 rfl) rfl
theorem q992 : (Jvm.Cond.codeWith ({ cls := "LotBeliefsLaw", name := "jar", desc := "(LLotBeliefs;I[J)I" } : Jvm.MethodName) method_3_code (4 : Nat) (Option.some Jvm.ClassFile.FieldType.int) [((0 : Nat), (9 : Nat), (12 : Nat), (13 : Nat))]) ∈ lw_all := lw_g (lw_at lw_m4 148 rfl) rfl
theorem q993 : (Jvm.Cond.classLink "LotBeliefsLaw" (13 : Nat) "java/lang/IllegalArgumentException") ∈ lw_all := lw_g (lw_at lw_m4 149 rfl) rfl
theorem q994 : (Jvm.Cond.methodLink "LotBeliefsLaw" (7 : Nat) ({ cls := "LotBeliefs", name := "jar", desc := "(I)I" } : Jvm.MethodName)) ∈ lw_all := lw_g (lw_at lw_m4 150 rfl) rfl
theorem q1318 : (Jvm.Cond.methodLink "LotBeliefsLaw" (171 : Nat) ({ cls := "LotBeliefsLaw", name := "question", desc := "(LLotBeliefs;I[J)I" } : Jvm.MethodName)) ∈ lw_all := lw_g (lw_at lw_m5 234 rfl) rfl
theorem q1319 : (Jvm.Cond.static ({ cls := "LotBeliefsLaw", name := "question", desc := "(LLotBeliefs;I[J)I" } : Jvm.MethodName)) ∈ lw_all := lw_g (lw_at lw_m5 235 rfl) rfl
theorem q1320 : (Jvm.Cond.codeWith ({ cls := "LotBeliefsLaw", name := "question", desc := "(LLotBeliefs;I[J)I" } : Jvm.MethodName) method_4_code (4 : Nat) (Option.some Jvm.ClassFile.FieldType.int) [((0 : Nat), (9 : Nat), (12 : Nat), (13 : Nat))]) ∈ lw_all := lw_g (lw_at lw_m5 236 rfl) rfl
theorem q1321 : (Jvm.Cond.methodLink "LotBeliefsLaw" (15 : Nat) ({ cls := "LotBeliefs", name := "question", desc := "(I)I" } : Jvm.MethodName)) ∈ lw_all := lw_g (lw_at lw_m5 237 rfl) rfl
theorem q1329 : (Jvm.Cond.methodLink "LotBeliefsLaw" (174 : Nat) ({ cls := "LotBeliefsLaw", name := "tongue", desc := "(LLotBeliefs;I[J)I" } : Jvm.MethodName)) ∈ lw_all := lw_g (lw_at lw_m6 5 rfl) rfl
theorem q1330 : (Jvm.Cond.static ({ cls := "LotBeliefsLaw", name := "tongue", desc := "(LLotBeliefs;I[J)I" } : Jvm.MethodName)) ∈ lw_all := lw_g (lw_at lw_m6 6 rfl) rfl
theorem q1331 : (Jvm.Cond.codeWith ({ cls := "LotBeliefsLaw", name := "tongue", desc := "(LLotBeliefs;I[J)I" } : Jvm.MethodName) method_5_code (4 : Nat) (Option.some Jvm.ClassFile.FieldType.int) [((0 : Nat), (9 : Nat), (12 : Nat), (13 : Nat))]) ∈ lw_all := lw_g (lw_at lw_m6 7 rfl) rfl
theorem q1332 : (Jvm.Cond.methodLink "LotBeliefsLaw" (18 : Nat) ({ cls := "LotBeliefs", name := "tongue", desc := "(I)I" } : Jvm.MethodName)) ∈ lw_all := lw_g (lw_at lw_m6 8 rfl) rfl
theorem q1558 : (Jvm.Cond.methodLink "LotBeliefsLaw" (181 : Nat) ({ cls := "LotBeliefsLaw", name := "told", desc := "(LLotBeliefs;I[J)I" } : Jvm.MethodName)) ∈ lw_all := lw_g (lw_at lw_m6 234 rfl) rfl
theorem q1559 : (Jvm.Cond.static ({ cls := "LotBeliefsLaw", name := "told", desc := "(LLotBeliefs;I[J)I" } : Jvm.MethodName)) ∈ lw_all := lw_g (lw_at lw_m6 235 rfl) rfl
theorem q1560 : (Jvm.Cond.codeWith ({ cls := "LotBeliefsLaw", name := "told", desc := "(LLotBeliefs;I[J)I" } : Jvm.MethodName) method_6_code (4 : Nat) (Option.some Jvm.ClassFile.FieldType.int) [((0 : Nat), (9 : Nat), (12 : Nat), (13 : Nat))]) ∈ lw_all := lw_g (lw_at lw_m6 236 rfl) rfl
theorem q1561 : (Jvm.Cond.methodLink "LotBeliefsLaw" (21 : Nat) ({ cls := "LotBeliefs", name := "told", desc := "(I)I" } : Jvm.MethodName)) ∈ lw_all := lw_g (lw_at lw_m6 237 rfl) rfl
theorem q1565 : (Jvm.Cond.methodLink "LotBeliefsLaw" (184 : Nat) ({ cls := "LotBeliefsLaw", name := "models", desc := "(LLotBeliefs;I[J)I" } : Jvm.MethodName)) ∈ lw_all := lw_g (lw_at lw_m7 1 rfl) rfl
theorem q1566 : (Jvm.Cond.static ({ cls := "LotBeliefsLaw", name := "models", desc := "(LLotBeliefs;I[J)I" } : Jvm.MethodName)) ∈ lw_all := lw_g (lw_at lw_m7 2 rfl) rfl
theorem q1567 : (Jvm.Cond.codeWith ({ cls := "LotBeliefsLaw", name := "models", desc := "(LLotBeliefs;I[J)I" } : Jvm.MethodName) method_7_code (4 : Nat) (Option.some Jvm.ClassFile.FieldType.int) [((0 : Nat), (8 : Nat), (11 : Nat), (28 : Nat))]) ∈ lw_all := lw_g (lw_at lw_m7 3 rfl) rfl
theorem q1568 : (Jvm.Cond.classLink "LotBeliefsLaw" (28 : Nat) "java/lang/IndexOutOfBoundsException") ∈ lw_all := lw_g (lw_at lw_m7 4 rfl) rfl
theorem q1587 : (Jvm.Cond.methodLink "LotBeliefsLaw" (24 : Nat) ({ cls := "LotBeliefs", name := "models", desc := "(I)J" } : Jvm.MethodName)) ∈ lw_all := lw_g (lw_at lw_m7 23 rfl) rfl
theorem q1610 : (Jvm.Cond.methodLink "LotBeliefsLaw" (187 : Nat) ({ cls := "LotBeliefsLaw", name := "seen", desc := "(LLotBeliefs;I[J)I" } : Jvm.MethodName)) ∈ lw_all := lw_g (lw_at lw_m7 46 rfl) rfl
theorem q1611 : (Jvm.Cond.static ({ cls := "LotBeliefsLaw", name := "seen", desc := "(LLotBeliefs;I[J)I" } : Jvm.MethodName)) ∈ lw_all := lw_g (lw_at lw_m7 47 rfl) rfl
theorem q1612 : (Jvm.Cond.codeWith ({ cls := "LotBeliefsLaw", name := "seen", desc := "(LLotBeliefs;I[J)I" } : Jvm.MethodName) method_8_code (4 : Nat) (Option.some Jvm.ClassFile.FieldType.int) [((0 : Nat), (8 : Nat), (11 : Nat), (28 : Nat))]) ∈ lw_all := lw_g (lw_at lw_m7 48 rfl) rfl
theorem q1613 : (Jvm.Cond.methodLink "LotBeliefsLaw" (30 : Nat) ({ cls := "LotBeliefs", name := "seen", desc := "(I)J" } : Jvm.MethodName)) ∈ lw_all := lw_g (lw_at lw_m7 49 rfl) rfl
theorem q1619 : (Jvm.Cond.methodLink "LotBeliefsLaw" (190 : Nat) ({ cls := "LotBeliefsLaw", name := "left", desc := "(LLotBeliefs;I[J)I" } : Jvm.MethodName)) ∈ lw_all := lw_g (lw_at lw_m7 55 rfl) rfl
theorem q1620 : (Jvm.Cond.static ({ cls := "LotBeliefsLaw", name := "left", desc := "(LLotBeliefs;I[J)I" } : Jvm.MethodName)) ∈ lw_all := lw_g (lw_at lw_m7 56 rfl) rfl
theorem q1621 : (Jvm.Cond.codeWith ({ cls := "LotBeliefsLaw", name := "left", desc := "(LLotBeliefs;I[J)I" } : Jvm.MethodName) method_9_code (4 : Nat) (Option.some Jvm.ClassFile.FieldType.int) [((0 : Nat), (8 : Nat), (11 : Nat), (13 : Nat))]) ∈ lw_all := lw_g (lw_at lw_m7 57 rfl) rfl
theorem q1622 : (Jvm.Cond.methodLink "LotBeliefsLaw" (33 : Nat) ({ cls := "LotBeliefs", name := "left", desc := "(I)J" } : Jvm.MethodName)) ∈ lw_all := lw_g (lw_at lw_m7 58 rfl) rfl
theorem q1629 : (Jvm.Cond.methodLink "LotBeliefsLaw" (193 : Nat) ({ cls := "LotBeliefsLaw", name := "kin", desc := "(LLotBeliefs;II[J)I" } : Jvm.MethodName)) ∈ lw_all := lw_g (lw_at lw_m7 65 rfl) rfl
theorem q1630 : (Jvm.Cond.static ({ cls := "LotBeliefsLaw", name := "kin", desc := "(LLotBeliefs;II[J)I" } : Jvm.MethodName)) ∈ lw_all := lw_g (lw_at lw_m7 66 rfl) rfl
theorem q1631 : (Jvm.Cond.codeWith ({ cls := "LotBeliefsLaw", name := "kin", desc := "(LLotBeliefs;II[J)I" } : Jvm.MethodName) method_10_code (5 : Nat) (Option.some Jvm.ClassFile.FieldType.int) [((0 : Nat), (10 : Nat), (13 : Nat), (28 : Nat))]) ∈ lw_all := lw_g (lw_at lw_m7 67 rfl) rfl
theorem q1632 : (Jvm.Cond.methodLink "LotBeliefsLaw" (36 : Nat) ({ cls := "LotBeliefs", name := "kin", desc := "(II)I" } : Jvm.MethodName)) ∈ lw_all := lw_g (lw_at lw_m7 68 rfl) rfl
theorem q1636 : (Jvm.Cond.methodLink "LotBeliefsLaw" (197 : Nat) ({ cls := "LotBeliefsLaw", name := "fallOut", desc := "(LLotBeliefs;III[J)I" } : Jvm.MethodName)) ∈ lw_all := lw_g (lw_at lw_m7 72 rfl) rfl
theorem q1637 : (Jvm.Cond.static ({ cls := "LotBeliefsLaw", name := "fallOut", desc := "(LLotBeliefs;III[J)I" } : Jvm.MethodName)) ∈ lw_all := lw_g (lw_at lw_m7 73 rfl) rfl
theorem q1638 : (Jvm.Cond.codeWith ({ cls := "LotBeliefsLaw", name := "fallOut", desc := "(LLotBeliefs;III[J)I" } : Jvm.MethodName) method_11_code (6 : Nat) (Option.some Jvm.ClassFile.FieldType.int) [((0 : Nat), (19 : Nat), (22 : Nat), (28 : Nat)), ((0 : Nat), (19 : Nat), (26 : Nat), (13 : Nat))]) ∈ lw_all := lw_g (lw_at lw_m7 74 rfl) rfl
theorem q1639 : (Jvm.Cond.methodLink "LotBeliefsLaw" (40 : Nat) ({ cls := "LotBeliefs", name := "fallOut", desc := "(III)Z" } : Jvm.MethodName)) ∈ lw_all := lw_g (lw_at lw_m7 75 rfl) rfl
theorem q1643 : (Jvm.Cond.methodLink "LotBeliefsLaw" (220 : Nat) ({ cls := "LotBeliefsLaw", name := "law", desc := "(LLotBeliefs;I[J)I" } : Jvm.MethodName)) ∈ lw_all := lw_g (lw_at lw_m7 79 rfl) rfl
theorem q1644 : (Jvm.Cond.static ({ cls := "LotBeliefsLaw", name := "law", desc := "(LLotBeliefs;I[J)I" } : Jvm.MethodName)) ∈ lw_all := lw_g (lw_at lw_m7 80 rfl) rfl
theorem q1645 : (Jvm.Cond.codeWith ({ cls := "LotBeliefsLaw", name := "law", desc := "(LLotBeliefs;I[J)I" } : Jvm.MethodName) method_12_code (4 : Nat) (Option.some Jvm.ClassFile.FieldType.int) [((0 : Nat), (9 : Nat), (12 : Nat), (13 : Nat))]) ∈ lw_all := lw_g (lw_at lw_m7 81 rfl) rfl
theorem q1646 : (Jvm.Cond.methodLink "LotBeliefsLaw" (44 : Nat) ({ cls := "LotBeliefs", name := "law", desc := "(I)I" } : Jvm.MethodName)) ∈ lw_all := lw_g (lw_at lw_m7 82 rfl) rfl
theorem q1653 : (Jvm.Cond.methodLink "LotBeliefsLaw" (223 : Nat) ({ cls := "LotBeliefsLaw", name := "world", desc := "(LLotBeliefs;I[J)I" } : Jvm.MethodName)) ∈ lw_all := lw_g (lw_at lw_m7 89 rfl) rfl
theorem q1654 : (Jvm.Cond.static ({ cls := "LotBeliefsLaw", name := "world", desc := "(LLotBeliefs;I[J)I" } : Jvm.MethodName)) ∈ lw_all := lw_g (lw_at lw_m7 90 rfl) rfl
theorem q1655 : (Jvm.Cond.codeWith ({ cls := "LotBeliefsLaw", name := "world", desc := "(LLotBeliefs;I[J)I" } : Jvm.MethodName) method_13_code (4 : Nat) (Option.some Jvm.ClassFile.FieldType.int) [((0 : Nat), (9 : Nat), (12 : Nat), (13 : Nat))]) ∈ lw_all := lw_g (lw_at lw_m7 91 rfl) rfl
theorem q1656 : (Jvm.Cond.methodLink "LotBeliefsLaw" (47 : Nat) ({ cls := "LotBeliefs", name := "world", desc := "(I)I" } : Jvm.MethodName)) ∈ lw_all := lw_g (lw_at lw_m7 92 rfl) rfl
theorem q1661 : (Jvm.Cond.methodLink "LotBeliefsLaw" (226 : Nat) ({ cls := "LotBeliefsLaw", name := "held", desc := "(LLotBeliefs;I[J)I" } : Jvm.MethodName)) ∈ lw_all := lw_g (lw_at lw_m7 97 rfl) rfl
theorem q1662 : (Jvm.Cond.static ({ cls := "LotBeliefsLaw", name := "held", desc := "(LLotBeliefs;I[J)I" } : Jvm.MethodName)) ∈ lw_all := lw_g (lw_at lw_m7 98 rfl) rfl
theorem q1663 : (Jvm.Cond.codeWith ({ cls := "LotBeliefsLaw", name := "held", desc := "(LLotBeliefs;I[J)I" } : Jvm.MethodName) method_14_code (4 : Nat) (Option.some Jvm.ClassFile.FieldType.int) [((0 : Nat), (9 : Nat), (12 : Nat), (13 : Nat))]) ∈ lw_all := lw_g (lw_at lw_m7 99 rfl) rfl
theorem q1664 : (Jvm.Cond.methodLink "LotBeliefsLaw" (50 : Nat) ({ cls := "LotBeliefs", name := "held", desc := "(I)I" } : Jvm.MethodName)) ∈ lw_all := lw_g (lw_at lw_m7 100 rfl) rfl
theorem q1668 : (Jvm.Cond.methodLink "LotBeliefsLaw" (229 : Nat) ({ cls := "LotBeliefsLaw", name := "fate", desc := "(LLotBeliefs;II[J)I" } : Jvm.MethodName)) ∈ lw_all := lw_g (lw_at lw_m7 104 rfl) rfl
theorem q1669 : (Jvm.Cond.static ({ cls := "LotBeliefsLaw", name := "fate", desc := "(LLotBeliefs;II[J)I" } : Jvm.MethodName)) ∈ lw_all := lw_g (lw_at lw_m7 105 rfl) rfl
theorem q1670 : (Jvm.Cond.codeWith ({ cls := "LotBeliefsLaw", name := "fate", desc := "(LLotBeliefs;II[J)I" } : Jvm.MethodName) method_15_code (5 : Nat) (Option.some Jvm.ClassFile.FieldType.int) [((0 : Nat), (10 : Nat), (13 : Nat), (28 : Nat)), ((0 : Nat), (10 : Nat), (17 : Nat), (13 : Nat))]) ∈ lw_all := lw_g (lw_at lw_m7 106 rfl) rfl
theorem q1671 : (Jvm.Cond.methodLink "LotBeliefsLaw" (53 : Nat) ({ cls := "LotBeliefs", name := "fate", desc := "(II)I" } : Jvm.MethodName)) ∈ lw_all := lw_g (lw_at lw_m7 107 rfl) rfl
theorem q1675 : (Jvm.Cond.methodLink "LotBeliefsLaw" (232 : Nat) ({ cls := "LotBeliefsLaw", name := "year", desc := "(LLotBeliefs;I[J)I" } : Jvm.MethodName)) ∈ lw_all := lw_g (lw_at lw_m7 111 rfl) rfl
theorem q1676 : (Jvm.Cond.static ({ cls := "LotBeliefsLaw", name := "year", desc := "(LLotBeliefs;I[J)I" } : Jvm.MethodName)) ∈ lw_all := lw_g (lw_at lw_m7 112 rfl) rfl
theorem q1677 : (Jvm.Cond.codeWith ({ cls := "LotBeliefsLaw", name := "year", desc := "(LLotBeliefs;I[J)I" } : Jvm.MethodName) method_16_code (4 : Nat) (Option.some Jvm.ClassFile.FieldType.int) [((0 : Nat), (9 : Nat), (12 : Nat), (13 : Nat))]) ∈ lw_all := lw_g (lw_at lw_m7 113 rfl) rfl
theorem q1678 : (Jvm.Cond.methodLink "LotBeliefsLaw" (56 : Nat) ({ cls := "LotBeliefs", name := "year", desc := "(I)I" } : Jvm.MethodName)) ∈ lw_all := lw_g (lw_at lw_m7 114 rfl) rfl
theorem q1686 : (Jvm.Cond.methodLink "LotBeliefsLaw" (239 : Nat) ({ cls := "LotBeliefsLaw", name := "ends", desc := "(LLotBeliefs;I[J)I" } : Jvm.MethodName)) ∈ lw_all := lw_g (lw_at lw_m7 122 rfl) rfl
theorem q1687 : (Jvm.Cond.static ({ cls := "LotBeliefsLaw", name := "ends", desc := "(LLotBeliefs;I[J)I" } : Jvm.MethodName)) ∈ lw_all := lw_g (lw_at lw_m7 123 rfl) rfl
theorem q1688 : (Jvm.Cond.codeWith ({ cls := "LotBeliefsLaw", name := "ends", desc := "(LLotBeliefs;I[J)I" } : Jvm.MethodName) method_17_code (4 : Nat) (Option.some Jvm.ClassFile.FieldType.int) [((0 : Nat), (9 : Nat), (12 : Nat), (13 : Nat)), ((0 : Nat), (9 : Nat), (15 : Nat), (62 : Nat))]) ∈ lw_all := lw_g (lw_at lw_m7 124 rfl) rfl
theorem q1689 : (Jvm.Cond.classLink "LotBeliefsLaw" (62 : Nat) "java/lang/IllegalStateException") ∈ lw_all := lw_g (lw_at lw_m7 125 rfl) rfl
theorem q1690 : (Jvm.Cond.methodLink "LotBeliefsLaw" (59 : Nat) ({ cls := "LotBeliefs", name := "ends", desc := "(I)I" } : Jvm.MethodName)) ∈ lw_all := lw_g (lw_at lw_m7 126 rfl) rfl
theorem q1725 : (Jvm.Cond.methodLink "LotBeliefsLaw" (242 : Nat) ({ cls := "LotBeliefsLaw", name := "orders", desc := "(LLotBeliefs;I[J)I" } : Jvm.MethodName)) ∈ lw_all := lw_g (lw_at lw_m7 161 rfl) rfl
theorem q1726 : (Jvm.Cond.static ({ cls := "LotBeliefsLaw", name := "orders", desc := "(LLotBeliefs;I[J)I" } : Jvm.MethodName)) ∈ lw_all := lw_g (lw_at lw_m7 162 rfl) rfl
theorem q1727 : (Jvm.Cond.codeWith ({ cls := "LotBeliefsLaw", name := "orders", desc := "(LLotBeliefs;I[J)I" } : Jvm.MethodName) method_18_code (4 : Nat) (Option.some Jvm.ClassFile.FieldType.int) [((0 : Nat), (9 : Nat), (12 : Nat), (28 : Nat)), ((0 : Nat), (9 : Nat), (15 : Nat), (62 : Nat))]) ∈ lw_all := lw_g (lw_at lw_m7 163 rfl) rfl
theorem q1728 : (Jvm.Cond.methodLink "LotBeliefsLaw" (64 : Nat) ({ cls := "LotBeliefs", name := "orders", desc := "(I)I" } : Jvm.MethodName)) ∈ lw_all := lw_g (lw_at lw_m7 164 rfl) rfl
theorem q1732 : (Jvm.Cond.methodLink "LotBeliefsLaw" (245 : Nat) ({ cls := "LotBeliefsLaw", name := "best", desc := "(LLotBeliefs;[J)I" } : Jvm.MethodName)) ∈ lw_all := lw_g (lw_at lw_m7 168 rfl) rfl
theorem q1733 : (Jvm.Cond.static ({ cls := "LotBeliefsLaw", name := "best", desc := "(LLotBeliefs;[J)I" } : Jvm.MethodName)) ∈ lw_all := lw_g (lw_at lw_m7 169 rfl) rfl
theorem q1734 : (Jvm.Cond.codeWith ({ cls := "LotBeliefsLaw", name := "best", desc := "(LLotBeliefs;[J)I" } : Jvm.MethodName) method_19_code (3 : Nat) (Option.some Jvm.ClassFile.FieldType.int) [((0 : Nat), (8 : Nat), (11 : Nat), (62 : Nat))]) ∈ lw_all := lw_g (lw_at lw_m7 170 rfl) rfl
theorem q1735 : (Jvm.Cond.methodLink "LotBeliefsLaw" (67 : Nat) ({ cls := "LotBeliefs", name := "best", desc := "()I" } : Jvm.MethodName)) ∈ lw_all := lw_g (lw_at lw_m7 171 rfl) rfl
theorem q1739 : (Jvm.Cond.methodLink "LotBeliefsLaw" (249 : Nat) ({ cls := "LotBeliefsLaw", name := "fits", desc := "(LLotBeliefs;II[J)I" } : Jvm.MethodName)) ∈ lw_all := lw_g (lw_at lw_m7 175 rfl) rfl
theorem q1740 : (Jvm.Cond.static ({ cls := "LotBeliefsLaw", name := "fits", desc := "(LLotBeliefs;II[J)I" } : Jvm.MethodName)) ∈ lw_all := lw_g (lw_at lw_m7 176 rfl) rfl
theorem q1741 : (Jvm.Cond.codeWith ({ cls := "LotBeliefsLaw", name := "fits", desc := "(LLotBeliefs;II[J)I" } : Jvm.MethodName) method_20_code (5 : Nat) (Option.some Jvm.ClassFile.FieldType.int) [((0 : Nat), (17 : Nat), (20 : Nat), (13 : Nat))]) ∈ lw_all := lw_g (lw_at lw_m7 177 rfl) rfl
theorem q1742 : (Jvm.Cond.methodLink "LotBeliefsLaw" (71 : Nat) ({ cls := "LotBeliefs", name := "fits", desc := "(II)Z" } : Jvm.MethodName)) ∈ lw_all := lw_g (lw_at lw_m7 178 rfl) rfl
theorem q1758 : (Jvm.Cond.methodLink "LotBeliefsLaw" (252 : Nat) ({ cls := "LotBeliefsLaw", name := "sets", desc := "(LLotBeliefs;II[J)I" } : Jvm.MethodName)) ∈ lw_all := lw_g (lw_at lw_m7 194 rfl) rfl
theorem q1759 : (Jvm.Cond.static ({ cls := "LotBeliefsLaw", name := "sets", desc := "(LLotBeliefs;II[J)I" } : Jvm.MethodName)) ∈ lw_all := lw_g (lw_at lw_m7 195 rfl) rfl
theorem q1760 : (Jvm.Cond.codeWith ({ cls := "LotBeliefsLaw", name := "sets", desc := "(LLotBeliefs;II[J)I" } : Jvm.MethodName) method_21_code (5 : Nat) (Option.some Jvm.ClassFile.FieldType.int) [((0 : Nat), (10 : Nat), (13 : Nat), (13 : Nat))]) ∈ lw_all := lw_g (lw_at lw_m7 196 rfl) rfl
theorem q1761 : (Jvm.Cond.methodLink "LotBeliefsLaw" (75 : Nat) ({ cls := "LotBeliefs", name := "sets", desc := "(II)I" } : Jvm.MethodName)) ∈ lw_all := lw_g (lw_at lw_m7 197 rfl) rfl
theorem q1769 : (Jvm.Cond.methodLink "LotBeliefsLaw" (255 : Nat) ({ cls := "LotBeliefsLaw", name := "whole", desc := "(LLotBeliefs;II[J)I" } : Jvm.MethodName)) ∈ lw_all := lw_g (lw_at lw_m7 205 rfl) rfl
theorem q1770 : (Jvm.Cond.static ({ cls := "LotBeliefsLaw", name := "whole", desc := "(LLotBeliefs;II[J)I" } : Jvm.MethodName)) ∈ lw_all := lw_g (lw_at lw_m7 206 rfl) rfl
theorem q1771 : (Jvm.Cond.codeWith ({ cls := "LotBeliefsLaw", name := "whole", desc := "(LLotBeliefs;II[J)I" } : Jvm.MethodName) method_22_code (5 : Nat) (Option.some Jvm.ClassFile.FieldType.int) [((0 : Nat), (10 : Nat), (13 : Nat), (13 : Nat))]) ∈ lw_all := lw_g (lw_at lw_m7 207 rfl) rfl
theorem q1772 : (Jvm.Cond.methodLink "LotBeliefsLaw" (78 : Nat) ({ cls := "LotBeliefs", name := "whole", desc := "(II)I" } : Jvm.MethodName)) ∈ lw_all := lw_g (lw_at lw_m7 208 rfl) rfl
theorem q1776 : (Jvm.Cond.methodLink "LotBeliefsLaw" (258 : Nat) ({ cls := "LotBeliefsLaw", name := "proof", desc := "(LLotBeliefs;I[J)I" } : Jvm.MethodName)) ∈ lw_all := lw_g (lw_at lw_m7 212 rfl) rfl
theorem q1777 : (Jvm.Cond.static ({ cls := "LotBeliefsLaw", name := "proof", desc := "(LLotBeliefs;I[J)I" } : Jvm.MethodName)) ∈ lw_all := lw_g (lw_at lw_m7 213 rfl) rfl
theorem q1778 : (Jvm.Cond.codeWith ({ cls := "LotBeliefsLaw", name := "proof", desc := "(LLotBeliefs;I[J)I" } : Jvm.MethodName) method_23_code (4 : Nat) (Option.some Jvm.ClassFile.FieldType.int) [((0 : Nat), (9 : Nat), (12 : Nat), (13 : Nat))]) ∈ lw_all := lw_g (lw_at lw_m7 214 rfl) rfl
theorem q1779 : (Jvm.Cond.methodLink "LotBeliefsLaw" (81 : Nat) ({ cls := "LotBeliefs", name := "proof", desc := "(I)I" } : Jvm.MethodName)) ∈ lw_all := lw_g (lw_at lw_m7 215 rfl) rfl
theorem q1783 : (Jvm.Cond.methodLink "LotBeliefsLaw" (261 : Nat) ({ cls := "LotBeliefsLaw", name := "split", desc := "(LLotBeliefs;II[J)I" } : Jvm.MethodName)) ∈ lw_all := lw_g (lw_at lw_m7 219 rfl) rfl
theorem q1784 : (Jvm.Cond.static ({ cls := "LotBeliefsLaw", name := "split", desc := "(LLotBeliefs;II[J)I" } : Jvm.MethodName)) ∈ lw_all := lw_g (lw_at lw_m7 220 rfl) rfl
theorem q1785 : (Jvm.Cond.codeWith ({ cls := "LotBeliefsLaw", name := "split", desc := "(LLotBeliefs;II[J)I" } : Jvm.MethodName) method_24_code (5 : Nat) (Option.some Jvm.ClassFile.FieldType.int) [((0 : Nat), (10 : Nat), (13 : Nat), (13 : Nat))]) ∈ lw_all := lw_g (lw_at lw_m7 221 rfl) rfl
theorem q1786 : (Jvm.Cond.methodLink "LotBeliefsLaw" (84 : Nat) ({ cls := "LotBeliefs", name := "split", desc := "(II)I" } : Jvm.MethodName)) ∈ lw_all := lw_g (lw_at lw_m7 222 rfl) rfl
theorem q1792 : (Jvm.Cond.methodLink "LotBeliefsLaw" (264 : Nat) ({ cls := "LotBeliefsLaw", name := "likely", desc := "(LLotBeliefs;I[J)I" } : Jvm.MethodName)) ∈ lw_all := lw_g (lw_at lw_m7 228 rfl) rfl
theorem q1793 : (Jvm.Cond.static ({ cls := "LotBeliefsLaw", name := "likely", desc := "(LLotBeliefs;I[J)I" } : Jvm.MethodName)) ∈ lw_all := lw_g (lw_at lw_m7 229 rfl) rfl
theorem q1794 : (Jvm.Cond.codeWith ({ cls := "LotBeliefsLaw", name := "likely", desc := "(LLotBeliefs;I[J)I" } : Jvm.MethodName) method_25_code (4 : Nat) (Option.some Jvm.ClassFile.FieldType.int) [((0 : Nat), (9 : Nat), (12 : Nat), (13 : Nat))]) ∈ lw_all := lw_g (lw_at lw_m7 230 rfl) rfl
theorem q1795 : (Jvm.Cond.methodLink "LotBeliefsLaw" (87 : Nat) ({ cls := "LotBeliefs", name := "likely", desc := "(I)I" } : Jvm.MethodName)) ∈ lw_all := lw_g (lw_at lw_m7 231 rfl) rfl
theorem q1799 : (Jvm.Cond.methodLink "LotBeliefsLaw" (267 : Nat) ({ cls := "LotBeliefsLaw", name := "salted", desc := "(LLotBeliefs;I[J)I" } : Jvm.MethodName)) ∈ lw_all := lw_g (lw_at lw_m7 235 rfl) rfl
theorem q1800 : (Jvm.Cond.static ({ cls := "LotBeliefsLaw", name := "salted", desc := "(LLotBeliefs;I[J)I" } : Jvm.MethodName)) ∈ lw_all := lw_g (lw_at lw_m7 236 rfl) rfl
theorem q1801 : (Jvm.Cond.codeWith ({ cls := "LotBeliefsLaw", name := "salted", desc := "(LLotBeliefs;I[J)I" } : Jvm.MethodName) method_26_code (4 : Nat) (Option.some Jvm.ClassFile.FieldType.int) [((0 : Nat), (9 : Nat), (12 : Nat), (13 : Nat))]) ∈ lw_all := lw_g (lw_at lw_m7 237 rfl) rfl
theorem q1802 : (Jvm.Cond.methodLink "LotBeliefsLaw" (90 : Nat) ({ cls := "LotBeliefs", name := "salted", desc := "(I)I" } : Jvm.MethodName)) ∈ lw_all := lw_g (lw_at lw_m7 238 rfl) rfl
theorem q1806 : (Jvm.Cond.methodLink "LotBeliefsLaw" (270 : Nat) ({ cls := "LotBeliefsLaw", name := "salty", desc := "(LLotBeliefs;I[J)I" } : Jvm.MethodName)) ∈ lw_all := lw_g (lw_at lw_m8 2 rfl) rfl
theorem q1807 : (Jvm.Cond.static ({ cls := "LotBeliefsLaw", name := "salty", desc := "(LLotBeliefs;I[J)I" } : Jvm.MethodName)) ∈ lw_all := lw_g (lw_at lw_m8 3 rfl) rfl
theorem q1808 : (Jvm.Cond.codeWith ({ cls := "LotBeliefsLaw", name := "salty", desc := "(LLotBeliefs;I[J)I" } : Jvm.MethodName) method_27_code (4 : Nat) (Option.some Jvm.ClassFile.FieldType.int) [((0 : Nat), (9 : Nat), (12 : Nat), (13 : Nat))]) ∈ lw_all := lw_g (lw_at lw_m8 4 rfl) rfl
theorem q1809 : (Jvm.Cond.methodLink "LotBeliefsLaw" (93 : Nat) ({ cls := "LotBeliefs", name := "salty", desc := "(I)I" } : Jvm.MethodName)) ∈ lw_all := lw_g (lw_at lw_m8 5 rfl) rfl
theorem q1813 : (Jvm.Cond.methodLink "LotBeliefsLaw" (273 : Nat) ({ cls := "LotBeliefsLaw", name := "compared", desc := "(LLotBeliefs;I[J)I" } : Jvm.MethodName)) ∈ lw_all := lw_g (lw_at lw_m8 9 rfl) rfl
theorem q1814 : (Jvm.Cond.static ({ cls := "LotBeliefsLaw", name := "compared", desc := "(LLotBeliefs;I[J)I" } : Jvm.MethodName)) ∈ lw_all := lw_g (lw_at lw_m8 10 rfl) rfl
theorem q1815 : (Jvm.Cond.codeWith ({ cls := "LotBeliefsLaw", name := "compared", desc := "(LLotBeliefs;I[J)I" } : Jvm.MethodName) method_28_code (4 : Nat) (Option.some Jvm.ClassFile.FieldType.int) [((0 : Nat), (9 : Nat), (12 : Nat), (13 : Nat)), ((0 : Nat), (9 : Nat), (15 : Nat), (62 : Nat))]) ∈ lw_all := lw_g (lw_at lw_m8 11 rfl) rfl
theorem q1816 : (Jvm.Cond.methodLink "LotBeliefsLaw" (96 : Nat) ({ cls := "LotBeliefs", name := "compared", desc := "(I)I" } : Jvm.MethodName)) ∈ lw_all := lw_g (lw_at lw_m8 12 rfl) rfl
theorem q1820 : (Jvm.Cond.methodLink "LotBeliefsLaw" (276 : Nat) ({ cls := "LotBeliefsLaw", name := "drawn", desc := "(LLotBeliefs;III[J)I" } : Jvm.MethodName)) ∈ lw_all := lw_g (lw_at lw_m8 16 rfl) rfl
theorem q1821 : (Jvm.Cond.static ({ cls := "LotBeliefsLaw", name := "drawn", desc := "(LLotBeliefs;III[J)I" } : Jvm.MethodName)) ∈ lw_all := lw_g (lw_at lw_m8 17 rfl) rfl
theorem q1822 : (Jvm.Cond.codeWith ({ cls := "LotBeliefsLaw", name := "drawn", desc := "(LLotBeliefs;III[J)I" } : Jvm.MethodName) method_29_code (6 : Nat) (Option.some Jvm.ClassFile.FieldType.int) [((0 : Nat), (12 : Nat), (15 : Nat), (13 : Nat))]) ∈ lw_all := lw_g (lw_at lw_m8 18 rfl) rfl
theorem q1823 : (Jvm.Cond.methodLink "LotBeliefsLaw" (99 : Nat) ({ cls := "LotBeliefs", name := "drawn", desc := "(III)I" } : Jvm.MethodName)) ∈ lw_all := lw_g (lw_at lw_m8 19 rfl) rfl
theorem q1827 : (Jvm.Cond.methodLink "LotBeliefsLaw" (283 : Nat) ({ cls := "LotBeliefsLaw", name := "school", desc := "(LLotBeliefs;II[J)I" } : Jvm.MethodName)) ∈ lw_all := lw_g (lw_at lw_m8 23 rfl) rfl
theorem q1828 : (Jvm.Cond.static ({ cls := "LotBeliefsLaw", name := "school", desc := "(LLotBeliefs;II[J)I" } : Jvm.MethodName)) ∈ lw_all := lw_g (lw_at lw_m8 24 rfl) rfl
theorem q1829 : (Jvm.Cond.codeWith ({ cls := "LotBeliefsLaw", name := "school", desc := "(LLotBeliefs;II[J)I" } : Jvm.MethodName) method_30_code (5 : Nat) (Option.some Jvm.ClassFile.FieldType.int) [((0 : Nat), (10 : Nat), (13 : Nat), (13 : Nat))]) ∈ lw_all := lw_g (lw_at lw_m8 25 rfl) rfl
theorem q1830 : (Jvm.Cond.methodLink "LotBeliefsLaw" (103 : Nat) ({ cls := "LotBeliefs", name := "school", desc := "(II)I" } : Jvm.MethodName)) ∈ lw_all := lw_g (lw_at lw_m8 26 rfl) rfl
theorem q1838 : (Jvm.Cond.methodLink "LotBeliefsLaw" (286 : Nat) ({ cls := "LotBeliefsLaw", name := "right", desc := "(LLotBeliefs;I[J)I" } : Jvm.MethodName)) ∈ lw_all := lw_g (lw_at lw_m8 34 rfl) rfl
theorem q1839 : (Jvm.Cond.static ({ cls := "LotBeliefsLaw", name := "right", desc := "(LLotBeliefs;I[J)I" } : Jvm.MethodName)) ∈ lw_all := lw_g (lw_at lw_m8 35 rfl) rfl
theorem q1840 : (Jvm.Cond.codeWith ({ cls := "LotBeliefsLaw", name := "right", desc := "(LLotBeliefs;I[J)I" } : Jvm.MethodName) method_31_code (4 : Nat) (Option.some Jvm.ClassFile.FieldType.int) [((0 : Nat), (9 : Nat), (12 : Nat), (13 : Nat))]) ∈ lw_all := lw_g (lw_at lw_m8 36 rfl) rfl
theorem q1841 : (Jvm.Cond.methodLink "LotBeliefsLaw" (106 : Nat) ({ cls := "LotBeliefs", name := "right", desc := "(I)I" } : Jvm.MethodName)) ∈ lw_all := lw_g (lw_at lw_m8 37 rfl) rfl
theorem q1845 : (Jvm.Cond.methodLink "LotBeliefsLaw" (289 : Nat) ({ cls := "LotBeliefsLaw", name := "killer", desc := "(LLotBeliefs;I[J)I" } : Jvm.MethodName)) ∈ lw_all := lw_g (lw_at lw_m8 41 rfl) rfl
theorem q1846 : (Jvm.Cond.static ({ cls := "LotBeliefsLaw", name := "killer", desc := "(LLotBeliefs;I[J)I" } : Jvm.MethodName)) ∈ lw_all := lw_g (lw_at lw_m8 42 rfl) rfl
theorem q1847 : (Jvm.Cond.codeWith ({ cls := "LotBeliefsLaw", name := "killer", desc := "(LLotBeliefs;I[J)I" } : Jvm.MethodName) method_32_code (4 : Nat) (Option.some Jvm.ClassFile.FieldType.int) [((0 : Nat), (9 : Nat), (12 : Nat), (28 : Nat))]) ∈ lw_all := lw_g (lw_at lw_m8 43 rfl) rfl
theorem q1848 : (Jvm.Cond.methodLink "LotBeliefsLaw" (109 : Nat) ({ cls := "LotBeliefs", name := "killer", desc := "(I)I" } : Jvm.MethodName)) ∈ lw_all := lw_g (lw_at lw_m8 44 rfl) rfl
theorem q1852 : (Jvm.Cond.methodLink "LotBeliefsLaw" (292 : Nat) ({ cls := "LotBeliefsLaw", name := "together", desc := "(LLotBeliefs;II[J)I" } : Jvm.MethodName)) ∈ lw_all := lw_g (lw_at lw_m8 48 rfl) rfl
theorem q1853 : (Jvm.Cond.static ({ cls := "LotBeliefsLaw", name := "together", desc := "(LLotBeliefs;II[J)I" } : Jvm.MethodName)) ∈ lw_all := lw_g (lw_at lw_m8 49 rfl) rfl
theorem q1854 : (Jvm.Cond.codeWith ({ cls := "LotBeliefsLaw", name := "together", desc := "(LLotBeliefs;II[J)I" } : Jvm.MethodName) method_33_code (5 : Nat) (Option.some Jvm.ClassFile.FieldType.int) [((0 : Nat), (9 : Nat), (12 : Nat), (13 : Nat))]) ∈ lw_all := lw_g (lw_at lw_m8 50 rfl) rfl
theorem q1855 : (Jvm.Cond.methodLink "LotBeliefsLaw" (112 : Nat) ({ cls := "LotBeliefs", name := "together", desc := "(II)J" } : Jvm.MethodName)) ∈ lw_all := lw_g (lw_at lw_m8 51 rfl) rfl
theorem q1859 : (Jvm.Cond.methodLink "LotBeliefsLaw" (295 : Nat) ({ cls := "LotBeliefsLaw", name := "following", desc := "(LLotBeliefs;II[J)I" } : Jvm.MethodName)) ∈ lw_all := lw_g (lw_at lw_m8 55 rfl) rfl
theorem q1860 : (Jvm.Cond.static ({ cls := "LotBeliefsLaw", name := "following", desc := "(LLotBeliefs;II[J)I" } : Jvm.MethodName)) ∈ lw_all := lw_g (lw_at lw_m8 56 rfl) rfl
theorem q1861 : (Jvm.Cond.codeWith ({ cls := "LotBeliefsLaw", name := "following", desc := "(LLotBeliefs;II[J)I" } : Jvm.MethodName) method_34_code (5 : Nat) (Option.some Jvm.ClassFile.FieldType.int) [((0 : Nat), (10 : Nat), (13 : Nat), (13 : Nat))]) ∈ lw_all := lw_g (lw_at lw_m8 57 rfl) rfl
theorem q1862 : (Jvm.Cond.methodLink "LotBeliefsLaw" (116 : Nat) ({ cls := "LotBeliefs", name := "following", desc := "(II)I" } : Jvm.MethodName)) ∈ lw_all := lw_g (lw_at lw_m8 58 rfl) rfl
theorem q1866 : (Jvm.Cond.methodLink "LotBeliefsLaw" (298 : Nat) ({ cls := "LotBeliefsLaw", name := "eldest", desc := "(LLotBeliefs;I[J)I" } : Jvm.MethodName)) ∈ lw_all := lw_g (lw_at lw_m8 62 rfl) rfl
theorem q1867 : (Jvm.Cond.static ({ cls := "LotBeliefsLaw", name := "eldest", desc := "(LLotBeliefs;I[J)I" } : Jvm.MethodName)) ∈ lw_all := lw_g (lw_at lw_m8 63 rfl) rfl
theorem q1868 : (Jvm.Cond.codeWith ({ cls := "LotBeliefsLaw", name := "eldest", desc := "(LLotBeliefs;I[J)I" } : Jvm.MethodName) method_35_code (4 : Nat) (Option.some Jvm.ClassFile.FieldType.int) [((0 : Nat), (9 : Nat), (12 : Nat), (13 : Nat))]) ∈ lw_all := lw_g (lw_at lw_m8 64 rfl) rfl
theorem q1869 : (Jvm.Cond.methodLink "LotBeliefsLaw" (119 : Nat) ({ cls := "LotBeliefs", name := "eldest", desc := "(I)I" } : Jvm.MethodName)) ∈ lw_all := lw_g (lw_at lw_m8 65 rfl) rfl
theorem q1873 : (Jvm.Cond.methodLink "LotBeliefsLaw" (301 : Nat) ({ cls := "LotBeliefsLaw", name := "quarrels", desc := "(LLotBeliefs;I[J)I" } : Jvm.MethodName)) ∈ lw_all := lw_g (lw_at lw_m8 69 rfl) rfl
theorem q1874 : (Jvm.Cond.static ({ cls := "LotBeliefsLaw", name := "quarrels", desc := "(LLotBeliefs;I[J)I" } : Jvm.MethodName)) ∈ lw_all := lw_g (lw_at lw_m8 70 rfl) rfl
theorem q1875 : (Jvm.Cond.codeWith ({ cls := "LotBeliefsLaw", name := "quarrels", desc := "(LLotBeliefs;I[J)I" } : Jvm.MethodName) method_36_code (4 : Nat) (Option.some Jvm.ClassFile.FieldType.int) [((0 : Nat), (9 : Nat), (12 : Nat), (13 : Nat))]) ∈ lw_all := lw_g (lw_at lw_m8 71 rfl) rfl
theorem q1876 : (Jvm.Cond.methodLink "LotBeliefsLaw" (122 : Nat) ({ cls := "LotBeliefs", name := "quarrels", desc := "(I)I" } : Jvm.MethodName)) ∈ lw_all := lw_g (lw_at lw_m8 72 rfl) rfl
theorem q1884 : (Jvm.Cond.methodLink "LotBeliefsLaw" (304 : Nat) ({ cls := "LotBeliefsLaw", name := "peace", desc := "(LLotBeliefs;I[J)I" } : Jvm.MethodName)) ∈ lw_all := lw_g (lw_at lw_m8 80 rfl) rfl
theorem q1885 : (Jvm.Cond.static ({ cls := "LotBeliefsLaw", name := "peace", desc := "(LLotBeliefs;I[J)I" } : Jvm.MethodName)) ∈ lw_all := lw_g (lw_at lw_m8 81 rfl) rfl
theorem q1886 : (Jvm.Cond.codeWith ({ cls := "LotBeliefsLaw", name := "peace", desc := "(LLotBeliefs;I[J)I" } : Jvm.MethodName) method_37_code (4 : Nat) (Option.some Jvm.ClassFile.FieldType.int) [((0 : Nat), (9 : Nat), (12 : Nat), (13 : Nat))]) ∈ lw_all := lw_g (lw_at lw_m8 82 rfl) rfl
theorem q1887 : (Jvm.Cond.methodLink "LotBeliefsLaw" (125 : Nat) ({ cls := "LotBeliefs", name := "peace", desc := "(I)I" } : Jvm.MethodName)) ∈ lw_all := lw_g (lw_at lw_m8 83 rfl) rfl
theorem q1895 : (Jvm.Cond.methodLink "LotBeliefsLaw" (307 : Nat) ({ cls := "LotBeliefsLaw", name := "worst", desc := "(LLotBeliefs;I[J)I" } : Jvm.MethodName)) ∈ lw_all := lw_g (lw_at lw_m8 91 rfl) rfl
theorem q1896 : (Jvm.Cond.static ({ cls := "LotBeliefsLaw", name := "worst", desc := "(LLotBeliefs;I[J)I" } : Jvm.MethodName)) ∈ lw_all := lw_g (lw_at lw_m8 92 rfl) rfl
theorem q1897 : (Jvm.Cond.codeWith ({ cls := "LotBeliefsLaw", name := "worst", desc := "(LLotBeliefs;I[J)I" } : Jvm.MethodName) method_38_code (4 : Nat) (Option.some Jvm.ClassFile.FieldType.int) [((0 : Nat), (8 : Nat), (11 : Nat), (13 : Nat)), ((0 : Nat), (8 : Nat), (14 : Nat), (62 : Nat))]) ∈ lw_all := lw_g (lw_at lw_m8 93 rfl) rfl
theorem q1898 : (Jvm.Cond.methodLink "LotBeliefsLaw" (128 : Nat) ({ cls := "LotBeliefs", name := "worst", desc := "(I)J" } : Jvm.MethodName)) ∈ lw_all := lw_g (lw_at lw_m8 94 rfl) rfl
theorem q1906 : (Jvm.Cond.methodLink "LotBeliefsLaw" (310 : Nat) ({ cls := "LotBeliefsLaw", name := "century", desc := "(LLotBeliefs;III[J)I" } : Jvm.MethodName)) ∈ lw_all := lw_g (lw_at lw_m8 102 rfl) rfl
theorem q1907 : (Jvm.Cond.static ({ cls := "LotBeliefsLaw", name := "century", desc := "(LLotBeliefs;III[J)I" } : Jvm.MethodName)) ∈ lw_all := lw_g (lw_at lw_m8 103 rfl) rfl
theorem q1908 : (Jvm.Cond.codeWith ({ cls := "LotBeliefsLaw", name := "century", desc := "(LLotBeliefs;III[J)I" } : Jvm.MethodName) method_39_code (6 : Nat) (Option.some Jvm.ClassFile.FieldType.int) [((0 : Nat), (12 : Nat), (15 : Nat), (28 : Nat)), ((0 : Nat), (12 : Nat), (19 : Nat), (13 : Nat))]) ∈ lw_all := lw_g (lw_at lw_m8 104 rfl) rfl
theorem q1909 : (Jvm.Cond.methodLink "LotBeliefsLaw" (131 : Nat) ({ cls := "LotBeliefs", name := "century", desc := "(III)I" } : Jvm.MethodName)) ∈ lw_all := lw_g (lw_at lw_m8 105 rfl) rfl
theorem q1913 : (Jvm.Cond.methodLink "LotBeliefsLaw" (313 : Nat) ({ cls := "LotBeliefsLaw", name := "known", desc := "(LLotBeliefs;II[J)I" } : Jvm.MethodName)) ∈ lw_all := lw_g (lw_at lw_m8 109 rfl) rfl
theorem q1914 : (Jvm.Cond.static ({ cls := "LotBeliefsLaw", name := "known", desc := "(LLotBeliefs;II[J)I" } : Jvm.MethodName)) ∈ lw_all := lw_g (lw_at lw_m8 110 rfl) rfl
theorem q1915 : (Jvm.Cond.codeWith ({ cls := "LotBeliefsLaw", name := "known", desc := "(LLotBeliefs;II[J)I" } : Jvm.MethodName) method_40_code (5 : Nat) (Option.some Jvm.ClassFile.FieldType.int) [((0 : Nat), (10 : Nat), (13 : Nat), (13 : Nat))]) ∈ lw_all := lw_g (lw_at lw_m8 111 rfl) rfl
theorem q1916 : (Jvm.Cond.methodLink "LotBeliefsLaw" (134 : Nat) ({ cls := "LotBeliefs", name := "known", desc := "(II)I" } : Jvm.MethodName)) ∈ lw_all := lw_g (lw_at lw_m8 112 rfl) rfl
theorem q1920 : (Jvm.Cond.methodLink "LotBeliefsLaw" (316 : Nat) ({ cls := "LotBeliefsLaw", name := "plain", desc := "(LLotBeliefs;I[J)I" } : Jvm.MethodName)) ∈ lw_all := lw_g (lw_at lw_m8 116 rfl) rfl
theorem q1921 : (Jvm.Cond.static ({ cls := "LotBeliefsLaw", name := "plain", desc := "(LLotBeliefs;I[J)I" } : Jvm.MethodName)) ∈ lw_all := lw_g (lw_at lw_m8 117 rfl) rfl
theorem q1922 : (Jvm.Cond.codeWith ({ cls := "LotBeliefsLaw", name := "plain", desc := "(LLotBeliefs;I[J)I" } : Jvm.MethodName) method_41_code (4 : Nat) (Option.some Jvm.ClassFile.FieldType.int) [((0 : Nat), (9 : Nat), (12 : Nat), (28 : Nat)), ((0 : Nat), (9 : Nat), (15 : Nat), (62 : Nat))]) ∈ lw_all := lw_g (lw_at lw_m8 118 rfl) rfl
theorem q1923 : (Jvm.Cond.methodLink "LotBeliefsLaw" (137 : Nat) ({ cls := "LotBeliefs", name := "plain", desc := "(I)I" } : Jvm.MethodName)) ∈ lw_all := lw_g (lw_at lw_m8 119 rfl) rfl
theorem q1936 : (Jvm.Cond.methodLink "LotBeliefsLaw" (319 : Nat) ({ cls := "LotBeliefsLaw", name := "asks", desc := "(LLotBeliefs;I[J)I" } : Jvm.MethodName)) ∈ lw_all := lw_g (lw_at lw_m8 132 rfl) rfl
theorem q1937 : (Jvm.Cond.static ({ cls := "LotBeliefsLaw", name := "asks", desc := "(LLotBeliefs;I[J)I" } : Jvm.MethodName)) ∈ lw_all := lw_g (lw_at lw_m8 133 rfl) rfl
theorem q1938 : (Jvm.Cond.codeWith ({ cls := "LotBeliefsLaw", name := "asks", desc := "(LLotBeliefs;I[J)I" } : Jvm.MethodName) method_42_code (4 : Nat) (Option.some Jvm.ClassFile.FieldType.int) [((0 : Nat), (9 : Nat), (12 : Nat), (13 : Nat))]) ∈ lw_all := lw_g (lw_at lw_m8 134 rfl) rfl
theorem q1939 : (Jvm.Cond.methodLink "LotBeliefsLaw" (140 : Nat) ({ cls := "LotBeliefs", name := "asks", desc := "(I)I" } : Jvm.MethodName)) ∈ lw_all := lw_g (lw_at lw_m8 135 rfl) rfl
theorem q1943 : (Jvm.Cond.methodLink "LotBeliefsLaw" (322 : Nat) ({ cls := "LotBeliefsLaw", name := "war", desc := "(LLotBeliefs;I[J)I" } : Jvm.MethodName)) ∈ lw_all := lw_g (lw_at lw_m8 139 rfl) rfl
theorem q1944 : (Jvm.Cond.static ({ cls := "LotBeliefsLaw", name := "war", desc := "(LLotBeliefs;I[J)I" } : Jvm.MethodName)) ∈ lw_all := lw_g (lw_at lw_m8 140 rfl) rfl
theorem q1945 : (Jvm.Cond.codeWith ({ cls := "LotBeliefsLaw", name := "war", desc := "(LLotBeliefs;I[J)I" } : Jvm.MethodName) method_43_code (4 : Nat) (Option.some Jvm.ClassFile.FieldType.int) [((0 : Nat), (9 : Nat), (12 : Nat), (13 : Nat))]) ∈ lw_all := lw_g (lw_at lw_m8 141 rfl) rfl
theorem q1946 : (Jvm.Cond.methodLink "LotBeliefsLaw" (143 : Nat) ({ cls := "LotBeliefs", name := "war", desc := "(I)I" } : Jvm.MethodName)) ∈ lw_all := lw_g (lw_at lw_m8 142 rfl) rfl
theorem q1950 : (Jvm.Cond.methodLink "LotBeliefsLaw" (329 : Nat) ({ cls := "LotBeliefsLaw", name := "canon", desc := "(LLotBeliefs;I[J)I" } : Jvm.MethodName)) ∈ lw_all := lw_g (lw_at lw_m8 146 rfl) rfl
theorem q1951 : (Jvm.Cond.static ({ cls := "LotBeliefsLaw", name := "canon", desc := "(LLotBeliefs;I[J)I" } : Jvm.MethodName)) ∈ lw_all := lw_g (lw_at lw_m8 147 rfl) rfl
theorem q1952 : (Jvm.Cond.codeWith ({ cls := "LotBeliefsLaw", name := "canon", desc := "(LLotBeliefs;I[J)I" } : Jvm.MethodName) method_44_code (4 : Nat) (Option.some Jvm.ClassFile.FieldType.int) [((0 : Nat), (9 : Nat), (12 : Nat), (13 : Nat))]) ∈ lw_all := lw_g (lw_at lw_m8 148 rfl) rfl
theorem q1953 : (Jvm.Cond.methodLink "LotBeliefsLaw" (146 : Nat) ({ cls := "LotBeliefs", name := "canon", desc := "(I)I" } : Jvm.MethodName)) ∈ lw_all := lw_g (lw_at lw_m8 149 rfl) rfl
theorem q1957 : (Jvm.Cond.methodLink "LotBeliefsLaw" (340 : Nat) ({ cls := "LotBeliefsLaw", name := "judge", desc := "(LLotBeliefs;IIII[J)I" } : Jvm.MethodName)) ∈ lw_all := lw_g (lw_at lw_m8 153 rfl) rfl
theorem q1958 : (Jvm.Cond.static ({ cls := "LotBeliefsLaw", name := "judge", desc := "(LLotBeliefs;IIII[J)I" } : Jvm.MethodName)) ∈ lw_all := lw_g (lw_at lw_m8 154 rfl) rfl
theorem q1959 : (Jvm.Cond.codeWith ({ cls := "LotBeliefsLaw", name := "judge", desc := "(LLotBeliefs;IIII[J)I" } : Jvm.MethodName) method_45_code (7 : Nat) (Option.some Jvm.ClassFile.FieldType.int) [((0 : Nat), (14 : Nat), (17 : Nat), (28 : Nat)), ((0 : Nat), (14 : Nat), (21 : Nat), (13 : Nat))]) ∈ lw_all := lw_g (lw_at lw_m8 155 rfl) rfl
theorem q1960 : (Jvm.Cond.methodLink "LotBeliefsLaw" (149 : Nat) ({ cls := "LotBeliefs", name := "judge", desc := "(IIII)I" } : Jvm.MethodName)) ∈ lw_all := lw_g (lw_at lw_m8 156 rfl) rfl
theorem q1966 : (Jvm.Cond.classLink "LotBeliefsLaw" (154 : Nat) "LotBeliefsModel") ∈ lw_all := lw_g (lw_at lw_m8 162 rfl) rfl
theorem q1968 : (Jvm.Cond.methodLink "LotBeliefsLaw" (156 : Nat) ({ cls := "LotBeliefsModel", name := "<init>", desc := "()V" } : Jvm.MethodName)) ∈ lw_all := lw_g (lw_at lw_m8 164 rfl) rfl
theorem q2173 : (Jvm.Cond.methodLink "LotBeliefsLaw" (168 : Nat) ({ cls := "LotBeliefsModel", name := "thrown", desc := "()I" } : Jvm.MethodName)) ∈ lw_all := lw_g (lw_at lw_m9 129 rfl) rfl
theorem q2177 : (Jvm.Cond.methodLink "LotBeliefsLaw" (161 : Nat) ({ cls := "LotBeliefsModel", name := "feed", desc := "(IIIII)I" } : Jvm.MethodName)) ∈ lw_all := lw_g (lw_at lw_m9 133 rfl) rfl
theorem q2181 : (Jvm.Cond.methodLink "LotBeliefsLaw" (167 : Nat) ({ cls := "LotBeliefsModel", name := "jar", desc := "(I)I" } : Jvm.MethodName)) ∈ lw_all := lw_g (lw_at lw_m9 137 rfl) rfl
theorem q2273 : (Jvm.Cond.methodLink "LotBeliefsLaw" (173 : Nat) ({ cls := "LotBeliefsModel", name := "question", desc := "(I)I" } : Jvm.MethodName)) ∈ lw_all := lw_g (lw_at lw_m9 229 rfl) rfl
theorem q2280 : (Jvm.Cond.methodLink "LotBeliefsLaw" (176 : Nat) ({ cls := "LotBeliefsModel", name := "tongue", desc := "(I)I" } : Jvm.MethodName)) ∈ lw_all := lw_g (lw_at lw_m9 236 rfl) rfl
theorem q2324 : (Jvm.Cond.methodLink "LotBeliefsLaw" (180 : Nat) ({ cls := "LotBeliefsModel", name := "fault", desc := "()I" } : Jvm.MethodName)) ∈ lw_all := lw_g (lw_at lw_m10 40 rfl) rfl
theorem q2328 : (Jvm.Cond.methodLink "LotBeliefsLaw" (183 : Nat) ({ cls := "LotBeliefsModel", name := "told", desc := "(I)I" } : Jvm.MethodName)) ∈ lw_all := lw_g (lw_at lw_m10 44 rfl) rfl
theorem q2332 : (Jvm.Cond.methodLink "LotBeliefsLaw" (186 : Nat) ({ cls := "LotBeliefsModel", name := "models", desc := "(I)J" } : Jvm.MethodName)) ∈ lw_all := lw_g (lw_at lw_m10 48 rfl) rfl
theorem q2340 : (Jvm.Cond.methodLink "LotBeliefsLaw" (189 : Nat) ({ cls := "LotBeliefsModel", name := "seen", desc := "(I)J" } : Jvm.MethodName)) ∈ lw_all := lw_g (lw_at lw_m10 56 rfl) rfl
theorem q2344 : (Jvm.Cond.methodLink "LotBeliefsLaw" (192 : Nat) ({ cls := "LotBeliefsModel", name := "left", desc := "(I)J" } : Jvm.MethodName)) ∈ lw_all := lw_g (lw_at lw_m10 60 rfl) rfl
theorem q2351 : (Jvm.Cond.methodLink "LotBeliefsLaw" (196 : Nat) ({ cls := "LotBeliefsModel", name := "kin", desc := "(II)I" } : Jvm.MethodName)) ∈ lw_all := lw_g (lw_at lw_m10 67 rfl) rfl
theorem q2355 : (Jvm.Cond.methodLink "LotBeliefsLaw" (200 : Nat) ({ cls := "LotBeliefsModel", name := "fallOut", desc := "(III)Z" } : Jvm.MethodName)) ∈ lw_all := lw_g (lw_at lw_m10 71 rfl) rfl
theorem q2363 : (Jvm.Cond.methodLink "LotBeliefsLaw" (204 : Nat) ({ cls := "LotBeliefsModel", name := "truths", desc := "()I" } : Jvm.MethodName)) ∈ lw_all := lw_g (lw_at lw_m10 79 rfl) rfl
theorem q2375 : (Jvm.Cond.methodLink "LotBeliefsLaw" (208 : Nat) ({ cls := "LotBeliefsModel", name := "dull", desc := "()I" } : Jvm.MethodName)) ∈ lw_all := lw_g (lw_at lw_m10 91 rfl) rfl
theorem q2379 : (Jvm.Cond.methodLink "LotBeliefsLaw" (215 : Nat) ({ cls := "LotBeliefsModel", name := "order", desc := "(J)I" } : Jvm.MethodName)) ∈ lw_all := lw_g (lw_at lw_m10 95 rfl) rfl
theorem q2384 : (Jvm.Cond.methodLink "LotBeliefsLaw" (219 : Nat) ({ cls := "LotBeliefsModel", name := "at", desc := "(I)I" } : Jvm.MethodName)) ∈ lw_all := lw_g (lw_at lw_m10 100 rfl) rfl
theorem q2388 : (Jvm.Cond.methodLink "LotBeliefsLaw" (222 : Nat) ({ cls := "LotBeliefsModel", name := "law", desc := "(I)I" } : Jvm.MethodName)) ∈ lw_all := lw_g (lw_at lw_m10 104 rfl) rfl
theorem q2392 : (Jvm.Cond.methodLink "LotBeliefsLaw" (225 : Nat) ({ cls := "LotBeliefsModel", name := "world", desc := "(I)I" } : Jvm.MethodName)) ∈ lw_all := lw_g (lw_at lw_m10 108 rfl) rfl
theorem q2396 : (Jvm.Cond.methodLink "LotBeliefsLaw" (228 : Nat) ({ cls := "LotBeliefsModel", name := "held", desc := "(I)I" } : Jvm.MethodName)) ∈ lw_all := lw_g (lw_at lw_m10 112 rfl) rfl
theorem q2463 : (Jvm.Cond.methodLink "LotBeliefsLaw" (300 : Nat) ({ cls := "LotBeliefsModel", name := "eldest", desc := "(I)I" } : Jvm.MethodName)) ∈ lw_all := lw_g (lw_at lw_m10 179 rfl) rfl
theorem q2467 : (Jvm.Cond.methodLink "LotBeliefsLaw" (231 : Nat) ({ cls := "LotBeliefsModel", name := "fate", desc := "(II)I" } : Jvm.MethodName)) ∈ lw_all := lw_g (lw_at lw_m10 183 rfl) rfl
theorem q2471 : (Jvm.Cond.methodLink "LotBeliefsLaw" (234 : Nat) ({ cls := "LotBeliefsModel", name := "year", desc := "(I)I" } : Jvm.MethodName)) ∈ lw_all := lw_g (lw_at lw_m10 187 rfl) rfl
theorem q2479 : (Jvm.Cond.methodLink "LotBeliefsLaw" (238 : Nat) ({ cls := "LotBeliefsModel", name := "touchy", desc := "()I" } : Jvm.MethodName)) ∈ lw_all := lw_g (lw_at lw_m10 195 rfl) rfl
theorem q2487 : (Jvm.Cond.methodLink "LotBeliefsLaw" (335 : Nat) ({ cls := "LotBeliefsModel", name := "swap", desc := "()I" } : Jvm.MethodName)) ∈ lw_all := lw_g (lw_at lw_m10 203 rfl) rfl
theorem q2491 : (Jvm.Cond.methodLink "LotBeliefsLaw" (339 : Nat) ({ cls := "LotBeliefsModel", name := "humble", desc := "()I" } : Jvm.MethodName)) ∈ lw_all := lw_g (lw_at lw_m10 207 rfl) rfl
theorem q2495 : (Jvm.Cond.methodLink "LotBeliefsLaw" (291 : Nat) ({ cls := "LotBeliefsModel", name := "killer", desc := "(I)I" } : Jvm.MethodName)) ∈ lw_all := lw_g (lw_at lw_m10 211 rfl) rfl
theorem q2499 : (Jvm.Cond.methodLink "LotBeliefsLaw" (328 : Nat) ({ cls := "LotBeliefsModel", name := "grave", desc := "(I)I" } : Jvm.MethodName)) ∈ lw_all := lw_g (lw_at lw_m10 215 rfl) rfl
theorem q2503 : (Jvm.Cond.methodLink "LotBeliefsLaw" (331 : Nat) ({ cls := "LotBeliefsModel", name := "canon", desc := "(I)I" } : Jvm.MethodName)) ∈ lw_all := lw_g (lw_at lw_m10 219 rfl) rfl
theorem q2507 : (Jvm.Cond.methodLink "LotBeliefsLaw" (241 : Nat) ({ cls := "LotBeliefsModel", name := "ends", desc := "(I)I" } : Jvm.MethodName)) ∈ lw_all := lw_g (lw_at lw_m10 223 rfl) rfl
theorem q2519 : (Jvm.Cond.methodLink "LotBeliefsLaw" (244 : Nat) ({ cls := "LotBeliefsModel", name := "orders", desc := "(I)I" } : Jvm.MethodName)) ∈ lw_all := lw_g (lw_at lw_m10 235 rfl) rfl
theorem q2523 : (Jvm.Cond.methodLink "LotBeliefsLaw" (248 : Nat) ({ cls := "LotBeliefsModel", name := "best", desc := "()I" } : Jvm.MethodName)) ∈ lw_all := lw_g (lw_at lw_m10 239 rfl) rfl
theorem q2527 : (Jvm.Cond.methodLink "LotBeliefsLaw" (275 : Nat) ({ cls := "LotBeliefsModel", name := "compared", desc := "(I)I" } : Jvm.MethodName)) ∈ lw_all := lw_g (lw_at lw_m11 3 rfl) rfl
theorem q2531 : (Jvm.Cond.methodLink "LotBeliefsLaw" (309 : Nat) ({ cls := "LotBeliefsModel", name := "worst", desc := "(I)J" } : Jvm.MethodName)) ∈ lw_all := lw_g (lw_at lw_m11 7 rfl) rfl
theorem q2536 : (Jvm.Cond.methodLink "LotBeliefsLaw" (278 : Nat) ({ cls := "LotBeliefsModel", name := "drawn", desc := "(III)I" } : Jvm.MethodName)) ∈ lw_all := lw_g (lw_at lw_m11 12 rfl) rfl
theorem q2545 : (Jvm.Cond.methodLink "LotBeliefsLaw" (282 : Nat) ({ cls := "LotBeliefsModel", name := "draw", desc := "(II)I" } : Jvm.MethodName)) ∈ lw_all := lw_g (lw_at lw_m11 21 rfl) rfl
theorem q2549 : (Jvm.Cond.methodLink "LotBeliefsLaw" (312 : Nat) ({ cls := "LotBeliefsModel", name := "century", desc := "(III)I" } : Jvm.MethodName)) ∈ lw_all := lw_g (lw_at lw_m11 25 rfl) rfl
theorem q2553 : (Jvm.Cond.methodLink "LotBeliefsLaw" (251 : Nat) ({ cls := "LotBeliefsModel", name := "fits", desc := "(II)Z" } : Jvm.MethodName)) ∈ lw_all := lw_g (lw_at lw_m11 29 rfl) rfl
theorem q2565 : (Jvm.Cond.methodLink "LotBeliefsLaw" (294 : Nat) ({ cls := "LotBeliefsModel", name := "together", desc := "(II)J" } : Jvm.MethodName)) ∈ lw_all := lw_g (lw_at lw_m11 41 rfl) rfl
theorem q2569 : (Jvm.Cond.methodLink "LotBeliefsLaw" (297 : Nat) ({ cls := "LotBeliefsModel", name := "following", desc := "(II)I" } : Jvm.MethodName)) ∈ lw_all := lw_g (lw_at lw_m11 45 rfl) rfl
theorem q2577 : (Jvm.Cond.methodLink "LotBeliefsLaw" (254 : Nat) ({ cls := "LotBeliefsModel", name := "sets", desc := "(II)I" } : Jvm.MethodName)) ∈ lw_all := lw_g (lw_at lw_m11 53 rfl) rfl
theorem q2585 : (Jvm.Cond.methodLink "LotBeliefsLaw" (257 : Nat) ({ cls := "LotBeliefsModel", name := "whole", desc := "(II)I" } : Jvm.MethodName)) ∈ lw_all := lw_g (lw_at lw_m11 61 rfl) rfl
theorem q2589 : (Jvm.Cond.methodLink "LotBeliefsLaw" (260 : Nat) ({ cls := "LotBeliefsModel", name := "proof", desc := "(I)I" } : Jvm.MethodName)) ∈ lw_all := lw_g (lw_at lw_m11 65 rfl) rfl
theorem q2593 : (Jvm.Cond.methodLink "LotBeliefsLaw" (263 : Nat) ({ cls := "LotBeliefsModel", name := "split", desc := "(II)I" } : Jvm.MethodName)) ∈ lw_all := lw_g (lw_at lw_m11 69 rfl) rfl
theorem q2597 : (Jvm.Cond.methodLink "LotBeliefsLaw" (266 : Nat) ({ cls := "LotBeliefsModel", name := "likely", desc := "(I)I" } : Jvm.MethodName)) ∈ lw_all := lw_g (lw_at lw_m11 73 rfl) rfl
theorem q2601 : (Jvm.Cond.methodLink "LotBeliefsLaw" (315 : Nat) ({ cls := "LotBeliefsModel", name := "known", desc := "(II)I" } : Jvm.MethodName)) ∈ lw_all := lw_g (lw_at lw_m11 77 rfl) rfl
theorem q2605 : (Jvm.Cond.methodLink "LotBeliefsLaw" (321 : Nat) ({ cls := "LotBeliefsModel", name := "asks", desc := "(I)I" } : Jvm.MethodName)) ∈ lw_all := lw_g (lw_at lw_m11 81 rfl) rfl
theorem q2609 : (Jvm.Cond.methodLink "LotBeliefsLaw" (303 : Nat) ({ cls := "LotBeliefsModel", name := "quarrels", desc := "(I)I" } : Jvm.MethodName)) ∈ lw_all := lw_g (lw_at lw_m11 85 rfl) rfl
theorem q2613 : (Jvm.Cond.methodLink "LotBeliefsLaw" (306 : Nat) ({ cls := "LotBeliefsModel", name := "peace", desc := "(I)I" } : Jvm.MethodName)) ∈ lw_all := lw_g (lw_at lw_m11 89 rfl) rfl
theorem q2617 : (Jvm.Cond.methodLink "LotBeliefsLaw" (269 : Nat) ({ cls := "LotBeliefsModel", name := "salted", desc := "(I)I" } : Jvm.MethodName)) ∈ lw_all := lw_g (lw_at lw_m11 93 rfl) rfl
theorem q2625 : (Jvm.Cond.methodLink "LotBeliefsLaw" (272 : Nat) ({ cls := "LotBeliefsModel", name := "salty", desc := "(I)I" } : Jvm.MethodName)) ∈ lw_all := lw_g (lw_at lw_m11 101 rfl) rfl
theorem q2629 : (Jvm.Cond.methodLink "LotBeliefsLaw" (285 : Nat) ({ cls := "LotBeliefsModel", name := "school", desc := "(II)I" } : Jvm.MethodName)) ∈ lw_all := lw_g (lw_at lw_m11 105 rfl) rfl
theorem q2640 : (Jvm.Cond.methodLink "LotBeliefsLaw" (288 : Nat) ({ cls := "LotBeliefsModel", name := "right", desc := "(I)I" } : Jvm.MethodName)) ∈ lw_all := lw_g (lw_at lw_m11 116 rfl) rfl
theorem q2644 : (Jvm.Cond.methodLink "LotBeliefsLaw" (324 : Nat) ({ cls := "LotBeliefsModel", name := "war", desc := "(I)I" } : Jvm.MethodName)) ∈ lw_all := lw_g (lw_at lw_m11 120 rfl) rfl
theorem q2648 : (Jvm.Cond.methodLink "LotBeliefsLaw" (318 : Nat) ({ cls := "LotBeliefsModel", name := "plain", desc := "(I)I" } : Jvm.MethodName)) ∈ lw_all := lw_g (lw_at lw_m11 124 rfl) rfl
theorem q2660 : (Jvm.Cond.methodLink "LotBeliefsLaw" (343 : Nat) ({ cls := "LotBeliefsModel", name := "judge", desc := "(IIII)I" } : Jvm.MethodName)) ∈ lw_all := lw_g (lw_at lw_m11 136 rfl) rfl
theorem q2664 : (Jvm.Cond.methodLink "LotBeliefsLaw" (347 : Nat) ({ cls := "LotBeliefsModel", name := "image", desc := "()I" } : Jvm.MethodName)) ∈ lw_all := lw_g (lw_at lw_m11 140 rfl) rfl
theorem q2676 : (Jvm.Cond.methodLink "LotBeliefsLaw" (351 : Nat) ({ cls := "LotBeliefsModel", name := "restore", desc := "()I" } : Jvm.MethodName)) ∈ lw_all := lw_g (lw_at lw_m11 152 rfl) rfl
theorem q2680 : (Jvm.Cond.methodLink "LotBeliefsLaw" (355 : Nat) ({ cls := "LotBeliefsModel", name := "status", desc := "(I)I" } : Jvm.MethodName)) ∈ lw_all := lw_g (lw_at lw_m11 156 rfl) rfl
theorem q2684 : (Jvm.Cond.methodLink "LotBeliefsLaw" (359 : Nat) ({ cls := "LotBeliefsModel", name := "count", desc := "(I)I" } : Jvm.MethodName)) ∈ lw_all := lw_g (lw_at lw_m11 160 rfl) rfl
theorem q2688 : (Jvm.Cond.constantLong "LotBeliefsLaw" (209 : Nat) (4294967295 : Int64)) ∈ lw_all := lw_g (lw_at lw_m11 164 rfl) rfl

