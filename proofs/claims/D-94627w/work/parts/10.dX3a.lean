set_option maxRecDepth 100000
def dkwX3_init_11 : List UInt8 := [3, 2, 79, 177]
abbrev dktX3_init_11 : List UInt8 := dkwX3_init_11 ++ []
def dkwX3_init_10 : List UInt8 := [188, 10, 181, 0, 101, 42, 16, 12, 188, 10, 181, 0, 104, 42, 6, 188, 4, 181, 0, 107, 42, 180, 0, 20]
abbrev dktX3_init_10 : List UInt8 := dkwX3_init_10 ++ dktX3_init_11
def dkwX3_init_9 : List UInt8 := [188, 10, 181, 0, 92, 42, 17, 87, 192, 188, 10, 181, 0, 95, 42, 6, 188, 10, 181, 0, 98, 42, 16, 12]
abbrev dktX3_init_9 : List UInt8 := dkwX3_init_9 ++ dktX3_init_10
def dkwX3_init_8 : List UInt8 := [188, 10, 181, 0, 83, 42, 7, 188, 10, 181, 0, 86, 42, 16, 48, 188, 11, 181, 0, 89, 42, 16, 32]
abbrev dktX3_init_8 : List UInt8 := dkwX3_init_8 ++ dktX3_init_9
def dkwX3_init_7 : List UInt8 := [188, 10, 181, 0, 74, 42, 16, 32, 188, 11, 181, 0, 77, 42, 16, 33, 188, 11, 181, 0, 80, 42, 16, 33]
abbrev dktX3_init_7 : List UInt8 := dkwX3_init_7 ++ dktX3_init_8
def dkwX3_init_6 : List UInt8 := [188, 10, 181, 0, 65, 42, 16, 8, 188, 10, 181, 0, 68, 42, 16, 12, 188, 10, 181, 0, 71, 42, 16, 12]
abbrev dktX3_init_6 : List UInt8 := dkwX3_init_6 ++ dktX3_init_7
def dkwX3_init_5 : List UInt8 := [188, 11, 181, 0, 54, 42, 18, 53, 188, 8, 181, 0, 58, 42, 18, 61, 188, 11, 181, 0, 62, 42, 16, 8]
abbrev dktX3_init_5 : List UInt8 := dkwX3_init_5 ++ dktX3_init_6
def dkwX3_init_4 : List UInt8 := [188, 10, 181, 0, 44, 42, 16, 48, 188, 10, 181, 0, 47, 42, 16, 48, 188, 10, 181, 0, 50, 42, 18, 53]
abbrev dktX3_init_4 : List UInt8 := dkwX3_init_4 ++ dktX3_init_5
def dkwX3_init_3 : List UInt8 := [17, 0, 161, 188, 10, 181, 0, 35, 42, 7, 188, 10, 181, 0, 38, 42, 7, 188, 10, 181, 0, 41, 42, 7]
abbrev dktX3_init_3 : List UInt8 := dkwX3_init_3 ++ dktX3_init_4
def dkwX3_init_2 : List UInt8 := [181, 0, 26, 42, 17, 5, 8, 188, 10, 181, 0, 29, 42, 17, 0, 136, 188, 10, 181, 0, 32, 42]
abbrev dktX3_init_2 : List UInt8 := dkwX3_init_2 ++ dktX3_init_3
def dkwX3_init_1 : List UInt8 := [181, 0, 17, 42, 7, 188, 10, 181, 0, 20, 42, 16, 12, 188, 10, 181, 0, 23, 42, 17, 1, 224, 188, 10]
abbrev dktX3_init_1 : List UInt8 := dkwX3_init_1 ++ dktX3_init_2
def dkwX3_init_0 : List UInt8 := [42, 183, 0, 1, 42, 17, 9, 96, 188, 8, 181, 0, 7, 42, 7, 188, 10, 181, 0, 13, 42, 7, 188, 10]
abbrev dktX3_init_0 : List UInt8 := dkwX3_init_0 ++ dktX3_init_1
theorem dksX3_init_0 : cX3_init.data.toList.drop 0 = dktX3_init_0 := by decide +kernel
theorem dksX3_init_1 : cX3_init.data.toList.drop 24 = dktX3_init_1 := dk_seg dksX3_init_0 24 rfl rfl
theorem dksX3_init_2 : cX3_init.data.toList.drop 48 = dktX3_init_2 := dk_seg dksX3_init_1 24 rfl rfl
theorem dksX3_init_3 : cX3_init.data.toList.drop 70 = dktX3_init_3 := dk_seg dksX3_init_2 22 rfl rfl
theorem dksX3_init_4 : cX3_init.data.toList.drop 94 = dktX3_init_4 := dk_seg dksX3_init_3 24 rfl rfl
theorem dksX3_init_5 : cX3_init.data.toList.drop 118 = dktX3_init_5 := dk_seg dksX3_init_4 24 rfl rfl
theorem dksX3_init_6 : cX3_init.data.toList.drop 142 = dktX3_init_6 := dk_seg dksX3_init_5 24 rfl rfl
theorem dksX3_init_7 : cX3_init.data.toList.drop 166 = dktX3_init_7 := dk_seg dksX3_init_6 24 rfl rfl
theorem dksX3_init_8 : cX3_init.data.toList.drop 190 = dktX3_init_8 := dk_seg dksX3_init_7 24 rfl rfl
theorem dksX3_init_9 : cX3_init.data.toList.drop 213 = dktX3_init_9 := dk_seg dksX3_init_8 23 rfl rfl
theorem dksX3_init_10 : cX3_init.data.toList.drop 237 = dktX3_init_10 := dk_seg dksX3_init_9 24 rfl rfl
theorem dksX3_init_11 : cX3_init.data.toList.drop 261 = dktX3_init_11 := dk_seg dksX3_init_10 24 rfl rfl
theorem dX3_init_0 : decode cX3_init 0 = .ok (.aload_n 0, 1) := dk_42 (dk_at dksX3_init_0 0 rfl rfl)
theorem dX3_init_1 : decode cX3_init 1 = .ok (.invokespecial 1, 3) := dk_183 0 1 (dk_at dksX3_init_0 1 rfl rfl)
theorem dX3_init_4 : decode cX3_init 4 = .ok (.aload_n 0, 1) := dk_42 (dk_at dksX3_init_0 4 rfl rfl)
theorem dX3_init_5 : decode cX3_init 5 = .ok (.sipush 2400, 3) := dk_17 9 96 (dk_at dksX3_init_0 5 rfl rfl)
theorem dX3_init_8 : decode cX3_init 8 = .ok (.newarray .byte, 2) := dk_188_8 (dk_at dksX3_init_0 8 rfl rfl)
theorem dX3_init_10 : decode cX3_init 10 = .ok (.putfield 7, 3) := dk_181 0 7 (dk_at dksX3_init_0 10 rfl rfl)
theorem dX3_init_13 : decode cX3_init 13 = .ok (.aload_n 0, 1) := dk_42 (dk_at dksX3_init_0 13 rfl rfl)
theorem dX3_init_14 : decode cX3_init 14 = .ok (.iconst 4, 1) := dk_7 (dk_at dksX3_init_0 14 rfl rfl)
theorem dX3_init_15 : decode cX3_init 15 = .ok (.newarray .int, 2) := dk_188_10 (dk_at dksX3_init_0 15 rfl rfl)
theorem dX3_init_17 : decode cX3_init 17 = .ok (.putfield 13, 3) := dk_181 0 13 (dk_at dksX3_init_0 17 rfl rfl)
theorem dX3_init_20 : decode cX3_init 20 = .ok (.aload_n 0, 1) := dk_42 (dk_at dksX3_init_0 20 rfl rfl)
theorem dX3_init_21 : decode cX3_init 21 = .ok (.iconst 4, 1) := dk_7 (dk_at dksX3_init_0 21 rfl rfl)
theorem dX3_init_22 : decode cX3_init 22 = .ok (.newarray .int, 2) := dk_188_10 (dk_at dksX3_init_0 22 rfl rfl)
theorem dX3_init_24 : decode cX3_init 24 = .ok (.putfield 17, 3) := dk_181 0 17 (dk_at dksX3_init_1 0 rfl rfl)
theorem dX3_init_27 : decode cX3_init 27 = .ok (.aload_n 0, 1) := dk_42 (dk_at dksX3_init_1 3 rfl rfl)
theorem dX3_init_28 : decode cX3_init 28 = .ok (.iconst 4, 1) := dk_7 (dk_at dksX3_init_1 4 rfl rfl)
theorem dX3_init_29 : decode cX3_init 29 = .ok (.newarray .int, 2) := dk_188_10 (dk_at dksX3_init_1 5 rfl rfl)
theorem dX3_init_31 : decode cX3_init 31 = .ok (.putfield 20, 3) := dk_181 0 20 (dk_at dksX3_init_1 7 rfl rfl)
theorem dX3_init_34 : decode cX3_init 34 = .ok (.aload_n 0, 1) := dk_42 (dk_at dksX3_init_1 10 rfl rfl)
theorem dX3_init_35 : decode cX3_init 35 = .ok (.bipush 12, 2) := dk_16 12 (dk_at dksX3_init_1 11 rfl rfl)
theorem dX3_init_37 : decode cX3_init 37 = .ok (.newarray .int, 2) := dk_188_10 (dk_at dksX3_init_1 13 rfl rfl)
theorem dX3_init_39 : decode cX3_init 39 = .ok (.putfield 23, 3) := dk_181 0 23 (dk_at dksX3_init_1 15 rfl rfl)
theorem dX3_init_42 : decode cX3_init 42 = .ok (.aload_n 0, 1) := dk_42 (dk_at dksX3_init_1 18 rfl rfl)
theorem dX3_init_43 : decode cX3_init 43 = .ok (.sipush 480, 3) := dk_17 1 224 (dk_at dksX3_init_1 19 rfl rfl)
theorem dX3_init_46 : decode cX3_init 46 = .ok (.newarray .int, 2) := dk_188_10 (dk_at dksX3_init_1 22 rfl rfl)
theorem dX3_init_48 : decode cX3_init 48 = .ok (.putfield 26, 3) := dk_181 0 26 (dk_at dksX3_init_2 0 rfl rfl)
theorem dX3_init_51 : decode cX3_init 51 = .ok (.aload_n 0, 1) := dk_42 (dk_at dksX3_init_2 3 rfl rfl)
theorem dX3_init_52 : decode cX3_init 52 = .ok (.sipush 1288, 3) := dk_17 5 8 (dk_at dksX3_init_2 4 rfl rfl)
theorem dX3_init_55 : decode cX3_init 55 = .ok (.newarray .int, 2) := dk_188_10 (dk_at dksX3_init_2 7 rfl rfl)
theorem dX3_init_57 : decode cX3_init 57 = .ok (.putfield 29, 3) := dk_181 0 29 (dk_at dksX3_init_2 9 rfl rfl)
theorem dX3_init_60 : decode cX3_init 60 = .ok (.aload_n 0, 1) := dk_42 (dk_at dksX3_init_2 12 rfl rfl)
theorem dX3_init_61 : decode cX3_init 61 = .ok (.sipush 136, 3) := dk_17 0 136 (dk_at dksX3_init_2 13 rfl rfl)
theorem dX3_init_64 : decode cX3_init 64 = .ok (.newarray .int, 2) := dk_188_10 (dk_at dksX3_init_2 16 rfl rfl)
theorem dX3_init_66 : decode cX3_init 66 = .ok (.putfield 32, 3) := dk_181 0 32 (dk_at dksX3_init_2 18 rfl rfl)
theorem dX3_init_69 : decode cX3_init 69 = .ok (.aload_n 0, 1) := dk_42 (dk_at dksX3_init_2 21 rfl rfl)
theorem dX3_init_70 : decode cX3_init 70 = .ok (.sipush 161, 3) := dk_17 0 161 (dk_at dksX3_init_3 0 rfl rfl)
theorem dX3_init_73 : decode cX3_init 73 = .ok (.newarray .int, 2) := dk_188_10 (dk_at dksX3_init_3 3 rfl rfl)
theorem dX3_init_75 : decode cX3_init 75 = .ok (.putfield 35, 3) := dk_181 0 35 (dk_at dksX3_init_3 5 rfl rfl)
theorem dX3_init_78 : decode cX3_init 78 = .ok (.aload_n 0, 1) := dk_42 (dk_at dksX3_init_3 8 rfl rfl)
theorem dX3_init_79 : decode cX3_init 79 = .ok (.iconst 4, 1) := dk_7 (dk_at dksX3_init_3 9 rfl rfl)
theorem dX3_init_80 : decode cX3_init 80 = .ok (.newarray .int, 2) := dk_188_10 (dk_at dksX3_init_3 10 rfl rfl)
theorem dX3_init_82 : decode cX3_init 82 = .ok (.putfield 38, 3) := dk_181 0 38 (dk_at dksX3_init_3 12 rfl rfl)
theorem dX3_init_85 : decode cX3_init 85 = .ok (.aload_n 0, 1) := dk_42 (dk_at dksX3_init_3 15 rfl rfl)
theorem dX3_init_86 : decode cX3_init 86 = .ok (.iconst 4, 1) := dk_7 (dk_at dksX3_init_3 16 rfl rfl)
theorem dX3_init_87 : decode cX3_init 87 = .ok (.newarray .int, 2) := dk_188_10 (dk_at dksX3_init_3 17 rfl rfl)
theorem dX3_init_89 : decode cX3_init 89 = .ok (.putfield 41, 3) := dk_181 0 41 (dk_at dksX3_init_3 19 rfl rfl)
theorem dX3_init_92 : decode cX3_init 92 = .ok (.aload_n 0, 1) := dk_42 (dk_at dksX3_init_3 22 rfl rfl)
theorem dX3_init_93 : decode cX3_init 93 = .ok (.iconst 4, 1) := dk_7 (dk_at dksX3_init_3 23 rfl rfl)
theorem dX3_init_94 : decode cX3_init 94 = .ok (.newarray .int, 2) := dk_188_10 (dk_at dksX3_init_4 0 rfl rfl)
theorem dX3_init_96 : decode cX3_init 96 = .ok (.putfield 44, 3) := dk_181 0 44 (dk_at dksX3_init_4 2 rfl rfl)
theorem dX3_init_99 : decode cX3_init 99 = .ok (.aload_n 0, 1) := dk_42 (dk_at dksX3_init_4 5 rfl rfl)
theorem dX3_init_100 : decode cX3_init 100 = .ok (.bipush 48, 2) := dk_16 48 (dk_at dksX3_init_4 6 rfl rfl)
theorem dX3_init_102 : decode cX3_init 102 = .ok (.newarray .int, 2) := dk_188_10 (dk_at dksX3_init_4 8 rfl rfl)
theorem dX3_init_104 : decode cX3_init 104 = .ok (.putfield 47, 3) := dk_181 0 47 (dk_at dksX3_init_4 10 rfl rfl)
theorem dX3_init_107 : decode cX3_init 107 = .ok (.aload_n 0, 1) := dk_42 (dk_at dksX3_init_4 13 rfl rfl)
theorem dX3_init_108 : decode cX3_init 108 = .ok (.bipush 48, 2) := dk_16 48 (dk_at dksX3_init_4 14 rfl rfl)
theorem dX3_init_110 : decode cX3_init 110 = .ok (.newarray .int, 2) := dk_188_10 (dk_at dksX3_init_4 16 rfl rfl)
theorem dX3_init_112 : decode cX3_init 112 = .ok (.putfield 50, 3) := dk_181 0 50 (dk_at dksX3_init_4 18 rfl rfl)
theorem dX3_init_115 : decode cX3_init 115 = .ok (.aload_n 0, 1) := dk_42 (dk_at dksX3_init_4 21 rfl rfl)
theorem dX3_init_116 : decode cX3_init 116 = .ok (.ldc 53, 2) := dk_18 53 (dk_at dksX3_init_4 22 rfl rfl)
theorem dX3_init_118 : decode cX3_init 118 = .ok (.newarray .long, 2) := dk_188_11 (dk_at dksX3_init_5 0 rfl rfl)
theorem dX3_init_120 : decode cX3_init 120 = .ok (.putfield 54, 3) := dk_181 0 54 (dk_at dksX3_init_5 2 rfl rfl)
theorem dX3_init_123 : decode cX3_init 123 = .ok (.aload_n 0, 1) := dk_42 (dk_at dksX3_init_5 5 rfl rfl)
theorem dX3_init_124 : decode cX3_init 124 = .ok (.ldc 53, 2) := dk_18 53 (dk_at dksX3_init_5 6 rfl rfl)
theorem dX3_init_126 : decode cX3_init 126 = .ok (.newarray .byte, 2) := dk_188_8 (dk_at dksX3_init_5 8 rfl rfl)
theorem dX3_init_128 : decode cX3_init 128 = .ok (.putfield 58, 3) := dk_181 0 58 (dk_at dksX3_init_5 10 rfl rfl)
theorem dX3_init_131 : decode cX3_init 131 = .ok (.aload_n 0, 1) := dk_42 (dk_at dksX3_init_5 13 rfl rfl)
theorem dX3_init_132 : decode cX3_init 132 = .ok (.ldc 61, 2) := dk_18 61 (dk_at dksX3_init_5 14 rfl rfl)
theorem dX3_init_134 : decode cX3_init 134 = .ok (.newarray .long, 2) := dk_188_11 (dk_at dksX3_init_5 16 rfl rfl)
theorem dX3_init_136 : decode cX3_init 136 = .ok (.putfield 62, 3) := dk_181 0 62 (dk_at dksX3_init_5 18 rfl rfl)
theorem dX3_init_139 : decode cX3_init 139 = .ok (.aload_n 0, 1) := dk_42 (dk_at dksX3_init_5 21 rfl rfl)
theorem dX3_init_140 : decode cX3_init 140 = .ok (.bipush 8, 2) := dk_16 8 (dk_at dksX3_init_5 22 rfl rfl)
theorem dX3_init_142 : decode cX3_init 142 = .ok (.newarray .int, 2) := dk_188_10 (dk_at dksX3_init_6 0 rfl rfl)
theorem dX3_init_144 : decode cX3_init 144 = .ok (.putfield 65, 3) := dk_181 0 65 (dk_at dksX3_init_6 2 rfl rfl)
theorem dX3_init_147 : decode cX3_init 147 = .ok (.aload_n 0, 1) := dk_42 (dk_at dksX3_init_6 5 rfl rfl)
theorem dX3_init_148 : decode cX3_init 148 = .ok (.bipush 8, 2) := dk_16 8 (dk_at dksX3_init_6 6 rfl rfl)
theorem dX3_init_150 : decode cX3_init 150 = .ok (.newarray .int, 2) := dk_188_10 (dk_at dksX3_init_6 8 rfl rfl)
theorem dX3_init_152 : decode cX3_init 152 = .ok (.putfield 68, 3) := dk_181 0 68 (dk_at dksX3_init_6 10 rfl rfl)
theorem dX3_init_155 : decode cX3_init 155 = .ok (.aload_n 0, 1) := dk_42 (dk_at dksX3_init_6 13 rfl rfl)
theorem dX3_init_156 : decode cX3_init 156 = .ok (.bipush 12, 2) := dk_16 12 (dk_at dksX3_init_6 14 rfl rfl)
theorem dX3_init_158 : decode cX3_init 158 = .ok (.newarray .int, 2) := dk_188_10 (dk_at dksX3_init_6 16 rfl rfl)
theorem dX3_init_160 : decode cX3_init 160 = .ok (.putfield 71, 3) := dk_181 0 71 (dk_at dksX3_init_6 18 rfl rfl)
theorem dX3_init_163 : decode cX3_init 163 = .ok (.aload_n 0, 1) := dk_42 (dk_at dksX3_init_6 21 rfl rfl)
theorem dX3_init_164 : decode cX3_init 164 = .ok (.bipush 12, 2) := dk_16 12 (dk_at dksX3_init_6 22 rfl rfl)
theorem dX3_init_166 : decode cX3_init 166 = .ok (.newarray .int, 2) := dk_188_10 (dk_at dksX3_init_7 0 rfl rfl)
theorem dX3_init_168 : decode cX3_init 168 = .ok (.putfield 74, 3) := dk_181 0 74 (dk_at dksX3_init_7 2 rfl rfl)
theorem dX3_init_171 : decode cX3_init 171 = .ok (.aload_n 0, 1) := dk_42 (dk_at dksX3_init_7 5 rfl rfl)
theorem dX3_init_172 : decode cX3_init 172 = .ok (.bipush 32, 2) := dk_16 32 (dk_at dksX3_init_7 6 rfl rfl)
theorem dX3_init_174 : decode cX3_init 174 = .ok (.newarray .long, 2) := dk_188_11 (dk_at dksX3_init_7 8 rfl rfl)
theorem dX3_init_176 : decode cX3_init 176 = .ok (.putfield 77, 3) := dk_181 0 77 (dk_at dksX3_init_7 10 rfl rfl)
theorem dX3_init_179 : decode cX3_init 179 = .ok (.aload_n 0, 1) := dk_42 (dk_at dksX3_init_7 13 rfl rfl)
theorem dX3_init_180 : decode cX3_init 180 = .ok (.bipush 33, 2) := dk_16 33 (dk_at dksX3_init_7 14 rfl rfl)
theorem dX3_init_182 : decode cX3_init 182 = .ok (.newarray .long, 2) := dk_188_11 (dk_at dksX3_init_7 16 rfl rfl)
theorem dX3_init_184 : decode cX3_init 184 = .ok (.putfield 80, 3) := dk_181 0 80 (dk_at dksX3_init_7 18 rfl rfl)
theorem dX3_init_187 : decode cX3_init 187 = .ok (.aload_n 0, 1) := dk_42 (dk_at dksX3_init_7 21 rfl rfl)
theorem dX3_init_188 : decode cX3_init 188 = .ok (.bipush 33, 2) := dk_16 33 (dk_at dksX3_init_7 22 rfl rfl)
theorem dX3_init_190 : decode cX3_init 190 = .ok (.newarray .int, 2) := dk_188_10 (dk_at dksX3_init_8 0 rfl rfl)
theorem dX3_init_192 : decode cX3_init 192 = .ok (.putfield 83, 3) := dk_181 0 83 (dk_at dksX3_init_8 2 rfl rfl)
theorem dX3_init_195 : decode cX3_init 195 = .ok (.aload_n 0, 1) := dk_42 (dk_at dksX3_init_8 5 rfl rfl)
theorem dX3_init_196 : decode cX3_init 196 = .ok (.iconst 4, 1) := dk_7 (dk_at dksX3_init_8 6 rfl rfl)
theorem dX3_init_197 : decode cX3_init 197 = .ok (.newarray .int, 2) := dk_188_10 (dk_at dksX3_init_8 7 rfl rfl)
theorem dX3_init_199 : decode cX3_init 199 = .ok (.putfield 86, 3) := dk_181 0 86 (dk_at dksX3_init_8 9 rfl rfl)
theorem dX3_init_202 : decode cX3_init 202 = .ok (.aload_n 0, 1) := dk_42 (dk_at dksX3_init_8 12 rfl rfl)
theorem dX3_init_203 : decode cX3_init 203 = .ok (.bipush 48, 2) := dk_16 48 (dk_at dksX3_init_8 13 rfl rfl)
theorem dX3_init_205 : decode cX3_init 205 = .ok (.newarray .long, 2) := dk_188_11 (dk_at dksX3_init_8 15 rfl rfl)
theorem dX3_init_207 : decode cX3_init 207 = .ok (.putfield 89, 3) := dk_181 0 89 (dk_at dksX3_init_8 17 rfl rfl)
theorem dX3_init_210 : decode cX3_init 210 = .ok (.aload_n 0, 1) := dk_42 (dk_at dksX3_init_8 20 rfl rfl)
theorem dX3_init_211 : decode cX3_init 211 = .ok (.bipush 32, 2) := dk_16 32 (dk_at dksX3_init_8 21 rfl rfl)
theorem dX3_init_213 : decode cX3_init 213 = .ok (.newarray .int, 2) := dk_188_10 (dk_at dksX3_init_9 0 rfl rfl)
theorem dX3_init_215 : decode cX3_init 215 = .ok (.putfield 92, 3) := dk_181 0 92 (dk_at dksX3_init_9 2 rfl rfl)
theorem dX3_init_218 : decode cX3_init 218 = .ok (.aload_n 0, 1) := dk_42 (dk_at dksX3_init_9 5 rfl rfl)
theorem dX3_init_219 : decode cX3_init 219 = .ok (.sipush 22464, 3) := dk_17 87 192 (dk_at dksX3_init_9 6 rfl rfl)
theorem dX3_init_222 : decode cX3_init 222 = .ok (.newarray .int, 2) := dk_188_10 (dk_at dksX3_init_9 9 rfl rfl)
theorem dX3_init_224 : decode cX3_init 224 = .ok (.putfield 95, 3) := dk_181 0 95 (dk_at dksX3_init_9 11 rfl rfl)
theorem dX3_init_227 : decode cX3_init 227 = .ok (.aload_n 0, 1) := dk_42 (dk_at dksX3_init_9 14 rfl rfl)
theorem dX3_init_228 : decode cX3_init 228 = .ok (.iconst 3, 1) := dk_6 (dk_at dksX3_init_9 15 rfl rfl)
theorem dX3_init_229 : decode cX3_init 229 = .ok (.newarray .int, 2) := dk_188_10 (dk_at dksX3_init_9 16 rfl rfl)
theorem dX3_init_231 : decode cX3_init 231 = .ok (.putfield 98, 3) := dk_181 0 98 (dk_at dksX3_init_9 18 rfl rfl)
theorem dX3_init_234 : decode cX3_init 234 = .ok (.aload_n 0, 1) := dk_42 (dk_at dksX3_init_9 21 rfl rfl)
theorem dX3_init_235 : decode cX3_init 235 = .ok (.bipush 12, 2) := dk_16 12 (dk_at dksX3_init_9 22 rfl rfl)
theorem dX3_init_237 : decode cX3_init 237 = .ok (.newarray .int, 2) := dk_188_10 (dk_at dksX3_init_10 0 rfl rfl)
theorem dX3_init_239 : decode cX3_init 239 = .ok (.putfield 101, 3) := dk_181 0 101 (dk_at dksX3_init_10 2 rfl rfl)
theorem dX3_init_242 : decode cX3_init 242 = .ok (.aload_n 0, 1) := dk_42 (dk_at dksX3_init_10 5 rfl rfl)
theorem dX3_init_243 : decode cX3_init 243 = .ok (.bipush 12, 2) := dk_16 12 (dk_at dksX3_init_10 6 rfl rfl)
theorem dX3_init_245 : decode cX3_init 245 = .ok (.newarray .int, 2) := dk_188_10 (dk_at dksX3_init_10 8 rfl rfl)
theorem dX3_init_247 : decode cX3_init 247 = .ok (.putfield 104, 3) := dk_181 0 104 (dk_at dksX3_init_10 10 rfl rfl)
theorem dX3_init_250 : decode cX3_init 250 = .ok (.aload_n 0, 1) := dk_42 (dk_at dksX3_init_10 13 rfl rfl)
theorem dX3_init_251 : decode cX3_init 251 = .ok (.iconst 3, 1) := dk_6 (dk_at dksX3_init_10 14 rfl rfl)
theorem dX3_init_252 : decode cX3_init 252 = .ok (.newarray .boolean, 2) := dk_188_4 (dk_at dksX3_init_10 15 rfl rfl)
theorem dX3_init_254 : decode cX3_init 254 = .ok (.putfield 107, 3) := dk_181 0 107 (dk_at dksX3_init_10 17 rfl rfl)
theorem dX3_init_257 : decode cX3_init 257 = .ok (.aload_n 0, 1) := dk_42 (dk_at dksX3_init_10 20 rfl rfl)
theorem dX3_init_258 : decode cX3_init 258 = .ok (.getfield 20, 3) := dk_180 0 20 (dk_at dksX3_init_10 21 rfl rfl)
theorem dX3_init_261 : decode cX3_init 261 = .ok (.iconst 0, 1) := dk_3 (dk_at dksX3_init_11 0 rfl rfl)
theorem dX3_init_262 : decode cX3_init 262 = .ok (.iconst (-1), 1) := dk_2 (dk_at dksX3_init_11 1 rfl rfl)
theorem dX3_init_263 : decode cX3_init 263 = .ok (.iastore, 1) := dk_79 (dk_at dksX3_init_11 2 rfl rfl)
theorem dX3_init_264 : decode cX3_init 264 = .ok (.return_, 1) := dk_177 (dk_at dksX3_init_11 3 rfl rfl)
def dkwX3_feed_2 : List UInt8 := [182, 0, 127, 42, 180, 0, 13, 3, 46, 172]
abbrev dktX3_feed_2 : List UInt8 := dkwX3_feed_2 ++ []
def dkwX3_feed_1 : List UInt8 := [182, 0, 127, 42, 28, 182, 0, 127, 42, 29, 182, 0, 127, 42, 21, 4, 182, 0, 127, 42, 21, 5]
abbrev dktX3_feed_1 : List UInt8 := dkwX3_feed_1 ++ dktX3_feed_2
def dkwX3_feed_0 : List UInt8 := [42, 3, 181, 0, 111, 42, 180, 0, 13, 3, 46, 16, 20, 96, 17, 2, 88, 164, 0, 5, 2, 172, 42, 27]
abbrev dktX3_feed_0 : List UInt8 := dkwX3_feed_0 ++ dktX3_feed_1
theorem dksX3_feed_0 : cX3_feed.data.toList.drop 0 = dktX3_feed_0 := by decide +kernel
theorem dksX3_feed_1 : cX3_feed.data.toList.drop 24 = dktX3_feed_1 := dk_seg dksX3_feed_0 24 rfl rfl
theorem dksX3_feed_2 : cX3_feed.data.toList.drop 46 = dktX3_feed_2 := dk_seg dksX3_feed_1 22 rfl rfl
theorem dX3_feed_0 : decode cX3_feed 0 = .ok (.aload_n 0, 1) := dk_42 (dk_at dksX3_feed_0 0 rfl rfl)
theorem dX3_feed_1 : decode cX3_feed 1 = .ok (.iconst 0, 1) := dk_3 (dk_at dksX3_feed_0 1 rfl rfl)
theorem dX3_feed_2 : decode cX3_feed 2 = .ok (.putfield 111, 3) := dk_181 0 111 (dk_at dksX3_feed_0 2 rfl rfl)
theorem dX3_feed_5 : decode cX3_feed 5 = .ok (.aload_n 0, 1) := dk_42 (dk_at dksX3_feed_0 5 rfl rfl)
theorem dX3_feed_6 : decode cX3_feed 6 = .ok (.getfield 13, 3) := dk_180 0 13 (dk_at dksX3_feed_0 6 rfl rfl)
theorem dX3_feed_9 : decode cX3_feed 9 = .ok (.iconst 0, 1) := dk_3 (dk_at dksX3_feed_0 9 rfl rfl)
theorem dX3_feed_10 : decode cX3_feed 10 = .ok (.iaload, 1) := dk_46 (dk_at dksX3_feed_0 10 rfl rfl)
theorem dX3_feed_11 : decode cX3_feed 11 = .ok (.bipush 20, 2) := dk_16 20 (dk_at dksX3_feed_0 11 rfl rfl)
theorem dX3_feed_13 : decode cX3_feed 13 = .ok (.iadd, 1) := dk_96 (dk_at dksX3_feed_0 13 rfl rfl)
theorem dX3_feed_14 : decode cX3_feed 14 = .ok (.sipush 600, 3) := dk_17 2 88 (dk_at dksX3_feed_0 14 rfl rfl)
theorem dX3_feed_17 : decode cX3_feed 17 = .ok (.if_icmp .le 5, 3) := dk_164 0 5 (dk_at dksX3_feed_0 17 rfl rfl)
theorem dX3_feed_20 : decode cX3_feed 20 = .ok (.iconst (-1), 1) := dk_2 (dk_at dksX3_feed_0 20 rfl rfl)
theorem dX3_feed_21 : decode cX3_feed 21 = .ok (.ireturn, 1) := dk_172 (dk_at dksX3_feed_0 21 rfl rfl)
theorem dX3_feed_22 : decode cX3_feed 22 = .ok (.aload_n 0, 1) := dk_42 (dk_at dksX3_feed_0 22 rfl rfl)
theorem dX3_feed_23 : decode cX3_feed 23 = .ok (.iload_n 1, 1) := dk_27 (dk_at dksX3_feed_0 23 rfl rfl)
theorem dX3_feed_24 : decode cX3_feed 24 = .ok (.invokevirtual 127, 3) := dk_182 0 127 (dk_at dksX3_feed_1 0 rfl rfl)
theorem dX3_feed_27 : decode cX3_feed 27 = .ok (.aload_n 0, 1) := dk_42 (dk_at dksX3_feed_1 3 rfl rfl)
theorem dX3_feed_28 : decode cX3_feed 28 = .ok (.iload_n 2, 1) := dk_28 (dk_at dksX3_feed_1 4 rfl rfl)
theorem dX3_feed_29 : decode cX3_feed 29 = .ok (.invokevirtual 127, 3) := dk_182 0 127 (dk_at dksX3_feed_1 5 rfl rfl)
theorem dX3_feed_32 : decode cX3_feed 32 = .ok (.aload_n 0, 1) := dk_42 (dk_at dksX3_feed_1 8 rfl rfl)
theorem dX3_feed_33 : decode cX3_feed 33 = .ok (.iload_n 3, 1) := dk_29 (dk_at dksX3_feed_1 9 rfl rfl)
theorem dX3_feed_34 : decode cX3_feed 34 = .ok (.invokevirtual 127, 3) := dk_182 0 127 (dk_at dksX3_feed_1 10 rfl rfl)
theorem dX3_feed_37 : decode cX3_feed 37 = .ok (.aload_n 0, 1) := dk_42 (dk_at dksX3_feed_1 13 rfl rfl)
theorem dX3_feed_38 : decode cX3_feed 38 = .ok (.iload 4, 2) := dk_21 4 (dk_at dksX3_feed_1 14 rfl rfl)
theorem dX3_feed_40 : decode cX3_feed 40 = .ok (.invokevirtual 127, 3) := dk_182 0 127 (dk_at dksX3_feed_1 16 rfl rfl)
theorem dX3_feed_43 : decode cX3_feed 43 = .ok (.aload_n 0, 1) := dk_42 (dk_at dksX3_feed_1 19 rfl rfl)
theorem dX3_feed_44 : decode cX3_feed 44 = .ok (.iload 5, 2) := dk_21 5 (dk_at dksX3_feed_1 20 rfl rfl)
theorem dX3_feed_46 : decode cX3_feed 46 = .ok (.invokevirtual 127, 3) := dk_182 0 127 (dk_at dksX3_feed_2 0 rfl rfl)
theorem dX3_feed_49 : decode cX3_feed 49 = .ok (.aload_n 0, 1) := dk_42 (dk_at dksX3_feed_2 3 rfl rfl)
theorem dX3_feed_50 : decode cX3_feed 50 = .ok (.getfield 13, 3) := dk_180 0 13 (dk_at dksX3_feed_2 4 rfl rfl)
theorem dX3_feed_53 : decode cX3_feed 53 = .ok (.iconst 0, 1) := dk_3 (dk_at dksX3_feed_2 7 rfl rfl)
theorem dX3_feed_54 : decode cX3_feed 54 = .ok (.iaload, 1) := dk_46 (dk_at dksX3_feed_2 8 rfl rfl)
theorem dX3_feed_55 : decode cX3_feed 55 = .ok (.ireturn, 1) := dk_172 (dk_at dksX3_feed_2 9 rfl rfl)
def dkwX3_four_1 : List UInt8 := [180, 0, 13, 3, 92, 46, 4, 96, 79, 132, 2, 248, 167, 255, 224, 177]
abbrev dktX3_four_1 : List UInt8 := dkwX3_four_1 ++ []
def dkwX3_four_0 : List UInt8 := [16, 24, 61, 28, 155, 0, 34, 42, 180, 0, 7, 42, 180, 0, 13, 3, 46, 27, 28, 122, 145, 84, 42]
abbrev dktX3_four_0 : List UInt8 := dkwX3_four_0 ++ dktX3_four_1
theorem dksX3_four_0 : cX3_four.data.toList.drop 0 = dktX3_four_0 := by decide +kernel
theorem dksX3_four_1 : cX3_four.data.toList.drop 23 = dktX3_four_1 := dk_seg dksX3_four_0 23 rfl rfl
theorem dX3_four_0 : decode cX3_four 0 = .ok (.bipush 24, 2) := dk_16 24 (dk_at dksX3_four_0 0 rfl rfl)
theorem dX3_four_2 : decode cX3_four 2 = .ok (.istore_n 2, 1) := dk_61 (dk_at dksX3_four_0 2 rfl rfl)
theorem dX3_four_3 : decode cX3_four 3 = .ok (.iload_n 2, 1) := dk_28 (dk_at dksX3_four_0 3 rfl rfl)
theorem dX3_four_4 : decode cX3_four 4 = .ok (.ifCond .lt 34, 3) := dk_155 0 34 (dk_at dksX3_four_0 4 rfl rfl)
theorem dX3_four_7 : decode cX3_four 7 = .ok (.aload_n 0, 1) := dk_42 (dk_at dksX3_four_0 7 rfl rfl)
theorem dX3_four_8 : decode cX3_four 8 = .ok (.getfield 7, 3) := dk_180 0 7 (dk_at dksX3_four_0 8 rfl rfl)
theorem dX3_four_11 : decode cX3_four 11 = .ok (.aload_n 0, 1) := dk_42 (dk_at dksX3_four_0 11 rfl rfl)
theorem dX3_four_12 : decode cX3_four 12 = .ok (.getfield 13, 3) := dk_180 0 13 (dk_at dksX3_four_0 12 rfl rfl)
theorem dX3_four_15 : decode cX3_four 15 = .ok (.iconst 0, 1) := dk_3 (dk_at dksX3_four_0 15 rfl rfl)
theorem dX3_four_16 : decode cX3_four 16 = .ok (.iaload, 1) := dk_46 (dk_at dksX3_four_0 16 rfl rfl)
theorem dX3_four_17 : decode cX3_four 17 = .ok (.iload_n 1, 1) := dk_27 (dk_at dksX3_four_0 17 rfl rfl)
theorem dX3_four_18 : decode cX3_four 18 = .ok (.iload_n 2, 1) := dk_28 (dk_at dksX3_four_0 18 rfl rfl)
theorem dX3_four_19 : decode cX3_four 19 = .ok (.ishr, 1) := dk_122 (dk_at dksX3_four_0 19 rfl rfl)
theorem dX3_four_20 : decode cX3_four 20 = .ok (.i2b, 1) := dk_145 (dk_at dksX3_four_0 20 rfl rfl)
theorem dX3_four_21 : decode cX3_four 21 = .ok (.bastore, 1) := dk_84 (dk_at dksX3_four_0 21 rfl rfl)
theorem dX3_four_22 : decode cX3_four 22 = .ok (.aload_n 0, 1) := dk_42 (dk_at dksX3_four_0 22 rfl rfl)
theorem dX3_four_23 : decode cX3_four 23 = .ok (.getfield 13, 3) := dk_180 0 13 (dk_at dksX3_four_1 0 rfl rfl)
theorem dX3_four_26 : decode cX3_four 26 = .ok (.iconst 0, 1) := dk_3 (dk_at dksX3_four_1 3 rfl rfl)
theorem dX3_four_27 : decode cX3_four 27 = .ok (.dup2, 1) := dk_92 (dk_at dksX3_four_1 4 rfl rfl)
theorem dX3_four_28 : decode cX3_four 28 = .ok (.iaload, 1) := dk_46 (dk_at dksX3_four_1 5 rfl rfl)
theorem dX3_four_29 : decode cX3_four 29 = .ok (.iconst 1, 1) := dk_4 (dk_at dksX3_four_1 6 rfl rfl)
theorem dX3_four_30 : decode cX3_four 30 = .ok (.iadd, 1) := dk_96 (dk_at dksX3_four_1 7 rfl rfl)
theorem dX3_four_31 : decode cX3_four 31 = .ok (.iastore, 1) := dk_79 (dk_at dksX3_four_1 8 rfl rfl)
theorem dX3_four_32 : decode cX3_four 32 = .ok (.iinc 2 (-8), 3) := dk_132 2 248 (dk_at dksX3_four_1 9 rfl rfl)
theorem dX3_four_35 : decode cX3_four 35 = .ok (.goto (-32), 3) := dk_167 255 224 (dk_at dksX3_four_1 12 rfl rfl)
theorem dX3_four_38 : decode cX3_four 38 = .ok (.return_, 1) := dk_177 (dk_at dksX3_four_1 15 rfl rfl)
def dkwX3_end_1 : List UInt8 := [180, 0, 13, 3, 27, 79, 27, 172]
abbrev dktX3_end_1 : List UInt8 := dkwX3_end_1 ++ []
def dkwX3_end_0 : List UInt8 := [42, 3, 181, 0, 111, 27, 3, 42, 180, 0, 13, 3, 46, 184, 0, 123, 154, 0, 5, 2, 172, 42]
abbrev dktX3_end_0 : List UInt8 := dkwX3_end_0 ++ dktX3_end_1
theorem dksX3_end_0 : cX3_end.data.toList.drop 0 = dktX3_end_0 := by decide +kernel
theorem dksX3_end_1 : cX3_end.data.toList.drop 22 = dktX3_end_1 := dk_seg dksX3_end_0 22 rfl rfl
theorem dX3_end_0 : decode cX3_end 0 = .ok (.aload_n 0, 1) := dk_42 (dk_at dksX3_end_0 0 rfl rfl)
theorem dX3_end_1 : decode cX3_end 1 = .ok (.iconst 0, 1) := dk_3 (dk_at dksX3_end_0 1 rfl rfl)
theorem dX3_end_2 : decode cX3_end 2 = .ok (.putfield 111, 3) := dk_181 0 111 (dk_at dksX3_end_0 2 rfl rfl)
theorem dX3_end_5 : decode cX3_end 5 = .ok (.iload_n 1, 1) := dk_27 (dk_at dksX3_end_0 5 rfl rfl)
theorem dX3_end_6 : decode cX3_end 6 = .ok (.iconst 0, 1) := dk_3 (dk_at dksX3_end_0 6 rfl rfl)
theorem dX3_end_7 : decode cX3_end 7 = .ok (.aload_n 0, 1) := dk_42 (dk_at dksX3_end_0 7 rfl rfl)
theorem dX3_end_8 : decode cX3_end 8 = .ok (.getfield 13, 3) := dk_180 0 13 (dk_at dksX3_end_0 8 rfl rfl)
theorem dX3_end_11 : decode cX3_end 11 = .ok (.iconst 0, 1) := dk_3 (dk_at dksX3_end_0 11 rfl rfl)
theorem dX3_end_12 : decode cX3_end 12 = .ok (.iaload, 1) := dk_46 (dk_at dksX3_end_0 12 rfl rfl)
theorem dX3_end_13 : decode cX3_end 13 = .ok (.invokestatic 123, 3) := dk_184 0 123 (dk_at dksX3_end_0 13 rfl rfl)
theorem dX3_end_16 : decode cX3_end 16 = .ok (.ifCond .ne 5, 3) := dk_154 0 5 (dk_at dksX3_end_0 16 rfl rfl)
theorem dX3_end_19 : decode cX3_end 19 = .ok (.iconst (-1), 1) := dk_2 (dk_at dksX3_end_0 19 rfl rfl)
theorem dX3_end_20 : decode cX3_end 20 = .ok (.ireturn, 1) := dk_172 (dk_at dksX3_end_0 20 rfl rfl)
theorem dX3_end_21 : decode cX3_end 21 = .ok (.aload_n 0, 1) := dk_42 (dk_at dksX3_end_0 21 rfl rfl)
theorem dX3_end_22 : decode cX3_end 22 = .ok (.getfield 13, 3) := dk_180 0 13 (dk_at dksX3_end_1 0 rfl rfl)
theorem dX3_end_25 : decode cX3_end 25 = .ok (.iconst 0, 1) := dk_3 (dk_at dksX3_end_1 3 rfl rfl)
theorem dX3_end_26 : decode cX3_end 26 = .ok (.iload_n 1, 1) := dk_27 (dk_at dksX3_end_1 4 rfl rfl)
theorem dX3_end_27 : decode cX3_end 27 = .ok (.iastore, 1) := dk_79 (dk_at dksX3_end_1 5 rfl rfl)
theorem dX3_end_28 : decode cX3_end 28 = .ok (.iload_n 1, 1) := dk_27 (dk_at dksX3_end_1 6 rfl rfl)
theorem dX3_end_29 : decode cX3_end 29 = .ok (.ireturn, 1) := dk_172 (dk_at dksX3_end_1 7 rfl rfl)
def dkwX3_in_0 : List UInt8 := [26, 27, 161, 0, 12, 26, 28, 163, 0, 7, 4, 167, 0, 4, 3, 172]
abbrev dktX3_in_0 : List UInt8 := dkwX3_in_0 ++ []
theorem dksX3_in_0 : cX3_in.data.toList.drop 0 = dktX3_in_0 := by decide +kernel
theorem dX3_in_0 : decode cX3_in 0 = .ok (.iload_n 0, 1) := dk_26 (dk_at dksX3_in_0 0 rfl rfl)
theorem dX3_in_1 : decode cX3_in 1 = .ok (.iload_n 1, 1) := dk_27 (dk_at dksX3_in_0 1 rfl rfl)
theorem dX3_in_2 : decode cX3_in 2 = .ok (.if_icmp .lt 12, 3) := dk_161 0 12 (dk_at dksX3_in_0 2 rfl rfl)
theorem dX3_in_5 : decode cX3_in 5 = .ok (.iload_n 0, 1) := dk_26 (dk_at dksX3_in_0 5 rfl rfl)
theorem dX3_in_6 : decode cX3_in 6 = .ok (.iload_n 2, 1) := dk_28 (dk_at dksX3_in_0 6 rfl rfl)
theorem dX3_in_7 : decode cX3_in 7 = .ok (.if_icmp .gt 7, 3) := dk_163 0 7 (dk_at dksX3_in_0 7 rfl rfl)
theorem dX3_in_10 : decode cX3_in 10 = .ok (.iconst 1, 1) := dk_4 (dk_at dksX3_in_0 10 rfl rfl)
theorem dX3_in_11 : decode cX3_in 11 = .ok (.goto 4, 3) := dk_167 0 4 (dk_at dksX3_in_0 11 rfl rfl)
theorem dX3_in_14 : decode cX3_in 14 = .ok (.iconst 0, 1) := dk_3 (dk_at dksX3_in_0 14 rfl rfl)
theorem dX3_in_15 : decode cX3_in 15 = .ok (.ireturn, 1) := dk_172 (dk_at dksX3_in_0 15 rfl rfl)
def dkwX3_text_8 : List UInt8 := [182, 0, 230, 167, 0, 14, 42, 42, 180, 0, 32, 16, 17, 29, 182, 0, 230, 29, 172]
abbrev dktX3_text_8 : List UInt8 := dkwX3_text_8 ++ []
def dkwX3_text_7 : List UInt8 := [42, 42, 180, 0, 26, 16, 60, 29, 182, 0, 230, 167, 0, 29, 42, 42, 180, 0, 29, 17, 0, 161, 29]
abbrev dktX3_text_7 : List UInt8 := dkwX3_text_7 ++ dktX3_text_8
def dkwX3_text_6 : List UInt8 := [171, 0, 0, 0, 0, 0, 56, 0, 0, 0, 2, 0, 0, 0, 0, 0, 0, 0, 27, 0, 0, 0, 1, 0, 0, 0, 41]
abbrev dktX3_text_6 : List UInt8 := dkwX3_text_6 ++ dktX3_text_7
def dkwX3_text_5 : List UInt8 := [167, 0, 4, 3, 96, 79, 27]
abbrev dktX3_text_5 : List UInt8 := dkwX3_text_5 ++ dktX3_text_6
def dkwX3_text_4 : List UInt8 := [180, 0, 23, 27, 46, 167, 0, 4, 28, 62, 42, 180, 0, 23, 27, 92, 46, 28, 2, 160, 0, 7, 4]
abbrev dktX3_text_4 : List UInt8 := dkwX3_text_4 ++ dktX3_text_5
def dkwX3_text_3 : List UInt8 := [154, 0, 6, 16, 254, 172, 42, 27, 182, 0, 227, 154, 0, 5, 2, 172, 28, 2, 160, 0, 12, 42]
abbrev dktX3_text_3 : List UInt8 := dkwX3_text_3 ++ dktX3_text_4
def dkwX3_text_2 : List UInt8 := [160, 0, 16, 42, 180, 0, 23, 27, 46, 5, 160, 0, 18, 167, 0, 12, 42, 27, 28, 182, 0, 223]
abbrev dktX3_text_2 : List UInt8 := dkwX3_text_2 ++ dktX3_text_3
def dkwX3_text_1 : List UInt8 := [180, 0, 17, 3, 3, 79, 42, 180, 0, 20, 3, 2, 79, 27, 3, 5, 184, 0, 123, 153, 0, 30, 28, 2]
abbrev dktX3_text_1 : List UInt8 := dkwX3_text_1 ++ dktX3_text_2
def dkwX3_text_0 : List UInt8 := [42, 3, 181, 0, 111, 42, 42, 180, 0, 13, 3, 46, 181, 0, 134, 42, 180, 0, 13, 3, 3, 79, 42]
abbrev dktX3_text_0 : List UInt8 := dkwX3_text_0 ++ dktX3_text_1
theorem dksX3_text_0 : cX3_text.data.toList.drop 0 = dktX3_text_0 := by decide +kernel
theorem dksX3_text_1 : cX3_text.data.toList.drop 23 = dktX3_text_1 := dk_seg dksX3_text_0 23 rfl rfl
theorem dksX3_text_2 : cX3_text.data.toList.drop 47 = dktX3_text_2 := dk_seg dksX3_text_1 24 rfl rfl
theorem dksX3_text_3 : cX3_text.data.toList.drop 69 = dktX3_text_3 := dk_seg dksX3_text_2 22 rfl rfl
theorem dksX3_text_4 : cX3_text.data.toList.drop 91 = dktX3_text_4 := dk_seg dksX3_text_3 22 rfl rfl
theorem dksX3_text_5 : cX3_text.data.toList.drop 114 = dktX3_text_5 := dk_seg dksX3_text_4 23 rfl rfl
theorem dksX3_text_6 : cX3_text.data.toList.drop 121 = dktX3_text_6 := dk_seg dksX3_text_5 7 rfl rfl
theorem dksX3_text_7 : cX3_text.data.toList.drop 148 = dktX3_text_7 := dk_seg dksX3_text_6 27 rfl rfl
theorem dksX3_text_8 : cX3_text.data.toList.drop 171 = dktX3_text_8 := dk_seg dksX3_text_7 23 rfl rfl
theorem dX3_text_0 : decode cX3_text 0 = .ok (.aload_n 0, 1) := dk_42 (dk_at dksX3_text_0 0 rfl rfl)
theorem dX3_text_1 : decode cX3_text 1 = .ok (.iconst 0, 1) := dk_3 (dk_at dksX3_text_0 1 rfl rfl)
theorem dX3_text_2 : decode cX3_text 2 = .ok (.putfield 111, 3) := dk_181 0 111 (dk_at dksX3_text_0 2 rfl rfl)
theorem dX3_text_5 : decode cX3_text 5 = .ok (.aload_n 0, 1) := dk_42 (dk_at dksX3_text_0 5 rfl rfl)
theorem dX3_text_6 : decode cX3_text 6 = .ok (.aload_n 0, 1) := dk_42 (dk_at dksX3_text_0 6 rfl rfl)
theorem dX3_text_7 : decode cX3_text 7 = .ok (.getfield 13, 3) := dk_180 0 13 (dk_at dksX3_text_0 7 rfl rfl)
theorem dX3_text_10 : decode cX3_text 10 = .ok (.iconst 0, 1) := dk_3 (dk_at dksX3_text_0 10 rfl rfl)
theorem dX3_text_11 : decode cX3_text 11 = .ok (.iaload, 1) := dk_46 (dk_at dksX3_text_0 11 rfl rfl)
theorem dX3_text_12 : decode cX3_text 12 = .ok (.putfield 134, 3) := dk_181 0 134 (dk_at dksX3_text_0 12 rfl rfl)
theorem dX3_text_15 : decode cX3_text 15 = .ok (.aload_n 0, 1) := dk_42 (dk_at dksX3_text_0 15 rfl rfl)
theorem dX3_text_16 : decode cX3_text 16 = .ok (.getfield 13, 3) := dk_180 0 13 (dk_at dksX3_text_0 16 rfl rfl)
theorem dX3_text_19 : decode cX3_text 19 = .ok (.iconst 0, 1) := dk_3 (dk_at dksX3_text_0 19 rfl rfl)
theorem dX3_text_20 : decode cX3_text 20 = .ok (.iconst 0, 1) := dk_3 (dk_at dksX3_text_0 20 rfl rfl)
theorem dX3_text_21 : decode cX3_text 21 = .ok (.iastore, 1) := dk_79 (dk_at dksX3_text_0 21 rfl rfl)
theorem dX3_text_22 : decode cX3_text 22 = .ok (.aload_n 0, 1) := dk_42 (dk_at dksX3_text_0 22 rfl rfl)
theorem dX3_text_23 : decode cX3_text 23 = .ok (.getfield 17, 3) := dk_180 0 17 (dk_at dksX3_text_1 0 rfl rfl)
theorem dX3_text_26 : decode cX3_text 26 = .ok (.iconst 0, 1) := dk_3 (dk_at dksX3_text_1 3 rfl rfl)
theorem dX3_text_27 : decode cX3_text 27 = .ok (.iconst 0, 1) := dk_3 (dk_at dksX3_text_1 4 rfl rfl)
theorem dX3_text_28 : decode cX3_text 28 = .ok (.iastore, 1) := dk_79 (dk_at dksX3_text_1 5 rfl rfl)
theorem dX3_text_29 : decode cX3_text 29 = .ok (.aload_n 0, 1) := dk_42 (dk_at dksX3_text_1 6 rfl rfl)
theorem dX3_text_30 : decode cX3_text 30 = .ok (.getfield 20, 3) := dk_180 0 20 (dk_at dksX3_text_1 7 rfl rfl)
theorem dX3_text_33 : decode cX3_text 33 = .ok (.iconst 0, 1) := dk_3 (dk_at dksX3_text_1 10 rfl rfl)
theorem dX3_text_34 : decode cX3_text 34 = .ok (.iconst (-1), 1) := dk_2 (dk_at dksX3_text_1 11 rfl rfl)
theorem dX3_text_35 : decode cX3_text 35 = .ok (.iastore, 1) := dk_79 (dk_at dksX3_text_1 12 rfl rfl)
theorem dX3_text_36 : decode cX3_text 36 = .ok (.iload_n 1, 1) := dk_27 (dk_at dksX3_text_1 13 rfl rfl)
theorem dX3_text_37 : decode cX3_text 37 = .ok (.iconst 0, 1) := dk_3 (dk_at dksX3_text_1 14 rfl rfl)
theorem dX3_text_38 : decode cX3_text 38 = .ok (.iconst 2, 1) := dk_5 (dk_at dksX3_text_1 15 rfl rfl)
theorem dX3_text_39 : decode cX3_text 39 = .ok (.invokestatic 123, 3) := dk_184 0 123 (dk_at dksX3_text_1 16 rfl rfl)
theorem dX3_text_42 : decode cX3_text 42 = .ok (.ifCond .eq 30, 3) := dk_153 0 30 (dk_at dksX3_text_1 19 rfl rfl)
theorem dX3_text_45 : decode cX3_text 45 = .ok (.iload_n 2, 1) := dk_28 (dk_at dksX3_text_1 22 rfl rfl)
theorem dX3_text_46 : decode cX3_text 46 = .ok (.iconst (-1), 1) := dk_2 (dk_at dksX3_text_1 23 rfl rfl)
theorem dX3_text_47 : decode cX3_text 47 = .ok (.if_icmp .ne 16, 3) := dk_160 0 16 (dk_at dksX3_text_2 0 rfl rfl)
theorem dX3_text_50 : decode cX3_text 50 = .ok (.aload_n 0, 1) := dk_42 (dk_at dksX3_text_2 3 rfl rfl)
theorem dX3_text_51 : decode cX3_text 51 = .ok (.getfield 23, 3) := dk_180 0 23 (dk_at dksX3_text_2 4 rfl rfl)
theorem dX3_text_54 : decode cX3_text 54 = .ok (.iload_n 1, 1) := dk_27 (dk_at dksX3_text_2 7 rfl rfl)
theorem dX3_text_55 : decode cX3_text 55 = .ok (.iaload, 1) := dk_46 (dk_at dksX3_text_2 8 rfl rfl)
theorem dX3_text_56 : decode cX3_text 56 = .ok (.iconst 2, 1) := dk_5 (dk_at dksX3_text_2 9 rfl rfl)
theorem dX3_text_57 : decode cX3_text 57 = .ok (.if_icmp .ne 18, 3) := dk_160 0 18 (dk_at dksX3_text_2 10 rfl rfl)
theorem dX3_text_60 : decode cX3_text 60 = .ok (.goto 12, 3) := dk_167 0 12 (dk_at dksX3_text_2 13 rfl rfl)
theorem dX3_text_63 : decode cX3_text 63 = .ok (.aload_n 0, 1) := dk_42 (dk_at dksX3_text_2 16 rfl rfl)
theorem dX3_text_64 : decode cX3_text 64 = .ok (.iload_n 1, 1) := dk_27 (dk_at dksX3_text_2 17 rfl rfl)
theorem dX3_text_65 : decode cX3_text 65 = .ok (.iload_n 2, 1) := dk_28 (dk_at dksX3_text_2 18 rfl rfl)
theorem dX3_text_66 : decode cX3_text 66 = .ok (.invokevirtual 223, 3) := dk_182 0 223 (dk_at dksX3_text_2 19 rfl rfl)
theorem dX3_text_69 : decode cX3_text 69 = .ok (.ifCond .ne 6, 3) := dk_154 0 6 (dk_at dksX3_text_3 0 rfl rfl)
theorem dX3_text_72 : decode cX3_text 72 = .ok (.bipush (-2), 2) := dk_16 254 (dk_at dksX3_text_3 3 rfl rfl)
theorem dX3_text_74 : decode cX3_text 74 = .ok (.ireturn, 1) := dk_172 (dk_at dksX3_text_3 5 rfl rfl)
theorem dX3_text_75 : decode cX3_text 75 = .ok (.aload_n 0, 1) := dk_42 (dk_at dksX3_text_3 6 rfl rfl)
theorem dX3_text_76 : decode cX3_text 76 = .ok (.iload_n 1, 1) := dk_27 (dk_at dksX3_text_3 7 rfl rfl)
theorem dX3_text_77 : decode cX3_text 77 = .ok (.invokevirtual 227, 3) := dk_182 0 227 (dk_at dksX3_text_3 8 rfl rfl)
theorem dX3_text_80 : decode cX3_text 80 = .ok (.ifCond .ne 5, 3) := dk_154 0 5 (dk_at dksX3_text_3 11 rfl rfl)
theorem dX3_text_83 : decode cX3_text 83 = .ok (.iconst (-1), 1) := dk_2 (dk_at dksX3_text_3 14 rfl rfl)
theorem dX3_text_84 : decode cX3_text 84 = .ok (.ireturn, 1) := dk_172 (dk_at dksX3_text_3 15 rfl rfl)
theorem dX3_text_85 : decode cX3_text 85 = .ok (.iload_n 2, 1) := dk_28 (dk_at dksX3_text_3 16 rfl rfl)
theorem dX3_text_86 : decode cX3_text 86 = .ok (.iconst (-1), 1) := dk_2 (dk_at dksX3_text_3 17 rfl rfl)
theorem dX3_text_87 : decode cX3_text 87 = .ok (.if_icmp .ne 12, 3) := dk_160 0 12 (dk_at dksX3_text_3 18 rfl rfl)
theorem dX3_text_90 : decode cX3_text 90 = .ok (.aload_n 0, 1) := dk_42 (dk_at dksX3_text_3 21 rfl rfl)
theorem dX3_text_91 : decode cX3_text 91 = .ok (.getfield 23, 3) := dk_180 0 23 (dk_at dksX3_text_4 0 rfl rfl)
theorem dX3_text_94 : decode cX3_text 94 = .ok (.iload_n 1, 1) := dk_27 (dk_at dksX3_text_4 3 rfl rfl)
theorem dX3_text_95 : decode cX3_text 95 = .ok (.iaload, 1) := dk_46 (dk_at dksX3_text_4 4 rfl rfl)
theorem dX3_text_96 : decode cX3_text 96 = .ok (.goto 4, 3) := dk_167 0 4 (dk_at dksX3_text_4 5 rfl rfl)
theorem dX3_text_99 : decode cX3_text 99 = .ok (.iload_n 2, 1) := dk_28 (dk_at dksX3_text_4 8 rfl rfl)
theorem dX3_text_100 : decode cX3_text 100 = .ok (.istore_n 3, 1) := dk_62 (dk_at dksX3_text_4 9 rfl rfl)
theorem dX3_text_101 : decode cX3_text 101 = .ok (.aload_n 0, 1) := dk_42 (dk_at dksX3_text_4 10 rfl rfl)
theorem dX3_text_102 : decode cX3_text 102 = .ok (.getfield 23, 3) := dk_180 0 23 (dk_at dksX3_text_4 11 rfl rfl)
theorem dX3_text_105 : decode cX3_text 105 = .ok (.iload_n 1, 1) := dk_27 (dk_at dksX3_text_4 14 rfl rfl)
theorem dX3_text_106 : decode cX3_text 106 = .ok (.dup2, 1) := dk_92 (dk_at dksX3_text_4 15 rfl rfl)
theorem dX3_text_107 : decode cX3_text 107 = .ok (.iaload, 1) := dk_46 (dk_at dksX3_text_4 16 rfl rfl)
theorem dX3_text_108 : decode cX3_text 108 = .ok (.iload_n 2, 1) := dk_28 (dk_at dksX3_text_4 17 rfl rfl)
theorem dX3_text_109 : decode cX3_text 109 = .ok (.iconst (-1), 1) := dk_2 (dk_at dksX3_text_4 18 rfl rfl)
theorem dX3_text_110 : decode cX3_text 110 = .ok (.if_icmp .ne 7, 3) := dk_160 0 7 (dk_at dksX3_text_4 19 rfl rfl)
theorem dX3_text_113 : decode cX3_text 113 = .ok (.iconst 1, 1) := dk_4 (dk_at dksX3_text_4 22 rfl rfl)
theorem dX3_text_114 : decode cX3_text 114 = .ok (.goto 4, 3) := dk_167 0 4 (dk_at dksX3_text_5 0 rfl rfl)
theorem dX3_text_117 : decode cX3_text 117 = .ok (.iconst 0, 1) := dk_3 (dk_at dksX3_text_5 3 rfl rfl)
theorem dX3_text_118 : decode cX3_text 118 = .ok (.iadd, 1) := dk_96 (dk_at dksX3_text_5 4 rfl rfl)
theorem dX3_text_119 : decode cX3_text 119 = .ok (.iastore, 1) := dk_79 (dk_at dksX3_text_5 5 rfl rfl)
theorem dX3_text_120 : decode cX3_text 120 = .ok (.iload_n 1, 1) := dk_27 (dk_at dksX3_text_5 6 rfl rfl)
theorem dX3_text_121 : decode cX3_text 121 = .ok (.lookupswitch 56 #[(0, 27), (1, 41)], 27) := by decide +kernel
theorem dX3_text_148 : decode cX3_text 148 = .ok (.aload_n 0, 1) := dk_42 (dk_at dksX3_text_7 0 rfl rfl)
theorem dX3_text_149 : decode cX3_text 149 = .ok (.aload_n 0, 1) := dk_42 (dk_at dksX3_text_7 1 rfl rfl)
theorem dX3_text_150 : decode cX3_text 150 = .ok (.getfield 26, 3) := dk_180 0 26 (dk_at dksX3_text_7 2 rfl rfl)
theorem dX3_text_153 : decode cX3_text 153 = .ok (.bipush 60, 2) := dk_16 60 (dk_at dksX3_text_7 5 rfl rfl)
theorem dX3_text_155 : decode cX3_text 155 = .ok (.iload_n 3, 1) := dk_29 (dk_at dksX3_text_7 7 rfl rfl)
theorem dX3_text_156 : decode cX3_text 156 = .ok (.invokevirtual 230, 3) := dk_182 0 230 (dk_at dksX3_text_7 8 rfl rfl)
theorem dX3_text_159 : decode cX3_text 159 = .ok (.goto 29, 3) := dk_167 0 29 (dk_at dksX3_text_7 11 rfl rfl)
theorem dX3_text_162 : decode cX3_text 162 = .ok (.aload_n 0, 1) := dk_42 (dk_at dksX3_text_7 14 rfl rfl)
theorem dX3_text_163 : decode cX3_text 163 = .ok (.aload_n 0, 1) := dk_42 (dk_at dksX3_text_7 15 rfl rfl)
theorem dX3_text_164 : decode cX3_text 164 = .ok (.getfield 29, 3) := dk_180 0 29 (dk_at dksX3_text_7 16 rfl rfl)
theorem dX3_text_167 : decode cX3_text 167 = .ok (.sipush 161, 3) := dk_17 0 161 (dk_at dksX3_text_7 19 rfl rfl)
theorem dX3_text_170 : decode cX3_text 170 = .ok (.iload_n 3, 1) := dk_29 (dk_at dksX3_text_7 22 rfl rfl)
theorem dX3_text_171 : decode cX3_text 171 = .ok (.invokevirtual 230, 3) := dk_182 0 230 (dk_at dksX3_text_8 0 rfl rfl)
theorem dX3_text_174 : decode cX3_text 174 = .ok (.goto 14, 3) := dk_167 0 14 (dk_at dksX3_text_8 3 rfl rfl)
theorem dX3_text_177 : decode cX3_text 177 = .ok (.aload_n 0, 1) := dk_42 (dk_at dksX3_text_8 6 rfl rfl)
theorem dX3_text_178 : decode cX3_text 178 = .ok (.aload_n 0, 1) := dk_42 (dk_at dksX3_text_8 7 rfl rfl)
theorem dX3_text_179 : decode cX3_text 179 = .ok (.getfield 32, 3) := dk_180 0 32 (dk_at dksX3_text_8 8 rfl rfl)
theorem dX3_text_182 : decode cX3_text 182 = .ok (.bipush 17, 2) := dk_16 17 (dk_at dksX3_text_8 11 rfl rfl)
theorem dX3_text_184 : decode cX3_text 184 = .ok (.iload_n 3, 1) := dk_29 (dk_at dksX3_text_8 13 rfl rfl)
theorem dX3_text_185 : decode cX3_text 185 = .ok (.invokevirtual 230, 3) := dk_182 0 230 (dk_at dksX3_text_8 14 rfl rfl)
theorem dX3_text_188 : decode cX3_text 188 = .ok (.iload_n 3, 1) := dk_29 (dk_at dksX3_text_8 17 rfl rfl)
theorem dX3_text_189 : decode cX3_text 189 = .ok (.ireturn, 1) := dk_172 (dk_at dksX3_text_8 18 rfl rfl)
def dkwX3_is_0 : List UInt8 := [28, 3, 42, 180, 0, 23, 27, 46, 4, 100, 184, 0, 123, 172]
abbrev dktX3_is_0 : List UInt8 := dkwX3_is_0 ++ []
theorem dksX3_is_0 : cX3_is.data.toList.drop 0 = dktX3_is_0 := by decide +kernel
theorem dX3_is_0 : decode cX3_is 0 = .ok (.iload_n 2, 1) := dk_28 (dk_at dksX3_is_0 0 rfl rfl)
theorem dX3_is_1 : decode cX3_is 1 = .ok (.iconst 0, 1) := dk_3 (dk_at dksX3_is_0 1 rfl rfl)
theorem dX3_is_2 : decode cX3_is 2 = .ok (.aload_n 0, 1) := dk_42 (dk_at dksX3_is_0 2 rfl rfl)
theorem dX3_is_3 : decode cX3_is 3 = .ok (.getfield 23, 3) := dk_180 0 23 (dk_at dksX3_is_0 3 rfl rfl)
theorem dX3_is_6 : decode cX3_is 6 = .ok (.iload_n 1, 1) := dk_27 (dk_at dksX3_is_0 6 rfl rfl)
theorem dX3_is_7 : decode cX3_is 7 = .ok (.iaload, 1) := dk_46 (dk_at dksX3_is_0 7 rfl rfl)
theorem dX3_is_8 : decode cX3_is 8 = .ok (.iconst 1, 1) := dk_4 (dk_at dksX3_is_0 8 rfl rfl)
theorem dX3_is_9 : decode cX3_is 9 = .ok (.isub, 1) := dk_100 (dk_at dksX3_is_0 9 rfl rfl)
theorem dX3_is_10 : decode cX3_is 10 = .ok (.invokestatic 123, 3) := dk_184 0 123 (dk_at dksX3_is_0 10 rfl rfl)
theorem dX3_is_13 : decode cX3_is 13 = .ok (.ireturn, 1) := dk_172 (dk_at dksX3_is_0 13 rfl rfl)
def dkwX3_readText_9 : List UInt8 := [2, 79, 42, 180, 0, 17, 3, 46, 154, 0, 7, 4, 167, 0, 4, 3, 172]
abbrev dktX3_readText_9 : List UInt8 := dkwX3_readText_9 ++ []
def dkwX3_readText_8 : List UInt8 := [154, 0, 10, 42, 180, 0, 154, 167, 0, 18, 42, 180, 0, 157, 158, 0, 10, 42, 180, 0, 160, 167, 0, 4]
abbrev dktX3_readText_8 : List UInt8 := dkwX3_readText_8 ++ dktX3_readText_9
def dkwX3_readText_7 : List UInt8 := [180, 0, 17, 3, 28, 153, 0, 10, 42, 180, 0, 157, 167, 0, 4, 4, 79, 42, 180, 0, 20, 3, 28]
abbrev dktX3_readText_7 : List UInt8 := dkwX3_readText_7 ++ dktX3_readText_8
def dkwX3_readText_6 : List UInt8 := [153, 0, 23, 42, 180, 0, 157, 154, 0, 16, 29, 153, 0, 12, 42, 7, 42, 180, 0, 141, 182, 0, 167, 42]
abbrev dktX3_readText_6 : List UInt8 := dkwX3_readText_6 ++ dktX3_readText_7
def dkwX3_readText_5 : List UInt8 := [167, 0, 22, 27, 5, 160, 0, 16, 42, 180, 0, 35, 3, 46, 154, 0, 7, 4, 167, 0, 4, 3, 62, 28]
abbrev dktX3_readText_5 : List UInt8 := dkwX3_readText_5 ++ dktX3_readText_6
def dkwX3_readText_4 : List UInt8 := [154, 0, 26, 42, 180, 0, 178, 4, 42, 180, 0, 35, 3, 46, 120, 161, 0, 7, 4, 167, 0, 26, 3]
abbrev dktX3_readText_4 : List UInt8 := dkwX3_readText_4 ++ dktX3_readText_5
def dkwX3_readText_3 : List UInt8 := [181, 0, 178, 42, 3, 181, 0, 131, 42, 3, 181, 0, 157, 42, 182, 0, 171, 42, 27, 182, 0, 220, 61, 27]
abbrev dktX3_readText_3 : List UInt8 := dkwX3_readText_3 ++ dktX3_readText_4
def dkwX3_readText_2 : List UInt8 := [167, 0, 4, 3, 79, 42, 180, 0, 35, 5, 27, 154, 0, 8, 16, 10, 167, 0, 4, 3, 79, 42, 2]
abbrev dktX3_readText_2 : List UInt8 := dkwX3_readText_2 ++ dktX3_readText_3
def dkwX3_readText_1 : List UInt8 := [180, 0, 35, 3, 27, 154, 0, 7, 7, 167, 0, 4, 3, 79, 42, 180, 0, 35, 4, 27, 154, 0, 7, 4]
abbrev dktX3_readText_1 : List UInt8 := dkwX3_readText_1 ++ dktX3_readText_2
def dkwX3_readText_0 : List UInt8 := [3, 61, 28, 17, 0, 161, 162, 0, 16, 42, 180, 0, 35, 28, 3, 79, 132, 2, 1, 167, 255, 239, 42]
abbrev dktX3_readText_0 : List UInt8 := dkwX3_readText_0 ++ dktX3_readText_1
theorem dksX3_readText_0 : cX3_readText.data.toList.drop 0 = dktX3_readText_0 := by decide +kernel
theorem dksX3_readText_1 : cX3_readText.data.toList.drop 23 = dktX3_readText_1 := dk_seg dksX3_readText_0 23 rfl rfl
theorem dksX3_readText_2 : cX3_readText.data.toList.drop 47 = dktX3_readText_2 := dk_seg dksX3_readText_1 24 rfl rfl
theorem dksX3_readText_3 : cX3_readText.data.toList.drop 70 = dktX3_readText_3 := dk_seg dksX3_readText_2 23 rfl rfl
theorem dksX3_readText_4 : cX3_readText.data.toList.drop 94 = dktX3_readText_4 := dk_seg dksX3_readText_3 24 rfl rfl
theorem dksX3_readText_5 : cX3_readText.data.toList.drop 117 = dktX3_readText_5 := dk_seg dksX3_readText_4 23 rfl rfl
theorem dksX3_readText_6 : cX3_readText.data.toList.drop 141 = dktX3_readText_6 := dk_seg dksX3_readText_5 24 rfl rfl
theorem dksX3_readText_7 : cX3_readText.data.toList.drop 165 = dktX3_readText_7 := dk_seg dksX3_readText_6 24 rfl rfl
theorem dksX3_readText_8 : cX3_readText.data.toList.drop 188 = dktX3_readText_8 := dk_seg dksX3_readText_7 23 rfl rfl
theorem dksX3_readText_9 : cX3_readText.data.toList.drop 212 = dktX3_readText_9 := dk_seg dksX3_readText_8 24 rfl rfl
theorem dX3_readText_0 : decode cX3_readText 0 = .ok (.iconst 0, 1) := dk_3 (dk_at dksX3_readText_0 0 rfl rfl)
theorem dX3_readText_1 : decode cX3_readText 1 = .ok (.istore_n 2, 1) := dk_61 (dk_at dksX3_readText_0 1 rfl rfl)
theorem dX3_readText_2 : decode cX3_readText 2 = .ok (.iload_n 2, 1) := dk_28 (dk_at dksX3_readText_0 2 rfl rfl)
theorem dX3_readText_3 : decode cX3_readText 3 = .ok (.sipush 161, 3) := dk_17 0 161 (dk_at dksX3_readText_0 3 rfl rfl)
theorem dX3_readText_6 : decode cX3_readText 6 = .ok (.if_icmp .ge 16, 3) := dk_162 0 16 (dk_at dksX3_readText_0 6 rfl rfl)
theorem dX3_readText_9 : decode cX3_readText 9 = .ok (.aload_n 0, 1) := dk_42 (dk_at dksX3_readText_0 9 rfl rfl)
theorem dX3_readText_10 : decode cX3_readText 10 = .ok (.getfield 35, 3) := dk_180 0 35 (dk_at dksX3_readText_0 10 rfl rfl)
theorem dX3_readText_13 : decode cX3_readText 13 = .ok (.iload_n 2, 1) := dk_28 (dk_at dksX3_readText_0 13 rfl rfl)
theorem dX3_readText_14 : decode cX3_readText 14 = .ok (.iconst 0, 1) := dk_3 (dk_at dksX3_readText_0 14 rfl rfl)
theorem dX3_readText_15 : decode cX3_readText 15 = .ok (.iastore, 1) := dk_79 (dk_at dksX3_readText_0 15 rfl rfl)
theorem dX3_readText_16 : decode cX3_readText 16 = .ok (.iinc 2 1, 3) := dk_132 2 1 (dk_at dksX3_readText_0 16 rfl rfl)
theorem dX3_readText_19 : decode cX3_readText 19 = .ok (.goto (-17), 3) := dk_167 255 239 (dk_at dksX3_readText_0 19 rfl rfl)
theorem dX3_readText_22 : decode cX3_readText 22 = .ok (.aload_n 0, 1) := dk_42 (dk_at dksX3_readText_0 22 rfl rfl)
theorem dX3_readText_23 : decode cX3_readText 23 = .ok (.getfield 35, 3) := dk_180 0 35 (dk_at dksX3_readText_1 0 rfl rfl)
theorem dX3_readText_26 : decode cX3_readText 26 = .ok (.iconst 0, 1) := dk_3 (dk_at dksX3_readText_1 3 rfl rfl)
theorem dX3_readText_27 : decode cX3_readText 27 = .ok (.iload_n 1, 1) := dk_27 (dk_at dksX3_readText_1 4 rfl rfl)
theorem dX3_readText_28 : decode cX3_readText 28 = .ok (.ifCond .ne 7, 3) := dk_154 0 7 (dk_at dksX3_readText_1 5 rfl rfl)
theorem dX3_readText_31 : decode cX3_readText 31 = .ok (.iconst 4, 1) := dk_7 (dk_at dksX3_readText_1 8 rfl rfl)
theorem dX3_readText_32 : decode cX3_readText 32 = .ok (.goto 4, 3) := dk_167 0 4 (dk_at dksX3_readText_1 9 rfl rfl)
theorem dX3_readText_35 : decode cX3_readText 35 = .ok (.iconst 0, 1) := dk_3 (dk_at dksX3_readText_1 12 rfl rfl)
theorem dX3_readText_36 : decode cX3_readText 36 = .ok (.iastore, 1) := dk_79 (dk_at dksX3_readText_1 13 rfl rfl)
theorem dX3_readText_37 : decode cX3_readText 37 = .ok (.aload_n 0, 1) := dk_42 (dk_at dksX3_readText_1 14 rfl rfl)
theorem dX3_readText_38 : decode cX3_readText 38 = .ok (.getfield 35, 3) := dk_180 0 35 (dk_at dksX3_readText_1 15 rfl rfl)
theorem dX3_readText_41 : decode cX3_readText 41 = .ok (.iconst 1, 1) := dk_4 (dk_at dksX3_readText_1 18 rfl rfl)
theorem dX3_readText_42 : decode cX3_readText 42 = .ok (.iload_n 1, 1) := dk_27 (dk_at dksX3_readText_1 19 rfl rfl)
theorem dX3_readText_43 : decode cX3_readText 43 = .ok (.ifCond .ne 7, 3) := dk_154 0 7 (dk_at dksX3_readText_1 20 rfl rfl)
theorem dX3_readText_46 : decode cX3_readText 46 = .ok (.iconst 1, 1) := dk_4 (dk_at dksX3_readText_1 23 rfl rfl)
theorem dX3_readText_47 : decode cX3_readText 47 = .ok (.goto 4, 3) := dk_167 0 4 (dk_at dksX3_readText_2 0 rfl rfl)
theorem dX3_readText_50 : decode cX3_readText 50 = .ok (.iconst 0, 1) := dk_3 (dk_at dksX3_readText_2 3 rfl rfl)
theorem dX3_readText_51 : decode cX3_readText 51 = .ok (.iastore, 1) := dk_79 (dk_at dksX3_readText_2 4 rfl rfl)
theorem dX3_readText_52 : decode cX3_readText 52 = .ok (.aload_n 0, 1) := dk_42 (dk_at dksX3_readText_2 5 rfl rfl)
theorem dX3_readText_53 : decode cX3_readText 53 = .ok (.getfield 35, 3) := dk_180 0 35 (dk_at dksX3_readText_2 6 rfl rfl)
theorem dX3_readText_56 : decode cX3_readText 56 = .ok (.iconst 2, 1) := dk_5 (dk_at dksX3_readText_2 9 rfl rfl)
theorem dX3_readText_57 : decode cX3_readText 57 = .ok (.iload_n 1, 1) := dk_27 (dk_at dksX3_readText_2 10 rfl rfl)
theorem dX3_readText_58 : decode cX3_readText 58 = .ok (.ifCond .ne 8, 3) := dk_154 0 8 (dk_at dksX3_readText_2 11 rfl rfl)
theorem dX3_readText_61 : decode cX3_readText 61 = .ok (.bipush 10, 2) := dk_16 10 (dk_at dksX3_readText_2 14 rfl rfl)
theorem dX3_readText_63 : decode cX3_readText 63 = .ok (.goto 4, 3) := dk_167 0 4 (dk_at dksX3_readText_2 16 rfl rfl)
theorem dX3_readText_66 : decode cX3_readText 66 = .ok (.iconst 0, 1) := dk_3 (dk_at dksX3_readText_2 19 rfl rfl)
theorem dX3_readText_67 : decode cX3_readText 67 = .ok (.iastore, 1) := dk_79 (dk_at dksX3_readText_2 20 rfl rfl)
theorem dX3_readText_68 : decode cX3_readText 68 = .ok (.aload_n 0, 1) := dk_42 (dk_at dksX3_readText_2 21 rfl rfl)
theorem dX3_readText_69 : decode cX3_readText 69 = .ok (.iconst (-1), 1) := dk_2 (dk_at dksX3_readText_2 22 rfl rfl)
theorem dX3_readText_70 : decode cX3_readText 70 = .ok (.putfield 178, 3) := dk_181 0 178 (dk_at dksX3_readText_3 0 rfl rfl)
theorem dX3_readText_73 : decode cX3_readText 73 = .ok (.aload_n 0, 1) := dk_42 (dk_at dksX3_readText_3 3 rfl rfl)
theorem dX3_readText_74 : decode cX3_readText 74 = .ok (.iconst 0, 1) := dk_3 (dk_at dksX3_readText_3 4 rfl rfl)
theorem dX3_readText_75 : decode cX3_readText 75 = .ok (.putfield 131, 3) := dk_181 0 131 (dk_at dksX3_readText_3 5 rfl rfl)
theorem dX3_readText_78 : decode cX3_readText 78 = .ok (.aload_n 0, 1) := dk_42 (dk_at dksX3_readText_3 8 rfl rfl)
theorem dX3_readText_79 : decode cX3_readText 79 = .ok (.iconst 0, 1) := dk_3 (dk_at dksX3_readText_3 9 rfl rfl)
theorem dX3_readText_80 : decode cX3_readText 80 = .ok (.putfield 157, 3) := dk_181 0 157 (dk_at dksX3_readText_3 10 rfl rfl)
theorem dX3_readText_83 : decode cX3_readText 83 = .ok (.aload_n 0, 1) := dk_42 (dk_at dksX3_readText_3 13 rfl rfl)
theorem dX3_readText_84 : decode cX3_readText 84 = .ok (.invokevirtual 171, 3) := dk_182 0 171 (dk_at dksX3_readText_3 14 rfl rfl)
theorem dX3_readText_87 : decode cX3_readText 87 = .ok (.aload_n 0, 1) := dk_42 (dk_at dksX3_readText_3 17 rfl rfl)
theorem dX3_readText_88 : decode cX3_readText 88 = .ok (.iload_n 1, 1) := dk_27 (dk_at dksX3_readText_3 18 rfl rfl)
theorem dX3_readText_89 : decode cX3_readText 89 = .ok (.invokevirtual 220, 3) := dk_182 0 220 (dk_at dksX3_readText_3 19 rfl rfl)
theorem dX3_readText_92 : decode cX3_readText 92 = .ok (.istore_n 2, 1) := dk_61 (dk_at dksX3_readText_3 22 rfl rfl)
theorem dX3_readText_93 : decode cX3_readText 93 = .ok (.iload_n 1, 1) := dk_27 (dk_at dksX3_readText_3 23 rfl rfl)
theorem dX3_readText_94 : decode cX3_readText 94 = .ok (.ifCond .ne 26, 3) := dk_154 0 26 (dk_at dksX3_readText_4 0 rfl rfl)
theorem dX3_readText_97 : decode cX3_readText 97 = .ok (.aload_n 0, 1) := dk_42 (dk_at dksX3_readText_4 3 rfl rfl)
theorem dX3_readText_98 : decode cX3_readText 98 = .ok (.getfield 178, 3) := dk_180 0 178 (dk_at dksX3_readText_4 4 rfl rfl)
theorem dX3_readText_101 : decode cX3_readText 101 = .ok (.iconst 1, 1) := dk_4 (dk_at dksX3_readText_4 7 rfl rfl)
theorem dX3_readText_102 : decode cX3_readText 102 = .ok (.aload_n 0, 1) := dk_42 (dk_at dksX3_readText_4 8 rfl rfl)
theorem dX3_readText_103 : decode cX3_readText 103 = .ok (.getfield 35, 3) := dk_180 0 35 (dk_at dksX3_readText_4 9 rfl rfl)
theorem dX3_readText_106 : decode cX3_readText 106 = .ok (.iconst 0, 1) := dk_3 (dk_at dksX3_readText_4 12 rfl rfl)
theorem dX3_readText_107 : decode cX3_readText 107 = .ok (.iaload, 1) := dk_46 (dk_at dksX3_readText_4 13 rfl rfl)
theorem dX3_readText_108 : decode cX3_readText 108 = .ok (.ishl, 1) := dk_120 (dk_at dksX3_readText_4 14 rfl rfl)
theorem dX3_readText_109 : decode cX3_readText 109 = .ok (.if_icmp .lt 7, 3) := dk_161 0 7 (dk_at dksX3_readText_4 15 rfl rfl)
theorem dX3_readText_112 : decode cX3_readText 112 = .ok (.iconst 1, 1) := dk_4 (dk_at dksX3_readText_4 18 rfl rfl)
theorem dX3_readText_113 : decode cX3_readText 113 = .ok (.goto 26, 3) := dk_167 0 26 (dk_at dksX3_readText_4 19 rfl rfl)
theorem dX3_readText_116 : decode cX3_readText 116 = .ok (.iconst 0, 1) := dk_3 (dk_at dksX3_readText_4 22 rfl rfl)
theorem dX3_readText_117 : decode cX3_readText 117 = .ok (.goto 22, 3) := dk_167 0 22 (dk_at dksX3_readText_5 0 rfl rfl)
theorem dX3_readText_120 : decode cX3_readText 120 = .ok (.iload_n 1, 1) := dk_27 (dk_at dksX3_readText_5 3 rfl rfl)
theorem dX3_readText_121 : decode cX3_readText 121 = .ok (.iconst 2, 1) := dk_5 (dk_at dksX3_readText_5 4 rfl rfl)
theorem dX3_readText_122 : decode cX3_readText 122 = .ok (.if_icmp .ne 16, 3) := dk_160 0 16 (dk_at dksX3_readText_5 5 rfl rfl)
theorem dX3_readText_125 : decode cX3_readText 125 = .ok (.aload_n 0, 1) := dk_42 (dk_at dksX3_readText_5 8 rfl rfl)
theorem dX3_readText_126 : decode cX3_readText 126 = .ok (.getfield 35, 3) := dk_180 0 35 (dk_at dksX3_readText_5 9 rfl rfl)
theorem dX3_readText_129 : decode cX3_readText 129 = .ok (.iconst 0, 1) := dk_3 (dk_at dksX3_readText_5 12 rfl rfl)
theorem dX3_readText_130 : decode cX3_readText 130 = .ok (.iaload, 1) := dk_46 (dk_at dksX3_readText_5 13 rfl rfl)
theorem dX3_readText_131 : decode cX3_readText 131 = .ok (.ifCond .ne 7, 3) := dk_154 0 7 (dk_at dksX3_readText_5 14 rfl rfl)
theorem dX3_readText_134 : decode cX3_readText 134 = .ok (.iconst 1, 1) := dk_4 (dk_at dksX3_readText_5 17 rfl rfl)
theorem dX3_readText_135 : decode cX3_readText 135 = .ok (.goto 4, 3) := dk_167 0 4 (dk_at dksX3_readText_5 18 rfl rfl)
theorem dX3_readText_138 : decode cX3_readText 138 = .ok (.iconst 0, 1) := dk_3 (dk_at dksX3_readText_5 21 rfl rfl)
theorem dX3_readText_139 : decode cX3_readText 139 = .ok (.istore_n 3, 1) := dk_62 (dk_at dksX3_readText_5 22 rfl rfl)
theorem dX3_readText_140 : decode cX3_readText 140 = .ok (.iload_n 2, 1) := dk_28 (dk_at dksX3_readText_5 23 rfl rfl)
theorem dX3_readText_141 : decode cX3_readText 141 = .ok (.ifCond .eq 23, 3) := dk_153 0 23 (dk_at dksX3_readText_6 0 rfl rfl)
theorem dX3_readText_144 : decode cX3_readText 144 = .ok (.aload_n 0, 1) := dk_42 (dk_at dksX3_readText_6 3 rfl rfl)
theorem dX3_readText_145 : decode cX3_readText 145 = .ok (.getfield 157, 3) := dk_180 0 157 (dk_at dksX3_readText_6 4 rfl rfl)
theorem dX3_readText_148 : decode cX3_readText 148 = .ok (.ifCond .ne 16, 3) := dk_154 0 16 (dk_at dksX3_readText_6 7 rfl rfl)
theorem dX3_readText_151 : decode cX3_readText 151 = .ok (.iload_n 3, 1) := dk_29 (dk_at dksX3_readText_6 10 rfl rfl)
theorem dX3_readText_152 : decode cX3_readText 152 = .ok (.ifCond .eq 12, 3) := dk_153 0 12 (dk_at dksX3_readText_6 11 rfl rfl)
theorem dX3_readText_155 : decode cX3_readText 155 = .ok (.aload_n 0, 1) := dk_42 (dk_at dksX3_readText_6 14 rfl rfl)
theorem dX3_readText_156 : decode cX3_readText 156 = .ok (.iconst 4, 1) := dk_7 (dk_at dksX3_readText_6 15 rfl rfl)
theorem dX3_readText_157 : decode cX3_readText 157 = .ok (.aload_n 0, 1) := dk_42 (dk_at dksX3_readText_6 16 rfl rfl)
theorem dX3_readText_158 : decode cX3_readText 158 = .ok (.getfield 141, 3) := dk_180 0 141 (dk_at dksX3_readText_6 17 rfl rfl)
theorem dX3_readText_161 : decode cX3_readText 161 = .ok (.invokevirtual 167, 3) := dk_182 0 167 (dk_at dksX3_readText_6 20 rfl rfl)
theorem dX3_readText_164 : decode cX3_readText 164 = .ok (.aload_n 0, 1) := dk_42 (dk_at dksX3_readText_6 23 rfl rfl)
theorem dX3_readText_165 : decode cX3_readText 165 = .ok (.getfield 17, 3) := dk_180 0 17 (dk_at dksX3_readText_7 0 rfl rfl)
theorem dX3_readText_168 : decode cX3_readText 168 = .ok (.iconst 0, 1) := dk_3 (dk_at dksX3_readText_7 3 rfl rfl)
theorem dX3_readText_169 : decode cX3_readText 169 = .ok (.iload_n 2, 1) := dk_28 (dk_at dksX3_readText_7 4 rfl rfl)
theorem dX3_readText_170 : decode cX3_readText 170 = .ok (.ifCond .eq 10, 3) := dk_153 0 10 (dk_at dksX3_readText_7 5 rfl rfl)
theorem dX3_readText_173 : decode cX3_readText 173 = .ok (.aload_n 0, 1) := dk_42 (dk_at dksX3_readText_7 8 rfl rfl)
theorem dX3_readText_174 : decode cX3_readText 174 = .ok (.getfield 157, 3) := dk_180 0 157 (dk_at dksX3_readText_7 9 rfl rfl)
theorem dX3_readText_177 : decode cX3_readText 177 = .ok (.goto 4, 3) := dk_167 0 4 (dk_at dksX3_readText_7 12 rfl rfl)
theorem dX3_readText_180 : decode cX3_readText 180 = .ok (.iconst 1, 1) := dk_4 (dk_at dksX3_readText_7 15 rfl rfl)
theorem dX3_readText_181 : decode cX3_readText 181 = .ok (.iastore, 1) := dk_79 (dk_at dksX3_readText_7 16 rfl rfl)
theorem dX3_readText_182 : decode cX3_readText 182 = .ok (.aload_n 0, 1) := dk_42 (dk_at dksX3_readText_7 17 rfl rfl)
theorem dX3_readText_183 : decode cX3_readText 183 = .ok (.getfield 20, 3) := dk_180 0 20 (dk_at dksX3_readText_7 18 rfl rfl)
theorem dX3_readText_186 : decode cX3_readText 186 = .ok (.iconst 0, 1) := dk_3 (dk_at dksX3_readText_7 21 rfl rfl)
theorem dX3_readText_187 : decode cX3_readText 187 = .ok (.iload_n 2, 1) := dk_28 (dk_at dksX3_readText_7 22 rfl rfl)
theorem dX3_readText_188 : decode cX3_readText 188 = .ok (.ifCond .ne 10, 3) := dk_154 0 10 (dk_at dksX3_readText_8 0 rfl rfl)
theorem dX3_readText_191 : decode cX3_readText 191 = .ok (.aload_n 0, 1) := dk_42 (dk_at dksX3_readText_8 3 rfl rfl)
theorem dX3_readText_192 : decode cX3_readText 192 = .ok (.getfield 154, 3) := dk_180 0 154 (dk_at dksX3_readText_8 4 rfl rfl)
theorem dX3_readText_195 : decode cX3_readText 195 = .ok (.goto 18, 3) := dk_167 0 18 (dk_at dksX3_readText_8 7 rfl rfl)
theorem dX3_readText_198 : decode cX3_readText 198 = .ok (.aload_n 0, 1) := dk_42 (dk_at dksX3_readText_8 10 rfl rfl)
theorem dX3_readText_199 : decode cX3_readText 199 = .ok (.getfield 157, 3) := dk_180 0 157 (dk_at dksX3_readText_8 11 rfl rfl)
theorem dX3_readText_202 : decode cX3_readText 202 = .ok (.ifCond .le 10, 3) := dk_158 0 10 (dk_at dksX3_readText_8 14 rfl rfl)
theorem dX3_readText_205 : decode cX3_readText 205 = .ok (.aload_n 0, 1) := dk_42 (dk_at dksX3_readText_8 17 rfl rfl)
theorem dX3_readText_206 : decode cX3_readText 206 = .ok (.getfield 160, 3) := dk_180 0 160 (dk_at dksX3_readText_8 18 rfl rfl)
theorem dX3_readText_209 : decode cX3_readText 209 = .ok (.goto 4, 3) := dk_167 0 4 (dk_at dksX3_readText_8 21 rfl rfl)
theorem dX3_readText_212 : decode cX3_readText 212 = .ok (.iconst (-1), 1) := dk_2 (dk_at dksX3_readText_9 0 rfl rfl)
theorem dX3_readText_213 : decode cX3_readText 213 = .ok (.iastore, 1) := dk_79 (dk_at dksX3_readText_9 1 rfl rfl)
theorem dX3_readText_214 : decode cX3_readText 214 = .ok (.aload_n 0, 1) := dk_42 (dk_at dksX3_readText_9 2 rfl rfl)
theorem dX3_readText_215 : decode cX3_readText 215 = .ok (.getfield 17, 3) := dk_180 0 17 (dk_at dksX3_readText_9 3 rfl rfl)
theorem dX3_readText_218 : decode cX3_readText 218 = .ok (.iconst 0, 1) := dk_3 (dk_at dksX3_readText_9 6 rfl rfl)
theorem dX3_readText_219 : decode cX3_readText 219 = .ok (.iaload, 1) := dk_46 (dk_at dksX3_readText_9 7 rfl rfl)
theorem dX3_readText_220 : decode cX3_readText 220 = .ok (.ifCond .ne 7, 3) := dk_154 0 7 (dk_at dksX3_readText_9 8 rfl rfl)
theorem dX3_readText_223 : decode cX3_readText 223 = .ok (.iconst 1, 1) := dk_4 (dk_at dksX3_readText_9 11 rfl rfl)
theorem dX3_readText_224 : decode cX3_readText 224 = .ok (.goto 4, 3) := dk_167 0 4 (dk_at dksX3_readText_9 12 rfl rfl)
theorem dX3_readText_227 : decode cX3_readText 227 = .ok (.iconst 0, 1) := dk_3 (dk_at dksX3_readText_9 15 rfl rfl)
theorem dX3_readText_228 : decode cX3_readText 228 = .ok (.ireturn, 1) := dk_172 (dk_at dksX3_readText_9 16 rfl rfl)
def dkwX3_token_12 : List UInt8 := [181, 0, 148, 177]
abbrev dktX3_token_12 : List UInt8 := dkwX3_token_12 ++ []
def dkwX3_token_11 : List UInt8 := [42, 27, 16, 59, 160, 0, 7, 7, 167, 0, 14, 27, 16, 45, 160, 0, 7, 8, 167, 0, 4, 4]
abbrev dktX3_token_11 : List UInt8 := dkwX3_token_11 ++ dktX3_token_12
def dkwX3_token_10 : List UInt8 := [164, 0, 7, 4, 167, 0, 4, 6, 181, 0, 148, 167, 0, 38, 42, 89, 180, 0, 131, 4, 96, 181, 0, 131]
abbrev dktX3_token_10 : List UInt8 := dkwX3_token_10 ++ dktX3_token_11
def dkwX3_token_9 : List UInt8 := [181, 0, 151, 42, 89, 180, 0, 131, 4, 96, 181, 0, 131, 132, 2, 1, 167, 255, 198, 42, 28, 5]
abbrev dktX3_token_9 : List UInt8 := dkwX3_token_9 ++ dktX3_token_10
def dkwX3_token_8 : List UInt8 := [16, 10, 42, 180, 0, 151, 104, 42, 182, 0, 137, 96, 16, 48, 100, 167, 0, 7, 42, 180, 0, 151]
abbrev dktX3_token_8 : List UInt8 := dkwX3_token_8 ++ dktX3_token_9
def dkwX3_token_7 : List UInt8 := [181, 0, 151, 42, 182, 0, 137, 16, 48, 16, 57, 184, 0, 123, 153, 0, 50, 42, 28, 5, 162, 0, 21]
abbrev dktX3_token_7 : List UInt8 := dkwX3_token_7 ++ dktX3_token_8
def dkwX3_token_6 : List UInt8 := [181, 0, 144, 42, 5, 181, 0, 148, 167, 0, 132, 27, 16, 48, 16, 57, 184, 0, 123, 153, 0, 86, 42, 3]
abbrev dktX3_token_6 : List UInt8 := dkwX3_token_6 ++ dktX3_token_7
def dkwX3_token_5 : List UInt8 := [181, 0, 131, 132, 2, 1, 167, 255, 212, 42, 28, 16, 8, 164, 0, 7, 9, 167, 0, 7, 42, 180, 0, 144]
abbrev dktX3_token_5 : List UInt8 := dkwX3_token_5 ++ dktX3_token_6
def dkwX3_token_4 : List UInt8 := [180, 0, 144, 16, 8, 121, 42, 182, 0, 137, 133, 129, 181, 0, 144, 42, 89, 180, 0, 131, 4, 96]
abbrev dktX3_token_4 : List UInt8 := dkwX3_token_4 ++ dktX3_token_5
def dkwX3_token_3 : List UInt8 := [184, 0, 123, 153, 0, 76, 42, 182, 0, 137, 16, 97, 16, 122, 184, 0, 123, 153, 0, 36, 42, 42]
abbrev dktX3_token_3 : List UInt8 := dkwX3_token_3 ++ dktX3_token_4
def dkwX3_token_2 : List UInt8 := [181, 0, 144, 3, 61, 27, 156, 0, 11, 42, 3, 181, 0, 148, 167, 0, 216, 27, 16, 97, 16, 122]
abbrev dktX3_token_2 : List UInt8 := dkwX3_token_2 ++ dktX3_token_3
def dkwX3_token_1 : List UInt8 := [96, 181, 0, 131, 167, 255, 228, 42, 42, 180, 0, 131, 181, 0, 141, 42, 182, 0, 137, 60, 42, 9]
abbrev dktX3_token_1 : List UInt8 := dkwX3_token_1 ++ dktX3_token_2
def dkwX3_token_0 : List UInt8 := [42, 182, 0, 137, 16, 10, 159, 0, 12, 42, 182, 0, 137, 16, 32, 160, 0, 16, 42, 89, 180, 0, 131, 4]
abbrev dktX3_token_0 : List UInt8 := dkwX3_token_0 ++ dktX3_token_1
theorem dksX3_token_0 : cX3_token.data.toList.drop 0 = dktX3_token_0 := by decide +kernel
theorem dksX3_token_1 : cX3_token.data.toList.drop 24 = dktX3_token_1 := dk_seg dksX3_token_0 24 rfl rfl
theorem dksX3_token_2 : cX3_token.data.toList.drop 46 = dktX3_token_2 := dk_seg dksX3_token_1 22 rfl rfl
theorem dksX3_token_3 : cX3_token.data.toList.drop 68 = dktX3_token_3 := dk_seg dksX3_token_2 22 rfl rfl
theorem dksX3_token_4 : cX3_token.data.toList.drop 90 = dktX3_token_4 := dk_seg dksX3_token_3 22 rfl rfl
theorem dksX3_token_5 : cX3_token.data.toList.drop 112 = dktX3_token_5 := dk_seg dksX3_token_4 22 rfl rfl
theorem dksX3_token_6 : cX3_token.data.toList.drop 136 = dktX3_token_6 := dk_seg dksX3_token_5 24 rfl rfl
theorem dksX3_token_7 : cX3_token.data.toList.drop 160 = dktX3_token_7 := dk_seg dksX3_token_6 24 rfl rfl
theorem dksX3_token_8 : cX3_token.data.toList.drop 183 = dktX3_token_8 := dk_seg dksX3_token_7 23 rfl rfl
theorem dksX3_token_9 : cX3_token.data.toList.drop 205 = dktX3_token_9 := dk_seg dksX3_token_8 22 rfl rfl
theorem dksX3_token_10 : cX3_token.data.toList.drop 227 = dktX3_token_10 := dk_seg dksX3_token_9 22 rfl rfl
theorem dksX3_token_11 : cX3_token.data.toList.drop 251 = dktX3_token_11 := dk_seg dksX3_token_10 24 rfl rfl
theorem dksX3_token_12 : cX3_token.data.toList.drop 273 = dktX3_token_12 := dk_seg dksX3_token_11 22 rfl rfl
theorem dX3_token_0 : decode cX3_token 0 = .ok (.aload_n 0, 1) := dk_42 (dk_at dksX3_token_0 0 rfl rfl)
theorem dX3_token_1 : decode cX3_token 1 = .ok (.invokevirtual 137, 3) := dk_182 0 137 (dk_at dksX3_token_0 1 rfl rfl)
theorem dX3_token_4 : decode cX3_token 4 = .ok (.bipush 10, 2) := dk_16 10 (dk_at dksX3_token_0 4 rfl rfl)
theorem dX3_token_6 : decode cX3_token 6 = .ok (.if_icmp .eq 12, 3) := dk_159 0 12 (dk_at dksX3_token_0 6 rfl rfl)
theorem dX3_token_9 : decode cX3_token 9 = .ok (.aload_n 0, 1) := dk_42 (dk_at dksX3_token_0 9 rfl rfl)
theorem dX3_token_10 : decode cX3_token 10 = .ok (.invokevirtual 137, 3) := dk_182 0 137 (dk_at dksX3_token_0 10 rfl rfl)
theorem dX3_token_13 : decode cX3_token 13 = .ok (.bipush 32, 2) := dk_16 32 (dk_at dksX3_token_0 13 rfl rfl)
theorem dX3_token_15 : decode cX3_token 15 = .ok (.if_icmp .ne 16, 3) := dk_160 0 16 (dk_at dksX3_token_0 15 rfl rfl)
theorem dX3_token_18 : decode cX3_token 18 = .ok (.aload_n 0, 1) := dk_42 (dk_at dksX3_token_0 18 rfl rfl)
theorem dX3_token_19 : decode cX3_token 19 = .ok (.dup, 1) := dk_89 (dk_at dksX3_token_0 19 rfl rfl)
theorem dX3_token_20 : decode cX3_token 20 = .ok (.getfield 131, 3) := dk_180 0 131 (dk_at dksX3_token_0 20 rfl rfl)
theorem dX3_token_23 : decode cX3_token 23 = .ok (.iconst 1, 1) := dk_4 (dk_at dksX3_token_0 23 rfl rfl)
theorem dX3_token_24 : decode cX3_token 24 = .ok (.iadd, 1) := dk_96 (dk_at dksX3_token_1 0 rfl rfl)
theorem dX3_token_25 : decode cX3_token 25 = .ok (.putfield 131, 3) := dk_181 0 131 (dk_at dksX3_token_1 1 rfl rfl)
theorem dX3_token_28 : decode cX3_token 28 = .ok (.goto (-28), 3) := dk_167 255 228 (dk_at dksX3_token_1 4 rfl rfl)
theorem dX3_token_31 : decode cX3_token 31 = .ok (.aload_n 0, 1) := dk_42 (dk_at dksX3_token_1 7 rfl rfl)
theorem dX3_token_32 : decode cX3_token 32 = .ok (.aload_n 0, 1) := dk_42 (dk_at dksX3_token_1 8 rfl rfl)
theorem dX3_token_33 : decode cX3_token 33 = .ok (.getfield 131, 3) := dk_180 0 131 (dk_at dksX3_token_1 9 rfl rfl)
theorem dX3_token_36 : decode cX3_token 36 = .ok (.putfield 141, 3) := dk_181 0 141 (dk_at dksX3_token_1 12 rfl rfl)
theorem dX3_token_39 : decode cX3_token 39 = .ok (.aload_n 0, 1) := dk_42 (dk_at dksX3_token_1 15 rfl rfl)
theorem dX3_token_40 : decode cX3_token 40 = .ok (.invokevirtual 137, 3) := dk_182 0 137 (dk_at dksX3_token_1 16 rfl rfl)
theorem dX3_token_43 : decode cX3_token 43 = .ok (.istore_n 1, 1) := dk_60 (dk_at dksX3_token_1 19 rfl rfl)
theorem dX3_token_44 : decode cX3_token 44 = .ok (.aload_n 0, 1) := dk_42 (dk_at dksX3_token_1 20 rfl rfl)
theorem dX3_token_45 : decode cX3_token 45 = .ok (.lconst 0, 1) := dk_9 (dk_at dksX3_token_1 21 rfl rfl)
theorem dX3_token_46 : decode cX3_token 46 = .ok (.putfield 144, 3) := dk_181 0 144 (dk_at dksX3_token_2 0 rfl rfl)
theorem dX3_token_49 : decode cX3_token 49 = .ok (.iconst 0, 1) := dk_3 (dk_at dksX3_token_2 3 rfl rfl)
theorem dX3_token_50 : decode cX3_token 50 = .ok (.istore_n 2, 1) := dk_61 (dk_at dksX3_token_2 4 rfl rfl)
theorem dX3_token_51 : decode cX3_token 51 = .ok (.iload_n 1, 1) := dk_27 (dk_at dksX3_token_2 5 rfl rfl)
theorem dX3_token_52 : decode cX3_token 52 = .ok (.ifCond .ge 11, 3) := dk_156 0 11 (dk_at dksX3_token_2 6 rfl rfl)
theorem dX3_token_55 : decode cX3_token 55 = .ok (.aload_n 0, 1) := dk_42 (dk_at dksX3_token_2 9 rfl rfl)
theorem dX3_token_56 : decode cX3_token 56 = .ok (.iconst 0, 1) := dk_3 (dk_at dksX3_token_2 10 rfl rfl)
theorem dX3_token_57 : decode cX3_token 57 = .ok (.putfield 148, 3) := dk_181 0 148 (dk_at dksX3_token_2 11 rfl rfl)
theorem dX3_token_60 : decode cX3_token 60 = .ok (.goto 216, 3) := dk_167 0 216 (dk_at dksX3_token_2 14 rfl rfl)
theorem dX3_token_63 : decode cX3_token 63 = .ok (.iload_n 1, 1) := dk_27 (dk_at dksX3_token_2 17 rfl rfl)
theorem dX3_token_64 : decode cX3_token 64 = .ok (.bipush 97, 2) := dk_16 97 (dk_at dksX3_token_2 18 rfl rfl)
theorem dX3_token_66 : decode cX3_token 66 = .ok (.bipush 122, 2) := dk_16 122 (dk_at dksX3_token_2 20 rfl rfl)
theorem dX3_token_68 : decode cX3_token 68 = .ok (.invokestatic 123, 3) := dk_184 0 123 (dk_at dksX3_token_3 0 rfl rfl)
theorem dX3_token_71 : decode cX3_token 71 = .ok (.ifCond .eq 76, 3) := dk_153 0 76 (dk_at dksX3_token_3 3 rfl rfl)
theorem dX3_token_74 : decode cX3_token 74 = .ok (.aload_n 0, 1) := dk_42 (dk_at dksX3_token_3 6 rfl rfl)
theorem dX3_token_75 : decode cX3_token 75 = .ok (.invokevirtual 137, 3) := dk_182 0 137 (dk_at dksX3_token_3 7 rfl rfl)
theorem dX3_token_78 : decode cX3_token 78 = .ok (.bipush 97, 2) := dk_16 97 (dk_at dksX3_token_3 10 rfl rfl)
theorem dX3_token_80 : decode cX3_token 80 = .ok (.bipush 122, 2) := dk_16 122 (dk_at dksX3_token_3 12 rfl rfl)
theorem dX3_token_82 : decode cX3_token 82 = .ok (.invokestatic 123, 3) := dk_184 0 123 (dk_at dksX3_token_3 14 rfl rfl)
theorem dX3_token_85 : decode cX3_token 85 = .ok (.ifCond .eq 36, 3) := dk_153 0 36 (dk_at dksX3_token_3 17 rfl rfl)
theorem dX3_token_88 : decode cX3_token 88 = .ok (.aload_n 0, 1) := dk_42 (dk_at dksX3_token_3 20 rfl rfl)
theorem dX3_token_89 : decode cX3_token 89 = .ok (.aload_n 0, 1) := dk_42 (dk_at dksX3_token_3 21 rfl rfl)
theorem dX3_token_90 : decode cX3_token 90 = .ok (.getfield 144, 3) := dk_180 0 144 (dk_at dksX3_token_4 0 rfl rfl)
theorem dX3_token_93 : decode cX3_token 93 = .ok (.bipush 8, 2) := dk_16 8 (dk_at dksX3_token_4 3 rfl rfl)
theorem dX3_token_95 : decode cX3_token 95 = .ok (.lshl, 1) := dk_121 (dk_at dksX3_token_4 5 rfl rfl)
theorem dX3_token_96 : decode cX3_token 96 = .ok (.aload_n 0, 1) := dk_42 (dk_at dksX3_token_4 6 rfl rfl)
theorem dX3_token_97 : decode cX3_token 97 = .ok (.invokevirtual 137, 3) := dk_182 0 137 (dk_at dksX3_token_4 7 rfl rfl)
theorem dX3_token_100 : decode cX3_token 100 = .ok (.i2l, 1) := dk_133 (dk_at dksX3_token_4 10 rfl rfl)
theorem dX3_token_101 : decode cX3_token 101 = .ok (.lor, 1) := dk_129 (dk_at dksX3_token_4 11 rfl rfl)
theorem dX3_token_102 : decode cX3_token 102 = .ok (.putfield 144, 3) := dk_181 0 144 (dk_at dksX3_token_4 12 rfl rfl)
theorem dX3_token_105 : decode cX3_token 105 = .ok (.aload_n 0, 1) := dk_42 (dk_at dksX3_token_4 15 rfl rfl)
theorem dX3_token_106 : decode cX3_token 106 = .ok (.dup, 1) := dk_89 (dk_at dksX3_token_4 16 rfl rfl)
theorem dX3_token_107 : decode cX3_token 107 = .ok (.getfield 131, 3) := dk_180 0 131 (dk_at dksX3_token_4 17 rfl rfl)
theorem dX3_token_110 : decode cX3_token 110 = .ok (.iconst 1, 1) := dk_4 (dk_at dksX3_token_4 20 rfl rfl)
theorem dX3_token_111 : decode cX3_token 111 = .ok (.iadd, 1) := dk_96 (dk_at dksX3_token_4 21 rfl rfl)
theorem dX3_token_112 : decode cX3_token 112 = .ok (.putfield 131, 3) := dk_181 0 131 (dk_at dksX3_token_5 0 rfl rfl)
theorem dX3_token_115 : decode cX3_token 115 = .ok (.iinc 2 1, 3) := dk_132 2 1 (dk_at dksX3_token_5 3 rfl rfl)
theorem dX3_token_118 : decode cX3_token 118 = .ok (.goto (-44), 3) := dk_167 255 212 (dk_at dksX3_token_5 6 rfl rfl)
theorem dX3_token_121 : decode cX3_token 121 = .ok (.aload_n 0, 1) := dk_42 (dk_at dksX3_token_5 9 rfl rfl)
theorem dX3_token_122 : decode cX3_token 122 = .ok (.iload_n 2, 1) := dk_28 (dk_at dksX3_token_5 10 rfl rfl)
theorem dX3_token_123 : decode cX3_token 123 = .ok (.bipush 8, 2) := dk_16 8 (dk_at dksX3_token_5 11 rfl rfl)
theorem dX3_token_125 : decode cX3_token 125 = .ok (.if_icmp .le 7, 3) := dk_164 0 7 (dk_at dksX3_token_5 13 rfl rfl)
theorem dX3_token_128 : decode cX3_token 128 = .ok (.lconst 0, 1) := dk_9 (dk_at dksX3_token_5 16 rfl rfl)
theorem dX3_token_129 : decode cX3_token 129 = .ok (.goto 7, 3) := dk_167 0 7 (dk_at dksX3_token_5 17 rfl rfl)
theorem dX3_token_132 : decode cX3_token 132 = .ok (.aload_n 0, 1) := dk_42 (dk_at dksX3_token_5 20 rfl rfl)
theorem dX3_token_133 : decode cX3_token 133 = .ok (.getfield 144, 3) := dk_180 0 144 (dk_at dksX3_token_5 21 rfl rfl)
theorem dX3_token_136 : decode cX3_token 136 = .ok (.putfield 144, 3) := dk_181 0 144 (dk_at dksX3_token_6 0 rfl rfl)
theorem dX3_token_139 : decode cX3_token 139 = .ok (.aload_n 0, 1) := dk_42 (dk_at dksX3_token_6 3 rfl rfl)
theorem dX3_token_140 : decode cX3_token 140 = .ok (.iconst 2, 1) := dk_5 (dk_at dksX3_token_6 4 rfl rfl)
theorem dX3_token_141 : decode cX3_token 141 = .ok (.putfield 148, 3) := dk_181 0 148 (dk_at dksX3_token_6 5 rfl rfl)
theorem dX3_token_144 : decode cX3_token 144 = .ok (.goto 132, 3) := dk_167 0 132 (dk_at dksX3_token_6 8 rfl rfl)
theorem dX3_token_147 : decode cX3_token 147 = .ok (.iload_n 1, 1) := dk_27 (dk_at dksX3_token_6 11 rfl rfl)
theorem dX3_token_148 : decode cX3_token 148 = .ok (.bipush 48, 2) := dk_16 48 (dk_at dksX3_token_6 12 rfl rfl)
theorem dX3_token_150 : decode cX3_token 150 = .ok (.bipush 57, 2) := dk_16 57 (dk_at dksX3_token_6 14 rfl rfl)
theorem dX3_token_152 : decode cX3_token 152 = .ok (.invokestatic 123, 3) := dk_184 0 123 (dk_at dksX3_token_6 16 rfl rfl)
theorem dX3_token_155 : decode cX3_token 155 = .ok (.ifCond .eq 86, 3) := dk_153 0 86 (dk_at dksX3_token_6 19 rfl rfl)
theorem dX3_token_158 : decode cX3_token 158 = .ok (.aload_n 0, 1) := dk_42 (dk_at dksX3_token_6 22 rfl rfl)
theorem dX3_token_159 : decode cX3_token 159 = .ok (.iconst 0, 1) := dk_3 (dk_at dksX3_token_6 23 rfl rfl)
theorem dX3_token_160 : decode cX3_token 160 = .ok (.putfield 151, 3) := dk_181 0 151 (dk_at dksX3_token_7 0 rfl rfl)
theorem dX3_token_163 : decode cX3_token 163 = .ok (.aload_n 0, 1) := dk_42 (dk_at dksX3_token_7 3 rfl rfl)
theorem dX3_token_164 : decode cX3_token 164 = .ok (.invokevirtual 137, 3) := dk_182 0 137 (dk_at dksX3_token_7 4 rfl rfl)
theorem dX3_token_167 : decode cX3_token 167 = .ok (.bipush 48, 2) := dk_16 48 (dk_at dksX3_token_7 7 rfl rfl)
theorem dX3_token_169 : decode cX3_token 169 = .ok (.bipush 57, 2) := dk_16 57 (dk_at dksX3_token_7 9 rfl rfl)
theorem dX3_token_171 : decode cX3_token 171 = .ok (.invokestatic 123, 3) := dk_184 0 123 (dk_at dksX3_token_7 11 rfl rfl)
theorem dX3_token_174 : decode cX3_token 174 = .ok (.ifCond .eq 50, 3) := dk_153 0 50 (dk_at dksX3_token_7 14 rfl rfl)
theorem dX3_token_177 : decode cX3_token 177 = .ok (.aload_n 0, 1) := dk_42 (dk_at dksX3_token_7 17 rfl rfl)
theorem dX3_token_178 : decode cX3_token 178 = .ok (.iload_n 2, 1) := dk_28 (dk_at dksX3_token_7 18 rfl rfl)
theorem dX3_token_179 : decode cX3_token 179 = .ok (.iconst 2, 1) := dk_5 (dk_at dksX3_token_7 19 rfl rfl)
theorem dX3_token_180 : decode cX3_token 180 = .ok (.if_icmp .ge 21, 3) := dk_162 0 21 (dk_at dksX3_token_7 20 rfl rfl)
theorem dX3_token_183 : decode cX3_token 183 = .ok (.bipush 10, 2) := dk_16 10 (dk_at dksX3_token_8 0 rfl rfl)
theorem dX3_token_185 : decode cX3_token 185 = .ok (.aload_n 0, 1) := dk_42 (dk_at dksX3_token_8 2 rfl rfl)
theorem dX3_token_186 : decode cX3_token 186 = .ok (.getfield 151, 3) := dk_180 0 151 (dk_at dksX3_token_8 3 rfl rfl)
theorem dX3_token_189 : decode cX3_token 189 = .ok (.imul, 1) := dk_104 (dk_at dksX3_token_8 6 rfl rfl)
theorem dX3_token_190 : decode cX3_token 190 = .ok (.aload_n 0, 1) := dk_42 (dk_at dksX3_token_8 7 rfl rfl)
theorem dX3_token_191 : decode cX3_token 191 = .ok (.invokevirtual 137, 3) := dk_182 0 137 (dk_at dksX3_token_8 8 rfl rfl)
theorem dX3_token_194 : decode cX3_token 194 = .ok (.iadd, 1) := dk_96 (dk_at dksX3_token_8 11 rfl rfl)
theorem dX3_token_195 : decode cX3_token 195 = .ok (.bipush 48, 2) := dk_16 48 (dk_at dksX3_token_8 12 rfl rfl)
theorem dX3_token_197 : decode cX3_token 197 = .ok (.isub, 1) := dk_100 (dk_at dksX3_token_8 14 rfl rfl)
theorem dX3_token_198 : decode cX3_token 198 = .ok (.goto 7, 3) := dk_167 0 7 (dk_at dksX3_token_8 15 rfl rfl)
theorem dX3_token_201 : decode cX3_token 201 = .ok (.aload_n 0, 1) := dk_42 (dk_at dksX3_token_8 18 rfl rfl)
theorem dX3_token_202 : decode cX3_token 202 = .ok (.getfield 151, 3) := dk_180 0 151 (dk_at dksX3_token_8 19 rfl rfl)
theorem dX3_token_205 : decode cX3_token 205 = .ok (.putfield 151, 3) := dk_181 0 151 (dk_at dksX3_token_9 0 rfl rfl)
theorem dX3_token_208 : decode cX3_token 208 = .ok (.aload_n 0, 1) := dk_42 (dk_at dksX3_token_9 3 rfl rfl)
theorem dX3_token_209 : decode cX3_token 209 = .ok (.dup, 1) := dk_89 (dk_at dksX3_token_9 4 rfl rfl)
theorem dX3_token_210 : decode cX3_token 210 = .ok (.getfield 131, 3) := dk_180 0 131 (dk_at dksX3_token_9 5 rfl rfl)
theorem dX3_token_213 : decode cX3_token 213 = .ok (.iconst 1, 1) := dk_4 (dk_at dksX3_token_9 8 rfl rfl)
theorem dX3_token_214 : decode cX3_token 214 = .ok (.iadd, 1) := dk_96 (dk_at dksX3_token_9 9 rfl rfl)
theorem dX3_token_215 : decode cX3_token 215 = .ok (.putfield 131, 3) := dk_181 0 131 (dk_at dksX3_token_9 10 rfl rfl)
theorem dX3_token_218 : decode cX3_token 218 = .ok (.iinc 2 1, 3) := dk_132 2 1 (dk_at dksX3_token_9 13 rfl rfl)
theorem dX3_token_221 : decode cX3_token 221 = .ok (.goto (-58), 3) := dk_167 255 198 (dk_at dksX3_token_9 16 rfl rfl)
theorem dX3_token_224 : decode cX3_token 224 = .ok (.aload_n 0, 1) := dk_42 (dk_at dksX3_token_9 19 rfl rfl)
theorem dX3_token_225 : decode cX3_token 225 = .ok (.iload_n 2, 1) := dk_28 (dk_at dksX3_token_9 20 rfl rfl)
theorem dX3_token_226 : decode cX3_token 226 = .ok (.iconst 2, 1) := dk_5 (dk_at dksX3_token_9 21 rfl rfl)
theorem dX3_token_227 : decode cX3_token 227 = .ok (.if_icmp .le 7, 3) := dk_164 0 7 (dk_at dksX3_token_10 0 rfl rfl)
theorem dX3_token_230 : decode cX3_token 230 = .ok (.iconst 1, 1) := dk_4 (dk_at dksX3_token_10 3 rfl rfl)
theorem dX3_token_231 : decode cX3_token 231 = .ok (.goto 4, 3) := dk_167 0 4 (dk_at dksX3_token_10 4 rfl rfl)
theorem dX3_token_234 : decode cX3_token 234 = .ok (.iconst 3, 1) := dk_6 (dk_at dksX3_token_10 7 rfl rfl)
theorem dX3_token_235 : decode cX3_token 235 = .ok (.putfield 148, 3) := dk_181 0 148 (dk_at dksX3_token_10 8 rfl rfl)
theorem dX3_token_238 : decode cX3_token 238 = .ok (.goto 38, 3) := dk_167 0 38 (dk_at dksX3_token_10 11 rfl rfl)
theorem dX3_token_241 : decode cX3_token 241 = .ok (.aload_n 0, 1) := dk_42 (dk_at dksX3_token_10 14 rfl rfl)
theorem dX3_token_242 : decode cX3_token 242 = .ok (.dup, 1) := dk_89 (dk_at dksX3_token_10 15 rfl rfl)
theorem dX3_token_243 : decode cX3_token 243 = .ok (.getfield 131, 3) := dk_180 0 131 (dk_at dksX3_token_10 16 rfl rfl)
theorem dX3_token_246 : decode cX3_token 246 = .ok (.iconst 1, 1) := dk_4 (dk_at dksX3_token_10 19 rfl rfl)
theorem dX3_token_247 : decode cX3_token 247 = .ok (.iadd, 1) := dk_96 (dk_at dksX3_token_10 20 rfl rfl)
theorem dX3_token_248 : decode cX3_token 248 = .ok (.putfield 131, 3) := dk_181 0 131 (dk_at dksX3_token_10 21 rfl rfl)
theorem dX3_token_251 : decode cX3_token 251 = .ok (.aload_n 0, 1) := dk_42 (dk_at dksX3_token_11 0 rfl rfl)
theorem dX3_token_252 : decode cX3_token 252 = .ok (.iload_n 1, 1) := dk_27 (dk_at dksX3_token_11 1 rfl rfl)
theorem dX3_token_253 : decode cX3_token 253 = .ok (.bipush 59, 2) := dk_16 59 (dk_at dksX3_token_11 2 rfl rfl)
theorem dX3_token_255 : decode cX3_token 255 = .ok (.if_icmp .ne 7, 3) := dk_160 0 7 (dk_at dksX3_token_11 4 rfl rfl)
theorem dX3_token_258 : decode cX3_token 258 = .ok (.iconst 4, 1) := dk_7 (dk_at dksX3_token_11 7 rfl rfl)
theorem dX3_token_259 : decode cX3_token 259 = .ok (.goto 14, 3) := dk_167 0 14 (dk_at dksX3_token_11 8 rfl rfl)
theorem dX3_token_262 : decode cX3_token 262 = .ok (.iload_n 1, 1) := dk_27 (dk_at dksX3_token_11 11 rfl rfl)
theorem dX3_token_263 : decode cX3_token 263 = .ok (.bipush 45, 2) := dk_16 45 (dk_at dksX3_token_11 12 rfl rfl)
theorem dX3_token_265 : decode cX3_token 265 = .ok (.if_icmp .ne 7, 3) := dk_160 0 7 (dk_at dksX3_token_11 14 rfl rfl)
theorem dX3_token_268 : decode cX3_token 268 = .ok (.iconst 5, 1) := dk_8 (dk_at dksX3_token_11 17 rfl rfl)
theorem dX3_token_269 : decode cX3_token 269 = .ok (.goto 4, 3) := dk_167 0 4 (dk_at dksX3_token_11 18 rfl rfl)
theorem dX3_token_272 : decode cX3_token 272 = .ok (.iconst 1, 1) := dk_4 (dk_at dksX3_token_11 21 rfl rfl)
theorem dX3_token_273 : decode cX3_token 273 = .ok (.putfield 148, 3) := dk_181 0 148 (dk_at dksX3_token_12 0 rfl rfl)
theorem dX3_token_276 : decode cX3_token 276 = .ok (.return_, 1) := dk_177 (dk_at dksX3_token_12 3 rfl rfl)
def dkwX3_see_1 : List UInt8 := [167, 0, 4, 2, 172]
abbrev dktX3_see_1 : List UInt8 := dkwX3_see_1 ++ []
def dkwX3_see_0 : List UInt8 := [42, 180, 0, 131, 42, 180, 0, 134, 162, 0, 19, 42, 180, 0, 7, 42, 180, 0, 131, 51, 17, 0, 255, 126]
abbrev dktX3_see_0 : List UInt8 := dkwX3_see_0 ++ dktX3_see_1
theorem dksX3_see_0 : cX3_see.data.toList.drop 0 = dktX3_see_0 := by decide +kernel
theorem dksX3_see_1 : cX3_see.data.toList.drop 24 = dktX3_see_1 := dk_seg dksX3_see_0 24 rfl rfl
theorem dX3_see_0 : decode cX3_see 0 = .ok (.aload_n 0, 1) := dk_42 (dk_at dksX3_see_0 0 rfl rfl)
theorem dX3_see_1 : decode cX3_see 1 = .ok (.getfield 131, 3) := dk_180 0 131 (dk_at dksX3_see_0 1 rfl rfl)
theorem dX3_see_4 : decode cX3_see 4 = .ok (.aload_n 0, 1) := dk_42 (dk_at dksX3_see_0 4 rfl rfl)
theorem dX3_see_5 : decode cX3_see 5 = .ok (.getfield 134, 3) := dk_180 0 134 (dk_at dksX3_see_0 5 rfl rfl)
theorem dX3_see_8 : decode cX3_see 8 = .ok (.if_icmp .ge 19, 3) := dk_162 0 19 (dk_at dksX3_see_0 8 rfl rfl)
theorem dX3_see_11 : decode cX3_see 11 = .ok (.aload_n 0, 1) := dk_42 (dk_at dksX3_see_0 11 rfl rfl)
theorem dX3_see_12 : decode cX3_see 12 = .ok (.getfield 7, 3) := dk_180 0 7 (dk_at dksX3_see_0 12 rfl rfl)
theorem dX3_see_15 : decode cX3_see 15 = .ok (.aload_n 0, 1) := dk_42 (dk_at dksX3_see_0 15 rfl rfl)
theorem dX3_see_16 : decode cX3_see 16 = .ok (.getfield 131, 3) := dk_180 0 131 (dk_at dksX3_see_0 16 rfl rfl)
theorem dX3_see_19 : decode cX3_see 19 = .ok (.baload, 1) := dk_51 (dk_at dksX3_see_0 19 rfl rfl)
theorem dX3_see_20 : decode cX3_see 20 = .ok (.sipush 255, 3) := dk_17 0 255 (dk_at dksX3_see_0 20 rfl rfl)
theorem dX3_see_23 : decode cX3_see 23 = .ok (.iand, 1) := dk_126 (dk_at dksX3_see_0 23 rfl rfl)
theorem dX3_see_24 : decode cX3_see 24 = .ok (.goto 4, 3) := dk_167 0 4 (dk_at dksX3_see_1 0 rfl rfl)
theorem dX3_see_27 : decode cX3_see 27 = .ok (.iconst (-1), 1) := dk_2 (dk_at dksX3_see_1 3 rfl rfl)
theorem dX3_see_28 : decode cX3_see 28 = .ok (.ireturn, 1) := dk_172 (dk_at dksX3_see_1 4 rfl rfl)
def dkwX3_lines_4 : List UInt8 := [153, 0, 7, 42, 182, 0, 171, 167, 255, 160, 28, 172]
abbrev dktX3_lines_4 : List UInt8 := dkwX3_lines_4 ++ []
def dkwX3_lines_3 : List UInt8 := [182, 0, 217, 61, 28, 153, 0, 16, 42, 180, 0, 148, 7, 159, 0, 8, 42, 182, 0, 163, 61, 28]
abbrev dktX3_lines_3 : List UInt8 := dkwX3_lines_3 ++ dktX3_lines_4
def dkwX3_lines_2 : List UInt8 := [167, 0, 25, 27, 4, 160, 0, 13, 42, 22, 4, 29, 182, 0, 214, 167, 0, 10, 42, 22, 4, 29]
abbrev dktX3_lines_2 : List UInt8 := dkwX3_lines_2 ++ dktX3_lines_3
def dkwX3_lines_1 : List UInt8 := [160, 0, 10, 42, 180, 0, 144, 167, 0, 4, 9, 55, 4, 27, 154, 0, 13, 42, 22, 4, 29, 182, 0, 211]
abbrev dktX3_lines_1 : List UInt8 := dkwX3_lines_1 ++ dktX3_lines_2
def dkwX3_lines_0 : List UInt8 := [4, 61, 28, 153, 0, 98, 42, 180, 0, 148, 153, 0, 91, 42, 180, 0, 141, 62, 42, 180, 0, 148, 5]
abbrev dktX3_lines_0 : List UInt8 := dkwX3_lines_0 ++ dktX3_lines_1
theorem dksX3_lines_0 : cX3_lines.data.toList.drop 0 = dktX3_lines_0 := by decide +kernel
theorem dksX3_lines_1 : cX3_lines.data.toList.drop 23 = dktX3_lines_1 := dk_seg dksX3_lines_0 23 rfl rfl
theorem dksX3_lines_2 : cX3_lines.data.toList.drop 47 = dktX3_lines_2 := dk_seg dksX3_lines_1 24 rfl rfl
theorem dksX3_lines_3 : cX3_lines.data.toList.drop 69 = dktX3_lines_3 := dk_seg dksX3_lines_2 22 rfl rfl
theorem dksX3_lines_4 : cX3_lines.data.toList.drop 91 = dktX3_lines_4 := dk_seg dksX3_lines_3 22 rfl rfl
theorem dX3_lines_0 : decode cX3_lines 0 = .ok (.iconst 1, 1) := dk_4 (dk_at dksX3_lines_0 0 rfl rfl)
theorem dX3_lines_1 : decode cX3_lines 1 = .ok (.istore_n 2, 1) := dk_61 (dk_at dksX3_lines_0 1 rfl rfl)
theorem dX3_lines_2 : decode cX3_lines 2 = .ok (.iload_n 2, 1) := dk_28 (dk_at dksX3_lines_0 2 rfl rfl)
theorem dX3_lines_3 : decode cX3_lines 3 = .ok (.ifCond .eq 98, 3) := dk_153 0 98 (dk_at dksX3_lines_0 3 rfl rfl)
theorem dX3_lines_6 : decode cX3_lines 6 = .ok (.aload_n 0, 1) := dk_42 (dk_at dksX3_lines_0 6 rfl rfl)
theorem dX3_lines_7 : decode cX3_lines 7 = .ok (.getfield 148, 3) := dk_180 0 148 (dk_at dksX3_lines_0 7 rfl rfl)
theorem dX3_lines_10 : decode cX3_lines 10 = .ok (.ifCond .eq 91, 3) := dk_153 0 91 (dk_at dksX3_lines_0 10 rfl rfl)
theorem dX3_lines_13 : decode cX3_lines 13 = .ok (.aload_n 0, 1) := dk_42 (dk_at dksX3_lines_0 13 rfl rfl)
theorem dX3_lines_14 : decode cX3_lines 14 = .ok (.getfield 141, 3) := dk_180 0 141 (dk_at dksX3_lines_0 14 rfl rfl)
theorem dX3_lines_17 : decode cX3_lines 17 = .ok (.istore_n 3, 1) := dk_62 (dk_at dksX3_lines_0 17 rfl rfl)
theorem dX3_lines_18 : decode cX3_lines 18 = .ok (.aload_n 0, 1) := dk_42 (dk_at dksX3_lines_0 18 rfl rfl)
theorem dX3_lines_19 : decode cX3_lines 19 = .ok (.getfield 148, 3) := dk_180 0 148 (dk_at dksX3_lines_0 19 rfl rfl)
theorem dX3_lines_22 : decode cX3_lines 22 = .ok (.iconst 2, 1) := dk_5 (dk_at dksX3_lines_0 22 rfl rfl)
theorem dX3_lines_23 : decode cX3_lines 23 = .ok (.if_icmp .ne 10, 3) := dk_160 0 10 (dk_at dksX3_lines_1 0 rfl rfl)
theorem dX3_lines_26 : decode cX3_lines 26 = .ok (.aload_n 0, 1) := dk_42 (dk_at dksX3_lines_1 3 rfl rfl)
theorem dX3_lines_27 : decode cX3_lines 27 = .ok (.getfield 144, 3) := dk_180 0 144 (dk_at dksX3_lines_1 4 rfl rfl)
theorem dX3_lines_30 : decode cX3_lines 30 = .ok (.goto 4, 3) := dk_167 0 4 (dk_at dksX3_lines_1 7 rfl rfl)
theorem dX3_lines_33 : decode cX3_lines 33 = .ok (.lconst 0, 1) := dk_9 (dk_at dksX3_lines_1 10 rfl rfl)
theorem dX3_lines_34 : decode cX3_lines 34 = .ok (.lstore 4, 2) := dk_55 4 (dk_at dksX3_lines_1 11 rfl rfl)
theorem dX3_lines_36 : decode cX3_lines 36 = .ok (.iload_n 1, 1) := dk_27 (dk_at dksX3_lines_1 13 rfl rfl)
theorem dX3_lines_37 : decode cX3_lines 37 = .ok (.ifCond .ne 13, 3) := dk_154 0 13 (dk_at dksX3_lines_1 14 rfl rfl)
theorem dX3_lines_40 : decode cX3_lines 40 = .ok (.aload_n 0, 1) := dk_42 (dk_at dksX3_lines_1 17 rfl rfl)
theorem dX3_lines_41 : decode cX3_lines 41 = .ok (.lload 4, 2) := dk_22 4 (dk_at dksX3_lines_1 18 rfl rfl)
theorem dX3_lines_43 : decode cX3_lines 43 = .ok (.iload_n 3, 1) := dk_29 (dk_at dksX3_lines_1 20 rfl rfl)
theorem dX3_lines_44 : decode cX3_lines 44 = .ok (.invokevirtual 211, 3) := dk_182 0 211 (dk_at dksX3_lines_1 21 rfl rfl)
theorem dX3_lines_47 : decode cX3_lines 47 = .ok (.goto 25, 3) := dk_167 0 25 (dk_at dksX3_lines_2 0 rfl rfl)
theorem dX3_lines_50 : decode cX3_lines 50 = .ok (.iload_n 1, 1) := dk_27 (dk_at dksX3_lines_2 3 rfl rfl)
theorem dX3_lines_51 : decode cX3_lines 51 = .ok (.iconst 1, 1) := dk_4 (dk_at dksX3_lines_2 4 rfl rfl)
theorem dX3_lines_52 : decode cX3_lines 52 = .ok (.if_icmp .ne 13, 3) := dk_160 0 13 (dk_at dksX3_lines_2 5 rfl rfl)
theorem dX3_lines_55 : decode cX3_lines 55 = .ok (.aload_n 0, 1) := dk_42 (dk_at dksX3_lines_2 8 rfl rfl)
theorem dX3_lines_56 : decode cX3_lines 56 = .ok (.lload 4, 2) := dk_22 4 (dk_at dksX3_lines_2 9 rfl rfl)
theorem dX3_lines_58 : decode cX3_lines 58 = .ok (.iload_n 3, 1) := dk_29 (dk_at dksX3_lines_2 11 rfl rfl)
theorem dX3_lines_59 : decode cX3_lines 59 = .ok (.invokevirtual 214, 3) := dk_182 0 214 (dk_at dksX3_lines_2 12 rfl rfl)
theorem dX3_lines_62 : decode cX3_lines 62 = .ok (.goto 10, 3) := dk_167 0 10 (dk_at dksX3_lines_2 15 rfl rfl)
theorem dX3_lines_65 : decode cX3_lines 65 = .ok (.aload_n 0, 1) := dk_42 (dk_at dksX3_lines_2 18 rfl rfl)
theorem dX3_lines_66 : decode cX3_lines 66 = .ok (.lload 4, 2) := dk_22 4 (dk_at dksX3_lines_2 19 rfl rfl)
theorem dX3_lines_68 : decode cX3_lines 68 = .ok (.iload_n 3, 1) := dk_29 (dk_at dksX3_lines_2 21 rfl rfl)
theorem dX3_lines_69 : decode cX3_lines 69 = .ok (.invokevirtual 217, 3) := dk_182 0 217 (dk_at dksX3_lines_3 0 rfl rfl)
theorem dX3_lines_72 : decode cX3_lines 72 = .ok (.istore_n 2, 1) := dk_61 (dk_at dksX3_lines_3 3 rfl rfl)
theorem dX3_lines_73 : decode cX3_lines 73 = .ok (.iload_n 2, 1) := dk_28 (dk_at dksX3_lines_3 4 rfl rfl)
theorem dX3_lines_74 : decode cX3_lines 74 = .ok (.ifCond .eq 16, 3) := dk_153 0 16 (dk_at dksX3_lines_3 5 rfl rfl)
theorem dX3_lines_77 : decode cX3_lines 77 = .ok (.aload_n 0, 1) := dk_42 (dk_at dksX3_lines_3 8 rfl rfl)
theorem dX3_lines_78 : decode cX3_lines 78 = .ok (.getfield 148, 3) := dk_180 0 148 (dk_at dksX3_lines_3 9 rfl rfl)
theorem dX3_lines_81 : decode cX3_lines 81 = .ok (.iconst 4, 1) := dk_7 (dk_at dksX3_lines_3 12 rfl rfl)
theorem dX3_lines_82 : decode cX3_lines 82 = .ok (.if_icmp .eq 8, 3) := dk_159 0 8 (dk_at dksX3_lines_3 13 rfl rfl)
theorem dX3_lines_85 : decode cX3_lines 85 = .ok (.aload_n 0, 1) := dk_42 (dk_at dksX3_lines_3 16 rfl rfl)
theorem dX3_lines_86 : decode cX3_lines 86 = .ok (.invokevirtual 163, 3) := dk_182 0 163 (dk_at dksX3_lines_3 17 rfl rfl)
theorem dX3_lines_89 : decode cX3_lines 89 = .ok (.istore_n 2, 1) := dk_61 (dk_at dksX3_lines_3 20 rfl rfl)
theorem dX3_lines_90 : decode cX3_lines 90 = .ok (.iload_n 2, 1) := dk_28 (dk_at dksX3_lines_3 21 rfl rfl)
theorem dX3_lines_91 : decode cX3_lines 91 = .ok (.ifCond .eq 7, 3) := dk_153 0 7 (dk_at dksX3_lines_4 0 rfl rfl)
theorem dX3_lines_94 : decode cX3_lines 94 = .ok (.aload_n 0, 1) := dk_42 (dk_at dksX3_lines_4 3 rfl rfl)
theorem dX3_lines_95 : decode cX3_lines 95 = .ok (.invokevirtual 171, 3) := dk_182 0 171 (dk_at dksX3_lines_4 4 rfl rfl)
theorem dX3_lines_98 : decode cX3_lines 98 = .ok (.goto (-96), 3) := dk_167 255 160 (dk_at dksX3_lines_4 7 rfl rfl)
theorem dX3_lines_101 : decode cX3_lines 101 = .ok (.iload_n 2, 1) := dk_28 (dk_at dksX3_lines_4 10 rfl rfl)
theorem dX3_lines_102 : decode cX3_lines 102 = .ok (.ireturn, 1) := dk_172 (dk_at dksX3_lines_4 11 rfl rfl)
def dkwX3_libraryLine_10 : List UInt8 := [3, 46, 79, 4, 172]
abbrev dktX3_libraryLine_10 : List UInt8 := dkwX3_libraryLine_10 ++ []
def dkwX3_libraryLine_9 : List UInt8 := [167, 0, 5, 16, 99, 2, 182, 0, 174, 154, 0, 5, 3, 172, 42, 180, 0, 35, 21, 4, 42, 180, 0, 38]
abbrev dktX3_libraryLine_9 : List UInt8 := dkwX3_libraryLine_9 ++ dktX3_libraryLine_10
def dkwX3_libraryLine_8 : List UInt8 := [160, 0, 7, 3, 167, 0, 4, 4, 21, 4, 154, 0, 7, 8, 167, 0, 15, 21, 4, 4, 160, 0, 7, 6]
abbrev dktX3_libraryLine_8 : List UInt8 := dkwX3_libraryLine_8 ++ dktX3_libraryLine_9
def dkwX3_libraryLine_7 : List UInt8 := [154, 0, 7, 4, 167, 0, 4, 5, 54, 4, 42, 3, 21, 4, 154, 0, 7, 5, 167, 0, 14, 21, 4, 4]
abbrev dktX3_libraryLine_7 : List UInt8 := dkwX3_libraryLine_7 ++ dktX3_libraryLine_8
def dkwX3_libraryLine_6 : List UInt8 := [4, 46, 79, 4, 172, 31, 20, 0, 185, 148, 154, 0, 7, 3, 167, 0, 16, 31, 20, 0, 187, 148]
abbrev dktX3_libraryLine_6 : List UInt8 := dkwX3_libraryLine_6 ++ dktX3_libraryLine_7
def dkwX3_libraryLine_5 : List UInt8 := [162, 0, 27, 42, 180, 0, 35, 7, 16, 14, 42, 180, 0, 38, 3, 46, 104, 96, 4, 96, 42, 180, 0, 38]
abbrev dktX3_libraryLine_5 : List UInt8 := dkwX3_libraryLine_5 ++ dktX3_libraryLine_6
def dkwX3_libraryLine_4 : List UInt8 := [16, 9, 2, 182, 0, 174, 154, 0, 5, 3, 172, 42, 180, 0, 38, 3, 46, 42, 180, 0, 35, 6, 46]
abbrev dktX3_libraryLine_4 : List UInt8 := dkwX3_libraryLine_4 ++ dktX3_libraryLine_5
def dkwX3_libraryLine_3 : List UInt8 := [154, 0, 76, 42, 3, 3, 42, 180, 0, 35, 6, 46, 4, 100, 2, 182, 0, 174, 153, 0, 15, 42, 4, 3]
abbrev dktX3_libraryLine_3 : List UInt8 := dkwX3_libraryLine_3 ++ dktX3_libraryLine_4
def dkwX3_libraryLine_2 : List UInt8 := [182, 0, 171, 31, 20, 0, 191, 148, 154, 0, 9, 42, 29, 182, 0, 195, 172, 31, 20, 0, 193, 148]
abbrev dktX3_libraryLine_2 : List UInt8 := dkwX3_libraryLine_2 ++ dktX3_libraryLine_3
def dkwX3_libraryLine_1 : List UInt8 := [31, 20, 0, 191, 148, 153, 0, 16, 31, 20, 0, 193, 148, 153, 0, 8, 42, 182, 0, 163, 172, 42]
abbrev dktX3_libraryLine_1 : List UInt8 := dkwX3_libraryLine_1 ++ dktX3_libraryLine_2
def dkwX3_libraryLine_0 : List UInt8 := [31, 20, 0, 185, 148, 153, 0, 40, 31, 20, 0, 187, 148, 153, 0, 32, 31, 20, 0, 189, 148, 153, 0, 24]
abbrev dktX3_libraryLine_0 : List UInt8 := dkwX3_libraryLine_0 ++ dktX3_libraryLine_1
theorem dksX3_libraryLine_0 : cX3_libraryLine.data.toList.drop 0 = dktX3_libraryLine_0 := by decide +kernel
theorem dksX3_libraryLine_1 : cX3_libraryLine.data.toList.drop 24 = dktX3_libraryLine_1 := dk_seg dksX3_libraryLine_0 24 rfl rfl
theorem dksX3_libraryLine_2 : cX3_libraryLine.data.toList.drop 46 = dktX3_libraryLine_2 := dk_seg dksX3_libraryLine_1 22 rfl rfl
theorem dksX3_libraryLine_3 : cX3_libraryLine.data.toList.drop 68 = dktX3_libraryLine_3 := dk_seg dksX3_libraryLine_2 22 rfl rfl
theorem dksX3_libraryLine_4 : cX3_libraryLine.data.toList.drop 92 = dktX3_libraryLine_4 := dk_seg dksX3_libraryLine_3 24 rfl rfl
theorem dksX3_libraryLine_5 : cX3_libraryLine.data.toList.drop 115 = dktX3_libraryLine_5 := dk_seg dksX3_libraryLine_4 23 rfl rfl
theorem dksX3_libraryLine_6 : cX3_libraryLine.data.toList.drop 139 = dktX3_libraryLine_6 := dk_seg dksX3_libraryLine_5 24 rfl rfl
theorem dksX3_libraryLine_7 : cX3_libraryLine.data.toList.drop 161 = dktX3_libraryLine_7 := dk_seg dksX3_libraryLine_6 22 rfl rfl
theorem dksX3_libraryLine_8 : cX3_libraryLine.data.toList.drop 185 = dktX3_libraryLine_8 := dk_seg dksX3_libraryLine_7 24 rfl rfl
theorem dksX3_libraryLine_9 : cX3_libraryLine.data.toList.drop 209 = dktX3_libraryLine_9 := dk_seg dksX3_libraryLine_8 24 rfl rfl
theorem dksX3_libraryLine_10 : cX3_libraryLine.data.toList.drop 233 = dktX3_libraryLine_10 := dk_seg dksX3_libraryLine_9 24 rfl rfl
theorem dX3_libraryLine_0 : decode cX3_libraryLine 0 = .ok (.lload_n 1, 1) := dk_31 (dk_at dksX3_libraryLine_0 0 rfl rfl)
theorem dX3_libraryLine_1 : decode cX3_libraryLine 1 = .ok (.ldc2_w 185, 3) := dk_20 0 185 (dk_at dksX3_libraryLine_0 1 rfl rfl)
theorem dX3_libraryLine_4 : decode cX3_libraryLine 4 = .ok (.lcmp, 1) := dk_148 (dk_at dksX3_libraryLine_0 4 rfl rfl)
theorem dX3_libraryLine_5 : decode cX3_libraryLine 5 = .ok (.ifCond .eq 40, 3) := dk_153 0 40 (dk_at dksX3_libraryLine_0 5 rfl rfl)
theorem dX3_libraryLine_8 : decode cX3_libraryLine 8 = .ok (.lload_n 1, 1) := dk_31 (dk_at dksX3_libraryLine_0 8 rfl rfl)
theorem dX3_libraryLine_9 : decode cX3_libraryLine 9 = .ok (.ldc2_w 187, 3) := dk_20 0 187 (dk_at dksX3_libraryLine_0 9 rfl rfl)
theorem dX3_libraryLine_12 : decode cX3_libraryLine 12 = .ok (.lcmp, 1) := dk_148 (dk_at dksX3_libraryLine_0 12 rfl rfl)
theorem dX3_libraryLine_13 : decode cX3_libraryLine 13 = .ok (.ifCond .eq 32, 3) := dk_153 0 32 (dk_at dksX3_libraryLine_0 13 rfl rfl)
theorem dX3_libraryLine_16 : decode cX3_libraryLine 16 = .ok (.lload_n 1, 1) := dk_31 (dk_at dksX3_libraryLine_0 16 rfl rfl)
theorem dX3_libraryLine_17 : decode cX3_libraryLine 17 = .ok (.ldc2_w 189, 3) := dk_20 0 189 (dk_at dksX3_libraryLine_0 17 rfl rfl)
theorem dX3_libraryLine_20 : decode cX3_libraryLine 20 = .ok (.lcmp, 1) := dk_148 (dk_at dksX3_libraryLine_0 20 rfl rfl)
theorem dX3_libraryLine_21 : decode cX3_libraryLine 21 = .ok (.ifCond .eq 24, 3) := dk_153 0 24 (dk_at dksX3_libraryLine_0 21 rfl rfl)
theorem dX3_libraryLine_24 : decode cX3_libraryLine 24 = .ok (.lload_n 1, 1) := dk_31 (dk_at dksX3_libraryLine_1 0 rfl rfl)
theorem dX3_libraryLine_25 : decode cX3_libraryLine 25 = .ok (.ldc2_w 191, 3) := dk_20 0 191 (dk_at dksX3_libraryLine_1 1 rfl rfl)
theorem dX3_libraryLine_28 : decode cX3_libraryLine 28 = .ok (.lcmp, 1) := dk_148 (dk_at dksX3_libraryLine_1 4 rfl rfl)
theorem dX3_libraryLine_29 : decode cX3_libraryLine 29 = .ok (.ifCond .eq 16, 3) := dk_153 0 16 (dk_at dksX3_libraryLine_1 5 rfl rfl)
theorem dX3_libraryLine_32 : decode cX3_libraryLine 32 = .ok (.lload_n 1, 1) := dk_31 (dk_at dksX3_libraryLine_1 8 rfl rfl)
theorem dX3_libraryLine_33 : decode cX3_libraryLine 33 = .ok (.ldc2_w 193, 3) := dk_20 0 193 (dk_at dksX3_libraryLine_1 9 rfl rfl)
theorem dX3_libraryLine_36 : decode cX3_libraryLine 36 = .ok (.lcmp, 1) := dk_148 (dk_at dksX3_libraryLine_1 12 rfl rfl)
theorem dX3_libraryLine_37 : decode cX3_libraryLine 37 = .ok (.ifCond .eq 8, 3) := dk_153 0 8 (dk_at dksX3_libraryLine_1 13 rfl rfl)
theorem dX3_libraryLine_40 : decode cX3_libraryLine 40 = .ok (.aload_n 0, 1) := dk_42 (dk_at dksX3_libraryLine_1 16 rfl rfl)
theorem dX3_libraryLine_41 : decode cX3_libraryLine 41 = .ok (.invokevirtual 163, 3) := dk_182 0 163 (dk_at dksX3_libraryLine_1 17 rfl rfl)
theorem dX3_libraryLine_44 : decode cX3_libraryLine 44 = .ok (.ireturn, 1) := dk_172 (dk_at dksX3_libraryLine_1 20 rfl rfl)
theorem dX3_libraryLine_45 : decode cX3_libraryLine 45 = .ok (.aload_n 0, 1) := dk_42 (dk_at dksX3_libraryLine_1 21 rfl rfl)
theorem dX3_libraryLine_46 : decode cX3_libraryLine 46 = .ok (.invokevirtual 171, 3) := dk_182 0 171 (dk_at dksX3_libraryLine_2 0 rfl rfl)
theorem dX3_libraryLine_49 : decode cX3_libraryLine 49 = .ok (.lload_n 1, 1) := dk_31 (dk_at dksX3_libraryLine_2 3 rfl rfl)
theorem dX3_libraryLine_50 : decode cX3_libraryLine 50 = .ok (.ldc2_w 191, 3) := dk_20 0 191 (dk_at dksX3_libraryLine_2 4 rfl rfl)
theorem dX3_libraryLine_53 : decode cX3_libraryLine 53 = .ok (.lcmp, 1) := dk_148 (dk_at dksX3_libraryLine_2 7 rfl rfl)
theorem dX3_libraryLine_54 : decode cX3_libraryLine 54 = .ok (.ifCond .ne 9, 3) := dk_154 0 9 (dk_at dksX3_libraryLine_2 8 rfl rfl)
theorem dX3_libraryLine_57 : decode cX3_libraryLine 57 = .ok (.aload_n 0, 1) := dk_42 (dk_at dksX3_libraryLine_2 11 rfl rfl)
theorem dX3_libraryLine_58 : decode cX3_libraryLine 58 = .ok (.iload_n 3, 1) := dk_29 (dk_at dksX3_libraryLine_2 12 rfl rfl)
theorem dX3_libraryLine_59 : decode cX3_libraryLine 59 = .ok (.invokevirtual 195, 3) := dk_182 0 195 (dk_at dksX3_libraryLine_2 13 rfl rfl)
theorem dX3_libraryLine_62 : decode cX3_libraryLine 62 = .ok (.ireturn, 1) := dk_172 (dk_at dksX3_libraryLine_2 16 rfl rfl)
theorem dX3_libraryLine_63 : decode cX3_libraryLine 63 = .ok (.lload_n 1, 1) := dk_31 (dk_at dksX3_libraryLine_2 17 rfl rfl)
theorem dX3_libraryLine_64 : decode cX3_libraryLine 64 = .ok (.ldc2_w 193, 3) := dk_20 0 193 (dk_at dksX3_libraryLine_2 18 rfl rfl)
theorem dX3_libraryLine_67 : decode cX3_libraryLine 67 = .ok (.lcmp, 1) := dk_148 (dk_at dksX3_libraryLine_2 21 rfl rfl)
theorem dX3_libraryLine_68 : decode cX3_libraryLine 68 = .ok (.ifCond .ne 76, 3) := dk_154 0 76 (dk_at dksX3_libraryLine_3 0 rfl rfl)
theorem dX3_libraryLine_71 : decode cX3_libraryLine 71 = .ok (.aload_n 0, 1) := dk_42 (dk_at dksX3_libraryLine_3 3 rfl rfl)
theorem dX3_libraryLine_72 : decode cX3_libraryLine 72 = .ok (.iconst 0, 1) := dk_3 (dk_at dksX3_libraryLine_3 4 rfl rfl)
theorem dX3_libraryLine_73 : decode cX3_libraryLine 73 = .ok (.iconst 0, 1) := dk_3 (dk_at dksX3_libraryLine_3 5 rfl rfl)
theorem dX3_libraryLine_74 : decode cX3_libraryLine 74 = .ok (.aload_n 0, 1) := dk_42 (dk_at dksX3_libraryLine_3 6 rfl rfl)
theorem dX3_libraryLine_75 : decode cX3_libraryLine 75 = .ok (.getfield 35, 3) := dk_180 0 35 (dk_at dksX3_libraryLine_3 7 rfl rfl)
theorem dX3_libraryLine_78 : decode cX3_libraryLine 78 = .ok (.iconst 3, 1) := dk_6 (dk_at dksX3_libraryLine_3 10 rfl rfl)
theorem dX3_libraryLine_79 : decode cX3_libraryLine 79 = .ok (.iaload, 1) := dk_46 (dk_at dksX3_libraryLine_3 11 rfl rfl)
theorem dX3_libraryLine_80 : decode cX3_libraryLine 80 = .ok (.iconst 1, 1) := dk_4 (dk_at dksX3_libraryLine_3 12 rfl rfl)
theorem dX3_libraryLine_81 : decode cX3_libraryLine 81 = .ok (.isub, 1) := dk_100 (dk_at dksX3_libraryLine_3 13 rfl rfl)
theorem dX3_libraryLine_82 : decode cX3_libraryLine 82 = .ok (.iconst (-1), 1) := dk_2 (dk_at dksX3_libraryLine_3 14 rfl rfl)
theorem dX3_libraryLine_83 : decode cX3_libraryLine 83 = .ok (.invokevirtual 174, 3) := dk_182 0 174 (dk_at dksX3_libraryLine_3 15 rfl rfl)
theorem dX3_libraryLine_86 : decode cX3_libraryLine 86 = .ok (.ifCond .eq 15, 3) := dk_153 0 15 (dk_at dksX3_libraryLine_3 18 rfl rfl)
theorem dX3_libraryLine_89 : decode cX3_libraryLine 89 = .ok (.aload_n 0, 1) := dk_42 (dk_at dksX3_libraryLine_3 21 rfl rfl)
theorem dX3_libraryLine_90 : decode cX3_libraryLine 90 = .ok (.iconst 1, 1) := dk_4 (dk_at dksX3_libraryLine_3 22 rfl rfl)
theorem dX3_libraryLine_91 : decode cX3_libraryLine 91 = .ok (.iconst 0, 1) := dk_3 (dk_at dksX3_libraryLine_3 23 rfl rfl)
theorem dX3_libraryLine_92 : decode cX3_libraryLine 92 = .ok (.bipush 9, 2) := dk_16 9 (dk_at dksX3_libraryLine_4 0 rfl rfl)
theorem dX3_libraryLine_94 : decode cX3_libraryLine 94 = .ok (.iconst (-1), 1) := dk_2 (dk_at dksX3_libraryLine_4 2 rfl rfl)
theorem dX3_libraryLine_95 : decode cX3_libraryLine 95 = .ok (.invokevirtual 174, 3) := dk_182 0 174 (dk_at dksX3_libraryLine_4 3 rfl rfl)
theorem dX3_libraryLine_98 : decode cX3_libraryLine 98 = .ok (.ifCond .ne 5, 3) := dk_154 0 5 (dk_at dksX3_libraryLine_4 6 rfl rfl)
theorem dX3_libraryLine_101 : decode cX3_libraryLine 101 = .ok (.iconst 0, 1) := dk_3 (dk_at dksX3_libraryLine_4 9 rfl rfl)
theorem dX3_libraryLine_102 : decode cX3_libraryLine 102 = .ok (.ireturn, 1) := dk_172 (dk_at dksX3_libraryLine_4 10 rfl rfl)
theorem dX3_libraryLine_103 : decode cX3_libraryLine 103 = .ok (.aload_n 0, 1) := dk_42 (dk_at dksX3_libraryLine_4 11 rfl rfl)
theorem dX3_libraryLine_104 : decode cX3_libraryLine 104 = .ok (.getfield 38, 3) := dk_180 0 38 (dk_at dksX3_libraryLine_4 12 rfl rfl)
theorem dX3_libraryLine_107 : decode cX3_libraryLine 107 = .ok (.iconst 0, 1) := dk_3 (dk_at dksX3_libraryLine_4 15 rfl rfl)
theorem dX3_libraryLine_108 : decode cX3_libraryLine 108 = .ok (.iaload, 1) := dk_46 (dk_at dksX3_libraryLine_4 16 rfl rfl)
theorem dX3_libraryLine_109 : decode cX3_libraryLine 109 = .ok (.aload_n 0, 1) := dk_42 (dk_at dksX3_libraryLine_4 17 rfl rfl)
theorem dX3_libraryLine_110 : decode cX3_libraryLine 110 = .ok (.getfield 35, 3) := dk_180 0 35 (dk_at dksX3_libraryLine_4 18 rfl rfl)
theorem dX3_libraryLine_113 : decode cX3_libraryLine 113 = .ok (.iconst 3, 1) := dk_6 (dk_at dksX3_libraryLine_4 21 rfl rfl)
theorem dX3_libraryLine_114 : decode cX3_libraryLine 114 = .ok (.iaload, 1) := dk_46 (dk_at dksX3_libraryLine_4 22 rfl rfl)
theorem dX3_libraryLine_115 : decode cX3_libraryLine 115 = .ok (.if_icmp .ge 27, 3) := dk_162 0 27 (dk_at dksX3_libraryLine_5 0 rfl rfl)
theorem dX3_libraryLine_118 : decode cX3_libraryLine 118 = .ok (.aload_n 0, 1) := dk_42 (dk_at dksX3_libraryLine_5 3 rfl rfl)
theorem dX3_libraryLine_119 : decode cX3_libraryLine 119 = .ok (.getfield 35, 3) := dk_180 0 35 (dk_at dksX3_libraryLine_5 4 rfl rfl)
theorem dX3_libraryLine_122 : decode cX3_libraryLine 122 = .ok (.iconst 4, 1) := dk_7 (dk_at dksX3_libraryLine_5 7 rfl rfl)
theorem dX3_libraryLine_123 : decode cX3_libraryLine 123 = .ok (.bipush 14, 2) := dk_16 14 (dk_at dksX3_libraryLine_5 8 rfl rfl)
theorem dX3_libraryLine_125 : decode cX3_libraryLine 125 = .ok (.aload_n 0, 1) := dk_42 (dk_at dksX3_libraryLine_5 10 rfl rfl)
theorem dX3_libraryLine_126 : decode cX3_libraryLine 126 = .ok (.getfield 38, 3) := dk_180 0 38 (dk_at dksX3_libraryLine_5 11 rfl rfl)
theorem dX3_libraryLine_129 : decode cX3_libraryLine 129 = .ok (.iconst 0, 1) := dk_3 (dk_at dksX3_libraryLine_5 14 rfl rfl)
theorem dX3_libraryLine_130 : decode cX3_libraryLine 130 = .ok (.iaload, 1) := dk_46 (dk_at dksX3_libraryLine_5 15 rfl rfl)
theorem dX3_libraryLine_131 : decode cX3_libraryLine 131 = .ok (.imul, 1) := dk_104 (dk_at dksX3_libraryLine_5 16 rfl rfl)
theorem dX3_libraryLine_132 : decode cX3_libraryLine 132 = .ok (.iadd, 1) := dk_96 (dk_at dksX3_libraryLine_5 17 rfl rfl)
theorem dX3_libraryLine_133 : decode cX3_libraryLine 133 = .ok (.iconst 1, 1) := dk_4 (dk_at dksX3_libraryLine_5 18 rfl rfl)
theorem dX3_libraryLine_134 : decode cX3_libraryLine 134 = .ok (.iadd, 1) := dk_96 (dk_at dksX3_libraryLine_5 19 rfl rfl)
theorem dX3_libraryLine_135 : decode cX3_libraryLine 135 = .ok (.aload_n 0, 1) := dk_42 (dk_at dksX3_libraryLine_5 20 rfl rfl)
theorem dX3_libraryLine_136 : decode cX3_libraryLine 136 = .ok (.getfield 38, 3) := dk_180 0 38 (dk_at dksX3_libraryLine_5 21 rfl rfl)
theorem dX3_libraryLine_139 : decode cX3_libraryLine 139 = .ok (.iconst 1, 1) := dk_4 (dk_at dksX3_libraryLine_6 0 rfl rfl)
theorem dX3_libraryLine_140 : decode cX3_libraryLine 140 = .ok (.iaload, 1) := dk_46 (dk_at dksX3_libraryLine_6 1 rfl rfl)
theorem dX3_libraryLine_141 : decode cX3_libraryLine 141 = .ok (.iastore, 1) := dk_79 (dk_at dksX3_libraryLine_6 2 rfl rfl)
theorem dX3_libraryLine_142 : decode cX3_libraryLine 142 = .ok (.iconst 1, 1) := dk_4 (dk_at dksX3_libraryLine_6 3 rfl rfl)
theorem dX3_libraryLine_143 : decode cX3_libraryLine 143 = .ok (.ireturn, 1) := dk_172 (dk_at dksX3_libraryLine_6 4 rfl rfl)
theorem dX3_libraryLine_144 : decode cX3_libraryLine 144 = .ok (.lload_n 1, 1) := dk_31 (dk_at dksX3_libraryLine_6 5 rfl rfl)
theorem dX3_libraryLine_145 : decode cX3_libraryLine 145 = .ok (.ldc2_w 185, 3) := dk_20 0 185 (dk_at dksX3_libraryLine_6 6 rfl rfl)
theorem dX3_libraryLine_148 : decode cX3_libraryLine 148 = .ok (.lcmp, 1) := dk_148 (dk_at dksX3_libraryLine_6 9 rfl rfl)
theorem dX3_libraryLine_149 : decode cX3_libraryLine 149 = .ok (.ifCond .ne 7, 3) := dk_154 0 7 (dk_at dksX3_libraryLine_6 10 rfl rfl)
theorem dX3_libraryLine_152 : decode cX3_libraryLine 152 = .ok (.iconst 0, 1) := dk_3 (dk_at dksX3_libraryLine_6 13 rfl rfl)
theorem dX3_libraryLine_153 : decode cX3_libraryLine 153 = .ok (.goto 16, 3) := dk_167 0 16 (dk_at dksX3_libraryLine_6 14 rfl rfl)
theorem dX3_libraryLine_156 : decode cX3_libraryLine 156 = .ok (.lload_n 1, 1) := dk_31 (dk_at dksX3_libraryLine_6 17 rfl rfl)
theorem dX3_libraryLine_157 : decode cX3_libraryLine 157 = .ok (.ldc2_w 187, 3) := dk_20 0 187 (dk_at dksX3_libraryLine_6 18 rfl rfl)
theorem dX3_libraryLine_160 : decode cX3_libraryLine 160 = .ok (.lcmp, 1) := dk_148 (dk_at dksX3_libraryLine_6 21 rfl rfl)
theorem dX3_libraryLine_161 : decode cX3_libraryLine 161 = .ok (.ifCond .ne 7, 3) := dk_154 0 7 (dk_at dksX3_libraryLine_7 0 rfl rfl)
theorem dX3_libraryLine_164 : decode cX3_libraryLine 164 = .ok (.iconst 1, 1) := dk_4 (dk_at dksX3_libraryLine_7 3 rfl rfl)
theorem dX3_libraryLine_165 : decode cX3_libraryLine 165 = .ok (.goto 4, 3) := dk_167 0 4 (dk_at dksX3_libraryLine_7 4 rfl rfl)
theorem dX3_libraryLine_168 : decode cX3_libraryLine 168 = .ok (.iconst 2, 1) := dk_5 (dk_at dksX3_libraryLine_7 7 rfl rfl)
theorem dX3_libraryLine_169 : decode cX3_libraryLine 169 = .ok (.istore 4, 2) := dk_54 4 (dk_at dksX3_libraryLine_7 8 rfl rfl)
theorem dX3_libraryLine_171 : decode cX3_libraryLine 171 = .ok (.aload_n 0, 1) := dk_42 (dk_at dksX3_libraryLine_7 10 rfl rfl)
theorem dX3_libraryLine_172 : decode cX3_libraryLine 172 = .ok (.iconst 0, 1) := dk_3 (dk_at dksX3_libraryLine_7 11 rfl rfl)
theorem dX3_libraryLine_173 : decode cX3_libraryLine 173 = .ok (.iload 4, 2) := dk_21 4 (dk_at dksX3_libraryLine_7 12 rfl rfl)
theorem dX3_libraryLine_175 : decode cX3_libraryLine 175 = .ok (.ifCond .ne 7, 3) := dk_154 0 7 (dk_at dksX3_libraryLine_7 14 rfl rfl)
theorem dX3_libraryLine_178 : decode cX3_libraryLine 178 = .ok (.iconst 2, 1) := dk_5 (dk_at dksX3_libraryLine_7 17 rfl rfl)
theorem dX3_libraryLine_179 : decode cX3_libraryLine 179 = .ok (.goto 14, 3) := dk_167 0 14 (dk_at dksX3_libraryLine_7 18 rfl rfl)
theorem dX3_libraryLine_182 : decode cX3_libraryLine 182 = .ok (.iload 4, 2) := dk_21 4 (dk_at dksX3_libraryLine_7 21 rfl rfl)
theorem dX3_libraryLine_184 : decode cX3_libraryLine 184 = .ok (.iconst 1, 1) := dk_4 (dk_at dksX3_libraryLine_7 23 rfl rfl)
theorem dX3_libraryLine_185 : decode cX3_libraryLine 185 = .ok (.if_icmp .ne 7, 3) := dk_160 0 7 (dk_at dksX3_libraryLine_8 0 rfl rfl)
theorem dX3_libraryLine_188 : decode cX3_libraryLine 188 = .ok (.iconst 0, 1) := dk_3 (dk_at dksX3_libraryLine_8 3 rfl rfl)
theorem dX3_libraryLine_189 : decode cX3_libraryLine 189 = .ok (.goto 4, 3) := dk_167 0 4 (dk_at dksX3_libraryLine_8 4 rfl rfl)
theorem dX3_libraryLine_192 : decode cX3_libraryLine 192 = .ok (.iconst 1, 1) := dk_4 (dk_at dksX3_libraryLine_8 7 rfl rfl)
theorem dX3_libraryLine_193 : decode cX3_libraryLine 193 = .ok (.iload 4, 2) := dk_21 4 (dk_at dksX3_libraryLine_8 8 rfl rfl)
theorem dX3_libraryLine_195 : decode cX3_libraryLine 195 = .ok (.ifCond .ne 7, 3) := dk_154 0 7 (dk_at dksX3_libraryLine_8 10 rfl rfl)
theorem dX3_libraryLine_198 : decode cX3_libraryLine 198 = .ok (.iconst 5, 1) := dk_8 (dk_at dksX3_libraryLine_8 13 rfl rfl)
theorem dX3_libraryLine_199 : decode cX3_libraryLine 199 = .ok (.goto 15, 3) := dk_167 0 15 (dk_at dksX3_libraryLine_8 14 rfl rfl)
theorem dX3_libraryLine_202 : decode cX3_libraryLine 202 = .ok (.iload 4, 2) := dk_21 4 (dk_at dksX3_libraryLine_8 17 rfl rfl)
theorem dX3_libraryLine_204 : decode cX3_libraryLine 204 = .ok (.iconst 1, 1) := dk_4 (dk_at dksX3_libraryLine_8 19 rfl rfl)
theorem dX3_libraryLine_205 : decode cX3_libraryLine 205 = .ok (.if_icmp .ne 7, 3) := dk_160 0 7 (dk_at dksX3_libraryLine_8 20 rfl rfl)
theorem dX3_libraryLine_208 : decode cX3_libraryLine 208 = .ok (.iconst 3, 1) := dk_6 (dk_at dksX3_libraryLine_8 23 rfl rfl)
theorem dX3_libraryLine_209 : decode cX3_libraryLine 209 = .ok (.goto 5, 3) := dk_167 0 5 (dk_at dksX3_libraryLine_9 0 rfl rfl)
theorem dX3_libraryLine_212 : decode cX3_libraryLine 212 = .ok (.bipush 99, 2) := dk_16 99 (dk_at dksX3_libraryLine_9 3 rfl rfl)
theorem dX3_libraryLine_214 : decode cX3_libraryLine 214 = .ok (.iconst (-1), 1) := dk_2 (dk_at dksX3_libraryLine_9 5 rfl rfl)
theorem dX3_libraryLine_215 : decode cX3_libraryLine 215 = .ok (.invokevirtual 174, 3) := dk_182 0 174 (dk_at dksX3_libraryLine_9 6 rfl rfl)
theorem dX3_libraryLine_218 : decode cX3_libraryLine 218 = .ok (.ifCond .ne 5, 3) := dk_154 0 5 (dk_at dksX3_libraryLine_9 9 rfl rfl)
theorem dX3_libraryLine_221 : decode cX3_libraryLine 221 = .ok (.iconst 0, 1) := dk_3 (dk_at dksX3_libraryLine_9 12 rfl rfl)
theorem dX3_libraryLine_222 : decode cX3_libraryLine 222 = .ok (.ireturn, 1) := dk_172 (dk_at dksX3_libraryLine_9 13 rfl rfl)
theorem dX3_libraryLine_223 : decode cX3_libraryLine 223 = .ok (.aload_n 0, 1) := dk_42 (dk_at dksX3_libraryLine_9 14 rfl rfl)
theorem dX3_libraryLine_224 : decode cX3_libraryLine 224 = .ok (.getfield 35, 3) := dk_180 0 35 (dk_at dksX3_libraryLine_9 15 rfl rfl)
theorem dX3_libraryLine_227 : decode cX3_libraryLine 227 = .ok (.iload 4, 2) := dk_21 4 (dk_at dksX3_libraryLine_9 18 rfl rfl)
theorem dX3_libraryLine_229 : decode cX3_libraryLine 229 = .ok (.aload_n 0, 1) := dk_42 (dk_at dksX3_libraryLine_9 20 rfl rfl)
theorem dX3_libraryLine_230 : decode cX3_libraryLine 230 = .ok (.getfield 38, 3) := dk_180 0 38 (dk_at dksX3_libraryLine_9 21 rfl rfl)
theorem dX3_libraryLine_233 : decode cX3_libraryLine 233 = .ok (.iconst 0, 1) := dk_3 (dk_at dksX3_libraryLine_10 0 rfl rfl)
theorem dX3_libraryLine_234 : decode cX3_libraryLine 234 = .ok (.iaload, 1) := dk_46 (dk_at dksX3_libraryLine_10 1 rfl rfl)
theorem dX3_libraryLine_235 : decode cX3_libraryLine 235 = .ok (.iastore, 1) := dk_79 (dk_at dksX3_libraryLine_10 2 rfl rfl)
theorem dX3_libraryLine_236 : decode cX3_libraryLine 236 = .ok (.iconst 1, 1) := dk_4 (dk_at dksX3_libraryLine_10 3 rfl rfl)
theorem dX3_libraryLine_237 : decode cX3_libraryLine 237 = .ok (.ireturn, 1) := dk_172 (dk_at dksX3_libraryLine_10 4 rfl rfl)
def dkwX3_stops_0 : List UInt8 := [42, 42, 180, 0, 141, 181, 0, 154, 3, 172]
abbrev dktX3_stops_0 : List UInt8 := dkwX3_stops_0 ++ []
theorem dksX3_stops_0 : cX3_stops.data.toList.drop 0 = dktX3_stops_0 := by decide +kernel
theorem dX3_stops_0 : decode cX3_stops 0 = .ok (.aload_n 0, 1) := dk_42 (dk_at dksX3_stops_0 0 rfl rfl)
theorem dX3_stops_1 : decode cX3_stops 1 = .ok (.aload_n 0, 1) := dk_42 (dk_at dksX3_stops_0 1 rfl rfl)
theorem dX3_stops_2 : decode cX3_stops 2 = .ok (.getfield 141, 3) := dk_180 0 141 (dk_at dksX3_stops_0 2 rfl rfl)
theorem dX3_stops_5 : decode cX3_stops 5 = .ok (.putfield 154, 3) := dk_181 0 154 (dk_at dksX3_stops_0 5 rfl rfl)
theorem dX3_stops_8 : decode cX3_stops 8 = .ok (.iconst 0, 1) := dk_3 (dk_at dksX3_stops_0 8 rfl rfl)
theorem dX3_stops_9 : decode cX3_stops 9 = .ok (.ireturn, 1) := dk_172 (dk_at dksX3_stops_0 9 rfl rfl)
def dkwX3_shelfLine_9 : List UInt8 := [180, 0, 35, 6, 92, 46, 4, 96, 79, 4, 172]
abbrev dktX3_shelfLine_9 : List UInt8 := dkwX3_shelfLine_9 ++ []
def dkwX3_shelfLine_8 : List UInt8 := [29, 167, 0, 5, 16, 12, 79, 42, 180, 0, 35, 7, 16, 14, 28, 104, 96, 4, 96, 4, 79, 42]
abbrev dktX3_shelfLine_8 : List UInt8 := dkwX3_shelfLine_8 ++ dktX3_shelfLine_9
def dkwX3_shelfLine_7 : List UInt8 := [167, 255, 137, 28, 7, 162, 0, 50, 42, 180, 0, 35, 7, 16, 14, 28, 104, 96, 29, 16, 12, 162, 0, 7]
abbrev dktX3_shelfLine_7 : List UInt8 := dkwX3_shelfLine_7 ++ dktX3_shelfLine_8
def dkwX3_shelfLine_6 : List UInt8 := [180, 0, 35, 7, 16, 14, 28, 104, 96, 5, 96, 29, 96, 42, 180, 0, 38, 3, 46, 79, 132, 3, 1]
abbrev dktX3_shelfLine_6 : List UInt8 := dkwX3_shelfLine_6 ++ dktX3_shelfLine_7
def dkwX3_shelfLine_5 : List UInt8 := [180, 0, 38, 3, 46, 184, 0, 181, 181, 0, 178, 28, 7, 162, 0, 30, 29, 16, 12, 162, 0, 24, 42]
abbrev dktX3_shelfLine_5 : List UInt8 := dkwX3_shelfLine_5 ++ dktX3_shelfLine_6
def dkwX3_shelfLine_4 : List UInt8 := [167, 0, 17, 42, 3, 3, 16, 31, 2, 182, 0, 174, 154, 0, 5, 3, 172, 42, 42, 180, 0, 178, 42]
abbrev dktX3_shelfLine_4 : List UInt8 := dkwX3_shelfLine_4 ++ dktX3_shelfLine_5
def dkwX3_shelfLine_3 : List UInt8 := [182, 0, 167, 42, 180, 0, 38, 3, 2, 79, 42, 180, 0, 148, 8, 160, 0, 10, 42, 182, 0, 171]
abbrev dktX3_shelfLine_3 : List UInt8 := dkwX3_shelfLine_3 ++ dktX3_shelfLine_4
def dkwX3_shelfLine_2 : List UInt8 := [159, 0, 11, 42, 180, 0, 148, 8, 160, 0, 109, 29, 16, 12, 161, 0, 12, 42, 6, 42, 180, 0, 141]
abbrev dktX3_shelfLine_2 : List UInt8 := dkwX3_shelfLine_2 ++ dktX3_shelfLine_3
def dkwX3_shelfLine_1 : List UInt8 := [159, 0, 16, 42, 180, 0, 148, 8, 159, 0, 8, 42, 182, 0, 163, 172, 3, 62, 42, 180, 0, 148, 6]
abbrev dktX3_shelfLine_1 : List UInt8 := dkwX3_shelfLine_1 ++ dktX3_shelfLine_2
def dkwX3_shelfLine_0 : List UInt8 := [42, 180, 0, 35, 6, 46, 61, 28, 7, 160, 0, 9, 42, 6, 27, 182, 0, 167, 42, 180, 0, 148, 6]
abbrev dktX3_shelfLine_0 : List UInt8 := dkwX3_shelfLine_0 ++ dktX3_shelfLine_1
theorem dksX3_shelfLine_0 : cX3_shelfLine.data.toList.drop 0 = dktX3_shelfLine_0 := by decide +kernel
theorem dksX3_shelfLine_1 : cX3_shelfLine.data.toList.drop 23 = dktX3_shelfLine_1 := dk_seg dksX3_shelfLine_0 23 rfl rfl
theorem dksX3_shelfLine_2 : cX3_shelfLine.data.toList.drop 46 = dktX3_shelfLine_2 := dk_seg dksX3_shelfLine_1 23 rfl rfl
theorem dksX3_shelfLine_3 : cX3_shelfLine.data.toList.drop 69 = dktX3_shelfLine_3 := dk_seg dksX3_shelfLine_2 23 rfl rfl
theorem dksX3_shelfLine_4 : cX3_shelfLine.data.toList.drop 91 = dktX3_shelfLine_4 := dk_seg dksX3_shelfLine_3 22 rfl rfl
theorem dksX3_shelfLine_5 : cX3_shelfLine.data.toList.drop 114 = dktX3_shelfLine_5 := dk_seg dksX3_shelfLine_4 23 rfl rfl
theorem dksX3_shelfLine_6 : cX3_shelfLine.data.toList.drop 137 = dktX3_shelfLine_6 := dk_seg dksX3_shelfLine_5 23 rfl rfl
theorem dksX3_shelfLine_7 : cX3_shelfLine.data.toList.drop 160 = dktX3_shelfLine_7 := dk_seg dksX3_shelfLine_6 23 rfl rfl
theorem dksX3_shelfLine_8 : cX3_shelfLine.data.toList.drop 184 = dktX3_shelfLine_8 := dk_seg dksX3_shelfLine_7 24 rfl rfl
theorem dksX3_shelfLine_9 : cX3_shelfLine.data.toList.drop 206 = dktX3_shelfLine_9 := dk_seg dksX3_shelfLine_8 22 rfl rfl
theorem dX3_shelfLine_0 : decode cX3_shelfLine 0 = .ok (.aload_n 0, 1) := dk_42 (dk_at dksX3_shelfLine_0 0 rfl rfl)
theorem dX3_shelfLine_1 : decode cX3_shelfLine 1 = .ok (.getfield 35, 3) := dk_180 0 35 (dk_at dksX3_shelfLine_0 1 rfl rfl)
theorem dX3_shelfLine_4 : decode cX3_shelfLine 4 = .ok (.iconst 3, 1) := dk_6 (dk_at dksX3_shelfLine_0 4 rfl rfl)
theorem dX3_shelfLine_5 : decode cX3_shelfLine 5 = .ok (.iaload, 1) := dk_46 (dk_at dksX3_shelfLine_0 5 rfl rfl)
theorem dX3_shelfLine_6 : decode cX3_shelfLine 6 = .ok (.istore_n 2, 1) := dk_61 (dk_at dksX3_shelfLine_0 6 rfl rfl)
theorem dX3_shelfLine_7 : decode cX3_shelfLine 7 = .ok (.iload_n 2, 1) := dk_28 (dk_at dksX3_shelfLine_0 7 rfl rfl)
theorem dX3_shelfLine_8 : decode cX3_shelfLine 8 = .ok (.iconst 4, 1) := dk_7 (dk_at dksX3_shelfLine_0 8 rfl rfl)
theorem dX3_shelfLine_9 : decode cX3_shelfLine 9 = .ok (.if_icmp .ne 9, 3) := dk_160 0 9 (dk_at dksX3_shelfLine_0 9 rfl rfl)
theorem dX3_shelfLine_12 : decode cX3_shelfLine 12 = .ok (.aload_n 0, 1) := dk_42 (dk_at dksX3_shelfLine_0 12 rfl rfl)
theorem dX3_shelfLine_13 : decode cX3_shelfLine 13 = .ok (.iconst 3, 1) := dk_6 (dk_at dksX3_shelfLine_0 13 rfl rfl)
theorem dX3_shelfLine_14 : decode cX3_shelfLine 14 = .ok (.iload_n 1, 1) := dk_27 (dk_at dksX3_shelfLine_0 14 rfl rfl)
theorem dX3_shelfLine_15 : decode cX3_shelfLine 15 = .ok (.invokevirtual 167, 3) := dk_182 0 167 (dk_at dksX3_shelfLine_0 15 rfl rfl)
theorem dX3_shelfLine_18 : decode cX3_shelfLine 18 = .ok (.aload_n 0, 1) := dk_42 (dk_at dksX3_shelfLine_0 18 rfl rfl)
theorem dX3_shelfLine_19 : decode cX3_shelfLine 19 = .ok (.getfield 148, 3) := dk_180 0 148 (dk_at dksX3_shelfLine_0 19 rfl rfl)
theorem dX3_shelfLine_22 : decode cX3_shelfLine 22 = .ok (.iconst 3, 1) := dk_6 (dk_at dksX3_shelfLine_0 22 rfl rfl)
theorem dX3_shelfLine_23 : decode cX3_shelfLine 23 = .ok (.if_icmp .eq 16, 3) := dk_159 0 16 (dk_at dksX3_shelfLine_1 0 rfl rfl)
theorem dX3_shelfLine_26 : decode cX3_shelfLine 26 = .ok (.aload_n 0, 1) := dk_42 (dk_at dksX3_shelfLine_1 3 rfl rfl)
theorem dX3_shelfLine_27 : decode cX3_shelfLine 27 = .ok (.getfield 148, 3) := dk_180 0 148 (dk_at dksX3_shelfLine_1 4 rfl rfl)
theorem dX3_shelfLine_30 : decode cX3_shelfLine 30 = .ok (.iconst 5, 1) := dk_8 (dk_at dksX3_shelfLine_1 7 rfl rfl)
theorem dX3_shelfLine_31 : decode cX3_shelfLine 31 = .ok (.if_icmp .eq 8, 3) := dk_159 0 8 (dk_at dksX3_shelfLine_1 8 rfl rfl)
theorem dX3_shelfLine_34 : decode cX3_shelfLine 34 = .ok (.aload_n 0, 1) := dk_42 (dk_at dksX3_shelfLine_1 11 rfl rfl)
theorem dX3_shelfLine_35 : decode cX3_shelfLine 35 = .ok (.invokevirtual 163, 3) := dk_182 0 163 (dk_at dksX3_shelfLine_1 12 rfl rfl)
theorem dX3_shelfLine_38 : decode cX3_shelfLine 38 = .ok (.ireturn, 1) := dk_172 (dk_at dksX3_shelfLine_1 15 rfl rfl)
theorem dX3_shelfLine_39 : decode cX3_shelfLine 39 = .ok (.iconst 0, 1) := dk_3 (dk_at dksX3_shelfLine_1 16 rfl rfl)
theorem dX3_shelfLine_40 : decode cX3_shelfLine 40 = .ok (.istore_n 3, 1) := dk_62 (dk_at dksX3_shelfLine_1 17 rfl rfl)
theorem dX3_shelfLine_41 : decode cX3_shelfLine 41 = .ok (.aload_n 0, 1) := dk_42 (dk_at dksX3_shelfLine_1 18 rfl rfl)
theorem dX3_shelfLine_42 : decode cX3_shelfLine 42 = .ok (.getfield 148, 3) := dk_180 0 148 (dk_at dksX3_shelfLine_1 19 rfl rfl)
theorem dX3_shelfLine_45 : decode cX3_shelfLine 45 = .ok (.iconst 3, 1) := dk_6 (dk_at dksX3_shelfLine_1 22 rfl rfl)
theorem dX3_shelfLine_46 : decode cX3_shelfLine 46 = .ok (.if_icmp .eq 11, 3) := dk_159 0 11 (dk_at dksX3_shelfLine_2 0 rfl rfl)
theorem dX3_shelfLine_49 : decode cX3_shelfLine 49 = .ok (.aload_n 0, 1) := dk_42 (dk_at dksX3_shelfLine_2 3 rfl rfl)
theorem dX3_shelfLine_50 : decode cX3_shelfLine 50 = .ok (.getfield 148, 3) := dk_180 0 148 (dk_at dksX3_shelfLine_2 4 rfl rfl)
theorem dX3_shelfLine_53 : decode cX3_shelfLine 53 = .ok (.iconst 5, 1) := dk_8 (dk_at dksX3_shelfLine_2 7 rfl rfl)
theorem dX3_shelfLine_54 : decode cX3_shelfLine 54 = .ok (.if_icmp .ne 109, 3) := dk_160 0 109 (dk_at dksX3_shelfLine_2 8 rfl rfl)
theorem dX3_shelfLine_57 : decode cX3_shelfLine 57 = .ok (.iload_n 3, 1) := dk_29 (dk_at dksX3_shelfLine_2 11 rfl rfl)
theorem dX3_shelfLine_58 : decode cX3_shelfLine 58 = .ok (.bipush 12, 2) := dk_16 12 (dk_at dksX3_shelfLine_2 12 rfl rfl)
theorem dX3_shelfLine_60 : decode cX3_shelfLine 60 = .ok (.if_icmp .lt 12, 3) := dk_161 0 12 (dk_at dksX3_shelfLine_2 14 rfl rfl)
theorem dX3_shelfLine_63 : decode cX3_shelfLine 63 = .ok (.aload_n 0, 1) := dk_42 (dk_at dksX3_shelfLine_2 17 rfl rfl)
theorem dX3_shelfLine_64 : decode cX3_shelfLine 64 = .ok (.iconst 3, 1) := dk_6 (dk_at dksX3_shelfLine_2 18 rfl rfl)
theorem dX3_shelfLine_65 : decode cX3_shelfLine 65 = .ok (.aload_n 0, 1) := dk_42 (dk_at dksX3_shelfLine_2 19 rfl rfl)
theorem dX3_shelfLine_66 : decode cX3_shelfLine 66 = .ok (.getfield 141, 3) := dk_180 0 141 (dk_at dksX3_shelfLine_2 20 rfl rfl)
theorem dX3_shelfLine_69 : decode cX3_shelfLine 69 = .ok (.invokevirtual 167, 3) := dk_182 0 167 (dk_at dksX3_shelfLine_3 0 rfl rfl)
theorem dX3_shelfLine_72 : decode cX3_shelfLine 72 = .ok (.aload_n 0, 1) := dk_42 (dk_at dksX3_shelfLine_3 3 rfl rfl)
theorem dX3_shelfLine_73 : decode cX3_shelfLine 73 = .ok (.getfield 38, 3) := dk_180 0 38 (dk_at dksX3_shelfLine_3 4 rfl rfl)
theorem dX3_shelfLine_76 : decode cX3_shelfLine 76 = .ok (.iconst 0, 1) := dk_3 (dk_at dksX3_shelfLine_3 7 rfl rfl)
theorem dX3_shelfLine_77 : decode cX3_shelfLine 77 = .ok (.iconst (-1), 1) := dk_2 (dk_at dksX3_shelfLine_3 8 rfl rfl)
theorem dX3_shelfLine_78 : decode cX3_shelfLine 78 = .ok (.iastore, 1) := dk_79 (dk_at dksX3_shelfLine_3 9 rfl rfl)
theorem dX3_shelfLine_79 : decode cX3_shelfLine 79 = .ok (.aload_n 0, 1) := dk_42 (dk_at dksX3_shelfLine_3 10 rfl rfl)
theorem dX3_shelfLine_80 : decode cX3_shelfLine 80 = .ok (.getfield 148, 3) := dk_180 0 148 (dk_at dksX3_shelfLine_3 11 rfl rfl)
theorem dX3_shelfLine_83 : decode cX3_shelfLine 83 = .ok (.iconst 5, 1) := dk_8 (dk_at dksX3_shelfLine_3 14 rfl rfl)
theorem dX3_shelfLine_84 : decode cX3_shelfLine 84 = .ok (.if_icmp .ne 10, 3) := dk_160 0 10 (dk_at dksX3_shelfLine_3 15 rfl rfl)
theorem dX3_shelfLine_87 : decode cX3_shelfLine 87 = .ok (.aload_n 0, 1) := dk_42 (dk_at dksX3_shelfLine_3 18 rfl rfl)
theorem dX3_shelfLine_88 : decode cX3_shelfLine 88 = .ok (.invokevirtual 171, 3) := dk_182 0 171 (dk_at dksX3_shelfLine_3 19 rfl rfl)
theorem dX3_shelfLine_91 : decode cX3_shelfLine 91 = .ok (.goto 17, 3) := dk_167 0 17 (dk_at dksX3_shelfLine_4 0 rfl rfl)
theorem dX3_shelfLine_94 : decode cX3_shelfLine 94 = .ok (.aload_n 0, 1) := dk_42 (dk_at dksX3_shelfLine_4 3 rfl rfl)
theorem dX3_shelfLine_95 : decode cX3_shelfLine 95 = .ok (.iconst 0, 1) := dk_3 (dk_at dksX3_shelfLine_4 4 rfl rfl)
theorem dX3_shelfLine_96 : decode cX3_shelfLine 96 = .ok (.iconst 0, 1) := dk_3 (dk_at dksX3_shelfLine_4 5 rfl rfl)
theorem dX3_shelfLine_97 : decode cX3_shelfLine 97 = .ok (.bipush 31, 2) := dk_16 31 (dk_at dksX3_shelfLine_4 6 rfl rfl)
theorem dX3_shelfLine_99 : decode cX3_shelfLine 99 = .ok (.iconst (-1), 1) := dk_2 (dk_at dksX3_shelfLine_4 8 rfl rfl)
theorem dX3_shelfLine_100 : decode cX3_shelfLine 100 = .ok (.invokevirtual 174, 3) := dk_182 0 174 (dk_at dksX3_shelfLine_4 9 rfl rfl)
theorem dX3_shelfLine_103 : decode cX3_shelfLine 103 = .ok (.ifCond .ne 5, 3) := dk_154 0 5 (dk_at dksX3_shelfLine_4 12 rfl rfl)
theorem dX3_shelfLine_106 : decode cX3_shelfLine 106 = .ok (.iconst 0, 1) := dk_3 (dk_at dksX3_shelfLine_4 15 rfl rfl)
theorem dX3_shelfLine_107 : decode cX3_shelfLine 107 = .ok (.ireturn, 1) := dk_172 (dk_at dksX3_shelfLine_4 16 rfl rfl)
theorem dX3_shelfLine_108 : decode cX3_shelfLine 108 = .ok (.aload_n 0, 1) := dk_42 (dk_at dksX3_shelfLine_4 17 rfl rfl)
theorem dX3_shelfLine_109 : decode cX3_shelfLine 109 = .ok (.aload_n 0, 1) := dk_42 (dk_at dksX3_shelfLine_4 18 rfl rfl)
theorem dX3_shelfLine_110 : decode cX3_shelfLine 110 = .ok (.getfield 178, 3) := dk_180 0 178 (dk_at dksX3_shelfLine_4 19 rfl rfl)
theorem dX3_shelfLine_113 : decode cX3_shelfLine 113 = .ok (.aload_n 0, 1) := dk_42 (dk_at dksX3_shelfLine_4 22 rfl rfl)
theorem dX3_shelfLine_114 : decode cX3_shelfLine 114 = .ok (.getfield 38, 3) := dk_180 0 38 (dk_at dksX3_shelfLine_5 0 rfl rfl)
theorem dX3_shelfLine_117 : decode cX3_shelfLine 117 = .ok (.iconst 0, 1) := dk_3 (dk_at dksX3_shelfLine_5 3 rfl rfl)
theorem dX3_shelfLine_118 : decode cX3_shelfLine 118 = .ok (.iaload, 1) := dk_46 (dk_at dksX3_shelfLine_5 4 rfl rfl)
theorem dX3_shelfLine_119 : decode cX3_shelfLine 119 = .ok (.invokestatic 181, 3) := dk_184 0 181 (dk_at dksX3_shelfLine_5 5 rfl rfl)
theorem dX3_shelfLine_122 : decode cX3_shelfLine 122 = .ok (.putfield 178, 3) := dk_181 0 178 (dk_at dksX3_shelfLine_5 8 rfl rfl)
theorem dX3_shelfLine_125 : decode cX3_shelfLine 125 = .ok (.iload_n 2, 1) := dk_28 (dk_at dksX3_shelfLine_5 11 rfl rfl)
theorem dX3_shelfLine_126 : decode cX3_shelfLine 126 = .ok (.iconst 4, 1) := dk_7 (dk_at dksX3_shelfLine_5 12 rfl rfl)
theorem dX3_shelfLine_127 : decode cX3_shelfLine 127 = .ok (.if_icmp .ge 30, 3) := dk_162 0 30 (dk_at dksX3_shelfLine_5 13 rfl rfl)
theorem dX3_shelfLine_130 : decode cX3_shelfLine 130 = .ok (.iload_n 3, 1) := dk_29 (dk_at dksX3_shelfLine_5 16 rfl rfl)
theorem dX3_shelfLine_131 : decode cX3_shelfLine 131 = .ok (.bipush 12, 2) := dk_16 12 (dk_at dksX3_shelfLine_5 17 rfl rfl)
theorem dX3_shelfLine_133 : decode cX3_shelfLine 133 = .ok (.if_icmp .ge 24, 3) := dk_162 0 24 (dk_at dksX3_shelfLine_5 19 rfl rfl)
theorem dX3_shelfLine_136 : decode cX3_shelfLine 136 = .ok (.aload_n 0, 1) := dk_42 (dk_at dksX3_shelfLine_5 22 rfl rfl)
theorem dX3_shelfLine_137 : decode cX3_shelfLine 137 = .ok (.getfield 35, 3) := dk_180 0 35 (dk_at dksX3_shelfLine_6 0 rfl rfl)
theorem dX3_shelfLine_140 : decode cX3_shelfLine 140 = .ok (.iconst 4, 1) := dk_7 (dk_at dksX3_shelfLine_6 3 rfl rfl)
theorem dX3_shelfLine_141 : decode cX3_shelfLine 141 = .ok (.bipush 14, 2) := dk_16 14 (dk_at dksX3_shelfLine_6 4 rfl rfl)
theorem dX3_shelfLine_143 : decode cX3_shelfLine 143 = .ok (.iload_n 2, 1) := dk_28 (dk_at dksX3_shelfLine_6 6 rfl rfl)
theorem dX3_shelfLine_144 : decode cX3_shelfLine 144 = .ok (.imul, 1) := dk_104 (dk_at dksX3_shelfLine_6 7 rfl rfl)
theorem dX3_shelfLine_145 : decode cX3_shelfLine 145 = .ok (.iadd, 1) := dk_96 (dk_at dksX3_shelfLine_6 8 rfl rfl)
theorem dX3_shelfLine_146 : decode cX3_shelfLine 146 = .ok (.iconst 2, 1) := dk_5 (dk_at dksX3_shelfLine_6 9 rfl rfl)
theorem dX3_shelfLine_147 : decode cX3_shelfLine 147 = .ok (.iadd, 1) := dk_96 (dk_at dksX3_shelfLine_6 10 rfl rfl)
theorem dX3_shelfLine_148 : decode cX3_shelfLine 148 = .ok (.iload_n 3, 1) := dk_29 (dk_at dksX3_shelfLine_6 11 rfl rfl)
theorem dX3_shelfLine_149 : decode cX3_shelfLine 149 = .ok (.iadd, 1) := dk_96 (dk_at dksX3_shelfLine_6 12 rfl rfl)
theorem dX3_shelfLine_150 : decode cX3_shelfLine 150 = .ok (.aload_n 0, 1) := dk_42 (dk_at dksX3_shelfLine_6 13 rfl rfl)
theorem dX3_shelfLine_151 : decode cX3_shelfLine 151 = .ok (.getfield 38, 3) := dk_180 0 38 (dk_at dksX3_shelfLine_6 14 rfl rfl)
theorem dX3_shelfLine_154 : decode cX3_shelfLine 154 = .ok (.iconst 0, 1) := dk_3 (dk_at dksX3_shelfLine_6 17 rfl rfl)
theorem dX3_shelfLine_155 : decode cX3_shelfLine 155 = .ok (.iaload, 1) := dk_46 (dk_at dksX3_shelfLine_6 18 rfl rfl)
theorem dX3_shelfLine_156 : decode cX3_shelfLine 156 = .ok (.iastore, 1) := dk_79 (dk_at dksX3_shelfLine_6 19 rfl rfl)
theorem dX3_shelfLine_157 : decode cX3_shelfLine 157 = .ok (.iinc 3 1, 3) := dk_132 3 1 (dk_at dksX3_shelfLine_6 20 rfl rfl)
theorem dX3_shelfLine_160 : decode cX3_shelfLine 160 = .ok (.goto (-119), 3) := dk_167 255 137 (dk_at dksX3_shelfLine_7 0 rfl rfl)
theorem dX3_shelfLine_163 : decode cX3_shelfLine 163 = .ok (.iload_n 2, 1) := dk_28 (dk_at dksX3_shelfLine_7 3 rfl rfl)
theorem dX3_shelfLine_164 : decode cX3_shelfLine 164 = .ok (.iconst 4, 1) := dk_7 (dk_at dksX3_shelfLine_7 4 rfl rfl)
theorem dX3_shelfLine_165 : decode cX3_shelfLine 165 = .ok (.if_icmp .ge 50, 3) := dk_162 0 50 (dk_at dksX3_shelfLine_7 5 rfl rfl)
theorem dX3_shelfLine_168 : decode cX3_shelfLine 168 = .ok (.aload_n 0, 1) := dk_42 (dk_at dksX3_shelfLine_7 8 rfl rfl)
theorem dX3_shelfLine_169 : decode cX3_shelfLine 169 = .ok (.getfield 35, 3) := dk_180 0 35 (dk_at dksX3_shelfLine_7 9 rfl rfl)
theorem dX3_shelfLine_172 : decode cX3_shelfLine 172 = .ok (.iconst 4, 1) := dk_7 (dk_at dksX3_shelfLine_7 12 rfl rfl)
theorem dX3_shelfLine_173 : decode cX3_shelfLine 173 = .ok (.bipush 14, 2) := dk_16 14 (dk_at dksX3_shelfLine_7 13 rfl rfl)
theorem dX3_shelfLine_175 : decode cX3_shelfLine 175 = .ok (.iload_n 2, 1) := dk_28 (dk_at dksX3_shelfLine_7 15 rfl rfl)
theorem dX3_shelfLine_176 : decode cX3_shelfLine 176 = .ok (.imul, 1) := dk_104 (dk_at dksX3_shelfLine_7 16 rfl rfl)
theorem dX3_shelfLine_177 : decode cX3_shelfLine 177 = .ok (.iadd, 1) := dk_96 (dk_at dksX3_shelfLine_7 17 rfl rfl)
theorem dX3_shelfLine_178 : decode cX3_shelfLine 178 = .ok (.iload_n 3, 1) := dk_29 (dk_at dksX3_shelfLine_7 18 rfl rfl)
theorem dX3_shelfLine_179 : decode cX3_shelfLine 179 = .ok (.bipush 12, 2) := dk_16 12 (dk_at dksX3_shelfLine_7 19 rfl rfl)
theorem dX3_shelfLine_181 : decode cX3_shelfLine 181 = .ok (.if_icmp .ge 7, 3) := dk_162 0 7 (dk_at dksX3_shelfLine_7 21 rfl rfl)
theorem dX3_shelfLine_184 : decode cX3_shelfLine 184 = .ok (.iload_n 3, 1) := dk_29 (dk_at dksX3_shelfLine_8 0 rfl rfl)
theorem dX3_shelfLine_185 : decode cX3_shelfLine 185 = .ok (.goto 5, 3) := dk_167 0 5 (dk_at dksX3_shelfLine_8 1 rfl rfl)
theorem dX3_shelfLine_188 : decode cX3_shelfLine 188 = .ok (.bipush 12, 2) := dk_16 12 (dk_at dksX3_shelfLine_8 4 rfl rfl)
theorem dX3_shelfLine_190 : decode cX3_shelfLine 190 = .ok (.iastore, 1) := dk_79 (dk_at dksX3_shelfLine_8 6 rfl rfl)
theorem dX3_shelfLine_191 : decode cX3_shelfLine 191 = .ok (.aload_n 0, 1) := dk_42 (dk_at dksX3_shelfLine_8 7 rfl rfl)
theorem dX3_shelfLine_192 : decode cX3_shelfLine 192 = .ok (.getfield 35, 3) := dk_180 0 35 (dk_at dksX3_shelfLine_8 8 rfl rfl)
theorem dX3_shelfLine_195 : decode cX3_shelfLine 195 = .ok (.iconst 4, 1) := dk_7 (dk_at dksX3_shelfLine_8 11 rfl rfl)
theorem dX3_shelfLine_196 : decode cX3_shelfLine 196 = .ok (.bipush 14, 2) := dk_16 14 (dk_at dksX3_shelfLine_8 12 rfl rfl)
theorem dX3_shelfLine_198 : decode cX3_shelfLine 198 = .ok (.iload_n 2, 1) := dk_28 (dk_at dksX3_shelfLine_8 14 rfl rfl)
theorem dX3_shelfLine_199 : decode cX3_shelfLine 199 = .ok (.imul, 1) := dk_104 (dk_at dksX3_shelfLine_8 15 rfl rfl)
theorem dX3_shelfLine_200 : decode cX3_shelfLine 200 = .ok (.iadd, 1) := dk_96 (dk_at dksX3_shelfLine_8 16 rfl rfl)
theorem dX3_shelfLine_201 : decode cX3_shelfLine 201 = .ok (.iconst 1, 1) := dk_4 (dk_at dksX3_shelfLine_8 17 rfl rfl)
theorem dX3_shelfLine_202 : decode cX3_shelfLine 202 = .ok (.iadd, 1) := dk_96 (dk_at dksX3_shelfLine_8 18 rfl rfl)
theorem dX3_shelfLine_203 : decode cX3_shelfLine 203 = .ok (.iconst 1, 1) := dk_4 (dk_at dksX3_shelfLine_8 19 rfl rfl)
theorem dX3_shelfLine_204 : decode cX3_shelfLine 204 = .ok (.iastore, 1) := dk_79 (dk_at dksX3_shelfLine_8 20 rfl rfl)
theorem dX3_shelfLine_205 : decode cX3_shelfLine 205 = .ok (.aload_n 0, 1) := dk_42 (dk_at dksX3_shelfLine_8 21 rfl rfl)
theorem dX3_shelfLine_206 : decode cX3_shelfLine 206 = .ok (.getfield 35, 3) := dk_180 0 35 (dk_at dksX3_shelfLine_9 0 rfl rfl)
theorem dX3_shelfLine_209 : decode cX3_shelfLine 209 = .ok (.iconst 3, 1) := dk_6 (dk_at dksX3_shelfLine_9 3 rfl rfl)
theorem dX3_shelfLine_210 : decode cX3_shelfLine 210 = .ok (.dup2, 1) := dk_92 (dk_at dksX3_shelfLine_9 4 rfl rfl)
theorem dX3_shelfLine_211 : decode cX3_shelfLine 211 = .ok (.iaload, 1) := dk_46 (dk_at dksX3_shelfLine_9 5 rfl rfl)
theorem dX3_shelfLine_212 : decode cX3_shelfLine 212 = .ok (.iconst 1, 1) := dk_4 (dk_at dksX3_shelfLine_9 6 rfl rfl)
theorem dX3_shelfLine_213 : decode cX3_shelfLine 213 = .ok (.iadd, 1) := dk_96 (dk_at dksX3_shelfLine_9 7 rfl rfl)
theorem dX3_shelfLine_214 : decode cX3_shelfLine 214 = .ok (.iastore, 1) := dk_79 (dk_at dksX3_shelfLine_9 8 rfl rfl)
theorem dX3_shelfLine_215 : decode cX3_shelfLine 215 = .ok (.iconst 1, 1) := dk_4 (dk_at dksX3_shelfLine_9 9 rfl rfl)
theorem dX3_shelfLine_216 : decode cX3_shelfLine 216 = .ok (.ireturn, 1) := dk_172 (dk_at dksX3_shelfLine_9 10 rfl rfl)
def dkwX3_later_1 : List UInt8 := [42, 180, 0, 157, 162, 0, 13, 42, 27, 181, 0, 157, 42, 28, 181, 0, 160, 177]
abbrev dktX3_later_1 : List UInt8 := dkwX3_later_1 ++ []
def dkwX3_later_0 : List UInt8 := [42, 180, 0, 157, 153, 0, 27, 28, 42, 180, 0, 160, 161, 0, 19, 28, 42, 180, 0, 160, 160, 0, 21, 27]
abbrev dktX3_later_0 : List UInt8 := dkwX3_later_0 ++ dktX3_later_1
theorem dksX3_later_0 : cX3_later.data.toList.drop 0 = dktX3_later_0 := by decide +kernel
theorem dksX3_later_1 : cX3_later.data.toList.drop 24 = dktX3_later_1 := dk_seg dksX3_later_0 24 rfl rfl
theorem dX3_later_0 : decode cX3_later 0 = .ok (.aload_n 0, 1) := dk_42 (dk_at dksX3_later_0 0 rfl rfl)
theorem dX3_later_1 : decode cX3_later 1 = .ok (.getfield 157, 3) := dk_180 0 157 (dk_at dksX3_later_0 1 rfl rfl)
theorem dX3_later_4 : decode cX3_later 4 = .ok (.ifCond .eq 27, 3) := dk_153 0 27 (dk_at dksX3_later_0 4 rfl rfl)
theorem dX3_later_7 : decode cX3_later 7 = .ok (.iload_n 2, 1) := dk_28 (dk_at dksX3_later_0 7 rfl rfl)
theorem dX3_later_8 : decode cX3_later 8 = .ok (.aload_n 0, 1) := dk_42 (dk_at dksX3_later_0 8 rfl rfl)
theorem dX3_later_9 : decode cX3_later 9 = .ok (.getfield 160, 3) := dk_180 0 160 (dk_at dksX3_later_0 9 rfl rfl)
theorem dX3_later_12 : decode cX3_later 12 = .ok (.if_icmp .lt 19, 3) := dk_161 0 19 (dk_at dksX3_later_0 12 rfl rfl)
theorem dX3_later_15 : decode cX3_later 15 = .ok (.iload_n 2, 1) := dk_28 (dk_at dksX3_later_0 15 rfl rfl)
theorem dX3_later_16 : decode cX3_later 16 = .ok (.aload_n 0, 1) := dk_42 (dk_at dksX3_later_0 16 rfl rfl)
theorem dX3_later_17 : decode cX3_later 17 = .ok (.getfield 160, 3) := dk_180 0 160 (dk_at dksX3_later_0 17 rfl rfl)
theorem dX3_later_20 : decode cX3_later 20 = .ok (.if_icmp .ne 21, 3) := dk_160 0 21 (dk_at dksX3_later_0 20 rfl rfl)
theorem dX3_later_23 : decode cX3_later 23 = .ok (.iload_n 1, 1) := dk_27 (dk_at dksX3_later_0 23 rfl rfl)
theorem dX3_later_24 : decode cX3_later 24 = .ok (.aload_n 0, 1) := dk_42 (dk_at dksX3_later_1 0 rfl rfl)
theorem dX3_later_25 : decode cX3_later 25 = .ok (.getfield 157, 3) := dk_180 0 157 (dk_at dksX3_later_1 1 rfl rfl)
theorem dX3_later_28 : decode cX3_later 28 = .ok (.if_icmp .ge 13, 3) := dk_162 0 13 (dk_at dksX3_later_1 4 rfl rfl)
theorem dX3_later_31 : decode cX3_later 31 = .ok (.aload_n 0, 1) := dk_42 (dk_at dksX3_later_1 7 rfl rfl)
theorem dX3_later_32 : decode cX3_later 32 = .ok (.iload_n 1, 1) := dk_27 (dk_at dksX3_later_1 8 rfl rfl)
theorem dX3_later_33 : decode cX3_later 33 = .ok (.putfield 157, 3) := dk_181 0 157 (dk_at dksX3_later_1 9 rfl rfl)
theorem dX3_later_36 : decode cX3_later 36 = .ok (.aload_n 0, 1) := dk_42 (dk_at dksX3_later_1 12 rfl rfl)
theorem dX3_later_37 : decode cX3_later 37 = .ok (.iload_n 2, 1) := dk_28 (dk_at dksX3_later_1 13 rfl rfl)
theorem dX3_later_38 : decode cX3_later 38 = .ok (.putfield 160, 3) := dk_181 0 160 (dk_at dksX3_later_1 14 rfl rfl)
theorem dX3_later_41 : decode cX3_later 41 = .ok (.return_, 1) := dk_177 (dk_at dksX3_later_1 17 rfl rfl)
def dkwX3_takeNumber_2 : List UInt8 := [180, 0, 141, 182, 0, 167, 42, 182, 0, 171, 4, 172]
abbrev dktX3_takeNumber_2 : List UInt8 := dkwX3_takeNumber_2 ++ []
def dkwX3_takeNumber_1 : List UInt8 := [180, 0, 151, 28, 29, 184, 0, 123, 153, 0, 12, 42, 180, 0, 151, 21, 4, 160, 0, 12, 42, 5, 42]
abbrev dktX3_takeNumber_1 : List UInt8 := dkwX3_takeNumber_1 ++ dktX3_takeNumber_2
def dkwX3_takeNumber_0 : List UInt8 := [42, 180, 0, 148, 6, 159, 0, 8, 42, 182, 0, 163, 172, 42, 180, 0, 38, 27, 42, 180, 0, 151, 79, 42]
abbrev dktX3_takeNumber_0 : List UInt8 := dkwX3_takeNumber_0 ++ dktX3_takeNumber_1
theorem dksX3_takeNumber_0 : cX3_takeNumber.data.toList.drop 0 = dktX3_takeNumber_0 := by decide +kernel
theorem dksX3_takeNumber_1 : cX3_takeNumber.data.toList.drop 24 = dktX3_takeNumber_1 := dk_seg dksX3_takeNumber_0 24 rfl rfl
theorem dksX3_takeNumber_2 : cX3_takeNumber.data.toList.drop 47 = dktX3_takeNumber_2 := dk_seg dksX3_takeNumber_1 23 rfl rfl
theorem dX3_takeNumber_0 : decode cX3_takeNumber 0 = .ok (.aload_n 0, 1) := dk_42 (dk_at dksX3_takeNumber_0 0 rfl rfl)
theorem dX3_takeNumber_1 : decode cX3_takeNumber 1 = .ok (.getfield 148, 3) := dk_180 0 148 (dk_at dksX3_takeNumber_0 1 rfl rfl)
theorem dX3_takeNumber_4 : decode cX3_takeNumber 4 = .ok (.iconst 3, 1) := dk_6 (dk_at dksX3_takeNumber_0 4 rfl rfl)
theorem dX3_takeNumber_5 : decode cX3_takeNumber 5 = .ok (.if_icmp .eq 8, 3) := dk_159 0 8 (dk_at dksX3_takeNumber_0 5 rfl rfl)
theorem dX3_takeNumber_8 : decode cX3_takeNumber 8 = .ok (.aload_n 0, 1) := dk_42 (dk_at dksX3_takeNumber_0 8 rfl rfl)
theorem dX3_takeNumber_9 : decode cX3_takeNumber 9 = .ok (.invokevirtual 163, 3) := dk_182 0 163 (dk_at dksX3_takeNumber_0 9 rfl rfl)
theorem dX3_takeNumber_12 : decode cX3_takeNumber 12 = .ok (.ireturn, 1) := dk_172 (dk_at dksX3_takeNumber_0 12 rfl rfl)
theorem dX3_takeNumber_13 : decode cX3_takeNumber 13 = .ok (.aload_n 0, 1) := dk_42 (dk_at dksX3_takeNumber_0 13 rfl rfl)
theorem dX3_takeNumber_14 : decode cX3_takeNumber 14 = .ok (.getfield 38, 3) := dk_180 0 38 (dk_at dksX3_takeNumber_0 14 rfl rfl)
theorem dX3_takeNumber_17 : decode cX3_takeNumber 17 = .ok (.iload_n 1, 1) := dk_27 (dk_at dksX3_takeNumber_0 17 rfl rfl)
theorem dX3_takeNumber_18 : decode cX3_takeNumber 18 = .ok (.aload_n 0, 1) := dk_42 (dk_at dksX3_takeNumber_0 18 rfl rfl)
theorem dX3_takeNumber_19 : decode cX3_takeNumber 19 = .ok (.getfield 151, 3) := dk_180 0 151 (dk_at dksX3_takeNumber_0 19 rfl rfl)
theorem dX3_takeNumber_22 : decode cX3_takeNumber 22 = .ok (.iastore, 1) := dk_79 (dk_at dksX3_takeNumber_0 22 rfl rfl)
theorem dX3_takeNumber_23 : decode cX3_takeNumber 23 = .ok (.aload_n 0, 1) := dk_42 (dk_at dksX3_takeNumber_0 23 rfl rfl)
theorem dX3_takeNumber_24 : decode cX3_takeNumber 24 = .ok (.getfield 151, 3) := dk_180 0 151 (dk_at dksX3_takeNumber_1 0 rfl rfl)
theorem dX3_takeNumber_27 : decode cX3_takeNumber 27 = .ok (.iload_n 2, 1) := dk_28 (dk_at dksX3_takeNumber_1 3 rfl rfl)
theorem dX3_takeNumber_28 : decode cX3_takeNumber 28 = .ok (.iload_n 3, 1) := dk_29 (dk_at dksX3_takeNumber_1 4 rfl rfl)
theorem dX3_takeNumber_29 : decode cX3_takeNumber 29 = .ok (.invokestatic 123, 3) := dk_184 0 123 (dk_at dksX3_takeNumber_1 5 rfl rfl)
theorem dX3_takeNumber_32 : decode cX3_takeNumber 32 = .ok (.ifCond .eq 12, 3) := dk_153 0 12 (dk_at dksX3_takeNumber_1 8 rfl rfl)
theorem dX3_takeNumber_35 : decode cX3_takeNumber 35 = .ok (.aload_n 0, 1) := dk_42 (dk_at dksX3_takeNumber_1 11 rfl rfl)
theorem dX3_takeNumber_36 : decode cX3_takeNumber 36 = .ok (.getfield 151, 3) := dk_180 0 151 (dk_at dksX3_takeNumber_1 12 rfl rfl)
theorem dX3_takeNumber_39 : decode cX3_takeNumber 39 = .ok (.iload 4, 2) := dk_21 4 (dk_at dksX3_takeNumber_1 15 rfl rfl)
theorem dX3_takeNumber_41 : decode cX3_takeNumber 41 = .ok (.if_icmp .ne 12, 3) := dk_160 0 12 (dk_at dksX3_takeNumber_1 17 rfl rfl)
theorem dX3_takeNumber_44 : decode cX3_takeNumber 44 = .ok (.aload_n 0, 1) := dk_42 (dk_at dksX3_takeNumber_1 20 rfl rfl)
theorem dX3_takeNumber_45 : decode cX3_takeNumber 45 = .ok (.iconst 2, 1) := dk_5 (dk_at dksX3_takeNumber_1 21 rfl rfl)
theorem dX3_takeNumber_46 : decode cX3_takeNumber 46 = .ok (.aload_n 0, 1) := dk_42 (dk_at dksX3_takeNumber_1 22 rfl rfl)
theorem dX3_takeNumber_47 : decode cX3_takeNumber 47 = .ok (.getfield 141, 3) := dk_180 0 141 (dk_at dksX3_takeNumber_2 0 rfl rfl)
theorem dX3_takeNumber_50 : decode cX3_takeNumber 50 = .ok (.invokevirtual 167, 3) := dk_182 0 167 (dk_at dksX3_takeNumber_2 3 rfl rfl)
theorem dX3_takeNumber_53 : decode cX3_takeNumber 53 = .ok (.aload_n 0, 1) := dk_42 (dk_at dksX3_takeNumber_2 6 rfl rfl)
theorem dX3_takeNumber_54 : decode cX3_takeNumber 54 = .ok (.invokevirtual 171, 3) := dk_182 0 171 (dk_at dksX3_takeNumber_2 7 rfl rfl)
theorem dX3_takeNumber_57 : decode cX3_takeNumber 57 = .ok (.iconst 1, 1) := dk_4 (dk_at dksX3_takeNumber_2 10 rfl rfl)
theorem dX3_takeNumber_58 : decode cX3_takeNumber 58 = .ok (.ireturn, 1) := dk_172 (dk_at dksX3_takeNumber_2 11 rfl rfl)
def dkwX3_greater_0 : List UInt8 := [26, 27, 164, 0, 7, 26, 167, 0, 4, 27, 172]
abbrev dktX3_greater_0 : List UInt8 := dkwX3_greater_0 ++ []
theorem dksX3_greater_0 : cX3_greater.data.toList.drop 0 = dktX3_greater_0 := by decide +kernel
theorem dX3_greater_0 : decode cX3_greater 0 = .ok (.iload_n 0, 1) := dk_26 (dk_at dksX3_greater_0 0 rfl rfl)
theorem dX3_greater_1 : decode cX3_greater 1 = .ok (.iload_n 1, 1) := dk_27 (dk_at dksX3_greater_0 1 rfl rfl)
theorem dX3_greater_2 : decode cX3_greater 2 = .ok (.if_icmp .le 7, 3) := dk_164 0 7 (dk_at dksX3_greater_0 2 rfl rfl)
theorem dX3_greater_5 : decode cX3_greater 5 = .ok (.iload_n 0, 1) := dk_26 (dk_at dksX3_greater_0 5 rfl rfl)
theorem dX3_greater_6 : decode cX3_greater 6 = .ok (.goto 4, 3) := dk_167 0 4 (dk_at dksX3_greater_0 6 rfl rfl)
theorem dX3_greater_9 : decode cX3_greater 9 = .ok (.iload_n 1, 1) := dk_27 (dk_at dksX3_greater_0 9 rfl rfl)
theorem dX3_greater_10 : decode cX3_greater 10 = .ok (.ireturn, 1) := dk_172 (dk_at dksX3_greater_0 10 rfl rfl)
def dkwX3_bookLine_10 : List UInt8 := [3, 46, 16, 40, 162, 0, 7, 4, 167, 0, 4, 3, 96, 79, 4, 172]
abbrev dktX3_bookLine_10 : List UInt8 := dkwX3_bookLine_10 ++ []
def dkwX3_bookLine_9 : List UInt8 := [180, 0, 38, 21, 5, 46, 79, 132, 5, 1, 167, 255, 211, 42, 180, 0, 35, 3, 92, 46, 42, 180, 0, 35]
abbrev dktX3_bookLine_9 : List UInt8 := dkwX3_bookLine_9 ++ dktX3_bookLine_10
def dkwX3_bookLine_8 : List UInt8 := [16, 40, 162, 0, 34, 42, 180, 0, 35, 4, 7, 42, 180, 0, 35, 3, 46, 104, 96, 21, 5, 96, 42]
abbrev dktX3_bookLine_8 : List UInt8 := dkwX3_bookLine_8 ++ dktX3_bookLine_9
def dkwX3_bookLine_7 : List UInt8 := [182, 0, 174, 154, 0, 5, 3, 172, 3, 54, 5, 21, 5, 7, 162, 0, 45, 42, 180, 0, 35, 3, 46]
abbrev dktX3_bookLine_7 : List UInt8 := dkwX3_bookLine_7 ++ dktX3_bookLine_8
def dkwX3_bookLine_6 : List UInt8 := [16, 11, 167, 0, 5, 16, 31, 21, 4, 5, 160, 0, 12, 42, 180, 0, 38, 5, 46, 167, 0, 4, 2]
abbrev dktX3_bookLine_6 : List UInt8 := dkwX3_bookLine_6 ++ dktX3_bookLine_7
def dkwX3_bookLine_5 : List UInt8 := [182, 0, 174, 154, 0, 5, 3, 172, 21, 4, 4, 159, 0, 43, 42, 6, 3, 21, 4, 5, 160, 0, 8]
abbrev dktX3_bookLine_5 : List UInt8 := dkwX3_bookLine_5 ++ dktX3_bookLine_6
def dkwX3_bookLine_4 : List UInt8 := [180, 0, 38, 6, 2, 79, 42, 4, 3, 6, 2, 182, 0, 174, 153, 0, 15, 42, 5, 3, 16, 11, 2]
abbrev dktX3_bookLine_4 : List UInt8 := dkwX3_bookLine_4 ++ dktX3_bookLine_5
def dkwX3_bookLine_3 : List UInt8 := [160, 0, 9, 42, 6, 29, 182, 0, 167, 42, 182, 0, 171, 42, 180, 0, 38, 3, 21, 4, 79, 42]
abbrev dktX3_bookLine_3 : List UInt8 := dkwX3_bookLine_3 ++ dktX3_bookLine_4
def dkwX3_bookLine_2 : List UInt8 := [2, 54, 4, 21, 4, 2, 160, 0, 8, 42, 182, 0, 163, 172, 42, 180, 0, 35, 3, 46, 16, 40]
abbrev dktX3_bookLine_2 : List UInt8 := dkwX3_bookLine_2 ++ dktX3_bookLine_3
def dkwX3_bookLine_1 : List UInt8 := [31, 20, 0, 203, 148, 154, 0, 7, 5, 167, 0, 16, 31, 20, 0, 205, 148, 154, 0, 7, 6, 167, 0, 4]
abbrev dktX3_bookLine_1 : List UInt8 := dkwX3_bookLine_1 ++ dktX3_bookLine_2
def dkwX3_bookLine_0 : List UInt8 := [31, 20, 0, 199, 148, 154, 0, 7, 3, 167, 0, 40, 31, 20, 0, 201, 148, 154, 0, 7, 4, 167, 0, 28]
abbrev dktX3_bookLine_0 : List UInt8 := dkwX3_bookLine_0 ++ dktX3_bookLine_1
theorem dksX3_bookLine_0 : cX3_bookLine.data.toList.drop 0 = dktX3_bookLine_0 := by decide +kernel
theorem dksX3_bookLine_1 : cX3_bookLine.data.toList.drop 24 = dktX3_bookLine_1 := dk_seg dksX3_bookLine_0 24 rfl rfl
theorem dksX3_bookLine_2 : cX3_bookLine.data.toList.drop 48 = dktX3_bookLine_2 := dk_seg dksX3_bookLine_1 24 rfl rfl
theorem dksX3_bookLine_3 : cX3_bookLine.data.toList.drop 70 = dktX3_bookLine_3 := dk_seg dksX3_bookLine_2 22 rfl rfl
theorem dksX3_bookLine_4 : cX3_bookLine.data.toList.drop 92 = dktX3_bookLine_4 := dk_seg dksX3_bookLine_3 22 rfl rfl
theorem dksX3_bookLine_5 : cX3_bookLine.data.toList.drop 115 = dktX3_bookLine_5 := dk_seg dksX3_bookLine_4 23 rfl rfl
theorem dksX3_bookLine_6 : cX3_bookLine.data.toList.drop 138 = dktX3_bookLine_6 := dk_seg dksX3_bookLine_5 23 rfl rfl
theorem dksX3_bookLine_7 : cX3_bookLine.data.toList.drop 161 = dktX3_bookLine_7 := dk_seg dksX3_bookLine_6 23 rfl rfl
theorem dksX3_bookLine_8 : cX3_bookLine.data.toList.drop 184 = dktX3_bookLine_8 := dk_seg dksX3_bookLine_7 23 rfl rfl
theorem dksX3_bookLine_9 : cX3_bookLine.data.toList.drop 207 = dktX3_bookLine_9 := dk_seg dksX3_bookLine_8 23 rfl rfl
theorem dksX3_bookLine_10 : cX3_bookLine.data.toList.drop 231 = dktX3_bookLine_10 := dk_seg dksX3_bookLine_9 24 rfl rfl
theorem dX3_bookLine_0 : decode cX3_bookLine 0 = .ok (.lload_n 1, 1) := dk_31 (dk_at dksX3_bookLine_0 0 rfl rfl)
theorem dX3_bookLine_1 : decode cX3_bookLine 1 = .ok (.ldc2_w 199, 3) := dk_20 0 199 (dk_at dksX3_bookLine_0 1 rfl rfl)
theorem dX3_bookLine_4 : decode cX3_bookLine 4 = .ok (.lcmp, 1) := dk_148 (dk_at dksX3_bookLine_0 4 rfl rfl)
theorem dX3_bookLine_5 : decode cX3_bookLine 5 = .ok (.ifCond .ne 7, 3) := dk_154 0 7 (dk_at dksX3_bookLine_0 5 rfl rfl)
theorem dX3_bookLine_8 : decode cX3_bookLine 8 = .ok (.iconst 0, 1) := dk_3 (dk_at dksX3_bookLine_0 8 rfl rfl)
theorem dX3_bookLine_9 : decode cX3_bookLine 9 = .ok (.goto 40, 3) := dk_167 0 40 (dk_at dksX3_bookLine_0 9 rfl rfl)
theorem dX3_bookLine_12 : decode cX3_bookLine 12 = .ok (.lload_n 1, 1) := dk_31 (dk_at dksX3_bookLine_0 12 rfl rfl)
theorem dX3_bookLine_13 : decode cX3_bookLine 13 = .ok (.ldc2_w 201, 3) := dk_20 0 201 (dk_at dksX3_bookLine_0 13 rfl rfl)
theorem dX3_bookLine_16 : decode cX3_bookLine 16 = .ok (.lcmp, 1) := dk_148 (dk_at dksX3_bookLine_0 16 rfl rfl)
theorem dX3_bookLine_17 : decode cX3_bookLine 17 = .ok (.ifCond .ne 7, 3) := dk_154 0 7 (dk_at dksX3_bookLine_0 17 rfl rfl)
theorem dX3_bookLine_20 : decode cX3_bookLine 20 = .ok (.iconst 1, 1) := dk_4 (dk_at dksX3_bookLine_0 20 rfl rfl)
theorem dX3_bookLine_21 : decode cX3_bookLine 21 = .ok (.goto 28, 3) := dk_167 0 28 (dk_at dksX3_bookLine_0 21 rfl rfl)
theorem dX3_bookLine_24 : decode cX3_bookLine 24 = .ok (.lload_n 1, 1) := dk_31 (dk_at dksX3_bookLine_1 0 rfl rfl)
theorem dX3_bookLine_25 : decode cX3_bookLine 25 = .ok (.ldc2_w 203, 3) := dk_20 0 203 (dk_at dksX3_bookLine_1 1 rfl rfl)
theorem dX3_bookLine_28 : decode cX3_bookLine 28 = .ok (.lcmp, 1) := dk_148 (dk_at dksX3_bookLine_1 4 rfl rfl)
theorem dX3_bookLine_29 : decode cX3_bookLine 29 = .ok (.ifCond .ne 7, 3) := dk_154 0 7 (dk_at dksX3_bookLine_1 5 rfl rfl)
theorem dX3_bookLine_32 : decode cX3_bookLine 32 = .ok (.iconst 2, 1) := dk_5 (dk_at dksX3_bookLine_1 8 rfl rfl)
theorem dX3_bookLine_33 : decode cX3_bookLine 33 = .ok (.goto 16, 3) := dk_167 0 16 (dk_at dksX3_bookLine_1 9 rfl rfl)
theorem dX3_bookLine_36 : decode cX3_bookLine 36 = .ok (.lload_n 1, 1) := dk_31 (dk_at dksX3_bookLine_1 12 rfl rfl)
theorem dX3_bookLine_37 : decode cX3_bookLine 37 = .ok (.ldc2_w 205, 3) := dk_20 0 205 (dk_at dksX3_bookLine_1 13 rfl rfl)
theorem dX3_bookLine_40 : decode cX3_bookLine 40 = .ok (.lcmp, 1) := dk_148 (dk_at dksX3_bookLine_1 16 rfl rfl)
theorem dX3_bookLine_41 : decode cX3_bookLine 41 = .ok (.ifCond .ne 7, 3) := dk_154 0 7 (dk_at dksX3_bookLine_1 17 rfl rfl)
theorem dX3_bookLine_44 : decode cX3_bookLine 44 = .ok (.iconst 3, 1) := dk_6 (dk_at dksX3_bookLine_1 20 rfl rfl)
theorem dX3_bookLine_45 : decode cX3_bookLine 45 = .ok (.goto 4, 3) := dk_167 0 4 (dk_at dksX3_bookLine_1 21 rfl rfl)
theorem dX3_bookLine_48 : decode cX3_bookLine 48 = .ok (.iconst (-1), 1) := dk_2 (dk_at dksX3_bookLine_2 0 rfl rfl)
theorem dX3_bookLine_49 : decode cX3_bookLine 49 = .ok (.istore 4, 2) := dk_54 4 (dk_at dksX3_bookLine_2 1 rfl rfl)
theorem dX3_bookLine_51 : decode cX3_bookLine 51 = .ok (.iload 4, 2) := dk_21 4 (dk_at dksX3_bookLine_2 3 rfl rfl)
theorem dX3_bookLine_53 : decode cX3_bookLine 53 = .ok (.iconst (-1), 1) := dk_2 (dk_at dksX3_bookLine_2 5 rfl rfl)
theorem dX3_bookLine_54 : decode cX3_bookLine 54 = .ok (.if_icmp .ne 8, 3) := dk_160 0 8 (dk_at dksX3_bookLine_2 6 rfl rfl)
theorem dX3_bookLine_57 : decode cX3_bookLine 57 = .ok (.aload_n 0, 1) := dk_42 (dk_at dksX3_bookLine_2 9 rfl rfl)
theorem dX3_bookLine_58 : decode cX3_bookLine 58 = .ok (.invokevirtual 163, 3) := dk_182 0 163 (dk_at dksX3_bookLine_2 10 rfl rfl)
theorem dX3_bookLine_61 : decode cX3_bookLine 61 = .ok (.ireturn, 1) := dk_172 (dk_at dksX3_bookLine_2 13 rfl rfl)
theorem dX3_bookLine_62 : decode cX3_bookLine 62 = .ok (.aload_n 0, 1) := dk_42 (dk_at dksX3_bookLine_2 14 rfl rfl)
theorem dX3_bookLine_63 : decode cX3_bookLine 63 = .ok (.getfield 35, 3) := dk_180 0 35 (dk_at dksX3_bookLine_2 15 rfl rfl)
theorem dX3_bookLine_66 : decode cX3_bookLine 66 = .ok (.iconst 0, 1) := dk_3 (dk_at dksX3_bookLine_2 18 rfl rfl)
theorem dX3_bookLine_67 : decode cX3_bookLine 67 = .ok (.iaload, 1) := dk_46 (dk_at dksX3_bookLine_2 19 rfl rfl)
theorem dX3_bookLine_68 : decode cX3_bookLine 68 = .ok (.bipush 40, 2) := dk_16 40 (dk_at dksX3_bookLine_2 20 rfl rfl)
theorem dX3_bookLine_70 : decode cX3_bookLine 70 = .ok (.if_icmp .ne 9, 3) := dk_160 0 9 (dk_at dksX3_bookLine_3 0 rfl rfl)
theorem dX3_bookLine_73 : decode cX3_bookLine 73 = .ok (.aload_n 0, 1) := dk_42 (dk_at dksX3_bookLine_3 3 rfl rfl)
theorem dX3_bookLine_74 : decode cX3_bookLine 74 = .ok (.iconst 3, 1) := dk_6 (dk_at dksX3_bookLine_3 4 rfl rfl)
theorem dX3_bookLine_75 : decode cX3_bookLine 75 = .ok (.iload_n 3, 1) := dk_29 (dk_at dksX3_bookLine_3 5 rfl rfl)
theorem dX3_bookLine_76 : decode cX3_bookLine 76 = .ok (.invokevirtual 167, 3) := dk_182 0 167 (dk_at dksX3_bookLine_3 6 rfl rfl)
theorem dX3_bookLine_79 : decode cX3_bookLine 79 = .ok (.aload_n 0, 1) := dk_42 (dk_at dksX3_bookLine_3 9 rfl rfl)
theorem dX3_bookLine_80 : decode cX3_bookLine 80 = .ok (.invokevirtual 171, 3) := dk_182 0 171 (dk_at dksX3_bookLine_3 10 rfl rfl)
theorem dX3_bookLine_83 : decode cX3_bookLine 83 = .ok (.aload_n 0, 1) := dk_42 (dk_at dksX3_bookLine_3 13 rfl rfl)
theorem dX3_bookLine_84 : decode cX3_bookLine 84 = .ok (.getfield 38, 3) := dk_180 0 38 (dk_at dksX3_bookLine_3 14 rfl rfl)
theorem dX3_bookLine_87 : decode cX3_bookLine 87 = .ok (.iconst 0, 1) := dk_3 (dk_at dksX3_bookLine_3 17 rfl rfl)
theorem dX3_bookLine_88 : decode cX3_bookLine 88 = .ok (.iload 4, 2) := dk_21 4 (dk_at dksX3_bookLine_3 18 rfl rfl)
theorem dX3_bookLine_90 : decode cX3_bookLine 90 = .ok (.iastore, 1) := dk_79 (dk_at dksX3_bookLine_3 20 rfl rfl)
theorem dX3_bookLine_91 : decode cX3_bookLine 91 = .ok (.aload_n 0, 1) := dk_42 (dk_at dksX3_bookLine_3 21 rfl rfl)
theorem dX3_bookLine_92 : decode cX3_bookLine 92 = .ok (.getfield 38, 3) := dk_180 0 38 (dk_at dksX3_bookLine_4 0 rfl rfl)
theorem dX3_bookLine_95 : decode cX3_bookLine 95 = .ok (.iconst 3, 1) := dk_6 (dk_at dksX3_bookLine_4 3 rfl rfl)
theorem dX3_bookLine_96 : decode cX3_bookLine 96 = .ok (.iconst (-1), 1) := dk_2 (dk_at dksX3_bookLine_4 4 rfl rfl)
theorem dX3_bookLine_97 : decode cX3_bookLine 97 = .ok (.iastore, 1) := dk_79 (dk_at dksX3_bookLine_4 5 rfl rfl)
theorem dX3_bookLine_98 : decode cX3_bookLine 98 = .ok (.aload_n 0, 1) := dk_42 (dk_at dksX3_bookLine_4 6 rfl rfl)
theorem dX3_bookLine_99 : decode cX3_bookLine 99 = .ok (.iconst 1, 1) := dk_4 (dk_at dksX3_bookLine_4 7 rfl rfl)
theorem dX3_bookLine_100 : decode cX3_bookLine 100 = .ok (.iconst 0, 1) := dk_3 (dk_at dksX3_bookLine_4 8 rfl rfl)
theorem dX3_bookLine_101 : decode cX3_bookLine 101 = .ok (.iconst 3, 1) := dk_6 (dk_at dksX3_bookLine_4 9 rfl rfl)
theorem dX3_bookLine_102 : decode cX3_bookLine 102 = .ok (.iconst (-1), 1) := dk_2 (dk_at dksX3_bookLine_4 10 rfl rfl)
theorem dX3_bookLine_103 : decode cX3_bookLine 103 = .ok (.invokevirtual 174, 3) := dk_182 0 174 (dk_at dksX3_bookLine_4 11 rfl rfl)
theorem dX3_bookLine_106 : decode cX3_bookLine 106 = .ok (.ifCond .eq 15, 3) := dk_153 0 15 (dk_at dksX3_bookLine_4 14 rfl rfl)
theorem dX3_bookLine_109 : decode cX3_bookLine 109 = .ok (.aload_n 0, 1) := dk_42 (dk_at dksX3_bookLine_4 17 rfl rfl)
theorem dX3_bookLine_110 : decode cX3_bookLine 110 = .ok (.iconst 2, 1) := dk_5 (dk_at dksX3_bookLine_4 18 rfl rfl)
theorem dX3_bookLine_111 : decode cX3_bookLine 111 = .ok (.iconst 0, 1) := dk_3 (dk_at dksX3_bookLine_4 19 rfl rfl)
theorem dX3_bookLine_112 : decode cX3_bookLine 112 = .ok (.bipush 11, 2) := dk_16 11 (dk_at dksX3_bookLine_4 20 rfl rfl)
theorem dX3_bookLine_114 : decode cX3_bookLine 114 = .ok (.iconst (-1), 1) := dk_2 (dk_at dksX3_bookLine_4 22 rfl rfl)
theorem dX3_bookLine_115 : decode cX3_bookLine 115 = .ok (.invokevirtual 174, 3) := dk_182 0 174 (dk_at dksX3_bookLine_5 0 rfl rfl)
theorem dX3_bookLine_118 : decode cX3_bookLine 118 = .ok (.ifCond .ne 5, 3) := dk_154 0 5 (dk_at dksX3_bookLine_5 3 rfl rfl)
theorem dX3_bookLine_121 : decode cX3_bookLine 121 = .ok (.iconst 0, 1) := dk_3 (dk_at dksX3_bookLine_5 6 rfl rfl)
theorem dX3_bookLine_122 : decode cX3_bookLine 122 = .ok (.ireturn, 1) := dk_172 (dk_at dksX3_bookLine_5 7 rfl rfl)
theorem dX3_bookLine_123 : decode cX3_bookLine 123 = .ok (.iload 4, 2) := dk_21 4 (dk_at dksX3_bookLine_5 8 rfl rfl)
theorem dX3_bookLine_125 : decode cX3_bookLine 125 = .ok (.iconst 1, 1) := dk_4 (dk_at dksX3_bookLine_5 10 rfl rfl)
theorem dX3_bookLine_126 : decode cX3_bookLine 126 = .ok (.if_icmp .eq 43, 3) := dk_159 0 43 (dk_at dksX3_bookLine_5 11 rfl rfl)
theorem dX3_bookLine_129 : decode cX3_bookLine 129 = .ok (.aload_n 0, 1) := dk_42 (dk_at dksX3_bookLine_5 14 rfl rfl)
theorem dX3_bookLine_130 : decode cX3_bookLine 130 = .ok (.iconst 3, 1) := dk_6 (dk_at dksX3_bookLine_5 15 rfl rfl)
theorem dX3_bookLine_131 : decode cX3_bookLine 131 = .ok (.iconst 0, 1) := dk_3 (dk_at dksX3_bookLine_5 16 rfl rfl)
theorem dX3_bookLine_132 : decode cX3_bookLine 132 = .ok (.iload 4, 2) := dk_21 4 (dk_at dksX3_bookLine_5 17 rfl rfl)
theorem dX3_bookLine_134 : decode cX3_bookLine 134 = .ok (.iconst 2, 1) := dk_5 (dk_at dksX3_bookLine_5 19 rfl rfl)
theorem dX3_bookLine_135 : decode cX3_bookLine 135 = .ok (.if_icmp .ne 8, 3) := dk_160 0 8 (dk_at dksX3_bookLine_5 20 rfl rfl)
theorem dX3_bookLine_138 : decode cX3_bookLine 138 = .ok (.bipush 11, 2) := dk_16 11 (dk_at dksX3_bookLine_6 0 rfl rfl)
theorem dX3_bookLine_140 : decode cX3_bookLine 140 = .ok (.goto 5, 3) := dk_167 0 5 (dk_at dksX3_bookLine_6 2 rfl rfl)
theorem dX3_bookLine_143 : decode cX3_bookLine 143 = .ok (.bipush 31, 2) := dk_16 31 (dk_at dksX3_bookLine_6 5 rfl rfl)
theorem dX3_bookLine_145 : decode cX3_bookLine 145 = .ok (.iload 4, 2) := dk_21 4 (dk_at dksX3_bookLine_6 7 rfl rfl)
theorem dX3_bookLine_147 : decode cX3_bookLine 147 = .ok (.iconst 2, 1) := dk_5 (dk_at dksX3_bookLine_6 9 rfl rfl)
theorem dX3_bookLine_148 : decode cX3_bookLine 148 = .ok (.if_icmp .ne 12, 3) := dk_160 0 12 (dk_at dksX3_bookLine_6 10 rfl rfl)
theorem dX3_bookLine_151 : decode cX3_bookLine 151 = .ok (.aload_n 0, 1) := dk_42 (dk_at dksX3_bookLine_6 13 rfl rfl)
theorem dX3_bookLine_152 : decode cX3_bookLine 152 = .ok (.getfield 38, 3) := dk_180 0 38 (dk_at dksX3_bookLine_6 14 rfl rfl)
theorem dX3_bookLine_155 : decode cX3_bookLine 155 = .ok (.iconst 2, 1) := dk_5 (dk_at dksX3_bookLine_6 17 rfl rfl)
theorem dX3_bookLine_156 : decode cX3_bookLine 156 = .ok (.iaload, 1) := dk_46 (dk_at dksX3_bookLine_6 18 rfl rfl)
theorem dX3_bookLine_157 : decode cX3_bookLine 157 = .ok (.goto 4, 3) := dk_167 0 4 (dk_at dksX3_bookLine_6 19 rfl rfl)
theorem dX3_bookLine_160 : decode cX3_bookLine 160 = .ok (.iconst (-1), 1) := dk_2 (dk_at dksX3_bookLine_6 22 rfl rfl)
theorem dX3_bookLine_161 : decode cX3_bookLine 161 = .ok (.invokevirtual 174, 3) := dk_182 0 174 (dk_at dksX3_bookLine_7 0 rfl rfl)
theorem dX3_bookLine_164 : decode cX3_bookLine 164 = .ok (.ifCond .ne 5, 3) := dk_154 0 5 (dk_at dksX3_bookLine_7 3 rfl rfl)
theorem dX3_bookLine_167 : decode cX3_bookLine 167 = .ok (.iconst 0, 1) := dk_3 (dk_at dksX3_bookLine_7 6 rfl rfl)
theorem dX3_bookLine_168 : decode cX3_bookLine 168 = .ok (.ireturn, 1) := dk_172 (dk_at dksX3_bookLine_7 7 rfl rfl)
theorem dX3_bookLine_169 : decode cX3_bookLine 169 = .ok (.iconst 0, 1) := dk_3 (dk_at dksX3_bookLine_7 8 rfl rfl)
theorem dX3_bookLine_170 : decode cX3_bookLine 170 = .ok (.istore 5, 2) := dk_54 5 (dk_at dksX3_bookLine_7 9 rfl rfl)
theorem dX3_bookLine_172 : decode cX3_bookLine 172 = .ok (.iload 5, 2) := dk_21 5 (dk_at dksX3_bookLine_7 11 rfl rfl)
theorem dX3_bookLine_174 : decode cX3_bookLine 174 = .ok (.iconst 4, 1) := dk_7 (dk_at dksX3_bookLine_7 13 rfl rfl)
theorem dX3_bookLine_175 : decode cX3_bookLine 175 = .ok (.if_icmp .ge 45, 3) := dk_162 0 45 (dk_at dksX3_bookLine_7 14 rfl rfl)
theorem dX3_bookLine_178 : decode cX3_bookLine 178 = .ok (.aload_n 0, 1) := dk_42 (dk_at dksX3_bookLine_7 17 rfl rfl)
theorem dX3_bookLine_179 : decode cX3_bookLine 179 = .ok (.getfield 35, 3) := dk_180 0 35 (dk_at dksX3_bookLine_7 18 rfl rfl)
theorem dX3_bookLine_182 : decode cX3_bookLine 182 = .ok (.iconst 0, 1) := dk_3 (dk_at dksX3_bookLine_7 21 rfl rfl)
theorem dX3_bookLine_183 : decode cX3_bookLine 183 = .ok (.iaload, 1) := dk_46 (dk_at dksX3_bookLine_7 22 rfl rfl)
theorem dX3_bookLine_184 : decode cX3_bookLine 184 = .ok (.bipush 40, 2) := dk_16 40 (dk_at dksX3_bookLine_8 0 rfl rfl)
theorem dX3_bookLine_186 : decode cX3_bookLine 186 = .ok (.if_icmp .ge 34, 3) := dk_162 0 34 (dk_at dksX3_bookLine_8 2 rfl rfl)
theorem dX3_bookLine_189 : decode cX3_bookLine 189 = .ok (.aload_n 0, 1) := dk_42 (dk_at dksX3_bookLine_8 5 rfl rfl)
theorem dX3_bookLine_190 : decode cX3_bookLine 190 = .ok (.getfield 35, 3) := dk_180 0 35 (dk_at dksX3_bookLine_8 6 rfl rfl)
theorem dX3_bookLine_193 : decode cX3_bookLine 193 = .ok (.iconst 1, 1) := dk_4 (dk_at dksX3_bookLine_8 9 rfl rfl)
theorem dX3_bookLine_194 : decode cX3_bookLine 194 = .ok (.iconst 4, 1) := dk_7 (dk_at dksX3_bookLine_8 10 rfl rfl)
theorem dX3_bookLine_195 : decode cX3_bookLine 195 = .ok (.aload_n 0, 1) := dk_42 (dk_at dksX3_bookLine_8 11 rfl rfl)
theorem dX3_bookLine_196 : decode cX3_bookLine 196 = .ok (.getfield 35, 3) := dk_180 0 35 (dk_at dksX3_bookLine_8 12 rfl rfl)
theorem dX3_bookLine_199 : decode cX3_bookLine 199 = .ok (.iconst 0, 1) := dk_3 (dk_at dksX3_bookLine_8 15 rfl rfl)
theorem dX3_bookLine_200 : decode cX3_bookLine 200 = .ok (.iaload, 1) := dk_46 (dk_at dksX3_bookLine_8 16 rfl rfl)
theorem dX3_bookLine_201 : decode cX3_bookLine 201 = .ok (.imul, 1) := dk_104 (dk_at dksX3_bookLine_8 17 rfl rfl)
theorem dX3_bookLine_202 : decode cX3_bookLine 202 = .ok (.iadd, 1) := dk_96 (dk_at dksX3_bookLine_8 18 rfl rfl)
theorem dX3_bookLine_203 : decode cX3_bookLine 203 = .ok (.iload 5, 2) := dk_21 5 (dk_at dksX3_bookLine_8 19 rfl rfl)
theorem dX3_bookLine_205 : decode cX3_bookLine 205 = .ok (.iadd, 1) := dk_96 (dk_at dksX3_bookLine_8 21 rfl rfl)
theorem dX3_bookLine_206 : decode cX3_bookLine 206 = .ok (.aload_n 0, 1) := dk_42 (dk_at dksX3_bookLine_8 22 rfl rfl)
theorem dX3_bookLine_207 : decode cX3_bookLine 207 = .ok (.getfield 38, 3) := dk_180 0 38 (dk_at dksX3_bookLine_9 0 rfl rfl)
theorem dX3_bookLine_210 : decode cX3_bookLine 210 = .ok (.iload 5, 2) := dk_21 5 (dk_at dksX3_bookLine_9 3 rfl rfl)
theorem dX3_bookLine_212 : decode cX3_bookLine 212 = .ok (.iaload, 1) := dk_46 (dk_at dksX3_bookLine_9 5 rfl rfl)
theorem dX3_bookLine_213 : decode cX3_bookLine 213 = .ok (.iastore, 1) := dk_79 (dk_at dksX3_bookLine_9 6 rfl rfl)
theorem dX3_bookLine_214 : decode cX3_bookLine 214 = .ok (.iinc 5 1, 3) := dk_132 5 1 (dk_at dksX3_bookLine_9 7 rfl rfl)
theorem dX3_bookLine_217 : decode cX3_bookLine 217 = .ok (.goto (-45), 3) := dk_167 255 211 (dk_at dksX3_bookLine_9 10 rfl rfl)
theorem dX3_bookLine_220 : decode cX3_bookLine 220 = .ok (.aload_n 0, 1) := dk_42 (dk_at dksX3_bookLine_9 13 rfl rfl)
theorem dX3_bookLine_221 : decode cX3_bookLine 221 = .ok (.getfield 35, 3) := dk_180 0 35 (dk_at dksX3_bookLine_9 14 rfl rfl)
theorem dX3_bookLine_224 : decode cX3_bookLine 224 = .ok (.iconst 0, 1) := dk_3 (dk_at dksX3_bookLine_9 17 rfl rfl)
theorem dX3_bookLine_225 : decode cX3_bookLine 225 = .ok (.dup2, 1) := dk_92 (dk_at dksX3_bookLine_9 18 rfl rfl)
theorem dX3_bookLine_226 : decode cX3_bookLine 226 = .ok (.iaload, 1) := dk_46 (dk_at dksX3_bookLine_9 19 rfl rfl)
theorem dX3_bookLine_227 : decode cX3_bookLine 227 = .ok (.aload_n 0, 1) := dk_42 (dk_at dksX3_bookLine_9 20 rfl rfl)
theorem dX3_bookLine_228 : decode cX3_bookLine 228 = .ok (.getfield 35, 3) := dk_180 0 35 (dk_at dksX3_bookLine_9 21 rfl rfl)
theorem dX3_bookLine_231 : decode cX3_bookLine 231 = .ok (.iconst 0, 1) := dk_3 (dk_at dksX3_bookLine_10 0 rfl rfl)
theorem dX3_bookLine_232 : decode cX3_bookLine 232 = .ok (.iaload, 1) := dk_46 (dk_at dksX3_bookLine_10 1 rfl rfl)
theorem dX3_bookLine_233 : decode cX3_bookLine 233 = .ok (.bipush 40, 2) := dk_16 40 (dk_at dksX3_bookLine_10 2 rfl rfl)
theorem dX3_bookLine_235 : decode cX3_bookLine 235 = .ok (.if_icmp .ge 7, 3) := dk_162 0 7 (dk_at dksX3_bookLine_10 4 rfl rfl)
theorem dX3_bookLine_238 : decode cX3_bookLine 238 = .ok (.iconst 1, 1) := dk_4 (dk_at dksX3_bookLine_10 7 rfl rfl)
theorem dX3_bookLine_239 : decode cX3_bookLine 239 = .ok (.goto 4, 3) := dk_167 0 4 (dk_at dksX3_bookLine_10 8 rfl rfl)
theorem dX3_bookLine_242 : decode cX3_bookLine 242 = .ok (.iconst 0, 1) := dk_3 (dk_at dksX3_bookLine_10 11 rfl rfl)
theorem dX3_bookLine_243 : decode cX3_bookLine 243 = .ok (.iadd, 1) := dk_96 (dk_at dksX3_bookLine_10 12 rfl rfl)
theorem dX3_bookLine_244 : decode cX3_bookLine 244 = .ok (.iastore, 1) := dk_79 (dk_at dksX3_bookLine_10 13 rfl rfl)
theorem dX3_bookLine_245 : decode cX3_bookLine 245 = .ok (.iconst 1, 1) := dk_4 (dk_at dksX3_bookLine_10 14 rfl rfl)
theorem dX3_bookLine_246 : decode cX3_bookLine 246 = .ok (.ireturn, 1) := dk_172 (dk_at dksX3_bookLine_10 15 rfl rfl)
def dkwX3_roundLine_5 : List UInt8 := [180, 0, 38, 3, 46, 79, 42, 180, 0, 35, 21, 4, 92, 46, 4, 96, 79, 4, 172]
abbrev dktX3_roundLine_5 : List UInt8 := dkwX3_roundLine_5 ++ []
def dkwX3_roundLine_4 : List UInt8 := [21, 5, 162, 0, 39, 42, 180, 0, 35, 5, 6, 21, 4, 104, 96, 42, 180, 0, 35, 21, 4, 46, 96, 42]
abbrev dktX3_roundLine_4 : List UInt8 := dkwX3_roundLine_4 ++ dktX3_roundLine_5
def dkwX3_roundLine_3 : List UInt8 := [182, 0, 171, 42, 3, 3, 16, 11, 2, 182, 0, 174, 154, 0, 5, 3, 172, 42, 180, 0, 35, 21, 4, 46]
abbrev dktX3_roundLine_3 : List UInt8 := dkwX3_roundLine_3 ++ dktX3_roundLine_4
def dkwX3_roundLine_2 : List UInt8 := [16, 12, 54, 5, 42, 180, 0, 35, 21, 4, 46, 21, 5, 160, 0, 9, 42, 6, 29, 182, 0, 167, 42]
abbrev dktX3_roundLine_2 : List UInt8 := dkwX3_roundLine_2 ++ dktX3_roundLine_3
def dkwX3_roundLine_1 : List UInt8 := [20, 0, 207, 148, 154, 0, 7, 3, 167, 0, 4, 4, 54, 4, 21, 4, 154, 0, 7, 6, 167, 0, 5]
abbrev dktX3_roundLine_1 : List UInt8 := dkwX3_roundLine_1 ++ dktX3_roundLine_2
def dkwX3_roundLine_0 : List UInt8 := [31, 20, 0, 207, 148, 153, 0, 16, 31, 20, 0, 209, 148, 153, 0, 8, 42, 182, 0, 163, 172, 31]
abbrev dktX3_roundLine_0 : List UInt8 := dkwX3_roundLine_0 ++ dktX3_roundLine_1
theorem dksX3_roundLine_0 : cX3_roundLine.data.toList.drop 0 = dktX3_roundLine_0 := by decide +kernel
theorem dksX3_roundLine_1 : cX3_roundLine.data.toList.drop 22 = dktX3_roundLine_1 := dk_seg dksX3_roundLine_0 22 rfl rfl
theorem dksX3_roundLine_2 : cX3_roundLine.data.toList.drop 45 = dktX3_roundLine_2 := dk_seg dksX3_roundLine_1 23 rfl rfl
theorem dksX3_roundLine_3 : cX3_roundLine.data.toList.drop 68 = dktX3_roundLine_3 := dk_seg dksX3_roundLine_2 23 rfl rfl
theorem dksX3_roundLine_4 : cX3_roundLine.data.toList.drop 92 = dktX3_roundLine_4 := dk_seg dksX3_roundLine_3 24 rfl rfl
theorem dksX3_roundLine_5 : cX3_roundLine.data.toList.drop 116 = dktX3_roundLine_5 := dk_seg dksX3_roundLine_4 24 rfl rfl
theorem dX3_roundLine_0 : decode cX3_roundLine 0 = .ok (.lload_n 1, 1) := dk_31 (dk_at dksX3_roundLine_0 0 rfl rfl)
theorem dX3_roundLine_1 : decode cX3_roundLine 1 = .ok (.ldc2_w 207, 3) := dk_20 0 207 (dk_at dksX3_roundLine_0 1 rfl rfl)
theorem dX3_roundLine_4 : decode cX3_roundLine 4 = .ok (.lcmp, 1) := dk_148 (dk_at dksX3_roundLine_0 4 rfl rfl)
theorem dX3_roundLine_5 : decode cX3_roundLine 5 = .ok (.ifCond .eq 16, 3) := dk_153 0 16 (dk_at dksX3_roundLine_0 5 rfl rfl)
theorem dX3_roundLine_8 : decode cX3_roundLine 8 = .ok (.lload_n 1, 1) := dk_31 (dk_at dksX3_roundLine_0 8 rfl rfl)
theorem dX3_roundLine_9 : decode cX3_roundLine 9 = .ok (.ldc2_w 209, 3) := dk_20 0 209 (dk_at dksX3_roundLine_0 9 rfl rfl)
theorem dX3_roundLine_12 : decode cX3_roundLine 12 = .ok (.lcmp, 1) := dk_148 (dk_at dksX3_roundLine_0 12 rfl rfl)
theorem dX3_roundLine_13 : decode cX3_roundLine 13 = .ok (.ifCond .eq 8, 3) := dk_153 0 8 (dk_at dksX3_roundLine_0 13 rfl rfl)
theorem dX3_roundLine_16 : decode cX3_roundLine 16 = .ok (.aload_n 0, 1) := dk_42 (dk_at dksX3_roundLine_0 16 rfl rfl)
theorem dX3_roundLine_17 : decode cX3_roundLine 17 = .ok (.invokevirtual 163, 3) := dk_182 0 163 (dk_at dksX3_roundLine_0 17 rfl rfl)
theorem dX3_roundLine_20 : decode cX3_roundLine 20 = .ok (.ireturn, 1) := dk_172 (dk_at dksX3_roundLine_0 20 rfl rfl)
theorem dX3_roundLine_21 : decode cX3_roundLine 21 = .ok (.lload_n 1, 1) := dk_31 (dk_at dksX3_roundLine_0 21 rfl rfl)
theorem dX3_roundLine_22 : decode cX3_roundLine 22 = .ok (.ldc2_w 207, 3) := dk_20 0 207 (dk_at dksX3_roundLine_1 0 rfl rfl)
theorem dX3_roundLine_25 : decode cX3_roundLine 25 = .ok (.lcmp, 1) := dk_148 (dk_at dksX3_roundLine_1 3 rfl rfl)
theorem dX3_roundLine_26 : decode cX3_roundLine 26 = .ok (.ifCond .ne 7, 3) := dk_154 0 7 (dk_at dksX3_roundLine_1 4 rfl rfl)
theorem dX3_roundLine_29 : decode cX3_roundLine 29 = .ok (.iconst 0, 1) := dk_3 (dk_at dksX3_roundLine_1 7 rfl rfl)
theorem dX3_roundLine_30 : decode cX3_roundLine 30 = .ok (.goto 4, 3) := dk_167 0 4 (dk_at dksX3_roundLine_1 8 rfl rfl)
theorem dX3_roundLine_33 : decode cX3_roundLine 33 = .ok (.iconst 1, 1) := dk_4 (dk_at dksX3_roundLine_1 11 rfl rfl)
theorem dX3_roundLine_34 : decode cX3_roundLine 34 = .ok (.istore 4, 2) := dk_54 4 (dk_at dksX3_roundLine_1 12 rfl rfl)
theorem dX3_roundLine_36 : decode cX3_roundLine 36 = .ok (.iload 4, 2) := dk_21 4 (dk_at dksX3_roundLine_1 14 rfl rfl)
theorem dX3_roundLine_38 : decode cX3_roundLine 38 = .ok (.ifCond .ne 7, 3) := dk_154 0 7 (dk_at dksX3_roundLine_1 16 rfl rfl)
theorem dX3_roundLine_41 : decode cX3_roundLine 41 = .ok (.iconst 3, 1) := dk_6 (dk_at dksX3_roundLine_1 19 rfl rfl)
theorem dX3_roundLine_42 : decode cX3_roundLine 42 = .ok (.goto 5, 3) := dk_167 0 5 (dk_at dksX3_roundLine_1 20 rfl rfl)
theorem dX3_roundLine_45 : decode cX3_roundLine 45 = .ok (.bipush 12, 2) := dk_16 12 (dk_at dksX3_roundLine_2 0 rfl rfl)
theorem dX3_roundLine_47 : decode cX3_roundLine 47 = .ok (.istore 5, 2) := dk_54 5 (dk_at dksX3_roundLine_2 2 rfl rfl)
theorem dX3_roundLine_49 : decode cX3_roundLine 49 = .ok (.aload_n 0, 1) := dk_42 (dk_at dksX3_roundLine_2 4 rfl rfl)
theorem dX3_roundLine_50 : decode cX3_roundLine 50 = .ok (.getfield 35, 3) := dk_180 0 35 (dk_at dksX3_roundLine_2 5 rfl rfl)
theorem dX3_roundLine_53 : decode cX3_roundLine 53 = .ok (.iload 4, 2) := dk_21 4 (dk_at dksX3_roundLine_2 8 rfl rfl)
theorem dX3_roundLine_55 : decode cX3_roundLine 55 = .ok (.iaload, 1) := dk_46 (dk_at dksX3_roundLine_2 10 rfl rfl)
theorem dX3_roundLine_56 : decode cX3_roundLine 56 = .ok (.iload 5, 2) := dk_21 5 (dk_at dksX3_roundLine_2 11 rfl rfl)
theorem dX3_roundLine_58 : decode cX3_roundLine 58 = .ok (.if_icmp .ne 9, 3) := dk_160 0 9 (dk_at dksX3_roundLine_2 13 rfl rfl)
theorem dX3_roundLine_61 : decode cX3_roundLine 61 = .ok (.aload_n 0, 1) := dk_42 (dk_at dksX3_roundLine_2 16 rfl rfl)
theorem dX3_roundLine_62 : decode cX3_roundLine 62 = .ok (.iconst 3, 1) := dk_6 (dk_at dksX3_roundLine_2 17 rfl rfl)
theorem dX3_roundLine_63 : decode cX3_roundLine 63 = .ok (.iload_n 3, 1) := dk_29 (dk_at dksX3_roundLine_2 18 rfl rfl)
theorem dX3_roundLine_64 : decode cX3_roundLine 64 = .ok (.invokevirtual 167, 3) := dk_182 0 167 (dk_at dksX3_roundLine_2 19 rfl rfl)
theorem dX3_roundLine_67 : decode cX3_roundLine 67 = .ok (.aload_n 0, 1) := dk_42 (dk_at dksX3_roundLine_2 22 rfl rfl)
theorem dX3_roundLine_68 : decode cX3_roundLine 68 = .ok (.invokevirtual 171, 3) := dk_182 0 171 (dk_at dksX3_roundLine_3 0 rfl rfl)
theorem dX3_roundLine_71 : decode cX3_roundLine 71 = .ok (.aload_n 0, 1) := dk_42 (dk_at dksX3_roundLine_3 3 rfl rfl)
theorem dX3_roundLine_72 : decode cX3_roundLine 72 = .ok (.iconst 0, 1) := dk_3 (dk_at dksX3_roundLine_3 4 rfl rfl)
theorem dX3_roundLine_73 : decode cX3_roundLine 73 = .ok (.iconst 0, 1) := dk_3 (dk_at dksX3_roundLine_3 5 rfl rfl)
theorem dX3_roundLine_74 : decode cX3_roundLine 74 = .ok (.bipush 11, 2) := dk_16 11 (dk_at dksX3_roundLine_3 6 rfl rfl)
theorem dX3_roundLine_76 : decode cX3_roundLine 76 = .ok (.iconst (-1), 1) := dk_2 (dk_at dksX3_roundLine_3 8 rfl rfl)
theorem dX3_roundLine_77 : decode cX3_roundLine 77 = .ok (.invokevirtual 174, 3) := dk_182 0 174 (dk_at dksX3_roundLine_3 9 rfl rfl)
theorem dX3_roundLine_80 : decode cX3_roundLine 80 = .ok (.ifCond .ne 5, 3) := dk_154 0 5 (dk_at dksX3_roundLine_3 12 rfl rfl)
theorem dX3_roundLine_83 : decode cX3_roundLine 83 = .ok (.iconst 0, 1) := dk_3 (dk_at dksX3_roundLine_3 15 rfl rfl)
theorem dX3_roundLine_84 : decode cX3_roundLine 84 = .ok (.ireturn, 1) := dk_172 (dk_at dksX3_roundLine_3 16 rfl rfl)
theorem dX3_roundLine_85 : decode cX3_roundLine 85 = .ok (.aload_n 0, 1) := dk_42 (dk_at dksX3_roundLine_3 17 rfl rfl)
theorem dX3_roundLine_86 : decode cX3_roundLine 86 = .ok (.getfield 35, 3) := dk_180 0 35 (dk_at dksX3_roundLine_3 18 rfl rfl)
theorem dX3_roundLine_89 : decode cX3_roundLine 89 = .ok (.iload 4, 2) := dk_21 4 (dk_at dksX3_roundLine_3 21 rfl rfl)
theorem dX3_roundLine_91 : decode cX3_roundLine 91 = .ok (.iaload, 1) := dk_46 (dk_at dksX3_roundLine_3 23 rfl rfl)
theorem dX3_roundLine_92 : decode cX3_roundLine 92 = .ok (.iload 5, 2) := dk_21 5 (dk_at dksX3_roundLine_4 0 rfl rfl)
theorem dX3_roundLine_94 : decode cX3_roundLine 94 = .ok (.if_icmp .ge 39, 3) := dk_162 0 39 (dk_at dksX3_roundLine_4 2 rfl rfl)
theorem dX3_roundLine_97 : decode cX3_roundLine 97 = .ok (.aload_n 0, 1) := dk_42 (dk_at dksX3_roundLine_4 5 rfl rfl)
theorem dX3_roundLine_98 : decode cX3_roundLine 98 = .ok (.getfield 35, 3) := dk_180 0 35 (dk_at dksX3_roundLine_4 6 rfl rfl)
theorem dX3_roundLine_101 : decode cX3_roundLine 101 = .ok (.iconst 2, 1) := dk_5 (dk_at dksX3_roundLine_4 9 rfl rfl)
theorem dX3_roundLine_102 : decode cX3_roundLine 102 = .ok (.iconst 3, 1) := dk_6 (dk_at dksX3_roundLine_4 10 rfl rfl)
theorem dX3_roundLine_103 : decode cX3_roundLine 103 = .ok (.iload 4, 2) := dk_21 4 (dk_at dksX3_roundLine_4 11 rfl rfl)
theorem dX3_roundLine_105 : decode cX3_roundLine 105 = .ok (.imul, 1) := dk_104 (dk_at dksX3_roundLine_4 13 rfl rfl)
theorem dX3_roundLine_106 : decode cX3_roundLine 106 = .ok (.iadd, 1) := dk_96 (dk_at dksX3_roundLine_4 14 rfl rfl)
theorem dX3_roundLine_107 : decode cX3_roundLine 107 = .ok (.aload_n 0, 1) := dk_42 (dk_at dksX3_roundLine_4 15 rfl rfl)
theorem dX3_roundLine_108 : decode cX3_roundLine 108 = .ok (.getfield 35, 3) := dk_180 0 35 (dk_at dksX3_roundLine_4 16 rfl rfl)
theorem dX3_roundLine_111 : decode cX3_roundLine 111 = .ok (.iload 4, 2) := dk_21 4 (dk_at dksX3_roundLine_4 19 rfl rfl)
theorem dX3_roundLine_113 : decode cX3_roundLine 113 = .ok (.iaload, 1) := dk_46 (dk_at dksX3_roundLine_4 21 rfl rfl)
theorem dX3_roundLine_114 : decode cX3_roundLine 114 = .ok (.iadd, 1) := dk_96 (dk_at dksX3_roundLine_4 22 rfl rfl)
theorem dX3_roundLine_115 : decode cX3_roundLine 115 = .ok (.aload_n 0, 1) := dk_42 (dk_at dksX3_roundLine_4 23 rfl rfl)
theorem dX3_roundLine_116 : decode cX3_roundLine 116 = .ok (.getfield 38, 3) := dk_180 0 38 (dk_at dksX3_roundLine_5 0 rfl rfl)
theorem dX3_roundLine_119 : decode cX3_roundLine 119 = .ok (.iconst 0, 1) := dk_3 (dk_at dksX3_roundLine_5 3 rfl rfl)
theorem dX3_roundLine_120 : decode cX3_roundLine 120 = .ok (.iaload, 1) := dk_46 (dk_at dksX3_roundLine_5 4 rfl rfl)
theorem dX3_roundLine_121 : decode cX3_roundLine 121 = .ok (.iastore, 1) := dk_79 (dk_at dksX3_roundLine_5 5 rfl rfl)
theorem dX3_roundLine_122 : decode cX3_roundLine 122 = .ok (.aload_n 0, 1) := dk_42 (dk_at dksX3_roundLine_5 6 rfl rfl)
theorem dX3_roundLine_123 : decode cX3_roundLine 123 = .ok (.getfield 35, 3) := dk_180 0 35 (dk_at dksX3_roundLine_5 7 rfl rfl)
theorem dX3_roundLine_126 : decode cX3_roundLine 126 = .ok (.iload 4, 2) := dk_21 4 (dk_at dksX3_roundLine_5 10 rfl rfl)
theorem dX3_roundLine_128 : decode cX3_roundLine 128 = .ok (.dup2, 1) := dk_92 (dk_at dksX3_roundLine_5 12 rfl rfl)
theorem dX3_roundLine_129 : decode cX3_roundLine 129 = .ok (.iaload, 1) := dk_46 (dk_at dksX3_roundLine_5 13 rfl rfl)
theorem dX3_roundLine_130 : decode cX3_roundLine 130 = .ok (.iconst 1, 1) := dk_4 (dk_at dksX3_roundLine_5 14 rfl rfl)
theorem dX3_roundLine_131 : decode cX3_roundLine 131 = .ok (.iadd, 1) := dk_96 (dk_at dksX3_roundLine_5 15 rfl rfl)
theorem dX3_roundLine_132 : decode cX3_roundLine 132 = .ok (.iastore, 1) := dk_79 (dk_at dksX3_roundLine_5 16 rfl rfl)
theorem dX3_roundLine_133 : decode cX3_roundLine 133 = .ok (.iconst 1, 1) := dk_4 (dk_at dksX3_roundLine_5 17 rfl rfl)
theorem dX3_roundLine_134 : decode cX3_roundLine 134 = .ok (.ireturn, 1) := dk_172 (dk_at dksX3_roundLine_5 18 rfl rfl)
def dkwX3_store_1 : List UInt8 := [132, 4, 1, 167, 255, 232, 177]
abbrev dktX3_store_1 : List UInt8 := dkwX3_store_1 ++ []
def dkwX3_store_0 : List UInt8 := [3, 54, 4, 21, 4, 28, 162, 0, 24, 43, 28, 29, 104, 21, 4, 96, 42, 180, 0, 35, 21, 4, 46, 79]
abbrev dktX3_store_0 : List UInt8 := dkwX3_store_0 ++ dktX3_store_1
theorem dksX3_store_0 : cX3_store.data.toList.drop 0 = dktX3_store_0 := by decide +kernel
theorem dksX3_store_1 : cX3_store.data.toList.drop 24 = dktX3_store_1 := dk_seg dksX3_store_0 24 rfl rfl
theorem dX3_store_0 : decode cX3_store 0 = .ok (.iconst 0, 1) := dk_3 (dk_at dksX3_store_0 0 rfl rfl)
theorem dX3_store_1 : decode cX3_store 1 = .ok (.istore 4, 2) := dk_54 4 (dk_at dksX3_store_0 1 rfl rfl)
theorem dX3_store_3 : decode cX3_store 3 = .ok (.iload 4, 2) := dk_21 4 (dk_at dksX3_store_0 3 rfl rfl)
theorem dX3_store_5 : decode cX3_store 5 = .ok (.iload_n 2, 1) := dk_28 (dk_at dksX3_store_0 5 rfl rfl)
theorem dX3_store_6 : decode cX3_store 6 = .ok (.if_icmp .ge 24, 3) := dk_162 0 24 (dk_at dksX3_store_0 6 rfl rfl)
theorem dX3_store_9 : decode cX3_store 9 = .ok (.aload_n 1, 1) := dk_43 (dk_at dksX3_store_0 9 rfl rfl)
theorem dX3_store_10 : decode cX3_store 10 = .ok (.iload_n 2, 1) := dk_28 (dk_at dksX3_store_0 10 rfl rfl)
theorem dX3_store_11 : decode cX3_store 11 = .ok (.iload_n 3, 1) := dk_29 (dk_at dksX3_store_0 11 rfl rfl)
theorem dX3_store_12 : decode cX3_store 12 = .ok (.imul, 1) := dk_104 (dk_at dksX3_store_0 12 rfl rfl)
theorem dX3_store_13 : decode cX3_store 13 = .ok (.iload 4, 2) := dk_21 4 (dk_at dksX3_store_0 13 rfl rfl)
theorem dX3_store_15 : decode cX3_store 15 = .ok (.iadd, 1) := dk_96 (dk_at dksX3_store_0 15 rfl rfl)
theorem dX3_store_16 : decode cX3_store 16 = .ok (.aload_n 0, 1) := dk_42 (dk_at dksX3_store_0 16 rfl rfl)
theorem dX3_store_17 : decode cX3_store 17 = .ok (.getfield 35, 3) := dk_180 0 35 (dk_at dksX3_store_0 17 rfl rfl)
theorem dX3_store_20 : decode cX3_store 20 = .ok (.iload 4, 2) := dk_21 4 (dk_at dksX3_store_0 20 rfl rfl)
theorem dX3_store_22 : decode cX3_store 22 = .ok (.iaload, 1) := dk_46 (dk_at dksX3_store_0 22 rfl rfl)
theorem dX3_store_23 : decode cX3_store 23 = .ok (.iastore, 1) := dk_79 (dk_at dksX3_store_0 23 rfl rfl)
theorem dX3_store_24 : decode cX3_store 24 = .ok (.iinc 4 1, 3) := dk_132 4 1 (dk_at dksX3_store_1 0 rfl rfl)
theorem dX3_store_27 : decode cX3_store 27 = .ok (.goto (-24), 3) := dk_167 255 232 (dk_at dksX3_store_1 3 rfl rfl)
theorem dX3_store_30 : decode cX3_store 30 = .ok (.return_, 1) := dk_177 (dk_at dksX3_store_1 6 rfl rfl)
def dkwX3_fault_1 : List UInt8 := [180, 0, 20, 3, 46, 167, 0, 4, 2, 172]
abbrev dktX3_fault_1 : List UInt8 := dkwX3_fault_1 ++ []
def dkwX3_fault_0 : List UInt8 := [42, 3, 181, 0, 111, 27, 154, 0, 12, 42, 180, 0, 17, 3, 46, 167, 0, 18, 27, 4, 160, 0, 12, 42]
abbrev dktX3_fault_0 : List UInt8 := dkwX3_fault_0 ++ dktX3_fault_1
theorem dksX3_fault_0 : cX3_fault.data.toList.drop 0 = dktX3_fault_0 := by decide +kernel
theorem dksX3_fault_1 : cX3_fault.data.toList.drop 24 = dktX3_fault_1 := dk_seg dksX3_fault_0 24 rfl rfl
theorem dX3_fault_0 : decode cX3_fault 0 = .ok (.aload_n 0, 1) := dk_42 (dk_at dksX3_fault_0 0 rfl rfl)
theorem dX3_fault_1 : decode cX3_fault 1 = .ok (.iconst 0, 1) := dk_3 (dk_at dksX3_fault_0 1 rfl rfl)
theorem dX3_fault_2 : decode cX3_fault 2 = .ok (.putfield 111, 3) := dk_181 0 111 (dk_at dksX3_fault_0 2 rfl rfl)
theorem dX3_fault_5 : decode cX3_fault 5 = .ok (.iload_n 1, 1) := dk_27 (dk_at dksX3_fault_0 5 rfl rfl)
theorem dX3_fault_6 : decode cX3_fault 6 = .ok (.ifCond .ne 12, 3) := dk_154 0 12 (dk_at dksX3_fault_0 6 rfl rfl)
theorem dX3_fault_9 : decode cX3_fault 9 = .ok (.aload_n 0, 1) := dk_42 (dk_at dksX3_fault_0 9 rfl rfl)
theorem dX3_fault_10 : decode cX3_fault 10 = .ok (.getfield 17, 3) := dk_180 0 17 (dk_at dksX3_fault_0 10 rfl rfl)
theorem dX3_fault_13 : decode cX3_fault 13 = .ok (.iconst 0, 1) := dk_3 (dk_at dksX3_fault_0 13 rfl rfl)
theorem dX3_fault_14 : decode cX3_fault 14 = .ok (.iaload, 1) := dk_46 (dk_at dksX3_fault_0 14 rfl rfl)
theorem dX3_fault_15 : decode cX3_fault 15 = .ok (.goto 18, 3) := dk_167 0 18 (dk_at dksX3_fault_0 15 rfl rfl)
theorem dX3_fault_18 : decode cX3_fault 18 = .ok (.iload_n 1, 1) := dk_27 (dk_at dksX3_fault_0 18 rfl rfl)
theorem dX3_fault_19 : decode cX3_fault 19 = .ok (.iconst 1, 1) := dk_4 (dk_at dksX3_fault_0 19 rfl rfl)
theorem dX3_fault_20 : decode cX3_fault 20 = .ok (.if_icmp .ne 12, 3) := dk_160 0 12 (dk_at dksX3_fault_0 20 rfl rfl)
theorem dX3_fault_23 : decode cX3_fault 23 = .ok (.aload_n 0, 1) := dk_42 (dk_at dksX3_fault_0 23 rfl rfl)
theorem dX3_fault_24 : decode cX3_fault 24 = .ok (.getfield 20, 3) := dk_180 0 20 (dk_at dksX3_fault_1 0 rfl rfl)
theorem dX3_fault_27 : decode cX3_fault 27 = .ok (.iconst 0, 1) := dk_3 (dk_at dksX3_fault_1 3 rfl rfl)
theorem dX3_fault_28 : decode cX3_fault 28 = .ok (.iaload, 1) := dk_46 (dk_at dksX3_fault_1 4 rfl rfl)
theorem dX3_fault_29 : decode cX3_fault 29 = .ok (.goto 4, 3) := dk_167 0 4 (dk_at dksX3_fault_1 5 rfl rfl)
theorem dX3_fault_32 : decode cX3_fault 32 = .ok (.iconst (-1), 1) := dk_2 (dk_at dksX3_fault_1 8 rfl rfl)
theorem dX3_fault_33 : decode cX3_fault 33 = .ok (.ireturn, 1) := dk_172 (dk_at dksX3_fault_1 9 rfl rfl)
def dkwX3_library_4 : List UInt8 := [160, 0, 7, 2, 167, 0, 9, 29, 42, 180, 0, 240, 104, 172, 42, 182, 1, 20, 172, 16, 254, 172]
abbrev dktX3_library_4 : List UInt8 := dkwX3_library_4 ++ []
def dkwX3_library_3 : List UInt8 := [172, 29, 2, 159, 0, 11, 29, 42, 180, 0, 237, 164, 0, 7, 4, 167, 0, 4, 3, 172, 29, 172, 29, 2]
abbrev dktX3_library_3 : List UInt8 := dkwX3_library_3 ++ dktX3_library_4
def dkwX3_library_2 : List UInt8 := [42, 180, 0, 234, 172, 42, 180, 0, 237, 172, 42, 180, 0, 240, 172, 42, 180, 0, 243, 172, 42, 182, 1, 11]
abbrev dktX3_library_2 : List UInt8 := dkwX3_library_2 ++ dktX3_library_3
def dkwX3_library_1 : List UInt8 := [170, 0, 0, 0, 0, 117, 0, 0, 0, 0, 0, 0, 0, 8, 0, 0, 0, 50, 0, 0, 0, 55, 0, 0, 0, 60, 0, 0, 0, 65, 0, 0, 0, 70, 0, 0, 0, 75, 0, 0, 0, 94, 0, 0, 0, 96, 0, 0, 0, 112]
abbrev dktX3_library_1 : List UInt8 := dkwX3_library_1 ++ dktX3_library_2
def dkwX3_library_0 : List UInt8 := [42, 3, 181, 0, 111, 42, 27, 182, 1, 14, 154, 0, 6, 16, 254, 172, 42, 182, 1, 17, 62, 28]
abbrev dktX3_library_0 : List UInt8 := dkwX3_library_0 ++ dktX3_library_1
theorem dksX3_library_0 : cX3_library.data.toList.drop 0 = dktX3_library_0 := by decide +kernel
theorem dksX3_library_1 : cX3_library.data.toList.drop 22 = dktX3_library_1 := dk_seg dksX3_library_0 22 rfl rfl
theorem dksX3_library_2 : cX3_library.data.toList.drop 72 = dktX3_library_2 := dk_seg dksX3_library_1 50 rfl rfl
theorem dksX3_library_3 : cX3_library.data.toList.drop 96 = dktX3_library_3 := dk_seg dksX3_library_2 24 rfl rfl
theorem dksX3_library_4 : cX3_library.data.toList.drop 120 = dktX3_library_4 := dk_seg dksX3_library_3 24 rfl rfl
theorem dX3_library_0 : decode cX3_library 0 = .ok (.aload_n 0, 1) := dk_42 (dk_at dksX3_library_0 0 rfl rfl)
theorem dX3_library_1 : decode cX3_library 1 = .ok (.iconst 0, 1) := dk_3 (dk_at dksX3_library_0 1 rfl rfl)
theorem dX3_library_2 : decode cX3_library 2 = .ok (.putfield 111, 3) := dk_181 0 111 (dk_at dksX3_library_0 2 rfl rfl)
theorem dX3_library_5 : decode cX3_library 5 = .ok (.aload_n 0, 1) := dk_42 (dk_at dksX3_library_0 5 rfl rfl)
theorem dX3_library_6 : decode cX3_library 6 = .ok (.iload_n 1, 1) := dk_27 (dk_at dksX3_library_0 6 rfl rfl)
theorem dX3_library_7 : decode cX3_library 7 = .ok (.invokevirtual 270, 3) := dk_182 1 14 (dk_at dksX3_library_0 7 rfl rfl)
theorem dX3_library_10 : decode cX3_library 10 = .ok (.ifCond .ne 6, 3) := dk_154 0 6 (dk_at dksX3_library_0 10 rfl rfl)
theorem dX3_library_13 : decode cX3_library 13 = .ok (.bipush (-2), 2) := dk_16 254 (dk_at dksX3_library_0 13 rfl rfl)
theorem dX3_library_15 : decode cX3_library 15 = .ok (.ireturn, 1) := dk_172 (dk_at dksX3_library_0 15 rfl rfl)
theorem dX3_library_16 : decode cX3_library 16 = .ok (.aload_n 0, 1) := dk_42 (dk_at dksX3_library_0 16 rfl rfl)
theorem dX3_library_17 : decode cX3_library 17 = .ok (.invokevirtual 273, 3) := dk_182 1 17 (dk_at dksX3_library_0 17 rfl rfl)
theorem dX3_library_20 : decode cX3_library 20 = .ok (.istore_n 3, 1) := dk_62 (dk_at dksX3_library_0 20 rfl rfl)
theorem dX3_library_21 : decode cX3_library 21 = .ok (.iload_n 2, 1) := dk_28 (dk_at dksX3_library_0 21 rfl rfl)
theorem dX3_library_22 : decode cX3_library 22 = .ok (.tableswitch 117 0 8 #[50, 55, 60, 65, 70, 75, 94, 96, 112], 50) := by decide +kernel
theorem dX3_library_72 : decode cX3_library 72 = .ok (.aload_n 0, 1) := dk_42 (dk_at dksX3_library_2 0 rfl rfl)
theorem dX3_library_73 : decode cX3_library 73 = .ok (.getfield 234, 3) := dk_180 0 234 (dk_at dksX3_library_2 1 rfl rfl)
theorem dX3_library_76 : decode cX3_library 76 = .ok (.ireturn, 1) := dk_172 (dk_at dksX3_library_2 4 rfl rfl)
theorem dX3_library_77 : decode cX3_library 77 = .ok (.aload_n 0, 1) := dk_42 (dk_at dksX3_library_2 5 rfl rfl)
theorem dX3_library_78 : decode cX3_library 78 = .ok (.getfield 237, 3) := dk_180 0 237 (dk_at dksX3_library_2 6 rfl rfl)
theorem dX3_library_81 : decode cX3_library 81 = .ok (.ireturn, 1) := dk_172 (dk_at dksX3_library_2 9 rfl rfl)
theorem dX3_library_82 : decode cX3_library 82 = .ok (.aload_n 0, 1) := dk_42 (dk_at dksX3_library_2 10 rfl rfl)
theorem dX3_library_83 : decode cX3_library 83 = .ok (.getfield 240, 3) := dk_180 0 240 (dk_at dksX3_library_2 11 rfl rfl)
theorem dX3_library_86 : decode cX3_library 86 = .ok (.ireturn, 1) := dk_172 (dk_at dksX3_library_2 14 rfl rfl)
theorem dX3_library_87 : decode cX3_library 87 = .ok (.aload_n 0, 1) := dk_42 (dk_at dksX3_library_2 15 rfl rfl)
theorem dX3_library_88 : decode cX3_library 88 = .ok (.getfield 243, 3) := dk_180 0 243 (dk_at dksX3_library_2 16 rfl rfl)
theorem dX3_library_91 : decode cX3_library 91 = .ok (.ireturn, 1) := dk_172 (dk_at dksX3_library_2 19 rfl rfl)
theorem dX3_library_92 : decode cX3_library 92 = .ok (.aload_n 0, 1) := dk_42 (dk_at dksX3_library_2 20 rfl rfl)
theorem dX3_library_93 : decode cX3_library 93 = .ok (.invokevirtual 267, 3) := dk_182 1 11 (dk_at dksX3_library_2 21 rfl rfl)
theorem dX3_library_96 : decode cX3_library 96 = .ok (.ireturn, 1) := dk_172 (dk_at dksX3_library_3 0 rfl rfl)
theorem dX3_library_97 : decode cX3_library 97 = .ok (.iload_n 3, 1) := dk_29 (dk_at dksX3_library_3 1 rfl rfl)
theorem dX3_library_98 : decode cX3_library 98 = .ok (.iconst (-1), 1) := dk_2 (dk_at dksX3_library_3 2 rfl rfl)
theorem dX3_library_99 : decode cX3_library 99 = .ok (.if_icmp .eq 11, 3) := dk_159 0 11 (dk_at dksX3_library_3 3 rfl rfl)
theorem dX3_library_102 : decode cX3_library 102 = .ok (.iload_n 3, 1) := dk_29 (dk_at dksX3_library_3 6 rfl rfl)
theorem dX3_library_103 : decode cX3_library 103 = .ok (.aload_n 0, 1) := dk_42 (dk_at dksX3_library_3 7 rfl rfl)
theorem dX3_library_104 : decode cX3_library 104 = .ok (.getfield 237, 3) := dk_180 0 237 (dk_at dksX3_library_3 8 rfl rfl)
theorem dX3_library_107 : decode cX3_library 107 = .ok (.if_icmp .le 7, 3) := dk_164 0 7 (dk_at dksX3_library_3 11 rfl rfl)
theorem dX3_library_110 : decode cX3_library 110 = .ok (.iconst 1, 1) := dk_4 (dk_at dksX3_library_3 14 rfl rfl)
theorem dX3_library_111 : decode cX3_library 111 = .ok (.goto 4, 3) := dk_167 0 4 (dk_at dksX3_library_3 15 rfl rfl)
theorem dX3_library_114 : decode cX3_library 114 = .ok (.iconst 0, 1) := dk_3 (dk_at dksX3_library_3 18 rfl rfl)
theorem dX3_library_115 : decode cX3_library 115 = .ok (.ireturn, 1) := dk_172 (dk_at dksX3_library_3 19 rfl rfl)
theorem dX3_library_116 : decode cX3_library 116 = .ok (.iload_n 3, 1) := dk_29 (dk_at dksX3_library_3 20 rfl rfl)
theorem dX3_library_117 : decode cX3_library 117 = .ok (.ireturn, 1) := dk_172 (dk_at dksX3_library_3 21 rfl rfl)
theorem dX3_library_118 : decode cX3_library 118 = .ok (.iload_n 3, 1) := dk_29 (dk_at dksX3_library_3 22 rfl rfl)
theorem dX3_library_119 : decode cX3_library 119 = .ok (.iconst (-1), 1) := dk_2 (dk_at dksX3_library_3 23 rfl rfl)
theorem dX3_library_120 : decode cX3_library 120 = .ok (.if_icmp .ne 7, 3) := dk_160 0 7 (dk_at dksX3_library_4 0 rfl rfl)
theorem dX3_library_123 : decode cX3_library 123 = .ok (.iconst (-1), 1) := dk_2 (dk_at dksX3_library_4 3 rfl rfl)
theorem dX3_library_124 : decode cX3_library 124 = .ok (.goto 9, 3) := dk_167 0 9 (dk_at dksX3_library_4 4 rfl rfl)
theorem dX3_library_127 : decode cX3_library 127 = .ok (.iload_n 3, 1) := dk_29 (dk_at dksX3_library_4 7 rfl rfl)
theorem dX3_library_128 : decode cX3_library 128 = .ok (.aload_n 0, 1) := dk_42 (dk_at dksX3_library_4 8 rfl rfl)
theorem dX3_library_129 : decode cX3_library 129 = .ok (.getfield 240, 3) := dk_180 0 240 (dk_at dksX3_library_4 9 rfl rfl)
theorem dX3_library_132 : decode cX3_library 132 = .ok (.imul, 1) := dk_104 (dk_at dksX3_library_4 12 rfl rfl)
theorem dX3_library_133 : decode cX3_library 133 = .ok (.ireturn, 1) := dk_172 (dk_at dksX3_library_4 13 rfl rfl)
theorem dX3_library_134 : decode cX3_library 134 = .ok (.aload_n 0, 1) := dk_42 (dk_at dksX3_library_4 14 rfl rfl)
theorem dX3_library_135 : decode cX3_library 135 = .ok (.invokevirtual 276, 3) := dk_182 1 20 (dk_at dksX3_library_4 15 rfl rfl)
theorem dX3_library_138 : decode cX3_library 138 = .ok (.ireturn, 1) := dk_172 (dk_at dksX3_library_4 18 rfl rfl)
theorem dX3_library_139 : decode cX3_library 139 = .ok (.bipush (-2), 2) := dk_16 254 (dk_at dksX3_library_4 19 rfl rfl)
theorem dX3_library_141 : decode cX3_library 141 = .ok (.ireturn, 1) := dk_172 (dk_at dksX3_library_4 21 rfl rfl)
def dkwX3_hand_9 : List UInt8 := [46, 79, 132, 4, 1, 167, 255, 177, 132, 3, 1, 167, 255, 99, 4, 172]
abbrev dktX3_hand_9 : List UInt8 := dkwX3_hand_9 ++ []
def dkwX3_hand_8 : List UInt8 := [2, 79, 42, 180, 0, 50, 16, 12, 29, 104, 21, 4, 96, 42, 180, 0, 47, 16, 12, 29, 104, 21, 4, 96]
abbrev dktX3_hand_8 : List UInt8 := dkwX3_hand_8 ++ dktX3_hand_9
def dkwX3_hand_7 : List UInt8 := [162, 0, 24, 42, 180, 0, 26, 28, 7, 96, 16, 14, 29, 104, 96, 5, 96, 21, 4, 96, 46, 167, 0, 4]
abbrev dktX3_hand_7 : List UInt8 := dkwX3_hand_7 ++ dktX3_hand_8
def dkwX3_hand_6 : List UInt8 := [162, 0, 78, 42, 180, 0, 47, 16, 12, 29, 104, 21, 4, 96, 21, 4, 42, 180, 0, 41, 29, 46]
abbrev dktX3_hand_6 : List UInt8 := dkwX3_hand_6 ++ dktX3_hand_7
def dkwX3_hand_5 : List UInt8 := [7, 96, 16, 14, 29, 104, 96, 4, 96, 46, 167, 0, 4, 3, 79, 3, 54, 4, 21, 4, 16, 12]
abbrev dktX3_hand_5 : List UInt8 := dkwX3_hand_5 ++ dktX3_hand_6
def dkwX3_hand_4 : List UInt8 := [46, 167, 0, 4, 3, 79, 42, 180, 0, 44, 29, 29, 42, 180, 0, 243, 162, 0, 21, 42, 180, 0, 26, 28]
abbrev dktX3_hand_4 : List UInt8 := dkwX3_hand_4 ++ dktX3_hand_5
def dkwX3_hand_3 : List UInt8 := [180, 0, 41, 29, 29, 42, 180, 0, 243, 162, 0, 19, 42, 180, 0, 26, 28, 7, 96, 16, 14, 29, 104, 96]
abbrev dktX3_hand_3 : List UInt8 := dkwX3_hand_3 ++ dktX3_hand_4
def dkwX3_hand_2 : List UInt8 := [181, 0, 240, 42, 42, 180, 0, 26, 28, 6, 96, 46, 181, 0, 243, 3, 62, 29, 7, 162, 0, 158, 42]
abbrev dktX3_hand_2 : List UInt8 := dkwX3_hand_2 ++ dktX3_hand_3
def dkwX3_hand_1 : List UInt8 := [181, 0, 234, 42, 42, 180, 0, 26, 28, 4, 96, 46, 181, 0, 237, 42, 42, 180, 0, 26, 28, 5, 96, 46]
abbrev dktX3_hand_1 : List UInt8 := dkwX3_hand_1 ++ dktX3_hand_2
def dkwX3_hand_0 : List UInt8 := [42, 3, 27, 182, 0, 223, 154, 0, 5, 3, 172, 16, 60, 27, 104, 61, 42, 42, 180, 0, 26, 28, 46]
abbrev dktX3_hand_0 : List UInt8 := dkwX3_hand_0 ++ dktX3_hand_1
theorem dksX3_hand_0 : cX3_hand.data.toList.drop 0 = dktX3_hand_0 := by decide +kernel
theorem dksX3_hand_1 : cX3_hand.data.toList.drop 23 = dktX3_hand_1 := dk_seg dksX3_hand_0 23 rfl rfl
theorem dksX3_hand_2 : cX3_hand.data.toList.drop 47 = dktX3_hand_2 := dk_seg dksX3_hand_1 24 rfl rfl
theorem dksX3_hand_3 : cX3_hand.data.toList.drop 70 = dktX3_hand_3 := dk_seg dksX3_hand_2 23 rfl rfl
theorem dksX3_hand_4 : cX3_hand.data.toList.drop 94 = dktX3_hand_4 := dk_seg dksX3_hand_3 24 rfl rfl
theorem dksX3_hand_5 : cX3_hand.data.toList.drop 118 = dktX3_hand_5 := dk_seg dksX3_hand_4 24 rfl rfl
theorem dksX3_hand_6 : cX3_hand.data.toList.drop 140 = dktX3_hand_6 := dk_seg dksX3_hand_5 22 rfl rfl
theorem dksX3_hand_7 : cX3_hand.data.toList.drop 162 = dktX3_hand_7 := dk_seg dksX3_hand_6 22 rfl rfl
theorem dksX3_hand_8 : cX3_hand.data.toList.drop 186 = dktX3_hand_8 := dk_seg dksX3_hand_7 24 rfl rfl
theorem dksX3_hand_9 : cX3_hand.data.toList.drop 210 = dktX3_hand_9 := dk_seg dksX3_hand_8 24 rfl rfl
theorem dX3_hand_0 : decode cX3_hand 0 = .ok (.aload_n 0, 1) := dk_42 (dk_at dksX3_hand_0 0 rfl rfl)
theorem dX3_hand_1 : decode cX3_hand 1 = .ok (.iconst 0, 1) := dk_3 (dk_at dksX3_hand_0 1 rfl rfl)
theorem dX3_hand_2 : decode cX3_hand 2 = .ok (.iload_n 1, 1) := dk_27 (dk_at dksX3_hand_0 2 rfl rfl)
theorem dX3_hand_3 : decode cX3_hand 3 = .ok (.invokevirtual 223, 3) := dk_182 0 223 (dk_at dksX3_hand_0 3 rfl rfl)
theorem dX3_hand_6 : decode cX3_hand 6 = .ok (.ifCond .ne 5, 3) := dk_154 0 5 (dk_at dksX3_hand_0 6 rfl rfl)
theorem dX3_hand_9 : decode cX3_hand 9 = .ok (.iconst 0, 1) := dk_3 (dk_at dksX3_hand_0 9 rfl rfl)
theorem dX3_hand_10 : decode cX3_hand 10 = .ok (.ireturn, 1) := dk_172 (dk_at dksX3_hand_0 10 rfl rfl)
theorem dX3_hand_11 : decode cX3_hand 11 = .ok (.bipush 60, 2) := dk_16 60 (dk_at dksX3_hand_0 11 rfl rfl)
theorem dX3_hand_13 : decode cX3_hand 13 = .ok (.iload_n 1, 1) := dk_27 (dk_at dksX3_hand_0 13 rfl rfl)
theorem dX3_hand_14 : decode cX3_hand 14 = .ok (.imul, 1) := dk_104 (dk_at dksX3_hand_0 14 rfl rfl)
theorem dX3_hand_15 : decode cX3_hand 15 = .ok (.istore_n 2, 1) := dk_61 (dk_at dksX3_hand_0 15 rfl rfl)
theorem dX3_hand_16 : decode cX3_hand 16 = .ok (.aload_n 0, 1) := dk_42 (dk_at dksX3_hand_0 16 rfl rfl)
theorem dX3_hand_17 : decode cX3_hand 17 = .ok (.aload_n 0, 1) := dk_42 (dk_at dksX3_hand_0 17 rfl rfl)
theorem dX3_hand_18 : decode cX3_hand 18 = .ok (.getfield 26, 3) := dk_180 0 26 (dk_at dksX3_hand_0 18 rfl rfl)
theorem dX3_hand_21 : decode cX3_hand 21 = .ok (.iload_n 2, 1) := dk_28 (dk_at dksX3_hand_0 21 rfl rfl)
theorem dX3_hand_22 : decode cX3_hand 22 = .ok (.iaload, 1) := dk_46 (dk_at dksX3_hand_0 22 rfl rfl)
theorem dX3_hand_23 : decode cX3_hand 23 = .ok (.putfield 234, 3) := dk_181 0 234 (dk_at dksX3_hand_1 0 rfl rfl)
theorem dX3_hand_26 : decode cX3_hand 26 = .ok (.aload_n 0, 1) := dk_42 (dk_at dksX3_hand_1 3 rfl rfl)
theorem dX3_hand_27 : decode cX3_hand 27 = .ok (.aload_n 0, 1) := dk_42 (dk_at dksX3_hand_1 4 rfl rfl)
theorem dX3_hand_28 : decode cX3_hand 28 = .ok (.getfield 26, 3) := dk_180 0 26 (dk_at dksX3_hand_1 5 rfl rfl)
theorem dX3_hand_31 : decode cX3_hand 31 = .ok (.iload_n 2, 1) := dk_28 (dk_at dksX3_hand_1 8 rfl rfl)
theorem dX3_hand_32 : decode cX3_hand 32 = .ok (.iconst 1, 1) := dk_4 (dk_at dksX3_hand_1 9 rfl rfl)
theorem dX3_hand_33 : decode cX3_hand 33 = .ok (.iadd, 1) := dk_96 (dk_at dksX3_hand_1 10 rfl rfl)
theorem dX3_hand_34 : decode cX3_hand 34 = .ok (.iaload, 1) := dk_46 (dk_at dksX3_hand_1 11 rfl rfl)
theorem dX3_hand_35 : decode cX3_hand 35 = .ok (.putfield 237, 3) := dk_181 0 237 (dk_at dksX3_hand_1 12 rfl rfl)
theorem dX3_hand_38 : decode cX3_hand 38 = .ok (.aload_n 0, 1) := dk_42 (dk_at dksX3_hand_1 15 rfl rfl)
theorem dX3_hand_39 : decode cX3_hand 39 = .ok (.aload_n 0, 1) := dk_42 (dk_at dksX3_hand_1 16 rfl rfl)
theorem dX3_hand_40 : decode cX3_hand 40 = .ok (.getfield 26, 3) := dk_180 0 26 (dk_at dksX3_hand_1 17 rfl rfl)
theorem dX3_hand_43 : decode cX3_hand 43 = .ok (.iload_n 2, 1) := dk_28 (dk_at dksX3_hand_1 20 rfl rfl)
theorem dX3_hand_44 : decode cX3_hand 44 = .ok (.iconst 2, 1) := dk_5 (dk_at dksX3_hand_1 21 rfl rfl)
theorem dX3_hand_45 : decode cX3_hand 45 = .ok (.iadd, 1) := dk_96 (dk_at dksX3_hand_1 22 rfl rfl)
theorem dX3_hand_46 : decode cX3_hand 46 = .ok (.iaload, 1) := dk_46 (dk_at dksX3_hand_1 23 rfl rfl)
theorem dX3_hand_47 : decode cX3_hand 47 = .ok (.putfield 240, 3) := dk_181 0 240 (dk_at dksX3_hand_2 0 rfl rfl)
theorem dX3_hand_50 : decode cX3_hand 50 = .ok (.aload_n 0, 1) := dk_42 (dk_at dksX3_hand_2 3 rfl rfl)
theorem dX3_hand_51 : decode cX3_hand 51 = .ok (.aload_n 0, 1) := dk_42 (dk_at dksX3_hand_2 4 rfl rfl)
theorem dX3_hand_52 : decode cX3_hand 52 = .ok (.getfield 26, 3) := dk_180 0 26 (dk_at dksX3_hand_2 5 rfl rfl)
theorem dX3_hand_55 : decode cX3_hand 55 = .ok (.iload_n 2, 1) := dk_28 (dk_at dksX3_hand_2 8 rfl rfl)
theorem dX3_hand_56 : decode cX3_hand 56 = .ok (.iconst 3, 1) := dk_6 (dk_at dksX3_hand_2 9 rfl rfl)
theorem dX3_hand_57 : decode cX3_hand 57 = .ok (.iadd, 1) := dk_96 (dk_at dksX3_hand_2 10 rfl rfl)
theorem dX3_hand_58 : decode cX3_hand 58 = .ok (.iaload, 1) := dk_46 (dk_at dksX3_hand_2 11 rfl rfl)
theorem dX3_hand_59 : decode cX3_hand 59 = .ok (.putfield 243, 3) := dk_181 0 243 (dk_at dksX3_hand_2 12 rfl rfl)
theorem dX3_hand_62 : decode cX3_hand 62 = .ok (.iconst 0, 1) := dk_3 (dk_at dksX3_hand_2 15 rfl rfl)
theorem dX3_hand_63 : decode cX3_hand 63 = .ok (.istore_n 3, 1) := dk_62 (dk_at dksX3_hand_2 16 rfl rfl)
theorem dX3_hand_64 : decode cX3_hand 64 = .ok (.iload_n 3, 1) := dk_29 (dk_at dksX3_hand_2 17 rfl rfl)
theorem dX3_hand_65 : decode cX3_hand 65 = .ok (.iconst 4, 1) := dk_7 (dk_at dksX3_hand_2 18 rfl rfl)
theorem dX3_hand_66 : decode cX3_hand 66 = .ok (.if_icmp .ge 158, 3) := dk_162 0 158 (dk_at dksX3_hand_2 19 rfl rfl)
theorem dX3_hand_69 : decode cX3_hand 69 = .ok (.aload_n 0, 1) := dk_42 (dk_at dksX3_hand_2 22 rfl rfl)
theorem dX3_hand_70 : decode cX3_hand 70 = .ok (.getfield 41, 3) := dk_180 0 41 (dk_at dksX3_hand_3 0 rfl rfl)
theorem dX3_hand_73 : decode cX3_hand 73 = .ok (.iload_n 3, 1) := dk_29 (dk_at dksX3_hand_3 3 rfl rfl)
theorem dX3_hand_74 : decode cX3_hand 74 = .ok (.iload_n 3, 1) := dk_29 (dk_at dksX3_hand_3 4 rfl rfl)
theorem dX3_hand_75 : decode cX3_hand 75 = .ok (.aload_n 0, 1) := dk_42 (dk_at dksX3_hand_3 5 rfl rfl)
theorem dX3_hand_76 : decode cX3_hand 76 = .ok (.getfield 243, 3) := dk_180 0 243 (dk_at dksX3_hand_3 6 rfl rfl)
theorem dX3_hand_79 : decode cX3_hand 79 = .ok (.if_icmp .ge 19, 3) := dk_162 0 19 (dk_at dksX3_hand_3 9 rfl rfl)
theorem dX3_hand_82 : decode cX3_hand 82 = .ok (.aload_n 0, 1) := dk_42 (dk_at dksX3_hand_3 12 rfl rfl)
theorem dX3_hand_83 : decode cX3_hand 83 = .ok (.getfield 26, 3) := dk_180 0 26 (dk_at dksX3_hand_3 13 rfl rfl)
theorem dX3_hand_86 : decode cX3_hand 86 = .ok (.iload_n 2, 1) := dk_28 (dk_at dksX3_hand_3 16 rfl rfl)
theorem dX3_hand_87 : decode cX3_hand 87 = .ok (.iconst 4, 1) := dk_7 (dk_at dksX3_hand_3 17 rfl rfl)
theorem dX3_hand_88 : decode cX3_hand 88 = .ok (.iadd, 1) := dk_96 (dk_at dksX3_hand_3 18 rfl rfl)
theorem dX3_hand_89 : decode cX3_hand 89 = .ok (.bipush 14, 2) := dk_16 14 (dk_at dksX3_hand_3 19 rfl rfl)
theorem dX3_hand_91 : decode cX3_hand 91 = .ok (.iload_n 3, 1) := dk_29 (dk_at dksX3_hand_3 21 rfl rfl)
theorem dX3_hand_92 : decode cX3_hand 92 = .ok (.imul, 1) := dk_104 (dk_at dksX3_hand_3 22 rfl rfl)
theorem dX3_hand_93 : decode cX3_hand 93 = .ok (.iadd, 1) := dk_96 (dk_at dksX3_hand_3 23 rfl rfl)
theorem dX3_hand_94 : decode cX3_hand 94 = .ok (.iaload, 1) := dk_46 (dk_at dksX3_hand_4 0 rfl rfl)
theorem dX3_hand_95 : decode cX3_hand 95 = .ok (.goto 4, 3) := dk_167 0 4 (dk_at dksX3_hand_4 1 rfl rfl)
theorem dX3_hand_98 : decode cX3_hand 98 = .ok (.iconst 0, 1) := dk_3 (dk_at dksX3_hand_4 4 rfl rfl)
theorem dX3_hand_99 : decode cX3_hand 99 = .ok (.iastore, 1) := dk_79 (dk_at dksX3_hand_4 5 rfl rfl)
theorem dX3_hand_100 : decode cX3_hand 100 = .ok (.aload_n 0, 1) := dk_42 (dk_at dksX3_hand_4 6 rfl rfl)
theorem dX3_hand_101 : decode cX3_hand 101 = .ok (.getfield 44, 3) := dk_180 0 44 (dk_at dksX3_hand_4 7 rfl rfl)
theorem dX3_hand_104 : decode cX3_hand 104 = .ok (.iload_n 3, 1) := dk_29 (dk_at dksX3_hand_4 10 rfl rfl)
theorem dX3_hand_105 : decode cX3_hand 105 = .ok (.iload_n 3, 1) := dk_29 (dk_at dksX3_hand_4 11 rfl rfl)
theorem dX3_hand_106 : decode cX3_hand 106 = .ok (.aload_n 0, 1) := dk_42 (dk_at dksX3_hand_4 12 rfl rfl)
theorem dX3_hand_107 : decode cX3_hand 107 = .ok (.getfield 243, 3) := dk_180 0 243 (dk_at dksX3_hand_4 13 rfl rfl)
theorem dX3_hand_110 : decode cX3_hand 110 = .ok (.if_icmp .ge 21, 3) := dk_162 0 21 (dk_at dksX3_hand_4 16 rfl rfl)
theorem dX3_hand_113 : decode cX3_hand 113 = .ok (.aload_n 0, 1) := dk_42 (dk_at dksX3_hand_4 19 rfl rfl)
theorem dX3_hand_114 : decode cX3_hand 114 = .ok (.getfield 26, 3) := dk_180 0 26 (dk_at dksX3_hand_4 20 rfl rfl)
theorem dX3_hand_117 : decode cX3_hand 117 = .ok (.iload_n 2, 1) := dk_28 (dk_at dksX3_hand_4 23 rfl rfl)
theorem dX3_hand_118 : decode cX3_hand 118 = .ok (.iconst 4, 1) := dk_7 (dk_at dksX3_hand_5 0 rfl rfl)
theorem dX3_hand_119 : decode cX3_hand 119 = .ok (.iadd, 1) := dk_96 (dk_at dksX3_hand_5 1 rfl rfl)
theorem dX3_hand_120 : decode cX3_hand 120 = .ok (.bipush 14, 2) := dk_16 14 (dk_at dksX3_hand_5 2 rfl rfl)
theorem dX3_hand_122 : decode cX3_hand 122 = .ok (.iload_n 3, 1) := dk_29 (dk_at dksX3_hand_5 4 rfl rfl)
theorem dX3_hand_123 : decode cX3_hand 123 = .ok (.imul, 1) := dk_104 (dk_at dksX3_hand_5 5 rfl rfl)
theorem dX3_hand_124 : decode cX3_hand 124 = .ok (.iadd, 1) := dk_96 (dk_at dksX3_hand_5 6 rfl rfl)
theorem dX3_hand_125 : decode cX3_hand 125 = .ok (.iconst 1, 1) := dk_4 (dk_at dksX3_hand_5 7 rfl rfl)
theorem dX3_hand_126 : decode cX3_hand 126 = .ok (.iadd, 1) := dk_96 (dk_at dksX3_hand_5 8 rfl rfl)
theorem dX3_hand_127 : decode cX3_hand 127 = .ok (.iaload, 1) := dk_46 (dk_at dksX3_hand_5 9 rfl rfl)
theorem dX3_hand_128 : decode cX3_hand 128 = .ok (.goto 4, 3) := dk_167 0 4 (dk_at dksX3_hand_5 10 rfl rfl)
theorem dX3_hand_131 : decode cX3_hand 131 = .ok (.iconst 0, 1) := dk_3 (dk_at dksX3_hand_5 13 rfl rfl)
theorem dX3_hand_132 : decode cX3_hand 132 = .ok (.iastore, 1) := dk_79 (dk_at dksX3_hand_5 14 rfl rfl)
theorem dX3_hand_133 : decode cX3_hand 133 = .ok (.iconst 0, 1) := dk_3 (dk_at dksX3_hand_5 15 rfl rfl)
theorem dX3_hand_134 : decode cX3_hand 134 = .ok (.istore 4, 2) := dk_54 4 (dk_at dksX3_hand_5 16 rfl rfl)
theorem dX3_hand_136 : decode cX3_hand 136 = .ok (.iload 4, 2) := dk_21 4 (dk_at dksX3_hand_5 18 rfl rfl)
theorem dX3_hand_138 : decode cX3_hand 138 = .ok (.bipush 12, 2) := dk_16 12 (dk_at dksX3_hand_5 20 rfl rfl)
theorem dX3_hand_140 : decode cX3_hand 140 = .ok (.if_icmp .ge 78, 3) := dk_162 0 78 (dk_at dksX3_hand_6 0 rfl rfl)
theorem dX3_hand_143 : decode cX3_hand 143 = .ok (.aload_n 0, 1) := dk_42 (dk_at dksX3_hand_6 3 rfl rfl)
theorem dX3_hand_144 : decode cX3_hand 144 = .ok (.getfield 47, 3) := dk_180 0 47 (dk_at dksX3_hand_6 4 rfl rfl)
theorem dX3_hand_147 : decode cX3_hand 147 = .ok (.bipush 12, 2) := dk_16 12 (dk_at dksX3_hand_6 7 rfl rfl)
theorem dX3_hand_149 : decode cX3_hand 149 = .ok (.iload_n 3, 1) := dk_29 (dk_at dksX3_hand_6 9 rfl rfl)
theorem dX3_hand_150 : decode cX3_hand 150 = .ok (.imul, 1) := dk_104 (dk_at dksX3_hand_6 10 rfl rfl)
theorem dX3_hand_151 : decode cX3_hand 151 = .ok (.iload 4, 2) := dk_21 4 (dk_at dksX3_hand_6 11 rfl rfl)
theorem dX3_hand_153 : decode cX3_hand 153 = .ok (.iadd, 1) := dk_96 (dk_at dksX3_hand_6 13 rfl rfl)
theorem dX3_hand_154 : decode cX3_hand 154 = .ok (.iload 4, 2) := dk_21 4 (dk_at dksX3_hand_6 14 rfl rfl)
theorem dX3_hand_156 : decode cX3_hand 156 = .ok (.aload_n 0, 1) := dk_42 (dk_at dksX3_hand_6 16 rfl rfl)
theorem dX3_hand_157 : decode cX3_hand 157 = .ok (.getfield 41, 3) := dk_180 0 41 (dk_at dksX3_hand_6 17 rfl rfl)
theorem dX3_hand_160 : decode cX3_hand 160 = .ok (.iload_n 3, 1) := dk_29 (dk_at dksX3_hand_6 20 rfl rfl)
theorem dX3_hand_161 : decode cX3_hand 161 = .ok (.iaload, 1) := dk_46 (dk_at dksX3_hand_6 21 rfl rfl)
theorem dX3_hand_162 : decode cX3_hand 162 = .ok (.if_icmp .ge 24, 3) := dk_162 0 24 (dk_at dksX3_hand_7 0 rfl rfl)
theorem dX3_hand_165 : decode cX3_hand 165 = .ok (.aload_n 0, 1) := dk_42 (dk_at dksX3_hand_7 3 rfl rfl)
theorem dX3_hand_166 : decode cX3_hand 166 = .ok (.getfield 26, 3) := dk_180 0 26 (dk_at dksX3_hand_7 4 rfl rfl)
theorem dX3_hand_169 : decode cX3_hand 169 = .ok (.iload_n 2, 1) := dk_28 (dk_at dksX3_hand_7 7 rfl rfl)
theorem dX3_hand_170 : decode cX3_hand 170 = .ok (.iconst 4, 1) := dk_7 (dk_at dksX3_hand_7 8 rfl rfl)
theorem dX3_hand_171 : decode cX3_hand 171 = .ok (.iadd, 1) := dk_96 (dk_at dksX3_hand_7 9 rfl rfl)
theorem dX3_hand_172 : decode cX3_hand 172 = .ok (.bipush 14, 2) := dk_16 14 (dk_at dksX3_hand_7 10 rfl rfl)
theorem dX3_hand_174 : decode cX3_hand 174 = .ok (.iload_n 3, 1) := dk_29 (dk_at dksX3_hand_7 12 rfl rfl)
theorem dX3_hand_175 : decode cX3_hand 175 = .ok (.imul, 1) := dk_104 (dk_at dksX3_hand_7 13 rfl rfl)
theorem dX3_hand_176 : decode cX3_hand 176 = .ok (.iadd, 1) := dk_96 (dk_at dksX3_hand_7 14 rfl rfl)
theorem dX3_hand_177 : decode cX3_hand 177 = .ok (.iconst 2, 1) := dk_5 (dk_at dksX3_hand_7 15 rfl rfl)
theorem dX3_hand_178 : decode cX3_hand 178 = .ok (.iadd, 1) := dk_96 (dk_at dksX3_hand_7 16 rfl rfl)
theorem dX3_hand_179 : decode cX3_hand 179 = .ok (.iload 4, 2) := dk_21 4 (dk_at dksX3_hand_7 17 rfl rfl)
theorem dX3_hand_181 : decode cX3_hand 181 = .ok (.iadd, 1) := dk_96 (dk_at dksX3_hand_7 19 rfl rfl)
theorem dX3_hand_182 : decode cX3_hand 182 = .ok (.iaload, 1) := dk_46 (dk_at dksX3_hand_7 20 rfl rfl)
theorem dX3_hand_183 : decode cX3_hand 183 = .ok (.goto 4, 3) := dk_167 0 4 (dk_at dksX3_hand_7 21 rfl rfl)
theorem dX3_hand_186 : decode cX3_hand 186 = .ok (.iconst (-1), 1) := dk_2 (dk_at dksX3_hand_8 0 rfl rfl)
theorem dX3_hand_187 : decode cX3_hand 187 = .ok (.iastore, 1) := dk_79 (dk_at dksX3_hand_8 1 rfl rfl)
theorem dX3_hand_188 : decode cX3_hand 188 = .ok (.aload_n 0, 1) := dk_42 (dk_at dksX3_hand_8 2 rfl rfl)
theorem dX3_hand_189 : decode cX3_hand 189 = .ok (.getfield 50, 3) := dk_180 0 50 (dk_at dksX3_hand_8 3 rfl rfl)
theorem dX3_hand_192 : decode cX3_hand 192 = .ok (.bipush 12, 2) := dk_16 12 (dk_at dksX3_hand_8 6 rfl rfl)
theorem dX3_hand_194 : decode cX3_hand 194 = .ok (.iload_n 3, 1) := dk_29 (dk_at dksX3_hand_8 8 rfl rfl)
theorem dX3_hand_195 : decode cX3_hand 195 = .ok (.imul, 1) := dk_104 (dk_at dksX3_hand_8 9 rfl rfl)
theorem dX3_hand_196 : decode cX3_hand 196 = .ok (.iload 4, 2) := dk_21 4 (dk_at dksX3_hand_8 10 rfl rfl)
theorem dX3_hand_198 : decode cX3_hand 198 = .ok (.iadd, 1) := dk_96 (dk_at dksX3_hand_8 12 rfl rfl)
theorem dX3_hand_199 : decode cX3_hand 199 = .ok (.aload_n 0, 1) := dk_42 (dk_at dksX3_hand_8 13 rfl rfl)
theorem dX3_hand_200 : decode cX3_hand 200 = .ok (.getfield 47, 3) := dk_180 0 47 (dk_at dksX3_hand_8 14 rfl rfl)
theorem dX3_hand_203 : decode cX3_hand 203 = .ok (.bipush 12, 2) := dk_16 12 (dk_at dksX3_hand_8 17 rfl rfl)
theorem dX3_hand_205 : decode cX3_hand 205 = .ok (.iload_n 3, 1) := dk_29 (dk_at dksX3_hand_8 19 rfl rfl)
theorem dX3_hand_206 : decode cX3_hand 206 = .ok (.imul, 1) := dk_104 (dk_at dksX3_hand_8 20 rfl rfl)
theorem dX3_hand_207 : decode cX3_hand 207 = .ok (.iload 4, 2) := dk_21 4 (dk_at dksX3_hand_8 21 rfl rfl)
theorem dX3_hand_209 : decode cX3_hand 209 = .ok (.iadd, 1) := dk_96 (dk_at dksX3_hand_8 23 rfl rfl)
theorem dX3_hand_210 : decode cX3_hand 210 = .ok (.iaload, 1) := dk_46 (dk_at dksX3_hand_9 0 rfl rfl)
theorem dX3_hand_211 : decode cX3_hand 211 = .ok (.iastore, 1) := dk_79 (dk_at dksX3_hand_9 1 rfl rfl)
theorem dX3_hand_212 : decode cX3_hand 212 = .ok (.iinc 4 1, 3) := dk_132 4 1 (dk_at dksX3_hand_9 2 rfl rfl)
theorem dX3_hand_215 : decode cX3_hand 215 = .ok (.goto (-79), 3) := dk_167 255 177 (dk_at dksX3_hand_9 5 rfl rfl)
theorem dX3_hand_218 : decode cX3_hand 218 = .ok (.iinc 3 1, 3) := dk_132 3 1 (dk_at dksX3_hand_9 8 rfl rfl)
theorem dX3_hand_221 : decode cX3_hand 221 = .ok (.goto (-157), 3) := dk_167 255 99 (dk_at dksX3_hand_9 11 rfl rfl)
theorem dX3_hand_224 : decode cX3_hand 224 = .ok (.iconst 1, 1) := dk_4 (dk_at dksX3_hand_9 14 rfl rfl)
theorem dX3_hand_225 : decode cX3_hand 225 = .ok (.ireturn, 1) := dk_172 (dk_at dksX3_hand_9 15 rfl rfl)
def dkwX3_close_4 : List UInt8 := [167, 255, 172, 29, 172]
abbrev dktX3_close_4 : List UInt8 := dkwX3_close_4 ++ []
def dkwX3_close_3 : List UInt8 := [162, 0, 13, 21, 4, 21, 5, 184, 1, 8, 167, 0, 4, 29, 62, 132, 5, 1, 167, 255, 188, 132, 4, 1]
abbrev dktX3_close_3 : List UInt8 := dkwX3_close_3 ++ dktX3_close_4
def dkwX3_close_2 : List UInt8 := [167, 0, 4, 3, 54, 6, 21, 6, 153, 0, 29, 29, 2, 159, 0, 14, 21, 4, 21, 5, 184, 1, 8, 29]
abbrev dktX3_close_2 : List UInt8 := dkwX3_close_2 ++ dktX3_close_3
def dkwX3_close_1 : List UInt8 := [162, 0, 67, 31, 21, 4, 184, 0, 115, 153, 0, 16, 31, 21, 5, 184, 0, 115, 153, 0, 7, 4]
abbrev dktX3_close_1 : List UInt8 := dkwX3_close_1 ++ dktX3_close_2
def dkwX3_close_0 : List UInt8 := [42, 182, 1, 4, 64, 2, 62, 3, 54, 4, 21, 4, 16, 32, 162, 0, 83, 3, 54, 5, 21, 5, 21, 4]
abbrev dktX3_close_0 : List UInt8 := dkwX3_close_0 ++ dktX3_close_1
theorem dksX3_close_0 : cX3_close.data.toList.drop 0 = dktX3_close_0 := by decide +kernel
theorem dksX3_close_1 : cX3_close.data.toList.drop 24 = dktX3_close_1 := dk_seg dksX3_close_0 24 rfl rfl
theorem dksX3_close_2 : cX3_close.data.toList.drop 46 = dktX3_close_2 := dk_seg dksX3_close_1 22 rfl rfl
theorem dksX3_close_3 : cX3_close.data.toList.drop 70 = dktX3_close_3 := dk_seg dksX3_close_2 24 rfl rfl
theorem dksX3_close_4 : cX3_close.data.toList.drop 94 = dktX3_close_4 := dk_seg dksX3_close_3 24 rfl rfl
theorem dX3_close_0 : decode cX3_close 0 = .ok (.aload_n 0, 1) := dk_42 (dk_at dksX3_close_0 0 rfl rfl)
theorem dX3_close_1 : decode cX3_close 1 = .ok (.invokevirtual 260, 3) := dk_182 1 4 (dk_at dksX3_close_0 1 rfl rfl)
theorem dX3_close_4 : decode cX3_close 4 = .ok (.lstore_n 1, 1) := dk_64 (dk_at dksX3_close_0 4 rfl rfl)
theorem dX3_close_5 : decode cX3_close 5 = .ok (.iconst (-1), 1) := dk_2 (dk_at dksX3_close_0 5 rfl rfl)
theorem dX3_close_6 : decode cX3_close 6 = .ok (.istore_n 3, 1) := dk_62 (dk_at dksX3_close_0 6 rfl rfl)
theorem dX3_close_7 : decode cX3_close 7 = .ok (.iconst 0, 1) := dk_3 (dk_at dksX3_close_0 7 rfl rfl)
theorem dX3_close_8 : decode cX3_close 8 = .ok (.istore 4, 2) := dk_54 4 (dk_at dksX3_close_0 8 rfl rfl)
theorem dX3_close_10 : decode cX3_close 10 = .ok (.iload 4, 2) := dk_21 4 (dk_at dksX3_close_0 10 rfl rfl)
theorem dX3_close_12 : decode cX3_close 12 = .ok (.bipush 32, 2) := dk_16 32 (dk_at dksX3_close_0 12 rfl rfl)
theorem dX3_close_14 : decode cX3_close 14 = .ok (.if_icmp .ge 83, 3) := dk_162 0 83 (dk_at dksX3_close_0 14 rfl rfl)
theorem dX3_close_17 : decode cX3_close 17 = .ok (.iconst 0, 1) := dk_3 (dk_at dksX3_close_0 17 rfl rfl)
theorem dX3_close_18 : decode cX3_close 18 = .ok (.istore 5, 2) := dk_54 5 (dk_at dksX3_close_0 18 rfl rfl)
theorem dX3_close_20 : decode cX3_close 20 = .ok (.iload 5, 2) := dk_21 5 (dk_at dksX3_close_0 20 rfl rfl)
theorem dX3_close_22 : decode cX3_close 22 = .ok (.iload 4, 2) := dk_21 4 (dk_at dksX3_close_0 22 rfl rfl)
theorem dX3_close_24 : decode cX3_close 24 = .ok (.if_icmp .ge 67, 3) := dk_162 0 67 (dk_at dksX3_close_1 0 rfl rfl)
theorem dX3_close_27 : decode cX3_close 27 = .ok (.lload_n 1, 1) := dk_31 (dk_at dksX3_close_1 3 rfl rfl)
theorem dX3_close_28 : decode cX3_close 28 = .ok (.iload 4, 2) := dk_21 4 (dk_at dksX3_close_1 4 rfl rfl)
theorem dX3_close_30 : decode cX3_close 30 = .ok (.invokestatic 115, 3) := dk_184 0 115 (dk_at dksX3_close_1 6 rfl rfl)
theorem dX3_close_33 : decode cX3_close 33 = .ok (.ifCond .eq 16, 3) := dk_153 0 16 (dk_at dksX3_close_1 9 rfl rfl)
theorem dX3_close_36 : decode cX3_close 36 = .ok (.lload_n 1, 1) := dk_31 (dk_at dksX3_close_1 12 rfl rfl)
theorem dX3_close_37 : decode cX3_close 37 = .ok (.iload 5, 2) := dk_21 5 (dk_at dksX3_close_1 13 rfl rfl)
theorem dX3_close_39 : decode cX3_close 39 = .ok (.invokestatic 115, 3) := dk_184 0 115 (dk_at dksX3_close_1 15 rfl rfl)
theorem dX3_close_42 : decode cX3_close 42 = .ok (.ifCond .eq 7, 3) := dk_153 0 7 (dk_at dksX3_close_1 18 rfl rfl)
theorem dX3_close_45 : decode cX3_close 45 = .ok (.iconst 1, 1) := dk_4 (dk_at dksX3_close_1 21 rfl rfl)
theorem dX3_close_46 : decode cX3_close 46 = .ok (.goto 4, 3) := dk_167 0 4 (dk_at dksX3_close_2 0 rfl rfl)
theorem dX3_close_49 : decode cX3_close 49 = .ok (.iconst 0, 1) := dk_3 (dk_at dksX3_close_2 3 rfl rfl)
theorem dX3_close_50 : decode cX3_close 50 = .ok (.istore 6, 2) := dk_54 6 (dk_at dksX3_close_2 4 rfl rfl)
theorem dX3_close_52 : decode cX3_close 52 = .ok (.iload 6, 2) := dk_21 6 (dk_at dksX3_close_2 6 rfl rfl)
theorem dX3_close_54 : decode cX3_close 54 = .ok (.ifCond .eq 29, 3) := dk_153 0 29 (dk_at dksX3_close_2 8 rfl rfl)
theorem dX3_close_57 : decode cX3_close 57 = .ok (.iload_n 3, 1) := dk_29 (dk_at dksX3_close_2 11 rfl rfl)
theorem dX3_close_58 : decode cX3_close 58 = .ok (.iconst (-1), 1) := dk_2 (dk_at dksX3_close_2 12 rfl rfl)
theorem dX3_close_59 : decode cX3_close 59 = .ok (.if_icmp .eq 14, 3) := dk_159 0 14 (dk_at dksX3_close_2 13 rfl rfl)
theorem dX3_close_62 : decode cX3_close 62 = .ok (.iload 4, 2) := dk_21 4 (dk_at dksX3_close_2 16 rfl rfl)
theorem dX3_close_64 : decode cX3_close 64 = .ok (.iload 5, 2) := dk_21 5 (dk_at dksX3_close_2 18 rfl rfl)
theorem dX3_close_66 : decode cX3_close 66 = .ok (.invokestatic 264, 3) := dk_184 1 8 (dk_at dksX3_close_2 20 rfl rfl)
theorem dX3_close_69 : decode cX3_close 69 = .ok (.iload_n 3, 1) := dk_29 (dk_at dksX3_close_2 23 rfl rfl)
theorem dX3_close_70 : decode cX3_close 70 = .ok (.if_icmp .ge 13, 3) := dk_162 0 13 (dk_at dksX3_close_3 0 rfl rfl)
theorem dX3_close_73 : decode cX3_close 73 = .ok (.iload 4, 2) := dk_21 4 (dk_at dksX3_close_3 3 rfl rfl)
theorem dX3_close_75 : decode cX3_close 75 = .ok (.iload 5, 2) := dk_21 5 (dk_at dksX3_close_3 5 rfl rfl)
theorem dX3_close_77 : decode cX3_close 77 = .ok (.invokestatic 264, 3) := dk_184 1 8 (dk_at dksX3_close_3 7 rfl rfl)
theorem dX3_close_80 : decode cX3_close 80 = .ok (.goto 4, 3) := dk_167 0 4 (dk_at dksX3_close_3 10 rfl rfl)
theorem dX3_close_83 : decode cX3_close 83 = .ok (.iload_n 3, 1) := dk_29 (dk_at dksX3_close_3 13 rfl rfl)
theorem dX3_close_84 : decode cX3_close 84 = .ok (.istore_n 3, 1) := dk_62 (dk_at dksX3_close_3 14 rfl rfl)
theorem dX3_close_85 : decode cX3_close 85 = .ok (.iinc 5 1, 3) := dk_132 5 1 (dk_at dksX3_close_3 15 rfl rfl)
theorem dX3_close_88 : decode cX3_close 88 = .ok (.goto (-68), 3) := dk_167 255 188 (dk_at dksX3_close_3 18 rfl rfl)
theorem dX3_close_91 : decode cX3_close 91 = .ok (.iinc 4 1, 3) := dk_132 4 1 (dk_at dksX3_close_3 21 rfl rfl)
theorem dX3_close_94 : decode cX3_close 94 = .ok (.goto (-84), 3) := dk_167 255 172 (dk_at dksX3_close_4 0 rfl rfl)
theorem dX3_close_97 : decode cX3_close 97 = .ok (.iload_n 3, 1) := dk_29 (dk_at dksX3_close_4 3 rfl rfl)
theorem dX3_close_98 : decode cX3_close 98 = .ok (.ireturn, 1) := dk_172 (dk_at dksX3_close_4 4 rfl rfl)
def dkwX3_here_1 : List UInt8 := [167, 0, 11, 10, 42, 180, 0, 47, 29, 46, 121, 129, 64, 132, 3, 1, 167, 255, 222, 31, 173]
abbrev dktX3_here_1 : List UInt8 := dkwX3_here_1 ++ []
def dkwX3_here_0 : List UInt8 := [9, 64, 3, 62, 29, 16, 48, 162, 0, 34, 31, 42, 180, 0, 47, 29, 46, 2, 160, 0, 7, 9]
abbrev dktX3_here_0 : List UInt8 := dkwX3_here_0 ++ dktX3_here_1
theorem dksX3_here_0 : cX3_here.data.toList.drop 0 = dktX3_here_0 := by decide +kernel
theorem dksX3_here_1 : cX3_here.data.toList.drop 22 = dktX3_here_1 := dk_seg dksX3_here_0 22 rfl rfl
theorem dX3_here_0 : decode cX3_here 0 = .ok (.lconst 0, 1) := dk_9 (dk_at dksX3_here_0 0 rfl rfl)
theorem dX3_here_1 : decode cX3_here 1 = .ok (.lstore_n 1, 1) := dk_64 (dk_at dksX3_here_0 1 rfl rfl)
theorem dX3_here_2 : decode cX3_here 2 = .ok (.iconst 0, 1) := dk_3 (dk_at dksX3_here_0 2 rfl rfl)
theorem dX3_here_3 : decode cX3_here 3 = .ok (.istore_n 3, 1) := dk_62 (dk_at dksX3_here_0 3 rfl rfl)
theorem dX3_here_4 : decode cX3_here 4 = .ok (.iload_n 3, 1) := dk_29 (dk_at dksX3_here_0 4 rfl rfl)
theorem dX3_here_5 : decode cX3_here 5 = .ok (.bipush 48, 2) := dk_16 48 (dk_at dksX3_here_0 5 rfl rfl)
theorem dX3_here_7 : decode cX3_here 7 = .ok (.if_icmp .ge 34, 3) := dk_162 0 34 (dk_at dksX3_here_0 7 rfl rfl)
theorem dX3_here_10 : decode cX3_here 10 = .ok (.lload_n 1, 1) := dk_31 (dk_at dksX3_here_0 10 rfl rfl)
theorem dX3_here_11 : decode cX3_here 11 = .ok (.aload_n 0, 1) := dk_42 (dk_at dksX3_here_0 11 rfl rfl)
theorem dX3_here_12 : decode cX3_here 12 = .ok (.getfield 47, 3) := dk_180 0 47 (dk_at dksX3_here_0 12 rfl rfl)
theorem dX3_here_15 : decode cX3_here 15 = .ok (.iload_n 3, 1) := dk_29 (dk_at dksX3_here_0 15 rfl rfl)
theorem dX3_here_16 : decode cX3_here 16 = .ok (.iaload, 1) := dk_46 (dk_at dksX3_here_0 16 rfl rfl)
theorem dX3_here_17 : decode cX3_here 17 = .ok (.iconst (-1), 1) := dk_2 (dk_at dksX3_here_0 17 rfl rfl)
theorem dX3_here_18 : decode cX3_here 18 = .ok (.if_icmp .ne 7, 3) := dk_160 0 7 (dk_at dksX3_here_0 18 rfl rfl)
theorem dX3_here_21 : decode cX3_here 21 = .ok (.lconst 0, 1) := dk_9 (dk_at dksX3_here_0 21 rfl rfl)
theorem dX3_here_22 : decode cX3_here 22 = .ok (.goto 11, 3) := dk_167 0 11 (dk_at dksX3_here_1 0 rfl rfl)
theorem dX3_here_25 : decode cX3_here 25 = .ok (.lconst 1, 1) := dk_10 (dk_at dksX3_here_1 3 rfl rfl)
theorem dX3_here_26 : decode cX3_here 26 = .ok (.aload_n 0, 1) := dk_42 (dk_at dksX3_here_1 4 rfl rfl)
theorem dX3_here_27 : decode cX3_here 27 = .ok (.getfield 47, 3) := dk_180 0 47 (dk_at dksX3_here_1 5 rfl rfl)
theorem dX3_here_30 : decode cX3_here 30 = .ok (.iload_n 3, 1) := dk_29 (dk_at dksX3_here_1 8 rfl rfl)
theorem dX3_here_31 : decode cX3_here 31 = .ok (.iaload, 1) := dk_46 (dk_at dksX3_here_1 9 rfl rfl)
theorem dX3_here_32 : decode cX3_here 32 = .ok (.lshl, 1) := dk_121 (dk_at dksX3_here_1 10 rfl rfl)
theorem dX3_here_33 : decode cX3_here 33 = .ok (.lor, 1) := dk_129 (dk_at dksX3_here_1 11 rfl rfl)
theorem dX3_here_34 : decode cX3_here 34 = .ok (.lstore_n 1, 1) := dk_64 (dk_at dksX3_here_1 12 rfl rfl)
theorem dX3_here_35 : decode cX3_here 35 = .ok (.iinc 3 1, 3) := dk_132 3 1 (dk_at dksX3_here_1 13 rfl rfl)
theorem dX3_here_38 : decode cX3_here 38 = .ok (.goto (-34), 3) := dk_167 255 222 (dk_at dksX3_here_1 16 rfl rfl)
theorem dX3_here_41 : decode cX3_here 41 = .ok (.lload_n 1, 1) := dk_31 (dk_at dksX3_here_1 19 rfl rfl)
theorem dX3_here_42 : decode cX3_here 42 = .ok (.lreturn, 1) := dk_173 (dk_at dksX3_here_1 20 rfl rfl)
def dkwX3_has_0 : List UInt8 := [30, 28, 123, 10, 127, 10, 148, 154, 0, 7, 4, 167, 0, 4, 3, 172]
abbrev dktX3_has_0 : List UInt8 := dkwX3_has_0 ++ []
theorem dksX3_has_0 : cX3_has.data.toList.drop 0 = dktX3_has_0 := by decide +kernel
theorem dX3_has_0 : decode cX3_has 0 = .ok (.lload_n 0, 1) := dk_30 (dk_at dksX3_has_0 0 rfl rfl)
theorem dX3_has_1 : decode cX3_has 1 = .ok (.iload_n 2, 1) := dk_28 (dk_at dksX3_has_0 1 rfl rfl)
theorem dX3_has_2 : decode cX3_has 2 = .ok (.lshr, 1) := dk_123 (dk_at dksX3_has_0 2 rfl rfl)
theorem dX3_has_3 : decode cX3_has 3 = .ok (.lconst 1, 1) := dk_10 (dk_at dksX3_has_0 3 rfl rfl)
theorem dX3_has_4 : decode cX3_has 4 = .ok (.land, 1) := dk_127 (dk_at dksX3_has_0 4 rfl rfl)
theorem dX3_has_5 : decode cX3_has 5 = .ok (.lconst 1, 1) := dk_10 (dk_at dksX3_has_0 5 rfl rfl)
theorem dX3_has_6 : decode cX3_has 6 = .ok (.lcmp, 1) := dk_148 (dk_at dksX3_has_0 6 rfl rfl)
theorem dX3_has_7 : decode cX3_has 7 = .ok (.ifCond .ne 7, 3) := dk_154 0 7 (dk_at dksX3_has_0 7 rfl rfl)
theorem dX3_has_10 : decode cX3_has 10 = .ok (.iconst 1, 1) := dk_4 (dk_at dksX3_has_0 10 rfl rfl)
theorem dX3_has_11 : decode cX3_has 11 = .ok (.goto 4, 3) := dk_167 0 4 (dk_at dksX3_has_0 11 rfl rfl)
theorem dX3_has_14 : decode cX3_has 14 = .ok (.iconst 0, 1) := dk_3 (dk_at dksX3_has_0 14 rfl rfl)
theorem dX3_has_15 : decode cX3_has 15 = .ok (.ireturn, 1) := dk_172 (dk_at dksX3_has_0 15 rfl rfl)
def dkwX3_offOf_0 : List UInt8 := [26, 27, 2, 130, 126, 133, 184, 0, 253, 27, 26, 2, 130, 126, 133, 184, 0, 253, 184, 0, 181, 172]
abbrev dktX3_offOf_0 : List UInt8 := dkwX3_offOf_0 ++ []
theorem dksX3_offOf_0 : cX3_offOf.data.toList.drop 0 = dktX3_offOf_0 := by decide +kernel
theorem dX3_offOf_0 : decode cX3_offOf 0 = .ok (.iload_n 0, 1) := dk_26 (dk_at dksX3_offOf_0 0 rfl rfl)
theorem dX3_offOf_1 : decode cX3_offOf 1 = .ok (.iload_n 1, 1) := dk_27 (dk_at dksX3_offOf_0 1 rfl rfl)
theorem dX3_offOf_2 : decode cX3_offOf 2 = .ok (.iconst (-1), 1) := dk_2 (dk_at dksX3_offOf_0 2 rfl rfl)
theorem dX3_offOf_3 : decode cX3_offOf 3 = .ok (.ixor, 1) := dk_130 (dk_at dksX3_offOf_0 3 rfl rfl)
theorem dX3_offOf_4 : decode cX3_offOf 4 = .ok (.iand, 1) := dk_126 (dk_at dksX3_offOf_0 4 rfl rfl)
theorem dX3_offOf_5 : decode cX3_offOf 5 = .ok (.i2l, 1) := dk_133 (dk_at dksX3_offOf_0 5 rfl rfl)
theorem dX3_offOf_6 : decode cX3_offOf 6 = .ok (.invokestatic 253, 3) := dk_184 0 253 (dk_at dksX3_offOf_0 6 rfl rfl)
theorem dX3_offOf_9 : decode cX3_offOf 9 = .ok (.iload_n 1, 1) := dk_27 (dk_at dksX3_offOf_0 9 rfl rfl)
theorem dX3_offOf_10 : decode cX3_offOf 10 = .ok (.iload_n 0, 1) := dk_26 (dk_at dksX3_offOf_0 10 rfl rfl)
theorem dX3_offOf_11 : decode cX3_offOf 11 = .ok (.iconst (-1), 1) := dk_2 (dk_at dksX3_offOf_0 11 rfl rfl)
theorem dX3_offOf_12 : decode cX3_offOf 12 = .ok (.ixor, 1) := dk_130 (dk_at dksX3_offOf_0 12 rfl rfl)
theorem dX3_offOf_13 : decode cX3_offOf 13 = .ok (.iand, 1) := dk_126 (dk_at dksX3_offOf_0 13 rfl rfl)
theorem dX3_offOf_14 : decode cX3_offOf 14 = .ok (.i2l, 1) := dk_133 (dk_at dksX3_offOf_0 14 rfl rfl)
theorem dX3_offOf_15 : decode cX3_offOf 15 = .ok (.invokestatic 253, 3) := dk_184 0 253 (dk_at dksX3_offOf_0 15 rfl rfl)
theorem dX3_offOf_18 : decode cX3_offOf 18 = .ok (.invokestatic 181, 3) := dk_184 0 181 (dk_at dksX3_offOf_0 18 rfl rfl)
theorem dX3_offOf_21 : decode cX3_offOf 21 = .ok (.ireturn, 1) := dk_172 (dk_at dksX3_offOf_0 21 rfl rfl)
def dkwX3_ones_1 : List UInt8 := [96, 61, 132, 3, 1, 167, 255, 231, 28, 172]
abbrev dktX3_ones_1 : List UInt8 := dkwX3_ones_1 ++ []
def dkwX3_ones_0 : List UInt8 := [3, 61, 3, 62, 29, 16, 32, 162, 0, 25, 28, 30, 29, 184, 0, 115, 153, 0, 7, 4, 167, 0, 4, 3]
abbrev dktX3_ones_0 : List UInt8 := dkwX3_ones_0 ++ dktX3_ones_1
theorem dksX3_ones_0 : cX3_ones.data.toList.drop 0 = dktX3_ones_0 := by decide +kernel
theorem dksX3_ones_1 : cX3_ones.data.toList.drop 24 = dktX3_ones_1 := dk_seg dksX3_ones_0 24 rfl rfl
theorem dX3_ones_0 : decode cX3_ones 0 = .ok (.iconst 0, 1) := dk_3 (dk_at dksX3_ones_0 0 rfl rfl)
theorem dX3_ones_1 : decode cX3_ones 1 = .ok (.istore_n 2, 1) := dk_61 (dk_at dksX3_ones_0 1 rfl rfl)
theorem dX3_ones_2 : decode cX3_ones 2 = .ok (.iconst 0, 1) := dk_3 (dk_at dksX3_ones_0 2 rfl rfl)
theorem dX3_ones_3 : decode cX3_ones 3 = .ok (.istore_n 3, 1) := dk_62 (dk_at dksX3_ones_0 3 rfl rfl)
theorem dX3_ones_4 : decode cX3_ones 4 = .ok (.iload_n 3, 1) := dk_29 (dk_at dksX3_ones_0 4 rfl rfl)
theorem dX3_ones_5 : decode cX3_ones 5 = .ok (.bipush 32, 2) := dk_16 32 (dk_at dksX3_ones_0 5 rfl rfl)
theorem dX3_ones_7 : decode cX3_ones 7 = .ok (.if_icmp .ge 25, 3) := dk_162 0 25 (dk_at dksX3_ones_0 7 rfl rfl)
theorem dX3_ones_10 : decode cX3_ones 10 = .ok (.iload_n 2, 1) := dk_28 (dk_at dksX3_ones_0 10 rfl rfl)
theorem dX3_ones_11 : decode cX3_ones 11 = .ok (.lload_n 0, 1) := dk_30 (dk_at dksX3_ones_0 11 rfl rfl)
theorem dX3_ones_12 : decode cX3_ones 12 = .ok (.iload_n 3, 1) := dk_29 (dk_at dksX3_ones_0 12 rfl rfl)
theorem dX3_ones_13 : decode cX3_ones 13 = .ok (.invokestatic 115, 3) := dk_184 0 115 (dk_at dksX3_ones_0 13 rfl rfl)
theorem dX3_ones_16 : decode cX3_ones 16 = .ok (.ifCond .eq 7, 3) := dk_153 0 7 (dk_at dksX3_ones_0 16 rfl rfl)
theorem dX3_ones_19 : decode cX3_ones 19 = .ok (.iconst 1, 1) := dk_4 (dk_at dksX3_ones_0 19 rfl rfl)
theorem dX3_ones_20 : decode cX3_ones 20 = .ok (.goto 4, 3) := dk_167 0 4 (dk_at dksX3_ones_0 20 rfl rfl)
theorem dX3_ones_23 : decode cX3_ones 23 = .ok (.iconst 0, 1) := dk_3 (dk_at dksX3_ones_0 23 rfl rfl)
theorem dX3_ones_24 : decode cX3_ones 24 = .ok (.iadd, 1) := dk_96 (dk_at dksX3_ones_1 0 rfl rfl)
theorem dX3_ones_25 : decode cX3_ones 25 = .ok (.istore_n 2, 1) := dk_61 (dk_at dksX3_ones_1 1 rfl rfl)
theorem dX3_ones_26 : decode cX3_ones 26 = .ok (.iinc 3 1, 3) := dk_132 3 1 (dk_at dksX3_ones_1 2 rfl rfl)
theorem dX3_ones_29 : decode cX3_ones 29 = .ok (.goto (-25), 3) := dk_167 255 231 (dk_at dksX3_ones_1 5 rfl rfl)
theorem dX3_ones_32 : decode cX3_ones 32 = .ok (.iload_n 2, 1) := dk_28 (dk_at dksX3_ones_1 8 rfl rfl)
theorem dX3_ones_33 : decode cX3_ones 33 = .ok (.ireturn, 1) := dk_172 (dk_at dksX3_ones_1 9 rfl rfl)
def dkwX3_tablets_1 : List UInt8 := [167, 255, 237, 27, 172]
abbrev dktX3_tablets_1 : List UInt8 := dkwX3_tablets_1 ++ []
def dkwX3_tablets_0 : List UInt8 := [3, 60, 3, 61, 28, 42, 180, 0, 243, 162, 0, 17, 27, 42, 28, 182, 0, 249, 96, 60, 132, 2, 1]
abbrev dktX3_tablets_0 : List UInt8 := dkwX3_tablets_0 ++ dktX3_tablets_1
theorem dksX3_tablets_0 : cX3_tablets.data.toList.drop 0 = dktX3_tablets_0 := by decide +kernel
theorem dksX3_tablets_1 : cX3_tablets.data.toList.drop 23 = dktX3_tablets_1 := dk_seg dksX3_tablets_0 23 rfl rfl
theorem dX3_tablets_0 : decode cX3_tablets 0 = .ok (.iconst 0, 1) := dk_3 (dk_at dksX3_tablets_0 0 rfl rfl)
theorem dX3_tablets_1 : decode cX3_tablets 1 = .ok (.istore_n 1, 1) := dk_60 (dk_at dksX3_tablets_0 1 rfl rfl)
theorem dX3_tablets_2 : decode cX3_tablets 2 = .ok (.iconst 0, 1) := dk_3 (dk_at dksX3_tablets_0 2 rfl rfl)
theorem dX3_tablets_3 : decode cX3_tablets 3 = .ok (.istore_n 2, 1) := dk_61 (dk_at dksX3_tablets_0 3 rfl rfl)
theorem dX3_tablets_4 : decode cX3_tablets 4 = .ok (.iload_n 2, 1) := dk_28 (dk_at dksX3_tablets_0 4 rfl rfl)
theorem dX3_tablets_5 : decode cX3_tablets 5 = .ok (.aload_n 0, 1) := dk_42 (dk_at dksX3_tablets_0 5 rfl rfl)
theorem dX3_tablets_6 : decode cX3_tablets 6 = .ok (.getfield 243, 3) := dk_180 0 243 (dk_at dksX3_tablets_0 6 rfl rfl)
theorem dX3_tablets_9 : decode cX3_tablets 9 = .ok (.if_icmp .ge 17, 3) := dk_162 0 17 (dk_at dksX3_tablets_0 9 rfl rfl)
theorem dX3_tablets_12 : decode cX3_tablets 12 = .ok (.iload_n 1, 1) := dk_27 (dk_at dksX3_tablets_0 12 rfl rfl)
theorem dX3_tablets_13 : decode cX3_tablets 13 = .ok (.aload_n 0, 1) := dk_42 (dk_at dksX3_tablets_0 13 rfl rfl)
theorem dX3_tablets_14 : decode cX3_tablets 14 = .ok (.iload_n 2, 1) := dk_28 (dk_at dksX3_tablets_0 14 rfl rfl)
theorem dX3_tablets_15 : decode cX3_tablets 15 = .ok (.invokevirtual 249, 3) := dk_182 0 249 (dk_at dksX3_tablets_0 15 rfl rfl)
theorem dX3_tablets_18 : decode cX3_tablets 18 = .ok (.iadd, 1) := dk_96 (dk_at dksX3_tablets_0 18 rfl rfl)
theorem dX3_tablets_19 : decode cX3_tablets 19 = .ok (.istore_n 1, 1) := dk_60 (dk_at dksX3_tablets_0 19 rfl rfl)
theorem dX3_tablets_20 : decode cX3_tablets 20 = .ok (.iinc 2 1, 3) := dk_132 2 1 (dk_at dksX3_tablets_0 20 rfl rfl)
theorem dX3_tablets_23 : decode cX3_tablets 23 = .ok (.goto (-19), 3) := dk_167 255 237 (dk_at dksX3_tablets_1 0 rfl rfl)
theorem dX3_tablets_26 : decode cX3_tablets 26 = .ok (.iload_n 1, 1) := dk_27 (dk_at dksX3_tablets_1 3 rfl rfl)
theorem dX3_tablets_27 : decode cX3_tablets 27 = .ok (.ireturn, 1) := dk_172 (dk_at dksX3_tablets_1 4 rfl rfl)
def dkwX3_tabletsOn_1 : List UInt8 := [96, 46, 2, 159, 0, 7, 4, 167, 0, 4, 3, 96, 61, 132, 3, 1, 167, 255, 220, 28, 172]
abbrev dktX3_tabletsOn_1 : List UInt8 := dkwX3_tabletsOn_1 ++ []
def dkwX3_tabletsOn_0 : List UInt8 := [3, 61, 3, 62, 29, 42, 180, 0, 41, 27, 46, 162, 0, 32, 28, 42, 180, 0, 47, 16, 12, 27, 104, 29]
abbrev dktX3_tabletsOn_0 : List UInt8 := dkwX3_tabletsOn_0 ++ dktX3_tabletsOn_1
theorem dksX3_tabletsOn_0 : cX3_tabletsOn.data.toList.drop 0 = dktX3_tabletsOn_0 := by decide +kernel
theorem dksX3_tabletsOn_1 : cX3_tabletsOn.data.toList.drop 24 = dktX3_tabletsOn_1 := dk_seg dksX3_tabletsOn_0 24 rfl rfl
theorem dX3_tabletsOn_0 : decode cX3_tabletsOn 0 = .ok (.iconst 0, 1) := dk_3 (dk_at dksX3_tabletsOn_0 0 rfl rfl)
theorem dX3_tabletsOn_1 : decode cX3_tabletsOn 1 = .ok (.istore_n 2, 1) := dk_61 (dk_at dksX3_tabletsOn_0 1 rfl rfl)
theorem dX3_tabletsOn_2 : decode cX3_tabletsOn 2 = .ok (.iconst 0, 1) := dk_3 (dk_at dksX3_tabletsOn_0 2 rfl rfl)
theorem dX3_tabletsOn_3 : decode cX3_tabletsOn 3 = .ok (.istore_n 3, 1) := dk_62 (dk_at dksX3_tabletsOn_0 3 rfl rfl)
theorem dX3_tabletsOn_4 : decode cX3_tabletsOn 4 = .ok (.iload_n 3, 1) := dk_29 (dk_at dksX3_tabletsOn_0 4 rfl rfl)
theorem dX3_tabletsOn_5 : decode cX3_tabletsOn 5 = .ok (.aload_n 0, 1) := dk_42 (dk_at dksX3_tabletsOn_0 5 rfl rfl)
theorem dX3_tabletsOn_6 : decode cX3_tabletsOn 6 = .ok (.getfield 41, 3) := dk_180 0 41 (dk_at dksX3_tabletsOn_0 6 rfl rfl)
theorem dX3_tabletsOn_9 : decode cX3_tabletsOn 9 = .ok (.iload_n 1, 1) := dk_27 (dk_at dksX3_tabletsOn_0 9 rfl rfl)
theorem dX3_tabletsOn_10 : decode cX3_tabletsOn 10 = .ok (.iaload, 1) := dk_46 (dk_at dksX3_tabletsOn_0 10 rfl rfl)
theorem dX3_tabletsOn_11 : decode cX3_tabletsOn 11 = .ok (.if_icmp .ge 32, 3) := dk_162 0 32 (dk_at dksX3_tabletsOn_0 11 rfl rfl)
theorem dX3_tabletsOn_14 : decode cX3_tabletsOn 14 = .ok (.iload_n 2, 1) := dk_28 (dk_at dksX3_tabletsOn_0 14 rfl rfl)
theorem dX3_tabletsOn_15 : decode cX3_tabletsOn 15 = .ok (.aload_n 0, 1) := dk_42 (dk_at dksX3_tabletsOn_0 15 rfl rfl)
theorem dX3_tabletsOn_16 : decode cX3_tabletsOn 16 = .ok (.getfield 47, 3) := dk_180 0 47 (dk_at dksX3_tabletsOn_0 16 rfl rfl)
theorem dX3_tabletsOn_19 : decode cX3_tabletsOn 19 = .ok (.bipush 12, 2) := dk_16 12 (dk_at dksX3_tabletsOn_0 19 rfl rfl)
theorem dX3_tabletsOn_21 : decode cX3_tabletsOn 21 = .ok (.iload_n 1, 1) := dk_27 (dk_at dksX3_tabletsOn_0 21 rfl rfl)
theorem dX3_tabletsOn_22 : decode cX3_tabletsOn 22 = .ok (.imul, 1) := dk_104 (dk_at dksX3_tabletsOn_0 22 rfl rfl)
theorem dX3_tabletsOn_23 : decode cX3_tabletsOn 23 = .ok (.iload_n 3, 1) := dk_29 (dk_at dksX3_tabletsOn_0 23 rfl rfl)
theorem dX3_tabletsOn_24 : decode cX3_tabletsOn 24 = .ok (.iadd, 1) := dk_96 (dk_at dksX3_tabletsOn_1 0 rfl rfl)
theorem dX3_tabletsOn_25 : decode cX3_tabletsOn 25 = .ok (.iaload, 1) := dk_46 (dk_at dksX3_tabletsOn_1 1 rfl rfl)
theorem dX3_tabletsOn_26 : decode cX3_tabletsOn 26 = .ok (.iconst (-1), 1) := dk_2 (dk_at dksX3_tabletsOn_1 2 rfl rfl)
theorem dX3_tabletsOn_27 : decode cX3_tabletsOn 27 = .ok (.if_icmp .eq 7, 3) := dk_159 0 7 (dk_at dksX3_tabletsOn_1 3 rfl rfl)
theorem dX3_tabletsOn_30 : decode cX3_tabletsOn 30 = .ok (.iconst 1, 1) := dk_4 (dk_at dksX3_tabletsOn_1 6 rfl rfl)
theorem dX3_tabletsOn_31 : decode cX3_tabletsOn 31 = .ok (.goto 4, 3) := dk_167 0 4 (dk_at dksX3_tabletsOn_1 7 rfl rfl)
theorem dX3_tabletsOn_34 : decode cX3_tabletsOn 34 = .ok (.iconst 0, 1) := dk_3 (dk_at dksX3_tabletsOn_1 10 rfl rfl)
theorem dX3_tabletsOn_35 : decode cX3_tabletsOn 35 = .ok (.iadd, 1) := dk_96 (dk_at dksX3_tabletsOn_1 11 rfl rfl)
theorem dX3_tabletsOn_36 : decode cX3_tabletsOn 36 = .ok (.istore_n 2, 1) := dk_61 (dk_at dksX3_tabletsOn_1 12 rfl rfl)
theorem dX3_tabletsOn_37 : decode cX3_tabletsOn 37 = .ok (.iinc 3 1, 3) := dk_132 3 1 (dk_at dksX3_tabletsOn_1 13 rfl rfl)
theorem dX3_tabletsOn_40 : decode cX3_tabletsOn 40 = .ok (.goto (-36), 3) := dk_167 255 220 (dk_at dksX3_tabletsOn_1 16 rfl rfl)
theorem dX3_tabletsOn_43 : decode cX3_tabletsOn 43 = .ok (.iload_n 2, 1) := dk_28 (dk_at dksX3_tabletsOn_1 19 rfl rfl)
theorem dX3_tabletsOn_44 : decode cX3_tabletsOn 44 = .ok (.ireturn, 1) := dk_172 (dk_at dksX3_tabletsOn_1 20 rfl rfl)
def dkwX3_even_7 : List UInt8 := [3, 167, 0, 4, 28, 172]
abbrev dktX3_even_7 : List UInt8 := dkwX3_even_7 ++ []
def dkwX3_even_6 : List UInt8 := [28, 162, 0, 8, 21, 4, 167, 0, 4, 28, 61, 132, 3, 1, 167, 255, 109, 42, 180, 0, 243, 154, 0, 7]
abbrev dktX3_even_6 : List UInt8 := dkwX3_even_6 ++ dktX3_even_7
def dkwX3_even_5 : List UInt8 := [184, 0, 181, 96, 54, 4, 132, 6, 1, 167, 255, 178, 21, 5, 153, 0, 19, 28, 2, 159, 0, 9, 21, 4]
abbrev dktX3_even_5 : List UInt8 := dkwX3_even_5 ++ dktX3_even_6
def dkwX3_even_4 : List UInt8 := [46, 163, 0, 7, 4, 167, 0, 4, 3, 54, 5, 21, 4, 3, 42, 21, 6, 182, 0, 249, 21, 7, 100]
abbrev dktX3_even_4 : List UInt8 := dkwX3_even_4 ++ dktX3_even_5
def dkwX3_even_3 : List UInt8 := [153, 0, 7, 4, 167, 0, 4, 3, 96, 54, 7, 21, 5, 153, 0, 19, 21, 7, 42, 180, 0, 41, 21, 6]
abbrev dktX3_even_3 : List UInt8 := dkwX3_even_3 ++ dktX3_even_4
def dkwX3_even_2 : List UInt8 := [54, 6, 21, 6, 42, 180, 0, 243, 162, 0, 75, 27, 42, 180, 0, 243, 108, 29, 133, 21, 6, 184, 0, 115]
abbrev dktX3_even_2 : List UInt8 := dkwX3_even_2 ++ dktX3_even_3
def dkwX3_even_1 : List UInt8 := [158, 0, 136, 29, 133, 184, 0, 253, 27, 42, 180, 0, 243, 112, 160, 0, 116, 3, 54, 4, 4, 54, 5, 3]
abbrev dktX3_even_1 : List UInt8 := dkwX3_even_1 ++ dktX3_even_2
def dkwX3_even_0 : List UInt8 := [42, 182, 1, 11, 60, 2, 61, 3, 62, 29, 4, 42, 180, 0, 243, 120, 162, 0, 143, 42, 180, 0, 243]
abbrev dktX3_even_0 : List UInt8 := dkwX3_even_0 ++ dktX3_even_1
theorem dksX3_even_0 : cX3_even.data.toList.drop 0 = dktX3_even_0 := by decide +kernel
theorem dksX3_even_1 : cX3_even.data.toList.drop 23 = dktX3_even_1 := dk_seg dksX3_even_0 23 rfl rfl
theorem dksX3_even_2 : cX3_even.data.toList.drop 47 = dktX3_even_2 := dk_seg dksX3_even_1 24 rfl rfl
theorem dksX3_even_3 : cX3_even.data.toList.drop 71 = dktX3_even_3 := dk_seg dksX3_even_2 24 rfl rfl
theorem dksX3_even_4 : cX3_even.data.toList.drop 95 = dktX3_even_4 := dk_seg dksX3_even_3 24 rfl rfl
theorem dksX3_even_5 : cX3_even.data.toList.drop 118 = dktX3_even_5 := dk_seg dksX3_even_4 23 rfl rfl
theorem dksX3_even_6 : cX3_even.data.toList.drop 142 = dktX3_even_6 := dk_seg dksX3_even_5 24 rfl rfl
theorem dksX3_even_7 : cX3_even.data.toList.drop 166 = dktX3_even_7 := dk_seg dksX3_even_6 24 rfl rfl
theorem dX3_even_0 : decode cX3_even 0 = .ok (.aload_n 0, 1) := dk_42 (dk_at dksX3_even_0 0 rfl rfl)
theorem dX3_even_1 : decode cX3_even 1 = .ok (.invokevirtual 267, 3) := dk_182 1 11 (dk_at dksX3_even_0 1 rfl rfl)
theorem dX3_even_4 : decode cX3_even 4 = .ok (.istore_n 1, 1) := dk_60 (dk_at dksX3_even_0 4 rfl rfl)
theorem dX3_even_5 : decode cX3_even 5 = .ok (.iconst (-1), 1) := dk_2 (dk_at dksX3_even_0 5 rfl rfl)
theorem dX3_even_6 : decode cX3_even 6 = .ok (.istore_n 2, 1) := dk_61 (dk_at dksX3_even_0 6 rfl rfl)
theorem dX3_even_7 : decode cX3_even 7 = .ok (.iconst 0, 1) := dk_3 (dk_at dksX3_even_0 7 rfl rfl)
theorem dX3_even_8 : decode cX3_even 8 = .ok (.istore_n 3, 1) := dk_62 (dk_at dksX3_even_0 8 rfl rfl)
theorem dX3_even_9 : decode cX3_even 9 = .ok (.iload_n 3, 1) := dk_29 (dk_at dksX3_even_0 9 rfl rfl)
theorem dX3_even_10 : decode cX3_even 10 = .ok (.iconst 1, 1) := dk_4 (dk_at dksX3_even_0 10 rfl rfl)
theorem dX3_even_11 : decode cX3_even 11 = .ok (.aload_n 0, 1) := dk_42 (dk_at dksX3_even_0 11 rfl rfl)
theorem dX3_even_12 : decode cX3_even 12 = .ok (.getfield 243, 3) := dk_180 0 243 (dk_at dksX3_even_0 12 rfl rfl)
theorem dX3_even_15 : decode cX3_even 15 = .ok (.ishl, 1) := dk_120 (dk_at dksX3_even_0 15 rfl rfl)
theorem dX3_even_16 : decode cX3_even 16 = .ok (.if_icmp .ge 143, 3) := dk_162 0 143 (dk_at dksX3_even_0 16 rfl rfl)
theorem dX3_even_19 : decode cX3_even 19 = .ok (.aload_n 0, 1) := dk_42 (dk_at dksX3_even_0 19 rfl rfl)
theorem dX3_even_20 : decode cX3_even 20 = .ok (.getfield 243, 3) := dk_180 0 243 (dk_at dksX3_even_0 20 rfl rfl)
theorem dX3_even_23 : decode cX3_even 23 = .ok (.ifCond .le 136, 3) := dk_158 0 136 (dk_at dksX3_even_1 0 rfl rfl)
theorem dX3_even_26 : decode cX3_even 26 = .ok (.iload_n 3, 1) := dk_29 (dk_at dksX3_even_1 3 rfl rfl)
theorem dX3_even_27 : decode cX3_even 27 = .ok (.i2l, 1) := dk_133 (dk_at dksX3_even_1 4 rfl rfl)
theorem dX3_even_28 : decode cX3_even 28 = .ok (.invokestatic 253, 3) := dk_184 0 253 (dk_at dksX3_even_1 5 rfl rfl)
theorem dX3_even_31 : decode cX3_even 31 = .ok (.iload_n 1, 1) := dk_27 (dk_at dksX3_even_1 8 rfl rfl)
theorem dX3_even_32 : decode cX3_even 32 = .ok (.aload_n 0, 1) := dk_42 (dk_at dksX3_even_1 9 rfl rfl)
theorem dX3_even_33 : decode cX3_even 33 = .ok (.getfield 243, 3) := dk_180 0 243 (dk_at dksX3_even_1 10 rfl rfl)
theorem dX3_even_36 : decode cX3_even 36 = .ok (.irem, 1) := dk_112 (dk_at dksX3_even_1 13 rfl rfl)
theorem dX3_even_37 : decode cX3_even 37 = .ok (.if_icmp .ne 116, 3) := dk_160 0 116 (dk_at dksX3_even_1 14 rfl rfl)
theorem dX3_even_40 : decode cX3_even 40 = .ok (.iconst 0, 1) := dk_3 (dk_at dksX3_even_1 17 rfl rfl)
theorem dX3_even_41 : decode cX3_even 41 = .ok (.istore 4, 2) := dk_54 4 (dk_at dksX3_even_1 18 rfl rfl)
theorem dX3_even_43 : decode cX3_even 43 = .ok (.iconst 1, 1) := dk_4 (dk_at dksX3_even_1 20 rfl rfl)
theorem dX3_even_44 : decode cX3_even 44 = .ok (.istore 5, 2) := dk_54 5 (dk_at dksX3_even_1 21 rfl rfl)
theorem dX3_even_46 : decode cX3_even 46 = .ok (.iconst 0, 1) := dk_3 (dk_at dksX3_even_1 23 rfl rfl)
theorem dX3_even_47 : decode cX3_even 47 = .ok (.istore 6, 2) := dk_54 6 (dk_at dksX3_even_2 0 rfl rfl)
theorem dX3_even_49 : decode cX3_even 49 = .ok (.iload 6, 2) := dk_21 6 (dk_at dksX3_even_2 2 rfl rfl)
theorem dX3_even_51 : decode cX3_even 51 = .ok (.aload_n 0, 1) := dk_42 (dk_at dksX3_even_2 4 rfl rfl)
theorem dX3_even_52 : decode cX3_even 52 = .ok (.getfield 243, 3) := dk_180 0 243 (dk_at dksX3_even_2 5 rfl rfl)
theorem dX3_even_55 : decode cX3_even 55 = .ok (.if_icmp .ge 75, 3) := dk_162 0 75 (dk_at dksX3_even_2 8 rfl rfl)
theorem dX3_even_58 : decode cX3_even 58 = .ok (.iload_n 1, 1) := dk_27 (dk_at dksX3_even_2 11 rfl rfl)
theorem dX3_even_59 : decode cX3_even 59 = .ok (.aload_n 0, 1) := dk_42 (dk_at dksX3_even_2 12 rfl rfl)
theorem dX3_even_60 : decode cX3_even 60 = .ok (.getfield 243, 3) := dk_180 0 243 (dk_at dksX3_even_2 13 rfl rfl)
theorem dX3_even_63 : decode cX3_even 63 = .ok (.idiv, 1) := dk_108 (dk_at dksX3_even_2 16 rfl rfl)
theorem dX3_even_64 : decode cX3_even 64 = .ok (.iload_n 3, 1) := dk_29 (dk_at dksX3_even_2 17 rfl rfl)
theorem dX3_even_65 : decode cX3_even 65 = .ok (.i2l, 1) := dk_133 (dk_at dksX3_even_2 18 rfl rfl)
theorem dX3_even_66 : decode cX3_even 66 = .ok (.iload 6, 2) := dk_21 6 (dk_at dksX3_even_2 19 rfl rfl)
theorem dX3_even_68 : decode cX3_even 68 = .ok (.invokestatic 115, 3) := dk_184 0 115 (dk_at dksX3_even_2 21 rfl rfl)
theorem dX3_even_71 : decode cX3_even 71 = .ok (.ifCond .eq 7, 3) := dk_153 0 7 (dk_at dksX3_even_3 0 rfl rfl)
theorem dX3_even_74 : decode cX3_even 74 = .ok (.iconst 1, 1) := dk_4 (dk_at dksX3_even_3 3 rfl rfl)
theorem dX3_even_75 : decode cX3_even 75 = .ok (.goto 4, 3) := dk_167 0 4 (dk_at dksX3_even_3 4 rfl rfl)
theorem dX3_even_78 : decode cX3_even 78 = .ok (.iconst 0, 1) := dk_3 (dk_at dksX3_even_3 7 rfl rfl)
theorem dX3_even_79 : decode cX3_even 79 = .ok (.iadd, 1) := dk_96 (dk_at dksX3_even_3 8 rfl rfl)
theorem dX3_even_80 : decode cX3_even 80 = .ok (.istore 7, 2) := dk_54 7 (dk_at dksX3_even_3 9 rfl rfl)
theorem dX3_even_82 : decode cX3_even 82 = .ok (.iload 5, 2) := dk_21 5 (dk_at dksX3_even_3 11 rfl rfl)
theorem dX3_even_84 : decode cX3_even 84 = .ok (.ifCond .eq 19, 3) := dk_153 0 19 (dk_at dksX3_even_3 13 rfl rfl)
theorem dX3_even_87 : decode cX3_even 87 = .ok (.iload 7, 2) := dk_21 7 (dk_at dksX3_even_3 16 rfl rfl)
theorem dX3_even_89 : decode cX3_even 89 = .ok (.aload_n 0, 1) := dk_42 (dk_at dksX3_even_3 18 rfl rfl)
theorem dX3_even_90 : decode cX3_even 90 = .ok (.getfield 41, 3) := dk_180 0 41 (dk_at dksX3_even_3 19 rfl rfl)
theorem dX3_even_93 : decode cX3_even 93 = .ok (.iload 6, 2) := dk_21 6 (dk_at dksX3_even_3 22 rfl rfl)
theorem dX3_even_95 : decode cX3_even 95 = .ok (.iaload, 1) := dk_46 (dk_at dksX3_even_4 0 rfl rfl)
theorem dX3_even_96 : decode cX3_even 96 = .ok (.if_icmp .gt 7, 3) := dk_163 0 7 (dk_at dksX3_even_4 1 rfl rfl)
theorem dX3_even_99 : decode cX3_even 99 = .ok (.iconst 1, 1) := dk_4 (dk_at dksX3_even_4 4 rfl rfl)
theorem dX3_even_100 : decode cX3_even 100 = .ok (.goto 4, 3) := dk_167 0 4 (dk_at dksX3_even_4 5 rfl rfl)
theorem dX3_even_103 : decode cX3_even 103 = .ok (.iconst 0, 1) := dk_3 (dk_at dksX3_even_4 8 rfl rfl)
theorem dX3_even_104 : decode cX3_even 104 = .ok (.istore 5, 2) := dk_54 5 (dk_at dksX3_even_4 9 rfl rfl)
theorem dX3_even_106 : decode cX3_even 106 = .ok (.iload 4, 2) := dk_21 4 (dk_at dksX3_even_4 11 rfl rfl)
theorem dX3_even_108 : decode cX3_even 108 = .ok (.iconst 0, 1) := dk_3 (dk_at dksX3_even_4 13 rfl rfl)
theorem dX3_even_109 : decode cX3_even 109 = .ok (.aload_n 0, 1) := dk_42 (dk_at dksX3_even_4 14 rfl rfl)
theorem dX3_even_110 : decode cX3_even 110 = .ok (.iload 6, 2) := dk_21 6 (dk_at dksX3_even_4 15 rfl rfl)
theorem dX3_even_112 : decode cX3_even 112 = .ok (.invokevirtual 249, 3) := dk_182 0 249 (dk_at dksX3_even_4 17 rfl rfl)
theorem dX3_even_115 : decode cX3_even 115 = .ok (.iload 7, 2) := dk_21 7 (dk_at dksX3_even_4 20 rfl rfl)
theorem dX3_even_117 : decode cX3_even 117 = .ok (.isub, 1) := dk_100 (dk_at dksX3_even_4 22 rfl rfl)
theorem dX3_even_118 : decode cX3_even 118 = .ok (.invokestatic 181, 3) := dk_184 0 181 (dk_at dksX3_even_5 0 rfl rfl)
theorem dX3_even_121 : decode cX3_even 121 = .ok (.iadd, 1) := dk_96 (dk_at dksX3_even_5 3 rfl rfl)
theorem dX3_even_122 : decode cX3_even 122 = .ok (.istore 4, 2) := dk_54 4 (dk_at dksX3_even_5 4 rfl rfl)
theorem dX3_even_124 : decode cX3_even 124 = .ok (.iinc 6 1, 3) := dk_132 6 1 (dk_at dksX3_even_5 6 rfl rfl)
theorem dX3_even_127 : decode cX3_even 127 = .ok (.goto (-78), 3) := dk_167 255 178 (dk_at dksX3_even_5 9 rfl rfl)
theorem dX3_even_130 : decode cX3_even 130 = .ok (.iload 5, 2) := dk_21 5 (dk_at dksX3_even_5 12 rfl rfl)
theorem dX3_even_132 : decode cX3_even 132 = .ok (.ifCond .eq 19, 3) := dk_153 0 19 (dk_at dksX3_even_5 14 rfl rfl)
theorem dX3_even_135 : decode cX3_even 135 = .ok (.iload_n 2, 1) := dk_28 (dk_at dksX3_even_5 17 rfl rfl)
theorem dX3_even_136 : decode cX3_even 136 = .ok (.iconst (-1), 1) := dk_2 (dk_at dksX3_even_5 18 rfl rfl)
theorem dX3_even_137 : decode cX3_even 137 = .ok (.if_icmp .eq 9, 3) := dk_159 0 9 (dk_at dksX3_even_5 19 rfl rfl)
theorem dX3_even_140 : decode cX3_even 140 = .ok (.iload 4, 2) := dk_21 4 (dk_at dksX3_even_5 22 rfl rfl)
theorem dX3_even_142 : decode cX3_even 142 = .ok (.iload_n 2, 1) := dk_28 (dk_at dksX3_even_6 0 rfl rfl)
theorem dX3_even_143 : decode cX3_even 143 = .ok (.if_icmp .ge 8, 3) := dk_162 0 8 (dk_at dksX3_even_6 1 rfl rfl)
theorem dX3_even_146 : decode cX3_even 146 = .ok (.iload 4, 2) := dk_21 4 (dk_at dksX3_even_6 4 rfl rfl)
theorem dX3_even_148 : decode cX3_even 148 = .ok (.goto 4, 3) := dk_167 0 4 (dk_at dksX3_even_6 6 rfl rfl)
theorem dX3_even_151 : decode cX3_even 151 = .ok (.iload_n 2, 1) := dk_28 (dk_at dksX3_even_6 9 rfl rfl)
theorem dX3_even_152 : decode cX3_even 152 = .ok (.istore_n 2, 1) := dk_61 (dk_at dksX3_even_6 10 rfl rfl)
theorem dX3_even_153 : decode cX3_even 153 = .ok (.iinc 3 1, 3) := dk_132 3 1 (dk_at dksX3_even_6 11 rfl rfl)
theorem dX3_even_156 : decode cX3_even 156 = .ok (.goto (-147), 3) := dk_167 255 109 (dk_at dksX3_even_6 14 rfl rfl)
theorem dX3_even_159 : decode cX3_even 159 = .ok (.aload_n 0, 1) := dk_42 (dk_at dksX3_even_6 17 rfl rfl)
theorem dX3_even_160 : decode cX3_even 160 = .ok (.getfield 243, 3) := dk_180 0 243 (dk_at dksX3_even_6 18 rfl rfl)
theorem dX3_even_163 : decode cX3_even 163 = .ok (.ifCond .ne 7, 3) := dk_154 0 7 (dk_at dksX3_even_6 21 rfl rfl)
theorem dX3_even_166 : decode cX3_even 166 = .ok (.iconst 0, 1) := dk_3 (dk_at dksX3_even_7 0 rfl rfl)
theorem dX3_even_167 : decode cX3_even 167 = .ok (.goto 4, 3) := dk_167 0 4 (dk_at dksX3_even_7 1 rfl rfl)
theorem dX3_even_170 : decode cX3_even 170 = .ok (.iload_n 2, 1) := dk_28 (dk_at dksX3_even_7 4 rfl rfl)
theorem dX3_even_171 : decode cX3_even 171 = .ok (.ireturn, 1) := dk_172 (dk_at dksX3_even_7 5 rfl rfl)
def dkwX3_shelf_5 : List UInt8 := [182, 1, 86, 172]
abbrev dktX3_shelf_5 : List UInt8 := dkwX3_shelf_5 ++ []
def dkwX3_shelf_4 : List UInt8 := [154, 0, 7, 4, 167, 0, 4, 3, 172, 42, 182, 1, 83, 172, 42, 182, 1, 80, 172, 42, 28, 29]
abbrev dktX3_shelf_4 : List UInt8 := dkwX3_shelf_4 ++ dktX3_shelf_5
def dkwX3_shelf_3 : List UInt8 := [42, 180, 0, 41, 28, 46, 172, 42, 180, 1, 74, 172, 42, 180, 0, 44, 28, 46, 172, 42, 182, 1, 80]
abbrev dktX3_shelf_3 : List UInt8 := dkwX3_shelf_3 ++ dktX3_shelf_4
def dkwX3_shelf_2 : List UInt8 := [170, 0, 0, 0, 0, 0, 0, 94, 0, 0, 0, 0, 0, 0, 0, 8, 0, 0, 0, 52, 0, 0, 0, 59, 0, 0, 0, 64, 0, 0, 0, 71, 0, 0, 0, 94, 0, 0, 0, 94, 0, 0, 0, 94, 0, 0, 0, 84, 0, 0, 0, 89]
abbrev dktX3_shelf_2 : List UInt8 := dkwX3_shelf_2 ++ dktX3_shelf_3
def dkwX3_shelf_1 : List UInt8 := [16, 8, 184, 0, 123, 154, 0, 6, 16, 254, 172, 42, 28, 182, 1, 77, 29]
abbrev dktX3_shelf_1 : List UInt8 := dkwX3_shelf_1 ++ dktX3_shelf_2
def dkwX3_shelf_0 : List UInt8 := [42, 3, 181, 0, 111, 42, 27, 182, 1, 14, 153, 0, 21, 42, 28, 182, 0, 246, 153, 0, 13, 29, 3]
abbrev dktX3_shelf_0 : List UInt8 := dkwX3_shelf_0 ++ dktX3_shelf_1
theorem dksX3_shelf_0 : cX3_shelf.data.toList.drop 0 = dktX3_shelf_0 := by decide +kernel
theorem dksX3_shelf_1 : cX3_shelf.data.toList.drop 23 = dktX3_shelf_1 := dk_seg dksX3_shelf_0 23 rfl rfl
theorem dksX3_shelf_2 : cX3_shelf.data.toList.drop 40 = dktX3_shelf_2 := dk_seg dksX3_shelf_1 17 rfl rfl
theorem dksX3_shelf_3 : cX3_shelf.data.toList.drop 92 = dktX3_shelf_3 := dk_seg dksX3_shelf_2 52 rfl rfl
theorem dksX3_shelf_4 : cX3_shelf.data.toList.drop 115 = dktX3_shelf_4 := dk_seg dksX3_shelf_3 23 rfl rfl
theorem dksX3_shelf_5 : cX3_shelf.data.toList.drop 137 = dktX3_shelf_5 := dk_seg dksX3_shelf_4 22 rfl rfl
theorem dX3_shelf_0 : decode cX3_shelf 0 = .ok (.aload_n 0, 1) := dk_42 (dk_at dksX3_shelf_0 0 rfl rfl)
theorem dX3_shelf_1 : decode cX3_shelf 1 = .ok (.iconst 0, 1) := dk_3 (dk_at dksX3_shelf_0 1 rfl rfl)
theorem dX3_shelf_2 : decode cX3_shelf 2 = .ok (.putfield 111, 3) := dk_181 0 111 (dk_at dksX3_shelf_0 2 rfl rfl)
theorem dX3_shelf_5 : decode cX3_shelf 5 = .ok (.aload_n 0, 1) := dk_42 (dk_at dksX3_shelf_0 5 rfl rfl)
theorem dX3_shelf_6 : decode cX3_shelf 6 = .ok (.iload_n 1, 1) := dk_27 (dk_at dksX3_shelf_0 6 rfl rfl)
theorem dX3_shelf_7 : decode cX3_shelf 7 = .ok (.invokevirtual 270, 3) := dk_182 1 14 (dk_at dksX3_shelf_0 7 rfl rfl)
theorem dX3_shelf_10 : decode cX3_shelf 10 = .ok (.ifCond .eq 21, 3) := dk_153 0 21 (dk_at dksX3_shelf_0 10 rfl rfl)
theorem dX3_shelf_13 : decode cX3_shelf 13 = .ok (.aload_n 0, 1) := dk_42 (dk_at dksX3_shelf_0 13 rfl rfl)
theorem dX3_shelf_14 : decode cX3_shelf 14 = .ok (.iload_n 2, 1) := dk_28 (dk_at dksX3_shelf_0 14 rfl rfl)
theorem dX3_shelf_15 : decode cX3_shelf 15 = .ok (.invokevirtual 246, 3) := dk_182 0 246 (dk_at dksX3_shelf_0 15 rfl rfl)
theorem dX3_shelf_18 : decode cX3_shelf 18 = .ok (.ifCond .eq 13, 3) := dk_153 0 13 (dk_at dksX3_shelf_0 18 rfl rfl)
theorem dX3_shelf_21 : decode cX3_shelf 21 = .ok (.iload_n 3, 1) := dk_29 (dk_at dksX3_shelf_0 21 rfl rfl)
theorem dX3_shelf_22 : decode cX3_shelf 22 = .ok (.iconst 0, 1) := dk_3 (dk_at dksX3_shelf_0 22 rfl rfl)
theorem dX3_shelf_23 : decode cX3_shelf 23 = .ok (.bipush 8, 2) := dk_16 8 (dk_at dksX3_shelf_1 0 rfl rfl)
theorem dX3_shelf_25 : decode cX3_shelf 25 = .ok (.invokestatic 123, 3) := dk_184 0 123 (dk_at dksX3_shelf_1 2 rfl rfl)
theorem dX3_shelf_28 : decode cX3_shelf 28 = .ok (.ifCond .ne 6, 3) := dk_154 0 6 (dk_at dksX3_shelf_1 5 rfl rfl)
theorem dX3_shelf_31 : decode cX3_shelf 31 = .ok (.bipush (-2), 2) := dk_16 254 (dk_at dksX3_shelf_1 8 rfl rfl)
theorem dX3_shelf_33 : decode cX3_shelf 33 = .ok (.ireturn, 1) := dk_172 (dk_at dksX3_shelf_1 10 rfl rfl)
theorem dX3_shelf_34 : decode cX3_shelf 34 = .ok (.aload_n 0, 1) := dk_42 (dk_at dksX3_shelf_1 11 rfl rfl)
theorem dX3_shelf_35 : decode cX3_shelf 35 = .ok (.iload_n 2, 1) := dk_28 (dk_at dksX3_shelf_1 12 rfl rfl)
theorem dX3_shelf_36 : decode cX3_shelf 36 = .ok (.invokevirtual 333, 3) := dk_182 1 77 (dk_at dksX3_shelf_1 13 rfl rfl)
theorem dX3_shelf_39 : decode cX3_shelf 39 = .ok (.iload_n 3, 1) := dk_29 (dk_at dksX3_shelf_1 16 rfl rfl)
theorem dX3_shelf_40 : decode cX3_shelf 40 = .ok (.tableswitch 94 0 8 #[52, 59, 64, 71, 94, 94, 94, 84, 89], 52) := by decide +kernel
theorem dX3_shelf_92 : decode cX3_shelf 92 = .ok (.aload_n 0, 1) := dk_42 (dk_at dksX3_shelf_3 0 rfl rfl)
theorem dX3_shelf_93 : decode cX3_shelf 93 = .ok (.getfield 41, 3) := dk_180 0 41 (dk_at dksX3_shelf_3 1 rfl rfl)
theorem dX3_shelf_96 : decode cX3_shelf 96 = .ok (.iload_n 2, 1) := dk_28 (dk_at dksX3_shelf_3 4 rfl rfl)
theorem dX3_shelf_97 : decode cX3_shelf 97 = .ok (.iaload, 1) := dk_46 (dk_at dksX3_shelf_3 5 rfl rfl)
theorem dX3_shelf_98 : decode cX3_shelf 98 = .ok (.ireturn, 1) := dk_172 (dk_at dksX3_shelf_3 6 rfl rfl)
theorem dX3_shelf_99 : decode cX3_shelf 99 = .ok (.aload_n 0, 1) := dk_42 (dk_at dksX3_shelf_3 7 rfl rfl)
theorem dX3_shelf_100 : decode cX3_shelf 100 = .ok (.getfield 330, 3) := dk_180 1 74 (dk_at dksX3_shelf_3 8 rfl rfl)
theorem dX3_shelf_103 : decode cX3_shelf 103 = .ok (.ireturn, 1) := dk_172 (dk_at dksX3_shelf_3 11 rfl rfl)
theorem dX3_shelf_104 : decode cX3_shelf 104 = .ok (.aload_n 0, 1) := dk_42 (dk_at dksX3_shelf_3 12 rfl rfl)
theorem dX3_shelf_105 : decode cX3_shelf 105 = .ok (.getfield 44, 3) := dk_180 0 44 (dk_at dksX3_shelf_3 13 rfl rfl)
theorem dX3_shelf_108 : decode cX3_shelf 108 = .ok (.iload_n 2, 1) := dk_28 (dk_at dksX3_shelf_3 16 rfl rfl)
theorem dX3_shelf_109 : decode cX3_shelf 109 = .ok (.iaload, 1) := dk_46 (dk_at dksX3_shelf_3 17 rfl rfl)
theorem dX3_shelf_110 : decode cX3_shelf 110 = .ok (.ireturn, 1) := dk_172 (dk_at dksX3_shelf_3 18 rfl rfl)
theorem dX3_shelf_111 : decode cX3_shelf 111 = .ok (.aload_n 0, 1) := dk_42 (dk_at dksX3_shelf_3 19 rfl rfl)
theorem dX3_shelf_112 : decode cX3_shelf 112 = .ok (.invokevirtual 336, 3) := dk_182 1 80 (dk_at dksX3_shelf_3 20 rfl rfl)
theorem dX3_shelf_115 : decode cX3_shelf 115 = .ok (.ifCond .ne 7, 3) := dk_154 0 7 (dk_at dksX3_shelf_4 0 rfl rfl)
theorem dX3_shelf_118 : decode cX3_shelf 118 = .ok (.iconst 1, 1) := dk_4 (dk_at dksX3_shelf_4 3 rfl rfl)
theorem dX3_shelf_119 : decode cX3_shelf 119 = .ok (.goto 4, 3) := dk_167 0 4 (dk_at dksX3_shelf_4 4 rfl rfl)
theorem dX3_shelf_122 : decode cX3_shelf 122 = .ok (.iconst 0, 1) := dk_3 (dk_at dksX3_shelf_4 7 rfl rfl)
theorem dX3_shelf_123 : decode cX3_shelf 123 = .ok (.ireturn, 1) := dk_172 (dk_at dksX3_shelf_4 8 rfl rfl)
theorem dX3_shelf_124 : decode cX3_shelf 124 = .ok (.aload_n 0, 1) := dk_42 (dk_at dksX3_shelf_4 9 rfl rfl)
theorem dX3_shelf_125 : decode cX3_shelf 125 = .ok (.invokevirtual 339, 3) := dk_182 1 83 (dk_at dksX3_shelf_4 10 rfl rfl)
theorem dX3_shelf_128 : decode cX3_shelf 128 = .ok (.ireturn, 1) := dk_172 (dk_at dksX3_shelf_4 13 rfl rfl)
theorem dX3_shelf_129 : decode cX3_shelf 129 = .ok (.aload_n 0, 1) := dk_42 (dk_at dksX3_shelf_4 14 rfl rfl)
theorem dX3_shelf_130 : decode cX3_shelf 130 = .ok (.invokevirtual 336, 3) := dk_182 1 80 (dk_at dksX3_shelf_4 15 rfl rfl)
theorem dX3_shelf_133 : decode cX3_shelf 133 = .ok (.ireturn, 1) := dk_172 (dk_at dksX3_shelf_4 18 rfl rfl)
theorem dX3_shelf_134 : decode cX3_shelf 134 = .ok (.aload_n 0, 1) := dk_42 (dk_at dksX3_shelf_4 19 rfl rfl)
theorem dX3_shelf_135 : decode cX3_shelf 135 = .ok (.iload_n 2, 1) := dk_28 (dk_at dksX3_shelf_4 20 rfl rfl)
theorem dX3_shelf_136 : decode cX3_shelf 136 = .ok (.iload_n 3, 1) := dk_29 (dk_at dksX3_shelf_4 21 rfl rfl)
theorem dX3_shelf_137 : decode cX3_shelf 137 = .ok (.invokevirtual 342, 3) := dk_182 1 86 (dk_at dksX3_shelf_5 0 rfl rfl)
theorem dX3_shelf_140 : decode cX3_shelf 140 = .ok (.ireturn, 1) := dk_172 (dk_at dksX3_shelf_5 3 rfl rfl)
def dkwX3_isShelf_0 : List UInt8 := [27, 3, 42, 180, 0, 243, 4, 100, 184, 0, 123, 172]
abbrev dktX3_isShelf_0 : List UInt8 := dkwX3_isShelf_0 ++ []
theorem dksX3_isShelf_0 : cX3_isShelf.data.toList.drop 0 = dktX3_isShelf_0 := by decide +kernel
theorem dX3_isShelf_0 : decode cX3_isShelf 0 = .ok (.iload_n 1, 1) := dk_27 (dk_at dksX3_isShelf_0 0 rfl rfl)
theorem dX3_isShelf_1 : decode cX3_isShelf 1 = .ok (.iconst 0, 1) := dk_3 (dk_at dksX3_isShelf_0 1 rfl rfl)
theorem dX3_isShelf_2 : decode cX3_isShelf 2 = .ok (.aload_n 0, 1) := dk_42 (dk_at dksX3_isShelf_0 2 rfl rfl)
theorem dX3_isShelf_3 : decode cX3_isShelf 3 = .ok (.getfield 243, 3) := dk_180 0 243 (dk_at dksX3_isShelf_0 3 rfl rfl)
theorem dX3_isShelf_6 : decode cX3_isShelf 6 = .ok (.iconst 1, 1) := dk_4 (dk_at dksX3_isShelf_0 6 rfl rfl)
theorem dX3_isShelf_7 : decode cX3_isShelf 7 = .ok (.isub, 1) := dk_100 (dk_at dksX3_isShelf_0 7 rfl rfl)
theorem dX3_isShelf_8 : decode cX3_isShelf 8 = .ok (.invokestatic 123, 3) := dk_184 0 123 (dk_at dksX3_isShelf_0 8 rfl rfl)
theorem dX3_isShelf_11 : decode cX3_isShelf 11 = .ok (.ireturn, 1) := dk_172 (dk_at dksX3_isShelf_0 11 rfl rfl)
def dkwX3_layRow_2 : List UInt8 := [28, 96, 46, 79, 42, 89, 180, 1, 74, 4, 96, 181, 1, 74, 132, 2, 1, 167, 255, 198, 177]
abbrev dktX3_layRow_2 : List UInt8 := dkwX3_layRow_2 ++ []
def dkwX3_layRow_1 : List UInt8 := [104, 28, 96, 46, 2, 159, 0, 33, 42, 180, 0, 71, 42, 180, 1, 74, 42, 180, 0, 47, 16, 12, 27, 104]
abbrev dktX3_layRow_1 : List UInt8 := dkwX3_layRow_1 ++ dktX3_layRow_2
def dkwX3_layRow_0 : List UInt8 := [42, 3, 181, 1, 74, 3, 61, 28, 42, 180, 0, 41, 27, 46, 162, 0, 54, 42, 180, 0, 47, 16, 12, 27]
abbrev dktX3_layRow_0 : List UInt8 := dkwX3_layRow_0 ++ dktX3_layRow_1
theorem dksX3_layRow_0 : cX3_layRow.data.toList.drop 0 = dktX3_layRow_0 := by decide +kernel
theorem dksX3_layRow_1 : cX3_layRow.data.toList.drop 24 = dktX3_layRow_1 := dk_seg dksX3_layRow_0 24 rfl rfl
theorem dksX3_layRow_2 : cX3_layRow.data.toList.drop 48 = dktX3_layRow_2 := dk_seg dksX3_layRow_1 24 rfl rfl
theorem dX3_layRow_0 : decode cX3_layRow 0 = .ok (.aload_n 0, 1) := dk_42 (dk_at dksX3_layRow_0 0 rfl rfl)
theorem dX3_layRow_1 : decode cX3_layRow 1 = .ok (.iconst 0, 1) := dk_3 (dk_at dksX3_layRow_0 1 rfl rfl)
theorem dX3_layRow_2 : decode cX3_layRow 2 = .ok (.putfield 330, 3) := dk_181 1 74 (dk_at dksX3_layRow_0 2 rfl rfl)
theorem dX3_layRow_5 : decode cX3_layRow 5 = .ok (.iconst 0, 1) := dk_3 (dk_at dksX3_layRow_0 5 rfl rfl)
theorem dX3_layRow_6 : decode cX3_layRow 6 = .ok (.istore_n 2, 1) := dk_61 (dk_at dksX3_layRow_0 6 rfl rfl)
theorem dX3_layRow_7 : decode cX3_layRow 7 = .ok (.iload_n 2, 1) := dk_28 (dk_at dksX3_layRow_0 7 rfl rfl)
theorem dX3_layRow_8 : decode cX3_layRow 8 = .ok (.aload_n 0, 1) := dk_42 (dk_at dksX3_layRow_0 8 rfl rfl)
theorem dX3_layRow_9 : decode cX3_layRow 9 = .ok (.getfield 41, 3) := dk_180 0 41 (dk_at dksX3_layRow_0 9 rfl rfl)
theorem dX3_layRow_12 : decode cX3_layRow 12 = .ok (.iload_n 1, 1) := dk_27 (dk_at dksX3_layRow_0 12 rfl rfl)
theorem dX3_layRow_13 : decode cX3_layRow 13 = .ok (.iaload, 1) := dk_46 (dk_at dksX3_layRow_0 13 rfl rfl)
theorem dX3_layRow_14 : decode cX3_layRow 14 = .ok (.if_icmp .ge 54, 3) := dk_162 0 54 (dk_at dksX3_layRow_0 14 rfl rfl)
theorem dX3_layRow_17 : decode cX3_layRow 17 = .ok (.aload_n 0, 1) := dk_42 (dk_at dksX3_layRow_0 17 rfl rfl)
theorem dX3_layRow_18 : decode cX3_layRow 18 = .ok (.getfield 47, 3) := dk_180 0 47 (dk_at dksX3_layRow_0 18 rfl rfl)
theorem dX3_layRow_21 : decode cX3_layRow 21 = .ok (.bipush 12, 2) := dk_16 12 (dk_at dksX3_layRow_0 21 rfl rfl)
theorem dX3_layRow_23 : decode cX3_layRow 23 = .ok (.iload_n 1, 1) := dk_27 (dk_at dksX3_layRow_0 23 rfl rfl)
theorem dX3_layRow_24 : decode cX3_layRow 24 = .ok (.imul, 1) := dk_104 (dk_at dksX3_layRow_1 0 rfl rfl)
theorem dX3_layRow_25 : decode cX3_layRow 25 = .ok (.iload_n 2, 1) := dk_28 (dk_at dksX3_layRow_1 1 rfl rfl)
theorem dX3_layRow_26 : decode cX3_layRow 26 = .ok (.iadd, 1) := dk_96 (dk_at dksX3_layRow_1 2 rfl rfl)
theorem dX3_layRow_27 : decode cX3_layRow 27 = .ok (.iaload, 1) := dk_46 (dk_at dksX3_layRow_1 3 rfl rfl)
theorem dX3_layRow_28 : decode cX3_layRow 28 = .ok (.iconst (-1), 1) := dk_2 (dk_at dksX3_layRow_1 4 rfl rfl)
theorem dX3_layRow_29 : decode cX3_layRow 29 = .ok (.if_icmp .eq 33, 3) := dk_159 0 33 (dk_at dksX3_layRow_1 5 rfl rfl)
theorem dX3_layRow_32 : decode cX3_layRow 32 = .ok (.aload_n 0, 1) := dk_42 (dk_at dksX3_layRow_1 8 rfl rfl)
theorem dX3_layRow_33 : decode cX3_layRow 33 = .ok (.getfield 71, 3) := dk_180 0 71 (dk_at dksX3_layRow_1 9 rfl rfl)
theorem dX3_layRow_36 : decode cX3_layRow 36 = .ok (.aload_n 0, 1) := dk_42 (dk_at dksX3_layRow_1 12 rfl rfl)
theorem dX3_layRow_37 : decode cX3_layRow 37 = .ok (.getfield 330, 3) := dk_180 1 74 (dk_at dksX3_layRow_1 13 rfl rfl)
theorem dX3_layRow_40 : decode cX3_layRow 40 = .ok (.aload_n 0, 1) := dk_42 (dk_at dksX3_layRow_1 16 rfl rfl)
theorem dX3_layRow_41 : decode cX3_layRow 41 = .ok (.getfield 47, 3) := dk_180 0 47 (dk_at dksX3_layRow_1 17 rfl rfl)
theorem dX3_layRow_44 : decode cX3_layRow 44 = .ok (.bipush 12, 2) := dk_16 12 (dk_at dksX3_layRow_1 20 rfl rfl)
theorem dX3_layRow_46 : decode cX3_layRow 46 = .ok (.iload_n 1, 1) := dk_27 (dk_at dksX3_layRow_1 22 rfl rfl)
theorem dX3_layRow_47 : decode cX3_layRow 47 = .ok (.imul, 1) := dk_104 (dk_at dksX3_layRow_1 23 rfl rfl)
theorem dX3_layRow_48 : decode cX3_layRow 48 = .ok (.iload_n 2, 1) := dk_28 (dk_at dksX3_layRow_2 0 rfl rfl)
theorem dX3_layRow_49 : decode cX3_layRow 49 = .ok (.iadd, 1) := dk_96 (dk_at dksX3_layRow_2 1 rfl rfl)
theorem dX3_layRow_50 : decode cX3_layRow 50 = .ok (.iaload, 1) := dk_46 (dk_at dksX3_layRow_2 2 rfl rfl)
theorem dX3_layRow_51 : decode cX3_layRow 51 = .ok (.iastore, 1) := dk_79 (dk_at dksX3_layRow_2 3 rfl rfl)
theorem dX3_layRow_52 : decode cX3_layRow 52 = .ok (.aload_n 0, 1) := dk_42 (dk_at dksX3_layRow_2 4 rfl rfl)
theorem dX3_layRow_53 : decode cX3_layRow 53 = .ok (.dup, 1) := dk_89 (dk_at dksX3_layRow_2 5 rfl rfl)
theorem dX3_layRow_54 : decode cX3_layRow 54 = .ok (.getfield 330, 3) := dk_180 1 74 (dk_at dksX3_layRow_2 6 rfl rfl)
theorem dX3_layRow_57 : decode cX3_layRow 57 = .ok (.iconst 1, 1) := dk_4 (dk_at dksX3_layRow_2 9 rfl rfl)
theorem dX3_layRow_58 : decode cX3_layRow 58 = .ok (.iadd, 1) := dk_96 (dk_at dksX3_layRow_2 10 rfl rfl)
theorem dX3_layRow_59 : decode cX3_layRow 59 = .ok (.putfield 330, 3) := dk_181 1 74 (dk_at dksX3_layRow_2 11 rfl rfl)
theorem dX3_layRow_62 : decode cX3_layRow 62 = .ok (.iinc 2 1, 3) := dk_132 2 1 (dk_at dksX3_layRow_2 14 rfl rfl)
theorem dX3_layRow_65 : decode cX3_layRow 65 = .ok (.goto (-58), 3) := dk_167 255 198 (dk_at dksX3_layRow_2 17 rfl rfl)
theorem dX3_layRow_68 : decode cX3_layRow 68 = .ok (.return_, 1) := dk_177 (dk_at dksX3_layRow_2 20 rfl rfl)
def dkwX3_turned_2 : List UInt8 := [132, 2, 1, 167, 255, 209, 27, 172]
abbrev dktX3_turned_2 : List UInt8 := dkwX3_turned_2 ++ []
def dkwX3_turned_1 : List UInt8 := [29, 46, 42, 180, 0, 71, 28, 46, 164, 0, 7, 4, 167, 0, 4, 3, 96, 60, 132, 3, 1, 167, 255, 225]
abbrev dktX3_turned_1 : List UInt8 := dkwX3_turned_1 ++ dktX3_turned_2
def dkwX3_turned_0 : List UInt8 := [3, 60, 3, 61, 28, 42, 180, 1, 74, 162, 0, 45, 3, 62, 29, 28, 162, 0, 32, 27, 42, 180, 0, 71]
abbrev dktX3_turned_0 : List UInt8 := dkwX3_turned_0 ++ dktX3_turned_1
theorem dksX3_turned_0 : cX3_turned.data.toList.drop 0 = dktX3_turned_0 := by decide +kernel
theorem dksX3_turned_1 : cX3_turned.data.toList.drop 24 = dktX3_turned_1 := dk_seg dksX3_turned_0 24 rfl rfl
theorem dksX3_turned_2 : cX3_turned.data.toList.drop 48 = dktX3_turned_2 := dk_seg dksX3_turned_1 24 rfl rfl
theorem dX3_turned_0 : decode cX3_turned 0 = .ok (.iconst 0, 1) := dk_3 (dk_at dksX3_turned_0 0 rfl rfl)
theorem dX3_turned_1 : decode cX3_turned 1 = .ok (.istore_n 1, 1) := dk_60 (dk_at dksX3_turned_0 1 rfl rfl)
theorem dX3_turned_2 : decode cX3_turned 2 = .ok (.iconst 0, 1) := dk_3 (dk_at dksX3_turned_0 2 rfl rfl)
theorem dX3_turned_3 : decode cX3_turned 3 = .ok (.istore_n 2, 1) := dk_61 (dk_at dksX3_turned_0 3 rfl rfl)
theorem dX3_turned_4 : decode cX3_turned 4 = .ok (.iload_n 2, 1) := dk_28 (dk_at dksX3_turned_0 4 rfl rfl)
theorem dX3_turned_5 : decode cX3_turned 5 = .ok (.aload_n 0, 1) := dk_42 (dk_at dksX3_turned_0 5 rfl rfl)
theorem dX3_turned_6 : decode cX3_turned 6 = .ok (.getfield 330, 3) := dk_180 1 74 (dk_at dksX3_turned_0 6 rfl rfl)
theorem dX3_turned_9 : decode cX3_turned 9 = .ok (.if_icmp .ge 45, 3) := dk_162 0 45 (dk_at dksX3_turned_0 9 rfl rfl)
theorem dX3_turned_12 : decode cX3_turned 12 = .ok (.iconst 0, 1) := dk_3 (dk_at dksX3_turned_0 12 rfl rfl)
theorem dX3_turned_13 : decode cX3_turned 13 = .ok (.istore_n 3, 1) := dk_62 (dk_at dksX3_turned_0 13 rfl rfl)
theorem dX3_turned_14 : decode cX3_turned 14 = .ok (.iload_n 3, 1) := dk_29 (dk_at dksX3_turned_0 14 rfl rfl)
theorem dX3_turned_15 : decode cX3_turned 15 = .ok (.iload_n 2, 1) := dk_28 (dk_at dksX3_turned_0 15 rfl rfl)
theorem dX3_turned_16 : decode cX3_turned 16 = .ok (.if_icmp .ge 32, 3) := dk_162 0 32 (dk_at dksX3_turned_0 16 rfl rfl)
theorem dX3_turned_19 : decode cX3_turned 19 = .ok (.iload_n 1, 1) := dk_27 (dk_at dksX3_turned_0 19 rfl rfl)
theorem dX3_turned_20 : decode cX3_turned 20 = .ok (.aload_n 0, 1) := dk_42 (dk_at dksX3_turned_0 20 rfl rfl)
theorem dX3_turned_21 : decode cX3_turned 21 = .ok (.getfield 71, 3) := dk_180 0 71 (dk_at dksX3_turned_0 21 rfl rfl)
theorem dX3_turned_24 : decode cX3_turned 24 = .ok (.iload_n 3, 1) := dk_29 (dk_at dksX3_turned_1 0 rfl rfl)
theorem dX3_turned_25 : decode cX3_turned 25 = .ok (.iaload, 1) := dk_46 (dk_at dksX3_turned_1 1 rfl rfl)
theorem dX3_turned_26 : decode cX3_turned 26 = .ok (.aload_n 0, 1) := dk_42 (dk_at dksX3_turned_1 2 rfl rfl)
theorem dX3_turned_27 : decode cX3_turned 27 = .ok (.getfield 71, 3) := dk_180 0 71 (dk_at dksX3_turned_1 3 rfl rfl)
theorem dX3_turned_30 : decode cX3_turned 30 = .ok (.iload_n 2, 1) := dk_28 (dk_at dksX3_turned_1 6 rfl rfl)
theorem dX3_turned_31 : decode cX3_turned 31 = .ok (.iaload, 1) := dk_46 (dk_at dksX3_turned_1 7 rfl rfl)
theorem dX3_turned_32 : decode cX3_turned 32 = .ok (.if_icmp .le 7, 3) := dk_164 0 7 (dk_at dksX3_turned_1 8 rfl rfl)
theorem dX3_turned_35 : decode cX3_turned 35 = .ok (.iconst 1, 1) := dk_4 (dk_at dksX3_turned_1 11 rfl rfl)
theorem dX3_turned_36 : decode cX3_turned 36 = .ok (.goto 4, 3) := dk_167 0 4 (dk_at dksX3_turned_1 12 rfl rfl)
theorem dX3_turned_39 : decode cX3_turned 39 = .ok (.iconst 0, 1) := dk_3 (dk_at dksX3_turned_1 15 rfl rfl)
theorem dX3_turned_40 : decode cX3_turned 40 = .ok (.iadd, 1) := dk_96 (dk_at dksX3_turned_1 16 rfl rfl)
theorem dX3_turned_41 : decode cX3_turned 41 = .ok (.istore_n 1, 1) := dk_60 (dk_at dksX3_turned_1 17 rfl rfl)
theorem dX3_turned_42 : decode cX3_turned 42 = .ok (.iinc 3 1, 3) := dk_132 3 1 (dk_at dksX3_turned_1 18 rfl rfl)
theorem dX3_turned_45 : decode cX3_turned 45 = .ok (.goto (-31), 3) := dk_167 255 225 (dk_at dksX3_turned_1 21 rfl rfl)
theorem dX3_turned_48 : decode cX3_turned 48 = .ok (.iinc 2 1, 3) := dk_132 2 1 (dk_at dksX3_turned_2 0 rfl rfl)
theorem dX3_turned_51 : decode cX3_turned 51 = .ok (.goto (-47), 3) := dk_167 255 209 (dk_at dksX3_turned_2 3 rfl rfl)
theorem dX3_turned_54 : decode cX3_turned 54 = .ok (.iload_n 1, 1) := dk_27 (dk_at dksX3_turned_2 6 rfl rfl)
theorem dX3_turned_55 : decode cX3_turned 55 = .ok (.ireturn, 1) := dk_172 (dk_at dksX3_turned_2 7 rfl rfl)
def dkwX3_longest_4 : List UInt8 := [167, 255, 167, 27, 172]
abbrev dktX3_longest_4 : List UInt8 := dkwX3_longest_4 ++ []
def dkwX3_longest_3 : List UInt8 := [46, 79, 132, 3, 1, 167, 255, 201, 27, 42, 180, 0, 74, 28, 46, 184, 0, 181, 60, 132, 2, 1]
abbrev dktX3_longest_3 : List UInt8 := dkwX3_longest_3 ++ dktX3_longest_4
def dkwX3_longest_2 : List UInt8 := [180, 0, 74, 28, 46, 42, 180, 0, 74, 29, 46, 4, 96, 184, 0, 181, 167, 0, 9, 42, 180, 0, 74, 28]
abbrev dktX3_longest_2 : List UInt8 := dkwX3_longest_2 ++ dktX3_longest_3
def dkwX3_longest_1 : List UInt8 := [162, 0, 56, 42, 180, 0, 74, 28, 42, 180, 0, 71, 29, 46, 42, 180, 0, 71, 28, 46, 163, 0, 23, 42]
abbrev dktX3_longest_1 : List UInt8 := dkwX3_longest_1 ++ dktX3_longest_2
def dkwX3_longest_0 : List UInt8 := [3, 60, 3, 61, 28, 42, 180, 1, 74, 162, 0, 87, 42, 180, 0, 74, 28, 4, 79, 3, 62, 29, 28]
abbrev dktX3_longest_0 : List UInt8 := dkwX3_longest_0 ++ dktX3_longest_1
theorem dksX3_longest_0 : cX3_longest.data.toList.drop 0 = dktX3_longest_0 := by decide +kernel
theorem dksX3_longest_1 : cX3_longest.data.toList.drop 23 = dktX3_longest_1 := dk_seg dksX3_longest_0 23 rfl rfl
theorem dksX3_longest_2 : cX3_longest.data.toList.drop 47 = dktX3_longest_2 := dk_seg dksX3_longest_1 24 rfl rfl
theorem dksX3_longest_3 : cX3_longest.data.toList.drop 71 = dktX3_longest_3 := dk_seg dksX3_longest_2 24 rfl rfl
theorem dksX3_longest_4 : cX3_longest.data.toList.drop 93 = dktX3_longest_4 := dk_seg dksX3_longest_3 22 rfl rfl
theorem dX3_longest_0 : decode cX3_longest 0 = .ok (.iconst 0, 1) := dk_3 (dk_at dksX3_longest_0 0 rfl rfl)
theorem dX3_longest_1 : decode cX3_longest 1 = .ok (.istore_n 1, 1) := dk_60 (dk_at dksX3_longest_0 1 rfl rfl)
theorem dX3_longest_2 : decode cX3_longest 2 = .ok (.iconst 0, 1) := dk_3 (dk_at dksX3_longest_0 2 rfl rfl)
theorem dX3_longest_3 : decode cX3_longest 3 = .ok (.istore_n 2, 1) := dk_61 (dk_at dksX3_longest_0 3 rfl rfl)
theorem dX3_longest_4 : decode cX3_longest 4 = .ok (.iload_n 2, 1) := dk_28 (dk_at dksX3_longest_0 4 rfl rfl)
theorem dX3_longest_5 : decode cX3_longest 5 = .ok (.aload_n 0, 1) := dk_42 (dk_at dksX3_longest_0 5 rfl rfl)
theorem dX3_longest_6 : decode cX3_longest 6 = .ok (.getfield 330, 3) := dk_180 1 74 (dk_at dksX3_longest_0 6 rfl rfl)
theorem dX3_longest_9 : decode cX3_longest 9 = .ok (.if_icmp .ge 87, 3) := dk_162 0 87 (dk_at dksX3_longest_0 9 rfl rfl)
theorem dX3_longest_12 : decode cX3_longest 12 = .ok (.aload_n 0, 1) := dk_42 (dk_at dksX3_longest_0 12 rfl rfl)
theorem dX3_longest_13 : decode cX3_longest 13 = .ok (.getfield 74, 3) := dk_180 0 74 (dk_at dksX3_longest_0 13 rfl rfl)
theorem dX3_longest_16 : decode cX3_longest 16 = .ok (.iload_n 2, 1) := dk_28 (dk_at dksX3_longest_0 16 rfl rfl)
theorem dX3_longest_17 : decode cX3_longest 17 = .ok (.iconst 1, 1) := dk_4 (dk_at dksX3_longest_0 17 rfl rfl)
theorem dX3_longest_18 : decode cX3_longest 18 = .ok (.iastore, 1) := dk_79 (dk_at dksX3_longest_0 18 rfl rfl)
theorem dX3_longest_19 : decode cX3_longest 19 = .ok (.iconst 0, 1) := dk_3 (dk_at dksX3_longest_0 19 rfl rfl)
theorem dX3_longest_20 : decode cX3_longest 20 = .ok (.istore_n 3, 1) := dk_62 (dk_at dksX3_longest_0 20 rfl rfl)
theorem dX3_longest_21 : decode cX3_longest 21 = .ok (.iload_n 3, 1) := dk_29 (dk_at dksX3_longest_0 21 rfl rfl)
theorem dX3_longest_22 : decode cX3_longest 22 = .ok (.iload_n 2, 1) := dk_28 (dk_at dksX3_longest_0 22 rfl rfl)
theorem dX3_longest_23 : decode cX3_longest 23 = .ok (.if_icmp .ge 56, 3) := dk_162 0 56 (dk_at dksX3_longest_1 0 rfl rfl)
theorem dX3_longest_26 : decode cX3_longest 26 = .ok (.aload_n 0, 1) := dk_42 (dk_at dksX3_longest_1 3 rfl rfl)
theorem dX3_longest_27 : decode cX3_longest 27 = .ok (.getfield 74, 3) := dk_180 0 74 (dk_at dksX3_longest_1 4 rfl rfl)
theorem dX3_longest_30 : decode cX3_longest 30 = .ok (.iload_n 2, 1) := dk_28 (dk_at dksX3_longest_1 7 rfl rfl)
theorem dX3_longest_31 : decode cX3_longest 31 = .ok (.aload_n 0, 1) := dk_42 (dk_at dksX3_longest_1 8 rfl rfl)
theorem dX3_longest_32 : decode cX3_longest 32 = .ok (.getfield 71, 3) := dk_180 0 71 (dk_at dksX3_longest_1 9 rfl rfl)
theorem dX3_longest_35 : decode cX3_longest 35 = .ok (.iload_n 3, 1) := dk_29 (dk_at dksX3_longest_1 12 rfl rfl)
theorem dX3_longest_36 : decode cX3_longest 36 = .ok (.iaload, 1) := dk_46 (dk_at dksX3_longest_1 13 rfl rfl)
theorem dX3_longest_37 : decode cX3_longest 37 = .ok (.aload_n 0, 1) := dk_42 (dk_at dksX3_longest_1 14 rfl rfl)
theorem dX3_longest_38 : decode cX3_longest 38 = .ok (.getfield 71, 3) := dk_180 0 71 (dk_at dksX3_longest_1 15 rfl rfl)
theorem dX3_longest_41 : decode cX3_longest 41 = .ok (.iload_n 2, 1) := dk_28 (dk_at dksX3_longest_1 18 rfl rfl)
theorem dX3_longest_42 : decode cX3_longest 42 = .ok (.iaload, 1) := dk_46 (dk_at dksX3_longest_1 19 rfl rfl)
theorem dX3_longest_43 : decode cX3_longest 43 = .ok (.if_icmp .gt 23, 3) := dk_163 0 23 (dk_at dksX3_longest_1 20 rfl rfl)
theorem dX3_longest_46 : decode cX3_longest 46 = .ok (.aload_n 0, 1) := dk_42 (dk_at dksX3_longest_1 23 rfl rfl)
theorem dX3_longest_47 : decode cX3_longest 47 = .ok (.getfield 74, 3) := dk_180 0 74 (dk_at dksX3_longest_2 0 rfl rfl)
theorem dX3_longest_50 : decode cX3_longest 50 = .ok (.iload_n 2, 1) := dk_28 (dk_at dksX3_longest_2 3 rfl rfl)
theorem dX3_longest_51 : decode cX3_longest 51 = .ok (.iaload, 1) := dk_46 (dk_at dksX3_longest_2 4 rfl rfl)
theorem dX3_longest_52 : decode cX3_longest 52 = .ok (.aload_n 0, 1) := dk_42 (dk_at dksX3_longest_2 5 rfl rfl)
theorem dX3_longest_53 : decode cX3_longest 53 = .ok (.getfield 74, 3) := dk_180 0 74 (dk_at dksX3_longest_2 6 rfl rfl)
theorem dX3_longest_56 : decode cX3_longest 56 = .ok (.iload_n 3, 1) := dk_29 (dk_at dksX3_longest_2 9 rfl rfl)
theorem dX3_longest_57 : decode cX3_longest 57 = .ok (.iaload, 1) := dk_46 (dk_at dksX3_longest_2 10 rfl rfl)
theorem dX3_longest_58 : decode cX3_longest 58 = .ok (.iconst 1, 1) := dk_4 (dk_at dksX3_longest_2 11 rfl rfl)
theorem dX3_longest_59 : decode cX3_longest 59 = .ok (.iadd, 1) := dk_96 (dk_at dksX3_longest_2 12 rfl rfl)
theorem dX3_longest_60 : decode cX3_longest 60 = .ok (.invokestatic 181, 3) := dk_184 0 181 (dk_at dksX3_longest_2 13 rfl rfl)
theorem dX3_longest_63 : decode cX3_longest 63 = .ok (.goto 9, 3) := dk_167 0 9 (dk_at dksX3_longest_2 16 rfl rfl)
theorem dX3_longest_66 : decode cX3_longest 66 = .ok (.aload_n 0, 1) := dk_42 (dk_at dksX3_longest_2 19 rfl rfl)
theorem dX3_longest_67 : decode cX3_longest 67 = .ok (.getfield 74, 3) := dk_180 0 74 (dk_at dksX3_longest_2 20 rfl rfl)
theorem dX3_longest_70 : decode cX3_longest 70 = .ok (.iload_n 2, 1) := dk_28 (dk_at dksX3_longest_2 23 rfl rfl)
theorem dX3_longest_71 : decode cX3_longest 71 = .ok (.iaload, 1) := dk_46 (dk_at dksX3_longest_3 0 rfl rfl)
theorem dX3_longest_72 : decode cX3_longest 72 = .ok (.iastore, 1) := dk_79 (dk_at dksX3_longest_3 1 rfl rfl)
theorem dX3_longest_73 : decode cX3_longest 73 = .ok (.iinc 3 1, 3) := dk_132 3 1 (dk_at dksX3_longest_3 2 rfl rfl)
theorem dX3_longest_76 : decode cX3_longest 76 = .ok (.goto (-55), 3) := dk_167 255 201 (dk_at dksX3_longest_3 5 rfl rfl)
theorem dX3_longest_79 : decode cX3_longest 79 = .ok (.iload_n 1, 1) := dk_27 (dk_at dksX3_longest_3 8 rfl rfl)
theorem dX3_longest_80 : decode cX3_longest 80 = .ok (.aload_n 0, 1) := dk_42 (dk_at dksX3_longest_3 9 rfl rfl)
theorem dX3_longest_81 : decode cX3_longest 81 = .ok (.getfield 74, 3) := dk_180 0 74 (dk_at dksX3_longest_3 10 rfl rfl)
theorem dX3_longest_84 : decode cX3_longest 84 = .ok (.iload_n 2, 1) := dk_28 (dk_at dksX3_longest_3 13 rfl rfl)
theorem dX3_longest_85 : decode cX3_longest 85 = .ok (.iaload, 1) := dk_46 (dk_at dksX3_longest_3 14 rfl rfl)
theorem dX3_longest_86 : decode cX3_longest 86 = .ok (.invokestatic 181, 3) := dk_184 0 181 (dk_at dksX3_longest_3 15 rfl rfl)
theorem dX3_longest_89 : decode cX3_longest 89 = .ok (.istore_n 1, 1) := dk_60 (dk_at dksX3_longest_3 18 rfl rfl)
theorem dX3_longest_90 : decode cX3_longest 90 = .ok (.iinc 2 1, 3) := dk_132 2 1 (dk_at dksX3_longest_3 19 rfl rfl)
theorem dX3_longest_93 : decode cX3_longest 93 = .ok (.goto (-89), 3) := dk_167 255 167 (dk_at dksX3_longest_4 0 rfl rfl)
theorem dX3_longest_96 : decode cX3_longest 96 = .ok (.iload_n 1, 1) := dk_27 (dk_at dksX3_longest_4 3 rfl rfl)
theorem dX3_longest_97 : decode cX3_longest 97 = .ok (.ireturn, 1) := dk_172 (dk_at dksX3_longest_4 4 rfl rfl)
def dkwX3_slidesOf_2 : List UInt8 := [180, 1, 56, 167, 0, 7, 42, 180, 1, 59, 172]
abbrev dktX3_slidesOf_2 : List UInt8 := dkwX3_slidesOf_2 ++ []
def dkwX3_slidesOf_1 : List UInt8 := [182, 1, 62, 62, 42, 29, 182, 1, 71, 28, 7, 160, 0, 7, 29, 167, 0, 19, 28, 8, 160, 0, 10, 42]
abbrev dktX3_slidesOf_1 : List UInt8 := dkwX3_slidesOf_1 ++ dktX3_slidesOf_2
def dkwX3_slidesOf_0 : List UInt8 := [42, 180, 0, 41, 27, 46, 16, 8, 164, 0, 5, 2, 172, 42, 27, 182, 1, 65, 42, 182, 1, 68, 42]
abbrev dktX3_slidesOf_0 : List UInt8 := dkwX3_slidesOf_0 ++ dktX3_slidesOf_1
theorem dksX3_slidesOf_0 : cX3_slidesOf.data.toList.drop 0 = dktX3_slidesOf_0 := by decide +kernel
theorem dksX3_slidesOf_1 : cX3_slidesOf.data.toList.drop 23 = dktX3_slidesOf_1 := dk_seg dksX3_slidesOf_0 23 rfl rfl
theorem dksX3_slidesOf_2 : cX3_slidesOf.data.toList.drop 47 = dktX3_slidesOf_2 := dk_seg dksX3_slidesOf_1 24 rfl rfl
theorem dX3_slidesOf_0 : decode cX3_slidesOf 0 = .ok (.aload_n 0, 1) := dk_42 (dk_at dksX3_slidesOf_0 0 rfl rfl)
theorem dX3_slidesOf_1 : decode cX3_slidesOf 1 = .ok (.getfield 41, 3) := dk_180 0 41 (dk_at dksX3_slidesOf_0 1 rfl rfl)
theorem dX3_slidesOf_4 : decode cX3_slidesOf 4 = .ok (.iload_n 1, 1) := dk_27 (dk_at dksX3_slidesOf_0 4 rfl rfl)
theorem dX3_slidesOf_5 : decode cX3_slidesOf 5 = .ok (.iaload, 1) := dk_46 (dk_at dksX3_slidesOf_0 5 rfl rfl)
theorem dX3_slidesOf_6 : decode cX3_slidesOf 6 = .ok (.bipush 8, 2) := dk_16 8 (dk_at dksX3_slidesOf_0 6 rfl rfl)
theorem dX3_slidesOf_8 : decode cX3_slidesOf 8 = .ok (.if_icmp .le 5, 3) := dk_164 0 5 (dk_at dksX3_slidesOf_0 8 rfl rfl)
theorem dX3_slidesOf_11 : decode cX3_slidesOf 11 = .ok (.iconst (-1), 1) := dk_2 (dk_at dksX3_slidesOf_0 11 rfl rfl)
theorem dX3_slidesOf_12 : decode cX3_slidesOf 12 = .ok (.ireturn, 1) := dk_172 (dk_at dksX3_slidesOf_0 12 rfl rfl)
theorem dX3_slidesOf_13 : decode cX3_slidesOf 13 = .ok (.aload_n 0, 1) := dk_42 (dk_at dksX3_slidesOf_0 13 rfl rfl)
theorem dX3_slidesOf_14 : decode cX3_slidesOf 14 = .ok (.iload_n 1, 1) := dk_27 (dk_at dksX3_slidesOf_0 14 rfl rfl)
theorem dX3_slidesOf_15 : decode cX3_slidesOf 15 = .ok (.invokevirtual 321, 3) := dk_182 1 65 (dk_at dksX3_slidesOf_0 15 rfl rfl)
theorem dX3_slidesOf_18 : decode cX3_slidesOf 18 = .ok (.aload_n 0, 1) := dk_42 (dk_at dksX3_slidesOf_0 18 rfl rfl)
theorem dX3_slidesOf_19 : decode cX3_slidesOf 19 = .ok (.invokevirtual 324, 3) := dk_182 1 68 (dk_at dksX3_slidesOf_0 19 rfl rfl)
theorem dX3_slidesOf_22 : decode cX3_slidesOf 22 = .ok (.aload_n 0, 1) := dk_42 (dk_at dksX3_slidesOf_0 22 rfl rfl)
theorem dX3_slidesOf_23 : decode cX3_slidesOf 23 = .ok (.invokevirtual 318, 3) := dk_182 1 62 (dk_at dksX3_slidesOf_1 0 rfl rfl)
theorem dX3_slidesOf_26 : decode cX3_slidesOf 26 = .ok (.istore_n 3, 1) := dk_62 (dk_at dksX3_slidesOf_1 3 rfl rfl)
theorem dX3_slidesOf_27 : decode cX3_slidesOf 27 = .ok (.aload_n 0, 1) := dk_42 (dk_at dksX3_slidesOf_1 4 rfl rfl)
theorem dX3_slidesOf_28 : decode cX3_slidesOf 28 = .ok (.iload_n 3, 1) := dk_29 (dk_at dksX3_slidesOf_1 5 rfl rfl)
theorem dX3_slidesOf_29 : decode cX3_slidesOf 29 = .ok (.invokevirtual 327, 3) := dk_182 1 71 (dk_at dksX3_slidesOf_1 6 rfl rfl)
theorem dX3_slidesOf_32 : decode cX3_slidesOf 32 = .ok (.iload_n 2, 1) := dk_28 (dk_at dksX3_slidesOf_1 9 rfl rfl)
theorem dX3_slidesOf_33 : decode cX3_slidesOf 33 = .ok (.iconst 4, 1) := dk_7 (dk_at dksX3_slidesOf_1 10 rfl rfl)
theorem dX3_slidesOf_34 : decode cX3_slidesOf 34 = .ok (.if_icmp .ne 7, 3) := dk_160 0 7 (dk_at dksX3_slidesOf_1 11 rfl rfl)
theorem dX3_slidesOf_37 : decode cX3_slidesOf 37 = .ok (.iload_n 3, 1) := dk_29 (dk_at dksX3_slidesOf_1 14 rfl rfl)
theorem dX3_slidesOf_38 : decode cX3_slidesOf 38 = .ok (.goto 19, 3) := dk_167 0 19 (dk_at dksX3_slidesOf_1 15 rfl rfl)
theorem dX3_slidesOf_41 : decode cX3_slidesOf 41 = .ok (.iload_n 2, 1) := dk_28 (dk_at dksX3_slidesOf_1 18 rfl rfl)
theorem dX3_slidesOf_42 : decode cX3_slidesOf 42 = .ok (.iconst 5, 1) := dk_8 (dk_at dksX3_slidesOf_1 19 rfl rfl)
theorem dX3_slidesOf_43 : decode cX3_slidesOf 43 = .ok (.if_icmp .ne 10, 3) := dk_160 0 10 (dk_at dksX3_slidesOf_1 20 rfl rfl)
theorem dX3_slidesOf_46 : decode cX3_slidesOf 46 = .ok (.aload_n 0, 1) := dk_42 (dk_at dksX3_slidesOf_1 23 rfl rfl)
theorem dX3_slidesOf_47 : decode cX3_slidesOf 47 = .ok (.getfield 312, 3) := dk_180 1 56 (dk_at dksX3_slidesOf_2 0 rfl rfl)
theorem dX3_slidesOf_50 : decode cX3_slidesOf 50 = .ok (.goto 7, 3) := dk_167 0 7 (dk_at dksX3_slidesOf_2 3 rfl rfl)
theorem dX3_slidesOf_53 : decode cX3_slidesOf 53 = .ok (.aload_n 0, 1) := dk_42 (dk_at dksX3_slidesOf_2 6 rfl rfl)
theorem dX3_slidesOf_54 : decode cX3_slidesOf 54 = .ok (.getfield 315, 3) := dk_180 1 59 (dk_at dksX3_slidesOf_2 7 rfl rfl)
theorem dX3_slidesOf_57 : decode cX3_slidesOf 57 = .ok (.ireturn, 1) := dk_172 (dk_at dksX3_slidesOf_2 10 rfl rfl)
def dkwX3_layCells_1 : List UInt8 := [28, 42, 180, 0, 47, 16, 12, 27, 104, 28, 96, 46, 79, 132, 2, 1, 167, 255, 228, 177]
abbrev dktX3_layCells_1 : List UInt8 := dkwX3_layCells_1 ++ []
def dkwX3_layCells_0 : List UInt8 := [42, 42, 180, 0, 41, 27, 46, 181, 1, 34, 3, 61, 28, 42, 180, 1, 34, 162, 0, 26, 42, 180, 0, 65]
abbrev dktX3_layCells_0 : List UInt8 := dkwX3_layCells_0 ++ dktX3_layCells_1
theorem dksX3_layCells_0 : cX3_layCells.data.toList.drop 0 = dktX3_layCells_0 := by decide +kernel
theorem dksX3_layCells_1 : cX3_layCells.data.toList.drop 24 = dktX3_layCells_1 := dk_seg dksX3_layCells_0 24 rfl rfl
theorem dX3_layCells_0 : decode cX3_layCells 0 = .ok (.aload_n 0, 1) := dk_42 (dk_at dksX3_layCells_0 0 rfl rfl)
theorem dX3_layCells_1 : decode cX3_layCells 1 = .ok (.aload_n 0, 1) := dk_42 (dk_at dksX3_layCells_0 1 rfl rfl)
theorem dX3_layCells_2 : decode cX3_layCells 2 = .ok (.getfield 41, 3) := dk_180 0 41 (dk_at dksX3_layCells_0 2 rfl rfl)
theorem dX3_layCells_5 : decode cX3_layCells 5 = .ok (.iload_n 1, 1) := dk_27 (dk_at dksX3_layCells_0 5 rfl rfl)
theorem dX3_layCells_6 : decode cX3_layCells 6 = .ok (.iaload, 1) := dk_46 (dk_at dksX3_layCells_0 6 rfl rfl)
theorem dX3_layCells_7 : decode cX3_layCells 7 = .ok (.putfield 290, 3) := dk_181 1 34 (dk_at dksX3_layCells_0 7 rfl rfl)
theorem dX3_layCells_10 : decode cX3_layCells 10 = .ok (.iconst 0, 1) := dk_3 (dk_at dksX3_layCells_0 10 rfl rfl)
theorem dX3_layCells_11 : decode cX3_layCells 11 = .ok (.istore_n 2, 1) := dk_61 (dk_at dksX3_layCells_0 11 rfl rfl)
theorem dX3_layCells_12 : decode cX3_layCells 12 = .ok (.iload_n 2, 1) := dk_28 (dk_at dksX3_layCells_0 12 rfl rfl)
theorem dX3_layCells_13 : decode cX3_layCells 13 = .ok (.aload_n 0, 1) := dk_42 (dk_at dksX3_layCells_0 13 rfl rfl)
theorem dX3_layCells_14 : decode cX3_layCells 14 = .ok (.getfield 290, 3) := dk_180 1 34 (dk_at dksX3_layCells_0 14 rfl rfl)
theorem dX3_layCells_17 : decode cX3_layCells 17 = .ok (.if_icmp .ge 26, 3) := dk_162 0 26 (dk_at dksX3_layCells_0 17 rfl rfl)
theorem dX3_layCells_20 : decode cX3_layCells 20 = .ok (.aload_n 0, 1) := dk_42 (dk_at dksX3_layCells_0 20 rfl rfl)
theorem dX3_layCells_21 : decode cX3_layCells 21 = .ok (.getfield 65, 3) := dk_180 0 65 (dk_at dksX3_layCells_0 21 rfl rfl)
theorem dX3_layCells_24 : decode cX3_layCells 24 = .ok (.iload_n 2, 1) := dk_28 (dk_at dksX3_layCells_1 0 rfl rfl)
theorem dX3_layCells_25 : decode cX3_layCells 25 = .ok (.aload_n 0, 1) := dk_42 (dk_at dksX3_layCells_1 1 rfl rfl)
theorem dX3_layCells_26 : decode cX3_layCells 26 = .ok (.getfield 47, 3) := dk_180 0 47 (dk_at dksX3_layCells_1 2 rfl rfl)
theorem dX3_layCells_29 : decode cX3_layCells 29 = .ok (.bipush 12, 2) := dk_16 12 (dk_at dksX3_layCells_1 5 rfl rfl)
theorem dX3_layCells_31 : decode cX3_layCells 31 = .ok (.iload_n 1, 1) := dk_27 (dk_at dksX3_layCells_1 7 rfl rfl)
theorem dX3_layCells_32 : decode cX3_layCells 32 = .ok (.imul, 1) := dk_104 (dk_at dksX3_layCells_1 8 rfl rfl)
theorem dX3_layCells_33 : decode cX3_layCells 33 = .ok (.iload_n 2, 1) := dk_28 (dk_at dksX3_layCells_1 9 rfl rfl)
theorem dX3_layCells_34 : decode cX3_layCells 34 = .ok (.iadd, 1) := dk_96 (dk_at dksX3_layCells_1 10 rfl rfl)
theorem dX3_layCells_35 : decode cX3_layCells 35 = .ok (.iaload, 1) := dk_46 (dk_at dksX3_layCells_1 11 rfl rfl)
theorem dX3_layCells_36 : decode cX3_layCells 36 = .ok (.iastore, 1) := dk_79 (dk_at dksX3_layCells_1 12 rfl rfl)
theorem dX3_layCells_37 : decode cX3_layCells 37 = .ok (.iinc 2 1, 3) := dk_132 2 1 (dk_at dksX3_layCells_1 13 rfl rfl)
theorem dX3_layCells_40 : decode cX3_layCells 40 = .ok (.goto (-28), 3) := dk_167 255 228 (dk_at dksX3_layCells_1 16 rfl rfl)
theorem dX3_layCells_43 : decode cX3_layCells 43 = .ok (.return_, 1) := dk_177 (dk_at dksX3_layCells_1 19 rfl rfl)
def dkwX3_findSlides_12 : List UInt8 := [132, 4, 1, 167, 255, 215, 42, 31, 182, 1, 49, 177]
abbrev dktX3_findSlides_12 : List UInt8 := dkwX3_findSlides_12 ++ []
def dkwX3_findSlides_11 : List UInt8 := [21, 4, 47, 42, 180, 0, 58, 42, 42, 180, 0, 62, 21, 4, 47, 182, 1, 28, 51, 4, 96, 182, 1, 46]
abbrev dktX3_findSlides_11 : List UInt8 := dkwX3_findSlides_11 ++ dktX3_findSlides_12
def dkwX3_findSlides_10 : List UInt8 := [132, 4, 1, 167, 255, 152, 3, 54, 4, 21, 4, 42, 180, 1, 31, 162, 0, 38, 42, 42, 180, 0, 62]
abbrev dktX3_findSlides_10 : List UInt8 := dkwX3_findSlides_10 ++ dktX3_findSlides_11
def dkwX3_findSlides_9 : List UInt8 := [4, 167, 0, 4, 3, 96, 54, 5, 132, 6, 1, 167, 255, 194, 42, 42, 182, 1, 39, 3, 182, 1, 42]
abbrev dktX3_findSlides_9 : List UInt8 := dkwX3_findSlides_9 ++ dktX3_findSlides_10
def dkwX3_findSlides_8 : List UInt8 := [180, 0, 68, 21, 5, 46, 167, 0, 4, 2, 79, 21, 5, 21, 4, 133, 21, 6, 184, 0, 115, 153, 0, 7]
abbrev dktX3_findSlides_8 : List UInt8 := dkwX3_findSlides_8 ++ dktX3_findSlides_9
def dkwX3_findSlides_7 : List UInt8 := [180, 1, 34, 162, 0, 59, 42, 180, 0, 65, 21, 6, 21, 4, 133, 21, 6, 184, 0, 115, 153, 0, 13, 42]
abbrev dktX3_findSlides_7 : List UInt8 := dkwX3_findSlides_7 ++ dktX3_findSlides_8
def dkwX3_findSlides_6 : List UInt8 := [162, 0, 99, 21, 4, 133, 184, 0, 253, 29, 160, 0, 83, 3, 54, 5, 3, 54, 6, 21, 6, 42]
abbrev dktX3_findSlides_6 : List UInt8 := dkwX3_findSlides_6 ++ dktX3_findSlides_7
def dkwX3_findSlides_5 : List UInt8 := [46, 79, 132, 3, 1, 132, 4, 1, 167, 255, 167, 3, 54, 4, 21, 4, 4, 42, 180, 1, 34, 120]
abbrev dktX3_findSlides_5 : List UInt8 := dkwX3_findSlides_5 ++ dktX3_findSlides_6
def dkwX3_findSlides_4 : List UInt8 := [21, 5, 4, 100, 46, 79, 132, 5, 255, 167, 255, 213, 42, 180, 0, 68, 21, 5, 42, 180, 0, 65, 21, 4]
abbrev dktX3_findSlides_4 : List UInt8 := dkwX3_findSlides_4 ++ dktX3_findSlides_5
def dkwX3_findSlides_3 : List UInt8 := [4, 100, 46, 42, 180, 0, 65, 21, 4, 46, 164, 0, 25, 42, 180, 0, 68, 21, 5, 42, 180, 0, 68]
abbrev dktX3_findSlides_3 : List UInt8 := dkwX3_findSlides_3 ++ dktX3_findSlides_4
def dkwX3_findSlides_2 : List UInt8 := [180, 0, 65, 21, 4, 46, 2, 159, 0, 69, 29, 54, 5, 21, 5, 158, 0, 44, 42, 180, 0, 68, 21, 5]
abbrev dktX3_findSlides_2 : List UInt8 := dkwX3_findSlides_2 ++ dktX3_findSlides_3
def dkwX3_findSlides_1 : List UInt8 := [182, 1, 39, 64, 42, 3, 181, 1, 31, 3, 62, 3, 54, 4, 21, 4, 42, 180, 1, 34, 162, 0, 86, 42]
abbrev dktX3_findSlides_1 : List UInt8 := dkwX3_findSlides_1 ++ dktX3_findSlides_2
def dkwX3_findSlides_0 : List UInt8 := [3, 60, 27, 18, 53, 162, 0, 16, 42, 180, 0, 54, 27, 9, 80, 132, 1, 1, 167, 255, 240, 42]
abbrev dktX3_findSlides_0 : List UInt8 := dkwX3_findSlides_0 ++ dktX3_findSlides_1
theorem dksX3_findSlides_0 : cX3_findSlides.data.toList.drop 0 = dktX3_findSlides_0 := by decide +kernel
theorem dksX3_findSlides_1 : cX3_findSlides.data.toList.drop 22 = dktX3_findSlides_1 := dk_seg dksX3_findSlides_0 22 rfl rfl
theorem dksX3_findSlides_2 : cX3_findSlides.data.toList.drop 46 = dktX3_findSlides_2 := dk_seg dksX3_findSlides_1 24 rfl rfl
theorem dksX3_findSlides_3 : cX3_findSlides.data.toList.drop 70 = dktX3_findSlides_3 := dk_seg dksX3_findSlides_2 24 rfl rfl
theorem dksX3_findSlides_4 : cX3_findSlides.data.toList.drop 93 = dktX3_findSlides_4 := dk_seg dksX3_findSlides_3 23 rfl rfl
theorem dksX3_findSlides_5 : cX3_findSlides.data.toList.drop 117 = dktX3_findSlides_5 := dk_seg dksX3_findSlides_4 24 rfl rfl
theorem dksX3_findSlides_6 : cX3_findSlides.data.toList.drop 139 = dktX3_findSlides_6 := dk_seg dksX3_findSlides_5 22 rfl rfl
theorem dksX3_findSlides_7 : cX3_findSlides.data.toList.drop 161 = dktX3_findSlides_7 := dk_seg dksX3_findSlides_6 22 rfl rfl
theorem dksX3_findSlides_8 : cX3_findSlides.data.toList.drop 185 = dktX3_findSlides_8 := dk_seg dksX3_findSlides_7 24 rfl rfl
theorem dksX3_findSlides_9 : cX3_findSlides.data.toList.drop 209 = dktX3_findSlides_9 := dk_seg dksX3_findSlides_8 24 rfl rfl
theorem dksX3_findSlides_10 : cX3_findSlides.data.toList.drop 232 = dktX3_findSlides_10 := dk_seg dksX3_findSlides_9 23 rfl rfl
theorem dksX3_findSlides_11 : cX3_findSlides.data.toList.drop 255 = dktX3_findSlides_11 := dk_seg dksX3_findSlides_10 23 rfl rfl
theorem dksX3_findSlides_12 : cX3_findSlides.data.toList.drop 279 = dktX3_findSlides_12 := dk_seg dksX3_findSlides_11 24 rfl rfl
theorem dX3_findSlides_0 : decode cX3_findSlides 0 = .ok (.iconst 0, 1) := dk_3 (dk_at dksX3_findSlides_0 0 rfl rfl)
theorem dX3_findSlides_1 : decode cX3_findSlides 1 = .ok (.istore_n 1, 1) := dk_60 (dk_at dksX3_findSlides_0 1 rfl rfl)
theorem dX3_findSlides_2 : decode cX3_findSlides 2 = .ok (.iload_n 1, 1) := dk_27 (dk_at dksX3_findSlides_0 2 rfl rfl)
theorem dX3_findSlides_3 : decode cX3_findSlides 3 = .ok (.ldc 53, 2) := dk_18 53 (dk_at dksX3_findSlides_0 3 rfl rfl)
theorem dX3_findSlides_5 : decode cX3_findSlides 5 = .ok (.if_icmp .ge 16, 3) := dk_162 0 16 (dk_at dksX3_findSlides_0 5 rfl rfl)
theorem dX3_findSlides_8 : decode cX3_findSlides 8 = .ok (.aload_n 0, 1) := dk_42 (dk_at dksX3_findSlides_0 8 rfl rfl)
theorem dX3_findSlides_9 : decode cX3_findSlides 9 = .ok (.getfield 54, 3) := dk_180 0 54 (dk_at dksX3_findSlides_0 9 rfl rfl)
theorem dX3_findSlides_12 : decode cX3_findSlides 12 = .ok (.iload_n 1, 1) := dk_27 (dk_at dksX3_findSlides_0 12 rfl rfl)
theorem dX3_findSlides_13 : decode cX3_findSlides 13 = .ok (.lconst 0, 1) := dk_9 (dk_at dksX3_findSlides_0 13 rfl rfl)
theorem dX3_findSlides_14 : decode cX3_findSlides 14 = .ok (.lastore, 1) := dk_80 (dk_at dksX3_findSlides_0 14 rfl rfl)
theorem dX3_findSlides_15 : decode cX3_findSlides 15 = .ok (.iinc 1 1, 3) := dk_132 1 1 (dk_at dksX3_findSlides_0 15 rfl rfl)
theorem dX3_findSlides_18 : decode cX3_findSlides 18 = .ok (.goto (-16), 3) := dk_167 255 240 (dk_at dksX3_findSlides_0 18 rfl rfl)
theorem dX3_findSlides_21 : decode cX3_findSlides 21 = .ok (.aload_n 0, 1) := dk_42 (dk_at dksX3_findSlides_0 21 rfl rfl)
theorem dX3_findSlides_22 : decode cX3_findSlides 22 = .ok (.invokevirtual 295, 3) := dk_182 1 39 (dk_at dksX3_findSlides_1 0 rfl rfl)
theorem dX3_findSlides_25 : decode cX3_findSlides 25 = .ok (.lstore_n 1, 1) := dk_64 (dk_at dksX3_findSlides_1 3 rfl rfl)
theorem dX3_findSlides_26 : decode cX3_findSlides 26 = .ok (.aload_n 0, 1) := dk_42 (dk_at dksX3_findSlides_1 4 rfl rfl)
theorem dX3_findSlides_27 : decode cX3_findSlides 27 = .ok (.iconst 0, 1) := dk_3 (dk_at dksX3_findSlides_1 5 rfl rfl)
theorem dX3_findSlides_28 : decode cX3_findSlides 28 = .ok (.putfield 287, 3) := dk_181 1 31 (dk_at dksX3_findSlides_1 6 rfl rfl)
theorem dX3_findSlides_31 : decode cX3_findSlides 31 = .ok (.iconst 0, 1) := dk_3 (dk_at dksX3_findSlides_1 9 rfl rfl)
theorem dX3_findSlides_32 : decode cX3_findSlides 32 = .ok (.istore_n 3, 1) := dk_62 (dk_at dksX3_findSlides_1 10 rfl rfl)
theorem dX3_findSlides_33 : decode cX3_findSlides 33 = .ok (.iconst 0, 1) := dk_3 (dk_at dksX3_findSlides_1 11 rfl rfl)
theorem dX3_findSlides_34 : decode cX3_findSlides 34 = .ok (.istore 4, 2) := dk_54 4 (dk_at dksX3_findSlides_1 12 rfl rfl)
theorem dX3_findSlides_36 : decode cX3_findSlides 36 = .ok (.iload 4, 2) := dk_21 4 (dk_at dksX3_findSlides_1 14 rfl rfl)
theorem dX3_findSlides_38 : decode cX3_findSlides 38 = .ok (.aload_n 0, 1) := dk_42 (dk_at dksX3_findSlides_1 16 rfl rfl)
theorem dX3_findSlides_39 : decode cX3_findSlides 39 = .ok (.getfield 290, 3) := dk_180 1 34 (dk_at dksX3_findSlides_1 17 rfl rfl)
theorem dX3_findSlides_42 : decode cX3_findSlides 42 = .ok (.if_icmp .ge 86, 3) := dk_162 0 86 (dk_at dksX3_findSlides_1 20 rfl rfl)
theorem dX3_findSlides_45 : decode cX3_findSlides 45 = .ok (.aload_n 0, 1) := dk_42 (dk_at dksX3_findSlides_1 23 rfl rfl)
theorem dX3_findSlides_46 : decode cX3_findSlides 46 = .ok (.getfield 65, 3) := dk_180 0 65 (dk_at dksX3_findSlides_2 0 rfl rfl)
theorem dX3_findSlides_49 : decode cX3_findSlides 49 = .ok (.iload 4, 2) := dk_21 4 (dk_at dksX3_findSlides_2 3 rfl rfl)
theorem dX3_findSlides_51 : decode cX3_findSlides 51 = .ok (.iaload, 1) := dk_46 (dk_at dksX3_findSlides_2 5 rfl rfl)
theorem dX3_findSlides_52 : decode cX3_findSlides 52 = .ok (.iconst (-1), 1) := dk_2 (dk_at dksX3_findSlides_2 6 rfl rfl)
theorem dX3_findSlides_53 : decode cX3_findSlides 53 = .ok (.if_icmp .eq 69, 3) := dk_159 0 69 (dk_at dksX3_findSlides_2 7 rfl rfl)
theorem dX3_findSlides_56 : decode cX3_findSlides 56 = .ok (.iload_n 3, 1) := dk_29 (dk_at dksX3_findSlides_2 10 rfl rfl)
theorem dX3_findSlides_57 : decode cX3_findSlides 57 = .ok (.istore 5, 2) := dk_54 5 (dk_at dksX3_findSlides_2 11 rfl rfl)
theorem dX3_findSlides_59 : decode cX3_findSlides 59 = .ok (.iload 5, 2) := dk_21 5 (dk_at dksX3_findSlides_2 13 rfl rfl)
theorem dX3_findSlides_61 : decode cX3_findSlides 61 = .ok (.ifCond .le 44, 3) := dk_158 0 44 (dk_at dksX3_findSlides_2 15 rfl rfl)
theorem dX3_findSlides_64 : decode cX3_findSlides 64 = .ok (.aload_n 0, 1) := dk_42 (dk_at dksX3_findSlides_2 18 rfl rfl)
theorem dX3_findSlides_65 : decode cX3_findSlides 65 = .ok (.getfield 68, 3) := dk_180 0 68 (dk_at dksX3_findSlides_2 19 rfl rfl)
theorem dX3_findSlides_68 : decode cX3_findSlides 68 = .ok (.iload 5, 2) := dk_21 5 (dk_at dksX3_findSlides_2 22 rfl rfl)
theorem dX3_findSlides_70 : decode cX3_findSlides 70 = .ok (.iconst 1, 1) := dk_4 (dk_at dksX3_findSlides_3 0 rfl rfl)
theorem dX3_findSlides_71 : decode cX3_findSlides 71 = .ok (.isub, 1) := dk_100 (dk_at dksX3_findSlides_3 1 rfl rfl)
theorem dX3_findSlides_72 : decode cX3_findSlides 72 = .ok (.iaload, 1) := dk_46 (dk_at dksX3_findSlides_3 2 rfl rfl)
theorem dX3_findSlides_73 : decode cX3_findSlides 73 = .ok (.aload_n 0, 1) := dk_42 (dk_at dksX3_findSlides_3 3 rfl rfl)
theorem dX3_findSlides_74 : decode cX3_findSlides 74 = .ok (.getfield 65, 3) := dk_180 0 65 (dk_at dksX3_findSlides_3 4 rfl rfl)
theorem dX3_findSlides_77 : decode cX3_findSlides 77 = .ok (.iload 4, 2) := dk_21 4 (dk_at dksX3_findSlides_3 7 rfl rfl)
theorem dX3_findSlides_79 : decode cX3_findSlides 79 = .ok (.iaload, 1) := dk_46 (dk_at dksX3_findSlides_3 9 rfl rfl)
theorem dX3_findSlides_80 : decode cX3_findSlides 80 = .ok (.if_icmp .le 25, 3) := dk_164 0 25 (dk_at dksX3_findSlides_3 10 rfl rfl)
theorem dX3_findSlides_83 : decode cX3_findSlides 83 = .ok (.aload_n 0, 1) := dk_42 (dk_at dksX3_findSlides_3 13 rfl rfl)
theorem dX3_findSlides_84 : decode cX3_findSlides 84 = .ok (.getfield 68, 3) := dk_180 0 68 (dk_at dksX3_findSlides_3 14 rfl rfl)
theorem dX3_findSlides_87 : decode cX3_findSlides 87 = .ok (.iload 5, 2) := dk_21 5 (dk_at dksX3_findSlides_3 17 rfl rfl)
theorem dX3_findSlides_89 : decode cX3_findSlides 89 = .ok (.aload_n 0, 1) := dk_42 (dk_at dksX3_findSlides_3 19 rfl rfl)
theorem dX3_findSlides_90 : decode cX3_findSlides 90 = .ok (.getfield 68, 3) := dk_180 0 68 (dk_at dksX3_findSlides_3 20 rfl rfl)
theorem dX3_findSlides_93 : decode cX3_findSlides 93 = .ok (.iload 5, 2) := dk_21 5 (dk_at dksX3_findSlides_4 0 rfl rfl)
theorem dX3_findSlides_95 : decode cX3_findSlides 95 = .ok (.iconst 1, 1) := dk_4 (dk_at dksX3_findSlides_4 2 rfl rfl)
theorem dX3_findSlides_96 : decode cX3_findSlides 96 = .ok (.isub, 1) := dk_100 (dk_at dksX3_findSlides_4 3 rfl rfl)
theorem dX3_findSlides_97 : decode cX3_findSlides 97 = .ok (.iaload, 1) := dk_46 (dk_at dksX3_findSlides_4 4 rfl rfl)
theorem dX3_findSlides_98 : decode cX3_findSlides 98 = .ok (.iastore, 1) := dk_79 (dk_at dksX3_findSlides_4 5 rfl rfl)
theorem dX3_findSlides_99 : decode cX3_findSlides 99 = .ok (.iinc 5 (-1), 3) := dk_132 5 255 (dk_at dksX3_findSlides_4 6 rfl rfl)
theorem dX3_findSlides_102 : decode cX3_findSlides 102 = .ok (.goto (-43), 3) := dk_167 255 213 (dk_at dksX3_findSlides_4 9 rfl rfl)
theorem dX3_findSlides_105 : decode cX3_findSlides 105 = .ok (.aload_n 0, 1) := dk_42 (dk_at dksX3_findSlides_4 12 rfl rfl)
theorem dX3_findSlides_106 : decode cX3_findSlides 106 = .ok (.getfield 68, 3) := dk_180 0 68 (dk_at dksX3_findSlides_4 13 rfl rfl)
theorem dX3_findSlides_109 : decode cX3_findSlides 109 = .ok (.iload 5, 2) := dk_21 5 (dk_at dksX3_findSlides_4 16 rfl rfl)
theorem dX3_findSlides_111 : decode cX3_findSlides 111 = .ok (.aload_n 0, 1) := dk_42 (dk_at dksX3_findSlides_4 18 rfl rfl)
theorem dX3_findSlides_112 : decode cX3_findSlides 112 = .ok (.getfield 65, 3) := dk_180 0 65 (dk_at dksX3_findSlides_4 19 rfl rfl)
theorem dX3_findSlides_115 : decode cX3_findSlides 115 = .ok (.iload 4, 2) := dk_21 4 (dk_at dksX3_findSlides_4 22 rfl rfl)
theorem dX3_findSlides_117 : decode cX3_findSlides 117 = .ok (.iaload, 1) := dk_46 (dk_at dksX3_findSlides_5 0 rfl rfl)
theorem dX3_findSlides_118 : decode cX3_findSlides 118 = .ok (.iastore, 1) := dk_79 (dk_at dksX3_findSlides_5 1 rfl rfl)
theorem dX3_findSlides_119 : decode cX3_findSlides 119 = .ok (.iinc 3 1, 3) := dk_132 3 1 (dk_at dksX3_findSlides_5 2 rfl rfl)
theorem dX3_findSlides_122 : decode cX3_findSlides 122 = .ok (.iinc 4 1, 3) := dk_132 4 1 (dk_at dksX3_findSlides_5 5 rfl rfl)
theorem dX3_findSlides_125 : decode cX3_findSlides 125 = .ok (.goto (-89), 3) := dk_167 255 167 (dk_at dksX3_findSlides_5 8 rfl rfl)
theorem dX3_findSlides_128 : decode cX3_findSlides 128 = .ok (.iconst 0, 1) := dk_3 (dk_at dksX3_findSlides_5 11 rfl rfl)
theorem dX3_findSlides_129 : decode cX3_findSlides 129 = .ok (.istore 4, 2) := dk_54 4 (dk_at dksX3_findSlides_5 12 rfl rfl)
theorem dX3_findSlides_131 : decode cX3_findSlides 131 = .ok (.iload 4, 2) := dk_21 4 (dk_at dksX3_findSlides_5 14 rfl rfl)
theorem dX3_findSlides_133 : decode cX3_findSlides 133 = .ok (.iconst 1, 1) := dk_4 (dk_at dksX3_findSlides_5 16 rfl rfl)
theorem dX3_findSlides_134 : decode cX3_findSlides 134 = .ok (.aload_n 0, 1) := dk_42 (dk_at dksX3_findSlides_5 17 rfl rfl)
theorem dX3_findSlides_135 : decode cX3_findSlides 135 = .ok (.getfield 290, 3) := dk_180 1 34 (dk_at dksX3_findSlides_5 18 rfl rfl)
theorem dX3_findSlides_138 : decode cX3_findSlides 138 = .ok (.ishl, 1) := dk_120 (dk_at dksX3_findSlides_5 21 rfl rfl)
theorem dX3_findSlides_139 : decode cX3_findSlides 139 = .ok (.if_icmp .ge 99, 3) := dk_162 0 99 (dk_at dksX3_findSlides_6 0 rfl rfl)
theorem dX3_findSlides_142 : decode cX3_findSlides 142 = .ok (.iload 4, 2) := dk_21 4 (dk_at dksX3_findSlides_6 3 rfl rfl)
theorem dX3_findSlides_144 : decode cX3_findSlides 144 = .ok (.i2l, 1) := dk_133 (dk_at dksX3_findSlides_6 5 rfl rfl)
theorem dX3_findSlides_145 : decode cX3_findSlides 145 = .ok (.invokestatic 253, 3) := dk_184 0 253 (dk_at dksX3_findSlides_6 6 rfl rfl)
theorem dX3_findSlides_148 : decode cX3_findSlides 148 = .ok (.iload_n 3, 1) := dk_29 (dk_at dksX3_findSlides_6 9 rfl rfl)
theorem dX3_findSlides_149 : decode cX3_findSlides 149 = .ok (.if_icmp .ne 83, 3) := dk_160 0 83 (dk_at dksX3_findSlides_6 10 rfl rfl)
theorem dX3_findSlides_152 : decode cX3_findSlides 152 = .ok (.iconst 0, 1) := dk_3 (dk_at dksX3_findSlides_6 13 rfl rfl)
theorem dX3_findSlides_153 : decode cX3_findSlides 153 = .ok (.istore 5, 2) := dk_54 5 (dk_at dksX3_findSlides_6 14 rfl rfl)
theorem dX3_findSlides_155 : decode cX3_findSlides 155 = .ok (.iconst 0, 1) := dk_3 (dk_at dksX3_findSlides_6 16 rfl rfl)
theorem dX3_findSlides_156 : decode cX3_findSlides 156 = .ok (.istore 6, 2) := dk_54 6 (dk_at dksX3_findSlides_6 17 rfl rfl)
theorem dX3_findSlides_158 : decode cX3_findSlides 158 = .ok (.iload 6, 2) := dk_21 6 (dk_at dksX3_findSlides_6 19 rfl rfl)
theorem dX3_findSlides_160 : decode cX3_findSlides 160 = .ok (.aload_n 0, 1) := dk_42 (dk_at dksX3_findSlides_6 21 rfl rfl)
theorem dX3_findSlides_161 : decode cX3_findSlides 161 = .ok (.getfield 290, 3) := dk_180 1 34 (dk_at dksX3_findSlides_7 0 rfl rfl)
theorem dX3_findSlides_164 : decode cX3_findSlides 164 = .ok (.if_icmp .ge 59, 3) := dk_162 0 59 (dk_at dksX3_findSlides_7 3 rfl rfl)
theorem dX3_findSlides_167 : decode cX3_findSlides 167 = .ok (.aload_n 0, 1) := dk_42 (dk_at dksX3_findSlides_7 6 rfl rfl)
theorem dX3_findSlides_168 : decode cX3_findSlides 168 = .ok (.getfield 65, 3) := dk_180 0 65 (dk_at dksX3_findSlides_7 7 rfl rfl)
theorem dX3_findSlides_171 : decode cX3_findSlides 171 = .ok (.iload 6, 2) := dk_21 6 (dk_at dksX3_findSlides_7 10 rfl rfl)
theorem dX3_findSlides_173 : decode cX3_findSlides 173 = .ok (.iload 4, 2) := dk_21 4 (dk_at dksX3_findSlides_7 12 rfl rfl)
theorem dX3_findSlides_175 : decode cX3_findSlides 175 = .ok (.i2l, 1) := dk_133 (dk_at dksX3_findSlides_7 14 rfl rfl)
theorem dX3_findSlides_176 : decode cX3_findSlides 176 = .ok (.iload 6, 2) := dk_21 6 (dk_at dksX3_findSlides_7 15 rfl rfl)
theorem dX3_findSlides_178 : decode cX3_findSlides 178 = .ok (.invokestatic 115, 3) := dk_184 0 115 (dk_at dksX3_findSlides_7 17 rfl rfl)
theorem dX3_findSlides_181 : decode cX3_findSlides 181 = .ok (.ifCond .eq 13, 3) := dk_153 0 13 (dk_at dksX3_findSlides_7 20 rfl rfl)
theorem dX3_findSlides_184 : decode cX3_findSlides 184 = .ok (.aload_n 0, 1) := dk_42 (dk_at dksX3_findSlides_7 23 rfl rfl)
theorem dX3_findSlides_185 : decode cX3_findSlides 185 = .ok (.getfield 68, 3) := dk_180 0 68 (dk_at dksX3_findSlides_8 0 rfl rfl)
theorem dX3_findSlides_188 : decode cX3_findSlides 188 = .ok (.iload 5, 2) := dk_21 5 (dk_at dksX3_findSlides_8 3 rfl rfl)
theorem dX3_findSlides_190 : decode cX3_findSlides 190 = .ok (.iaload, 1) := dk_46 (dk_at dksX3_findSlides_8 5 rfl rfl)
theorem dX3_findSlides_191 : decode cX3_findSlides 191 = .ok (.goto 4, 3) := dk_167 0 4 (dk_at dksX3_findSlides_8 6 rfl rfl)
theorem dX3_findSlides_194 : decode cX3_findSlides 194 = .ok (.iconst (-1), 1) := dk_2 (dk_at dksX3_findSlides_8 9 rfl rfl)
theorem dX3_findSlides_195 : decode cX3_findSlides 195 = .ok (.iastore, 1) := dk_79 (dk_at dksX3_findSlides_8 10 rfl rfl)
theorem dX3_findSlides_196 : decode cX3_findSlides 196 = .ok (.iload 5, 2) := dk_21 5 (dk_at dksX3_findSlides_8 11 rfl rfl)
theorem dX3_findSlides_198 : decode cX3_findSlides 198 = .ok (.iload 4, 2) := dk_21 4 (dk_at dksX3_findSlides_8 13 rfl rfl)
theorem dX3_findSlides_200 : decode cX3_findSlides 200 = .ok (.i2l, 1) := dk_133 (dk_at dksX3_findSlides_8 15 rfl rfl)
theorem dX3_findSlides_201 : decode cX3_findSlides 201 = .ok (.iload 6, 2) := dk_21 6 (dk_at dksX3_findSlides_8 16 rfl rfl)
theorem dX3_findSlides_203 : decode cX3_findSlides 203 = .ok (.invokestatic 115, 3) := dk_184 0 115 (dk_at dksX3_findSlides_8 18 rfl rfl)
theorem dX3_findSlides_206 : decode cX3_findSlides 206 = .ok (.ifCond .eq 7, 3) := dk_153 0 7 (dk_at dksX3_findSlides_8 21 rfl rfl)
theorem dX3_findSlides_209 : decode cX3_findSlides 209 = .ok (.iconst 1, 1) := dk_4 (dk_at dksX3_findSlides_9 0 rfl rfl)
theorem dX3_findSlides_210 : decode cX3_findSlides 210 = .ok (.goto 4, 3) := dk_167 0 4 (dk_at dksX3_findSlides_9 1 rfl rfl)
theorem dX3_findSlides_213 : decode cX3_findSlides 213 = .ok (.iconst 0, 1) := dk_3 (dk_at dksX3_findSlides_9 4 rfl rfl)
theorem dX3_findSlides_214 : decode cX3_findSlides 214 = .ok (.iadd, 1) := dk_96 (dk_at dksX3_findSlides_9 5 rfl rfl)
theorem dX3_findSlides_215 : decode cX3_findSlides 215 = .ok (.istore 5, 2) := dk_54 5 (dk_at dksX3_findSlides_9 6 rfl rfl)
theorem dX3_findSlides_217 : decode cX3_findSlides 217 = .ok (.iinc 6 1, 3) := dk_132 6 1 (dk_at dksX3_findSlides_9 8 rfl rfl)
theorem dX3_findSlides_220 : decode cX3_findSlides 220 = .ok (.goto (-62), 3) := dk_167 255 194 (dk_at dksX3_findSlides_9 11 rfl rfl)
theorem dX3_findSlides_223 : decode cX3_findSlides 223 = .ok (.aload_n 0, 1) := dk_42 (dk_at dksX3_findSlides_9 14 rfl rfl)
theorem dX3_findSlides_224 : decode cX3_findSlides 224 = .ok (.aload_n 0, 1) := dk_42 (dk_at dksX3_findSlides_9 15 rfl rfl)
theorem dX3_findSlides_225 : decode cX3_findSlides 225 = .ok (.invokevirtual 295, 3) := dk_182 1 39 (dk_at dksX3_findSlides_9 16 rfl rfl)
theorem dX3_findSlides_228 : decode cX3_findSlides 228 = .ok (.iconst 0, 1) := dk_3 (dk_at dksX3_findSlides_9 19 rfl rfl)
theorem dX3_findSlides_229 : decode cX3_findSlides 229 = .ok (.invokevirtual 298, 3) := dk_182 1 42 (dk_at dksX3_findSlides_9 20 rfl rfl)
theorem dX3_findSlides_232 : decode cX3_findSlides 232 = .ok (.iinc 4 1, 3) := dk_132 4 1 (dk_at dksX3_findSlides_10 0 rfl rfl)
theorem dX3_findSlides_235 : decode cX3_findSlides 235 = .ok (.goto (-104), 3) := dk_167 255 152 (dk_at dksX3_findSlides_10 3 rfl rfl)
theorem dX3_findSlides_238 : decode cX3_findSlides 238 = .ok (.iconst 0, 1) := dk_3 (dk_at dksX3_findSlides_10 6 rfl rfl)
theorem dX3_findSlides_239 : decode cX3_findSlides 239 = .ok (.istore 4, 2) := dk_54 4 (dk_at dksX3_findSlides_10 7 rfl rfl)
theorem dX3_findSlides_241 : decode cX3_findSlides 241 = .ok (.iload 4, 2) := dk_21 4 (dk_at dksX3_findSlides_10 9 rfl rfl)
theorem dX3_findSlides_243 : decode cX3_findSlides 243 = .ok (.aload_n 0, 1) := dk_42 (dk_at dksX3_findSlides_10 11 rfl rfl)
theorem dX3_findSlides_244 : decode cX3_findSlides 244 = .ok (.getfield 287, 3) := dk_180 1 31 (dk_at dksX3_findSlides_10 12 rfl rfl)
theorem dX3_findSlides_247 : decode cX3_findSlides 247 = .ok (.if_icmp .ge 38, 3) := dk_162 0 38 (dk_at dksX3_findSlides_10 15 rfl rfl)
theorem dX3_findSlides_250 : decode cX3_findSlides 250 = .ok (.aload_n 0, 1) := dk_42 (dk_at dksX3_findSlides_10 18 rfl rfl)
theorem dX3_findSlides_251 : decode cX3_findSlides 251 = .ok (.aload_n 0, 1) := dk_42 (dk_at dksX3_findSlides_10 19 rfl rfl)
theorem dX3_findSlides_252 : decode cX3_findSlides 252 = .ok (.getfield 62, 3) := dk_180 0 62 (dk_at dksX3_findSlides_10 20 rfl rfl)
theorem dX3_findSlides_255 : decode cX3_findSlides 255 = .ok (.iload 4, 2) := dk_21 4 (dk_at dksX3_findSlides_11 0 rfl rfl)
theorem dX3_findSlides_257 : decode cX3_findSlides 257 = .ok (.laload, 1) := dk_47 (dk_at dksX3_findSlides_11 2 rfl rfl)
theorem dX3_findSlides_258 : decode cX3_findSlides 258 = .ok (.aload_n 0, 1) := dk_42 (dk_at dksX3_findSlides_11 3 rfl rfl)
theorem dX3_findSlides_259 : decode cX3_findSlides 259 = .ok (.getfield 58, 3) := dk_180 0 58 (dk_at dksX3_findSlides_11 4 rfl rfl)
theorem dX3_findSlides_262 : decode cX3_findSlides 262 = .ok (.aload_n 0, 1) := dk_42 (dk_at dksX3_findSlides_11 7 rfl rfl)
theorem dX3_findSlides_263 : decode cX3_findSlides 263 = .ok (.aload_n 0, 1) := dk_42 (dk_at dksX3_findSlides_11 8 rfl rfl)
theorem dX3_findSlides_264 : decode cX3_findSlides 264 = .ok (.getfield 62, 3) := dk_180 0 62 (dk_at dksX3_findSlides_11 9 rfl rfl)
theorem dX3_findSlides_267 : decode cX3_findSlides 267 = .ok (.iload 4, 2) := dk_21 4 (dk_at dksX3_findSlides_11 12 rfl rfl)
theorem dX3_findSlides_269 : decode cX3_findSlides 269 = .ok (.laload, 1) := dk_47 (dk_at dksX3_findSlides_11 14 rfl rfl)
theorem dX3_findSlides_270 : decode cX3_findSlides 270 = .ok (.invokevirtual 284, 3) := dk_182 1 28 (dk_at dksX3_findSlides_11 15 rfl rfl)
theorem dX3_findSlides_273 : decode cX3_findSlides 273 = .ok (.baload, 1) := dk_51 (dk_at dksX3_findSlides_11 18 rfl rfl)
theorem dX3_findSlides_274 : decode cX3_findSlides 274 = .ok (.iconst 1, 1) := dk_4 (dk_at dksX3_findSlides_11 19 rfl rfl)
theorem dX3_findSlides_275 : decode cX3_findSlides 275 = .ok (.iadd, 1) := dk_96 (dk_at dksX3_findSlides_11 20 rfl rfl)
theorem dX3_findSlides_276 : decode cX3_findSlides 276 = .ok (.invokevirtual 302, 3) := dk_182 1 46 (dk_at dksX3_findSlides_11 21 rfl rfl)
theorem dX3_findSlides_279 : decode cX3_findSlides 279 = .ok (.iinc 4 1, 3) := dk_132 4 1 (dk_at dksX3_findSlides_12 0 rfl rfl)
theorem dX3_findSlides_282 : decode cX3_findSlides 282 = .ok (.goto (-41), 3) := dk_167 255 215 (dk_at dksX3_findSlides_12 3 rfl rfl)
theorem dX3_findSlides_285 : decode cX3_findSlides 285 = .ok (.aload_n 0, 1) := dk_42 (dk_at dksX3_findSlides_12 6 rfl rfl)
theorem dX3_findSlides_286 : decode cX3_findSlides 286 = .ok (.lload_n 1, 1) := dk_31 (dk_at dksX3_findSlides_12 7 rfl rfl)
theorem dX3_findSlides_287 : decode cX3_findSlides 287 = .ok (.invokevirtual 305, 3) := dk_182 1 49 (dk_at dksX3_findSlides_12 8 rfl rfl)
theorem dX3_findSlides_290 : decode cX3_findSlides 290 = .ok (.return_, 1) := dk_177 (dk_at dksX3_findSlides_12 11 rfl rfl)
def dkwX3_packed_1 : List UInt8 := [133, 129, 64, 132, 3, 1, 167, 255, 230, 31, 173]
abbrev dktX3_packed_1 : List UInt8 := dkwX3_packed_1 ++ []
def dkwX3_packed_0 : List UInt8 := [9, 64, 3, 62, 29, 42, 180, 1, 34, 162, 0, 24, 31, 16, 6, 121, 42, 180, 0, 65, 29, 46, 5, 96]
abbrev dktX3_packed_0 : List UInt8 := dkwX3_packed_0 ++ dktX3_packed_1
theorem dksX3_packed_0 : cX3_packed.data.toList.drop 0 = dktX3_packed_0 := by decide +kernel
theorem dksX3_packed_1 : cX3_packed.data.toList.drop 24 = dktX3_packed_1 := dk_seg dksX3_packed_0 24 rfl rfl
theorem dX3_packed_0 : decode cX3_packed 0 = .ok (.lconst 0, 1) := dk_9 (dk_at dksX3_packed_0 0 rfl rfl)
theorem dX3_packed_1 : decode cX3_packed 1 = .ok (.lstore_n 1, 1) := dk_64 (dk_at dksX3_packed_0 1 rfl rfl)
theorem dX3_packed_2 : decode cX3_packed 2 = .ok (.iconst 0, 1) := dk_3 (dk_at dksX3_packed_0 2 rfl rfl)
theorem dX3_packed_3 : decode cX3_packed 3 = .ok (.istore_n 3, 1) := dk_62 (dk_at dksX3_packed_0 3 rfl rfl)
theorem dX3_packed_4 : decode cX3_packed 4 = .ok (.iload_n 3, 1) := dk_29 (dk_at dksX3_packed_0 4 rfl rfl)
theorem dX3_packed_5 : decode cX3_packed 5 = .ok (.aload_n 0, 1) := dk_42 (dk_at dksX3_packed_0 5 rfl rfl)
theorem dX3_packed_6 : decode cX3_packed 6 = .ok (.getfield 290, 3) := dk_180 1 34 (dk_at dksX3_packed_0 6 rfl rfl)
theorem dX3_packed_9 : decode cX3_packed 9 = .ok (.if_icmp .ge 24, 3) := dk_162 0 24 (dk_at dksX3_packed_0 9 rfl rfl)
theorem dX3_packed_12 : decode cX3_packed 12 = .ok (.lload_n 1, 1) := dk_31 (dk_at dksX3_packed_0 12 rfl rfl)
theorem dX3_packed_13 : decode cX3_packed 13 = .ok (.bipush 6, 2) := dk_16 6 (dk_at dksX3_packed_0 13 rfl rfl)
theorem dX3_packed_15 : decode cX3_packed 15 = .ok (.lshl, 1) := dk_121 (dk_at dksX3_packed_0 15 rfl rfl)
theorem dX3_packed_16 : decode cX3_packed 16 = .ok (.aload_n 0, 1) := dk_42 (dk_at dksX3_packed_0 16 rfl rfl)
theorem dX3_packed_17 : decode cX3_packed 17 = .ok (.getfield 65, 3) := dk_180 0 65 (dk_at dksX3_packed_0 17 rfl rfl)
theorem dX3_packed_20 : decode cX3_packed 20 = .ok (.iload_n 3, 1) := dk_29 (dk_at dksX3_packed_0 20 rfl rfl)
theorem dX3_packed_21 : decode cX3_packed 21 = .ok (.iaload, 1) := dk_46 (dk_at dksX3_packed_0 21 rfl rfl)
theorem dX3_packed_22 : decode cX3_packed 22 = .ok (.iconst 2, 1) := dk_5 (dk_at dksX3_packed_0 22 rfl rfl)
theorem dX3_packed_23 : decode cX3_packed 23 = .ok (.iadd, 1) := dk_96 (dk_at dksX3_packed_0 23 rfl rfl)
theorem dX3_packed_24 : decode cX3_packed 24 = .ok (.i2l, 1) := dk_133 (dk_at dksX3_packed_1 0 rfl rfl)
theorem dX3_packed_25 : decode cX3_packed 25 = .ok (.lor, 1) := dk_129 (dk_at dksX3_packed_1 1 rfl rfl)
theorem dX3_packed_26 : decode cX3_packed 26 = .ok (.lstore_n 1, 1) := dk_64 (dk_at dksX3_packed_1 2 rfl rfl)
theorem dX3_packed_27 : decode cX3_packed 27 = .ok (.iinc 3 1, 3) := dk_132 3 1 (dk_at dksX3_packed_1 3 rfl rfl)
theorem dX3_packed_30 : decode cX3_packed 30 = .ok (.goto (-26), 3) := dk_167 255 230 (dk_at dksX3_packed_1 6 rfl rfl)
theorem dX3_packed_33 : decode cX3_packed 33 = .ok (.lload_n 1, 1) := dk_31 (dk_at dksX3_packed_1 9 rfl rfl)
theorem dX3_packed_34 : decode cX3_packed 34 = .ok (.lreturn, 1) := dk_173 (dk_at dksX3_packed_1 10 rfl rfl)
def dkwX3_comesTo_2 : List UInt8 := [89, 180, 1, 31, 4, 96, 181, 1, 31, 177]
abbrev dktX3_comesTo_2 : List UInt8 := dkwX3_comesTo_2 ++ []
def dkwX3_comesTo_1 : List UInt8 := [21, 4, 31, 80, 42, 180, 0, 58, 21, 4, 29, 145, 84, 42, 180, 0, 62, 42, 180, 1, 31, 31, 80, 42]
abbrev dktX3_comesTo_1 : List UInt8 := dkwX3_comesTo_1 ++ dktX3_comesTo_2
def dkwX3_comesTo_0 : List UInt8 := [42, 31, 182, 1, 28, 54, 4, 42, 180, 0, 54, 21, 4, 47, 9, 148, 154, 0, 40, 42, 180, 0, 54]
abbrev dktX3_comesTo_0 : List UInt8 := dkwX3_comesTo_0 ++ dktX3_comesTo_1
theorem dksX3_comesTo_0 : cX3_comesTo.data.toList.drop 0 = dktX3_comesTo_0 := by decide +kernel
theorem dksX3_comesTo_1 : cX3_comesTo.data.toList.drop 23 = dktX3_comesTo_1 := dk_seg dksX3_comesTo_0 23 rfl rfl
theorem dksX3_comesTo_2 : cX3_comesTo.data.toList.drop 47 = dktX3_comesTo_2 := dk_seg dksX3_comesTo_1 24 rfl rfl
theorem dX3_comesTo_0 : decode cX3_comesTo 0 = .ok (.aload_n 0, 1) := dk_42 (dk_at dksX3_comesTo_0 0 rfl rfl)
theorem dX3_comesTo_1 : decode cX3_comesTo 1 = .ok (.lload_n 1, 1) := dk_31 (dk_at dksX3_comesTo_0 1 rfl rfl)
theorem dX3_comesTo_2 : decode cX3_comesTo 2 = .ok (.invokevirtual 284, 3) := dk_182 1 28 (dk_at dksX3_comesTo_0 2 rfl rfl)
theorem dX3_comesTo_5 : decode cX3_comesTo 5 = .ok (.istore 4, 2) := dk_54 4 (dk_at dksX3_comesTo_0 5 rfl rfl)
theorem dX3_comesTo_7 : decode cX3_comesTo 7 = .ok (.aload_n 0, 1) := dk_42 (dk_at dksX3_comesTo_0 7 rfl rfl)
theorem dX3_comesTo_8 : decode cX3_comesTo 8 = .ok (.getfield 54, 3) := dk_180 0 54 (dk_at dksX3_comesTo_0 8 rfl rfl)
theorem dX3_comesTo_11 : decode cX3_comesTo 11 = .ok (.iload 4, 2) := dk_21 4 (dk_at dksX3_comesTo_0 11 rfl rfl)
theorem dX3_comesTo_13 : decode cX3_comesTo 13 = .ok (.laload, 1) := dk_47 (dk_at dksX3_comesTo_0 13 rfl rfl)
theorem dX3_comesTo_14 : decode cX3_comesTo 14 = .ok (.lconst 0, 1) := dk_9 (dk_at dksX3_comesTo_0 14 rfl rfl)
theorem dX3_comesTo_15 : decode cX3_comesTo 15 = .ok (.lcmp, 1) := dk_148 (dk_at dksX3_comesTo_0 15 rfl rfl)
theorem dX3_comesTo_16 : decode cX3_comesTo 16 = .ok (.ifCond .ne 40, 3) := dk_154 0 40 (dk_at dksX3_comesTo_0 16 rfl rfl)
theorem dX3_comesTo_19 : decode cX3_comesTo 19 = .ok (.aload_n 0, 1) := dk_42 (dk_at dksX3_comesTo_0 19 rfl rfl)
theorem dX3_comesTo_20 : decode cX3_comesTo 20 = .ok (.getfield 54, 3) := dk_180 0 54 (dk_at dksX3_comesTo_0 20 rfl rfl)
theorem dX3_comesTo_23 : decode cX3_comesTo 23 = .ok (.iload 4, 2) := dk_21 4 (dk_at dksX3_comesTo_1 0 rfl rfl)
theorem dX3_comesTo_25 : decode cX3_comesTo 25 = .ok (.lload_n 1, 1) := dk_31 (dk_at dksX3_comesTo_1 2 rfl rfl)
theorem dX3_comesTo_26 : decode cX3_comesTo 26 = .ok (.lastore, 1) := dk_80 (dk_at dksX3_comesTo_1 3 rfl rfl)
theorem dX3_comesTo_27 : decode cX3_comesTo 27 = .ok (.aload_n 0, 1) := dk_42 (dk_at dksX3_comesTo_1 4 rfl rfl)
theorem dX3_comesTo_28 : decode cX3_comesTo 28 = .ok (.getfield 58, 3) := dk_180 0 58 (dk_at dksX3_comesTo_1 5 rfl rfl)
theorem dX3_comesTo_31 : decode cX3_comesTo 31 = .ok (.iload 4, 2) := dk_21 4 (dk_at dksX3_comesTo_1 8 rfl rfl)
theorem dX3_comesTo_33 : decode cX3_comesTo 33 = .ok (.iload_n 3, 1) := dk_29 (dk_at dksX3_comesTo_1 10 rfl rfl)
theorem dX3_comesTo_34 : decode cX3_comesTo 34 = .ok (.i2b, 1) := dk_145 (dk_at dksX3_comesTo_1 11 rfl rfl)
theorem dX3_comesTo_35 : decode cX3_comesTo 35 = .ok (.bastore, 1) := dk_84 (dk_at dksX3_comesTo_1 12 rfl rfl)
theorem dX3_comesTo_36 : decode cX3_comesTo 36 = .ok (.aload_n 0, 1) := dk_42 (dk_at dksX3_comesTo_1 13 rfl rfl)
theorem dX3_comesTo_37 : decode cX3_comesTo 37 = .ok (.getfield 62, 3) := dk_180 0 62 (dk_at dksX3_comesTo_1 14 rfl rfl)
theorem dX3_comesTo_40 : decode cX3_comesTo 40 = .ok (.aload_n 0, 1) := dk_42 (dk_at dksX3_comesTo_1 17 rfl rfl)
theorem dX3_comesTo_41 : decode cX3_comesTo 41 = .ok (.getfield 287, 3) := dk_180 1 31 (dk_at dksX3_comesTo_1 18 rfl rfl)
theorem dX3_comesTo_44 : decode cX3_comesTo 44 = .ok (.lload_n 1, 1) := dk_31 (dk_at dksX3_comesTo_1 21 rfl rfl)
theorem dX3_comesTo_45 : decode cX3_comesTo 45 = .ok (.lastore, 1) := dk_80 (dk_at dksX3_comesTo_1 22 rfl rfl)
theorem dX3_comesTo_46 : decode cX3_comesTo 46 = .ok (.aload_n 0, 1) := dk_42 (dk_at dksX3_comesTo_1 23 rfl rfl)
theorem dX3_comesTo_47 : decode cX3_comesTo 47 = .ok (.dup, 1) := dk_89 (dk_at dksX3_comesTo_2 0 rfl rfl)
theorem dX3_comesTo_48 : decode cX3_comesTo 48 = .ok (.getfield 287, 3) := dk_180 1 31 (dk_at dksX3_comesTo_2 1 rfl rfl)
theorem dX3_comesTo_51 : decode cX3_comesTo 51 = .ok (.iconst 1, 1) := dk_4 (dk_at dksX3_comesTo_2 4 rfl rfl)
theorem dX3_comesTo_52 : decode cX3_comesTo 52 = .ok (.iadd, 1) := dk_96 (dk_at dksX3_comesTo_2 5 rfl rfl)
theorem dX3_comesTo_53 : decode cX3_comesTo 53 = .ok (.putfield 287, 3) := dk_181 1 31 (dk_at dksX3_comesTo_2 6 rfl rfl)
theorem dX3_comesTo_56 : decode cX3_comesTo 56 = .ok (.return_, 1) := dk_177 (dk_at dksX3_comesTo_2 9 rfl rfl)
def dkwX3_find_1 : List UInt8 := [153, 0, 13, 29, 4, 96, 18, 53, 112, 62, 167, 255, 227, 29, 172]
abbrev dktX3_find_1 : List UInt8 := dkwX3_find_1 ++ []
def dkwX3_find_0 : List UInt8 := [31, 184, 1, 25, 62, 42, 180, 0, 54, 29, 47, 9, 148, 153, 0, 24, 42, 180, 0, 54, 29, 47, 31, 148]
abbrev dktX3_find_0 : List UInt8 := dkwX3_find_0 ++ dktX3_find_1
theorem dksX3_find_0 : cX3_find.data.toList.drop 0 = dktX3_find_0 := by decide +kernel
theorem dksX3_find_1 : cX3_find.data.toList.drop 24 = dktX3_find_1 := dk_seg dksX3_find_0 24 rfl rfl
theorem dX3_find_0 : decode cX3_find 0 = .ok (.lload_n 1, 1) := dk_31 (dk_at dksX3_find_0 0 rfl rfl)
theorem dX3_find_1 : decode cX3_find 1 = .ok (.invokestatic 281, 3) := dk_184 1 25 (dk_at dksX3_find_0 1 rfl rfl)
theorem dX3_find_4 : decode cX3_find 4 = .ok (.istore_n 3, 1) := dk_62 (dk_at dksX3_find_0 4 rfl rfl)
theorem dX3_find_5 : decode cX3_find 5 = .ok (.aload_n 0, 1) := dk_42 (dk_at dksX3_find_0 5 rfl rfl)
theorem dX3_find_6 : decode cX3_find 6 = .ok (.getfield 54, 3) := dk_180 0 54 (dk_at dksX3_find_0 6 rfl rfl)
theorem dX3_find_9 : decode cX3_find 9 = .ok (.iload_n 3, 1) := dk_29 (dk_at dksX3_find_0 9 rfl rfl)
theorem dX3_find_10 : decode cX3_find 10 = .ok (.laload, 1) := dk_47 (dk_at dksX3_find_0 10 rfl rfl)
theorem dX3_find_11 : decode cX3_find 11 = .ok (.lconst 0, 1) := dk_9 (dk_at dksX3_find_0 11 rfl rfl)
theorem dX3_find_12 : decode cX3_find 12 = .ok (.lcmp, 1) := dk_148 (dk_at dksX3_find_0 12 rfl rfl)
theorem dX3_find_13 : decode cX3_find 13 = .ok (.ifCond .eq 24, 3) := dk_153 0 24 (dk_at dksX3_find_0 13 rfl rfl)
theorem dX3_find_16 : decode cX3_find 16 = .ok (.aload_n 0, 1) := dk_42 (dk_at dksX3_find_0 16 rfl rfl)
theorem dX3_find_17 : decode cX3_find 17 = .ok (.getfield 54, 3) := dk_180 0 54 (dk_at dksX3_find_0 17 rfl rfl)
theorem dX3_find_20 : decode cX3_find 20 = .ok (.iload_n 3, 1) := dk_29 (dk_at dksX3_find_0 20 rfl rfl)
theorem dX3_find_21 : decode cX3_find 21 = .ok (.laload, 1) := dk_47 (dk_at dksX3_find_0 21 rfl rfl)
theorem dX3_find_22 : decode cX3_find 22 = .ok (.lload_n 1, 1) := dk_31 (dk_at dksX3_find_0 22 rfl rfl)
theorem dX3_find_23 : decode cX3_find 23 = .ok (.lcmp, 1) := dk_148 (dk_at dksX3_find_0 23 rfl rfl)
theorem dX3_find_24 : decode cX3_find 24 = .ok (.ifCond .eq 13, 3) := dk_153 0 13 (dk_at dksX3_find_1 0 rfl rfl)
theorem dX3_find_27 : decode cX3_find 27 = .ok (.iload_n 3, 1) := dk_29 (dk_at dksX3_find_1 3 rfl rfl)
theorem dX3_find_28 : decode cX3_find 28 = .ok (.iconst 1, 1) := dk_4 (dk_at dksX3_find_1 4 rfl rfl)
theorem dX3_find_29 : decode cX3_find 29 = .ok (.iadd, 1) := dk_96 (dk_at dksX3_find_1 5 rfl rfl)
theorem dX3_find_30 : decode cX3_find 30 = .ok (.ldc 53, 2) := dk_18 53 (dk_at dksX3_find_1 6 rfl rfl)
theorem dX3_find_32 : decode cX3_find 32 = .ok (.irem, 1) := dk_112 (dk_at dksX3_find_1 8 rfl rfl)
theorem dX3_find_33 : decode cX3_find 33 = .ok (.istore_n 3, 1) := dk_62 (dk_at dksX3_find_1 9 rfl rfl)
theorem dX3_find_34 : decode cX3_find 34 = .ok (.goto (-29), 3) := dk_167 255 227 (dk_at dksX3_find_1 10 rfl rfl)
theorem dX3_find_37 : decode cX3_find 37 = .ok (.iload_n 3, 1) := dk_29 (dk_at dksX3_find_1 13 rfl rfl)
theorem dX3_find_38 : decode cX3_find 38 = .ok (.ireturn, 1) := dk_172 (dk_at dksX3_find_1 14 rfl rfl)
def dkwX3_slot_0 : List UInt8 := [30, 20, 1, 23, 105, 16, 47, 125, 136, 172]
abbrev dktX3_slot_0 : List UInt8 := dkwX3_slot_0 ++ []
theorem dksX3_slot_0 : cX3_slot.data.toList.drop 0 = dktX3_slot_0 := by decide +kernel
theorem dX3_slot_0 : decode cX3_slot 0 = .ok (.lload_n 0, 1) := dk_30 (dk_at dksX3_slot_0 0 rfl rfl)
theorem dX3_slot_1 : decode cX3_slot 1 = .ok (.ldc2_w 279, 3) := dk_20 1 23 (dk_at dksX3_slot_0 1 rfl rfl)
theorem dX3_slot_4 : decode cX3_slot 4 = .ok (.lmul, 1) := dk_105 (dk_at dksX3_slot_0 4 rfl rfl)
theorem dX3_slot_5 : decode cX3_slot 5 = .ok (.bipush 47, 2) := dk_16 47 (dk_at dksX3_slot_0 5 rfl rfl)
theorem dX3_slot_7 : decode cX3_slot 7 = .ok (.lushr, 1) := dk_125 (dk_at dksX3_slot_0 7 rfl rfl)
theorem dX3_slot_8 : decode cX3_slot 8 = .ok (.l2i, 1) := dk_136 (dk_at dksX3_slot_0 8 rfl rfl)
theorem dX3_slot_9 : decode cX3_slot 9 = .ok (.ireturn, 1) := dk_172 (dk_at dksX3_slot_0 9 rfl rfl)
def dkwX3_slideAll_3 : List UInt8 := [21, 5, 182, 1, 53, 132, 5, 1, 167, 255, 197, 132, 4, 1, 167, 255, 179, 177]
abbrev dktX3_slideAll_3 : List UInt8 := dkwX3_slideAll_3 ++ []
def dkwX3_slideAll_2 : List UInt8 := [2, 160, 0, 28, 42, 21, 4, 21, 5, 182, 1, 53, 42, 42, 182, 1, 39, 29, 182, 1, 42, 42, 21, 4]
abbrev dktX3_slideAll_2 : List UInt8 := dkwX3_slideAll_2 ++ dktX3_slideAll_3
def dkwX3_slideAll_1 : List UInt8 := [180, 1, 34, 162, 0, 56, 42, 180, 0, 65, 21, 4, 46, 2, 159, 0, 39, 42, 180, 0, 65, 21, 5, 46]
abbrev dktX3_slideAll_1 : List UInt8 := dkwX3_slideAll_1 ++ dktX3_slideAll_2
def dkwX3_slideAll_0 : List UInt8 := [42, 31, 182, 1, 49, 3, 54, 4, 21, 4, 42, 180, 1, 34, 162, 0, 74, 3, 54, 5, 21, 5, 42]
abbrev dktX3_slideAll_0 : List UInt8 := dkwX3_slideAll_0 ++ dktX3_slideAll_1
theorem dksX3_slideAll_0 : cX3_slideAll.data.toList.drop 0 = dktX3_slideAll_0 := by decide +kernel
theorem dksX3_slideAll_1 : cX3_slideAll.data.toList.drop 23 = dktX3_slideAll_1 := dk_seg dksX3_slideAll_0 23 rfl rfl
theorem dksX3_slideAll_2 : cX3_slideAll.data.toList.drop 47 = dktX3_slideAll_2 := dk_seg dksX3_slideAll_1 24 rfl rfl
theorem dksX3_slideAll_3 : cX3_slideAll.data.toList.drop 71 = dktX3_slideAll_3 := dk_seg dksX3_slideAll_2 24 rfl rfl
theorem dX3_slideAll_0 : decode cX3_slideAll 0 = .ok (.aload_n 0, 1) := dk_42 (dk_at dksX3_slideAll_0 0 rfl rfl)
theorem dX3_slideAll_1 : decode cX3_slideAll 1 = .ok (.lload_n 1, 1) := dk_31 (dk_at dksX3_slideAll_0 1 rfl rfl)
theorem dX3_slideAll_2 : decode cX3_slideAll 2 = .ok (.invokevirtual 305, 3) := dk_182 1 49 (dk_at dksX3_slideAll_0 2 rfl rfl)
theorem dX3_slideAll_5 : decode cX3_slideAll 5 = .ok (.iconst 0, 1) := dk_3 (dk_at dksX3_slideAll_0 5 rfl rfl)
theorem dX3_slideAll_6 : decode cX3_slideAll 6 = .ok (.istore 4, 2) := dk_54 4 (dk_at dksX3_slideAll_0 6 rfl rfl)
theorem dX3_slideAll_8 : decode cX3_slideAll 8 = .ok (.iload 4, 2) := dk_21 4 (dk_at dksX3_slideAll_0 8 rfl rfl)
theorem dX3_slideAll_10 : decode cX3_slideAll 10 = .ok (.aload_n 0, 1) := dk_42 (dk_at dksX3_slideAll_0 10 rfl rfl)
theorem dX3_slideAll_11 : decode cX3_slideAll 11 = .ok (.getfield 290, 3) := dk_180 1 34 (dk_at dksX3_slideAll_0 11 rfl rfl)
theorem dX3_slideAll_14 : decode cX3_slideAll 14 = .ok (.if_icmp .ge 74, 3) := dk_162 0 74 (dk_at dksX3_slideAll_0 14 rfl rfl)
theorem dX3_slideAll_17 : decode cX3_slideAll 17 = .ok (.iconst 0, 1) := dk_3 (dk_at dksX3_slideAll_0 17 rfl rfl)
theorem dX3_slideAll_18 : decode cX3_slideAll 18 = .ok (.istore 5, 2) := dk_54 5 (dk_at dksX3_slideAll_0 18 rfl rfl)
theorem dX3_slideAll_20 : decode cX3_slideAll 20 = .ok (.iload 5, 2) := dk_21 5 (dk_at dksX3_slideAll_0 20 rfl rfl)
theorem dX3_slideAll_22 : decode cX3_slideAll 22 = .ok (.aload_n 0, 1) := dk_42 (dk_at dksX3_slideAll_0 22 rfl rfl)
theorem dX3_slideAll_23 : decode cX3_slideAll 23 = .ok (.getfield 290, 3) := dk_180 1 34 (dk_at dksX3_slideAll_1 0 rfl rfl)
theorem dX3_slideAll_26 : decode cX3_slideAll 26 = .ok (.if_icmp .ge 56, 3) := dk_162 0 56 (dk_at dksX3_slideAll_1 3 rfl rfl)
theorem dX3_slideAll_29 : decode cX3_slideAll 29 = .ok (.aload_n 0, 1) := dk_42 (dk_at dksX3_slideAll_1 6 rfl rfl)
theorem dX3_slideAll_30 : decode cX3_slideAll 30 = .ok (.getfield 65, 3) := dk_180 0 65 (dk_at dksX3_slideAll_1 7 rfl rfl)
theorem dX3_slideAll_33 : decode cX3_slideAll 33 = .ok (.iload 4, 2) := dk_21 4 (dk_at dksX3_slideAll_1 10 rfl rfl)
theorem dX3_slideAll_35 : decode cX3_slideAll 35 = .ok (.iaload, 1) := dk_46 (dk_at dksX3_slideAll_1 12 rfl rfl)
theorem dX3_slideAll_36 : decode cX3_slideAll 36 = .ok (.iconst (-1), 1) := dk_2 (dk_at dksX3_slideAll_1 13 rfl rfl)
theorem dX3_slideAll_37 : decode cX3_slideAll 37 = .ok (.if_icmp .eq 39, 3) := dk_159 0 39 (dk_at dksX3_slideAll_1 14 rfl rfl)
theorem dX3_slideAll_40 : decode cX3_slideAll 40 = .ok (.aload_n 0, 1) := dk_42 (dk_at dksX3_slideAll_1 17 rfl rfl)
theorem dX3_slideAll_41 : decode cX3_slideAll 41 = .ok (.getfield 65, 3) := dk_180 0 65 (dk_at dksX3_slideAll_1 18 rfl rfl)
theorem dX3_slideAll_44 : decode cX3_slideAll 44 = .ok (.iload 5, 2) := dk_21 5 (dk_at dksX3_slideAll_1 21 rfl rfl)
theorem dX3_slideAll_46 : decode cX3_slideAll 46 = .ok (.iaload, 1) := dk_46 (dk_at dksX3_slideAll_1 23 rfl rfl)
theorem dX3_slideAll_47 : decode cX3_slideAll 47 = .ok (.iconst (-1), 1) := dk_2 (dk_at dksX3_slideAll_2 0 rfl rfl)
theorem dX3_slideAll_48 : decode cX3_slideAll 48 = .ok (.if_icmp .ne 28, 3) := dk_160 0 28 (dk_at dksX3_slideAll_2 1 rfl rfl)
theorem dX3_slideAll_51 : decode cX3_slideAll 51 = .ok (.aload_n 0, 1) := dk_42 (dk_at dksX3_slideAll_2 4 rfl rfl)
theorem dX3_slideAll_52 : decode cX3_slideAll 52 = .ok (.iload 4, 2) := dk_21 4 (dk_at dksX3_slideAll_2 5 rfl rfl)
theorem dX3_slideAll_54 : decode cX3_slideAll 54 = .ok (.iload 5, 2) := dk_21 5 (dk_at dksX3_slideAll_2 7 rfl rfl)
theorem dX3_slideAll_56 : decode cX3_slideAll 56 = .ok (.invokevirtual 309, 3) := dk_182 1 53 (dk_at dksX3_slideAll_2 9 rfl rfl)
theorem dX3_slideAll_59 : decode cX3_slideAll 59 = .ok (.aload_n 0, 1) := dk_42 (dk_at dksX3_slideAll_2 12 rfl rfl)
theorem dX3_slideAll_60 : decode cX3_slideAll 60 = .ok (.aload_n 0, 1) := dk_42 (dk_at dksX3_slideAll_2 13 rfl rfl)
theorem dX3_slideAll_61 : decode cX3_slideAll 61 = .ok (.invokevirtual 295, 3) := dk_182 1 39 (dk_at dksX3_slideAll_2 14 rfl rfl)
theorem dX3_slideAll_64 : decode cX3_slideAll 64 = .ok (.iload_n 3, 1) := dk_29 (dk_at dksX3_slideAll_2 17 rfl rfl)
theorem dX3_slideAll_65 : decode cX3_slideAll 65 = .ok (.invokevirtual 298, 3) := dk_182 1 42 (dk_at dksX3_slideAll_2 18 rfl rfl)
theorem dX3_slideAll_68 : decode cX3_slideAll 68 = .ok (.aload_n 0, 1) := dk_42 (dk_at dksX3_slideAll_2 21 rfl rfl)
theorem dX3_slideAll_69 : decode cX3_slideAll 69 = .ok (.iload 4, 2) := dk_21 4 (dk_at dksX3_slideAll_2 22 rfl rfl)
theorem dX3_slideAll_71 : decode cX3_slideAll 71 = .ok (.iload 5, 2) := dk_21 5 (dk_at dksX3_slideAll_3 0 rfl rfl)
theorem dX3_slideAll_73 : decode cX3_slideAll 73 = .ok (.invokevirtual 309, 3) := dk_182 1 53 (dk_at dksX3_slideAll_3 2 rfl rfl)
theorem dX3_slideAll_76 : decode cX3_slideAll 76 = .ok (.iinc 5 1, 3) := dk_132 5 1 (dk_at dksX3_slideAll_3 5 rfl rfl)
theorem dX3_slideAll_79 : decode cX3_slideAll 79 = .ok (.goto (-59), 3) := dk_167 255 197 (dk_at dksX3_slideAll_3 8 rfl rfl)
theorem dX3_slideAll_82 : decode cX3_slideAll 82 = .ok (.iinc 4 1, 3) := dk_132 4 1 (dk_at dksX3_slideAll_3 11 rfl rfl)
theorem dX3_slideAll_85 : decode cX3_slideAll 85 = .ok (.goto (-77), 3) := dk_167 255 179 (dk_at dksX3_slideAll_3 14 rfl rfl)
theorem dX3_slideAll_88 : decode cX3_slideAll 88 = .ok (.return_, 1) := dk_177 (dk_at dksX3_slideAll_3 17 rfl rfl)
def dkwX3_unpack_1 : List UInt8 := [20, 1, 37, 127, 136, 5, 100, 79, 33, 16, 6, 123, 66, 132, 5, 255, 167, 255, 228, 177]
abbrev dktX3_unpack_1 : List UInt8 := dkwX3_unpack_1 ++ []
def dkwX3_unpack_0 : List UInt8 := [31, 66, 42, 180, 1, 34, 4, 100, 54, 5, 21, 5, 155, 0, 29, 42, 180, 0, 65, 21, 5, 33]
abbrev dktX3_unpack_0 : List UInt8 := dkwX3_unpack_0 ++ dktX3_unpack_1
theorem dksX3_unpack_0 : cX3_unpack.data.toList.drop 0 = dktX3_unpack_0 := by decide +kernel
theorem dksX3_unpack_1 : cX3_unpack.data.toList.drop 22 = dktX3_unpack_1 := dk_seg dksX3_unpack_0 22 rfl rfl
theorem dX3_unpack_0 : decode cX3_unpack 0 = .ok (.lload_n 1, 1) := dk_31 (dk_at dksX3_unpack_0 0 rfl rfl)
theorem dX3_unpack_1 : decode cX3_unpack 1 = .ok (.lstore_n 3, 1) := dk_66 (dk_at dksX3_unpack_0 1 rfl rfl)
theorem dX3_unpack_2 : decode cX3_unpack 2 = .ok (.aload_n 0, 1) := dk_42 (dk_at dksX3_unpack_0 2 rfl rfl)
theorem dX3_unpack_3 : decode cX3_unpack 3 = .ok (.getfield 290, 3) := dk_180 1 34 (dk_at dksX3_unpack_0 3 rfl rfl)
theorem dX3_unpack_6 : decode cX3_unpack 6 = .ok (.iconst 1, 1) := dk_4 (dk_at dksX3_unpack_0 6 rfl rfl)
theorem dX3_unpack_7 : decode cX3_unpack 7 = .ok (.isub, 1) := dk_100 (dk_at dksX3_unpack_0 7 rfl rfl)
theorem dX3_unpack_8 : decode cX3_unpack 8 = .ok (.istore 5, 2) := dk_54 5 (dk_at dksX3_unpack_0 8 rfl rfl)
theorem dX3_unpack_10 : decode cX3_unpack 10 = .ok (.iload 5, 2) := dk_21 5 (dk_at dksX3_unpack_0 10 rfl rfl)
theorem dX3_unpack_12 : decode cX3_unpack 12 = .ok (.ifCond .lt 29, 3) := dk_155 0 29 (dk_at dksX3_unpack_0 12 rfl rfl)
theorem dX3_unpack_15 : decode cX3_unpack 15 = .ok (.aload_n 0, 1) := dk_42 (dk_at dksX3_unpack_0 15 rfl rfl)
theorem dX3_unpack_16 : decode cX3_unpack 16 = .ok (.getfield 65, 3) := dk_180 0 65 (dk_at dksX3_unpack_0 16 rfl rfl)
theorem dX3_unpack_19 : decode cX3_unpack 19 = .ok (.iload 5, 2) := dk_21 5 (dk_at dksX3_unpack_0 19 rfl rfl)
theorem dX3_unpack_21 : decode cX3_unpack 21 = .ok (.lload_n 3, 1) := dk_33 (dk_at dksX3_unpack_0 21 rfl rfl)
theorem dX3_unpack_22 : decode cX3_unpack 22 = .ok (.ldc2_w 293, 3) := dk_20 1 37 (dk_at dksX3_unpack_1 0 rfl rfl)
theorem dX3_unpack_25 : decode cX3_unpack 25 = .ok (.land, 1) := dk_127 (dk_at dksX3_unpack_1 3 rfl rfl)
theorem dX3_unpack_26 : decode cX3_unpack 26 = .ok (.l2i, 1) := dk_136 (dk_at dksX3_unpack_1 4 rfl rfl)
theorem dX3_unpack_27 : decode cX3_unpack 27 = .ok (.iconst 2, 1) := dk_5 (dk_at dksX3_unpack_1 5 rfl rfl)
theorem dX3_unpack_28 : decode cX3_unpack 28 = .ok (.isub, 1) := dk_100 (dk_at dksX3_unpack_1 6 rfl rfl)
theorem dX3_unpack_29 : decode cX3_unpack 29 = .ok (.iastore, 1) := dk_79 (dk_at dksX3_unpack_1 7 rfl rfl)
theorem dX3_unpack_30 : decode cX3_unpack 30 = .ok (.lload_n 3, 1) := dk_33 (dk_at dksX3_unpack_1 8 rfl rfl)
theorem dX3_unpack_31 : decode cX3_unpack 31 = .ok (.bipush 6, 2) := dk_16 6 (dk_at dksX3_unpack_1 9 rfl rfl)
theorem dX3_unpack_33 : decode cX3_unpack 33 = .ok (.lshr, 1) := dk_123 (dk_at dksX3_unpack_1 11 rfl rfl)
theorem dX3_unpack_34 : decode cX3_unpack 34 = .ok (.lstore_n 3, 1) := dk_66 (dk_at dksX3_unpack_1 12 rfl rfl)
theorem dX3_unpack_35 : decode cX3_unpack 35 = .ok (.iinc 5 (-1), 3) := dk_132 5 255 (dk_at dksX3_unpack_1 13 rfl rfl)
theorem dX3_unpack_38 : decode cX3_unpack 38 = .ok (.goto (-28), 3) := dk_167 255 228 (dk_at dksX3_unpack_1 16 rfl rfl)
theorem dX3_unpack_41 : decode cX3_unpack 41 = .ok (.return_, 1) := dk_177 (dk_at dksX3_unpack_1 19 rfl rfl)
def dkwX3_swap_1 : List UInt8 := [29, 79, 177]
abbrev dktX3_swap_1 : List UInt8 := dkwX3_swap_1 ++ []
def dkwX3_swap_0 : List UInt8 := [42, 180, 0, 65, 27, 46, 62, 42, 180, 0, 65, 27, 42, 180, 0, 65, 28, 46, 79, 42, 180, 0, 65, 28]
abbrev dktX3_swap_0 : List UInt8 := dkwX3_swap_0 ++ dktX3_swap_1
theorem dksX3_swap_0 : cX3_swap.data.toList.drop 0 = dktX3_swap_0 := by decide +kernel
theorem dksX3_swap_1 : cX3_swap.data.toList.drop 24 = dktX3_swap_1 := dk_seg dksX3_swap_0 24 rfl rfl
theorem dX3_swap_0 : decode cX3_swap 0 = .ok (.aload_n 0, 1) := dk_42 (dk_at dksX3_swap_0 0 rfl rfl)
theorem dX3_swap_1 : decode cX3_swap 1 = .ok (.getfield 65, 3) := dk_180 0 65 (dk_at dksX3_swap_0 1 rfl rfl)
theorem dX3_swap_4 : decode cX3_swap 4 = .ok (.iload_n 1, 1) := dk_27 (dk_at dksX3_swap_0 4 rfl rfl)
theorem dX3_swap_5 : decode cX3_swap 5 = .ok (.iaload, 1) := dk_46 (dk_at dksX3_swap_0 5 rfl rfl)
theorem dX3_swap_6 : decode cX3_swap 6 = .ok (.istore_n 3, 1) := dk_62 (dk_at dksX3_swap_0 6 rfl rfl)
theorem dX3_swap_7 : decode cX3_swap 7 = .ok (.aload_n 0, 1) := dk_42 (dk_at dksX3_swap_0 7 rfl rfl)
theorem dX3_swap_8 : decode cX3_swap 8 = .ok (.getfield 65, 3) := dk_180 0 65 (dk_at dksX3_swap_0 8 rfl rfl)
theorem dX3_swap_11 : decode cX3_swap 11 = .ok (.iload_n 1, 1) := dk_27 (dk_at dksX3_swap_0 11 rfl rfl)
theorem dX3_swap_12 : decode cX3_swap 12 = .ok (.aload_n 0, 1) := dk_42 (dk_at dksX3_swap_0 12 rfl rfl)
theorem dX3_swap_13 : decode cX3_swap 13 = .ok (.getfield 65, 3) := dk_180 0 65 (dk_at dksX3_swap_0 13 rfl rfl)
theorem dX3_swap_16 : decode cX3_swap 16 = .ok (.iload_n 2, 1) := dk_28 (dk_at dksX3_swap_0 16 rfl rfl)
theorem dX3_swap_17 : decode cX3_swap 17 = .ok (.iaload, 1) := dk_46 (dk_at dksX3_swap_0 17 rfl rfl)
theorem dX3_swap_18 : decode cX3_swap 18 = .ok (.iastore, 1) := dk_79 (dk_at dksX3_swap_0 18 rfl rfl)
theorem dX3_swap_19 : decode cX3_swap 19 = .ok (.aload_n 0, 1) := dk_42 (dk_at dksX3_swap_0 19 rfl rfl)
theorem dX3_swap_20 : decode cX3_swap 20 = .ok (.getfield 65, 3) := dk_180 0 65 (dk_at dksX3_swap_0 20 rfl rfl)
theorem dX3_swap_23 : decode cX3_swap 23 = .ok (.iload_n 2, 1) := dk_28 (dk_at dksX3_swap_0 23 rfl rfl)
theorem dX3_swap_24 : decode cX3_swap 24 = .ok (.iload_n 3, 1) := dk_29 (dk_at dksX3_swap_1 0 rfl rfl)
theorem dX3_swap_25 : decode cX3_swap 25 = .ok (.iastore, 1) := dk_79 (dk_at dksX3_swap_1 1 rfl rfl)
theorem dX3_swap_26 : decode cX3_swap 26 = .ok (.return_, 1) := dk_177 (dk_at dksX3_swap_1 2 rfl rfl)
def dkwX3_slidesNow_1 : List UInt8 := [42, 180, 0, 58, 27, 51, 172]
abbrev dktX3_slidesNow_1 : List UInt8 := dkwX3_slidesNow_1 ++ []
def dkwX3_slidesNow_0 : List UInt8 := [42, 42, 182, 1, 39, 182, 1, 28, 60, 42, 180, 0, 54, 27, 47, 9, 148, 154, 0, 7, 2, 167, 0, 9]
abbrev dktX3_slidesNow_0 : List UInt8 := dkwX3_slidesNow_0 ++ dktX3_slidesNow_1
theorem dksX3_slidesNow_0 : cX3_slidesNow.data.toList.drop 0 = dktX3_slidesNow_0 := by decide +kernel
theorem dksX3_slidesNow_1 : cX3_slidesNow.data.toList.drop 24 = dktX3_slidesNow_1 := dk_seg dksX3_slidesNow_0 24 rfl rfl
theorem dX3_slidesNow_0 : decode cX3_slidesNow 0 = .ok (.aload_n 0, 1) := dk_42 (dk_at dksX3_slidesNow_0 0 rfl rfl)
theorem dX3_slidesNow_1 : decode cX3_slidesNow 1 = .ok (.aload_n 0, 1) := dk_42 (dk_at dksX3_slidesNow_0 1 rfl rfl)
theorem dX3_slidesNow_2 : decode cX3_slidesNow 2 = .ok (.invokevirtual 295, 3) := dk_182 1 39 (dk_at dksX3_slidesNow_0 2 rfl rfl)
theorem dX3_slidesNow_5 : decode cX3_slidesNow 5 = .ok (.invokevirtual 284, 3) := dk_182 1 28 (dk_at dksX3_slidesNow_0 5 rfl rfl)
theorem dX3_slidesNow_8 : decode cX3_slidesNow 8 = .ok (.istore_n 1, 1) := dk_60 (dk_at dksX3_slidesNow_0 8 rfl rfl)
theorem dX3_slidesNow_9 : decode cX3_slidesNow 9 = .ok (.aload_n 0, 1) := dk_42 (dk_at dksX3_slidesNow_0 9 rfl rfl)
theorem dX3_slidesNow_10 : decode cX3_slidesNow 10 = .ok (.getfield 54, 3) := dk_180 0 54 (dk_at dksX3_slidesNow_0 10 rfl rfl)
theorem dX3_slidesNow_13 : decode cX3_slidesNow 13 = .ok (.iload_n 1, 1) := dk_27 (dk_at dksX3_slidesNow_0 13 rfl rfl)
theorem dX3_slidesNow_14 : decode cX3_slidesNow 14 = .ok (.laload, 1) := dk_47 (dk_at dksX3_slidesNow_0 14 rfl rfl)
theorem dX3_slidesNow_15 : decode cX3_slidesNow 15 = .ok (.lconst 0, 1) := dk_9 (dk_at dksX3_slidesNow_0 15 rfl rfl)
theorem dX3_slidesNow_16 : decode cX3_slidesNow 16 = .ok (.lcmp, 1) := dk_148 (dk_at dksX3_slidesNow_0 16 rfl rfl)
theorem dX3_slidesNow_17 : decode cX3_slidesNow 17 = .ok (.ifCond .ne 7, 3) := dk_154 0 7 (dk_at dksX3_slidesNow_0 17 rfl rfl)
theorem dX3_slidesNow_20 : decode cX3_slidesNow 20 = .ok (.iconst (-1), 1) := dk_2 (dk_at dksX3_slidesNow_0 20 rfl rfl)
theorem dX3_slidesNow_21 : decode cX3_slidesNow 21 = .ok (.goto 9, 3) := dk_167 0 9 (dk_at dksX3_slidesNow_0 21 rfl rfl)
theorem dX3_slidesNow_24 : decode cX3_slidesNow 24 = .ok (.aload_n 0, 1) := dk_42 (dk_at dksX3_slidesNow_1 0 rfl rfl)
theorem dX3_slidesNow_25 : decode cX3_slidesNow 25 = .ok (.getfield 58, 3) := dk_180 0 58 (dk_at dksX3_slidesNow_1 1 rfl rfl)
theorem dX3_slidesNow_28 : decode cX3_slidesNow 28 = .ok (.iload_n 1, 1) := dk_27 (dk_at dksX3_slidesNow_1 4 rfl rfl)
theorem dX3_slidesNow_29 : decode cX3_slidesNow 29 = .ok (.baload, 1) := dk_51 (dk_at dksX3_slidesNow_1 5 rfl rfl)
theorem dX3_slidesNow_30 : decode cX3_slidesNow 30 = .ok (.ireturn, 1) := dk_172 (dk_at dksX3_slidesNow_1 6 rfl rfl)
def dkwX3_findFirst_5 : List UInt8 := [42, 180, 1, 59, 181, 1, 59, 132, 3, 1, 167, 255, 154, 132, 2, 1, 167, 255, 134, 177]
abbrev dktX3_findFirst_5 : List UInt8 := dkwX3_findFirst_5 ++ []
def dkwX3_findFirst_4 : List UInt8 := [153, 0, 7, 28, 167, 0, 7, 42, 180, 1, 56, 181, 1, 56, 42, 21, 4, 153, 0, 7, 29, 167, 0, 7]
abbrev dktX3_findFirst_4 : List UInt8 := dkwX3_findFirst_4 ++ dktX3_findFirst_5
def dkwX3_findFirst_3 : List UInt8 := [27, 4, 100, 160, 0, 7, 4, 167, 0, 4, 3, 54, 4, 42, 28, 29, 182, 1, 53, 42, 21, 4]
abbrev dktX3_findFirst_3 : List UInt8 := dkwX3_findFirst_3 ++ dktX3_findFirst_4
def dkwX3_findFirst_2 : List UInt8 := [2, 159, 0, 76, 42, 180, 0, 65, 29, 46, 2, 160, 0, 66, 42, 28, 29, 182, 1, 53, 42, 182, 1, 62]
abbrev dktX3_findFirst_2 : List UInt8 := dkwX3_findFirst_2 ++ dktX3_findFirst_3
def dkwX3_findFirst_1 : List UInt8 := [3, 62, 29, 42, 180, 1, 34, 162, 0, 100, 42, 180, 1, 56, 2, 160, 0, 92, 42, 180, 0, 65, 28, 46]
abbrev dktX3_findFirst_1 : List UInt8 := dkwX3_findFirst_1 ++ dktX3_findFirst_2
def dkwX3_findFirst_0 : List UInt8 := [42, 2, 181, 1, 56, 42, 2, 181, 1, 59, 3, 61, 28, 42, 180, 1, 34, 162, 0, 120, 27, 158, 0, 116]
abbrev dktX3_findFirst_0 : List UInt8 := dkwX3_findFirst_0 ++ dktX3_findFirst_1
theorem dksX3_findFirst_0 : cX3_findFirst.data.toList.drop 0 = dktX3_findFirst_0 := by decide +kernel
theorem dksX3_findFirst_1 : cX3_findFirst.data.toList.drop 24 = dktX3_findFirst_1 := dk_seg dksX3_findFirst_0 24 rfl rfl
theorem dksX3_findFirst_2 : cX3_findFirst.data.toList.drop 48 = dktX3_findFirst_2 := dk_seg dksX3_findFirst_1 24 rfl rfl
theorem dksX3_findFirst_3 : cX3_findFirst.data.toList.drop 72 = dktX3_findFirst_3 := dk_seg dksX3_findFirst_2 24 rfl rfl
theorem dksX3_findFirst_4 : cX3_findFirst.data.toList.drop 94 = dktX3_findFirst_4 := dk_seg dksX3_findFirst_3 22 rfl rfl
theorem dksX3_findFirst_5 : cX3_findFirst.data.toList.drop 118 = dktX3_findFirst_5 := dk_seg dksX3_findFirst_4 24 rfl rfl
theorem dX3_findFirst_0 : decode cX3_findFirst 0 = .ok (.aload_n 0, 1) := dk_42 (dk_at dksX3_findFirst_0 0 rfl rfl)
theorem dX3_findFirst_1 : decode cX3_findFirst 1 = .ok (.iconst (-1), 1) := dk_2 (dk_at dksX3_findFirst_0 1 rfl rfl)
theorem dX3_findFirst_2 : decode cX3_findFirst 2 = .ok (.putfield 312, 3) := dk_181 1 56 (dk_at dksX3_findFirst_0 2 rfl rfl)
theorem dX3_findFirst_5 : decode cX3_findFirst 5 = .ok (.aload_n 0, 1) := dk_42 (dk_at dksX3_findFirst_0 5 rfl rfl)
theorem dX3_findFirst_6 : decode cX3_findFirst 6 = .ok (.iconst (-1), 1) := dk_2 (dk_at dksX3_findFirst_0 6 rfl rfl)
theorem dX3_findFirst_7 : decode cX3_findFirst 7 = .ok (.putfield 315, 3) := dk_181 1 59 (dk_at dksX3_findFirst_0 7 rfl rfl)
theorem dX3_findFirst_10 : decode cX3_findFirst 10 = .ok (.iconst 0, 1) := dk_3 (dk_at dksX3_findFirst_0 10 rfl rfl)
theorem dX3_findFirst_11 : decode cX3_findFirst 11 = .ok (.istore_n 2, 1) := dk_61 (dk_at dksX3_findFirst_0 11 rfl rfl)
theorem dX3_findFirst_12 : decode cX3_findFirst 12 = .ok (.iload_n 2, 1) := dk_28 (dk_at dksX3_findFirst_0 12 rfl rfl)
theorem dX3_findFirst_13 : decode cX3_findFirst 13 = .ok (.aload_n 0, 1) := dk_42 (dk_at dksX3_findFirst_0 13 rfl rfl)
theorem dX3_findFirst_14 : decode cX3_findFirst 14 = .ok (.getfield 290, 3) := dk_180 1 34 (dk_at dksX3_findFirst_0 14 rfl rfl)
theorem dX3_findFirst_17 : decode cX3_findFirst 17 = .ok (.if_icmp .ge 120, 3) := dk_162 0 120 (dk_at dksX3_findFirst_0 17 rfl rfl)
theorem dX3_findFirst_20 : decode cX3_findFirst 20 = .ok (.iload_n 1, 1) := dk_27 (dk_at dksX3_findFirst_0 20 rfl rfl)
theorem dX3_findFirst_21 : decode cX3_findFirst 21 = .ok (.ifCond .le 116, 3) := dk_158 0 116 (dk_at dksX3_findFirst_0 21 rfl rfl)
theorem dX3_findFirst_24 : decode cX3_findFirst 24 = .ok (.iconst 0, 1) := dk_3 (dk_at dksX3_findFirst_1 0 rfl rfl)
theorem dX3_findFirst_25 : decode cX3_findFirst 25 = .ok (.istore_n 3, 1) := dk_62 (dk_at dksX3_findFirst_1 1 rfl rfl)
theorem dX3_findFirst_26 : decode cX3_findFirst 26 = .ok (.iload_n 3, 1) := dk_29 (dk_at dksX3_findFirst_1 2 rfl rfl)
theorem dX3_findFirst_27 : decode cX3_findFirst 27 = .ok (.aload_n 0, 1) := dk_42 (dk_at dksX3_findFirst_1 3 rfl rfl)
theorem dX3_findFirst_28 : decode cX3_findFirst 28 = .ok (.getfield 290, 3) := dk_180 1 34 (dk_at dksX3_findFirst_1 4 rfl rfl)
theorem dX3_findFirst_31 : decode cX3_findFirst 31 = .ok (.if_icmp .ge 100, 3) := dk_162 0 100 (dk_at dksX3_findFirst_1 7 rfl rfl)
theorem dX3_findFirst_34 : decode cX3_findFirst 34 = .ok (.aload_n 0, 1) := dk_42 (dk_at dksX3_findFirst_1 10 rfl rfl)
theorem dX3_findFirst_35 : decode cX3_findFirst 35 = .ok (.getfield 312, 3) := dk_180 1 56 (dk_at dksX3_findFirst_1 11 rfl rfl)
theorem dX3_findFirst_38 : decode cX3_findFirst 38 = .ok (.iconst (-1), 1) := dk_2 (dk_at dksX3_findFirst_1 14 rfl rfl)
theorem dX3_findFirst_39 : decode cX3_findFirst 39 = .ok (.if_icmp .ne 92, 3) := dk_160 0 92 (dk_at dksX3_findFirst_1 15 rfl rfl)
theorem dX3_findFirst_42 : decode cX3_findFirst 42 = .ok (.aload_n 0, 1) := dk_42 (dk_at dksX3_findFirst_1 18 rfl rfl)
theorem dX3_findFirst_43 : decode cX3_findFirst 43 = .ok (.getfield 65, 3) := dk_180 0 65 (dk_at dksX3_findFirst_1 19 rfl rfl)
theorem dX3_findFirst_46 : decode cX3_findFirst 46 = .ok (.iload_n 2, 1) := dk_28 (dk_at dksX3_findFirst_1 22 rfl rfl)
theorem dX3_findFirst_47 : decode cX3_findFirst 47 = .ok (.iaload, 1) := dk_46 (dk_at dksX3_findFirst_1 23 rfl rfl)
theorem dX3_findFirst_48 : decode cX3_findFirst 48 = .ok (.iconst (-1), 1) := dk_2 (dk_at dksX3_findFirst_2 0 rfl rfl)
theorem dX3_findFirst_49 : decode cX3_findFirst 49 = .ok (.if_icmp .eq 76, 3) := dk_159 0 76 (dk_at dksX3_findFirst_2 1 rfl rfl)
theorem dX3_findFirst_52 : decode cX3_findFirst 52 = .ok (.aload_n 0, 1) := dk_42 (dk_at dksX3_findFirst_2 4 rfl rfl)
theorem dX3_findFirst_53 : decode cX3_findFirst 53 = .ok (.getfield 65, 3) := dk_180 0 65 (dk_at dksX3_findFirst_2 5 rfl rfl)
theorem dX3_findFirst_56 : decode cX3_findFirst 56 = .ok (.iload_n 3, 1) := dk_29 (dk_at dksX3_findFirst_2 8 rfl rfl)
theorem dX3_findFirst_57 : decode cX3_findFirst 57 = .ok (.iaload, 1) := dk_46 (dk_at dksX3_findFirst_2 9 rfl rfl)
theorem dX3_findFirst_58 : decode cX3_findFirst 58 = .ok (.iconst (-1), 1) := dk_2 (dk_at dksX3_findFirst_2 10 rfl rfl)
theorem dX3_findFirst_59 : decode cX3_findFirst 59 = .ok (.if_icmp .ne 66, 3) := dk_160 0 66 (dk_at dksX3_findFirst_2 11 rfl rfl)
theorem dX3_findFirst_62 : decode cX3_findFirst 62 = .ok (.aload_n 0, 1) := dk_42 (dk_at dksX3_findFirst_2 14 rfl rfl)
theorem dX3_findFirst_63 : decode cX3_findFirst 63 = .ok (.iload_n 2, 1) := dk_28 (dk_at dksX3_findFirst_2 15 rfl rfl)
theorem dX3_findFirst_64 : decode cX3_findFirst 64 = .ok (.iload_n 3, 1) := dk_29 (dk_at dksX3_findFirst_2 16 rfl rfl)
theorem dX3_findFirst_65 : decode cX3_findFirst 65 = .ok (.invokevirtual 309, 3) := dk_182 1 53 (dk_at dksX3_findFirst_2 17 rfl rfl)
theorem dX3_findFirst_68 : decode cX3_findFirst 68 = .ok (.aload_n 0, 1) := dk_42 (dk_at dksX3_findFirst_2 20 rfl rfl)
theorem dX3_findFirst_69 : decode cX3_findFirst 69 = .ok (.invokevirtual 318, 3) := dk_182 1 62 (dk_at dksX3_findFirst_2 21 rfl rfl)
theorem dX3_findFirst_72 : decode cX3_findFirst 72 = .ok (.iload_n 1, 1) := dk_27 (dk_at dksX3_findFirst_3 0 rfl rfl)
theorem dX3_findFirst_73 : decode cX3_findFirst 73 = .ok (.iconst 1, 1) := dk_4 (dk_at dksX3_findFirst_3 1 rfl rfl)
theorem dX3_findFirst_74 : decode cX3_findFirst 74 = .ok (.isub, 1) := dk_100 (dk_at dksX3_findFirst_3 2 rfl rfl)
theorem dX3_findFirst_75 : decode cX3_findFirst 75 = .ok (.if_icmp .ne 7, 3) := dk_160 0 7 (dk_at dksX3_findFirst_3 3 rfl rfl)
theorem dX3_findFirst_78 : decode cX3_findFirst 78 = .ok (.iconst 1, 1) := dk_4 (dk_at dksX3_findFirst_3 6 rfl rfl)
theorem dX3_findFirst_79 : decode cX3_findFirst 79 = .ok (.goto 4, 3) := dk_167 0 4 (dk_at dksX3_findFirst_3 7 rfl rfl)
theorem dX3_findFirst_82 : decode cX3_findFirst 82 = .ok (.iconst 0, 1) := dk_3 (dk_at dksX3_findFirst_3 10 rfl rfl)
theorem dX3_findFirst_83 : decode cX3_findFirst 83 = .ok (.istore 4, 2) := dk_54 4 (dk_at dksX3_findFirst_3 11 rfl rfl)
theorem dX3_findFirst_85 : decode cX3_findFirst 85 = .ok (.aload_n 0, 1) := dk_42 (dk_at dksX3_findFirst_3 13 rfl rfl)
theorem dX3_findFirst_86 : decode cX3_findFirst 86 = .ok (.iload_n 2, 1) := dk_28 (dk_at dksX3_findFirst_3 14 rfl rfl)
theorem dX3_findFirst_87 : decode cX3_findFirst 87 = .ok (.iload_n 3, 1) := dk_29 (dk_at dksX3_findFirst_3 15 rfl rfl)
theorem dX3_findFirst_88 : decode cX3_findFirst 88 = .ok (.invokevirtual 309, 3) := dk_182 1 53 (dk_at dksX3_findFirst_3 16 rfl rfl)
theorem dX3_findFirst_91 : decode cX3_findFirst 91 = .ok (.aload_n 0, 1) := dk_42 (dk_at dksX3_findFirst_3 19 rfl rfl)
theorem dX3_findFirst_92 : decode cX3_findFirst 92 = .ok (.iload 4, 2) := dk_21 4 (dk_at dksX3_findFirst_3 20 rfl rfl)
theorem dX3_findFirst_94 : decode cX3_findFirst 94 = .ok (.ifCond .eq 7, 3) := dk_153 0 7 (dk_at dksX3_findFirst_4 0 rfl rfl)
theorem dX3_findFirst_97 : decode cX3_findFirst 97 = .ok (.iload_n 2, 1) := dk_28 (dk_at dksX3_findFirst_4 3 rfl rfl)
theorem dX3_findFirst_98 : decode cX3_findFirst 98 = .ok (.goto 7, 3) := dk_167 0 7 (dk_at dksX3_findFirst_4 4 rfl rfl)
theorem dX3_findFirst_101 : decode cX3_findFirst 101 = .ok (.aload_n 0, 1) := dk_42 (dk_at dksX3_findFirst_4 7 rfl rfl)
theorem dX3_findFirst_102 : decode cX3_findFirst 102 = .ok (.getfield 312, 3) := dk_180 1 56 (dk_at dksX3_findFirst_4 8 rfl rfl)
theorem dX3_findFirst_105 : decode cX3_findFirst 105 = .ok (.putfield 312, 3) := dk_181 1 56 (dk_at dksX3_findFirst_4 11 rfl rfl)
theorem dX3_findFirst_108 : decode cX3_findFirst 108 = .ok (.aload_n 0, 1) := dk_42 (dk_at dksX3_findFirst_4 14 rfl rfl)
theorem dX3_findFirst_109 : decode cX3_findFirst 109 = .ok (.iload 4, 2) := dk_21 4 (dk_at dksX3_findFirst_4 15 rfl rfl)
theorem dX3_findFirst_111 : decode cX3_findFirst 111 = .ok (.ifCond .eq 7, 3) := dk_153 0 7 (dk_at dksX3_findFirst_4 17 rfl rfl)
theorem dX3_findFirst_114 : decode cX3_findFirst 114 = .ok (.iload_n 3, 1) := dk_29 (dk_at dksX3_findFirst_4 20 rfl rfl)
theorem dX3_findFirst_115 : decode cX3_findFirst 115 = .ok (.goto 7, 3) := dk_167 0 7 (dk_at dksX3_findFirst_4 21 rfl rfl)
theorem dX3_findFirst_118 : decode cX3_findFirst 118 = .ok (.aload_n 0, 1) := dk_42 (dk_at dksX3_findFirst_5 0 rfl rfl)
theorem dX3_findFirst_119 : decode cX3_findFirst 119 = .ok (.getfield 315, 3) := dk_180 1 59 (dk_at dksX3_findFirst_5 1 rfl rfl)
theorem dX3_findFirst_122 : decode cX3_findFirst 122 = .ok (.putfield 315, 3) := dk_181 1 59 (dk_at dksX3_findFirst_5 4 rfl rfl)
theorem dX3_findFirst_125 : decode cX3_findFirst 125 = .ok (.iinc 3 1, 3) := dk_132 3 1 (dk_at dksX3_findFirst_5 7 rfl rfl)
theorem dX3_findFirst_128 : decode cX3_findFirst 128 = .ok (.goto (-102), 3) := dk_167 255 154 (dk_at dksX3_findFirst_5 10 rfl rfl)
theorem dX3_findFirst_131 : decode cX3_findFirst 131 = .ok (.iinc 2 1, 3) := dk_132 2 1 (dk_at dksX3_findFirst_5 13 rfl rfl)
theorem dX3_findFirst_134 : decode cX3_findFirst 134 = .ok (.goto (-122), 3) := dk_167 255 134 (dk_at dksX3_findFirst_5 16 rfl rfl)
theorem dX3_findFirst_137 : decode cX3_findFirst 137 = .ok (.return_, 1) := dk_177 (dk_at dksX3_findFirst_5 19 rfl rfl)
def dkwX3_place_1 : List UInt8 := [180, 0, 47, 16, 12, 28, 104, 29, 96, 46, 167, 0, 5, 16, 254, 172]
abbrev dktX3_place_1 : List UInt8 := dkwX3_place_1 ++ []
def dkwX3_place_0 : List UInt8 := [42, 3, 181, 0, 111, 42, 27, 182, 1, 14, 153, 0, 26, 42, 28, 29, 182, 1, 89, 153, 0, 17, 42]
abbrev dktX3_place_0 : List UInt8 := dkwX3_place_0 ++ dktX3_place_1
theorem dksX3_place_0 : cX3_place.data.toList.drop 0 = dktX3_place_0 := by decide +kernel
theorem dksX3_place_1 : cX3_place.data.toList.drop 23 = dktX3_place_1 := dk_seg dksX3_place_0 23 rfl rfl
theorem dX3_place_0 : decode cX3_place 0 = .ok (.aload_n 0, 1) := dk_42 (dk_at dksX3_place_0 0 rfl rfl)
theorem dX3_place_1 : decode cX3_place 1 = .ok (.iconst 0, 1) := dk_3 (dk_at dksX3_place_0 1 rfl rfl)
theorem dX3_place_2 : decode cX3_place 2 = .ok (.putfield 111, 3) := dk_181 0 111 (dk_at dksX3_place_0 2 rfl rfl)
theorem dX3_place_5 : decode cX3_place 5 = .ok (.aload_n 0, 1) := dk_42 (dk_at dksX3_place_0 5 rfl rfl)
theorem dX3_place_6 : decode cX3_place 6 = .ok (.iload_n 1, 1) := dk_27 (dk_at dksX3_place_0 6 rfl rfl)
theorem dX3_place_7 : decode cX3_place 7 = .ok (.invokevirtual 270, 3) := dk_182 1 14 (dk_at dksX3_place_0 7 rfl rfl)
theorem dX3_place_10 : decode cX3_place 10 = .ok (.ifCond .eq 26, 3) := dk_153 0 26 (dk_at dksX3_place_0 10 rfl rfl)
theorem dX3_place_13 : decode cX3_place 13 = .ok (.aload_n 0, 1) := dk_42 (dk_at dksX3_place_0 13 rfl rfl)
theorem dX3_place_14 : decode cX3_place 14 = .ok (.iload_n 2, 1) := dk_28 (dk_at dksX3_place_0 14 rfl rfl)
theorem dX3_place_15 : decode cX3_place 15 = .ok (.iload_n 3, 1) := dk_29 (dk_at dksX3_place_0 15 rfl rfl)
theorem dX3_place_16 : decode cX3_place 16 = .ok (.invokevirtual 345, 3) := dk_182 1 89 (dk_at dksX3_place_0 16 rfl rfl)
theorem dX3_place_19 : decode cX3_place 19 = .ok (.ifCond .eq 17, 3) := dk_153 0 17 (dk_at dksX3_place_0 19 rfl rfl)
theorem dX3_place_22 : decode cX3_place 22 = .ok (.aload_n 0, 1) := dk_42 (dk_at dksX3_place_0 22 rfl rfl)
theorem dX3_place_23 : decode cX3_place 23 = .ok (.getfield 47, 3) := dk_180 0 47 (dk_at dksX3_place_1 0 rfl rfl)
theorem dX3_place_26 : decode cX3_place 26 = .ok (.bipush 12, 2) := dk_16 12 (dk_at dksX3_place_1 3 rfl rfl)
theorem dX3_place_28 : decode cX3_place 28 = .ok (.iload_n 2, 1) := dk_28 (dk_at dksX3_place_1 5 rfl rfl)
theorem dX3_place_29 : decode cX3_place 29 = .ok (.imul, 1) := dk_104 (dk_at dksX3_place_1 6 rfl rfl)
theorem dX3_place_30 : decode cX3_place 30 = .ok (.iload_n 3, 1) := dk_29 (dk_at dksX3_place_1 7 rfl rfl)
theorem dX3_place_31 : decode cX3_place 31 = .ok (.iadd, 1) := dk_96 (dk_at dksX3_place_1 8 rfl rfl)
theorem dX3_place_32 : decode cX3_place 32 = .ok (.iaload, 1) := dk_46 (dk_at dksX3_place_1 9 rfl rfl)
theorem dX3_place_33 : decode cX3_place 33 = .ok (.goto 5, 3) := dk_167 0 5 (dk_at dksX3_place_1 10 rfl rfl)
theorem dX3_place_36 : decode cX3_place 36 = .ok (.bipush (-2), 2) := dk_16 254 (dk_at dksX3_place_1 13 rfl rfl)
theorem dX3_place_38 : decode cX3_place 38 = .ok (.ireturn, 1) := dk_172 (dk_at dksX3_place_1 15 rfl rfl)
def dkwX3_isPlace_1 : List UInt8 := [4, 167, 0, 4, 3, 172]
abbrev dktX3_isPlace_1 : List UInt8 := dkwX3_isPlace_1 ++ []
def dkwX3_isPlace_0 : List UInt8 := [42, 27, 182, 0, 246, 153, 0, 23, 28, 3, 42, 180, 0, 41, 27, 46, 4, 100, 184, 0, 123, 153, 0, 7]
abbrev dktX3_isPlace_0 : List UInt8 := dkwX3_isPlace_0 ++ dktX3_isPlace_1
theorem dksX3_isPlace_0 : cX3_isPlace.data.toList.drop 0 = dktX3_isPlace_0 := by decide +kernel
theorem dksX3_isPlace_1 : cX3_isPlace.data.toList.drop 24 = dktX3_isPlace_1 := dk_seg dksX3_isPlace_0 24 rfl rfl
theorem dX3_isPlace_0 : decode cX3_isPlace 0 = .ok (.aload_n 0, 1) := dk_42 (dk_at dksX3_isPlace_0 0 rfl rfl)
theorem dX3_isPlace_1 : decode cX3_isPlace 1 = .ok (.iload_n 1, 1) := dk_27 (dk_at dksX3_isPlace_0 1 rfl rfl)
theorem dX3_isPlace_2 : decode cX3_isPlace 2 = .ok (.invokevirtual 246, 3) := dk_182 0 246 (dk_at dksX3_isPlace_0 2 rfl rfl)
theorem dX3_isPlace_5 : decode cX3_isPlace 5 = .ok (.ifCond .eq 23, 3) := dk_153 0 23 (dk_at dksX3_isPlace_0 5 rfl rfl)
theorem dX3_isPlace_8 : decode cX3_isPlace 8 = .ok (.iload_n 2, 1) := dk_28 (dk_at dksX3_isPlace_0 8 rfl rfl)
theorem dX3_isPlace_9 : decode cX3_isPlace 9 = .ok (.iconst 0, 1) := dk_3 (dk_at dksX3_isPlace_0 9 rfl rfl)
theorem dX3_isPlace_10 : decode cX3_isPlace 10 = .ok (.aload_n 0, 1) := dk_42 (dk_at dksX3_isPlace_0 10 rfl rfl)
theorem dX3_isPlace_11 : decode cX3_isPlace 11 = .ok (.getfield 41, 3) := dk_180 0 41 (dk_at dksX3_isPlace_0 11 rfl rfl)
theorem dX3_isPlace_14 : decode cX3_isPlace 14 = .ok (.iload_n 1, 1) := dk_27 (dk_at dksX3_isPlace_0 14 rfl rfl)
theorem dX3_isPlace_15 : decode cX3_isPlace 15 = .ok (.iaload, 1) := dk_46 (dk_at dksX3_isPlace_0 15 rfl rfl)
theorem dX3_isPlace_16 : decode cX3_isPlace 16 = .ok (.iconst 1, 1) := dk_4 (dk_at dksX3_isPlace_0 16 rfl rfl)
theorem dX3_isPlace_17 : decode cX3_isPlace 17 = .ok (.isub, 1) := dk_100 (dk_at dksX3_isPlace_0 17 rfl rfl)
theorem dX3_isPlace_18 : decode cX3_isPlace 18 = .ok (.invokestatic 123, 3) := dk_184 0 123 (dk_at dksX3_isPlace_0 18 rfl rfl)
theorem dX3_isPlace_21 : decode cX3_isPlace 21 = .ok (.ifCond .eq 7, 3) := dk_153 0 7 (dk_at dksX3_isPlace_0 21 rfl rfl)
theorem dX3_isPlace_24 : decode cX3_isPlace 24 = .ok (.iconst 1, 1) := dk_4 (dk_at dksX3_isPlace_1 0 rfl rfl)
theorem dX3_isPlace_25 : decode cX3_isPlace 25 = .ok (.goto 4, 3) := dk_167 0 4 (dk_at dksX3_isPlace_1 1 rfl rfl)
theorem dX3_isPlace_28 : decode cX3_isPlace 28 = .ok (.iconst 0, 1) := dk_3 (dk_at dksX3_isPlace_1 4 rfl rfl)
theorem dX3_isPlace_29 : decode cX3_isPlace 29 = .ok (.ireturn, 1) := dk_172 (dk_at dksX3_isPlace_1 5 rfl rfl)
def dkwX3_off_2 : List UInt8 := [167, 0, 8, 28, 29, 184, 1, 8, 172]
abbrev dktX3_off_2 : List UInt8 := dkwX3_off_2 ++ []
def dkwX3_off_1 : List UInt8 := [182, 1, 92, 154, 0, 5, 2, 172, 21, 4, 153, 0, 16, 28, 29, 184, 1, 8, 42, 180, 0, 240, 104]
abbrev dktX3_off_1 : List UInt8 := dkwX3_off_1 ++ dktX3_off_2
def dkwX3_off_0 : List UInt8 := [42, 3, 181, 0, 111, 42, 27, 182, 1, 14, 153, 0, 19, 42, 28, 182, 1, 92, 153, 0, 11, 42, 29]
abbrev dktX3_off_0 : List UInt8 := dkwX3_off_0 ++ dktX3_off_1
theorem dksX3_off_0 : cX3_off.data.toList.drop 0 = dktX3_off_0 := by decide +kernel
theorem dksX3_off_1 : cX3_off.data.toList.drop 23 = dktX3_off_1 := dk_seg dksX3_off_0 23 rfl rfl
theorem dksX3_off_2 : cX3_off.data.toList.drop 46 = dktX3_off_2 := dk_seg dksX3_off_1 23 rfl rfl
theorem dX3_off_0 : decode cX3_off 0 = .ok (.aload_n 0, 1) := dk_42 (dk_at dksX3_off_0 0 rfl rfl)
theorem dX3_off_1 : decode cX3_off 1 = .ok (.iconst 0, 1) := dk_3 (dk_at dksX3_off_0 1 rfl rfl)
theorem dX3_off_2 : decode cX3_off 2 = .ok (.putfield 111, 3) := dk_181 0 111 (dk_at dksX3_off_0 2 rfl rfl)
theorem dX3_off_5 : decode cX3_off 5 = .ok (.aload_n 0, 1) := dk_42 (dk_at dksX3_off_0 5 rfl rfl)
theorem dX3_off_6 : decode cX3_off 6 = .ok (.iload_n 1, 1) := dk_27 (dk_at dksX3_off_0 6 rfl rfl)
theorem dX3_off_7 : decode cX3_off 7 = .ok (.invokevirtual 270, 3) := dk_182 1 14 (dk_at dksX3_off_0 7 rfl rfl)
theorem dX3_off_10 : decode cX3_off 10 = .ok (.ifCond .eq 19, 3) := dk_153 0 19 (dk_at dksX3_off_0 10 rfl rfl)
theorem dX3_off_13 : decode cX3_off 13 = .ok (.aload_n 0, 1) := dk_42 (dk_at dksX3_off_0 13 rfl rfl)
theorem dX3_off_14 : decode cX3_off 14 = .ok (.iload_n 2, 1) := dk_28 (dk_at dksX3_off_0 14 rfl rfl)
theorem dX3_off_15 : decode cX3_off 15 = .ok (.invokevirtual 348, 3) := dk_182 1 92 (dk_at dksX3_off_0 15 rfl rfl)
theorem dX3_off_18 : decode cX3_off 18 = .ok (.ifCond .eq 11, 3) := dk_153 0 11 (dk_at dksX3_off_0 18 rfl rfl)
theorem dX3_off_21 : decode cX3_off 21 = .ok (.aload_n 0, 1) := dk_42 (dk_at dksX3_off_0 21 rfl rfl)
theorem dX3_off_22 : decode cX3_off 22 = .ok (.iload_n 3, 1) := dk_29 (dk_at dksX3_off_0 22 rfl rfl)
theorem dX3_off_23 : decode cX3_off 23 = .ok (.invokevirtual 348, 3) := dk_182 1 92 (dk_at dksX3_off_1 0 rfl rfl)
theorem dX3_off_26 : decode cX3_off 26 = .ok (.ifCond .ne 5, 3) := dk_154 0 5 (dk_at dksX3_off_1 3 rfl rfl)
theorem dX3_off_29 : decode cX3_off 29 = .ok (.iconst (-1), 1) := dk_2 (dk_at dksX3_off_1 6 rfl rfl)
theorem dX3_off_30 : decode cX3_off 30 = .ok (.ireturn, 1) := dk_172 (dk_at dksX3_off_1 7 rfl rfl)
theorem dX3_off_31 : decode cX3_off 31 = .ok (.iload 4, 2) := dk_21 4 (dk_at dksX3_off_1 8 rfl rfl)
theorem dX3_off_33 : decode cX3_off 33 = .ok (.ifCond .eq 16, 3) := dk_153 0 16 (dk_at dksX3_off_1 10 rfl rfl)
theorem dX3_off_36 : decode cX3_off 36 = .ok (.iload_n 2, 1) := dk_28 (dk_at dksX3_off_1 13 rfl rfl)
theorem dX3_off_37 : decode cX3_off 37 = .ok (.iload_n 3, 1) := dk_29 (dk_at dksX3_off_1 14 rfl rfl)
theorem dX3_off_38 : decode cX3_off 38 = .ok (.invokestatic 264, 3) := dk_184 1 8 (dk_at dksX3_off_1 15 rfl rfl)
theorem dX3_off_41 : decode cX3_off 41 = .ok (.aload_n 0, 1) := dk_42 (dk_at dksX3_off_1 18 rfl rfl)
theorem dX3_off_42 : decode cX3_off 42 = .ok (.getfield 240, 3) := dk_180 0 240 (dk_at dksX3_off_1 19 rfl rfl)
theorem dX3_off_45 : decode cX3_off 45 = .ok (.imul, 1) := dk_104 (dk_at dksX3_off_1 22 rfl rfl)
theorem dX3_off_46 : decode cX3_off 46 = .ok (.goto 8, 3) := dk_167 0 8 (dk_at dksX3_off_2 0 rfl rfl)
theorem dX3_off_49 : decode cX3_off 49 = .ok (.iload_n 2, 1) := dk_28 (dk_at dksX3_off_2 3 rfl rfl)
theorem dX3_off_50 : decode cX3_off 50 = .ok (.iload_n 3, 1) := dk_29 (dk_at dksX3_off_2 4 rfl rfl)
theorem dX3_off_51 : decode cX3_off 51 = .ok (.invokestatic 264, 3) := dk_184 1 8 (dk_at dksX3_off_2 5 rfl rfl)
theorem dX3_off_54 : decode cX3_off 54 = .ok (.ireturn, 1) := dk_172 (dk_at dksX3_off_2 8 rfl rfl)
def dkwX3_isMark_0 : List UInt8 := [27, 3, 4, 42, 180, 0, 234, 120, 4, 100, 184, 0, 123, 172]
abbrev dktX3_isMark_0 : List UInt8 := dkwX3_isMark_0 ++ []
theorem dksX3_isMark_0 : cX3_isMark.data.toList.drop 0 = dktX3_isMark_0 := by decide +kernel
theorem dX3_isMark_0 : decode cX3_isMark 0 = .ok (.iload_n 1, 1) := dk_27 (dk_at dksX3_isMark_0 0 rfl rfl)
theorem dX3_isMark_1 : decode cX3_isMark 1 = .ok (.iconst 0, 1) := dk_3 (dk_at dksX3_isMark_0 1 rfl rfl)
theorem dX3_isMark_2 : decode cX3_isMark 2 = .ok (.iconst 1, 1) := dk_4 (dk_at dksX3_isMark_0 2 rfl rfl)
theorem dX3_isMark_3 : decode cX3_isMark 3 = .ok (.aload_n 0, 1) := dk_42 (dk_at dksX3_isMark_0 3 rfl rfl)
theorem dX3_isMark_4 : decode cX3_isMark 4 = .ok (.getfield 234, 3) := dk_180 0 234 (dk_at dksX3_isMark_0 4 rfl rfl)
theorem dX3_isMark_7 : decode cX3_isMark 7 = .ok (.ishl, 1) := dk_120 (dk_at dksX3_isMark_0 7 rfl rfl)
theorem dX3_isMark_8 : decode cX3_isMark 8 = .ok (.iconst 1, 1) := dk_4 (dk_at dksX3_isMark_0 8 rfl rfl)
theorem dX3_isMark_9 : decode cX3_isMark 9 = .ok (.isub, 1) := dk_100 (dk_at dksX3_isMark_0 9 rfl rfl)
theorem dX3_isMark_10 : decode cX3_isMark 10 = .ok (.invokestatic 123, 3) := dk_184 0 123 (dk_at dksX3_isMark_0 10 rfl rfl)
theorem dX3_isMark_13 : decode cX3_isMark 13 = .ok (.ireturn, 1) := dk_172 (dk_at dksX3_isMark_0 13 rfl rfl)
def dkwX3_readings_2 : List UInt8 := [182, 1, 97, 42, 182, 1, 4, 127, 173]
abbrev dktX3_readings_2 : List UInt8 := dkwX3_readings_2 ++ []
def dkwX3_readings_1 : List UInt8 := [184, 0, 123, 154, 0, 7, 20, 1, 95, 173, 29, 154, 0, 11, 42, 28, 182, 1, 97, 167, 0, 13, 42, 28]
abbrev dktX3_readings_1 : List UInt8 := dkwX3_readings_1 ++ dktX3_readings_2
def dkwX3_readings_0 : List UInt8 := [42, 3, 181, 0, 111, 42, 27, 182, 1, 14, 153, 0, 20, 42, 28, 182, 1, 92, 153, 0, 12, 29, 3, 4]
abbrev dktX3_readings_0 : List UInt8 := dkwX3_readings_0 ++ dktX3_readings_1
theorem dksX3_readings_0 : cX3_readings.data.toList.drop 0 = dktX3_readings_0 := by decide +kernel
theorem dksX3_readings_1 : cX3_readings.data.toList.drop 24 = dktX3_readings_1 := dk_seg dksX3_readings_0 24 rfl rfl
theorem dksX3_readings_2 : cX3_readings.data.toList.drop 48 = dktX3_readings_2 := dk_seg dksX3_readings_1 24 rfl rfl
theorem dX3_readings_0 : decode cX3_readings 0 = .ok (.aload_n 0, 1) := dk_42 (dk_at dksX3_readings_0 0 rfl rfl)
theorem dX3_readings_1 : decode cX3_readings 1 = .ok (.iconst 0, 1) := dk_3 (dk_at dksX3_readings_0 1 rfl rfl)
theorem dX3_readings_2 : decode cX3_readings 2 = .ok (.putfield 111, 3) := dk_181 0 111 (dk_at dksX3_readings_0 2 rfl rfl)
theorem dX3_readings_5 : decode cX3_readings 5 = .ok (.aload_n 0, 1) := dk_42 (dk_at dksX3_readings_0 5 rfl rfl)
theorem dX3_readings_6 : decode cX3_readings 6 = .ok (.iload_n 1, 1) := dk_27 (dk_at dksX3_readings_0 6 rfl rfl)
theorem dX3_readings_7 : decode cX3_readings 7 = .ok (.invokevirtual 270, 3) := dk_182 1 14 (dk_at dksX3_readings_0 7 rfl rfl)
theorem dX3_readings_10 : decode cX3_readings 10 = .ok (.ifCond .eq 20, 3) := dk_153 0 20 (dk_at dksX3_readings_0 10 rfl rfl)
theorem dX3_readings_13 : decode cX3_readings 13 = .ok (.aload_n 0, 1) := dk_42 (dk_at dksX3_readings_0 13 rfl rfl)
theorem dX3_readings_14 : decode cX3_readings 14 = .ok (.iload_n 2, 1) := dk_28 (dk_at dksX3_readings_0 14 rfl rfl)
theorem dX3_readings_15 : decode cX3_readings 15 = .ok (.invokevirtual 348, 3) := dk_182 1 92 (dk_at dksX3_readings_0 15 rfl rfl)
theorem dX3_readings_18 : decode cX3_readings 18 = .ok (.ifCond .eq 12, 3) := dk_153 0 12 (dk_at dksX3_readings_0 18 rfl rfl)
theorem dX3_readings_21 : decode cX3_readings 21 = .ok (.iload_n 3, 1) := dk_29 (dk_at dksX3_readings_0 21 rfl rfl)
theorem dX3_readings_22 : decode cX3_readings 22 = .ok (.iconst 0, 1) := dk_3 (dk_at dksX3_readings_0 22 rfl rfl)
theorem dX3_readings_23 : decode cX3_readings 23 = .ok (.iconst 1, 1) := dk_4 (dk_at dksX3_readings_0 23 rfl rfl)
theorem dX3_readings_24 : decode cX3_readings 24 = .ok (.invokestatic 123, 3) := dk_184 0 123 (dk_at dksX3_readings_1 0 rfl rfl)
theorem dX3_readings_27 : decode cX3_readings 27 = .ok (.ifCond .ne 7, 3) := dk_154 0 7 (dk_at dksX3_readings_1 3 rfl rfl)
theorem dX3_readings_30 : decode cX3_readings 30 = .ok (.ldc2_w 351, 3) := dk_20 1 95 (dk_at dksX3_readings_1 6 rfl rfl)
theorem dX3_readings_33 : decode cX3_readings 33 = .ok (.lreturn, 1) := dk_173 (dk_at dksX3_readings_1 9 rfl rfl)
theorem dX3_readings_34 : decode cX3_readings 34 = .ok (.iload_n 3, 1) := dk_29 (dk_at dksX3_readings_1 10 rfl rfl)
theorem dX3_readings_35 : decode cX3_readings 35 = .ok (.ifCond .ne 11, 3) := dk_154 0 11 (dk_at dksX3_readings_1 11 rfl rfl)
theorem dX3_readings_38 : decode cX3_readings 38 = .ok (.aload_n 0, 1) := dk_42 (dk_at dksX3_readings_1 14 rfl rfl)
theorem dX3_readings_39 : decode cX3_readings 39 = .ok (.iload_n 2, 1) := dk_28 (dk_at dksX3_readings_1 15 rfl rfl)
theorem dX3_readings_40 : decode cX3_readings 40 = .ok (.invokevirtual 353, 3) := dk_182 1 97 (dk_at dksX3_readings_1 16 rfl rfl)
theorem dX3_readings_43 : decode cX3_readings 43 = .ok (.goto 13, 3) := dk_167 0 13 (dk_at dksX3_readings_1 19 rfl rfl)
theorem dX3_readings_46 : decode cX3_readings 46 = .ok (.aload_n 0, 1) := dk_42 (dk_at dksX3_readings_1 22 rfl rfl)
theorem dX3_readings_47 : decode cX3_readings 47 = .ok (.iload_n 2, 1) := dk_28 (dk_at dksX3_readings_1 23 rfl rfl)
theorem dX3_readings_48 : decode cX3_readings 48 = .ok (.invokevirtual 353, 3) := dk_182 1 97 (dk_at dksX3_readings_2 0 rfl rfl)
theorem dX3_readings_51 : decode cX3_readings 51 = .ok (.aload_n 0, 1) := dk_42 (dk_at dksX3_readings_2 3 rfl rfl)
theorem dX3_readings_52 : decode cX3_readings 52 = .ok (.invokevirtual 260, 3) := dk_182 1 4 (dk_at dksX3_readings_2 4 rfl rfl)
theorem dX3_readings_55 : decode cX3_readings 55 = .ok (.land, 1) := dk_127 (dk_at dksX3_readings_2 7 rfl rfl)
theorem dX3_readings_56 : decode cX3_readings 56 = .ok (.lreturn, 1) := dk_173 (dk_at dksX3_readings_2 8 rfl rfl)
def dkwX3_readingsOf_2 : List UInt8 := [167, 255, 217, 32, 173]
abbrev dktX3_readingsOf_2 : List UInt8 := dkwX3_readingsOf_2 ++ []
def dkwX3_readingsOf_1 : List UInt8 := [180, 0, 237, 182, 1, 1, 153, 0, 10, 10, 21, 4, 121, 167, 0, 4, 9, 129, 65, 132, 4, 1]
abbrev dktX3_readingsOf_1 : List UInt8 := dkwX3_readingsOf_1 ++ dktX3_readingsOf_2
def dkwX3_readingsOf_0 : List UInt8 := [9, 65, 3, 54, 4, 21, 4, 4, 42, 180, 0, 234, 120, 162, 0, 34, 32, 42, 21, 4, 27, 42]
abbrev dktX3_readingsOf_0 : List UInt8 := dkwX3_readingsOf_0 ++ dktX3_readingsOf_1
theorem dksX3_readingsOf_0 : cX3_readingsOf.data.toList.drop 0 = dktX3_readingsOf_0 := by decide +kernel
theorem dksX3_readingsOf_1 : cX3_readingsOf.data.toList.drop 22 = dktX3_readingsOf_1 := dk_seg dksX3_readingsOf_0 22 rfl rfl
theorem dksX3_readingsOf_2 : cX3_readingsOf.data.toList.drop 44 = dktX3_readingsOf_2 := dk_seg dksX3_readingsOf_1 22 rfl rfl
theorem dX3_readingsOf_0 : decode cX3_readingsOf 0 = .ok (.lconst 0, 1) := dk_9 (dk_at dksX3_readingsOf_0 0 rfl rfl)
theorem dX3_readingsOf_1 : decode cX3_readingsOf 1 = .ok (.lstore_n 2, 1) := dk_65 (dk_at dksX3_readingsOf_0 1 rfl rfl)
theorem dX3_readingsOf_2 : decode cX3_readingsOf 2 = .ok (.iconst 0, 1) := dk_3 (dk_at dksX3_readingsOf_0 2 rfl rfl)
theorem dX3_readingsOf_3 : decode cX3_readingsOf 3 = .ok (.istore 4, 2) := dk_54 4 (dk_at dksX3_readingsOf_0 3 rfl rfl)
theorem dX3_readingsOf_5 : decode cX3_readingsOf 5 = .ok (.iload 4, 2) := dk_21 4 (dk_at dksX3_readingsOf_0 5 rfl rfl)
theorem dX3_readingsOf_7 : decode cX3_readingsOf 7 = .ok (.iconst 1, 1) := dk_4 (dk_at dksX3_readingsOf_0 7 rfl rfl)
theorem dX3_readingsOf_8 : decode cX3_readingsOf 8 = .ok (.aload_n 0, 1) := dk_42 (dk_at dksX3_readingsOf_0 8 rfl rfl)
theorem dX3_readingsOf_9 : decode cX3_readingsOf 9 = .ok (.getfield 234, 3) := dk_180 0 234 (dk_at dksX3_readingsOf_0 9 rfl rfl)
theorem dX3_readingsOf_12 : decode cX3_readingsOf 12 = .ok (.ishl, 1) := dk_120 (dk_at dksX3_readingsOf_0 12 rfl rfl)
theorem dX3_readingsOf_13 : decode cX3_readingsOf 13 = .ok (.if_icmp .ge 34, 3) := dk_162 0 34 (dk_at dksX3_readingsOf_0 13 rfl rfl)
theorem dX3_readingsOf_16 : decode cX3_readingsOf 16 = .ok (.lload_n 2, 1) := dk_32 (dk_at dksX3_readingsOf_0 16 rfl rfl)
theorem dX3_readingsOf_17 : decode cX3_readingsOf 17 = .ok (.aload_n 0, 1) := dk_42 (dk_at dksX3_readingsOf_0 17 rfl rfl)
theorem dX3_readingsOf_18 : decode cX3_readingsOf 18 = .ok (.iload 4, 2) := dk_21 4 (dk_at dksX3_readingsOf_0 18 rfl rfl)
theorem dX3_readingsOf_20 : decode cX3_readingsOf 20 = .ok (.iload_n 1, 1) := dk_27 (dk_at dksX3_readingsOf_0 20 rfl rfl)
theorem dX3_readingsOf_21 : decode cX3_readingsOf 21 = .ok (.aload_n 0, 1) := dk_42 (dk_at dksX3_readingsOf_0 21 rfl rfl)
theorem dX3_readingsOf_22 : decode cX3_readingsOf 22 = .ok (.getfield 237, 3) := dk_180 0 237 (dk_at dksX3_readingsOf_1 0 rfl rfl)
theorem dX3_readingsOf_25 : decode cX3_readingsOf 25 = .ok (.invokevirtual 257, 3) := dk_182 1 1 (dk_at dksX3_readingsOf_1 3 rfl rfl)
theorem dX3_readingsOf_28 : decode cX3_readingsOf 28 = .ok (.ifCond .eq 10, 3) := dk_153 0 10 (dk_at dksX3_readingsOf_1 6 rfl rfl)
theorem dX3_readingsOf_31 : decode cX3_readingsOf 31 = .ok (.lconst 1, 1) := dk_10 (dk_at dksX3_readingsOf_1 9 rfl rfl)
theorem dX3_readingsOf_32 : decode cX3_readingsOf 32 = .ok (.iload 4, 2) := dk_21 4 (dk_at dksX3_readingsOf_1 10 rfl rfl)
theorem dX3_readingsOf_34 : decode cX3_readingsOf 34 = .ok (.lshl, 1) := dk_121 (dk_at dksX3_readingsOf_1 12 rfl rfl)
theorem dX3_readingsOf_35 : decode cX3_readingsOf 35 = .ok (.goto 4, 3) := dk_167 0 4 (dk_at dksX3_readingsOf_1 13 rfl rfl)
theorem dX3_readingsOf_38 : decode cX3_readingsOf 38 = .ok (.lconst 0, 1) := dk_9 (dk_at dksX3_readingsOf_1 16 rfl rfl)
theorem dX3_readingsOf_39 : decode cX3_readingsOf 39 = .ok (.lor, 1) := dk_129 (dk_at dksX3_readingsOf_1 17 rfl rfl)
theorem dX3_readingsOf_40 : decode cX3_readingsOf 40 = .ok (.lstore_n 2, 1) := dk_65 (dk_at dksX3_readingsOf_1 18 rfl rfl)
theorem dX3_readingsOf_41 : decode cX3_readingsOf 41 = .ok (.iinc 4 1, 3) := dk_132 4 1 (dk_at dksX3_readingsOf_1 19 rfl rfl)
theorem dX3_readingsOf_44 : decode cX3_readingsOf 44 = .ok (.goto (-39), 3) := dk_167 255 217 (dk_at dksX3_readingsOf_2 0 rfl rfl)
theorem dX3_readingsOf_47 : decode cX3_readingsOf 47 = .ok (.lload_n 2, 1) := dk_32 (dk_at dksX3_readingsOf_2 3 rfl rfl)
theorem dX3_readingsOf_48 : decode cX3_readingsOf 48 = .ok (.lreturn, 1) := dk_173 (dk_at dksX3_readingsOf_2 4 rfl rfl)
def dkwX3_mayBe_1 : List UInt8 := [167, 0, 4, 3, 172]
abbrev dktX3_mayBe_1 : List UInt8 := dkwX3_mayBe_1 ++ []
def dkwX3_mayBe_0 : List UInt8 := [28, 27, 2, 130, 126, 154, 0, 20, 27, 28, 2, 130, 126, 133, 184, 0, 253, 29, 163, 0, 7, 4]
abbrev dktX3_mayBe_0 : List UInt8 := dkwX3_mayBe_0 ++ dktX3_mayBe_1
theorem dksX3_mayBe_0 : cX3_mayBe.data.toList.drop 0 = dktX3_mayBe_0 := by decide +kernel
theorem dksX3_mayBe_1 : cX3_mayBe.data.toList.drop 22 = dktX3_mayBe_1 := dk_seg dksX3_mayBe_0 22 rfl rfl
theorem dX3_mayBe_0 : decode cX3_mayBe 0 = .ok (.iload_n 2, 1) := dk_28 (dk_at dksX3_mayBe_0 0 rfl rfl)
theorem dX3_mayBe_1 : decode cX3_mayBe 1 = .ok (.iload_n 1, 1) := dk_27 (dk_at dksX3_mayBe_0 1 rfl rfl)
theorem dX3_mayBe_2 : decode cX3_mayBe 2 = .ok (.iconst (-1), 1) := dk_2 (dk_at dksX3_mayBe_0 2 rfl rfl)
theorem dX3_mayBe_3 : decode cX3_mayBe 3 = .ok (.ixor, 1) := dk_130 (dk_at dksX3_mayBe_0 3 rfl rfl)
theorem dX3_mayBe_4 : decode cX3_mayBe 4 = .ok (.iand, 1) := dk_126 (dk_at dksX3_mayBe_0 4 rfl rfl)
theorem dX3_mayBe_5 : decode cX3_mayBe 5 = .ok (.ifCond .ne 20, 3) := dk_154 0 20 (dk_at dksX3_mayBe_0 5 rfl rfl)
theorem dX3_mayBe_8 : decode cX3_mayBe 8 = .ok (.iload_n 1, 1) := dk_27 (dk_at dksX3_mayBe_0 8 rfl rfl)
theorem dX3_mayBe_9 : decode cX3_mayBe 9 = .ok (.iload_n 2, 1) := dk_28 (dk_at dksX3_mayBe_0 9 rfl rfl)
theorem dX3_mayBe_10 : decode cX3_mayBe 10 = .ok (.iconst (-1), 1) := dk_2 (dk_at dksX3_mayBe_0 10 rfl rfl)
theorem dX3_mayBe_11 : decode cX3_mayBe 11 = .ok (.ixor, 1) := dk_130 (dk_at dksX3_mayBe_0 11 rfl rfl)
theorem dX3_mayBe_12 : decode cX3_mayBe 12 = .ok (.iand, 1) := dk_126 (dk_at dksX3_mayBe_0 12 rfl rfl)
theorem dX3_mayBe_13 : decode cX3_mayBe 13 = .ok (.i2l, 1) := dk_133 (dk_at dksX3_mayBe_0 13 rfl rfl)
theorem dX3_mayBe_14 : decode cX3_mayBe 14 = .ok (.invokestatic 253, 3) := dk_184 0 253 (dk_at dksX3_mayBe_0 14 rfl rfl)
theorem dX3_mayBe_17 : decode cX3_mayBe 17 = .ok (.iload_n 3, 1) := dk_29 (dk_at dksX3_mayBe_0 17 rfl rfl)
theorem dX3_mayBe_18 : decode cX3_mayBe 18 = .ok (.if_icmp .gt 7, 3) := dk_163 0 7 (dk_at dksX3_mayBe_0 18 rfl rfl)
theorem dX3_mayBe_21 : decode cX3_mayBe 21 = .ok (.iconst 1, 1) := dk_4 (dk_at dksX3_mayBe_0 21 rfl rfl)
theorem dX3_mayBe_22 : decode cX3_mayBe 22 = .ok (.goto 4, 3) := dk_167 0 4 (dk_at dksX3_mayBe_1 0 rfl rfl)
theorem dX3_mayBe_25 : decode cX3_mayBe 25 = .ok (.iconst 0, 1) := dk_3 (dk_at dksX3_mayBe_1 3 rfl rfl)
theorem dX3_mayBe_26 : decode cX3_mayBe 26 = .ok (.ireturn, 1) := dk_172 (dk_at dksX3_mayBe_1 4 rfl rfl)
def dkwX3_between_8 : List UInt8 := [167, 0, 4, 9, 129, 55, 7, 132, 9, 1, 167, 255, 201, 22, 7, 173]
abbrev dktX3_between_8 : List UInt8 := dkwX3_between_8 ++ []
def dkwX3_between_7 : List UInt8 := [184, 0, 115, 153, 0, 24, 21, 9, 21, 5, 161, 0, 17, 21, 9, 21, 6, 163, 0, 10, 10, 21, 9, 121]
abbrev dktX3_between_7 : List UInt8 := dkwX3_between_7 ++ dktX3_between_8
def dkwX3_between_6 : List UInt8 := [54, 9, 21, 9, 4, 42, 180, 0, 234, 120, 162, 0, 50, 22, 7, 42, 21, 4, 182, 1, 97, 21, 9]
abbrev dktX3_between_6 : List UInt8 := dkwX3_between_6 ++ dktX3_between_7
def dkwX3_between_5 : List UInt8 := [2, 160, 0, 8, 21, 6, 167, 0, 5, 21, 8, 54, 6, 132, 7, 255, 167, 255, 218, 9, 55, 7, 3]
abbrev dktX3_between_5 : List UInt8 := dkwX3_between_5 ++ dktX3_between_6
def dkwX3_between_4 : List UInt8 := [54, 7, 21, 7, 29, 164, 0, 38, 42, 180, 0, 47, 16, 12, 28, 104, 21, 7, 96, 46, 54, 8, 21, 8]
abbrev dktX3_between_4 : List UInt8 := dkwX3_between_4 ++ dktX3_between_5
def dkwX3_between_3 : List UInt8 := [21, 5, 167, 0, 5, 21, 8, 54, 5, 132, 7, 1, 167, 255, 218, 42, 180, 0, 41, 28, 46, 4, 100]
abbrev dktX3_between_3 : List UInt8 := dkwX3_between_3 ++ dktX3_between_4
def dkwX3_between_2 : List UInt8 := [29, 162, 0, 38, 42, 180, 0, 47, 16, 12, 28, 104, 21, 7, 96, 46, 54, 8, 21, 8, 2, 160, 0, 8]
abbrev dktX3_between_2 : List UInt8 := dkwX3_between_2 ++ dktX3_between_3
def dkwX3_between_1 : List UInt8 := [21, 4, 182, 1, 92, 154, 0, 7, 20, 1, 95, 173, 3, 54, 5, 16, 32, 54, 6, 3, 54, 7, 21, 7]
abbrev dktX3_between_1 : List UInt8 := dkwX3_between_1 ++ dktX3_between_2
def dkwX3_between_0 : List UInt8 := [42, 3, 181, 0, 111, 42, 27, 182, 1, 14, 153, 0, 21, 42, 28, 29, 182, 1, 89, 153, 0, 12, 42]
abbrev dktX3_between_0 : List UInt8 := dkwX3_between_0 ++ dktX3_between_1
theorem dksX3_between_0 : cX3_between.data.toList.drop 0 = dktX3_between_0 := by decide +kernel
theorem dksX3_between_1 : cX3_between.data.toList.drop 23 = dktX3_between_1 := dk_seg dksX3_between_0 23 rfl rfl
theorem dksX3_between_2 : cX3_between.data.toList.drop 47 = dktX3_between_2 := dk_seg dksX3_between_1 24 rfl rfl
theorem dksX3_between_3 : cX3_between.data.toList.drop 71 = dktX3_between_3 := dk_seg dksX3_between_2 24 rfl rfl
theorem dksX3_between_4 : cX3_between.data.toList.drop 94 = dktX3_between_4 := dk_seg dksX3_between_3 23 rfl rfl
theorem dksX3_between_5 : cX3_between.data.toList.drop 118 = dktX3_between_5 := dk_seg dksX3_between_4 24 rfl rfl
theorem dksX3_between_6 : cX3_between.data.toList.drop 141 = dktX3_between_6 := dk_seg dksX3_between_5 23 rfl rfl
theorem dksX3_between_7 : cX3_between.data.toList.drop 164 = dktX3_between_7 := dk_seg dksX3_between_6 23 rfl rfl
theorem dksX3_between_8 : cX3_between.data.toList.drop 188 = dktX3_between_8 := dk_seg dksX3_between_7 24 rfl rfl
theorem dX3_between_0 : decode cX3_between 0 = .ok (.aload_n 0, 1) := dk_42 (dk_at dksX3_between_0 0 rfl rfl)
theorem dX3_between_1 : decode cX3_between 1 = .ok (.iconst 0, 1) := dk_3 (dk_at dksX3_between_0 1 rfl rfl)
theorem dX3_between_2 : decode cX3_between 2 = .ok (.putfield 111, 3) := dk_181 0 111 (dk_at dksX3_between_0 2 rfl rfl)
theorem dX3_between_5 : decode cX3_between 5 = .ok (.aload_n 0, 1) := dk_42 (dk_at dksX3_between_0 5 rfl rfl)
theorem dX3_between_6 : decode cX3_between 6 = .ok (.iload_n 1, 1) := dk_27 (dk_at dksX3_between_0 6 rfl rfl)
theorem dX3_between_7 : decode cX3_between 7 = .ok (.invokevirtual 270, 3) := dk_182 1 14 (dk_at dksX3_between_0 7 rfl rfl)
theorem dX3_between_10 : decode cX3_between 10 = .ok (.ifCond .eq 21, 3) := dk_153 0 21 (dk_at dksX3_between_0 10 rfl rfl)
theorem dX3_between_13 : decode cX3_between 13 = .ok (.aload_n 0, 1) := dk_42 (dk_at dksX3_between_0 13 rfl rfl)
theorem dX3_between_14 : decode cX3_between 14 = .ok (.iload_n 2, 1) := dk_28 (dk_at dksX3_between_0 14 rfl rfl)
theorem dX3_between_15 : decode cX3_between 15 = .ok (.iload_n 3, 1) := dk_29 (dk_at dksX3_between_0 15 rfl rfl)
theorem dX3_between_16 : decode cX3_between 16 = .ok (.invokevirtual 345, 3) := dk_182 1 89 (dk_at dksX3_between_0 16 rfl rfl)
theorem dX3_between_19 : decode cX3_between 19 = .ok (.ifCond .eq 12, 3) := dk_153 0 12 (dk_at dksX3_between_0 19 rfl rfl)
theorem dX3_between_22 : decode cX3_between 22 = .ok (.aload_n 0, 1) := dk_42 (dk_at dksX3_between_0 22 rfl rfl)
theorem dX3_between_23 : decode cX3_between 23 = .ok (.iload 4, 2) := dk_21 4 (dk_at dksX3_between_1 0 rfl rfl)
theorem dX3_between_25 : decode cX3_between 25 = .ok (.invokevirtual 348, 3) := dk_182 1 92 (dk_at dksX3_between_1 2 rfl rfl)
theorem dX3_between_28 : decode cX3_between 28 = .ok (.ifCond .ne 7, 3) := dk_154 0 7 (dk_at dksX3_between_1 5 rfl rfl)
theorem dX3_between_31 : decode cX3_between 31 = .ok (.ldc2_w 351, 3) := dk_20 1 95 (dk_at dksX3_between_1 8 rfl rfl)
theorem dX3_between_34 : decode cX3_between 34 = .ok (.lreturn, 1) := dk_173 (dk_at dksX3_between_1 11 rfl rfl)
theorem dX3_between_35 : decode cX3_between 35 = .ok (.iconst 0, 1) := dk_3 (dk_at dksX3_between_1 12 rfl rfl)
theorem dX3_between_36 : decode cX3_between 36 = .ok (.istore 5, 2) := dk_54 5 (dk_at dksX3_between_1 13 rfl rfl)
theorem dX3_between_38 : decode cX3_between 38 = .ok (.bipush 32, 2) := dk_16 32 (dk_at dksX3_between_1 15 rfl rfl)
theorem dX3_between_40 : decode cX3_between 40 = .ok (.istore 6, 2) := dk_54 6 (dk_at dksX3_between_1 17 rfl rfl)
theorem dX3_between_42 : decode cX3_between 42 = .ok (.iconst 0, 1) := dk_3 (dk_at dksX3_between_1 19 rfl rfl)
theorem dX3_between_43 : decode cX3_between 43 = .ok (.istore 7, 2) := dk_54 7 (dk_at dksX3_between_1 20 rfl rfl)
theorem dX3_between_45 : decode cX3_between 45 = .ok (.iload 7, 2) := dk_21 7 (dk_at dksX3_between_1 22 rfl rfl)
theorem dX3_between_47 : decode cX3_between 47 = .ok (.iload_n 3, 1) := dk_29 (dk_at dksX3_between_2 0 rfl rfl)
theorem dX3_between_48 : decode cX3_between 48 = .ok (.if_icmp .ge 38, 3) := dk_162 0 38 (dk_at dksX3_between_2 1 rfl rfl)
theorem dX3_between_51 : decode cX3_between 51 = .ok (.aload_n 0, 1) := dk_42 (dk_at dksX3_between_2 4 rfl rfl)
theorem dX3_between_52 : decode cX3_between 52 = .ok (.getfield 47, 3) := dk_180 0 47 (dk_at dksX3_between_2 5 rfl rfl)
theorem dX3_between_55 : decode cX3_between 55 = .ok (.bipush 12, 2) := dk_16 12 (dk_at dksX3_between_2 8 rfl rfl)
theorem dX3_between_57 : decode cX3_between 57 = .ok (.iload_n 2, 1) := dk_28 (dk_at dksX3_between_2 10 rfl rfl)
theorem dX3_between_58 : decode cX3_between 58 = .ok (.imul, 1) := dk_104 (dk_at dksX3_between_2 11 rfl rfl)
theorem dX3_between_59 : decode cX3_between 59 = .ok (.iload 7, 2) := dk_21 7 (dk_at dksX3_between_2 12 rfl rfl)
theorem dX3_between_61 : decode cX3_between 61 = .ok (.iadd, 1) := dk_96 (dk_at dksX3_between_2 14 rfl rfl)
theorem dX3_between_62 : decode cX3_between 62 = .ok (.iaload, 1) := dk_46 (dk_at dksX3_between_2 15 rfl rfl)
theorem dX3_between_63 : decode cX3_between 63 = .ok (.istore 8, 2) := dk_54 8 (dk_at dksX3_between_2 16 rfl rfl)
theorem dX3_between_65 : decode cX3_between 65 = .ok (.iload 8, 2) := dk_21 8 (dk_at dksX3_between_2 18 rfl rfl)
theorem dX3_between_67 : decode cX3_between 67 = .ok (.iconst (-1), 1) := dk_2 (dk_at dksX3_between_2 20 rfl rfl)
theorem dX3_between_68 : decode cX3_between 68 = .ok (.if_icmp .ne 8, 3) := dk_160 0 8 (dk_at dksX3_between_2 21 rfl rfl)
theorem dX3_between_71 : decode cX3_between 71 = .ok (.iload 5, 2) := dk_21 5 (dk_at dksX3_between_3 0 rfl rfl)
theorem dX3_between_73 : decode cX3_between 73 = .ok (.goto 5, 3) := dk_167 0 5 (dk_at dksX3_between_3 2 rfl rfl)
theorem dX3_between_76 : decode cX3_between 76 = .ok (.iload 8, 2) := dk_21 8 (dk_at dksX3_between_3 5 rfl rfl)
theorem dX3_between_78 : decode cX3_between 78 = .ok (.istore 5, 2) := dk_54 5 (dk_at dksX3_between_3 7 rfl rfl)
theorem dX3_between_80 : decode cX3_between 80 = .ok (.iinc 7 1, 3) := dk_132 7 1 (dk_at dksX3_between_3 9 rfl rfl)
theorem dX3_between_83 : decode cX3_between 83 = .ok (.goto (-38), 3) := dk_167 255 218 (dk_at dksX3_between_3 12 rfl rfl)
theorem dX3_between_86 : decode cX3_between 86 = .ok (.aload_n 0, 1) := dk_42 (dk_at dksX3_between_3 15 rfl rfl)
theorem dX3_between_87 : decode cX3_between 87 = .ok (.getfield 41, 3) := dk_180 0 41 (dk_at dksX3_between_3 16 rfl rfl)
theorem dX3_between_90 : decode cX3_between 90 = .ok (.iload_n 2, 1) := dk_28 (dk_at dksX3_between_3 19 rfl rfl)
theorem dX3_between_91 : decode cX3_between 91 = .ok (.iaload, 1) := dk_46 (dk_at dksX3_between_3 20 rfl rfl)
theorem dX3_between_92 : decode cX3_between 92 = .ok (.iconst 1, 1) := dk_4 (dk_at dksX3_between_3 21 rfl rfl)
theorem dX3_between_93 : decode cX3_between 93 = .ok (.isub, 1) := dk_100 (dk_at dksX3_between_3 22 rfl rfl)
theorem dX3_between_94 : decode cX3_between 94 = .ok (.istore 7, 2) := dk_54 7 (dk_at dksX3_between_4 0 rfl rfl)
theorem dX3_between_96 : decode cX3_between 96 = .ok (.iload 7, 2) := dk_21 7 (dk_at dksX3_between_4 2 rfl rfl)
theorem dX3_between_98 : decode cX3_between 98 = .ok (.iload_n 3, 1) := dk_29 (dk_at dksX3_between_4 4 rfl rfl)
theorem dX3_between_99 : decode cX3_between 99 = .ok (.if_icmp .le 38, 3) := dk_164 0 38 (dk_at dksX3_between_4 5 rfl rfl)
theorem dX3_between_102 : decode cX3_between 102 = .ok (.aload_n 0, 1) := dk_42 (dk_at dksX3_between_4 8 rfl rfl)
theorem dX3_between_103 : decode cX3_between 103 = .ok (.getfield 47, 3) := dk_180 0 47 (dk_at dksX3_between_4 9 rfl rfl)
theorem dX3_between_106 : decode cX3_between 106 = .ok (.bipush 12, 2) := dk_16 12 (dk_at dksX3_between_4 12 rfl rfl)
theorem dX3_between_108 : decode cX3_between 108 = .ok (.iload_n 2, 1) := dk_28 (dk_at dksX3_between_4 14 rfl rfl)
theorem dX3_between_109 : decode cX3_between 109 = .ok (.imul, 1) := dk_104 (dk_at dksX3_between_4 15 rfl rfl)
theorem dX3_between_110 : decode cX3_between 110 = .ok (.iload 7, 2) := dk_21 7 (dk_at dksX3_between_4 16 rfl rfl)
theorem dX3_between_112 : decode cX3_between 112 = .ok (.iadd, 1) := dk_96 (dk_at dksX3_between_4 18 rfl rfl)
theorem dX3_between_113 : decode cX3_between 113 = .ok (.iaload, 1) := dk_46 (dk_at dksX3_between_4 19 rfl rfl)
theorem dX3_between_114 : decode cX3_between 114 = .ok (.istore 8, 2) := dk_54 8 (dk_at dksX3_between_4 20 rfl rfl)
theorem dX3_between_116 : decode cX3_between 116 = .ok (.iload 8, 2) := dk_21 8 (dk_at dksX3_between_4 22 rfl rfl)
theorem dX3_between_118 : decode cX3_between 118 = .ok (.iconst (-1), 1) := dk_2 (dk_at dksX3_between_5 0 rfl rfl)
theorem dX3_between_119 : decode cX3_between 119 = .ok (.if_icmp .ne 8, 3) := dk_160 0 8 (dk_at dksX3_between_5 1 rfl rfl)
theorem dX3_between_122 : decode cX3_between 122 = .ok (.iload 6, 2) := dk_21 6 (dk_at dksX3_between_5 4 rfl rfl)
theorem dX3_between_124 : decode cX3_between 124 = .ok (.goto 5, 3) := dk_167 0 5 (dk_at dksX3_between_5 6 rfl rfl)
theorem dX3_between_127 : decode cX3_between 127 = .ok (.iload 8, 2) := dk_21 8 (dk_at dksX3_between_5 9 rfl rfl)
theorem dX3_between_129 : decode cX3_between 129 = .ok (.istore 6, 2) := dk_54 6 (dk_at dksX3_between_5 11 rfl rfl)
theorem dX3_between_131 : decode cX3_between 131 = .ok (.iinc 7 (-1), 3) := dk_132 7 255 (dk_at dksX3_between_5 13 rfl rfl)
theorem dX3_between_134 : decode cX3_between 134 = .ok (.goto (-38), 3) := dk_167 255 218 (dk_at dksX3_between_5 16 rfl rfl)
theorem dX3_between_137 : decode cX3_between 137 = .ok (.lconst 0, 1) := dk_9 (dk_at dksX3_between_5 19 rfl rfl)
theorem dX3_between_138 : decode cX3_between 138 = .ok (.lstore 7, 2) := dk_55 7 (dk_at dksX3_between_5 20 rfl rfl)
theorem dX3_between_140 : decode cX3_between 140 = .ok (.iconst 0, 1) := dk_3 (dk_at dksX3_between_5 22 rfl rfl)
theorem dX3_between_141 : decode cX3_between 141 = .ok (.istore 9, 2) := dk_54 9 (dk_at dksX3_between_6 0 rfl rfl)
theorem dX3_between_143 : decode cX3_between 143 = .ok (.iload 9, 2) := dk_21 9 (dk_at dksX3_between_6 2 rfl rfl)
theorem dX3_between_145 : decode cX3_between 145 = .ok (.iconst 1, 1) := dk_4 (dk_at dksX3_between_6 4 rfl rfl)
theorem dX3_between_146 : decode cX3_between 146 = .ok (.aload_n 0, 1) := dk_42 (dk_at dksX3_between_6 5 rfl rfl)
theorem dX3_between_147 : decode cX3_between 147 = .ok (.getfield 234, 3) := dk_180 0 234 (dk_at dksX3_between_6 6 rfl rfl)
theorem dX3_between_150 : decode cX3_between 150 = .ok (.ishl, 1) := dk_120 (dk_at dksX3_between_6 9 rfl rfl)
theorem dX3_between_151 : decode cX3_between 151 = .ok (.if_icmp .ge 50, 3) := dk_162 0 50 (dk_at dksX3_between_6 10 rfl rfl)
theorem dX3_between_154 : decode cX3_between 154 = .ok (.lload 7, 2) := dk_22 7 (dk_at dksX3_between_6 13 rfl rfl)
theorem dX3_between_156 : decode cX3_between 156 = .ok (.aload_n 0, 1) := dk_42 (dk_at dksX3_between_6 15 rfl rfl)
theorem dX3_between_157 : decode cX3_between 157 = .ok (.iload 4, 2) := dk_21 4 (dk_at dksX3_between_6 16 rfl rfl)
theorem dX3_between_159 : decode cX3_between 159 = .ok (.invokevirtual 353, 3) := dk_182 1 97 (dk_at dksX3_between_6 18 rfl rfl)
theorem dX3_between_162 : decode cX3_between 162 = .ok (.iload 9, 2) := dk_21 9 (dk_at dksX3_between_6 21 rfl rfl)
theorem dX3_between_164 : decode cX3_between 164 = .ok (.invokestatic 115, 3) := dk_184 0 115 (dk_at dksX3_between_7 0 rfl rfl)
theorem dX3_between_167 : decode cX3_between 167 = .ok (.ifCond .eq 24, 3) := dk_153 0 24 (dk_at dksX3_between_7 3 rfl rfl)
theorem dX3_between_170 : decode cX3_between 170 = .ok (.iload 9, 2) := dk_21 9 (dk_at dksX3_between_7 6 rfl rfl)
theorem dX3_between_172 : decode cX3_between 172 = .ok (.iload 5, 2) := dk_21 5 (dk_at dksX3_between_7 8 rfl rfl)
theorem dX3_between_174 : decode cX3_between 174 = .ok (.if_icmp .lt 17, 3) := dk_161 0 17 (dk_at dksX3_between_7 10 rfl rfl)
theorem dX3_between_177 : decode cX3_between 177 = .ok (.iload 9, 2) := dk_21 9 (dk_at dksX3_between_7 13 rfl rfl)
theorem dX3_between_179 : decode cX3_between 179 = .ok (.iload 6, 2) := dk_21 6 (dk_at dksX3_between_7 15 rfl rfl)
theorem dX3_between_181 : decode cX3_between 181 = .ok (.if_icmp .gt 10, 3) := dk_163 0 10 (dk_at dksX3_between_7 17 rfl rfl)
theorem dX3_between_184 : decode cX3_between 184 = .ok (.lconst 1, 1) := dk_10 (dk_at dksX3_between_7 20 rfl rfl)
theorem dX3_between_185 : decode cX3_between 185 = .ok (.iload 9, 2) := dk_21 9 (dk_at dksX3_between_7 21 rfl rfl)
theorem dX3_between_187 : decode cX3_between 187 = .ok (.lshl, 1) := dk_121 (dk_at dksX3_between_7 23 rfl rfl)
theorem dX3_between_188 : decode cX3_between 188 = .ok (.goto 4, 3) := dk_167 0 4 (dk_at dksX3_between_8 0 rfl rfl)
theorem dX3_between_191 : decode cX3_between 191 = .ok (.lconst 0, 1) := dk_9 (dk_at dksX3_between_8 3 rfl rfl)
theorem dX3_between_192 : decode cX3_between 192 = .ok (.lor, 1) := dk_129 (dk_at dksX3_between_8 4 rfl rfl)
theorem dX3_between_193 : decode cX3_between 193 = .ok (.lstore 7, 2) := dk_55 7 (dk_at dksX3_between_8 5 rfl rfl)
theorem dX3_between_195 : decode cX3_between 195 = .ok (.iinc 9 1, 3) := dk_132 9 1 (dk_at dksX3_between_8 7 rfl rfl)
theorem dX3_between_198 : decode cX3_between 198 = .ok (.goto (-55), 3) := dk_167 255 201 (dk_at dksX3_between_8 10 rfl rfl)
theorem dX3_between_201 : decode cX3_between 201 = .ok (.lload 7, 2) := dk_22 7 (dk_at dksX3_between_8 13 rfl rfl)
theorem dX3_between_203 : decode cX3_between 203 = .ok (.lreturn, 1) := dk_173 (dk_at dksX3_between_8 15 rfl rfl)
