set_option maxRecDepth 100000
def dkwX11_init_11 : List UInt8 := [16, 9, 188, 10, 181, 0, 94, 42, 182, 0, 97, 42, 182, 0, 100, 177]
abbrev dktX11_init_11 : List UInt8 := dkwX11_init_11 ++ []
def dkwX11_init_10 : List UInt8 := [16, 8, 188, 10, 181, 0, 85, 42, 16, 8, 188, 10, 181, 0, 88, 42, 16, 8, 188, 10, 181, 0, 91, 42]
abbrev dktX11_init_10 : List UInt8 := dkwX11_init_10 ++ dktX11_init_11
def dkwX11_init_9 : List UInt8 := [16, 16, 16, 45, 197, 0, 38, 2, 181, 0, 79, 42, 6, 17, 2, 254, 197, 0, 38, 2, 181, 0, 82, 42]
abbrev dktX11_init_9 : List UInt8 := dkwX11_init_9 ++ dktX11_init_10
def dkwX11_init_8 : List UInt8 := [197, 0, 38, 2, 181, 0, 70, 42, 16, 45, 188, 10, 181, 0, 73, 42, 16, 45, 188, 10, 181, 0, 76, 42]
abbrev dktX11_init_8 : List UInt8 := dkwX11_init_8 ++ dktX11_init_9
def dkwX11_init_7 : List UInt8 := [181, 0, 61, 42, 17, 0, 160, 188, 10, 181, 0, 64, 42, 16, 8, 188, 10, 181, 0, 67, 42, 16, 80, 7]
abbrev dktX11_init_7 : List UInt8 := dkwX11_init_7 ++ dktX11_init_8
def dkwX11_init_6 : List UInt8 := [181, 0, 55, 42, 16, 10, 5, 197, 0, 38, 2, 181, 0, 58, 42, 16, 10, 5, 197, 0, 38, 2]
abbrev dktX11_init_6 : List UInt8 := dkwX11_init_6 ++ dktX11_init_7
def dkwX11_init_5 : List UInt8 := [181, 0, 49, 42, 17, 0, 160, 5, 197, 0, 38, 2, 181, 0, 52, 42, 17, 0, 160, 5, 197, 0, 38, 2]
abbrev dktX11_init_5 : List UInt8 := dkwX11_init_5 ++ dktX11_init_6
def dkwX11_init_4 : List UInt8 := [181, 0, 43, 42, 16, 8, 5, 197, 0, 38, 2, 181, 0, 46, 42, 16, 8, 5, 197, 0, 38, 2]
abbrev dktX11_init_4 : List UInt8 := dkwX11_init_4 ++ dktX11_init_5
def dkwX11_init_3 : List UInt8 := [181, 0, 35, 42, 16, 10, 6, 197, 0, 38, 2, 181, 0, 40, 42, 16, 10, 6, 197, 0, 38, 2]
abbrev dktX11_init_3 : List UInt8 := dkwX11_init_3 ++ dktX11_init_4
def dkwX11_init_2 : List UInt8 := [181, 0, 26, 42, 16, 8, 188, 10, 181, 0, 29, 42, 16, 8, 188, 10, 181, 0, 32, 42, 16, 8, 188, 10]
abbrev dktX11_init_2 : List UInt8 := dkwX11_init_2 ++ dktX11_init_3
def dkwX11_init_1 : List UInt8 := [181, 0, 17, 42, 6, 188, 10, 181, 0, 20, 42, 6, 188, 10, 181, 0, 23, 42, 16, 8, 188, 10]
abbrev dktX11_init_1 : List UInt8 := dkwX11_init_1 ++ dktX11_init_2
def dkwX11_init_0 : List UInt8 := [42, 183, 0, 1, 42, 2, 181, 0, 9, 42, 17, 2, 88, 188, 10, 181, 0, 13, 42, 5, 188, 10]
abbrev dktX11_init_0 : List UInt8 := dkwX11_init_0 ++ dktX11_init_1
theorem dksX11_init_0 : cX11_init.data.toList.drop 0 = dktX11_init_0 := by decide +kernel
theorem dksX11_init_1 : cX11_init.data.toList.drop 22 = dktX11_init_1 := dk_seg dksX11_init_0 22 rfl rfl
theorem dksX11_init_2 : cX11_init.data.toList.drop 44 = dktX11_init_2 := dk_seg dksX11_init_1 22 rfl rfl
theorem dksX11_init_3 : cX11_init.data.toList.drop 68 = dktX11_init_3 := dk_seg dksX11_init_2 24 rfl rfl
theorem dksX11_init_4 : cX11_init.data.toList.drop 90 = dktX11_init_4 := dk_seg dksX11_init_3 22 rfl rfl
theorem dksX11_init_5 : cX11_init.data.toList.drop 112 = dktX11_init_5 := dk_seg dksX11_init_4 22 rfl rfl
theorem dksX11_init_6 : cX11_init.data.toList.drop 136 = dktX11_init_6 := dk_seg dksX11_init_5 24 rfl rfl
theorem dksX11_init_7 : cX11_init.data.toList.drop 158 = dktX11_init_7 := dk_seg dksX11_init_6 22 rfl rfl
theorem dksX11_init_8 : cX11_init.data.toList.drop 182 = dktX11_init_8 := dk_seg dksX11_init_7 24 rfl rfl
theorem dksX11_init_9 : cX11_init.data.toList.drop 206 = dktX11_init_9 := dk_seg dksX11_init_8 24 rfl rfl
theorem dksX11_init_10 : cX11_init.data.toList.drop 230 = dktX11_init_10 := dk_seg dksX11_init_9 24 rfl rfl
theorem dksX11_init_11 : cX11_init.data.toList.drop 254 = dktX11_init_11 := dk_seg dksX11_init_10 24 rfl rfl
theorem dX11_init_0 : decode cX11_init 0 = .ok (.aload_n 0, 1) := dk_42 (dk_at dksX11_init_0 0 rfl rfl)
theorem dX11_init_1 : decode cX11_init 1 = .ok (.invokespecial 1, 3) := dk_183 0 1 (dk_at dksX11_init_0 1 rfl rfl)
theorem dX11_init_4 : decode cX11_init 4 = .ok (.aload_n 0, 1) := dk_42 (dk_at dksX11_init_0 4 rfl rfl)
theorem dX11_init_5 : decode cX11_init 5 = .ok (.iconst (-1), 1) := dk_2 (dk_at dksX11_init_0 5 rfl rfl)
theorem dX11_init_6 : decode cX11_init 6 = .ok (.putfield 9, 3) := dk_181 0 9 (dk_at dksX11_init_0 6 rfl rfl)
theorem dX11_init_9 : decode cX11_init 9 = .ok (.aload_n 0, 1) := dk_42 (dk_at dksX11_init_0 9 rfl rfl)
theorem dX11_init_10 : decode cX11_init 10 = .ok (.sipush 600, 3) := dk_17 2 88 (dk_at dksX11_init_0 10 rfl rfl)
theorem dX11_init_13 : decode cX11_init 13 = .ok (.newarray .int, 2) := dk_188_10 (dk_at dksX11_init_0 13 rfl rfl)
theorem dX11_init_15 : decode cX11_init 15 = .ok (.putfield 13, 3) := dk_181 0 13 (dk_at dksX11_init_0 15 rfl rfl)
theorem dX11_init_18 : decode cX11_init 18 = .ok (.aload_n 0, 1) := dk_42 (dk_at dksX11_init_0 18 rfl rfl)
theorem dX11_init_19 : decode cX11_init 19 = .ok (.iconst 2, 1) := dk_5 (dk_at dksX11_init_0 19 rfl rfl)
theorem dX11_init_20 : decode cX11_init 20 = .ok (.newarray .int, 2) := dk_188_10 (dk_at dksX11_init_0 20 rfl rfl)
theorem dX11_init_22 : decode cX11_init 22 = .ok (.putfield 17, 3) := dk_181 0 17 (dk_at dksX11_init_1 0 rfl rfl)
theorem dX11_init_25 : decode cX11_init 25 = .ok (.aload_n 0, 1) := dk_42 (dk_at dksX11_init_1 3 rfl rfl)
theorem dX11_init_26 : decode cX11_init 26 = .ok (.iconst 3, 1) := dk_6 (dk_at dksX11_init_1 4 rfl rfl)
theorem dX11_init_27 : decode cX11_init 27 = .ok (.newarray .int, 2) := dk_188_10 (dk_at dksX11_init_1 5 rfl rfl)
theorem dX11_init_29 : decode cX11_init 29 = .ok (.putfield 20, 3) := dk_181 0 20 (dk_at dksX11_init_1 7 rfl rfl)
theorem dX11_init_32 : decode cX11_init 32 = .ok (.aload_n 0, 1) := dk_42 (dk_at dksX11_init_1 10 rfl rfl)
theorem dX11_init_33 : decode cX11_init 33 = .ok (.iconst 3, 1) := dk_6 (dk_at dksX11_init_1 11 rfl rfl)
theorem dX11_init_34 : decode cX11_init 34 = .ok (.newarray .int, 2) := dk_188_10 (dk_at dksX11_init_1 12 rfl rfl)
theorem dX11_init_36 : decode cX11_init 36 = .ok (.putfield 23, 3) := dk_181 0 23 (dk_at dksX11_init_1 14 rfl rfl)
theorem dX11_init_39 : decode cX11_init 39 = .ok (.aload_n 0, 1) := dk_42 (dk_at dksX11_init_1 17 rfl rfl)
theorem dX11_init_40 : decode cX11_init 40 = .ok (.bipush 8, 2) := dk_16 8 (dk_at dksX11_init_1 18 rfl rfl)
theorem dX11_init_42 : decode cX11_init 42 = .ok (.newarray .int, 2) := dk_188_10 (dk_at dksX11_init_1 20 rfl rfl)
theorem dX11_init_44 : decode cX11_init 44 = .ok (.putfield 26, 3) := dk_181 0 26 (dk_at dksX11_init_2 0 rfl rfl)
theorem dX11_init_47 : decode cX11_init 47 = .ok (.aload_n 0, 1) := dk_42 (dk_at dksX11_init_2 3 rfl rfl)
theorem dX11_init_48 : decode cX11_init 48 = .ok (.bipush 8, 2) := dk_16 8 (dk_at dksX11_init_2 4 rfl rfl)
theorem dX11_init_50 : decode cX11_init 50 = .ok (.newarray .int, 2) := dk_188_10 (dk_at dksX11_init_2 6 rfl rfl)
theorem dX11_init_52 : decode cX11_init 52 = .ok (.putfield 29, 3) := dk_181 0 29 (dk_at dksX11_init_2 8 rfl rfl)
theorem dX11_init_55 : decode cX11_init 55 = .ok (.aload_n 0, 1) := dk_42 (dk_at dksX11_init_2 11 rfl rfl)
theorem dX11_init_56 : decode cX11_init 56 = .ok (.bipush 8, 2) := dk_16 8 (dk_at dksX11_init_2 12 rfl rfl)
theorem dX11_init_58 : decode cX11_init 58 = .ok (.newarray .int, 2) := dk_188_10 (dk_at dksX11_init_2 14 rfl rfl)
theorem dX11_init_60 : decode cX11_init 60 = .ok (.putfield 32, 3) := dk_181 0 32 (dk_at dksX11_init_2 16 rfl rfl)
theorem dX11_init_63 : decode cX11_init 63 = .ok (.aload_n 0, 1) := dk_42 (dk_at dksX11_init_2 19 rfl rfl)
theorem dX11_init_64 : decode cX11_init 64 = .ok (.bipush 8, 2) := dk_16 8 (dk_at dksX11_init_2 20 rfl rfl)
theorem dX11_init_66 : decode cX11_init 66 = .ok (.newarray .int, 2) := dk_188_10 (dk_at dksX11_init_2 22 rfl rfl)
theorem dX11_init_68 : decode cX11_init 68 = .ok (.putfield 35, 3) := dk_181 0 35 (dk_at dksX11_init_3 0 rfl rfl)
theorem dX11_init_71 : decode cX11_init 71 = .ok (.aload_n 0, 1) := dk_42 (dk_at dksX11_init_3 3 rfl rfl)
theorem dX11_init_72 : decode cX11_init 72 = .ok (.bipush 10, 2) := dk_16 10 (dk_at dksX11_init_3 4 rfl rfl)
theorem dX11_init_74 : decode cX11_init 74 = .ok (.iconst 3, 1) := dk_6 (dk_at dksX11_init_3 6 rfl rfl)
theorem dX11_init_75 : decode cX11_init 75 = .ok (.multianewarray 38 2, 4) := by decide +kernel
theorem dX11_init_79 : decode cX11_init 79 = .ok (.putfield 40, 3) := dk_181 0 40 (dk_at dksX11_init_3 11 rfl rfl)
theorem dX11_init_82 : decode cX11_init 82 = .ok (.aload_n 0, 1) := dk_42 (dk_at dksX11_init_3 14 rfl rfl)
theorem dX11_init_83 : decode cX11_init 83 = .ok (.bipush 10, 2) := dk_16 10 (dk_at dksX11_init_3 15 rfl rfl)
theorem dX11_init_85 : decode cX11_init 85 = .ok (.iconst 3, 1) := dk_6 (dk_at dksX11_init_3 17 rfl rfl)
theorem dX11_init_86 : decode cX11_init 86 = .ok (.multianewarray 38 2, 4) := by decide +kernel
theorem dX11_init_90 : decode cX11_init 90 = .ok (.putfield 43, 3) := dk_181 0 43 (dk_at dksX11_init_4 0 rfl rfl)
theorem dX11_init_93 : decode cX11_init 93 = .ok (.aload_n 0, 1) := dk_42 (dk_at dksX11_init_4 3 rfl rfl)
theorem dX11_init_94 : decode cX11_init 94 = .ok (.bipush 8, 2) := dk_16 8 (dk_at dksX11_init_4 4 rfl rfl)
theorem dX11_init_96 : decode cX11_init 96 = .ok (.iconst 2, 1) := dk_5 (dk_at dksX11_init_4 6 rfl rfl)
theorem dX11_init_97 : decode cX11_init 97 = .ok (.multianewarray 38 2, 4) := by decide +kernel
theorem dX11_init_101 : decode cX11_init 101 = .ok (.putfield 46, 3) := dk_181 0 46 (dk_at dksX11_init_4 11 rfl rfl)
theorem dX11_init_104 : decode cX11_init 104 = .ok (.aload_n 0, 1) := dk_42 (dk_at dksX11_init_4 14 rfl rfl)
theorem dX11_init_105 : decode cX11_init 105 = .ok (.bipush 8, 2) := dk_16 8 (dk_at dksX11_init_4 15 rfl rfl)
theorem dX11_init_107 : decode cX11_init 107 = .ok (.iconst 2, 1) := dk_5 (dk_at dksX11_init_4 17 rfl rfl)
theorem dX11_init_108 : decode cX11_init 108 = .ok (.multianewarray 38 2, 4) := by decide +kernel
theorem dX11_init_112 : decode cX11_init 112 = .ok (.putfield 49, 3) := dk_181 0 49 (dk_at dksX11_init_5 0 rfl rfl)
theorem dX11_init_115 : decode cX11_init 115 = .ok (.aload_n 0, 1) := dk_42 (dk_at dksX11_init_5 3 rfl rfl)
theorem dX11_init_116 : decode cX11_init 116 = .ok (.sipush 160, 3) := dk_17 0 160 (dk_at dksX11_init_5 4 rfl rfl)
theorem dX11_init_119 : decode cX11_init 119 = .ok (.iconst 2, 1) := dk_5 (dk_at dksX11_init_5 7 rfl rfl)
theorem dX11_init_120 : decode cX11_init 120 = .ok (.multianewarray 38 2, 4) := by decide +kernel
theorem dX11_init_124 : decode cX11_init 124 = .ok (.putfield 52, 3) := dk_181 0 52 (dk_at dksX11_init_5 12 rfl rfl)
theorem dX11_init_127 : decode cX11_init 127 = .ok (.aload_n 0, 1) := dk_42 (dk_at dksX11_init_5 15 rfl rfl)
theorem dX11_init_128 : decode cX11_init 128 = .ok (.sipush 160, 3) := dk_17 0 160 (dk_at dksX11_init_5 16 rfl rfl)
theorem dX11_init_131 : decode cX11_init 131 = .ok (.iconst 2, 1) := dk_5 (dk_at dksX11_init_5 19 rfl rfl)
theorem dX11_init_132 : decode cX11_init 132 = .ok (.multianewarray 38 2, 4) := by decide +kernel
theorem dX11_init_136 : decode cX11_init 136 = .ok (.putfield 55, 3) := dk_181 0 55 (dk_at dksX11_init_6 0 rfl rfl)
theorem dX11_init_139 : decode cX11_init 139 = .ok (.aload_n 0, 1) := dk_42 (dk_at dksX11_init_6 3 rfl rfl)
theorem dX11_init_140 : decode cX11_init 140 = .ok (.bipush 10, 2) := dk_16 10 (dk_at dksX11_init_6 4 rfl rfl)
theorem dX11_init_142 : decode cX11_init 142 = .ok (.iconst 2, 1) := dk_5 (dk_at dksX11_init_6 6 rfl rfl)
theorem dX11_init_143 : decode cX11_init 143 = .ok (.multianewarray 38 2, 4) := by decide +kernel
theorem dX11_init_147 : decode cX11_init 147 = .ok (.putfield 58, 3) := dk_181 0 58 (dk_at dksX11_init_6 11 rfl rfl)
theorem dX11_init_150 : decode cX11_init 150 = .ok (.aload_n 0, 1) := dk_42 (dk_at dksX11_init_6 14 rfl rfl)
theorem dX11_init_151 : decode cX11_init 151 = .ok (.bipush 10, 2) := dk_16 10 (dk_at dksX11_init_6 15 rfl rfl)
theorem dX11_init_153 : decode cX11_init 153 = .ok (.iconst 2, 1) := dk_5 (dk_at dksX11_init_6 17 rfl rfl)
theorem dX11_init_154 : decode cX11_init 154 = .ok (.multianewarray 38 2, 4) := by decide +kernel
theorem dX11_init_158 : decode cX11_init 158 = .ok (.putfield 61, 3) := dk_181 0 61 (dk_at dksX11_init_7 0 rfl rfl)
theorem dX11_init_161 : decode cX11_init 161 = .ok (.aload_n 0, 1) := dk_42 (dk_at dksX11_init_7 3 rfl rfl)
theorem dX11_init_162 : decode cX11_init 162 = .ok (.sipush 160, 3) := dk_17 0 160 (dk_at dksX11_init_7 4 rfl rfl)
theorem dX11_init_165 : decode cX11_init 165 = .ok (.newarray .int, 2) := dk_188_10 (dk_at dksX11_init_7 7 rfl rfl)
theorem dX11_init_167 : decode cX11_init 167 = .ok (.putfield 64, 3) := dk_181 0 64 (dk_at dksX11_init_7 9 rfl rfl)
theorem dX11_init_170 : decode cX11_init 170 = .ok (.aload_n 0, 1) := dk_42 (dk_at dksX11_init_7 12 rfl rfl)
theorem dX11_init_171 : decode cX11_init 171 = .ok (.bipush 8, 2) := dk_16 8 (dk_at dksX11_init_7 13 rfl rfl)
theorem dX11_init_173 : decode cX11_init 173 = .ok (.newarray .int, 2) := dk_188_10 (dk_at dksX11_init_7 15 rfl rfl)
theorem dX11_init_175 : decode cX11_init 175 = .ok (.putfield 67, 3) := dk_181 0 67 (dk_at dksX11_init_7 17 rfl rfl)
theorem dX11_init_178 : decode cX11_init 178 = .ok (.aload_n 0, 1) := dk_42 (dk_at dksX11_init_7 20 rfl rfl)
theorem dX11_init_179 : decode cX11_init 179 = .ok (.bipush 80, 2) := dk_16 80 (dk_at dksX11_init_7 21 rfl rfl)
theorem dX11_init_181 : decode cX11_init 181 = .ok (.iconst 4, 1) := dk_7 (dk_at dksX11_init_7 23 rfl rfl)
theorem dX11_init_182 : decode cX11_init 182 = .ok (.multianewarray 38 2, 4) := by decide +kernel
theorem dX11_init_186 : decode cX11_init 186 = .ok (.putfield 70, 3) := dk_181 0 70 (dk_at dksX11_init_8 4 rfl rfl)
theorem dX11_init_189 : decode cX11_init 189 = .ok (.aload_n 0, 1) := dk_42 (dk_at dksX11_init_8 7 rfl rfl)
theorem dX11_init_190 : decode cX11_init 190 = .ok (.bipush 45, 2) := dk_16 45 (dk_at dksX11_init_8 8 rfl rfl)
theorem dX11_init_192 : decode cX11_init 192 = .ok (.newarray .int, 2) := dk_188_10 (dk_at dksX11_init_8 10 rfl rfl)
theorem dX11_init_194 : decode cX11_init 194 = .ok (.putfield 73, 3) := dk_181 0 73 (dk_at dksX11_init_8 12 rfl rfl)
theorem dX11_init_197 : decode cX11_init 197 = .ok (.aload_n 0, 1) := dk_42 (dk_at dksX11_init_8 15 rfl rfl)
theorem dX11_init_198 : decode cX11_init 198 = .ok (.bipush 45, 2) := dk_16 45 (dk_at dksX11_init_8 16 rfl rfl)
theorem dX11_init_200 : decode cX11_init 200 = .ok (.newarray .int, 2) := dk_188_10 (dk_at dksX11_init_8 18 rfl rfl)
theorem dX11_init_202 : decode cX11_init 202 = .ok (.putfield 76, 3) := dk_181 0 76 (dk_at dksX11_init_8 20 rfl rfl)
theorem dX11_init_205 : decode cX11_init 205 = .ok (.aload_n 0, 1) := dk_42 (dk_at dksX11_init_8 23 rfl rfl)
theorem dX11_init_206 : decode cX11_init 206 = .ok (.bipush 16, 2) := dk_16 16 (dk_at dksX11_init_9 0 rfl rfl)
theorem dX11_init_208 : decode cX11_init 208 = .ok (.bipush 45, 2) := dk_16 45 (dk_at dksX11_init_9 2 rfl rfl)
theorem dX11_init_210 : decode cX11_init 210 = .ok (.multianewarray 38 2, 4) := by decide +kernel
theorem dX11_init_214 : decode cX11_init 214 = .ok (.putfield 79, 3) := dk_181 0 79 (dk_at dksX11_init_9 8 rfl rfl)
theorem dX11_init_217 : decode cX11_init 217 = .ok (.aload_n 0, 1) := dk_42 (dk_at dksX11_init_9 11 rfl rfl)
theorem dX11_init_218 : decode cX11_init 218 = .ok (.iconst 3, 1) := dk_6 (dk_at dksX11_init_9 12 rfl rfl)
theorem dX11_init_219 : decode cX11_init 219 = .ok (.sipush 766, 3) := dk_17 2 254 (dk_at dksX11_init_9 13 rfl rfl)
theorem dX11_init_222 : decode cX11_init 222 = .ok (.multianewarray 38 2, 4) := by decide +kernel
theorem dX11_init_226 : decode cX11_init 226 = .ok (.putfield 82, 3) := dk_181 0 82 (dk_at dksX11_init_9 20 rfl rfl)
theorem dX11_init_229 : decode cX11_init 229 = .ok (.aload_n 0, 1) := dk_42 (dk_at dksX11_init_9 23 rfl rfl)
theorem dX11_init_230 : decode cX11_init 230 = .ok (.bipush 8, 2) := dk_16 8 (dk_at dksX11_init_10 0 rfl rfl)
theorem dX11_init_232 : decode cX11_init 232 = .ok (.newarray .int, 2) := dk_188_10 (dk_at dksX11_init_10 2 rfl rfl)
theorem dX11_init_234 : decode cX11_init 234 = .ok (.putfield 85, 3) := dk_181 0 85 (dk_at dksX11_init_10 4 rfl rfl)
theorem dX11_init_237 : decode cX11_init 237 = .ok (.aload_n 0, 1) := dk_42 (dk_at dksX11_init_10 7 rfl rfl)
theorem dX11_init_238 : decode cX11_init 238 = .ok (.bipush 8, 2) := dk_16 8 (dk_at dksX11_init_10 8 rfl rfl)
theorem dX11_init_240 : decode cX11_init 240 = .ok (.newarray .int, 2) := dk_188_10 (dk_at dksX11_init_10 10 rfl rfl)
theorem dX11_init_242 : decode cX11_init 242 = .ok (.putfield 88, 3) := dk_181 0 88 (dk_at dksX11_init_10 12 rfl rfl)
theorem dX11_init_245 : decode cX11_init 245 = .ok (.aload_n 0, 1) := dk_42 (dk_at dksX11_init_10 15 rfl rfl)
theorem dX11_init_246 : decode cX11_init 246 = .ok (.bipush 8, 2) := dk_16 8 (dk_at dksX11_init_10 16 rfl rfl)
theorem dX11_init_248 : decode cX11_init 248 = .ok (.newarray .int, 2) := dk_188_10 (dk_at dksX11_init_10 18 rfl rfl)
theorem dX11_init_250 : decode cX11_init 250 = .ok (.putfield 91, 3) := dk_181 0 91 (dk_at dksX11_init_10 20 rfl rfl)
theorem dX11_init_253 : decode cX11_init 253 = .ok (.aload_n 0, 1) := dk_42 (dk_at dksX11_init_10 23 rfl rfl)
theorem dX11_init_254 : decode cX11_init 254 = .ok (.bipush 9, 2) := dk_16 9 (dk_at dksX11_init_11 0 rfl rfl)
theorem dX11_init_256 : decode cX11_init 256 = .ok (.newarray .int, 2) := dk_188_10 (dk_at dksX11_init_11 2 rfl rfl)
theorem dX11_init_258 : decode cX11_init 258 = .ok (.putfield 94, 3) := dk_181 0 94 (dk_at dksX11_init_11 4 rfl rfl)
theorem dX11_init_261 : decode cX11_init 261 = .ok (.aload_n 0, 1) := dk_42 (dk_at dksX11_init_11 7 rfl rfl)
theorem dX11_init_262 : decode cX11_init 262 = .ok (.invokevirtual 97, 3) := dk_182 0 97 (dk_at dksX11_init_11 8 rfl rfl)
theorem dX11_init_265 : decode cX11_init 265 = .ok (.aload_n 0, 1) := dk_42 (dk_at dksX11_init_11 11 rfl rfl)
theorem dX11_init_266 : decode cX11_init 266 = .ok (.invokevirtual 100, 3) := dk_182 0 100 (dk_at dksX11_init_11 12 rfl rfl)
theorem dX11_init_269 : decode cX11_init 269 = .ok (.return_, 1) := dk_177 (dk_at dksX11_init_11 15 rfl rfl)
def dkwX11_tellsNothing_1 : List UInt8 := [16, 8, 162, 0, 16, 42, 180, 0, 32, 27, 2, 79, 132, 1, 1, 167, 255, 240, 177]
abbrev dktX11_tellsNothing_1 : List UInt8 := dkwX11_tellsNothing_1 ++ []
def dkwX11_tellsNothing_0 : List UInt8 := [3, 60, 27, 6, 162, 0, 16, 42, 180, 0, 20, 27, 3, 79, 132, 1, 1, 167, 255, 241, 3, 60, 27]
abbrev dktX11_tellsNothing_0 : List UInt8 := dkwX11_tellsNothing_0 ++ dktX11_tellsNothing_1
theorem dksX11_tellsNothing_0 : cX11_tellsNothing.data.toList.drop 0 = dktX11_tellsNothing_0 := by decide +kernel
theorem dksX11_tellsNothing_1 : cX11_tellsNothing.data.toList.drop 23 = dktX11_tellsNothing_1 := dk_seg dksX11_tellsNothing_0 23 rfl rfl
theorem dX11_tellsNothing_0 : decode cX11_tellsNothing 0 = .ok (.iconst 0, 1) := dk_3 (dk_at dksX11_tellsNothing_0 0 rfl rfl)
theorem dX11_tellsNothing_1 : decode cX11_tellsNothing 1 = .ok (.istore_n 1, 1) := dk_60 (dk_at dksX11_tellsNothing_0 1 rfl rfl)
theorem dX11_tellsNothing_2 : decode cX11_tellsNothing 2 = .ok (.iload_n 1, 1) := dk_27 (dk_at dksX11_tellsNothing_0 2 rfl rfl)
theorem dX11_tellsNothing_3 : decode cX11_tellsNothing 3 = .ok (.iconst 3, 1) := dk_6 (dk_at dksX11_tellsNothing_0 3 rfl rfl)
theorem dX11_tellsNothing_4 : decode cX11_tellsNothing 4 = .ok (.if_icmp .ge 16, 3) := dk_162 0 16 (dk_at dksX11_tellsNothing_0 4 rfl rfl)
theorem dX11_tellsNothing_7 : decode cX11_tellsNothing 7 = .ok (.aload_n 0, 1) := dk_42 (dk_at dksX11_tellsNothing_0 7 rfl rfl)
theorem dX11_tellsNothing_8 : decode cX11_tellsNothing 8 = .ok (.getfield 20, 3) := dk_180 0 20 (dk_at dksX11_tellsNothing_0 8 rfl rfl)
theorem dX11_tellsNothing_11 : decode cX11_tellsNothing 11 = .ok (.iload_n 1, 1) := dk_27 (dk_at dksX11_tellsNothing_0 11 rfl rfl)
theorem dX11_tellsNothing_12 : decode cX11_tellsNothing 12 = .ok (.iconst 0, 1) := dk_3 (dk_at dksX11_tellsNothing_0 12 rfl rfl)
theorem dX11_tellsNothing_13 : decode cX11_tellsNothing 13 = .ok (.iastore, 1) := dk_79 (dk_at dksX11_tellsNothing_0 13 rfl rfl)
theorem dX11_tellsNothing_14 : decode cX11_tellsNothing 14 = .ok (.iinc 1 1, 3) := dk_132 1 1 (dk_at dksX11_tellsNothing_0 14 rfl rfl)
theorem dX11_tellsNothing_17 : decode cX11_tellsNothing 17 = .ok (.goto (-15), 3) := dk_167 255 241 (dk_at dksX11_tellsNothing_0 17 rfl rfl)
theorem dX11_tellsNothing_20 : decode cX11_tellsNothing 20 = .ok (.iconst 0, 1) := dk_3 (dk_at dksX11_tellsNothing_0 20 rfl rfl)
theorem dX11_tellsNothing_21 : decode cX11_tellsNothing 21 = .ok (.istore_n 1, 1) := dk_60 (dk_at dksX11_tellsNothing_0 21 rfl rfl)
theorem dX11_tellsNothing_22 : decode cX11_tellsNothing 22 = .ok (.iload_n 1, 1) := dk_27 (dk_at dksX11_tellsNothing_0 22 rfl rfl)
theorem dX11_tellsNothing_23 : decode cX11_tellsNothing 23 = .ok (.bipush 8, 2) := dk_16 8 (dk_at dksX11_tellsNothing_1 0 rfl rfl)
theorem dX11_tellsNothing_25 : decode cX11_tellsNothing 25 = .ok (.if_icmp .ge 16, 3) := dk_162 0 16 (dk_at dksX11_tellsNothing_1 2 rfl rfl)
theorem dX11_tellsNothing_28 : decode cX11_tellsNothing 28 = .ok (.aload_n 0, 1) := dk_42 (dk_at dksX11_tellsNothing_1 5 rfl rfl)
theorem dX11_tellsNothing_29 : decode cX11_tellsNothing 29 = .ok (.getfield 32, 3) := dk_180 0 32 (dk_at dksX11_tellsNothing_1 6 rfl rfl)
theorem dX11_tellsNothing_32 : decode cX11_tellsNothing 32 = .ok (.iload_n 1, 1) := dk_27 (dk_at dksX11_tellsNothing_1 9 rfl rfl)
theorem dX11_tellsNothing_33 : decode cX11_tellsNothing 33 = .ok (.iconst (-1), 1) := dk_2 (dk_at dksX11_tellsNothing_1 10 rfl rfl)
theorem dX11_tellsNothing_34 : decode cX11_tellsNothing 34 = .ok (.iastore, 1) := dk_79 (dk_at dksX11_tellsNothing_1 11 rfl rfl)
theorem dX11_tellsNothing_35 : decode cX11_tellsNothing 35 = .ok (.iinc 1 1, 3) := dk_132 1 1 (dk_at dksX11_tellsNothing_1 12 rfl rfl)
theorem dX11_tellsNothing_38 : decode cX11_tellsNothing 38 = .ok (.goto (-16), 3) := dk_167 255 240 (dk_at dksX11_tellsNothing_1 15 rfl rfl)
theorem dX11_tellsNothing_41 : decode cX11_tellsNothing 41 = .ok (.return_, 1) := dk_177 (dk_at dksX11_tellsNothing_1 18 rfl rfl)
def dkwX11_beginsAnew_8 : List UInt8 := [3, 181, 0, 212, 177]
abbrev dktX11_beginsAnew_8 : List UInt8 := dkwX11_beginsAnew_8 ++ []
def dkwX11_beginsAnew_7 : List UInt8 := [167, 255, 237, 42, 3, 181, 0, 200, 42, 3, 181, 0, 203, 42, 3, 181, 0, 206, 42, 3, 181, 0, 209, 42]
abbrev dktX11_beginsAnew_7 : List UInt8 := dkwX11_beginsAnew_7 ++ dktX11_beginsAnew_8
def dkwX11_beginsAnew_6 : List UInt8 := [167, 255, 237, 3, 60, 27, 16, 8, 162, 0, 19, 42, 180, 0, 73, 16, 36, 27, 96, 2, 79, 132, 1, 1]
abbrev dktX11_beginsAnew_6 : List UInt8 := dkwX11_beginsAnew_6 ++ dktX11_beginsAnew_7
def dkwX11_beginsAnew_5 : List UInt8 := [167, 255, 240, 3, 60, 27, 16, 10, 162, 0, 19, 42, 180, 0, 73, 16, 16, 27, 96, 2, 79, 132, 1, 1]
abbrev dktX11_beginsAnew_5 : List UInt8 := dkwX11_beginsAnew_5 ++ dktX11_beginsAnew_6
def dkwX11_beginsAnew_4 : List UInt8 := [5, 46, 184, 0, 196, 3, 60, 27, 16, 45, 162, 0, 16, 42, 180, 0, 73, 27, 3, 79, 132, 1, 1]
abbrev dktX11_beginsAnew_4 : List UInt8 := dkwX11_beginsAnew_4 ++ dktX11_beginsAnew_5
def dkwX11_beginsAnew_3 : List UInt8 := [180, 0, 43, 42, 180, 0, 23, 4, 46, 184, 0, 196, 42, 180, 0, 46, 42, 180, 0, 49, 42, 180, 0, 23]
abbrev dktX11_beginsAnew_3 : List UInt8 := dkwX11_beginsAnew_3 ++ dktX11_beginsAnew_4
def dkwX11_beginsAnew_2 : List UInt8 := [180, 0, 35, 27, 42, 180, 0, 32, 27, 46, 79, 132, 1, 1, 167, 255, 223, 42, 180, 0, 40, 42]
abbrev dktX11_beginsAnew_2 : List UInt8 := dkwX11_beginsAnew_2 ++ dktX11_beginsAnew_3
def dkwX11_beginsAnew_1 : List UInt8 := [167, 255, 236, 3, 60, 27, 16, 8, 162, 0, 33, 42, 180, 0, 29, 27, 42, 180, 0, 26, 27, 46, 79, 42]
abbrev dktX11_beginsAnew_1 : List UInt8 := dkwX11_beginsAnew_1 ++ dktX11_beginsAnew_2
def dkwX11_beginsAnew_0 : List UInt8 := [3, 60, 27, 6, 162, 0, 21, 42, 180, 0, 23, 27, 42, 180, 0, 20, 27, 46, 79, 132, 1, 1]
abbrev dktX11_beginsAnew_0 : List UInt8 := dkwX11_beginsAnew_0 ++ dktX11_beginsAnew_1
theorem dksX11_beginsAnew_0 : cX11_beginsAnew.data.toList.drop 0 = dktX11_beginsAnew_0 := by decide +kernel
theorem dksX11_beginsAnew_1 : cX11_beginsAnew.data.toList.drop 22 = dktX11_beginsAnew_1 := dk_seg dksX11_beginsAnew_0 22 rfl rfl
theorem dksX11_beginsAnew_2 : cX11_beginsAnew.data.toList.drop 46 = dktX11_beginsAnew_2 := dk_seg dksX11_beginsAnew_1 24 rfl rfl
theorem dksX11_beginsAnew_3 : cX11_beginsAnew.data.toList.drop 68 = dktX11_beginsAnew_3 := dk_seg dksX11_beginsAnew_2 22 rfl rfl
theorem dksX11_beginsAnew_4 : cX11_beginsAnew.data.toList.drop 92 = dktX11_beginsAnew_4 := dk_seg dksX11_beginsAnew_3 24 rfl rfl
theorem dksX11_beginsAnew_5 : cX11_beginsAnew.data.toList.drop 115 = dktX11_beginsAnew_5 := dk_seg dksX11_beginsAnew_4 23 rfl rfl
theorem dksX11_beginsAnew_6 : cX11_beginsAnew.data.toList.drop 139 = dktX11_beginsAnew_6 := dk_seg dksX11_beginsAnew_5 24 rfl rfl
theorem dksX11_beginsAnew_7 : cX11_beginsAnew.data.toList.drop 163 = dktX11_beginsAnew_7 := dk_seg dksX11_beginsAnew_6 24 rfl rfl
theorem dksX11_beginsAnew_8 : cX11_beginsAnew.data.toList.drop 187 = dktX11_beginsAnew_8 := dk_seg dksX11_beginsAnew_7 24 rfl rfl
theorem dX11_beginsAnew_0 : decode cX11_beginsAnew 0 = .ok (.iconst 0, 1) := dk_3 (dk_at dksX11_beginsAnew_0 0 rfl rfl)
theorem dX11_beginsAnew_1 : decode cX11_beginsAnew 1 = .ok (.istore_n 1, 1) := dk_60 (dk_at dksX11_beginsAnew_0 1 rfl rfl)
theorem dX11_beginsAnew_2 : decode cX11_beginsAnew 2 = .ok (.iload_n 1, 1) := dk_27 (dk_at dksX11_beginsAnew_0 2 rfl rfl)
theorem dX11_beginsAnew_3 : decode cX11_beginsAnew 3 = .ok (.iconst 3, 1) := dk_6 (dk_at dksX11_beginsAnew_0 3 rfl rfl)
theorem dX11_beginsAnew_4 : decode cX11_beginsAnew 4 = .ok (.if_icmp .ge 21, 3) := dk_162 0 21 (dk_at dksX11_beginsAnew_0 4 rfl rfl)
theorem dX11_beginsAnew_7 : decode cX11_beginsAnew 7 = .ok (.aload_n 0, 1) := dk_42 (dk_at dksX11_beginsAnew_0 7 rfl rfl)
theorem dX11_beginsAnew_8 : decode cX11_beginsAnew 8 = .ok (.getfield 23, 3) := dk_180 0 23 (dk_at dksX11_beginsAnew_0 8 rfl rfl)
theorem dX11_beginsAnew_11 : decode cX11_beginsAnew 11 = .ok (.iload_n 1, 1) := dk_27 (dk_at dksX11_beginsAnew_0 11 rfl rfl)
theorem dX11_beginsAnew_12 : decode cX11_beginsAnew 12 = .ok (.aload_n 0, 1) := dk_42 (dk_at dksX11_beginsAnew_0 12 rfl rfl)
theorem dX11_beginsAnew_13 : decode cX11_beginsAnew 13 = .ok (.getfield 20, 3) := dk_180 0 20 (dk_at dksX11_beginsAnew_0 13 rfl rfl)
theorem dX11_beginsAnew_16 : decode cX11_beginsAnew 16 = .ok (.iload_n 1, 1) := dk_27 (dk_at dksX11_beginsAnew_0 16 rfl rfl)
theorem dX11_beginsAnew_17 : decode cX11_beginsAnew 17 = .ok (.iaload, 1) := dk_46 (dk_at dksX11_beginsAnew_0 17 rfl rfl)
theorem dX11_beginsAnew_18 : decode cX11_beginsAnew 18 = .ok (.iastore, 1) := dk_79 (dk_at dksX11_beginsAnew_0 18 rfl rfl)
theorem dX11_beginsAnew_19 : decode cX11_beginsAnew 19 = .ok (.iinc 1 1, 3) := dk_132 1 1 (dk_at dksX11_beginsAnew_0 19 rfl rfl)
theorem dX11_beginsAnew_22 : decode cX11_beginsAnew 22 = .ok (.goto (-20), 3) := dk_167 255 236 (dk_at dksX11_beginsAnew_1 0 rfl rfl)
theorem dX11_beginsAnew_25 : decode cX11_beginsAnew 25 = .ok (.iconst 0, 1) := dk_3 (dk_at dksX11_beginsAnew_1 3 rfl rfl)
theorem dX11_beginsAnew_26 : decode cX11_beginsAnew 26 = .ok (.istore_n 1, 1) := dk_60 (dk_at dksX11_beginsAnew_1 4 rfl rfl)
theorem dX11_beginsAnew_27 : decode cX11_beginsAnew 27 = .ok (.iload_n 1, 1) := dk_27 (dk_at dksX11_beginsAnew_1 5 rfl rfl)
theorem dX11_beginsAnew_28 : decode cX11_beginsAnew 28 = .ok (.bipush 8, 2) := dk_16 8 (dk_at dksX11_beginsAnew_1 6 rfl rfl)
theorem dX11_beginsAnew_30 : decode cX11_beginsAnew 30 = .ok (.if_icmp .ge 33, 3) := dk_162 0 33 (dk_at dksX11_beginsAnew_1 8 rfl rfl)
theorem dX11_beginsAnew_33 : decode cX11_beginsAnew 33 = .ok (.aload_n 0, 1) := dk_42 (dk_at dksX11_beginsAnew_1 11 rfl rfl)
theorem dX11_beginsAnew_34 : decode cX11_beginsAnew 34 = .ok (.getfield 29, 3) := dk_180 0 29 (dk_at dksX11_beginsAnew_1 12 rfl rfl)
theorem dX11_beginsAnew_37 : decode cX11_beginsAnew 37 = .ok (.iload_n 1, 1) := dk_27 (dk_at dksX11_beginsAnew_1 15 rfl rfl)
theorem dX11_beginsAnew_38 : decode cX11_beginsAnew 38 = .ok (.aload_n 0, 1) := dk_42 (dk_at dksX11_beginsAnew_1 16 rfl rfl)
theorem dX11_beginsAnew_39 : decode cX11_beginsAnew 39 = .ok (.getfield 26, 3) := dk_180 0 26 (dk_at dksX11_beginsAnew_1 17 rfl rfl)
theorem dX11_beginsAnew_42 : decode cX11_beginsAnew 42 = .ok (.iload_n 1, 1) := dk_27 (dk_at dksX11_beginsAnew_1 20 rfl rfl)
theorem dX11_beginsAnew_43 : decode cX11_beginsAnew 43 = .ok (.iaload, 1) := dk_46 (dk_at dksX11_beginsAnew_1 21 rfl rfl)
theorem dX11_beginsAnew_44 : decode cX11_beginsAnew 44 = .ok (.iastore, 1) := dk_79 (dk_at dksX11_beginsAnew_1 22 rfl rfl)
theorem dX11_beginsAnew_45 : decode cX11_beginsAnew 45 = .ok (.aload_n 0, 1) := dk_42 (dk_at dksX11_beginsAnew_1 23 rfl rfl)
theorem dX11_beginsAnew_46 : decode cX11_beginsAnew 46 = .ok (.getfield 35, 3) := dk_180 0 35 (dk_at dksX11_beginsAnew_2 0 rfl rfl)
theorem dX11_beginsAnew_49 : decode cX11_beginsAnew 49 = .ok (.iload_n 1, 1) := dk_27 (dk_at dksX11_beginsAnew_2 3 rfl rfl)
theorem dX11_beginsAnew_50 : decode cX11_beginsAnew 50 = .ok (.aload_n 0, 1) := dk_42 (dk_at dksX11_beginsAnew_2 4 rfl rfl)
theorem dX11_beginsAnew_51 : decode cX11_beginsAnew 51 = .ok (.getfield 32, 3) := dk_180 0 32 (dk_at dksX11_beginsAnew_2 5 rfl rfl)
theorem dX11_beginsAnew_54 : decode cX11_beginsAnew 54 = .ok (.iload_n 1, 1) := dk_27 (dk_at dksX11_beginsAnew_2 8 rfl rfl)
theorem dX11_beginsAnew_55 : decode cX11_beginsAnew 55 = .ok (.iaload, 1) := dk_46 (dk_at dksX11_beginsAnew_2 9 rfl rfl)
theorem dX11_beginsAnew_56 : decode cX11_beginsAnew 56 = .ok (.iastore, 1) := dk_79 (dk_at dksX11_beginsAnew_2 10 rfl rfl)
theorem dX11_beginsAnew_57 : decode cX11_beginsAnew 57 = .ok (.iinc 1 1, 3) := dk_132 1 1 (dk_at dksX11_beginsAnew_2 11 rfl rfl)
theorem dX11_beginsAnew_60 : decode cX11_beginsAnew 60 = .ok (.goto (-33), 3) := dk_167 255 223 (dk_at dksX11_beginsAnew_2 14 rfl rfl)
theorem dX11_beginsAnew_63 : decode cX11_beginsAnew 63 = .ok (.aload_n 0, 1) := dk_42 (dk_at dksX11_beginsAnew_2 17 rfl rfl)
theorem dX11_beginsAnew_64 : decode cX11_beginsAnew 64 = .ok (.getfield 40, 3) := dk_180 0 40 (dk_at dksX11_beginsAnew_2 18 rfl rfl)
theorem dX11_beginsAnew_67 : decode cX11_beginsAnew 67 = .ok (.aload_n 0, 1) := dk_42 (dk_at dksX11_beginsAnew_2 21 rfl rfl)
theorem dX11_beginsAnew_68 : decode cX11_beginsAnew 68 = .ok (.getfield 43, 3) := dk_180 0 43 (dk_at dksX11_beginsAnew_3 0 rfl rfl)
theorem dX11_beginsAnew_71 : decode cX11_beginsAnew 71 = .ok (.aload_n 0, 1) := dk_42 (dk_at dksX11_beginsAnew_3 3 rfl rfl)
theorem dX11_beginsAnew_72 : decode cX11_beginsAnew 72 = .ok (.getfield 23, 3) := dk_180 0 23 (dk_at dksX11_beginsAnew_3 4 rfl rfl)
theorem dX11_beginsAnew_75 : decode cX11_beginsAnew 75 = .ok (.iconst 1, 1) := dk_4 (dk_at dksX11_beginsAnew_3 7 rfl rfl)
theorem dX11_beginsAnew_76 : decode cX11_beginsAnew 76 = .ok (.iaload, 1) := dk_46 (dk_at dksX11_beginsAnew_3 8 rfl rfl)
theorem dX11_beginsAnew_77 : decode cX11_beginsAnew 77 = .ok (.invokestatic 196, 3) := dk_184 0 196 (dk_at dksX11_beginsAnew_3 9 rfl rfl)
theorem dX11_beginsAnew_80 : decode cX11_beginsAnew 80 = .ok (.aload_n 0, 1) := dk_42 (dk_at dksX11_beginsAnew_3 12 rfl rfl)
theorem dX11_beginsAnew_81 : decode cX11_beginsAnew 81 = .ok (.getfield 46, 3) := dk_180 0 46 (dk_at dksX11_beginsAnew_3 13 rfl rfl)
theorem dX11_beginsAnew_84 : decode cX11_beginsAnew 84 = .ok (.aload_n 0, 1) := dk_42 (dk_at dksX11_beginsAnew_3 16 rfl rfl)
theorem dX11_beginsAnew_85 : decode cX11_beginsAnew 85 = .ok (.getfield 49, 3) := dk_180 0 49 (dk_at dksX11_beginsAnew_3 17 rfl rfl)
theorem dX11_beginsAnew_88 : decode cX11_beginsAnew 88 = .ok (.aload_n 0, 1) := dk_42 (dk_at dksX11_beginsAnew_3 20 rfl rfl)
theorem dX11_beginsAnew_89 : decode cX11_beginsAnew 89 = .ok (.getfield 23, 3) := dk_180 0 23 (dk_at dksX11_beginsAnew_3 21 rfl rfl)
theorem dX11_beginsAnew_92 : decode cX11_beginsAnew 92 = .ok (.iconst 2, 1) := dk_5 (dk_at dksX11_beginsAnew_4 0 rfl rfl)
theorem dX11_beginsAnew_93 : decode cX11_beginsAnew 93 = .ok (.iaload, 1) := dk_46 (dk_at dksX11_beginsAnew_4 1 rfl rfl)
theorem dX11_beginsAnew_94 : decode cX11_beginsAnew 94 = .ok (.invokestatic 196, 3) := dk_184 0 196 (dk_at dksX11_beginsAnew_4 2 rfl rfl)
theorem dX11_beginsAnew_97 : decode cX11_beginsAnew 97 = .ok (.iconst 0, 1) := dk_3 (dk_at dksX11_beginsAnew_4 5 rfl rfl)
theorem dX11_beginsAnew_98 : decode cX11_beginsAnew 98 = .ok (.istore_n 1, 1) := dk_60 (dk_at dksX11_beginsAnew_4 6 rfl rfl)
theorem dX11_beginsAnew_99 : decode cX11_beginsAnew 99 = .ok (.iload_n 1, 1) := dk_27 (dk_at dksX11_beginsAnew_4 7 rfl rfl)
theorem dX11_beginsAnew_100 : decode cX11_beginsAnew 100 = .ok (.bipush 45, 2) := dk_16 45 (dk_at dksX11_beginsAnew_4 8 rfl rfl)
theorem dX11_beginsAnew_102 : decode cX11_beginsAnew 102 = .ok (.if_icmp .ge 16, 3) := dk_162 0 16 (dk_at dksX11_beginsAnew_4 10 rfl rfl)
theorem dX11_beginsAnew_105 : decode cX11_beginsAnew 105 = .ok (.aload_n 0, 1) := dk_42 (dk_at dksX11_beginsAnew_4 13 rfl rfl)
theorem dX11_beginsAnew_106 : decode cX11_beginsAnew 106 = .ok (.getfield 73, 3) := dk_180 0 73 (dk_at dksX11_beginsAnew_4 14 rfl rfl)
theorem dX11_beginsAnew_109 : decode cX11_beginsAnew 109 = .ok (.iload_n 1, 1) := dk_27 (dk_at dksX11_beginsAnew_4 17 rfl rfl)
theorem dX11_beginsAnew_110 : decode cX11_beginsAnew 110 = .ok (.iconst 0, 1) := dk_3 (dk_at dksX11_beginsAnew_4 18 rfl rfl)
theorem dX11_beginsAnew_111 : decode cX11_beginsAnew 111 = .ok (.iastore, 1) := dk_79 (dk_at dksX11_beginsAnew_4 19 rfl rfl)
theorem dX11_beginsAnew_112 : decode cX11_beginsAnew 112 = .ok (.iinc 1 1, 3) := dk_132 1 1 (dk_at dksX11_beginsAnew_4 20 rfl rfl)
theorem dX11_beginsAnew_115 : decode cX11_beginsAnew 115 = .ok (.goto (-16), 3) := dk_167 255 240 (dk_at dksX11_beginsAnew_5 0 rfl rfl)
theorem dX11_beginsAnew_118 : decode cX11_beginsAnew 118 = .ok (.iconst 0, 1) := dk_3 (dk_at dksX11_beginsAnew_5 3 rfl rfl)
theorem dX11_beginsAnew_119 : decode cX11_beginsAnew 119 = .ok (.istore_n 1, 1) := dk_60 (dk_at dksX11_beginsAnew_5 4 rfl rfl)
theorem dX11_beginsAnew_120 : decode cX11_beginsAnew 120 = .ok (.iload_n 1, 1) := dk_27 (dk_at dksX11_beginsAnew_5 5 rfl rfl)
theorem dX11_beginsAnew_121 : decode cX11_beginsAnew 121 = .ok (.bipush 10, 2) := dk_16 10 (dk_at dksX11_beginsAnew_5 6 rfl rfl)
theorem dX11_beginsAnew_123 : decode cX11_beginsAnew 123 = .ok (.if_icmp .ge 19, 3) := dk_162 0 19 (dk_at dksX11_beginsAnew_5 8 rfl rfl)
theorem dX11_beginsAnew_126 : decode cX11_beginsAnew 126 = .ok (.aload_n 0, 1) := dk_42 (dk_at dksX11_beginsAnew_5 11 rfl rfl)
theorem dX11_beginsAnew_127 : decode cX11_beginsAnew 127 = .ok (.getfield 73, 3) := dk_180 0 73 (dk_at dksX11_beginsAnew_5 12 rfl rfl)
theorem dX11_beginsAnew_130 : decode cX11_beginsAnew 130 = .ok (.bipush 16, 2) := dk_16 16 (dk_at dksX11_beginsAnew_5 15 rfl rfl)
theorem dX11_beginsAnew_132 : decode cX11_beginsAnew 132 = .ok (.iload_n 1, 1) := dk_27 (dk_at dksX11_beginsAnew_5 17 rfl rfl)
theorem dX11_beginsAnew_133 : decode cX11_beginsAnew 133 = .ok (.iadd, 1) := dk_96 (dk_at dksX11_beginsAnew_5 18 rfl rfl)
theorem dX11_beginsAnew_134 : decode cX11_beginsAnew 134 = .ok (.iconst (-1), 1) := dk_2 (dk_at dksX11_beginsAnew_5 19 rfl rfl)
theorem dX11_beginsAnew_135 : decode cX11_beginsAnew 135 = .ok (.iastore, 1) := dk_79 (dk_at dksX11_beginsAnew_5 20 rfl rfl)
theorem dX11_beginsAnew_136 : decode cX11_beginsAnew 136 = .ok (.iinc 1 1, 3) := dk_132 1 1 (dk_at dksX11_beginsAnew_5 21 rfl rfl)
theorem dX11_beginsAnew_139 : decode cX11_beginsAnew 139 = .ok (.goto (-19), 3) := dk_167 255 237 (dk_at dksX11_beginsAnew_6 0 rfl rfl)
theorem dX11_beginsAnew_142 : decode cX11_beginsAnew 142 = .ok (.iconst 0, 1) := dk_3 (dk_at dksX11_beginsAnew_6 3 rfl rfl)
theorem dX11_beginsAnew_143 : decode cX11_beginsAnew 143 = .ok (.istore_n 1, 1) := dk_60 (dk_at dksX11_beginsAnew_6 4 rfl rfl)
theorem dX11_beginsAnew_144 : decode cX11_beginsAnew 144 = .ok (.iload_n 1, 1) := dk_27 (dk_at dksX11_beginsAnew_6 5 rfl rfl)
theorem dX11_beginsAnew_145 : decode cX11_beginsAnew 145 = .ok (.bipush 8, 2) := dk_16 8 (dk_at dksX11_beginsAnew_6 6 rfl rfl)
theorem dX11_beginsAnew_147 : decode cX11_beginsAnew 147 = .ok (.if_icmp .ge 19, 3) := dk_162 0 19 (dk_at dksX11_beginsAnew_6 8 rfl rfl)
theorem dX11_beginsAnew_150 : decode cX11_beginsAnew 150 = .ok (.aload_n 0, 1) := dk_42 (dk_at dksX11_beginsAnew_6 11 rfl rfl)
theorem dX11_beginsAnew_151 : decode cX11_beginsAnew 151 = .ok (.getfield 73, 3) := dk_180 0 73 (dk_at dksX11_beginsAnew_6 12 rfl rfl)
theorem dX11_beginsAnew_154 : decode cX11_beginsAnew 154 = .ok (.bipush 36, 2) := dk_16 36 (dk_at dksX11_beginsAnew_6 15 rfl rfl)
theorem dX11_beginsAnew_156 : decode cX11_beginsAnew 156 = .ok (.iload_n 1, 1) := dk_27 (dk_at dksX11_beginsAnew_6 17 rfl rfl)
theorem dX11_beginsAnew_157 : decode cX11_beginsAnew 157 = .ok (.iadd, 1) := dk_96 (dk_at dksX11_beginsAnew_6 18 rfl rfl)
theorem dX11_beginsAnew_158 : decode cX11_beginsAnew 158 = .ok (.iconst (-1), 1) := dk_2 (dk_at dksX11_beginsAnew_6 19 rfl rfl)
theorem dX11_beginsAnew_159 : decode cX11_beginsAnew 159 = .ok (.iastore, 1) := dk_79 (dk_at dksX11_beginsAnew_6 20 rfl rfl)
theorem dX11_beginsAnew_160 : decode cX11_beginsAnew 160 = .ok (.iinc 1 1, 3) := dk_132 1 1 (dk_at dksX11_beginsAnew_6 21 rfl rfl)
theorem dX11_beginsAnew_163 : decode cX11_beginsAnew 163 = .ok (.goto (-19), 3) := dk_167 255 237 (dk_at dksX11_beginsAnew_7 0 rfl rfl)
theorem dX11_beginsAnew_166 : decode cX11_beginsAnew 166 = .ok (.aload_n 0, 1) := dk_42 (dk_at dksX11_beginsAnew_7 3 rfl rfl)
theorem dX11_beginsAnew_167 : decode cX11_beginsAnew 167 = .ok (.iconst 0, 1) := dk_3 (dk_at dksX11_beginsAnew_7 4 rfl rfl)
theorem dX11_beginsAnew_168 : decode cX11_beginsAnew 168 = .ok (.putfield 200, 3) := dk_181 0 200 (dk_at dksX11_beginsAnew_7 5 rfl rfl)
theorem dX11_beginsAnew_171 : decode cX11_beginsAnew 171 = .ok (.aload_n 0, 1) := dk_42 (dk_at dksX11_beginsAnew_7 8 rfl rfl)
theorem dX11_beginsAnew_172 : decode cX11_beginsAnew 172 = .ok (.iconst 0, 1) := dk_3 (dk_at dksX11_beginsAnew_7 9 rfl rfl)
theorem dX11_beginsAnew_173 : decode cX11_beginsAnew 173 = .ok (.putfield 203, 3) := dk_181 0 203 (dk_at dksX11_beginsAnew_7 10 rfl rfl)
theorem dX11_beginsAnew_176 : decode cX11_beginsAnew 176 = .ok (.aload_n 0, 1) := dk_42 (dk_at dksX11_beginsAnew_7 13 rfl rfl)
theorem dX11_beginsAnew_177 : decode cX11_beginsAnew 177 = .ok (.iconst 0, 1) := dk_3 (dk_at dksX11_beginsAnew_7 14 rfl rfl)
theorem dX11_beginsAnew_178 : decode cX11_beginsAnew 178 = .ok (.putfield 206, 3) := dk_181 0 206 (dk_at dksX11_beginsAnew_7 15 rfl rfl)
theorem dX11_beginsAnew_181 : decode cX11_beginsAnew 181 = .ok (.aload_n 0, 1) := dk_42 (dk_at dksX11_beginsAnew_7 18 rfl rfl)
theorem dX11_beginsAnew_182 : decode cX11_beginsAnew 182 = .ok (.iconst 0, 1) := dk_3 (dk_at dksX11_beginsAnew_7 19 rfl rfl)
theorem dX11_beginsAnew_183 : decode cX11_beginsAnew 183 = .ok (.putfield 209, 3) := dk_181 0 209 (dk_at dksX11_beginsAnew_7 20 rfl rfl)
theorem dX11_beginsAnew_186 : decode cX11_beginsAnew 186 = .ok (.aload_n 0, 1) := dk_42 (dk_at dksX11_beginsAnew_7 23 rfl rfl)
theorem dX11_beginsAnew_187 : decode cX11_beginsAnew 187 = .ok (.iconst 0, 1) := dk_3 (dk_at dksX11_beginsAnew_8 0 rfl rfl)
theorem dX11_beginsAnew_188 : decode cX11_beginsAnew 188 = .ok (.putfield 212, 3) := dk_181 0 212 (dk_at dksX11_beginsAnew_8 1 rfl rfl)
theorem dX11_beginsAnew_191 : decode cX11_beginsAnew 191 = .ok (.return_, 1) := dk_177 (dk_at dksX11_beginsAnew_8 4 rfl rfl)
def dkwX11_lays_1 : List UInt8 := [42, 29, 50, 21, 4, 46, 79, 132, 4, 1, 167, 255, 232, 132, 3, 1, 167, 255, 218, 177]
abbrev dktX11_lays_1 : List UInt8 := dkwX11_lays_1 ++ []
def dkwX11_lays_0 : List UInt8 := [3, 62, 29, 28, 162, 0, 39, 3, 54, 4, 21, 4, 43, 29, 50, 190, 162, 0, 21, 43, 29, 50, 21, 4]
abbrev dktX11_lays_0 : List UInt8 := dkwX11_lays_0 ++ dktX11_lays_1
theorem dksX11_lays_0 : cX11_lays.data.toList.drop 0 = dktX11_lays_0 := by decide +kernel
theorem dksX11_lays_1 : cX11_lays.data.toList.drop 24 = dktX11_lays_1 := dk_seg dksX11_lays_0 24 rfl rfl
theorem dX11_lays_0 : decode cX11_lays 0 = .ok (.iconst 0, 1) := dk_3 (dk_at dksX11_lays_0 0 rfl rfl)
theorem dX11_lays_1 : decode cX11_lays 1 = .ok (.istore_n 3, 1) := dk_62 (dk_at dksX11_lays_0 1 rfl rfl)
theorem dX11_lays_2 : decode cX11_lays 2 = .ok (.iload_n 3, 1) := dk_29 (dk_at dksX11_lays_0 2 rfl rfl)
theorem dX11_lays_3 : decode cX11_lays 3 = .ok (.iload_n 2, 1) := dk_28 (dk_at dksX11_lays_0 3 rfl rfl)
theorem dX11_lays_4 : decode cX11_lays 4 = .ok (.if_icmp .ge 39, 3) := dk_162 0 39 (dk_at dksX11_lays_0 4 rfl rfl)
theorem dX11_lays_7 : decode cX11_lays 7 = .ok (.iconst 0, 1) := dk_3 (dk_at dksX11_lays_0 7 rfl rfl)
theorem dX11_lays_8 : decode cX11_lays 8 = .ok (.istore 4, 2) := dk_54 4 (dk_at dksX11_lays_0 8 rfl rfl)
theorem dX11_lays_10 : decode cX11_lays 10 = .ok (.iload 4, 2) := dk_21 4 (dk_at dksX11_lays_0 10 rfl rfl)
theorem dX11_lays_12 : decode cX11_lays 12 = .ok (.aload_n 1, 1) := dk_43 (dk_at dksX11_lays_0 12 rfl rfl)
theorem dX11_lays_13 : decode cX11_lays 13 = .ok (.iload_n 3, 1) := dk_29 (dk_at dksX11_lays_0 13 rfl rfl)
theorem dX11_lays_14 : decode cX11_lays 14 = .ok (.aaload, 1) := dk_50 (dk_at dksX11_lays_0 14 rfl rfl)
theorem dX11_lays_15 : decode cX11_lays 15 = .ok (.arraylength, 1) := dk_190 (dk_at dksX11_lays_0 15 rfl rfl)
theorem dX11_lays_16 : decode cX11_lays 16 = .ok (.if_icmp .ge 21, 3) := dk_162 0 21 (dk_at dksX11_lays_0 16 rfl rfl)
theorem dX11_lays_19 : decode cX11_lays 19 = .ok (.aload_n 1, 1) := dk_43 (dk_at dksX11_lays_0 19 rfl rfl)
theorem dX11_lays_20 : decode cX11_lays 20 = .ok (.iload_n 3, 1) := dk_29 (dk_at dksX11_lays_0 20 rfl rfl)
theorem dX11_lays_21 : decode cX11_lays 21 = .ok (.aaload, 1) := dk_50 (dk_at dksX11_lays_0 21 rfl rfl)
theorem dX11_lays_22 : decode cX11_lays 22 = .ok (.iload 4, 2) := dk_21 4 (dk_at dksX11_lays_0 22 rfl rfl)
theorem dX11_lays_24 : decode cX11_lays 24 = .ok (.aload_n 0, 1) := dk_42 (dk_at dksX11_lays_1 0 rfl rfl)
theorem dX11_lays_25 : decode cX11_lays 25 = .ok (.iload_n 3, 1) := dk_29 (dk_at dksX11_lays_1 1 rfl rfl)
theorem dX11_lays_26 : decode cX11_lays 26 = .ok (.aaload, 1) := dk_50 (dk_at dksX11_lays_1 2 rfl rfl)
theorem dX11_lays_27 : decode cX11_lays 27 = .ok (.iload 4, 2) := dk_21 4 (dk_at dksX11_lays_1 3 rfl rfl)
theorem dX11_lays_29 : decode cX11_lays 29 = .ok (.iaload, 1) := dk_46 (dk_at dksX11_lays_1 5 rfl rfl)
theorem dX11_lays_30 : decode cX11_lays 30 = .ok (.iastore, 1) := dk_79 (dk_at dksX11_lays_1 6 rfl rfl)
theorem dX11_lays_31 : decode cX11_lays 31 = .ok (.iinc 4 1, 3) := dk_132 4 1 (dk_at dksX11_lays_1 7 rfl rfl)
theorem dX11_lays_34 : decode cX11_lays 34 = .ok (.goto (-24), 3) := dk_167 255 232 (dk_at dksX11_lays_1 10 rfl rfl)
theorem dX11_lays_37 : decode cX11_lays 37 = .ok (.iinc 3 1, 3) := dk_132 3 1 (dk_at dksX11_lays_1 13 rfl rfl)
theorem dX11_lays_40 : decode cX11_lays 40 = .ok (.goto (-38), 3) := dk_167 255 218 (dk_at dksX11_lays_1 16 rfl rfl)
theorem dX11_lays_43 : decode cX11_lays 43 = .ok (.return_, 1) := dk_177 (dk_at dksX11_lays_1 19 rfl rfl)
theorem dX11_thrown_0 : decode cX11_thrown 0 = .ok (.aload_n 0, 1) := by decide +kernel
theorem dX11_thrown_1 : decode cX11_thrown 1 = .ok (.getfield 103, 3) := by decide +kernel
theorem dX11_thrown_4 : decode cX11_thrown 4 = .ok (.ireturn, 1) := by decide +kernel
def dkwX11_feed_5 : List UInt8 := [167, 255, 162, 42, 180, 0, 106, 172]
abbrev dktX11_feed_5 : List UInt8 := dkwX11_feed_5 ++ []
def dkwX11_feed_4 : List UInt8 := [112, 104, 100, 122, 17, 0, 255, 126, 79, 42, 89, 180, 0, 106, 4, 96, 181, 0, 106, 132, 6, 1]
abbrev dktX11_feed_4 : List UInt8 := dkwX11_feed_4 ++ dktX11_feed_5
def dkwX11_feed_3 : List UInt8 := [167, 0, 5, 21, 5, 54, 7, 42, 180, 0, 13, 42, 180, 0, 106, 21, 7, 16, 24, 16, 8, 21, 6, 7]
abbrev dktX11_feed_3 : List UInt8 := dkwX11_feed_3 ++ dktX11_feed_4
def dkwX11_feed_2 : List UInt8 := [28, 167, 0, 28, 21, 6, 16, 12, 162, 0, 7, 29, 167, 0, 17, 21, 6, 16, 16, 162, 0, 8, 21, 4]
abbrev dktX11_feed_2 : List UInt8 := dkwX11_feed_2 ++ dktX11_feed_3
def dkwX11_feed_1 : List UInt8 := [21, 6, 16, 20, 162, 0, 93, 21, 6, 7, 162, 0, 7, 27, 167, 0, 39, 21, 6, 16, 8, 162, 0, 7]
abbrev dktX11_feed_1 : List UInt8 := dkwX11_feed_1 ++ dktX11_feed_2
def dkwX11_feed_0 : List UInt8 := [42, 3, 181, 0, 103, 42, 180, 0, 106, 16, 20, 96, 17, 2, 88, 164, 0, 5, 2, 172, 3, 54, 6]
abbrev dktX11_feed_0 : List UInt8 := dkwX11_feed_0 ++ dktX11_feed_1
theorem dksX11_feed_0 : cX11_feed.data.toList.drop 0 = dktX11_feed_0 := by decide +kernel
theorem dksX11_feed_1 : cX11_feed.data.toList.drop 23 = dktX11_feed_1 := dk_seg dksX11_feed_0 23 rfl rfl
theorem dksX11_feed_2 : cX11_feed.data.toList.drop 47 = dktX11_feed_2 := dk_seg dksX11_feed_1 24 rfl rfl
theorem dksX11_feed_3 : cX11_feed.data.toList.drop 71 = dktX11_feed_3 := dk_seg dksX11_feed_2 24 rfl rfl
theorem dksX11_feed_4 : cX11_feed.data.toList.drop 95 = dktX11_feed_4 := dk_seg dksX11_feed_3 24 rfl rfl
theorem dksX11_feed_5 : cX11_feed.data.toList.drop 117 = dktX11_feed_5 := dk_seg dksX11_feed_4 22 rfl rfl
theorem dX11_feed_0 : decode cX11_feed 0 = .ok (.aload_n 0, 1) := dk_42 (dk_at dksX11_feed_0 0 rfl rfl)
theorem dX11_feed_1 : decode cX11_feed 1 = .ok (.iconst 0, 1) := dk_3 (dk_at dksX11_feed_0 1 rfl rfl)
theorem dX11_feed_2 : decode cX11_feed 2 = .ok (.putfield 103, 3) := dk_181 0 103 (dk_at dksX11_feed_0 2 rfl rfl)
theorem dX11_feed_5 : decode cX11_feed 5 = .ok (.aload_n 0, 1) := dk_42 (dk_at dksX11_feed_0 5 rfl rfl)
theorem dX11_feed_6 : decode cX11_feed 6 = .ok (.getfield 106, 3) := dk_180 0 106 (dk_at dksX11_feed_0 6 rfl rfl)
theorem dX11_feed_9 : decode cX11_feed 9 = .ok (.bipush 20, 2) := dk_16 20 (dk_at dksX11_feed_0 9 rfl rfl)
theorem dX11_feed_11 : decode cX11_feed 11 = .ok (.iadd, 1) := dk_96 (dk_at dksX11_feed_0 11 rfl rfl)
theorem dX11_feed_12 : decode cX11_feed 12 = .ok (.sipush 600, 3) := dk_17 2 88 (dk_at dksX11_feed_0 12 rfl rfl)
theorem dX11_feed_15 : decode cX11_feed 15 = .ok (.if_icmp .le 5, 3) := dk_164 0 5 (dk_at dksX11_feed_0 15 rfl rfl)
theorem dX11_feed_18 : decode cX11_feed 18 = .ok (.iconst (-1), 1) := dk_2 (dk_at dksX11_feed_0 18 rfl rfl)
theorem dX11_feed_19 : decode cX11_feed 19 = .ok (.ireturn, 1) := dk_172 (dk_at dksX11_feed_0 19 rfl rfl)
theorem dX11_feed_20 : decode cX11_feed 20 = .ok (.iconst 0, 1) := dk_3 (dk_at dksX11_feed_0 20 rfl rfl)
theorem dX11_feed_21 : decode cX11_feed 21 = .ok (.istore 6, 2) := dk_54 6 (dk_at dksX11_feed_0 21 rfl rfl)
theorem dX11_feed_23 : decode cX11_feed 23 = .ok (.iload 6, 2) := dk_21 6 (dk_at dksX11_feed_1 0 rfl rfl)
theorem dX11_feed_25 : decode cX11_feed 25 = .ok (.bipush 20, 2) := dk_16 20 (dk_at dksX11_feed_1 2 rfl rfl)
theorem dX11_feed_27 : decode cX11_feed 27 = .ok (.if_icmp .ge 93, 3) := dk_162 0 93 (dk_at dksX11_feed_1 4 rfl rfl)
theorem dX11_feed_30 : decode cX11_feed 30 = .ok (.iload 6, 2) := dk_21 6 (dk_at dksX11_feed_1 7 rfl rfl)
theorem dX11_feed_32 : decode cX11_feed 32 = .ok (.iconst 4, 1) := dk_7 (dk_at dksX11_feed_1 9 rfl rfl)
theorem dX11_feed_33 : decode cX11_feed 33 = .ok (.if_icmp .ge 7, 3) := dk_162 0 7 (dk_at dksX11_feed_1 10 rfl rfl)
theorem dX11_feed_36 : decode cX11_feed 36 = .ok (.iload_n 1, 1) := dk_27 (dk_at dksX11_feed_1 13 rfl rfl)
theorem dX11_feed_37 : decode cX11_feed 37 = .ok (.goto 39, 3) := dk_167 0 39 (dk_at dksX11_feed_1 14 rfl rfl)
theorem dX11_feed_40 : decode cX11_feed 40 = .ok (.iload 6, 2) := dk_21 6 (dk_at dksX11_feed_1 17 rfl rfl)
theorem dX11_feed_42 : decode cX11_feed 42 = .ok (.bipush 8, 2) := dk_16 8 (dk_at dksX11_feed_1 19 rfl rfl)
theorem dX11_feed_44 : decode cX11_feed 44 = .ok (.if_icmp .ge 7, 3) := dk_162 0 7 (dk_at dksX11_feed_1 21 rfl rfl)
theorem dX11_feed_47 : decode cX11_feed 47 = .ok (.iload_n 2, 1) := dk_28 (dk_at dksX11_feed_2 0 rfl rfl)
theorem dX11_feed_48 : decode cX11_feed 48 = .ok (.goto 28, 3) := dk_167 0 28 (dk_at dksX11_feed_2 1 rfl rfl)
theorem dX11_feed_51 : decode cX11_feed 51 = .ok (.iload 6, 2) := dk_21 6 (dk_at dksX11_feed_2 4 rfl rfl)
theorem dX11_feed_53 : decode cX11_feed 53 = .ok (.bipush 12, 2) := dk_16 12 (dk_at dksX11_feed_2 6 rfl rfl)
theorem dX11_feed_55 : decode cX11_feed 55 = .ok (.if_icmp .ge 7, 3) := dk_162 0 7 (dk_at dksX11_feed_2 8 rfl rfl)
theorem dX11_feed_58 : decode cX11_feed 58 = .ok (.iload_n 3, 1) := dk_29 (dk_at dksX11_feed_2 11 rfl rfl)
theorem dX11_feed_59 : decode cX11_feed 59 = .ok (.goto 17, 3) := dk_167 0 17 (dk_at dksX11_feed_2 12 rfl rfl)
theorem dX11_feed_62 : decode cX11_feed 62 = .ok (.iload 6, 2) := dk_21 6 (dk_at dksX11_feed_2 15 rfl rfl)
theorem dX11_feed_64 : decode cX11_feed 64 = .ok (.bipush 16, 2) := dk_16 16 (dk_at dksX11_feed_2 17 rfl rfl)
theorem dX11_feed_66 : decode cX11_feed 66 = .ok (.if_icmp .ge 8, 3) := dk_162 0 8 (dk_at dksX11_feed_2 19 rfl rfl)
theorem dX11_feed_69 : decode cX11_feed 69 = .ok (.iload 4, 2) := dk_21 4 (dk_at dksX11_feed_2 22 rfl rfl)
theorem dX11_feed_71 : decode cX11_feed 71 = .ok (.goto 5, 3) := dk_167 0 5 (dk_at dksX11_feed_3 0 rfl rfl)
theorem dX11_feed_74 : decode cX11_feed 74 = .ok (.iload 5, 2) := dk_21 5 (dk_at dksX11_feed_3 3 rfl rfl)
theorem dX11_feed_76 : decode cX11_feed 76 = .ok (.istore 7, 2) := dk_54 7 (dk_at dksX11_feed_3 5 rfl rfl)
theorem dX11_feed_78 : decode cX11_feed 78 = .ok (.aload_n 0, 1) := dk_42 (dk_at dksX11_feed_3 7 rfl rfl)
theorem dX11_feed_79 : decode cX11_feed 79 = .ok (.getfield 13, 3) := dk_180 0 13 (dk_at dksX11_feed_3 8 rfl rfl)
theorem dX11_feed_82 : decode cX11_feed 82 = .ok (.aload_n 0, 1) := dk_42 (dk_at dksX11_feed_3 11 rfl rfl)
theorem dX11_feed_83 : decode cX11_feed 83 = .ok (.getfield 106, 3) := dk_180 0 106 (dk_at dksX11_feed_3 12 rfl rfl)
theorem dX11_feed_86 : decode cX11_feed 86 = .ok (.iload 7, 2) := dk_21 7 (dk_at dksX11_feed_3 15 rfl rfl)
theorem dX11_feed_88 : decode cX11_feed 88 = .ok (.bipush 24, 2) := dk_16 24 (dk_at dksX11_feed_3 17 rfl rfl)
theorem dX11_feed_90 : decode cX11_feed 90 = .ok (.bipush 8, 2) := dk_16 8 (dk_at dksX11_feed_3 19 rfl rfl)
theorem dX11_feed_92 : decode cX11_feed 92 = .ok (.iload 6, 2) := dk_21 6 (dk_at dksX11_feed_3 21 rfl rfl)
theorem dX11_feed_94 : decode cX11_feed 94 = .ok (.iconst 4, 1) := dk_7 (dk_at dksX11_feed_3 23 rfl rfl)
theorem dX11_feed_95 : decode cX11_feed 95 = .ok (.irem, 1) := dk_112 (dk_at dksX11_feed_4 0 rfl rfl)
theorem dX11_feed_96 : decode cX11_feed 96 = .ok (.imul, 1) := dk_104 (dk_at dksX11_feed_4 1 rfl rfl)
theorem dX11_feed_97 : decode cX11_feed 97 = .ok (.isub, 1) := dk_100 (dk_at dksX11_feed_4 2 rfl rfl)
theorem dX11_feed_98 : decode cX11_feed 98 = .ok (.ishr, 1) := dk_122 (dk_at dksX11_feed_4 3 rfl rfl)
theorem dX11_feed_99 : decode cX11_feed 99 = .ok (.sipush 255, 3) := dk_17 0 255 (dk_at dksX11_feed_4 4 rfl rfl)
theorem dX11_feed_102 : decode cX11_feed 102 = .ok (.iand, 1) := dk_126 (dk_at dksX11_feed_4 7 rfl rfl)
theorem dX11_feed_103 : decode cX11_feed 103 = .ok (.iastore, 1) := dk_79 (dk_at dksX11_feed_4 8 rfl rfl)
theorem dX11_feed_104 : decode cX11_feed 104 = .ok (.aload_n 0, 1) := dk_42 (dk_at dksX11_feed_4 9 rfl rfl)
theorem dX11_feed_105 : decode cX11_feed 105 = .ok (.dup, 1) := dk_89 (dk_at dksX11_feed_4 10 rfl rfl)
theorem dX11_feed_106 : decode cX11_feed 106 = .ok (.getfield 106, 3) := dk_180 0 106 (dk_at dksX11_feed_4 11 rfl rfl)
theorem dX11_feed_109 : decode cX11_feed 109 = .ok (.iconst 1, 1) := dk_4 (dk_at dksX11_feed_4 14 rfl rfl)
theorem dX11_feed_110 : decode cX11_feed 110 = .ok (.iadd, 1) := dk_96 (dk_at dksX11_feed_4 15 rfl rfl)
theorem dX11_feed_111 : decode cX11_feed 111 = .ok (.putfield 106, 3) := dk_181 0 106 (dk_at dksX11_feed_4 16 rfl rfl)
theorem dX11_feed_114 : decode cX11_feed 114 = .ok (.iinc 6 1, 3) := dk_132 6 1 (dk_at dksX11_feed_4 19 rfl rfl)
theorem dX11_feed_117 : decode cX11_feed 117 = .ok (.goto (-94), 3) := dk_167 255 162 (dk_at dksX11_feed_5 0 rfl rfl)
theorem dX11_feed_120 : decode cX11_feed 120 = .ok (.aload_n 0, 1) := dk_42 (dk_at dksX11_feed_5 3 rfl rfl)
theorem dX11_feed_121 : decode cX11_feed 121 = .ok (.getfield 106, 3) := dk_180 0 106 (dk_at dksX11_feed_5 4 rfl rfl)
theorem dX11_feed_124 : decode cX11_feed 124 = .ok (.ireturn, 1) := dk_172 (dk_at dksX11_feed_5 7 rfl rfl)
def dkwX11_house_4 : List UInt8 := [42, 180, 0, 23, 4, 46, 172]
abbrev dktX11_house_4 : List UInt8 := dkwX11_house_4 ++ []
def dkwX11_house_3 : List UInt8 := [167, 255, 230, 42, 180, 0, 119, 153, 0, 8, 42, 182, 0, 193, 172, 42, 2, 181, 0, 9, 42, 182, 0, 100]
abbrev dktX11_house_3 : List UInt8 := dkwX11_house_3 ++ dktX11_house_4
def dkwX11_house_2 : List UInt8 := [154, 0, 25, 42, 180, 0, 112, 42, 180, 0, 109, 162, 0, 14, 42, 182, 0, 190, 42, 182, 0, 125]
abbrev dktX11_house_2 : List UInt8 := dkwX11_house_2 ++ dktX11_house_3
def dkwX11_house_1 : List UInt8 := [4, 182, 0, 183, 153, 0, 5, 3, 172, 42, 27, 182, 0, 187, 42, 182, 0, 97, 42, 180, 0, 119]
abbrev dktX11_house_1 : List UInt8 := dkwX11_house_1 ++ dktX11_house_2
def dkwX11_house_0 : List UInt8 := [42, 3, 181, 0, 103, 42, 27, 3, 42, 180, 0, 106, 184, 0, 137, 154, 0, 7, 4, 167, 0, 4, 3, 4]
abbrev dktX11_house_0 : List UInt8 := dkwX11_house_0 ++ dktX11_house_1
theorem dksX11_house_0 : cX11_house.data.toList.drop 0 = dktX11_house_0 := by decide +kernel
theorem dksX11_house_1 : cX11_house.data.toList.drop 24 = dktX11_house_1 := dk_seg dksX11_house_0 24 rfl rfl
theorem dksX11_house_2 : cX11_house.data.toList.drop 46 = dktX11_house_2 := dk_seg dksX11_house_1 22 rfl rfl
theorem dksX11_house_3 : cX11_house.data.toList.drop 68 = dktX11_house_3 := dk_seg dksX11_house_2 22 rfl rfl
theorem dksX11_house_4 : cX11_house.data.toList.drop 92 = dktX11_house_4 := dk_seg dksX11_house_3 24 rfl rfl
theorem dX11_house_0 : decode cX11_house 0 = .ok (.aload_n 0, 1) := dk_42 (dk_at dksX11_house_0 0 rfl rfl)
theorem dX11_house_1 : decode cX11_house 1 = .ok (.iconst 0, 1) := dk_3 (dk_at dksX11_house_0 1 rfl rfl)
theorem dX11_house_2 : decode cX11_house 2 = .ok (.putfield 103, 3) := dk_181 0 103 (dk_at dksX11_house_0 2 rfl rfl)
theorem dX11_house_5 : decode cX11_house 5 = .ok (.aload_n 0, 1) := dk_42 (dk_at dksX11_house_0 5 rfl rfl)
theorem dX11_house_6 : decode cX11_house 6 = .ok (.iload_n 1, 1) := dk_27 (dk_at dksX11_house_0 6 rfl rfl)
theorem dX11_house_7 : decode cX11_house 7 = .ok (.iconst 0, 1) := dk_3 (dk_at dksX11_house_0 7 rfl rfl)
theorem dX11_house_8 : decode cX11_house 8 = .ok (.aload_n 0, 1) := dk_42 (dk_at dksX11_house_0 8 rfl rfl)
theorem dX11_house_9 : decode cX11_house 9 = .ok (.getfield 106, 3) := dk_180 0 106 (dk_at dksX11_house_0 9 rfl rfl)
theorem dX11_house_12 : decode cX11_house 12 = .ok (.invokestatic 137, 3) := dk_184 0 137 (dk_at dksX11_house_0 12 rfl rfl)
theorem dX11_house_15 : decode cX11_house 15 = .ok (.ifCond .ne 7, 3) := dk_154 0 7 (dk_at dksX11_house_0 15 rfl rfl)
theorem dX11_house_18 : decode cX11_house 18 = .ok (.iconst 1, 1) := dk_4 (dk_at dksX11_house_0 18 rfl rfl)
theorem dX11_house_19 : decode cX11_house 19 = .ok (.goto 4, 3) := dk_167 0 4 (dk_at dksX11_house_0 19 rfl rfl)
theorem dX11_house_22 : decode cX11_house 22 = .ok (.iconst 0, 1) := dk_3 (dk_at dksX11_house_0 22 rfl rfl)
theorem dX11_house_23 : decode cX11_house 23 = .ok (.iconst 1, 1) := dk_4 (dk_at dksX11_house_0 23 rfl rfl)
theorem dX11_house_24 : decode cX11_house 24 = .ok (.iconst 1, 1) := dk_4 (dk_at dksX11_house_1 0 rfl rfl)
theorem dX11_house_25 : decode cX11_house 25 = .ok (.invokevirtual 183, 3) := dk_182 0 183 (dk_at dksX11_house_1 1 rfl rfl)
theorem dX11_house_28 : decode cX11_house 28 = .ok (.ifCond .eq 5, 3) := dk_153 0 5 (dk_at dksX11_house_1 4 rfl rfl)
theorem dX11_house_31 : decode cX11_house 31 = .ok (.iconst 0, 1) := dk_3 (dk_at dksX11_house_1 7 rfl rfl)
theorem dX11_house_32 : decode cX11_house 32 = .ok (.ireturn, 1) := dk_172 (dk_at dksX11_house_1 8 rfl rfl)
theorem dX11_house_33 : decode cX11_house 33 = .ok (.aload_n 0, 1) := dk_42 (dk_at dksX11_house_1 9 rfl rfl)
theorem dX11_house_34 : decode cX11_house 34 = .ok (.iload_n 1, 1) := dk_27 (dk_at dksX11_house_1 10 rfl rfl)
theorem dX11_house_35 : decode cX11_house 35 = .ok (.invokevirtual 187, 3) := dk_182 0 187 (dk_at dksX11_house_1 11 rfl rfl)
theorem dX11_house_38 : decode cX11_house 38 = .ok (.aload_n 0, 1) := dk_42 (dk_at dksX11_house_1 14 rfl rfl)
theorem dX11_house_39 : decode cX11_house 39 = .ok (.invokevirtual 97, 3) := dk_182 0 97 (dk_at dksX11_house_1 15 rfl rfl)
theorem dX11_house_42 : decode cX11_house 42 = .ok (.aload_n 0, 1) := dk_42 (dk_at dksX11_house_1 18 rfl rfl)
theorem dX11_house_43 : decode cX11_house 43 = .ok (.getfield 119, 3) := dk_180 0 119 (dk_at dksX11_house_1 19 rfl rfl)
theorem dX11_house_46 : decode cX11_house 46 = .ok (.ifCond .ne 25, 3) := dk_154 0 25 (dk_at dksX11_house_2 0 rfl rfl)
theorem dX11_house_49 : decode cX11_house 49 = .ok (.aload_n 0, 1) := dk_42 (dk_at dksX11_house_2 3 rfl rfl)
theorem dX11_house_50 : decode cX11_house 50 = .ok (.getfield 112, 3) := dk_180 0 112 (dk_at dksX11_house_2 4 rfl rfl)
theorem dX11_house_53 : decode cX11_house 53 = .ok (.aload_n 0, 1) := dk_42 (dk_at dksX11_house_2 7 rfl rfl)
theorem dX11_house_54 : decode cX11_house 54 = .ok (.getfield 109, 3) := dk_180 0 109 (dk_at dksX11_house_2 8 rfl rfl)
theorem dX11_house_57 : decode cX11_house 57 = .ok (.if_icmp .ge 14, 3) := dk_162 0 14 (dk_at dksX11_house_2 11 rfl rfl)
theorem dX11_house_60 : decode cX11_house 60 = .ok (.aload_n 0, 1) := dk_42 (dk_at dksX11_house_2 14 rfl rfl)
theorem dX11_house_61 : decode cX11_house 61 = .ok (.invokevirtual 190, 3) := dk_182 0 190 (dk_at dksX11_house_2 15 rfl rfl)
theorem dX11_house_64 : decode cX11_house 64 = .ok (.aload_n 0, 1) := dk_42 (dk_at dksX11_house_2 18 rfl rfl)
theorem dX11_house_65 : decode cX11_house 65 = .ok (.invokevirtual 125, 3) := dk_182 0 125 (dk_at dksX11_house_2 19 rfl rfl)
theorem dX11_house_68 : decode cX11_house 68 = .ok (.goto (-26), 3) := dk_167 255 230 (dk_at dksX11_house_3 0 rfl rfl)
theorem dX11_house_71 : decode cX11_house 71 = .ok (.aload_n 0, 1) := dk_42 (dk_at dksX11_house_3 3 rfl rfl)
theorem dX11_house_72 : decode cX11_house 72 = .ok (.getfield 119, 3) := dk_180 0 119 (dk_at dksX11_house_3 4 rfl rfl)
theorem dX11_house_75 : decode cX11_house 75 = .ok (.ifCond .eq 8, 3) := dk_153 0 8 (dk_at dksX11_house_3 7 rfl rfl)
theorem dX11_house_78 : decode cX11_house 78 = .ok (.aload_n 0, 1) := dk_42 (dk_at dksX11_house_3 10 rfl rfl)
theorem dX11_house_79 : decode cX11_house 79 = .ok (.invokevirtual 193, 3) := dk_182 0 193 (dk_at dksX11_house_3 11 rfl rfl)
theorem dX11_house_82 : decode cX11_house 82 = .ok (.ireturn, 1) := dk_172 (dk_at dksX11_house_3 14 rfl rfl)
theorem dX11_house_83 : decode cX11_house 83 = .ok (.aload_n 0, 1) := dk_42 (dk_at dksX11_house_3 15 rfl rfl)
theorem dX11_house_84 : decode cX11_house 84 = .ok (.iconst (-1), 1) := dk_2 (dk_at dksX11_house_3 16 rfl rfl)
theorem dX11_house_85 : decode cX11_house 85 = .ok (.putfield 9, 3) := dk_181 0 9 (dk_at dksX11_house_3 17 rfl rfl)
theorem dX11_house_88 : decode cX11_house 88 = .ok (.aload_n 0, 1) := dk_42 (dk_at dksX11_house_3 20 rfl rfl)
theorem dX11_house_89 : decode cX11_house 89 = .ok (.invokevirtual 100, 3) := dk_182 0 100 (dk_at dksX11_house_3 21 rfl rfl)
theorem dX11_house_92 : decode cX11_house 92 = .ok (.aload_n 0, 1) := dk_42 (dk_at dksX11_house_4 0 rfl rfl)
theorem dX11_house_93 : decode cX11_house 93 = .ok (.getfield 23, 3) := dk_180 0 23 (dk_at dksX11_house_4 1 rfl rfl)
theorem dX11_house_96 : decode cX11_house 96 = .ok (.iconst 1, 1) := dk_4 (dk_at dksX11_house_4 4 rfl rfl)
theorem dX11_house_97 : decode cX11_house 97 = .ok (.iaload, 1) := dk_46 (dk_at dksX11_house_4 5 rfl rfl)
theorem dX11_house_98 : decode cX11_house 98 = .ok (.ireturn, 1) := dk_172 (dk_at dksX11_house_4 6 rfl rfl)
def dkwX11_in_0 : List UInt8 := [26, 27, 161, 0, 12, 26, 28, 163, 0, 7, 4, 167, 0, 4, 3, 172]
abbrev dktX11_in_0 : List UInt8 := dkwX11_in_0 ++ []
theorem dksX11_in_0 : cX11_in.data.toList.drop 0 = dktX11_in_0 := by decide +kernel
theorem dX11_in_0 : decode cX11_in 0 = .ok (.iload_n 0, 1) := dk_26 (dk_at dksX11_in_0 0 rfl rfl)
theorem dX11_in_1 : decode cX11_in 1 = .ok (.iload_n 1, 1) := dk_27 (dk_at dksX11_in_0 1 rfl rfl)
theorem dX11_in_2 : decode cX11_in 2 = .ok (.if_icmp .lt 12, 3) := dk_161 0 12 (dk_at dksX11_in_0 2 rfl rfl)
theorem dX11_in_5 : decode cX11_in 5 = .ok (.iload_n 0, 1) := dk_26 (dk_at dksX11_in_0 5 rfl rfl)
theorem dX11_in_6 : decode cX11_in 6 = .ok (.iload_n 2, 1) := dk_28 (dk_at dksX11_in_0 6 rfl rfl)
theorem dX11_in_7 : decode cX11_in 7 = .ok (.if_icmp .gt 7, 3) := dk_163 0 7 (dk_at dksX11_in_0 7 rfl rfl)
theorem dX11_in_10 : decode cX11_in 10 = .ok (.iconst 1, 1) := dk_4 (dk_at dksX11_in_0 10 rfl rfl)
theorem dX11_in_11 : decode cX11_in 11 = .ok (.goto 4, 3) := dk_167 0 4 (dk_at dksX11_in_0 11 rfl rfl)
theorem dX11_in_14 : decode cX11_in 14 = .ok (.iconst 0, 1) := dk_3 (dk_at dksX11_in_0 14 rfl rfl)
theorem dX11_in_15 : decode cX11_in 15 = .ok (.ireturn, 1) := dk_172 (dk_at dksX11_in_0 15 rfl rfl)
def dkwX11_bad_1 : List UInt8 := [96, 79, 42, 180, 0, 103, 153, 0, 7, 4, 167, 0, 4, 3, 172]
abbrev dktX11_bad_1 : List UInt8 := dkwX11_bad_1 ++ []
def dkwX11_bad_0 : List UInt8 := [27, 153, 0, 25, 42, 180, 0, 103, 154, 0, 18, 42, 28, 181, 0, 103, 42, 180, 0, 17, 29, 92, 46, 4]
abbrev dktX11_bad_0 : List UInt8 := dkwX11_bad_0 ++ dktX11_bad_1
theorem dksX11_bad_0 : cX11_bad.data.toList.drop 0 = dktX11_bad_0 := by decide +kernel
theorem dksX11_bad_1 : cX11_bad.data.toList.drop 24 = dktX11_bad_1 := dk_seg dksX11_bad_0 24 rfl rfl
theorem dX11_bad_0 : decode cX11_bad 0 = .ok (.iload_n 1, 1) := dk_27 (dk_at dksX11_bad_0 0 rfl rfl)
theorem dX11_bad_1 : decode cX11_bad 1 = .ok (.ifCond .eq 25, 3) := dk_153 0 25 (dk_at dksX11_bad_0 1 rfl rfl)
theorem dX11_bad_4 : decode cX11_bad 4 = .ok (.aload_n 0, 1) := dk_42 (dk_at dksX11_bad_0 4 rfl rfl)
theorem dX11_bad_5 : decode cX11_bad 5 = .ok (.getfield 103, 3) := dk_180 0 103 (dk_at dksX11_bad_0 5 rfl rfl)
theorem dX11_bad_8 : decode cX11_bad 8 = .ok (.ifCond .ne 18, 3) := dk_154 0 18 (dk_at dksX11_bad_0 8 rfl rfl)
theorem dX11_bad_11 : decode cX11_bad 11 = .ok (.aload_n 0, 1) := dk_42 (dk_at dksX11_bad_0 11 rfl rfl)
theorem dX11_bad_12 : decode cX11_bad 12 = .ok (.iload_n 2, 1) := dk_28 (dk_at dksX11_bad_0 12 rfl rfl)
theorem dX11_bad_13 : decode cX11_bad 13 = .ok (.putfield 103, 3) := dk_181 0 103 (dk_at dksX11_bad_0 13 rfl rfl)
theorem dX11_bad_16 : decode cX11_bad 16 = .ok (.aload_n 0, 1) := dk_42 (dk_at dksX11_bad_0 16 rfl rfl)
theorem dX11_bad_17 : decode cX11_bad 17 = .ok (.getfield 17, 3) := dk_180 0 17 (dk_at dksX11_bad_0 17 rfl rfl)
theorem dX11_bad_20 : decode cX11_bad 20 = .ok (.iload_n 3, 1) := dk_29 (dk_at dksX11_bad_0 20 rfl rfl)
theorem dX11_bad_21 : decode cX11_bad 21 = .ok (.dup2, 1) := dk_92 (dk_at dksX11_bad_0 21 rfl rfl)
theorem dX11_bad_22 : decode cX11_bad 22 = .ok (.iaload, 1) := dk_46 (dk_at dksX11_bad_0 22 rfl rfl)
theorem dX11_bad_23 : decode cX11_bad 23 = .ok (.iconst 1, 1) := dk_4 (dk_at dksX11_bad_0 23 rfl rfl)
theorem dX11_bad_24 : decode cX11_bad 24 = .ok (.iadd, 1) := dk_96 (dk_at dksX11_bad_1 0 rfl rfl)
theorem dX11_bad_25 : decode cX11_bad 25 = .ok (.iastore, 1) := dk_79 (dk_at dksX11_bad_1 1 rfl rfl)
theorem dX11_bad_26 : decode cX11_bad 26 = .ok (.aload_n 0, 1) := dk_42 (dk_at dksX11_bad_1 2 rfl rfl)
theorem dX11_bad_27 : decode cX11_bad 27 = .ok (.getfield 103, 3) := dk_180 0 103 (dk_at dksX11_bad_1 3 rfl rfl)
theorem dX11_bad_30 : decode cX11_bad 30 = .ok (.ifCond .eq 7, 3) := dk_153 0 7 (dk_at dksX11_bad_1 6 rfl rfl)
theorem dX11_bad_33 : decode cX11_bad 33 = .ok (.iconst 1, 1) := dk_4 (dk_at dksX11_bad_1 9 rfl rfl)
theorem dX11_bad_34 : decode cX11_bad 34 = .ok (.goto 4, 3) := dk_167 0 4 (dk_at dksX11_bad_1 10 rfl rfl)
theorem dX11_bad_37 : decode cX11_bad 37 = .ok (.iconst 0, 1) := dk_3 (dk_at dksX11_bad_1 13 rfl rfl)
theorem dX11_bad_38 : decode cX11_bad 38 = .ok (.ireturn, 1) := dk_172 (dk_at dksX11_bad_1 14 rfl rfl)
def dkwX11_starts_1 : List UInt8 := [181, 0, 122, 42, 3, 181, 0, 159, 42, 3, 181, 0, 162, 42, 182, 0, 125, 177]
abbrev dktX11_starts_1 : List UInt8 := dkwX11_starts_1 ++ []
def dkwX11_starts_0 : List UInt8 := [42, 3, 181, 0, 106, 42, 27, 181, 0, 109, 42, 3, 181, 0, 112, 42, 3, 181, 0, 119, 42, 2]
abbrev dktX11_starts_0 : List UInt8 := dkwX11_starts_0 ++ dktX11_starts_1
theorem dksX11_starts_0 : cX11_starts.data.toList.drop 0 = dktX11_starts_0 := by decide +kernel
theorem dksX11_starts_1 : cX11_starts.data.toList.drop 22 = dktX11_starts_1 := dk_seg dksX11_starts_0 22 rfl rfl
theorem dX11_starts_0 : decode cX11_starts 0 = .ok (.aload_n 0, 1) := dk_42 (dk_at dksX11_starts_0 0 rfl rfl)
theorem dX11_starts_1 : decode cX11_starts 1 = .ok (.iconst 0, 1) := dk_3 (dk_at dksX11_starts_0 1 rfl rfl)
theorem dX11_starts_2 : decode cX11_starts 2 = .ok (.putfield 106, 3) := dk_181 0 106 (dk_at dksX11_starts_0 2 rfl rfl)
theorem dX11_starts_5 : decode cX11_starts 5 = .ok (.aload_n 0, 1) := dk_42 (dk_at dksX11_starts_0 5 rfl rfl)
theorem dX11_starts_6 : decode cX11_starts 6 = .ok (.iload_n 1, 1) := dk_27 (dk_at dksX11_starts_0 6 rfl rfl)
theorem dX11_starts_7 : decode cX11_starts 7 = .ok (.putfield 109, 3) := dk_181 0 109 (dk_at dksX11_starts_0 7 rfl rfl)
theorem dX11_starts_10 : decode cX11_starts 10 = .ok (.aload_n 0, 1) := dk_42 (dk_at dksX11_starts_0 10 rfl rfl)
theorem dX11_starts_11 : decode cX11_starts 11 = .ok (.iconst 0, 1) := dk_3 (dk_at dksX11_starts_0 11 rfl rfl)
theorem dX11_starts_12 : decode cX11_starts 12 = .ok (.putfield 112, 3) := dk_181 0 112 (dk_at dksX11_starts_0 12 rfl rfl)
theorem dX11_starts_15 : decode cX11_starts 15 = .ok (.aload_n 0, 1) := dk_42 (dk_at dksX11_starts_0 15 rfl rfl)
theorem dX11_starts_16 : decode cX11_starts 16 = .ok (.iconst 0, 1) := dk_3 (dk_at dksX11_starts_0 16 rfl rfl)
theorem dX11_starts_17 : decode cX11_starts 17 = .ok (.putfield 119, 3) := dk_181 0 119 (dk_at dksX11_starts_0 17 rfl rfl)
theorem dX11_starts_20 : decode cX11_starts 20 = .ok (.aload_n 0, 1) := dk_42 (dk_at dksX11_starts_0 20 rfl rfl)
theorem dX11_starts_21 : decode cX11_starts 21 = .ok (.iconst (-1), 1) := dk_2 (dk_at dksX11_starts_0 21 rfl rfl)
theorem dX11_starts_22 : decode cX11_starts 22 = .ok (.putfield 122, 3) := dk_181 0 122 (dk_at dksX11_starts_1 0 rfl rfl)
theorem dX11_starts_25 : decode cX11_starts 25 = .ok (.aload_n 0, 1) := dk_42 (dk_at dksX11_starts_1 3 rfl rfl)
theorem dX11_starts_26 : decode cX11_starts 26 = .ok (.iconst 0, 1) := dk_3 (dk_at dksX11_starts_1 4 rfl rfl)
theorem dX11_starts_27 : decode cX11_starts 27 = .ok (.putfield 159, 3) := dk_181 0 159 (dk_at dksX11_starts_1 5 rfl rfl)
theorem dX11_starts_30 : decode cX11_starts 30 = .ok (.aload_n 0, 1) := dk_42 (dk_at dksX11_starts_1 8 rfl rfl)
theorem dX11_starts_31 : decode cX11_starts 31 = .ok (.iconst 0, 1) := dk_3 (dk_at dksX11_starts_1 9 rfl rfl)
theorem dX11_starts_32 : decode cX11_starts 32 = .ok (.putfield 162, 3) := dk_181 0 162 (dk_at dksX11_starts_1 10 rfl rfl)
theorem dX11_starts_35 : decode cX11_starts 35 = .ok (.aload_n 0, 1) := dk_42 (dk_at dksX11_starts_1 13 rfl rfl)
theorem dX11_starts_36 : decode cX11_starts 36 = .ok (.invokevirtual 125, 3) := dk_182 0 125 (dk_at dksX11_starts_1 14 rfl rfl)
theorem dX11_starts_39 : decode cX11_starts 39 = .ok (.return_, 1) := dk_177 (dk_at dksX11_starts_1 17 rfl rfl)
def dkwX11_blanks_1 : List UInt8 := [167, 255, 233, 177]
abbrev dktX11_blanks_1 : List UInt8 := dkwX11_blanks_1 ++ []
def dkwX11_blanks_0 : List UInt8 := [42, 42, 180, 0, 112, 182, 0, 115, 16, 32, 160, 0, 16, 42, 89, 180, 0, 112, 4, 96, 181, 0, 112]
abbrev dktX11_blanks_0 : List UInt8 := dkwX11_blanks_0 ++ dktX11_blanks_1
theorem dksX11_blanks_0 : cX11_blanks.data.toList.drop 0 = dktX11_blanks_0 := by decide +kernel
theorem dksX11_blanks_1 : cX11_blanks.data.toList.drop 23 = dktX11_blanks_1 := dk_seg dksX11_blanks_0 23 rfl rfl
theorem dX11_blanks_0 : decode cX11_blanks 0 = .ok (.aload_n 0, 1) := dk_42 (dk_at dksX11_blanks_0 0 rfl rfl)
theorem dX11_blanks_1 : decode cX11_blanks 1 = .ok (.aload_n 0, 1) := dk_42 (dk_at dksX11_blanks_0 1 rfl rfl)
theorem dX11_blanks_2 : decode cX11_blanks 2 = .ok (.getfield 112, 3) := dk_180 0 112 (dk_at dksX11_blanks_0 2 rfl rfl)
theorem dX11_blanks_5 : decode cX11_blanks 5 = .ok (.invokevirtual 115, 3) := dk_182 0 115 (dk_at dksX11_blanks_0 5 rfl rfl)
theorem dX11_blanks_8 : decode cX11_blanks 8 = .ok (.bipush 32, 2) := dk_16 32 (dk_at dksX11_blanks_0 8 rfl rfl)
theorem dX11_blanks_10 : decode cX11_blanks 10 = .ok (.if_icmp .ne 16, 3) := dk_160 0 16 (dk_at dksX11_blanks_0 10 rfl rfl)
theorem dX11_blanks_13 : decode cX11_blanks 13 = .ok (.aload_n 0, 1) := dk_42 (dk_at dksX11_blanks_0 13 rfl rfl)
theorem dX11_blanks_14 : decode cX11_blanks 14 = .ok (.dup, 1) := dk_89 (dk_at dksX11_blanks_0 14 rfl rfl)
theorem dX11_blanks_15 : decode cX11_blanks 15 = .ok (.getfield 112, 3) := dk_180 0 112 (dk_at dksX11_blanks_0 15 rfl rfl)
theorem dX11_blanks_18 : decode cX11_blanks 18 = .ok (.iconst 1, 1) := dk_4 (dk_at dksX11_blanks_0 18 rfl rfl)
theorem dX11_blanks_19 : decode cX11_blanks 19 = .ok (.iadd, 1) := dk_96 (dk_at dksX11_blanks_0 19 rfl rfl)
theorem dX11_blanks_20 : decode cX11_blanks 20 = .ok (.putfield 112, 3) := dk_181 0 112 (dk_at dksX11_blanks_0 20 rfl rfl)
theorem dX11_blanks_23 : decode cX11_blanks 23 = .ok (.goto (-23), 3) := dk_167 255 233 (dk_at dksX11_blanks_1 0 rfl rfl)
theorem dX11_blanks_26 : decode cX11_blanks 26 = .ok (.return_, 1) := dk_177 (dk_at dksX11_blanks_1 3 rfl rfl)
def dkwX11_byteAt_0 : List UInt8 := [27, 42, 180, 0, 109, 161, 0, 7, 2, 167, 0, 9, 42, 180, 0, 13, 27, 46, 172]
abbrev dktX11_byteAt_0 : List UInt8 := dkwX11_byteAt_0 ++ []
theorem dksX11_byteAt_0 : cX11_byteAt.data.toList.drop 0 = dktX11_byteAt_0 := by decide +kernel
theorem dX11_byteAt_0 : decode cX11_byteAt 0 = .ok (.iload_n 1, 1) := dk_27 (dk_at dksX11_byteAt_0 0 rfl rfl)
theorem dX11_byteAt_1 : decode cX11_byteAt 1 = .ok (.aload_n 0, 1) := dk_42 (dk_at dksX11_byteAt_0 1 rfl rfl)
theorem dX11_byteAt_2 : decode cX11_byteAt 2 = .ok (.getfield 109, 3) := dk_180 0 109 (dk_at dksX11_byteAt_0 2 rfl rfl)
theorem dX11_byteAt_5 : decode cX11_byteAt 5 = .ok (.if_icmp .lt 7, 3) := dk_161 0 7 (dk_at dksX11_byteAt_0 5 rfl rfl)
theorem dX11_byteAt_8 : decode cX11_byteAt 8 = .ok (.iconst (-1), 1) := dk_2 (dk_at dksX11_byteAt_0 8 rfl rfl)
theorem dX11_byteAt_9 : decode cX11_byteAt 9 = .ok (.goto 9, 3) := dk_167 0 9 (dk_at dksX11_byteAt_0 9 rfl rfl)
theorem dX11_byteAt_12 : decode cX11_byteAt 12 = .ok (.aload_n 0, 1) := dk_42 (dk_at dksX11_byteAt_0 12 rfl rfl)
theorem dX11_byteAt_13 : decode cX11_byteAt 13 = .ok (.getfield 13, 3) := dk_180 0 13 (dk_at dksX11_byteAt_0 13 rfl rfl)
theorem dX11_byteAt_16 : decode cX11_byteAt 16 = .ok (.iload_n 1, 1) := dk_27 (dk_at dksX11_byteAt_0 16 rfl rfl)
theorem dX11_byteAt_17 : decode cX11_byteAt 17 = .ok (.iaload, 1) := dk_46 (dk_at dksX11_byteAt_0 17 rfl rfl)
theorem dX11_byteAt_18 : decode cX11_byteAt 18 = .ok (.ireturn, 1) := dk_172 (dk_at dksX11_byteAt_0 18 rfl rfl)
def dkwX11_clause_13 : List UInt8 := [154, 0, 7, 4, 167, 0, 4, 3, 96, 79, 42, 16, 59, 182, 0, 179, 177]
abbrev dktX11_clause_13 : List UInt8 := dkwX11_clause_13 ++ []
def dkwX11_clause_12 : List UInt8 := [21, 4, 79, 167, 0, 3, 27, 6, 162, 0, 24, 42, 180, 0, 20, 27, 92, 46, 42, 180, 0, 119]
abbrev dktX11_clause_12 : List UInt8 := dkwX11_clause_12 ++ dktX11_clause_13
def dkwX11_clause_11 : List UInt8 := [180, 0, 20, 3, 46, 4, 100, 182, 0, 175, 54, 4, 42, 180, 0, 119, 154, 0, 14, 42, 180, 0, 32, 29]
abbrev dktX11_clause_11 : List UInt8 := dkwX11_clause_11 ++ dktX11_clause_12
def dkwX11_clause_10 : List UInt8 := [182, 0, 175, 79, 167, 0, 50, 42, 3, 42, 180, 0, 20, 3, 46, 4, 100, 182, 0, 175, 62, 42, 3, 42]
abbrev dktX11_clause_10 : List UInt8 := dkwX11_clause_10 ++ dktX11_clause_11
def dkwX11_clause_9 : List UInt8 := [180, 0, 46, 28, 50, 3, 42, 3, 8, 182, 0, 175, 79, 42, 180, 0, 46, 28, 50, 4, 42, 4, 16, 99]
abbrev dktX11_clause_9 : List UInt8 := dkwX11_clause_9 ++ dktX11_clause_10
def dkwX11_clause_8 : List UInt8 := [182, 0, 175, 79, 42, 180, 0, 40, 28, 50, 5, 42, 4, 16, 30, 182, 0, 175, 79, 167, 0, 82, 42]
abbrev dktX11_clause_8 : List UInt8 := dkwX11_clause_8 ++ dktX11_clause_9
def dkwX11_clause_7 : List UInt8 := [3, 42, 180, 0, 20, 3, 46, 4, 100, 182, 0, 175, 79, 42, 180, 0, 40, 28, 50, 4, 42, 3, 8]
abbrev dktX11_clause_7 : List UInt8 := dkwX11_clause_7 ++ dktX11_clause_8
def dkwX11_clause_6 : List UInt8 := [42, 180, 0, 26, 28, 42, 3, 16, 15, 182, 0, 175, 79, 167, 0, 135, 42, 180, 0, 40, 28, 50, 3, 42]
abbrev dktX11_clause_6 : List UInt8 := dkwX11_clause_6 ++ dktX11_clause_7
def dkwX11_clause_5 : List UInt8 := [170, 0, 0, 0, 0, 0, 128, 0, 0, 0, 0, 0, 0, 0, 2, 0, 0, 0, 27, 0, 0, 0, 43, 0, 0, 0, 96]
abbrev dktX11_clause_5 : List UInt8 := dkwX11_clause_5 ++ dktX11_clause_6
def dkwX11_clause_4 : List UInt8 := [3, 61, 27]
abbrev dktX11_clause_4 : List UInt8 := dkwX11_clause_4 ++ dktX11_clause_5
def dkwX11_clause_3 : List UInt8 := [42, 89, 180, 0, 159, 4, 96, 181, 0, 159, 27, 6, 162, 0, 12, 42, 180, 0, 20, 27, 46, 167, 0, 4]
abbrev dktX11_clause_3 : List UInt8 := dkwX11_clause_3 ++ dktX11_clause_4
def dkwX11_clause_2 : List UInt8 := [160, 0, 12, 42, 6, 42, 180, 0, 112, 182, 0, 132, 42, 180, 0, 119, 153, 0, 4, 177, 42, 182, 0, 156]
abbrev dktX11_clause_2 : List UInt8 := dkwX11_clause_2 ++ dktX11_clause_3
def dkwX11_clause_1 : List UInt8 := [180, 0, 159, 16, 60, 159, 0, 21, 27, 6, 162, 0, 25, 42, 180, 0, 20, 27, 46, 27, 184, 0, 172]
abbrev dktX11_clause_1 : List UInt8 := dkwX11_clause_1 ++ dktX11_clause_2
def dkwX11_clause_0 : List UInt8 := [42, 182, 0, 169, 60, 27, 2, 160, 0, 15, 42, 4, 42, 180, 0, 112, 182, 0, 132, 167, 0, 39, 42]
abbrev dktX11_clause_0 : List UInt8 := dkwX11_clause_0 ++ dktX11_clause_1
theorem dksX11_clause_0 : cX11_clause.data.toList.drop 0 = dktX11_clause_0 := by decide +kernel
theorem dksX11_clause_1 : cX11_clause.data.toList.drop 23 = dktX11_clause_1 := dk_seg dksX11_clause_0 23 rfl rfl
theorem dksX11_clause_2 : cX11_clause.data.toList.drop 46 = dktX11_clause_2 := dk_seg dksX11_clause_1 23 rfl rfl
theorem dksX11_clause_3 : cX11_clause.data.toList.drop 70 = dktX11_clause_3 := dk_seg dksX11_clause_2 24 rfl rfl
theorem dksX11_clause_4 : cX11_clause.data.toList.drop 94 = dktX11_clause_4 := dk_seg dksX11_clause_3 24 rfl rfl
theorem dksX11_clause_5 : cX11_clause.data.toList.drop 97 = dktX11_clause_5 := dk_seg dksX11_clause_4 3 rfl rfl
theorem dksX11_clause_6 : cX11_clause.data.toList.drop 124 = dktX11_clause_6 := dk_seg dksX11_clause_5 27 rfl rfl
theorem dksX11_clause_7 : cX11_clause.data.toList.drop 148 = dktX11_clause_7 := dk_seg dksX11_clause_6 24 rfl rfl
theorem dksX11_clause_8 : cX11_clause.data.toList.drop 171 = dktX11_clause_8 := dk_seg dksX11_clause_7 23 rfl rfl
theorem dksX11_clause_9 : cX11_clause.data.toList.drop 194 = dktX11_clause_9 := dk_seg dksX11_clause_8 23 rfl rfl
theorem dksX11_clause_10 : cX11_clause.data.toList.drop 218 = dktX11_clause_10 := dk_seg dksX11_clause_9 24 rfl rfl
theorem dksX11_clause_11 : cX11_clause.data.toList.drop 242 = dktX11_clause_11 := dk_seg dksX11_clause_10 24 rfl rfl
theorem dksX11_clause_12 : cX11_clause.data.toList.drop 266 = dktX11_clause_12 := dk_seg dksX11_clause_11 24 rfl rfl
theorem dksX11_clause_13 : cX11_clause.data.toList.drop 288 = dktX11_clause_13 := dk_seg dksX11_clause_12 22 rfl rfl
theorem dX11_clause_0 : decode cX11_clause 0 = .ok (.aload_n 0, 1) := dk_42 (dk_at dksX11_clause_0 0 rfl rfl)
theorem dX11_clause_1 : decode cX11_clause 1 = .ok (.invokevirtual 169, 3) := dk_182 0 169 (dk_at dksX11_clause_0 1 rfl rfl)
theorem dX11_clause_4 : decode cX11_clause 4 = .ok (.istore_n 1, 1) := dk_60 (dk_at dksX11_clause_0 4 rfl rfl)
theorem dX11_clause_5 : decode cX11_clause 5 = .ok (.iload_n 1, 1) := dk_27 (dk_at dksX11_clause_0 5 rfl rfl)
theorem dX11_clause_6 : decode cX11_clause 6 = .ok (.iconst (-1), 1) := dk_2 (dk_at dksX11_clause_0 6 rfl rfl)
theorem dX11_clause_7 : decode cX11_clause 7 = .ok (.if_icmp .ne 15, 3) := dk_160 0 15 (dk_at dksX11_clause_0 7 rfl rfl)
theorem dX11_clause_10 : decode cX11_clause 10 = .ok (.aload_n 0, 1) := dk_42 (dk_at dksX11_clause_0 10 rfl rfl)
theorem dX11_clause_11 : decode cX11_clause 11 = .ok (.iconst 1, 1) := dk_4 (dk_at dksX11_clause_0 11 rfl rfl)
theorem dX11_clause_12 : decode cX11_clause 12 = .ok (.aload_n 0, 1) := dk_42 (dk_at dksX11_clause_0 12 rfl rfl)
theorem dX11_clause_13 : decode cX11_clause 13 = .ok (.getfield 112, 3) := dk_180 0 112 (dk_at dksX11_clause_0 13 rfl rfl)
theorem dX11_clause_16 : decode cX11_clause 16 = .ok (.invokevirtual 132, 3) := dk_182 0 132 (dk_at dksX11_clause_0 16 rfl rfl)
theorem dX11_clause_19 : decode cX11_clause 19 = .ok (.goto 39, 3) := dk_167 0 39 (dk_at dksX11_clause_0 19 rfl rfl)
theorem dX11_clause_22 : decode cX11_clause 22 = .ok (.aload_n 0, 1) := dk_42 (dk_at dksX11_clause_0 22 rfl rfl)
theorem dX11_clause_23 : decode cX11_clause 23 = .ok (.getfield 159, 3) := dk_180 0 159 (dk_at dksX11_clause_1 0 rfl rfl)
theorem dX11_clause_26 : decode cX11_clause 26 = .ok (.bipush 60, 2) := dk_16 60 (dk_at dksX11_clause_1 3 rfl rfl)
theorem dX11_clause_28 : decode cX11_clause 28 = .ok (.if_icmp .eq 21, 3) := dk_159 0 21 (dk_at dksX11_clause_1 5 rfl rfl)
theorem dX11_clause_31 : decode cX11_clause 31 = .ok (.iload_n 1, 1) := dk_27 (dk_at dksX11_clause_1 8 rfl rfl)
theorem dX11_clause_32 : decode cX11_clause 32 = .ok (.iconst 3, 1) := dk_6 (dk_at dksX11_clause_1 9 rfl rfl)
theorem dX11_clause_33 : decode cX11_clause 33 = .ok (.if_icmp .ge 25, 3) := dk_162 0 25 (dk_at dksX11_clause_1 10 rfl rfl)
theorem dX11_clause_36 : decode cX11_clause 36 = .ok (.aload_n 0, 1) := dk_42 (dk_at dksX11_clause_1 13 rfl rfl)
theorem dX11_clause_37 : decode cX11_clause 37 = .ok (.getfield 20, 3) := dk_180 0 20 (dk_at dksX11_clause_1 14 rfl rfl)
theorem dX11_clause_40 : decode cX11_clause 40 = .ok (.iload_n 1, 1) := dk_27 (dk_at dksX11_clause_1 17 rfl rfl)
theorem dX11_clause_41 : decode cX11_clause 41 = .ok (.iaload, 1) := dk_46 (dk_at dksX11_clause_1 18 rfl rfl)
theorem dX11_clause_42 : decode cX11_clause 42 = .ok (.iload_n 1, 1) := dk_27 (dk_at dksX11_clause_1 19 rfl rfl)
theorem dX11_clause_43 : decode cX11_clause 43 = .ok (.invokestatic 172, 3) := dk_184 0 172 (dk_at dksX11_clause_1 20 rfl rfl)
theorem dX11_clause_46 : decode cX11_clause 46 = .ok (.if_icmp .ne 12, 3) := dk_160 0 12 (dk_at dksX11_clause_2 0 rfl rfl)
theorem dX11_clause_49 : decode cX11_clause 49 = .ok (.aload_n 0, 1) := dk_42 (dk_at dksX11_clause_2 3 rfl rfl)
theorem dX11_clause_50 : decode cX11_clause 50 = .ok (.iconst 3, 1) := dk_6 (dk_at dksX11_clause_2 4 rfl rfl)
theorem dX11_clause_51 : decode cX11_clause 51 = .ok (.aload_n 0, 1) := dk_42 (dk_at dksX11_clause_2 5 rfl rfl)
theorem dX11_clause_52 : decode cX11_clause 52 = .ok (.getfield 112, 3) := dk_180 0 112 (dk_at dksX11_clause_2 6 rfl rfl)
theorem dX11_clause_55 : decode cX11_clause 55 = .ok (.invokevirtual 132, 3) := dk_182 0 132 (dk_at dksX11_clause_2 9 rfl rfl)
theorem dX11_clause_58 : decode cX11_clause 58 = .ok (.aload_n 0, 1) := dk_42 (dk_at dksX11_clause_2 12 rfl rfl)
theorem dX11_clause_59 : decode cX11_clause 59 = .ok (.getfield 119, 3) := dk_180 0 119 (dk_at dksX11_clause_2 13 rfl rfl)
theorem dX11_clause_62 : decode cX11_clause 62 = .ok (.ifCond .eq 4, 3) := dk_153 0 4 (dk_at dksX11_clause_2 16 rfl rfl)
theorem dX11_clause_65 : decode cX11_clause 65 = .ok (.return_, 1) := dk_177 (dk_at dksX11_clause_2 19 rfl rfl)
theorem dX11_clause_66 : decode cX11_clause 66 = .ok (.aload_n 0, 1) := dk_42 (dk_at dksX11_clause_2 20 rfl rfl)
theorem dX11_clause_67 : decode cX11_clause 67 = .ok (.invokevirtual 156, 3) := dk_182 0 156 (dk_at dksX11_clause_2 21 rfl rfl)
theorem dX11_clause_70 : decode cX11_clause 70 = .ok (.aload_n 0, 1) := dk_42 (dk_at dksX11_clause_3 0 rfl rfl)
theorem dX11_clause_71 : decode cX11_clause 71 = .ok (.dup, 1) := dk_89 (dk_at dksX11_clause_3 1 rfl rfl)
theorem dX11_clause_72 : decode cX11_clause 72 = .ok (.getfield 159, 3) := dk_180 0 159 (dk_at dksX11_clause_3 2 rfl rfl)
theorem dX11_clause_75 : decode cX11_clause 75 = .ok (.iconst 1, 1) := dk_4 (dk_at dksX11_clause_3 5 rfl rfl)
theorem dX11_clause_76 : decode cX11_clause 76 = .ok (.iadd, 1) := dk_96 (dk_at dksX11_clause_3 6 rfl rfl)
theorem dX11_clause_77 : decode cX11_clause 77 = .ok (.putfield 159, 3) := dk_181 0 159 (dk_at dksX11_clause_3 7 rfl rfl)
theorem dX11_clause_80 : decode cX11_clause 80 = .ok (.iload_n 1, 1) := dk_27 (dk_at dksX11_clause_3 10 rfl rfl)
theorem dX11_clause_81 : decode cX11_clause 81 = .ok (.iconst 3, 1) := dk_6 (dk_at dksX11_clause_3 11 rfl rfl)
theorem dX11_clause_82 : decode cX11_clause 82 = .ok (.if_icmp .ge 12, 3) := dk_162 0 12 (dk_at dksX11_clause_3 12 rfl rfl)
theorem dX11_clause_85 : decode cX11_clause 85 = .ok (.aload_n 0, 1) := dk_42 (dk_at dksX11_clause_3 15 rfl rfl)
theorem dX11_clause_86 : decode cX11_clause 86 = .ok (.getfield 20, 3) := dk_180 0 20 (dk_at dksX11_clause_3 16 rfl rfl)
theorem dX11_clause_89 : decode cX11_clause 89 = .ok (.iload_n 1, 1) := dk_27 (dk_at dksX11_clause_3 19 rfl rfl)
theorem dX11_clause_90 : decode cX11_clause 90 = .ok (.iaload, 1) := dk_46 (dk_at dksX11_clause_3 20 rfl rfl)
theorem dX11_clause_91 : decode cX11_clause 91 = .ok (.goto 4, 3) := dk_167 0 4 (dk_at dksX11_clause_3 21 rfl rfl)
theorem dX11_clause_94 : decode cX11_clause 94 = .ok (.iconst 0, 1) := dk_3 (dk_at dksX11_clause_4 0 rfl rfl)
theorem dX11_clause_95 : decode cX11_clause 95 = .ok (.istore_n 2, 1) := dk_61 (dk_at dksX11_clause_4 1 rfl rfl)
theorem dX11_clause_96 : decode cX11_clause 96 = .ok (.iload_n 1, 1) := dk_27 (dk_at dksX11_clause_4 2 rfl rfl)
theorem dX11_clause_97 : decode cX11_clause 97 = .ok (.tableswitch 128 0 2 #[27, 43, 96], 27) := by decide +kernel
theorem dX11_clause_124 : decode cX11_clause 124 = .ok (.aload_n 0, 1) := dk_42 (dk_at dksX11_clause_6 0 rfl rfl)
theorem dX11_clause_125 : decode cX11_clause 125 = .ok (.getfield 26, 3) := dk_180 0 26 (dk_at dksX11_clause_6 1 rfl rfl)
theorem dX11_clause_128 : decode cX11_clause 128 = .ok (.iload_n 2, 1) := dk_28 (dk_at dksX11_clause_6 4 rfl rfl)
theorem dX11_clause_129 : decode cX11_clause 129 = .ok (.aload_n 0, 1) := dk_42 (dk_at dksX11_clause_6 5 rfl rfl)
theorem dX11_clause_130 : decode cX11_clause 130 = .ok (.iconst 0, 1) := dk_3 (dk_at dksX11_clause_6 6 rfl rfl)
theorem dX11_clause_131 : decode cX11_clause 131 = .ok (.bipush 15, 2) := dk_16 15 (dk_at dksX11_clause_6 7 rfl rfl)
theorem dX11_clause_133 : decode cX11_clause 133 = .ok (.invokevirtual 175, 3) := dk_182 0 175 (dk_at dksX11_clause_6 9 rfl rfl)
theorem dX11_clause_136 : decode cX11_clause 136 = .ok (.iastore, 1) := dk_79 (dk_at dksX11_clause_6 12 rfl rfl)
theorem dX11_clause_137 : decode cX11_clause 137 = .ok (.goto 135, 3) := dk_167 0 135 (dk_at dksX11_clause_6 13 rfl rfl)
theorem dX11_clause_140 : decode cX11_clause 140 = .ok (.aload_n 0, 1) := dk_42 (dk_at dksX11_clause_6 16 rfl rfl)
theorem dX11_clause_141 : decode cX11_clause 141 = .ok (.getfield 40, 3) := dk_180 0 40 (dk_at dksX11_clause_6 17 rfl rfl)
theorem dX11_clause_144 : decode cX11_clause 144 = .ok (.iload_n 2, 1) := dk_28 (dk_at dksX11_clause_6 20 rfl rfl)
theorem dX11_clause_145 : decode cX11_clause 145 = .ok (.aaload, 1) := dk_50 (dk_at dksX11_clause_6 21 rfl rfl)
theorem dX11_clause_146 : decode cX11_clause 146 = .ok (.iconst 0, 1) := dk_3 (dk_at dksX11_clause_6 22 rfl rfl)
theorem dX11_clause_147 : decode cX11_clause 147 = .ok (.aload_n 0, 1) := dk_42 (dk_at dksX11_clause_6 23 rfl rfl)
theorem dX11_clause_148 : decode cX11_clause 148 = .ok (.iconst 0, 1) := dk_3 (dk_at dksX11_clause_7 0 rfl rfl)
theorem dX11_clause_149 : decode cX11_clause 149 = .ok (.aload_n 0, 1) := dk_42 (dk_at dksX11_clause_7 1 rfl rfl)
theorem dX11_clause_150 : decode cX11_clause 150 = .ok (.getfield 20, 3) := dk_180 0 20 (dk_at dksX11_clause_7 2 rfl rfl)
theorem dX11_clause_153 : decode cX11_clause 153 = .ok (.iconst 0, 1) := dk_3 (dk_at dksX11_clause_7 5 rfl rfl)
theorem dX11_clause_154 : decode cX11_clause 154 = .ok (.iaload, 1) := dk_46 (dk_at dksX11_clause_7 6 rfl rfl)
theorem dX11_clause_155 : decode cX11_clause 155 = .ok (.iconst 1, 1) := dk_4 (dk_at dksX11_clause_7 7 rfl rfl)
theorem dX11_clause_156 : decode cX11_clause 156 = .ok (.isub, 1) := dk_100 (dk_at dksX11_clause_7 8 rfl rfl)
theorem dX11_clause_157 : decode cX11_clause 157 = .ok (.invokevirtual 175, 3) := dk_182 0 175 (dk_at dksX11_clause_7 9 rfl rfl)
theorem dX11_clause_160 : decode cX11_clause 160 = .ok (.iastore, 1) := dk_79 (dk_at dksX11_clause_7 12 rfl rfl)
theorem dX11_clause_161 : decode cX11_clause 161 = .ok (.aload_n 0, 1) := dk_42 (dk_at dksX11_clause_7 13 rfl rfl)
theorem dX11_clause_162 : decode cX11_clause 162 = .ok (.getfield 40, 3) := dk_180 0 40 (dk_at dksX11_clause_7 14 rfl rfl)
theorem dX11_clause_165 : decode cX11_clause 165 = .ok (.iload_n 2, 1) := dk_28 (dk_at dksX11_clause_7 17 rfl rfl)
theorem dX11_clause_166 : decode cX11_clause 166 = .ok (.aaload, 1) := dk_50 (dk_at dksX11_clause_7 18 rfl rfl)
theorem dX11_clause_167 : decode cX11_clause 167 = .ok (.iconst 1, 1) := dk_4 (dk_at dksX11_clause_7 19 rfl rfl)
theorem dX11_clause_168 : decode cX11_clause 168 = .ok (.aload_n 0, 1) := dk_42 (dk_at dksX11_clause_7 20 rfl rfl)
theorem dX11_clause_169 : decode cX11_clause 169 = .ok (.iconst 0, 1) := dk_3 (dk_at dksX11_clause_7 21 rfl rfl)
theorem dX11_clause_170 : decode cX11_clause 170 = .ok (.iconst 5, 1) := dk_8 (dk_at dksX11_clause_7 22 rfl rfl)
theorem dX11_clause_171 : decode cX11_clause 171 = .ok (.invokevirtual 175, 3) := dk_182 0 175 (dk_at dksX11_clause_8 0 rfl rfl)
theorem dX11_clause_174 : decode cX11_clause 174 = .ok (.iastore, 1) := dk_79 (dk_at dksX11_clause_8 3 rfl rfl)
theorem dX11_clause_175 : decode cX11_clause 175 = .ok (.aload_n 0, 1) := dk_42 (dk_at dksX11_clause_8 4 rfl rfl)
theorem dX11_clause_176 : decode cX11_clause 176 = .ok (.getfield 40, 3) := dk_180 0 40 (dk_at dksX11_clause_8 5 rfl rfl)
theorem dX11_clause_179 : decode cX11_clause 179 = .ok (.iload_n 2, 1) := dk_28 (dk_at dksX11_clause_8 8 rfl rfl)
theorem dX11_clause_180 : decode cX11_clause 180 = .ok (.aaload, 1) := dk_50 (dk_at dksX11_clause_8 9 rfl rfl)
theorem dX11_clause_181 : decode cX11_clause 181 = .ok (.iconst 2, 1) := dk_5 (dk_at dksX11_clause_8 10 rfl rfl)
theorem dX11_clause_182 : decode cX11_clause 182 = .ok (.aload_n 0, 1) := dk_42 (dk_at dksX11_clause_8 11 rfl rfl)
theorem dX11_clause_183 : decode cX11_clause 183 = .ok (.iconst 1, 1) := dk_4 (dk_at dksX11_clause_8 12 rfl rfl)
theorem dX11_clause_184 : decode cX11_clause 184 = .ok (.bipush 30, 2) := dk_16 30 (dk_at dksX11_clause_8 13 rfl rfl)
theorem dX11_clause_186 : decode cX11_clause 186 = .ok (.invokevirtual 175, 3) := dk_182 0 175 (dk_at dksX11_clause_8 15 rfl rfl)
theorem dX11_clause_189 : decode cX11_clause 189 = .ok (.iastore, 1) := dk_79 (dk_at dksX11_clause_8 18 rfl rfl)
theorem dX11_clause_190 : decode cX11_clause 190 = .ok (.goto 82, 3) := dk_167 0 82 (dk_at dksX11_clause_8 19 rfl rfl)
theorem dX11_clause_193 : decode cX11_clause 193 = .ok (.aload_n 0, 1) := dk_42 (dk_at dksX11_clause_8 22 rfl rfl)
theorem dX11_clause_194 : decode cX11_clause 194 = .ok (.getfield 46, 3) := dk_180 0 46 (dk_at dksX11_clause_9 0 rfl rfl)
theorem dX11_clause_197 : decode cX11_clause 197 = .ok (.iload_n 2, 1) := dk_28 (dk_at dksX11_clause_9 3 rfl rfl)
theorem dX11_clause_198 : decode cX11_clause 198 = .ok (.aaload, 1) := dk_50 (dk_at dksX11_clause_9 4 rfl rfl)
theorem dX11_clause_199 : decode cX11_clause 199 = .ok (.iconst 0, 1) := dk_3 (dk_at dksX11_clause_9 5 rfl rfl)
theorem dX11_clause_200 : decode cX11_clause 200 = .ok (.aload_n 0, 1) := dk_42 (dk_at dksX11_clause_9 6 rfl rfl)
theorem dX11_clause_201 : decode cX11_clause 201 = .ok (.iconst 0, 1) := dk_3 (dk_at dksX11_clause_9 7 rfl rfl)
theorem dX11_clause_202 : decode cX11_clause 202 = .ok (.iconst 5, 1) := dk_8 (dk_at dksX11_clause_9 8 rfl rfl)
theorem dX11_clause_203 : decode cX11_clause 203 = .ok (.invokevirtual 175, 3) := dk_182 0 175 (dk_at dksX11_clause_9 9 rfl rfl)
theorem dX11_clause_206 : decode cX11_clause 206 = .ok (.iastore, 1) := dk_79 (dk_at dksX11_clause_9 12 rfl rfl)
theorem dX11_clause_207 : decode cX11_clause 207 = .ok (.aload_n 0, 1) := dk_42 (dk_at dksX11_clause_9 13 rfl rfl)
theorem dX11_clause_208 : decode cX11_clause 208 = .ok (.getfield 46, 3) := dk_180 0 46 (dk_at dksX11_clause_9 14 rfl rfl)
theorem dX11_clause_211 : decode cX11_clause 211 = .ok (.iload_n 2, 1) := dk_28 (dk_at dksX11_clause_9 17 rfl rfl)
theorem dX11_clause_212 : decode cX11_clause 212 = .ok (.aaload, 1) := dk_50 (dk_at dksX11_clause_9 18 rfl rfl)
theorem dX11_clause_213 : decode cX11_clause 213 = .ok (.iconst 1, 1) := dk_4 (dk_at dksX11_clause_9 19 rfl rfl)
theorem dX11_clause_214 : decode cX11_clause 214 = .ok (.aload_n 0, 1) := dk_42 (dk_at dksX11_clause_9 20 rfl rfl)
theorem dX11_clause_215 : decode cX11_clause 215 = .ok (.iconst 1, 1) := dk_4 (dk_at dksX11_clause_9 21 rfl rfl)
theorem dX11_clause_216 : decode cX11_clause 216 = .ok (.bipush 99, 2) := dk_16 99 (dk_at dksX11_clause_9 22 rfl rfl)
theorem dX11_clause_218 : decode cX11_clause 218 = .ok (.invokevirtual 175, 3) := dk_182 0 175 (dk_at dksX11_clause_10 0 rfl rfl)
theorem dX11_clause_221 : decode cX11_clause 221 = .ok (.iastore, 1) := dk_79 (dk_at dksX11_clause_10 3 rfl rfl)
theorem dX11_clause_222 : decode cX11_clause 222 = .ok (.goto 50, 3) := dk_167 0 50 (dk_at dksX11_clause_10 4 rfl rfl)
theorem dX11_clause_225 : decode cX11_clause 225 = .ok (.aload_n 0, 1) := dk_42 (dk_at dksX11_clause_10 7 rfl rfl)
theorem dX11_clause_226 : decode cX11_clause 226 = .ok (.iconst 0, 1) := dk_3 (dk_at dksX11_clause_10 8 rfl rfl)
theorem dX11_clause_227 : decode cX11_clause 227 = .ok (.aload_n 0, 1) := dk_42 (dk_at dksX11_clause_10 9 rfl rfl)
theorem dX11_clause_228 : decode cX11_clause 228 = .ok (.getfield 20, 3) := dk_180 0 20 (dk_at dksX11_clause_10 10 rfl rfl)
theorem dX11_clause_231 : decode cX11_clause 231 = .ok (.iconst 0, 1) := dk_3 (dk_at dksX11_clause_10 13 rfl rfl)
theorem dX11_clause_232 : decode cX11_clause 232 = .ok (.iaload, 1) := dk_46 (dk_at dksX11_clause_10 14 rfl rfl)
theorem dX11_clause_233 : decode cX11_clause 233 = .ok (.iconst 1, 1) := dk_4 (dk_at dksX11_clause_10 15 rfl rfl)
theorem dX11_clause_234 : decode cX11_clause 234 = .ok (.isub, 1) := dk_100 (dk_at dksX11_clause_10 16 rfl rfl)
theorem dX11_clause_235 : decode cX11_clause 235 = .ok (.invokevirtual 175, 3) := dk_182 0 175 (dk_at dksX11_clause_10 17 rfl rfl)
theorem dX11_clause_238 : decode cX11_clause 238 = .ok (.istore_n 3, 1) := dk_62 (dk_at dksX11_clause_10 20 rfl rfl)
theorem dX11_clause_239 : decode cX11_clause 239 = .ok (.aload_n 0, 1) := dk_42 (dk_at dksX11_clause_10 21 rfl rfl)
theorem dX11_clause_240 : decode cX11_clause 240 = .ok (.iconst 0, 1) := dk_3 (dk_at dksX11_clause_10 22 rfl rfl)
theorem dX11_clause_241 : decode cX11_clause 241 = .ok (.aload_n 0, 1) := dk_42 (dk_at dksX11_clause_10 23 rfl rfl)
theorem dX11_clause_242 : decode cX11_clause 242 = .ok (.getfield 20, 3) := dk_180 0 20 (dk_at dksX11_clause_11 0 rfl rfl)
theorem dX11_clause_245 : decode cX11_clause 245 = .ok (.iconst 0, 1) := dk_3 (dk_at dksX11_clause_11 3 rfl rfl)
theorem dX11_clause_246 : decode cX11_clause 246 = .ok (.iaload, 1) := dk_46 (dk_at dksX11_clause_11 4 rfl rfl)
theorem dX11_clause_247 : decode cX11_clause 247 = .ok (.iconst 1, 1) := dk_4 (dk_at dksX11_clause_11 5 rfl rfl)
theorem dX11_clause_248 : decode cX11_clause 248 = .ok (.isub, 1) := dk_100 (dk_at dksX11_clause_11 6 rfl rfl)
theorem dX11_clause_249 : decode cX11_clause 249 = .ok (.invokevirtual 175, 3) := dk_182 0 175 (dk_at dksX11_clause_11 7 rfl rfl)
theorem dX11_clause_252 : decode cX11_clause 252 = .ok (.istore 4, 2) := dk_54 4 (dk_at dksX11_clause_11 10 rfl rfl)
theorem dX11_clause_254 : decode cX11_clause 254 = .ok (.aload_n 0, 1) := dk_42 (dk_at dksX11_clause_11 12 rfl rfl)
theorem dX11_clause_255 : decode cX11_clause 255 = .ok (.getfield 119, 3) := dk_180 0 119 (dk_at dksX11_clause_11 13 rfl rfl)
theorem dX11_clause_258 : decode cX11_clause 258 = .ok (.ifCond .ne 14, 3) := dk_154 0 14 (dk_at dksX11_clause_11 16 rfl rfl)
theorem dX11_clause_261 : decode cX11_clause 261 = .ok (.aload_n 0, 1) := dk_42 (dk_at dksX11_clause_11 19 rfl rfl)
theorem dX11_clause_262 : decode cX11_clause 262 = .ok (.getfield 32, 3) := dk_180 0 32 (dk_at dksX11_clause_11 20 rfl rfl)
theorem dX11_clause_265 : decode cX11_clause 265 = .ok (.iload_n 3, 1) := dk_29 (dk_at dksX11_clause_11 23 rfl rfl)
theorem dX11_clause_266 : decode cX11_clause 266 = .ok (.iload 4, 2) := dk_21 4 (dk_at dksX11_clause_12 0 rfl rfl)
theorem dX11_clause_268 : decode cX11_clause 268 = .ok (.iastore, 1) := dk_79 (dk_at dksX11_clause_12 2 rfl rfl)
theorem dX11_clause_269 : decode cX11_clause 269 = .ok (.goto 3, 3) := dk_167 0 3 (dk_at dksX11_clause_12 3 rfl rfl)
theorem dX11_clause_272 : decode cX11_clause 272 = .ok (.iload_n 1, 1) := dk_27 (dk_at dksX11_clause_12 6 rfl rfl)
theorem dX11_clause_273 : decode cX11_clause 273 = .ok (.iconst 3, 1) := dk_6 (dk_at dksX11_clause_12 7 rfl rfl)
theorem dX11_clause_274 : decode cX11_clause 274 = .ok (.if_icmp .ge 24, 3) := dk_162 0 24 (dk_at dksX11_clause_12 8 rfl rfl)
theorem dX11_clause_277 : decode cX11_clause 277 = .ok (.aload_n 0, 1) := dk_42 (dk_at dksX11_clause_12 11 rfl rfl)
theorem dX11_clause_278 : decode cX11_clause 278 = .ok (.getfield 20, 3) := dk_180 0 20 (dk_at dksX11_clause_12 12 rfl rfl)
theorem dX11_clause_281 : decode cX11_clause 281 = .ok (.iload_n 1, 1) := dk_27 (dk_at dksX11_clause_12 15 rfl rfl)
theorem dX11_clause_282 : decode cX11_clause 282 = .ok (.dup2, 1) := dk_92 (dk_at dksX11_clause_12 16 rfl rfl)
theorem dX11_clause_283 : decode cX11_clause 283 = .ok (.iaload, 1) := dk_46 (dk_at dksX11_clause_12 17 rfl rfl)
theorem dX11_clause_284 : decode cX11_clause 284 = .ok (.aload_n 0, 1) := dk_42 (dk_at dksX11_clause_12 18 rfl rfl)
theorem dX11_clause_285 : decode cX11_clause 285 = .ok (.getfield 119, 3) := dk_180 0 119 (dk_at dksX11_clause_12 19 rfl rfl)
theorem dX11_clause_288 : decode cX11_clause 288 = .ok (.ifCond .ne 7, 3) := dk_154 0 7 (dk_at dksX11_clause_13 0 rfl rfl)
theorem dX11_clause_291 : decode cX11_clause 291 = .ok (.iconst 1, 1) := dk_4 (dk_at dksX11_clause_13 3 rfl rfl)
theorem dX11_clause_292 : decode cX11_clause 292 = .ok (.goto 4, 3) := dk_167 0 4 (dk_at dksX11_clause_13 4 rfl rfl)
theorem dX11_clause_295 : decode cX11_clause 295 = .ok (.iconst 0, 1) := dk_3 (dk_at dksX11_clause_13 7 rfl rfl)
theorem dX11_clause_296 : decode cX11_clause 296 = .ok (.iadd, 1) := dk_96 (dk_at dksX11_clause_13 8 rfl rfl)
theorem dX11_clause_297 : decode cX11_clause 297 = .ok (.iastore, 1) := dk_79 (dk_at dksX11_clause_13 9 rfl rfl)
theorem dX11_clause_298 : decode cX11_clause 298 = .ok (.aload_n 0, 1) := dk_42 (dk_at dksX11_clause_13 10 rfl rfl)
theorem dX11_clause_299 : decode cX11_clause 299 = .ok (.bipush 59, 2) := dk_16 59 (dk_at dksX11_clause_13 11 rfl rfl)
theorem dX11_clause_301 : decode cX11_clause 301 = .ok (.invokevirtual 179, 3) := dk_182 0 179 (dk_at dksX11_clause_13 13 rfl rfl)
theorem dX11_clause_304 : decode cX11_clause 304 = .ok (.return_, 1) := dk_177 (dk_at dksX11_clause_13 16 rfl rfl)
def dkwX11_kindHere_3 : List UInt8 := [6, 167, 0, 4, 2, 172]
abbrev dktX11_kindHere_3 : List UInt8 := dkwX11_kindHere_3 ++ []
def dkwX11_kindHere_2 : List UInt8 := [182, 0, 165, 153, 0, 5, 5, 172, 42, 16, 22, 16, 15, 16, 23, 3, 3, 3, 182, 0, 152, 153, 0, 7]
abbrev dktX11_kindHere_2 : List UInt8 := dkwX11_kindHere_2 ++ dktX11_kindHere_3
def dkwX11_kindHere_1 : List UInt8 := [16, 12, 16, 9, 6, 3, 182, 0, 152, 153, 0, 5, 4, 172, 42, 180, 0, 119, 154, 0, 12, 42]
abbrev dktX11_kindHere_1 : List UInt8 := dkwX11_kindHere_1 ++ dktX11_kindHere_2
def dkwX11_kindHere_0 : List UInt8 := [42, 16, 19, 16, 9, 16, 19, 16, 20, 8, 16, 18, 182, 0, 152, 153, 0, 5, 3, 172, 42, 16, 18, 8]
abbrev dktX11_kindHere_0 : List UInt8 := dkwX11_kindHere_0 ++ dktX11_kindHere_1
theorem dksX11_kindHere_0 : cX11_kindHere.data.toList.drop 0 = dktX11_kindHere_0 := by decide +kernel
theorem dksX11_kindHere_1 : cX11_kindHere.data.toList.drop 24 = dktX11_kindHere_1 := dk_seg dksX11_kindHere_0 24 rfl rfl
theorem dksX11_kindHere_2 : cX11_kindHere.data.toList.drop 46 = dktX11_kindHere_2 := dk_seg dksX11_kindHere_1 22 rfl rfl
theorem dksX11_kindHere_3 : cX11_kindHere.data.toList.drop 70 = dktX11_kindHere_3 := dk_seg dksX11_kindHere_2 24 rfl rfl
theorem dX11_kindHere_0 : decode cX11_kindHere 0 = .ok (.aload_n 0, 1) := dk_42 (dk_at dksX11_kindHere_0 0 rfl rfl)
theorem dX11_kindHere_1 : decode cX11_kindHere 1 = .ok (.bipush 19, 2) := dk_16 19 (dk_at dksX11_kindHere_0 1 rfl rfl)
theorem dX11_kindHere_3 : decode cX11_kindHere 3 = .ok (.bipush 9, 2) := dk_16 9 (dk_at dksX11_kindHere_0 3 rfl rfl)
theorem dX11_kindHere_5 : decode cX11_kindHere 5 = .ok (.bipush 19, 2) := dk_16 19 (dk_at dksX11_kindHere_0 5 rfl rfl)
theorem dX11_kindHere_7 : decode cX11_kindHere 7 = .ok (.bipush 20, 2) := dk_16 20 (dk_at dksX11_kindHere_0 7 rfl rfl)
theorem dX11_kindHere_9 : decode cX11_kindHere 9 = .ok (.iconst 5, 1) := dk_8 (dk_at dksX11_kindHere_0 9 rfl rfl)
theorem dX11_kindHere_10 : decode cX11_kindHere 10 = .ok (.bipush 18, 2) := dk_16 18 (dk_at dksX11_kindHere_0 10 rfl rfl)
theorem dX11_kindHere_12 : decode cX11_kindHere 12 = .ok (.invokevirtual 152, 3) := dk_182 0 152 (dk_at dksX11_kindHere_0 12 rfl rfl)
theorem dX11_kindHere_15 : decode cX11_kindHere 15 = .ok (.ifCond .eq 5, 3) := dk_153 0 5 (dk_at dksX11_kindHere_0 15 rfl rfl)
theorem dX11_kindHere_18 : decode cX11_kindHere 18 = .ok (.iconst 0, 1) := dk_3 (dk_at dksX11_kindHere_0 18 rfl rfl)
theorem dX11_kindHere_19 : decode cX11_kindHere 19 = .ok (.ireturn, 1) := dk_172 (dk_at dksX11_kindHere_0 19 rfl rfl)
theorem dX11_kindHere_20 : decode cX11_kindHere 20 = .ok (.aload_n 0, 1) := dk_42 (dk_at dksX11_kindHere_0 20 rfl rfl)
theorem dX11_kindHere_21 : decode cX11_kindHere 21 = .ok (.bipush 18, 2) := dk_16 18 (dk_at dksX11_kindHere_0 21 rfl rfl)
theorem dX11_kindHere_23 : decode cX11_kindHere 23 = .ok (.iconst 5, 1) := dk_8 (dk_at dksX11_kindHere_0 23 rfl rfl)
theorem dX11_kindHere_24 : decode cX11_kindHere 24 = .ok (.bipush 12, 2) := dk_16 12 (dk_at dksX11_kindHere_1 0 rfl rfl)
theorem dX11_kindHere_26 : decode cX11_kindHere 26 = .ok (.bipush 9, 2) := dk_16 9 (dk_at dksX11_kindHere_1 2 rfl rfl)
theorem dX11_kindHere_28 : decode cX11_kindHere 28 = .ok (.iconst 3, 1) := dk_6 (dk_at dksX11_kindHere_1 4 rfl rfl)
theorem dX11_kindHere_29 : decode cX11_kindHere 29 = .ok (.iconst 0, 1) := dk_3 (dk_at dksX11_kindHere_1 5 rfl rfl)
theorem dX11_kindHere_30 : decode cX11_kindHere 30 = .ok (.invokevirtual 152, 3) := dk_182 0 152 (dk_at dksX11_kindHere_1 6 rfl rfl)
theorem dX11_kindHere_33 : decode cX11_kindHere 33 = .ok (.ifCond .eq 5, 3) := dk_153 0 5 (dk_at dksX11_kindHere_1 9 rfl rfl)
theorem dX11_kindHere_36 : decode cX11_kindHere 36 = .ok (.iconst 1, 1) := dk_4 (dk_at dksX11_kindHere_1 12 rfl rfl)
theorem dX11_kindHere_37 : decode cX11_kindHere 37 = .ok (.ireturn, 1) := dk_172 (dk_at dksX11_kindHere_1 13 rfl rfl)
theorem dX11_kindHere_38 : decode cX11_kindHere 38 = .ok (.aload_n 0, 1) := dk_42 (dk_at dksX11_kindHere_1 14 rfl rfl)
theorem dX11_kindHere_39 : decode cX11_kindHere 39 = .ok (.getfield 119, 3) := dk_180 0 119 (dk_at dksX11_kindHere_1 15 rfl rfl)
theorem dX11_kindHere_42 : decode cX11_kindHere 42 = .ok (.ifCond .ne 12, 3) := dk_154 0 12 (dk_at dksX11_kindHere_1 18 rfl rfl)
theorem dX11_kindHere_45 : decode cX11_kindHere 45 = .ok (.aload_n 0, 1) := dk_42 (dk_at dksX11_kindHere_1 21 rfl rfl)
theorem dX11_kindHere_46 : decode cX11_kindHere 46 = .ok (.invokevirtual 165, 3) := dk_182 0 165 (dk_at dksX11_kindHere_2 0 rfl rfl)
theorem dX11_kindHere_49 : decode cX11_kindHere 49 = .ok (.ifCond .eq 5, 3) := dk_153 0 5 (dk_at dksX11_kindHere_2 3 rfl rfl)
theorem dX11_kindHere_52 : decode cX11_kindHere 52 = .ok (.iconst 2, 1) := dk_5 (dk_at dksX11_kindHere_2 6 rfl rfl)
theorem dX11_kindHere_53 : decode cX11_kindHere 53 = .ok (.ireturn, 1) := dk_172 (dk_at dksX11_kindHere_2 7 rfl rfl)
theorem dX11_kindHere_54 : decode cX11_kindHere 54 = .ok (.aload_n 0, 1) := dk_42 (dk_at dksX11_kindHere_2 8 rfl rfl)
theorem dX11_kindHere_55 : decode cX11_kindHere 55 = .ok (.bipush 22, 2) := dk_16 22 (dk_at dksX11_kindHere_2 9 rfl rfl)
theorem dX11_kindHere_57 : decode cX11_kindHere 57 = .ok (.bipush 15, 2) := dk_16 15 (dk_at dksX11_kindHere_2 11 rfl rfl)
theorem dX11_kindHere_59 : decode cX11_kindHere 59 = .ok (.bipush 23, 2) := dk_16 23 (dk_at dksX11_kindHere_2 13 rfl rfl)
theorem dX11_kindHere_61 : decode cX11_kindHere 61 = .ok (.iconst 0, 1) := dk_3 (dk_at dksX11_kindHere_2 15 rfl rfl)
theorem dX11_kindHere_62 : decode cX11_kindHere 62 = .ok (.iconst 0, 1) := dk_3 (dk_at dksX11_kindHere_2 16 rfl rfl)
theorem dX11_kindHere_63 : decode cX11_kindHere 63 = .ok (.iconst 0, 1) := dk_3 (dk_at dksX11_kindHere_2 17 rfl rfl)
theorem dX11_kindHere_64 : decode cX11_kindHere 64 = .ok (.invokevirtual 152, 3) := dk_182 0 152 (dk_at dksX11_kindHere_2 18 rfl rfl)
theorem dX11_kindHere_67 : decode cX11_kindHere 67 = .ok (.ifCond .eq 7, 3) := dk_153 0 7 (dk_at dksX11_kindHere_2 21 rfl rfl)
theorem dX11_kindHere_70 : decode cX11_kindHere 70 = .ok (.iconst 3, 1) := dk_6 (dk_at dksX11_kindHere_3 0 rfl rfl)
theorem dX11_kindHere_71 : decode cX11_kindHere 71 = .ok (.goto 4, 3) := dk_167 0 4 (dk_at dksX11_kindHere_3 1 rfl rfl)
theorem dX11_kindHere_74 : decode cX11_kindHere 74 = .ok (.iconst (-1), 1) := dk_2 (dk_at dksX11_kindHere_3 4 rfl rfl)
theorem dX11_kindHere_75 : decode cX11_kindHere 75 = .ok (.ireturn, 1) := dk_172 (dk_at dksX11_kindHere_3 5 rfl rfl)
def dkwX11_isWord_1 : List UInt8 := [160, 0, 7, 4, 167, 0, 4, 3, 172]
abbrev dktX11_isWord_1 : List UInt8 := dkwX11_isWord_1 ++ []
def dkwX11_isWord_0 : List UInt8 := [42, 180, 0, 119, 154, 0, 26, 42, 182, 0, 144, 27, 28, 29, 21, 4, 21, 5, 21, 6, 184, 0, 148]
abbrev dktX11_isWord_0 : List UInt8 := dkwX11_isWord_0 ++ dktX11_isWord_1
theorem dksX11_isWord_0 : cX11_isWord.data.toList.drop 0 = dktX11_isWord_0 := by decide +kernel
theorem dksX11_isWord_1 : cX11_isWord.data.toList.drop 23 = dktX11_isWord_1 := dk_seg dksX11_isWord_0 23 rfl rfl
theorem dX11_isWord_0 : decode cX11_isWord 0 = .ok (.aload_n 0, 1) := dk_42 (dk_at dksX11_isWord_0 0 rfl rfl)
theorem dX11_isWord_1 : decode cX11_isWord 1 = .ok (.getfield 119, 3) := dk_180 0 119 (dk_at dksX11_isWord_0 1 rfl rfl)
theorem dX11_isWord_4 : decode cX11_isWord 4 = .ok (.ifCond .ne 26, 3) := dk_154 0 26 (dk_at dksX11_isWord_0 4 rfl rfl)
theorem dX11_isWord_7 : decode cX11_isWord 7 = .ok (.aload_n 0, 1) := dk_42 (dk_at dksX11_isWord_0 7 rfl rfl)
theorem dX11_isWord_8 : decode cX11_isWord 8 = .ok (.invokevirtual 144, 3) := dk_182 0 144 (dk_at dksX11_isWord_0 8 rfl rfl)
theorem dX11_isWord_11 : decode cX11_isWord 11 = .ok (.iload_n 1, 1) := dk_27 (dk_at dksX11_isWord_0 11 rfl rfl)
theorem dX11_isWord_12 : decode cX11_isWord 12 = .ok (.iload_n 2, 1) := dk_28 (dk_at dksX11_isWord_0 12 rfl rfl)
theorem dX11_isWord_13 : decode cX11_isWord 13 = .ok (.iload_n 3, 1) := dk_29 (dk_at dksX11_isWord_0 13 rfl rfl)
theorem dX11_isWord_14 : decode cX11_isWord 14 = .ok (.iload 4, 2) := dk_21 4 (dk_at dksX11_isWord_0 14 rfl rfl)
theorem dX11_isWord_16 : decode cX11_isWord 16 = .ok (.iload 5, 2) := dk_21 5 (dk_at dksX11_isWord_0 16 rfl rfl)
theorem dX11_isWord_18 : decode cX11_isWord 18 = .ok (.iload 6, 2) := dk_21 6 (dk_at dksX11_isWord_0 18 rfl rfl)
theorem dX11_isWord_20 : decode cX11_isWord 20 = .ok (.invokestatic 148, 3) := dk_184 0 148 (dk_at dksX11_isWord_0 20 rfl rfl)
theorem dX11_isWord_23 : decode cX11_isWord 23 = .ok (.if_icmp .ne 7, 3) := dk_160 0 7 (dk_at dksX11_isWord_1 0 rfl rfl)
theorem dX11_isWord_26 : decode cX11_isWord 26 = .ok (.iconst 1, 1) := dk_4 (dk_at dksX11_isWord_1 3 rfl rfl)
theorem dX11_isWord_27 : decode cX11_isWord 27 = .ok (.goto 4, 3) := dk_167 0 4 (dk_at dksX11_isWord_1 4 rfl rfl)
theorem dX11_isWord_30 : decode cX11_isWord 30 = .ok (.iconst 0, 1) := dk_3 (dk_at dksX11_isWord_1 7 rfl rfl)
theorem dX11_isWord_31 : decode cX11_isWord 31 = .ok (.ireturn, 1) := dk_172 (dk_at dksX11_isWord_1 8 rfl rfl)
def dkwX11_wordHere_3 : List UInt8 := [172]
abbrev dktX11_wordHere_3 : List UInt8 := dkwX11_wordHere_3 ++ []
def dkwX11_wordHere_2 : List UInt8 := [4, 96, 167, 0, 4, 27, 60, 132, 2, 1, 167, 255, 206, 28, 16, 6, 164, 0, 7, 2, 167, 0, 4, 27]
abbrev dktX11_wordHere_2 : List UInt8 := dkwX11_wordHere_2 ++ dktX11_wordHere_3
def dkwX11_wordHere_1 : List UInt8 := [28, 16, 6, 162, 0, 26, 16, 27, 27, 104, 42, 42, 180, 0, 112, 28, 96, 182, 0, 115, 96, 16, 97, 100]
abbrev dktX11_wordHere_1 : List UInt8 := dkwX11_wordHere_1 ++ dktX11_wordHere_2
def dkwX11_wordHere_0 : List UInt8 := [42, 182, 0, 125, 3, 60, 3, 61, 42, 42, 180, 0, 112, 28, 96, 182, 0, 115, 184, 0, 141, 153, 0, 40]
abbrev dktX11_wordHere_0 : List UInt8 := dkwX11_wordHere_0 ++ dktX11_wordHere_1
theorem dksX11_wordHere_0 : cX11_wordHere.data.toList.drop 0 = dktX11_wordHere_0 := by decide +kernel
theorem dksX11_wordHere_1 : cX11_wordHere.data.toList.drop 24 = dktX11_wordHere_1 := dk_seg dksX11_wordHere_0 24 rfl rfl
theorem dksX11_wordHere_2 : cX11_wordHere.data.toList.drop 48 = dktX11_wordHere_2 := dk_seg dksX11_wordHere_1 24 rfl rfl
theorem dksX11_wordHere_3 : cX11_wordHere.data.toList.drop 72 = dktX11_wordHere_3 := dk_seg dksX11_wordHere_2 24 rfl rfl
theorem dX11_wordHere_0 : decode cX11_wordHere 0 = .ok (.aload_n 0, 1) := dk_42 (dk_at dksX11_wordHere_0 0 rfl rfl)
theorem dX11_wordHere_1 : decode cX11_wordHere 1 = .ok (.invokevirtual 125, 3) := dk_182 0 125 (dk_at dksX11_wordHere_0 1 rfl rfl)
theorem dX11_wordHere_4 : decode cX11_wordHere 4 = .ok (.iconst 0, 1) := dk_3 (dk_at dksX11_wordHere_0 4 rfl rfl)
theorem dX11_wordHere_5 : decode cX11_wordHere 5 = .ok (.istore_n 1, 1) := dk_60 (dk_at dksX11_wordHere_0 5 rfl rfl)
theorem dX11_wordHere_6 : decode cX11_wordHere 6 = .ok (.iconst 0, 1) := dk_3 (dk_at dksX11_wordHere_0 6 rfl rfl)
theorem dX11_wordHere_7 : decode cX11_wordHere 7 = .ok (.istore_n 2, 1) := dk_61 (dk_at dksX11_wordHere_0 7 rfl rfl)
theorem dX11_wordHere_8 : decode cX11_wordHere 8 = .ok (.aload_n 0, 1) := dk_42 (dk_at dksX11_wordHere_0 8 rfl rfl)
theorem dX11_wordHere_9 : decode cX11_wordHere 9 = .ok (.aload_n 0, 1) := dk_42 (dk_at dksX11_wordHere_0 9 rfl rfl)
theorem dX11_wordHere_10 : decode cX11_wordHere 10 = .ok (.getfield 112, 3) := dk_180 0 112 (dk_at dksX11_wordHere_0 10 rfl rfl)
theorem dX11_wordHere_13 : decode cX11_wordHere 13 = .ok (.iload_n 2, 1) := dk_28 (dk_at dksX11_wordHere_0 13 rfl rfl)
theorem dX11_wordHere_14 : decode cX11_wordHere 14 = .ok (.iadd, 1) := dk_96 (dk_at dksX11_wordHere_0 14 rfl rfl)
theorem dX11_wordHere_15 : decode cX11_wordHere 15 = .ok (.invokevirtual 115, 3) := dk_182 0 115 (dk_at dksX11_wordHere_0 15 rfl rfl)
theorem dX11_wordHere_18 : decode cX11_wordHere 18 = .ok (.invokestatic 141, 3) := dk_184 0 141 (dk_at dksX11_wordHere_0 18 rfl rfl)
theorem dX11_wordHere_21 : decode cX11_wordHere 21 = .ok (.ifCond .eq 40, 3) := dk_153 0 40 (dk_at dksX11_wordHere_0 21 rfl rfl)
theorem dX11_wordHere_24 : decode cX11_wordHere 24 = .ok (.iload_n 2, 1) := dk_28 (dk_at dksX11_wordHere_1 0 rfl rfl)
theorem dX11_wordHere_25 : decode cX11_wordHere 25 = .ok (.bipush 6, 2) := dk_16 6 (dk_at dksX11_wordHere_1 1 rfl rfl)
theorem dX11_wordHere_27 : decode cX11_wordHere 27 = .ok (.if_icmp .ge 26, 3) := dk_162 0 26 (dk_at dksX11_wordHere_1 3 rfl rfl)
theorem dX11_wordHere_30 : decode cX11_wordHere 30 = .ok (.bipush 27, 2) := dk_16 27 (dk_at dksX11_wordHere_1 6 rfl rfl)
theorem dX11_wordHere_32 : decode cX11_wordHere 32 = .ok (.iload_n 1, 1) := dk_27 (dk_at dksX11_wordHere_1 8 rfl rfl)
theorem dX11_wordHere_33 : decode cX11_wordHere 33 = .ok (.imul, 1) := dk_104 (dk_at dksX11_wordHere_1 9 rfl rfl)
theorem dX11_wordHere_34 : decode cX11_wordHere 34 = .ok (.aload_n 0, 1) := dk_42 (dk_at dksX11_wordHere_1 10 rfl rfl)
theorem dX11_wordHere_35 : decode cX11_wordHere 35 = .ok (.aload_n 0, 1) := dk_42 (dk_at dksX11_wordHere_1 11 rfl rfl)
theorem dX11_wordHere_36 : decode cX11_wordHere 36 = .ok (.getfield 112, 3) := dk_180 0 112 (dk_at dksX11_wordHere_1 12 rfl rfl)
theorem dX11_wordHere_39 : decode cX11_wordHere 39 = .ok (.iload_n 2, 1) := dk_28 (dk_at dksX11_wordHere_1 15 rfl rfl)
theorem dX11_wordHere_40 : decode cX11_wordHere 40 = .ok (.iadd, 1) := dk_96 (dk_at dksX11_wordHere_1 16 rfl rfl)
theorem dX11_wordHere_41 : decode cX11_wordHere 41 = .ok (.invokevirtual 115, 3) := dk_182 0 115 (dk_at dksX11_wordHere_1 17 rfl rfl)
theorem dX11_wordHere_44 : decode cX11_wordHere 44 = .ok (.iadd, 1) := dk_96 (dk_at dksX11_wordHere_1 20 rfl rfl)
theorem dX11_wordHere_45 : decode cX11_wordHere 45 = .ok (.bipush 97, 2) := dk_16 97 (dk_at dksX11_wordHere_1 21 rfl rfl)
theorem dX11_wordHere_47 : decode cX11_wordHere 47 = .ok (.isub, 1) := dk_100 (dk_at dksX11_wordHere_1 23 rfl rfl)
theorem dX11_wordHere_48 : decode cX11_wordHere 48 = .ok (.iconst 1, 1) := dk_4 (dk_at dksX11_wordHere_2 0 rfl rfl)
theorem dX11_wordHere_49 : decode cX11_wordHere 49 = .ok (.iadd, 1) := dk_96 (dk_at dksX11_wordHere_2 1 rfl rfl)
theorem dX11_wordHere_50 : decode cX11_wordHere 50 = .ok (.goto 4, 3) := dk_167 0 4 (dk_at dksX11_wordHere_2 2 rfl rfl)
theorem dX11_wordHere_53 : decode cX11_wordHere 53 = .ok (.iload_n 1, 1) := dk_27 (dk_at dksX11_wordHere_2 5 rfl rfl)
theorem dX11_wordHere_54 : decode cX11_wordHere 54 = .ok (.istore_n 1, 1) := dk_60 (dk_at dksX11_wordHere_2 6 rfl rfl)
theorem dX11_wordHere_55 : decode cX11_wordHere 55 = .ok (.iinc 2 1, 3) := dk_132 2 1 (dk_at dksX11_wordHere_2 7 rfl rfl)
theorem dX11_wordHere_58 : decode cX11_wordHere 58 = .ok (.goto (-50), 3) := dk_167 255 206 (dk_at dksX11_wordHere_2 10 rfl rfl)
theorem dX11_wordHere_61 : decode cX11_wordHere 61 = .ok (.iload_n 2, 1) := dk_28 (dk_at dksX11_wordHere_2 13 rfl rfl)
theorem dX11_wordHere_62 : decode cX11_wordHere 62 = .ok (.bipush 6, 2) := dk_16 6 (dk_at dksX11_wordHere_2 14 rfl rfl)
theorem dX11_wordHere_64 : decode cX11_wordHere 64 = .ok (.if_icmp .le 7, 3) := dk_164 0 7 (dk_at dksX11_wordHere_2 16 rfl rfl)
theorem dX11_wordHere_67 : decode cX11_wordHere 67 = .ok (.iconst (-1), 1) := dk_2 (dk_at dksX11_wordHere_2 19 rfl rfl)
theorem dX11_wordHere_68 : decode cX11_wordHere 68 = .ok (.goto 4, 3) := dk_167 0 4 (dk_at dksX11_wordHere_2 20 rfl rfl)
theorem dX11_wordHere_71 : decode cX11_wordHere 71 = .ok (.iload_n 1, 1) := dk_27 (dk_at dksX11_wordHere_2 23 rfl rfl)
theorem dX11_wordHere_72 : decode cX11_wordHere 72 = .ok (.ireturn, 1) := dk_172 (dk_at dksX11_wordHere_3 0 rfl rfl)
def dkwX11_isSmall_0 : List UInt8 := [26, 16, 97, 161, 0, 13, 26, 16, 122, 163, 0, 7, 4, 167, 0, 4, 3, 172]
abbrev dktX11_isSmall_0 : List UInt8 := dkwX11_isSmall_0 ++ []
theorem dksX11_isSmall_0 : cX11_isSmall.data.toList.drop 0 = dktX11_isSmall_0 := by decide +kernel
theorem dX11_isSmall_0 : decode cX11_isSmall 0 = .ok (.iload_n 0, 1) := dk_26 (dk_at dksX11_isSmall_0 0 rfl rfl)
theorem dX11_isSmall_1 : decode cX11_isSmall 1 = .ok (.bipush 97, 2) := dk_16 97 (dk_at dksX11_isSmall_0 1 rfl rfl)
theorem dX11_isSmall_3 : decode cX11_isSmall 3 = .ok (.if_icmp .lt 13, 3) := dk_161 0 13 (dk_at dksX11_isSmall_0 3 rfl rfl)
theorem dX11_isSmall_6 : decode cX11_isSmall 6 = .ok (.iload_n 0, 1) := dk_26 (dk_at dksX11_isSmall_0 6 rfl rfl)
theorem dX11_isSmall_7 : decode cX11_isSmall 7 = .ok (.bipush 122, 2) := dk_16 122 (dk_at dksX11_isSmall_0 7 rfl rfl)
theorem dX11_isSmall_9 : decode cX11_isSmall 9 = .ok (.if_icmp .gt 7, 3) := dk_163 0 7 (dk_at dksX11_isSmall_0 9 rfl rfl)
theorem dX11_isSmall_12 : decode cX11_isSmall 12 = .ok (.iconst 1, 1) := dk_4 (dk_at dksX11_isSmall_0 12 rfl rfl)
theorem dX11_isSmall_13 : decode cX11_isSmall 13 = .ok (.goto 4, 3) := dk_167 0 4 (dk_at dksX11_isSmall_0 13 rfl rfl)
theorem dX11_isSmall_16 : decode cX11_isSmall 16 = .ok (.iconst 0, 1) := dk_3 (dk_at dksX11_isSmall_0 16 rfl rfl)
theorem dX11_isSmall_17 : decode cX11_isSmall 17 = .ok (.ireturn, 1) := dk_172 (dk_at dksX11_isSmall_0 17 rfl rfl)
def dkwX11_six_2 : List UInt8 := [96, 54, 6, 21, 5, 154, 0, 8, 21, 6, 167, 0, 11, 16, 27, 21, 6, 104, 21, 5, 96, 172]
abbrev dktX11_six_2 : List UInt8 := dkwX11_six_2 ++ []
def dkwX11_six_1 : List UInt8 := [21, 6, 104, 29, 96, 54, 6, 21, 4, 154, 0, 8, 21, 6, 167, 0, 11, 16, 27, 21, 6, 104, 21, 4]
abbrev dktX11_six_1 : List UInt8 := dkwX11_six_1 ++ dktX11_six_2
def dkwX11_six_0 : List UInt8 := [16, 27, 16, 27, 26, 104, 27, 96, 104, 28, 96, 54, 6, 29, 154, 0, 8, 21, 6, 167, 0, 10, 16, 27]
abbrev dktX11_six_0 : List UInt8 := dkwX11_six_0 ++ dktX11_six_1
theorem dksX11_six_0 : cX11_six.data.toList.drop 0 = dktX11_six_0 := by decide +kernel
theorem dksX11_six_1 : cX11_six.data.toList.drop 24 = dktX11_six_1 := dk_seg dksX11_six_0 24 rfl rfl
theorem dksX11_six_2 : cX11_six.data.toList.drop 48 = dktX11_six_2 := dk_seg dksX11_six_1 24 rfl rfl
theorem dX11_six_0 : decode cX11_six 0 = .ok (.bipush 27, 2) := dk_16 27 (dk_at dksX11_six_0 0 rfl rfl)
theorem dX11_six_2 : decode cX11_six 2 = .ok (.bipush 27, 2) := dk_16 27 (dk_at dksX11_six_0 2 rfl rfl)
theorem dX11_six_4 : decode cX11_six 4 = .ok (.iload_n 0, 1) := dk_26 (dk_at dksX11_six_0 4 rfl rfl)
theorem dX11_six_5 : decode cX11_six 5 = .ok (.imul, 1) := dk_104 (dk_at dksX11_six_0 5 rfl rfl)
theorem dX11_six_6 : decode cX11_six 6 = .ok (.iload_n 1, 1) := dk_27 (dk_at dksX11_six_0 6 rfl rfl)
theorem dX11_six_7 : decode cX11_six 7 = .ok (.iadd, 1) := dk_96 (dk_at dksX11_six_0 7 rfl rfl)
theorem dX11_six_8 : decode cX11_six 8 = .ok (.imul, 1) := dk_104 (dk_at dksX11_six_0 8 rfl rfl)
theorem dX11_six_9 : decode cX11_six 9 = .ok (.iload_n 2, 1) := dk_28 (dk_at dksX11_six_0 9 rfl rfl)
theorem dX11_six_10 : decode cX11_six 10 = .ok (.iadd, 1) := dk_96 (dk_at dksX11_six_0 10 rfl rfl)
theorem dX11_six_11 : decode cX11_six 11 = .ok (.istore 6, 2) := dk_54 6 (dk_at dksX11_six_0 11 rfl rfl)
theorem dX11_six_13 : decode cX11_six 13 = .ok (.iload_n 3, 1) := dk_29 (dk_at dksX11_six_0 13 rfl rfl)
theorem dX11_six_14 : decode cX11_six 14 = .ok (.ifCond .ne 8, 3) := dk_154 0 8 (dk_at dksX11_six_0 14 rfl rfl)
theorem dX11_six_17 : decode cX11_six 17 = .ok (.iload 6, 2) := dk_21 6 (dk_at dksX11_six_0 17 rfl rfl)
theorem dX11_six_19 : decode cX11_six 19 = .ok (.goto 10, 3) := dk_167 0 10 (dk_at dksX11_six_0 19 rfl rfl)
theorem dX11_six_22 : decode cX11_six 22 = .ok (.bipush 27, 2) := dk_16 27 (dk_at dksX11_six_0 22 rfl rfl)
theorem dX11_six_24 : decode cX11_six 24 = .ok (.iload 6, 2) := dk_21 6 (dk_at dksX11_six_1 0 rfl rfl)
theorem dX11_six_26 : decode cX11_six 26 = .ok (.imul, 1) := dk_104 (dk_at dksX11_six_1 2 rfl rfl)
theorem dX11_six_27 : decode cX11_six 27 = .ok (.iload_n 3, 1) := dk_29 (dk_at dksX11_six_1 3 rfl rfl)
theorem dX11_six_28 : decode cX11_six 28 = .ok (.iadd, 1) := dk_96 (dk_at dksX11_six_1 4 rfl rfl)
theorem dX11_six_29 : decode cX11_six 29 = .ok (.istore 6, 2) := dk_54 6 (dk_at dksX11_six_1 5 rfl rfl)
theorem dX11_six_31 : decode cX11_six 31 = .ok (.iload 4, 2) := dk_21 4 (dk_at dksX11_six_1 7 rfl rfl)
theorem dX11_six_33 : decode cX11_six 33 = .ok (.ifCond .ne 8, 3) := dk_154 0 8 (dk_at dksX11_six_1 9 rfl rfl)
theorem dX11_six_36 : decode cX11_six 36 = .ok (.iload 6, 2) := dk_21 6 (dk_at dksX11_six_1 12 rfl rfl)
theorem dX11_six_38 : decode cX11_six 38 = .ok (.goto 11, 3) := dk_167 0 11 (dk_at dksX11_six_1 14 rfl rfl)
theorem dX11_six_41 : decode cX11_six 41 = .ok (.bipush 27, 2) := dk_16 27 (dk_at dksX11_six_1 17 rfl rfl)
theorem dX11_six_43 : decode cX11_six 43 = .ok (.iload 6, 2) := dk_21 6 (dk_at dksX11_six_1 19 rfl rfl)
theorem dX11_six_45 : decode cX11_six 45 = .ok (.imul, 1) := dk_104 (dk_at dksX11_six_1 21 rfl rfl)
theorem dX11_six_46 : decode cX11_six 46 = .ok (.iload 4, 2) := dk_21 4 (dk_at dksX11_six_1 22 rfl rfl)
theorem dX11_six_48 : decode cX11_six 48 = .ok (.iadd, 1) := dk_96 (dk_at dksX11_six_2 0 rfl rfl)
theorem dX11_six_49 : decode cX11_six 49 = .ok (.istore 6, 2) := dk_54 6 (dk_at dksX11_six_2 1 rfl rfl)
theorem dX11_six_51 : decode cX11_six 51 = .ok (.iload 5, 2) := dk_21 5 (dk_at dksX11_six_2 3 rfl rfl)
theorem dX11_six_53 : decode cX11_six 53 = .ok (.ifCond .ne 8, 3) := dk_154 0 8 (dk_at dksX11_six_2 5 rfl rfl)
theorem dX11_six_56 : decode cX11_six 56 = .ok (.iload 6, 2) := dk_21 6 (dk_at dksX11_six_2 8 rfl rfl)
theorem dX11_six_58 : decode cX11_six 58 = .ok (.goto 11, 3) := dk_167 0 11 (dk_at dksX11_six_2 10 rfl rfl)
theorem dX11_six_61 : decode cX11_six 61 = .ok (.bipush 27, 2) := dk_16 27 (dk_at dksX11_six_2 13 rfl rfl)
theorem dX11_six_63 : decode cX11_six 63 = .ok (.iload 6, 2) := dk_21 6 (dk_at dksX11_six_2 15 rfl rfl)
theorem dX11_six_65 : decode cX11_six 65 = .ok (.imul, 1) := dk_104 (dk_at dksX11_six_2 17 rfl rfl)
theorem dX11_six_66 : decode cX11_six 66 = .ok (.iload 5, 2) := dk_21 5 (dk_at dksX11_six_2 18 rfl rfl)
theorem dX11_six_68 : decode cX11_six 68 = .ok (.iadd, 1) := dk_96 (dk_at dksX11_six_2 20 rfl rfl)
theorem dX11_six_69 : decode cX11_six 69 = .ok (.ireturn, 1) := dk_172 (dk_at dksX11_six_2 21 rfl rfl)
def dkwX11_isPilgrim_4 : List UInt8 := [182, 0, 115, 16, 109, 160, 0, 7, 4, 167, 0, 4, 3, 172]
abbrev dktX11_isPilgrim_4 : List UInt8 := dkwX11_isPilgrim_4 ++ []
def dkwX11_isPilgrim_3 : List UInt8 := [16, 12, 16, 7, 16, 18, 16, 9, 184, 0, 148, 160, 0, 23, 42, 42, 180, 0, 112, 16, 6, 96]
abbrev dktX11_isPilgrim_3 : List UInt8 := dkwX11_isPilgrim_3 ++ dktX11_isPilgrim_4
def dkwX11_isPilgrim_2 : List UInt8 := [4, 96, 167, 0, 4, 27, 60, 132, 2, 1, 167, 255, 206, 28, 16, 7, 160, 0, 42, 27, 16, 16, 16, 9]
abbrev dktX11_isPilgrim_2 : List UInt8 := dkwX11_isPilgrim_2 ++ dktX11_isPilgrim_3
def dkwX11_isPilgrim_1 : List UInt8 := [28, 16, 6, 162, 0, 26, 16, 27, 27, 104, 42, 42, 180, 0, 112, 28, 96, 182, 0, 115, 96, 16, 97, 100]
abbrev dktX11_isPilgrim_1 : List UInt8 := dkwX11_isPilgrim_1 ++ dktX11_isPilgrim_2
def dkwX11_isPilgrim_0 : List UInt8 := [42, 182, 0, 125, 3, 60, 3, 61, 42, 42, 180, 0, 112, 28, 96, 182, 0, 115, 184, 0, 141, 153, 0, 40]
abbrev dktX11_isPilgrim_0 : List UInt8 := dkwX11_isPilgrim_0 ++ dktX11_isPilgrim_1
theorem dksX11_isPilgrim_0 : cX11_isPilgrim.data.toList.drop 0 = dktX11_isPilgrim_0 := by decide +kernel
theorem dksX11_isPilgrim_1 : cX11_isPilgrim.data.toList.drop 24 = dktX11_isPilgrim_1 := dk_seg dksX11_isPilgrim_0 24 rfl rfl
theorem dksX11_isPilgrim_2 : cX11_isPilgrim.data.toList.drop 48 = dktX11_isPilgrim_2 := dk_seg dksX11_isPilgrim_1 24 rfl rfl
theorem dksX11_isPilgrim_3 : cX11_isPilgrim.data.toList.drop 72 = dktX11_isPilgrim_3 := dk_seg dksX11_isPilgrim_2 24 rfl rfl
theorem dksX11_isPilgrim_4 : cX11_isPilgrim.data.toList.drop 94 = dktX11_isPilgrim_4 := dk_seg dksX11_isPilgrim_3 22 rfl rfl
theorem dX11_isPilgrim_0 : decode cX11_isPilgrim 0 = .ok (.aload_n 0, 1) := dk_42 (dk_at dksX11_isPilgrim_0 0 rfl rfl)
theorem dX11_isPilgrim_1 : decode cX11_isPilgrim 1 = .ok (.invokevirtual 125, 3) := dk_182 0 125 (dk_at dksX11_isPilgrim_0 1 rfl rfl)
theorem dX11_isPilgrim_4 : decode cX11_isPilgrim 4 = .ok (.iconst 0, 1) := dk_3 (dk_at dksX11_isPilgrim_0 4 rfl rfl)
theorem dX11_isPilgrim_5 : decode cX11_isPilgrim 5 = .ok (.istore_n 1, 1) := dk_60 (dk_at dksX11_isPilgrim_0 5 rfl rfl)
theorem dX11_isPilgrim_6 : decode cX11_isPilgrim 6 = .ok (.iconst 0, 1) := dk_3 (dk_at dksX11_isPilgrim_0 6 rfl rfl)
theorem dX11_isPilgrim_7 : decode cX11_isPilgrim 7 = .ok (.istore_n 2, 1) := dk_61 (dk_at dksX11_isPilgrim_0 7 rfl rfl)
theorem dX11_isPilgrim_8 : decode cX11_isPilgrim 8 = .ok (.aload_n 0, 1) := dk_42 (dk_at dksX11_isPilgrim_0 8 rfl rfl)
theorem dX11_isPilgrim_9 : decode cX11_isPilgrim 9 = .ok (.aload_n 0, 1) := dk_42 (dk_at dksX11_isPilgrim_0 9 rfl rfl)
theorem dX11_isPilgrim_10 : decode cX11_isPilgrim 10 = .ok (.getfield 112, 3) := dk_180 0 112 (dk_at dksX11_isPilgrim_0 10 rfl rfl)
theorem dX11_isPilgrim_13 : decode cX11_isPilgrim 13 = .ok (.iload_n 2, 1) := dk_28 (dk_at dksX11_isPilgrim_0 13 rfl rfl)
theorem dX11_isPilgrim_14 : decode cX11_isPilgrim 14 = .ok (.iadd, 1) := dk_96 (dk_at dksX11_isPilgrim_0 14 rfl rfl)
theorem dX11_isPilgrim_15 : decode cX11_isPilgrim 15 = .ok (.invokevirtual 115, 3) := dk_182 0 115 (dk_at dksX11_isPilgrim_0 15 rfl rfl)
theorem dX11_isPilgrim_18 : decode cX11_isPilgrim 18 = .ok (.invokestatic 141, 3) := dk_184 0 141 (dk_at dksX11_isPilgrim_0 18 rfl rfl)
theorem dX11_isPilgrim_21 : decode cX11_isPilgrim 21 = .ok (.ifCond .eq 40, 3) := dk_153 0 40 (dk_at dksX11_isPilgrim_0 21 rfl rfl)
theorem dX11_isPilgrim_24 : decode cX11_isPilgrim 24 = .ok (.iload_n 2, 1) := dk_28 (dk_at dksX11_isPilgrim_1 0 rfl rfl)
theorem dX11_isPilgrim_25 : decode cX11_isPilgrim 25 = .ok (.bipush 6, 2) := dk_16 6 (dk_at dksX11_isPilgrim_1 1 rfl rfl)
theorem dX11_isPilgrim_27 : decode cX11_isPilgrim 27 = .ok (.if_icmp .ge 26, 3) := dk_162 0 26 (dk_at dksX11_isPilgrim_1 3 rfl rfl)
theorem dX11_isPilgrim_30 : decode cX11_isPilgrim 30 = .ok (.bipush 27, 2) := dk_16 27 (dk_at dksX11_isPilgrim_1 6 rfl rfl)
theorem dX11_isPilgrim_32 : decode cX11_isPilgrim 32 = .ok (.iload_n 1, 1) := dk_27 (dk_at dksX11_isPilgrim_1 8 rfl rfl)
theorem dX11_isPilgrim_33 : decode cX11_isPilgrim 33 = .ok (.imul, 1) := dk_104 (dk_at dksX11_isPilgrim_1 9 rfl rfl)
theorem dX11_isPilgrim_34 : decode cX11_isPilgrim 34 = .ok (.aload_n 0, 1) := dk_42 (dk_at dksX11_isPilgrim_1 10 rfl rfl)
theorem dX11_isPilgrim_35 : decode cX11_isPilgrim 35 = .ok (.aload_n 0, 1) := dk_42 (dk_at dksX11_isPilgrim_1 11 rfl rfl)
theorem dX11_isPilgrim_36 : decode cX11_isPilgrim 36 = .ok (.getfield 112, 3) := dk_180 0 112 (dk_at dksX11_isPilgrim_1 12 rfl rfl)
theorem dX11_isPilgrim_39 : decode cX11_isPilgrim 39 = .ok (.iload_n 2, 1) := dk_28 (dk_at dksX11_isPilgrim_1 15 rfl rfl)
theorem dX11_isPilgrim_40 : decode cX11_isPilgrim 40 = .ok (.iadd, 1) := dk_96 (dk_at dksX11_isPilgrim_1 16 rfl rfl)
theorem dX11_isPilgrim_41 : decode cX11_isPilgrim 41 = .ok (.invokevirtual 115, 3) := dk_182 0 115 (dk_at dksX11_isPilgrim_1 17 rfl rfl)
theorem dX11_isPilgrim_44 : decode cX11_isPilgrim 44 = .ok (.iadd, 1) := dk_96 (dk_at dksX11_isPilgrim_1 20 rfl rfl)
theorem dX11_isPilgrim_45 : decode cX11_isPilgrim 45 = .ok (.bipush 97, 2) := dk_16 97 (dk_at dksX11_isPilgrim_1 21 rfl rfl)
theorem dX11_isPilgrim_47 : decode cX11_isPilgrim 47 = .ok (.isub, 1) := dk_100 (dk_at dksX11_isPilgrim_1 23 rfl rfl)
theorem dX11_isPilgrim_48 : decode cX11_isPilgrim 48 = .ok (.iconst 1, 1) := dk_4 (dk_at dksX11_isPilgrim_2 0 rfl rfl)
theorem dX11_isPilgrim_49 : decode cX11_isPilgrim 49 = .ok (.iadd, 1) := dk_96 (dk_at dksX11_isPilgrim_2 1 rfl rfl)
theorem dX11_isPilgrim_50 : decode cX11_isPilgrim 50 = .ok (.goto 4, 3) := dk_167 0 4 (dk_at dksX11_isPilgrim_2 2 rfl rfl)
theorem dX11_isPilgrim_53 : decode cX11_isPilgrim 53 = .ok (.iload_n 1, 1) := dk_27 (dk_at dksX11_isPilgrim_2 5 rfl rfl)
theorem dX11_isPilgrim_54 : decode cX11_isPilgrim 54 = .ok (.istore_n 1, 1) := dk_60 (dk_at dksX11_isPilgrim_2 6 rfl rfl)
theorem dX11_isPilgrim_55 : decode cX11_isPilgrim 55 = .ok (.iinc 2 1, 3) := dk_132 2 1 (dk_at dksX11_isPilgrim_2 7 rfl rfl)
theorem dX11_isPilgrim_58 : decode cX11_isPilgrim 58 = .ok (.goto (-50), 3) := dk_167 255 206 (dk_at dksX11_isPilgrim_2 10 rfl rfl)
theorem dX11_isPilgrim_61 : decode cX11_isPilgrim 61 = .ok (.iload_n 2, 1) := dk_28 (dk_at dksX11_isPilgrim_2 13 rfl rfl)
theorem dX11_isPilgrim_62 : decode cX11_isPilgrim 62 = .ok (.bipush 7, 2) := dk_16 7 (dk_at dksX11_isPilgrim_2 14 rfl rfl)
theorem dX11_isPilgrim_64 : decode cX11_isPilgrim 64 = .ok (.if_icmp .ne 42, 3) := dk_160 0 42 (dk_at dksX11_isPilgrim_2 16 rfl rfl)
theorem dX11_isPilgrim_67 : decode cX11_isPilgrim 67 = .ok (.iload_n 1, 1) := dk_27 (dk_at dksX11_isPilgrim_2 19 rfl rfl)
theorem dX11_isPilgrim_68 : decode cX11_isPilgrim 68 = .ok (.bipush 16, 2) := dk_16 16 (dk_at dksX11_isPilgrim_2 20 rfl rfl)
theorem dX11_isPilgrim_70 : decode cX11_isPilgrim 70 = .ok (.bipush 9, 2) := dk_16 9 (dk_at dksX11_isPilgrim_2 22 rfl rfl)
theorem dX11_isPilgrim_72 : decode cX11_isPilgrim 72 = .ok (.bipush 12, 2) := dk_16 12 (dk_at dksX11_isPilgrim_3 0 rfl rfl)
theorem dX11_isPilgrim_74 : decode cX11_isPilgrim 74 = .ok (.bipush 7, 2) := dk_16 7 (dk_at dksX11_isPilgrim_3 2 rfl rfl)
theorem dX11_isPilgrim_76 : decode cX11_isPilgrim 76 = .ok (.bipush 18, 2) := dk_16 18 (dk_at dksX11_isPilgrim_3 4 rfl rfl)
theorem dX11_isPilgrim_78 : decode cX11_isPilgrim 78 = .ok (.bipush 9, 2) := dk_16 9 (dk_at dksX11_isPilgrim_3 6 rfl rfl)
theorem dX11_isPilgrim_80 : decode cX11_isPilgrim 80 = .ok (.invokestatic 148, 3) := dk_184 0 148 (dk_at dksX11_isPilgrim_3 8 rfl rfl)
theorem dX11_isPilgrim_83 : decode cX11_isPilgrim 83 = .ok (.if_icmp .ne 23, 3) := dk_160 0 23 (dk_at dksX11_isPilgrim_3 11 rfl rfl)
theorem dX11_isPilgrim_86 : decode cX11_isPilgrim 86 = .ok (.aload_n 0, 1) := dk_42 (dk_at dksX11_isPilgrim_3 14 rfl rfl)
theorem dX11_isPilgrim_87 : decode cX11_isPilgrim 87 = .ok (.aload_n 0, 1) := dk_42 (dk_at dksX11_isPilgrim_3 15 rfl rfl)
theorem dX11_isPilgrim_88 : decode cX11_isPilgrim 88 = .ok (.getfield 112, 3) := dk_180 0 112 (dk_at dksX11_isPilgrim_3 16 rfl rfl)
theorem dX11_isPilgrim_91 : decode cX11_isPilgrim 91 = .ok (.bipush 6, 2) := dk_16 6 (dk_at dksX11_isPilgrim_3 19 rfl rfl)
theorem dX11_isPilgrim_93 : decode cX11_isPilgrim 93 = .ok (.iadd, 1) := dk_96 (dk_at dksX11_isPilgrim_3 21 rfl rfl)
theorem dX11_isPilgrim_94 : decode cX11_isPilgrim 94 = .ok (.invokevirtual 115, 3) := dk_182 0 115 (dk_at dksX11_isPilgrim_4 0 rfl rfl)
theorem dX11_isPilgrim_97 : decode cX11_isPilgrim 97 = .ok (.bipush 109, 2) := dk_16 109 (dk_at dksX11_isPilgrim_4 3 rfl rfl)
theorem dX11_isPilgrim_99 : decode cX11_isPilgrim 99 = .ok (.if_icmp .ne 7, 3) := dk_160 0 7 (dk_at dksX11_isPilgrim_4 5 rfl rfl)
theorem dX11_isPilgrim_102 : decode cX11_isPilgrim 102 = .ok (.iconst 1, 1) := dk_4 (dk_at dksX11_isPilgrim_4 8 rfl rfl)
theorem dX11_isPilgrim_103 : decode cX11_isPilgrim 103 = .ok (.goto 4, 3) := dk_167 0 4 (dk_at dksX11_isPilgrim_4 9 rfl rfl)
theorem dX11_isPilgrim_106 : decode cX11_isPilgrim 106 = .ok (.iconst 0, 1) := dk_3 (dk_at dksX11_isPilgrim_4 12 rfl rfl)
theorem dX11_isPilgrim_107 : decode cX11_isPilgrim 107 = .ok (.ireturn, 1) := dk_172 (dk_at dksX11_isPilgrim_4 13 rfl rfl)
def dkwX11_wrong_0 : List UInt8 := [42, 180, 0, 119, 154, 0, 13, 42, 27, 181, 0, 119, 42, 28, 181, 0, 122, 177]
abbrev dktX11_wrong_0 : List UInt8 := dkwX11_wrong_0 ++ []
theorem dksX11_wrong_0 : cX11_wrong.data.toList.drop 0 = dktX11_wrong_0 := by decide +kernel
theorem dX11_wrong_0 : decode cX11_wrong 0 = .ok (.aload_n 0, 1) := dk_42 (dk_at dksX11_wrong_0 0 rfl rfl)
theorem dX11_wrong_1 : decode cX11_wrong 1 = .ok (.getfield 119, 3) := dk_180 0 119 (dk_at dksX11_wrong_0 1 rfl rfl)
theorem dX11_wrong_4 : decode cX11_wrong 4 = .ok (.ifCond .ne 13, 3) := dk_154 0 13 (dk_at dksX11_wrong_0 4 rfl rfl)
theorem dX11_wrong_7 : decode cX11_wrong 7 = .ok (.aload_n 0, 1) := dk_42 (dk_at dksX11_wrong_0 7 rfl rfl)
theorem dX11_wrong_8 : decode cX11_wrong 8 = .ok (.iload_n 1, 1) := dk_27 (dk_at dksX11_wrong_0 8 rfl rfl)
theorem dX11_wrong_9 : decode cX11_wrong 9 = .ok (.putfield 119, 3) := dk_181 0 119 (dk_at dksX11_wrong_0 9 rfl rfl)
theorem dX11_wrong_12 : decode cX11_wrong 12 = .ok (.aload_n 0, 1) := dk_42 (dk_at dksX11_wrong_0 12 rfl rfl)
theorem dX11_wrong_13 : decode cX11_wrong 13 = .ok (.iload_n 2, 1) := dk_28 (dk_at dksX11_wrong_0 13 rfl rfl)
theorem dX11_wrong_14 : decode cX11_wrong 14 = .ok (.putfield 122, 3) := dk_181 0 122 (dk_at dksX11_wrong_0 14 rfl rfl)
theorem dX11_wrong_17 : decode cX11_wrong 17 = .ok (.return_, 1) := dk_177 (dk_at dksX11_wrong_0 17 rfl rfl)
def dkwX11_mostOf_0 : List UInt8 := [26, 4, 160, 0, 8, 16, 10, 167, 0, 5, 16, 8, 172]
abbrev dktX11_mostOf_0 : List UInt8 := dkwX11_mostOf_0 ++ []
theorem dksX11_mostOf_0 : cX11_mostOf.data.toList.drop 0 = dktX11_mostOf_0 := by decide +kernel
theorem dX11_mostOf_0 : decode cX11_mostOf 0 = .ok (.iload_n 0, 1) := dk_26 (dk_at dksX11_mostOf_0 0 rfl rfl)
theorem dX11_mostOf_1 : decode cX11_mostOf 1 = .ok (.iconst 1, 1) := dk_4 (dk_at dksX11_mostOf_0 1 rfl rfl)
theorem dX11_mostOf_2 : decode cX11_mostOf 2 = .ok (.if_icmp .ne 8, 3) := dk_160 0 8 (dk_at dksX11_mostOf_0 2 rfl rfl)
theorem dX11_mostOf_5 : decode cX11_mostOf 5 = .ok (.bipush 10, 2) := dk_16 10 (dk_at dksX11_mostOf_0 5 rfl rfl)
theorem dX11_mostOf_7 : decode cX11_mostOf 7 = .ok (.goto 5, 3) := dk_167 0 5 (dk_at dksX11_mostOf_0 7 rfl rfl)
theorem dX11_mostOf_10 : decode cX11_mostOf 10 = .ok (.bipush 8, 2) := dk_16 8 (dk_at dksX11_mostOf_0 10 rfl rfl)
theorem dX11_mostOf_12 : decode cX11_mostOf 12 = .ok (.ireturn, 1) := dk_172 (dk_at dksX11_mostOf_0 12 rfl rfl)
def dkwX11_skipWord_1 : List UInt8 := [167, 255, 232, 177]
abbrev dktX11_skipWord_1 : List UInt8 := dkwX11_skipWord_1 ++ []
def dkwX11_skipWord_0 : List UInt8 := [42, 42, 180, 0, 112, 182, 0, 115, 184, 0, 141, 153, 0, 16, 42, 89, 180, 0, 112, 4, 96, 181, 0, 112]
abbrev dktX11_skipWord_0 : List UInt8 := dkwX11_skipWord_0 ++ dktX11_skipWord_1
theorem dksX11_skipWord_0 : cX11_skipWord.data.toList.drop 0 = dktX11_skipWord_0 := by decide +kernel
theorem dksX11_skipWord_1 : cX11_skipWord.data.toList.drop 24 = dktX11_skipWord_1 := dk_seg dksX11_skipWord_0 24 rfl rfl
theorem dX11_skipWord_0 : decode cX11_skipWord 0 = .ok (.aload_n 0, 1) := dk_42 (dk_at dksX11_skipWord_0 0 rfl rfl)
theorem dX11_skipWord_1 : decode cX11_skipWord 1 = .ok (.aload_n 0, 1) := dk_42 (dk_at dksX11_skipWord_0 1 rfl rfl)
theorem dX11_skipWord_2 : decode cX11_skipWord 2 = .ok (.getfield 112, 3) := dk_180 0 112 (dk_at dksX11_skipWord_0 2 rfl rfl)
theorem dX11_skipWord_5 : decode cX11_skipWord 5 = .ok (.invokevirtual 115, 3) := dk_182 0 115 (dk_at dksX11_skipWord_0 5 rfl rfl)
theorem dX11_skipWord_8 : decode cX11_skipWord 8 = .ok (.invokestatic 141, 3) := dk_184 0 141 (dk_at dksX11_skipWord_0 8 rfl rfl)
theorem dX11_skipWord_11 : decode cX11_skipWord 11 = .ok (.ifCond .eq 16, 3) := dk_153 0 16 (dk_at dksX11_skipWord_0 11 rfl rfl)
theorem dX11_skipWord_14 : decode cX11_skipWord 14 = .ok (.aload_n 0, 1) := dk_42 (dk_at dksX11_skipWord_0 14 rfl rfl)
theorem dX11_skipWord_15 : decode cX11_skipWord 15 = .ok (.dup, 1) := dk_89 (dk_at dksX11_skipWord_0 15 rfl rfl)
theorem dX11_skipWord_16 : decode cX11_skipWord 16 = .ok (.getfield 112, 3) := dk_180 0 112 (dk_at dksX11_skipWord_0 16 rfl rfl)
theorem dX11_skipWord_19 : decode cX11_skipWord 19 = .ok (.iconst 1, 1) := dk_4 (dk_at dksX11_skipWord_0 19 rfl rfl)
theorem dX11_skipWord_20 : decode cX11_skipWord 20 = .ok (.iadd, 1) := dk_96 (dk_at dksX11_skipWord_0 20 rfl rfl)
theorem dX11_skipWord_21 : decode cX11_skipWord 21 = .ok (.putfield 112, 3) := dk_181 0 112 (dk_at dksX11_skipWord_0 21 rfl rfl)
theorem dX11_skipWord_24 : decode cX11_skipWord 24 = .ok (.goto (-24), 3) := dk_167 255 232 (dk_at dksX11_skipWord_1 0 rfl rfl)
theorem dX11_skipWord_27 : decode cX11_skipWord 27 = .ok (.return_, 1) := dk_177 (dk_at dksX11_skipWord_1 3 rfl rfl)
def dkwX11_number_5 : List UInt8 := [154, 0, 9, 42, 5, 29, 182, 0, 132, 42, 180, 0, 119, 154, 0, 8, 21, 4, 167, 0, 4, 3, 172]
abbrev dktX11_number_5 : List UInt8 := dkwX11_number_5 ++ []
def dkwX11_number_4 : List UInt8 := [54, 4, 42, 89, 180, 0, 112, 4, 96, 181, 0, 112, 167, 255, 197, 21, 4, 27, 28, 184, 0, 137]
abbrev dktX11_number_4 : List UInt8 := dkwX11_number_4 ++ dktX11_number_5
def dkwX11_number_3 : List UInt8 := [182, 0, 115, 96, 16, 48, 100, 54, 4, 21, 4, 18, 136, 164, 0, 8, 18, 136, 167, 0, 5, 21, 4]
abbrev dktX11_number_3 : List UInt8 := dkwX11_number_3 ++ dktX11_number_4
def dkwX11_number_2 : List UInt8 := [180, 0, 112, 182, 0, 115, 184, 0, 128, 153, 0, 51, 16, 10, 21, 4, 104, 42, 42, 180, 0, 112]
abbrev dktX11_number_2 : List UInt8 := dkwX11_number_2 ++ dktX11_number_3
def dkwX11_number_1 : List UInt8 := [180, 0, 112, 182, 0, 115, 184, 0, 128, 154, 0, 12, 42, 4, 42, 180, 0, 112, 182, 0, 132, 42, 42]
abbrev dktX11_number_1 : List UInt8 := dkwX11_number_1 ++ dktX11_number_2
def dkwX11_number_0 : List UInt8 := [42, 180, 0, 119, 153, 0, 5, 3, 172, 42, 182, 0, 125, 42, 180, 0, 112, 62, 3, 54, 4, 42, 42]
abbrev dktX11_number_0 : List UInt8 := dkwX11_number_0 ++ dktX11_number_1
theorem dksX11_number_0 : cX11_number.data.toList.drop 0 = dktX11_number_0 := by decide +kernel
theorem dksX11_number_1 : cX11_number.data.toList.drop 23 = dktX11_number_1 := dk_seg dksX11_number_0 23 rfl rfl
theorem dksX11_number_2 : cX11_number.data.toList.drop 46 = dktX11_number_2 := dk_seg dksX11_number_1 23 rfl rfl
theorem dksX11_number_3 : cX11_number.data.toList.drop 68 = dktX11_number_3 := dk_seg dksX11_number_2 22 rfl rfl
theorem dksX11_number_4 : cX11_number.data.toList.drop 91 = dktX11_number_4 := dk_seg dksX11_number_3 23 rfl rfl
theorem dksX11_number_5 : cX11_number.data.toList.drop 113 = dktX11_number_5 := dk_seg dksX11_number_4 22 rfl rfl
theorem dX11_number_0 : decode cX11_number 0 = .ok (.aload_n 0, 1) := dk_42 (dk_at dksX11_number_0 0 rfl rfl)
theorem dX11_number_1 : decode cX11_number 1 = .ok (.getfield 119, 3) := dk_180 0 119 (dk_at dksX11_number_0 1 rfl rfl)
theorem dX11_number_4 : decode cX11_number 4 = .ok (.ifCond .eq 5, 3) := dk_153 0 5 (dk_at dksX11_number_0 4 rfl rfl)
theorem dX11_number_7 : decode cX11_number 7 = .ok (.iconst 0, 1) := dk_3 (dk_at dksX11_number_0 7 rfl rfl)
theorem dX11_number_8 : decode cX11_number 8 = .ok (.ireturn, 1) := dk_172 (dk_at dksX11_number_0 8 rfl rfl)
theorem dX11_number_9 : decode cX11_number 9 = .ok (.aload_n 0, 1) := dk_42 (dk_at dksX11_number_0 9 rfl rfl)
theorem dX11_number_10 : decode cX11_number 10 = .ok (.invokevirtual 125, 3) := dk_182 0 125 (dk_at dksX11_number_0 10 rfl rfl)
theorem dX11_number_13 : decode cX11_number 13 = .ok (.aload_n 0, 1) := dk_42 (dk_at dksX11_number_0 13 rfl rfl)
theorem dX11_number_14 : decode cX11_number 14 = .ok (.getfield 112, 3) := dk_180 0 112 (dk_at dksX11_number_0 14 rfl rfl)
theorem dX11_number_17 : decode cX11_number 17 = .ok (.istore_n 3, 1) := dk_62 (dk_at dksX11_number_0 17 rfl rfl)
theorem dX11_number_18 : decode cX11_number 18 = .ok (.iconst 0, 1) := dk_3 (dk_at dksX11_number_0 18 rfl rfl)
theorem dX11_number_19 : decode cX11_number 19 = .ok (.istore 4, 2) := dk_54 4 (dk_at dksX11_number_0 19 rfl rfl)
theorem dX11_number_21 : decode cX11_number 21 = .ok (.aload_n 0, 1) := dk_42 (dk_at dksX11_number_0 21 rfl rfl)
theorem dX11_number_22 : decode cX11_number 22 = .ok (.aload_n 0, 1) := dk_42 (dk_at dksX11_number_0 22 rfl rfl)
theorem dX11_number_23 : decode cX11_number 23 = .ok (.getfield 112, 3) := dk_180 0 112 (dk_at dksX11_number_1 0 rfl rfl)
theorem dX11_number_26 : decode cX11_number 26 = .ok (.invokevirtual 115, 3) := dk_182 0 115 (dk_at dksX11_number_1 3 rfl rfl)
theorem dX11_number_29 : decode cX11_number 29 = .ok (.invokestatic 128, 3) := dk_184 0 128 (dk_at dksX11_number_1 6 rfl rfl)
theorem dX11_number_32 : decode cX11_number 32 = .ok (.ifCond .ne 12, 3) := dk_154 0 12 (dk_at dksX11_number_1 9 rfl rfl)
theorem dX11_number_35 : decode cX11_number 35 = .ok (.aload_n 0, 1) := dk_42 (dk_at dksX11_number_1 12 rfl rfl)
theorem dX11_number_36 : decode cX11_number 36 = .ok (.iconst 1, 1) := dk_4 (dk_at dksX11_number_1 13 rfl rfl)
theorem dX11_number_37 : decode cX11_number 37 = .ok (.aload_n 0, 1) := dk_42 (dk_at dksX11_number_1 14 rfl rfl)
theorem dX11_number_38 : decode cX11_number 38 = .ok (.getfield 112, 3) := dk_180 0 112 (dk_at dksX11_number_1 15 rfl rfl)
theorem dX11_number_41 : decode cX11_number 41 = .ok (.invokevirtual 132, 3) := dk_182 0 132 (dk_at dksX11_number_1 18 rfl rfl)
theorem dX11_number_44 : decode cX11_number 44 = .ok (.aload_n 0, 1) := dk_42 (dk_at dksX11_number_1 21 rfl rfl)
theorem dX11_number_45 : decode cX11_number 45 = .ok (.aload_n 0, 1) := dk_42 (dk_at dksX11_number_1 22 rfl rfl)
theorem dX11_number_46 : decode cX11_number 46 = .ok (.getfield 112, 3) := dk_180 0 112 (dk_at dksX11_number_2 0 rfl rfl)
theorem dX11_number_49 : decode cX11_number 49 = .ok (.invokevirtual 115, 3) := dk_182 0 115 (dk_at dksX11_number_2 3 rfl rfl)
theorem dX11_number_52 : decode cX11_number 52 = .ok (.invokestatic 128, 3) := dk_184 0 128 (dk_at dksX11_number_2 6 rfl rfl)
theorem dX11_number_55 : decode cX11_number 55 = .ok (.ifCond .eq 51, 3) := dk_153 0 51 (dk_at dksX11_number_2 9 rfl rfl)
theorem dX11_number_58 : decode cX11_number 58 = .ok (.bipush 10, 2) := dk_16 10 (dk_at dksX11_number_2 12 rfl rfl)
theorem dX11_number_60 : decode cX11_number 60 = .ok (.iload 4, 2) := dk_21 4 (dk_at dksX11_number_2 14 rfl rfl)
theorem dX11_number_62 : decode cX11_number 62 = .ok (.imul, 1) := dk_104 (dk_at dksX11_number_2 16 rfl rfl)
theorem dX11_number_63 : decode cX11_number 63 = .ok (.aload_n 0, 1) := dk_42 (dk_at dksX11_number_2 17 rfl rfl)
theorem dX11_number_64 : decode cX11_number 64 = .ok (.aload_n 0, 1) := dk_42 (dk_at dksX11_number_2 18 rfl rfl)
theorem dX11_number_65 : decode cX11_number 65 = .ok (.getfield 112, 3) := dk_180 0 112 (dk_at dksX11_number_2 19 rfl rfl)
theorem dX11_number_68 : decode cX11_number 68 = .ok (.invokevirtual 115, 3) := dk_182 0 115 (dk_at dksX11_number_3 0 rfl rfl)
theorem dX11_number_71 : decode cX11_number 71 = .ok (.iadd, 1) := dk_96 (dk_at dksX11_number_3 3 rfl rfl)
theorem dX11_number_72 : decode cX11_number 72 = .ok (.bipush 48, 2) := dk_16 48 (dk_at dksX11_number_3 4 rfl rfl)
theorem dX11_number_74 : decode cX11_number 74 = .ok (.isub, 1) := dk_100 (dk_at dksX11_number_3 6 rfl rfl)
theorem dX11_number_75 : decode cX11_number 75 = .ok (.istore 4, 2) := dk_54 4 (dk_at dksX11_number_3 7 rfl rfl)
theorem dX11_number_77 : decode cX11_number 77 = .ok (.iload 4, 2) := dk_21 4 (dk_at dksX11_number_3 9 rfl rfl)
theorem dX11_number_79 : decode cX11_number 79 = .ok (.ldc 136, 2) := dk_18 136 (dk_at dksX11_number_3 11 rfl rfl)
theorem dX11_number_81 : decode cX11_number 81 = .ok (.if_icmp .le 8, 3) := dk_164 0 8 (dk_at dksX11_number_3 13 rfl rfl)
theorem dX11_number_84 : decode cX11_number 84 = .ok (.ldc 136, 2) := dk_18 136 (dk_at dksX11_number_3 16 rfl rfl)
theorem dX11_number_86 : decode cX11_number 86 = .ok (.goto 5, 3) := dk_167 0 5 (dk_at dksX11_number_3 18 rfl rfl)
theorem dX11_number_89 : decode cX11_number 89 = .ok (.iload 4, 2) := dk_21 4 (dk_at dksX11_number_3 21 rfl rfl)
theorem dX11_number_91 : decode cX11_number 91 = .ok (.istore 4, 2) := dk_54 4 (dk_at dksX11_number_4 0 rfl rfl)
theorem dX11_number_93 : decode cX11_number 93 = .ok (.aload_n 0, 1) := dk_42 (dk_at dksX11_number_4 2 rfl rfl)
theorem dX11_number_94 : decode cX11_number 94 = .ok (.dup, 1) := dk_89 (dk_at dksX11_number_4 3 rfl rfl)
theorem dX11_number_95 : decode cX11_number 95 = .ok (.getfield 112, 3) := dk_180 0 112 (dk_at dksX11_number_4 4 rfl rfl)
theorem dX11_number_98 : decode cX11_number 98 = .ok (.iconst 1, 1) := dk_4 (dk_at dksX11_number_4 7 rfl rfl)
theorem dX11_number_99 : decode cX11_number 99 = .ok (.iadd, 1) := dk_96 (dk_at dksX11_number_4 8 rfl rfl)
theorem dX11_number_100 : decode cX11_number 100 = .ok (.putfield 112, 3) := dk_181 0 112 (dk_at dksX11_number_4 9 rfl rfl)
theorem dX11_number_103 : decode cX11_number 103 = .ok (.goto (-59), 3) := dk_167 255 197 (dk_at dksX11_number_4 12 rfl rfl)
theorem dX11_number_106 : decode cX11_number 106 = .ok (.iload 4, 2) := dk_21 4 (dk_at dksX11_number_4 15 rfl rfl)
theorem dX11_number_108 : decode cX11_number 108 = .ok (.iload_n 1, 1) := dk_27 (dk_at dksX11_number_4 17 rfl rfl)
theorem dX11_number_109 : decode cX11_number 109 = .ok (.iload_n 2, 1) := dk_28 (dk_at dksX11_number_4 18 rfl rfl)
theorem dX11_number_110 : decode cX11_number 110 = .ok (.invokestatic 137, 3) := dk_184 0 137 (dk_at dksX11_number_4 19 rfl rfl)
theorem dX11_number_113 : decode cX11_number 113 = .ok (.ifCond .ne 9, 3) := dk_154 0 9 (dk_at dksX11_number_5 0 rfl rfl)
theorem dX11_number_116 : decode cX11_number 116 = .ok (.aload_n 0, 1) := dk_42 (dk_at dksX11_number_5 3 rfl rfl)
theorem dX11_number_117 : decode cX11_number 117 = .ok (.iconst 2, 1) := dk_5 (dk_at dksX11_number_5 4 rfl rfl)
theorem dX11_number_118 : decode cX11_number 118 = .ok (.iload_n 3, 1) := dk_29 (dk_at dksX11_number_5 5 rfl rfl)
theorem dX11_number_119 : decode cX11_number 119 = .ok (.invokevirtual 132, 3) := dk_182 0 132 (dk_at dksX11_number_5 6 rfl rfl)
theorem dX11_number_122 : decode cX11_number 122 = .ok (.aload_n 0, 1) := dk_42 (dk_at dksX11_number_5 9 rfl rfl)
theorem dX11_number_123 : decode cX11_number 123 = .ok (.getfield 119, 3) := dk_180 0 119 (dk_at dksX11_number_5 10 rfl rfl)
theorem dX11_number_126 : decode cX11_number 126 = .ok (.ifCond .ne 8, 3) := dk_154 0 8 (dk_at dksX11_number_5 13 rfl rfl)
theorem dX11_number_129 : decode cX11_number 129 = .ok (.iload 4, 2) := dk_21 4 (dk_at dksX11_number_5 16 rfl rfl)
theorem dX11_number_131 : decode cX11_number 131 = .ok (.goto 4, 3) := dk_167 0 4 (dk_at dksX11_number_5 18 rfl rfl)
theorem dX11_number_134 : decode cX11_number 134 = .ok (.iconst 0, 1) := dk_3 (dk_at dksX11_number_5 21 rfl rfl)
theorem dX11_number_135 : decode cX11_number 135 = .ok (.ireturn, 1) := dk_172 (dk_at dksX11_number_5 22 rfl rfl)
def dkwX11_isDigit_0 : List UInt8 := [26, 16, 48, 161, 0, 13, 26, 16, 57, 163, 0, 7, 4, 167, 0, 4, 3, 172]
abbrev dktX11_isDigit_0 : List UInt8 := dkwX11_isDigit_0 ++ []
theorem dksX11_isDigit_0 : cX11_isDigit.data.toList.drop 0 = dktX11_isDigit_0 := by decide +kernel
theorem dX11_isDigit_0 : decode cX11_isDigit 0 = .ok (.iload_n 0, 1) := dk_26 (dk_at dksX11_isDigit_0 0 rfl rfl)
theorem dX11_isDigit_1 : decode cX11_isDigit 1 = .ok (.bipush 48, 2) := dk_16 48 (dk_at dksX11_isDigit_0 1 rfl rfl)
theorem dX11_isDigit_3 : decode cX11_isDigit 3 = .ok (.if_icmp .lt 13, 3) := dk_161 0 13 (dk_at dksX11_isDigit_0 3 rfl rfl)
theorem dX11_isDigit_6 : decode cX11_isDigit 6 = .ok (.iload_n 0, 1) := dk_26 (dk_at dksX11_isDigit_0 6 rfl rfl)
theorem dX11_isDigit_7 : decode cX11_isDigit 7 = .ok (.bipush 57, 2) := dk_16 57 (dk_at dksX11_isDigit_0 7 rfl rfl)
theorem dX11_isDigit_9 : decode cX11_isDigit 9 = .ok (.if_icmp .gt 7, 3) := dk_163 0 7 (dk_at dksX11_isDigit_0 9 rfl rfl)
theorem dX11_isDigit_12 : decode cX11_isDigit 12 = .ok (.iconst 1, 1) := dk_4 (dk_at dksX11_isDigit_0 12 rfl rfl)
theorem dX11_isDigit_13 : decode cX11_isDigit 13 = .ok (.goto 4, 3) := dk_167 0 4 (dk_at dksX11_isDigit_0 13 rfl rfl)
theorem dX11_isDigit_16 : decode cX11_isDigit 16 = .ok (.iconst 0, 1) := dk_3 (dk_at dksX11_isDigit_0 16 rfl rfl)
theorem dX11_isDigit_17 : decode cX11_isDigit 17 = .ok (.ireturn, 1) := dk_172 (dk_at dksX11_isDigit_0 17 rfl rfl)
def dkwX11_sign_1 : List UInt8 := [42, 89, 180, 0, 112, 4, 96, 181, 0, 112, 167, 0, 12, 42, 4, 42, 180, 0, 112, 182, 0, 132, 177]
abbrev dktX11_sign_1 : List UInt8 := dkwX11_sign_1 ++ []
def dkwX11_sign_0 : List UInt8 := [42, 180, 0, 119, 153, 0, 4, 177, 42, 182, 0, 125, 42, 42, 180, 0, 112, 182, 0, 115, 27, 160, 0, 16]
abbrev dktX11_sign_0 : List UInt8 := dkwX11_sign_0 ++ dktX11_sign_1
theorem dksX11_sign_0 : cX11_sign.data.toList.drop 0 = dktX11_sign_0 := by decide +kernel
theorem dksX11_sign_1 : cX11_sign.data.toList.drop 24 = dktX11_sign_1 := dk_seg dksX11_sign_0 24 rfl rfl
theorem dX11_sign_0 : decode cX11_sign 0 = .ok (.aload_n 0, 1) := dk_42 (dk_at dksX11_sign_0 0 rfl rfl)
theorem dX11_sign_1 : decode cX11_sign 1 = .ok (.getfield 119, 3) := dk_180 0 119 (dk_at dksX11_sign_0 1 rfl rfl)
theorem dX11_sign_4 : decode cX11_sign 4 = .ok (.ifCond .eq 4, 3) := dk_153 0 4 (dk_at dksX11_sign_0 4 rfl rfl)
theorem dX11_sign_7 : decode cX11_sign 7 = .ok (.return_, 1) := dk_177 (dk_at dksX11_sign_0 7 rfl rfl)
theorem dX11_sign_8 : decode cX11_sign 8 = .ok (.aload_n 0, 1) := dk_42 (dk_at dksX11_sign_0 8 rfl rfl)
theorem dX11_sign_9 : decode cX11_sign 9 = .ok (.invokevirtual 125, 3) := dk_182 0 125 (dk_at dksX11_sign_0 9 rfl rfl)
theorem dX11_sign_12 : decode cX11_sign 12 = .ok (.aload_n 0, 1) := dk_42 (dk_at dksX11_sign_0 12 rfl rfl)
theorem dX11_sign_13 : decode cX11_sign 13 = .ok (.aload_n 0, 1) := dk_42 (dk_at dksX11_sign_0 13 rfl rfl)
theorem dX11_sign_14 : decode cX11_sign 14 = .ok (.getfield 112, 3) := dk_180 0 112 (dk_at dksX11_sign_0 14 rfl rfl)
theorem dX11_sign_17 : decode cX11_sign 17 = .ok (.invokevirtual 115, 3) := dk_182 0 115 (dk_at dksX11_sign_0 17 rfl rfl)
theorem dX11_sign_20 : decode cX11_sign 20 = .ok (.iload_n 1, 1) := dk_27 (dk_at dksX11_sign_0 20 rfl rfl)
theorem dX11_sign_21 : decode cX11_sign 21 = .ok (.if_icmp .ne 16, 3) := dk_160 0 16 (dk_at dksX11_sign_0 21 rfl rfl)
theorem dX11_sign_24 : decode cX11_sign 24 = .ok (.aload_n 0, 1) := dk_42 (dk_at dksX11_sign_1 0 rfl rfl)
theorem dX11_sign_25 : decode cX11_sign 25 = .ok (.dup, 1) := dk_89 (dk_at dksX11_sign_1 1 rfl rfl)
theorem dX11_sign_26 : decode cX11_sign 26 = .ok (.getfield 112, 3) := dk_180 0 112 (dk_at dksX11_sign_1 2 rfl rfl)
theorem dX11_sign_29 : decode cX11_sign 29 = .ok (.iconst 1, 1) := dk_4 (dk_at dksX11_sign_1 5 rfl rfl)
theorem dX11_sign_30 : decode cX11_sign 30 = .ok (.iadd, 1) := dk_96 (dk_at dksX11_sign_1 6 rfl rfl)
theorem dX11_sign_31 : decode cX11_sign 31 = .ok (.putfield 112, 3) := dk_181 0 112 (dk_at dksX11_sign_1 7 rfl rfl)
theorem dX11_sign_34 : decode cX11_sign 34 = .ok (.goto 12, 3) := dk_167 0 12 (dk_at dksX11_sign_1 10 rfl rfl)
theorem dX11_sign_37 : decode cX11_sign 37 = .ok (.aload_n 0, 1) := dk_42 (dk_at dksX11_sign_1 13 rfl rfl)
theorem dX11_sign_38 : decode cX11_sign 38 = .ok (.iconst 1, 1) := dk_4 (dk_at dksX11_sign_1 14 rfl rfl)
theorem dX11_sign_39 : decode cX11_sign 39 = .ok (.aload_n 0, 1) := dk_42 (dk_at dksX11_sign_1 15 rfl rfl)
theorem dX11_sign_40 : decode cX11_sign 40 = .ok (.getfield 112, 3) := dk_180 0 112 (dk_at dksX11_sign_1 16 rfl rfl)
theorem dX11_sign_43 : decode cX11_sign 43 = .ok (.invokevirtual 132, 3) := dk_182 0 132 (dk_at dksX11_sign_1 19 rfl rfl)
theorem dX11_sign_46 : decode cX11_sign 46 = .ok (.return_, 1) := dk_177 (dk_at dksX11_sign_1 22 rfl rfl)
def dkwX11_ends_0 : List UInt8 := [42, 42, 180, 0, 122, 181, 0, 9, 42, 180, 0, 119, 16, 10, 100, 172]
abbrev dktX11_ends_0 : List UInt8 := dkwX11_ends_0 ++ []
theorem dksX11_ends_0 : cX11_ends.data.toList.drop 0 = dktX11_ends_0 := by decide +kernel
theorem dX11_ends_0 : decode cX11_ends 0 = .ok (.aload_n 0, 1) := dk_42 (dk_at dksX11_ends_0 0 rfl rfl)
theorem dX11_ends_1 : decode cX11_ends 1 = .ok (.aload_n 0, 1) := dk_42 (dk_at dksX11_ends_0 1 rfl rfl)
theorem dX11_ends_2 : decode cX11_ends 2 = .ok (.getfield 122, 3) := dk_180 0 122 (dk_at dksX11_ends_0 2 rfl rfl)
theorem dX11_ends_5 : decode cX11_ends 5 = .ok (.putfield 9, 3) := dk_181 0 9 (dk_at dksX11_ends_0 5 rfl rfl)
theorem dX11_ends_8 : decode cX11_ends 8 = .ok (.aload_n 0, 1) := dk_42 (dk_at dksX11_ends_0 8 rfl rfl)
theorem dX11_ends_9 : decode cX11_ends 9 = .ok (.getfield 119, 3) := dk_180 0 119 (dk_at dksX11_ends_0 9 rfl rfl)
theorem dX11_ends_12 : decode cX11_ends 12 = .ok (.bipush 10, 2) := dk_16 10 (dk_at dksX11_ends_0 12 rfl rfl)
theorem dX11_ends_14 : decode cX11_ends 14 = .ok (.isub, 1) := dk_100 (dk_at dksX11_ends_0 14 rfl rfl)
theorem dX11_ends_15 : decode cX11_ends 15 = .ok (.ireturn, 1) := dk_172 (dk_at dksX11_ends_0 15 rfl rfl)
def dkwX11_law_5 : List UInt8 := [180, 0, 52, 42, 180, 0, 200, 184, 0, 196, 4, 172]
abbrev dktX11_law_5 : List UInt8 := dkwX11_law_5 ++ []
def dkwX11_law_4 : List UInt8 := [182, 0, 193, 172, 42, 2, 181, 0, 9, 42, 42, 180, 0, 215, 181, 0, 200, 42, 180, 0, 55, 42]
abbrev dktX11_law_4 : List UInt8 := dkwX11_law_4 ++ dktX11_law_5
def dkwX11_law_3 : List UInt8 := [180, 0, 109, 162, 0, 12, 42, 4, 42, 180, 0, 112, 182, 0, 132, 42, 180, 0, 119, 153, 0, 8, 42]
abbrev dktX11_law_3 : List UInt8 := dkwX11_law_3 ++ dktX11_law_4
def dkwX11_law_2 : List UInt8 := [3, 181, 0, 215, 42, 182, 0, 239, 42, 182, 0, 125, 42, 180, 0, 119, 154, 0, 23, 42, 180, 0, 112, 42]
abbrev dktX11_law_2 : List UInt8 := dkwX11_law_2 ++ dktX11_law_3
def dkwX11_law_1 : List UInt8 := [164, 0, 7, 4, 167, 0, 4, 3, 4, 4, 182, 0, 183, 153, 0, 5, 3, 172, 42, 27, 182, 0, 187, 42]
abbrev dktX11_law_1 : List UInt8 := dkwX11_law_1 ++ dktX11_law_2
def dkwX11_law_0 : List UInt8 := [42, 3, 181, 0, 103, 42, 27, 3, 42, 180, 0, 106, 184, 0, 137, 153, 0, 10, 27, 17, 0, 150]
abbrev dktX11_law_0 : List UInt8 := dkwX11_law_0 ++ dktX11_law_1
theorem dksX11_law_0 : cX11_law.data.toList.drop 0 = dktX11_law_0 := by decide +kernel
theorem dksX11_law_1 : cX11_law.data.toList.drop 22 = dktX11_law_1 := dk_seg dksX11_law_0 22 rfl rfl
theorem dksX11_law_2 : cX11_law.data.toList.drop 46 = dktX11_law_2 := dk_seg dksX11_law_1 24 rfl rfl
theorem dksX11_law_3 : cX11_law.data.toList.drop 70 = dktX11_law_3 := dk_seg dksX11_law_2 24 rfl rfl
theorem dksX11_law_4 : cX11_law.data.toList.drop 93 = dktX11_law_4 := dk_seg dksX11_law_3 23 rfl rfl
theorem dksX11_law_5 : cX11_law.data.toList.drop 115 = dktX11_law_5 := dk_seg dksX11_law_4 22 rfl rfl
theorem dX11_law_0 : decode cX11_law 0 = .ok (.aload_n 0, 1) := dk_42 (dk_at dksX11_law_0 0 rfl rfl)
theorem dX11_law_1 : decode cX11_law 1 = .ok (.iconst 0, 1) := dk_3 (dk_at dksX11_law_0 1 rfl rfl)
theorem dX11_law_2 : decode cX11_law 2 = .ok (.putfield 103, 3) := dk_181 0 103 (dk_at dksX11_law_0 2 rfl rfl)
theorem dX11_law_5 : decode cX11_law 5 = .ok (.aload_n 0, 1) := dk_42 (dk_at dksX11_law_0 5 rfl rfl)
theorem dX11_law_6 : decode cX11_law 6 = .ok (.iload_n 1, 1) := dk_27 (dk_at dksX11_law_0 6 rfl rfl)
theorem dX11_law_7 : decode cX11_law 7 = .ok (.iconst 0, 1) := dk_3 (dk_at dksX11_law_0 7 rfl rfl)
theorem dX11_law_8 : decode cX11_law 8 = .ok (.aload_n 0, 1) := dk_42 (dk_at dksX11_law_0 8 rfl rfl)
theorem dX11_law_9 : decode cX11_law 9 = .ok (.getfield 106, 3) := dk_180 0 106 (dk_at dksX11_law_0 9 rfl rfl)
theorem dX11_law_12 : decode cX11_law 12 = .ok (.invokestatic 137, 3) := dk_184 0 137 (dk_at dksX11_law_0 12 rfl rfl)
theorem dX11_law_15 : decode cX11_law 15 = .ok (.ifCond .eq 10, 3) := dk_153 0 10 (dk_at dksX11_law_0 15 rfl rfl)
theorem dX11_law_18 : decode cX11_law 18 = .ok (.iload_n 1, 1) := dk_27 (dk_at dksX11_law_0 18 rfl rfl)
theorem dX11_law_19 : decode cX11_law 19 = .ok (.sipush 150, 3) := dk_17 0 150 (dk_at dksX11_law_0 19 rfl rfl)
theorem dX11_law_22 : decode cX11_law 22 = .ok (.if_icmp .le 7, 3) := dk_164 0 7 (dk_at dksX11_law_1 0 rfl rfl)
theorem dX11_law_25 : decode cX11_law 25 = .ok (.iconst 1, 1) := dk_4 (dk_at dksX11_law_1 3 rfl rfl)
theorem dX11_law_26 : decode cX11_law 26 = .ok (.goto 4, 3) := dk_167 0 4 (dk_at dksX11_law_1 4 rfl rfl)
theorem dX11_law_29 : decode cX11_law 29 = .ok (.iconst 0, 1) := dk_3 (dk_at dksX11_law_1 7 rfl rfl)
theorem dX11_law_30 : decode cX11_law 30 = .ok (.iconst 1, 1) := dk_4 (dk_at dksX11_law_1 8 rfl rfl)
theorem dX11_law_31 : decode cX11_law 31 = .ok (.iconst 1, 1) := dk_4 (dk_at dksX11_law_1 9 rfl rfl)
theorem dX11_law_32 : decode cX11_law 32 = .ok (.invokevirtual 183, 3) := dk_182 0 183 (dk_at dksX11_law_1 10 rfl rfl)
theorem dX11_law_35 : decode cX11_law 35 = .ok (.ifCond .eq 5, 3) := dk_153 0 5 (dk_at dksX11_law_1 13 rfl rfl)
theorem dX11_law_38 : decode cX11_law 38 = .ok (.iconst 0, 1) := dk_3 (dk_at dksX11_law_1 16 rfl rfl)
theorem dX11_law_39 : decode cX11_law 39 = .ok (.ireturn, 1) := dk_172 (dk_at dksX11_law_1 17 rfl rfl)
theorem dX11_law_40 : decode cX11_law 40 = .ok (.aload_n 0, 1) := dk_42 (dk_at dksX11_law_1 18 rfl rfl)
theorem dX11_law_41 : decode cX11_law 41 = .ok (.iload_n 1, 1) := dk_27 (dk_at dksX11_law_1 19 rfl rfl)
theorem dX11_law_42 : decode cX11_law 42 = .ok (.invokevirtual 187, 3) := dk_182 0 187 (dk_at dksX11_law_1 20 rfl rfl)
theorem dX11_law_45 : decode cX11_law 45 = .ok (.aload_n 0, 1) := dk_42 (dk_at dksX11_law_1 23 rfl rfl)
theorem dX11_law_46 : decode cX11_law 46 = .ok (.iconst 0, 1) := dk_3 (dk_at dksX11_law_2 0 rfl rfl)
theorem dX11_law_47 : decode cX11_law 47 = .ok (.putfield 215, 3) := dk_181 0 215 (dk_at dksX11_law_2 1 rfl rfl)
theorem dX11_law_50 : decode cX11_law 50 = .ok (.aload_n 0, 1) := dk_42 (dk_at dksX11_law_2 4 rfl rfl)
theorem dX11_law_51 : decode cX11_law 51 = .ok (.invokevirtual 239, 3) := dk_182 0 239 (dk_at dksX11_law_2 5 rfl rfl)
theorem dX11_law_54 : decode cX11_law 54 = .ok (.aload_n 0, 1) := dk_42 (dk_at dksX11_law_2 8 rfl rfl)
theorem dX11_law_55 : decode cX11_law 55 = .ok (.invokevirtual 125, 3) := dk_182 0 125 (dk_at dksX11_law_2 9 rfl rfl)
theorem dX11_law_58 : decode cX11_law 58 = .ok (.aload_n 0, 1) := dk_42 (dk_at dksX11_law_2 12 rfl rfl)
theorem dX11_law_59 : decode cX11_law 59 = .ok (.getfield 119, 3) := dk_180 0 119 (dk_at dksX11_law_2 13 rfl rfl)
theorem dX11_law_62 : decode cX11_law 62 = .ok (.ifCond .ne 23, 3) := dk_154 0 23 (dk_at dksX11_law_2 16 rfl rfl)
theorem dX11_law_65 : decode cX11_law 65 = .ok (.aload_n 0, 1) := dk_42 (dk_at dksX11_law_2 19 rfl rfl)
theorem dX11_law_66 : decode cX11_law 66 = .ok (.getfield 112, 3) := dk_180 0 112 (dk_at dksX11_law_2 20 rfl rfl)
theorem dX11_law_69 : decode cX11_law 69 = .ok (.aload_n 0, 1) := dk_42 (dk_at dksX11_law_2 23 rfl rfl)
theorem dX11_law_70 : decode cX11_law 70 = .ok (.getfield 109, 3) := dk_180 0 109 (dk_at dksX11_law_3 0 rfl rfl)
theorem dX11_law_73 : decode cX11_law 73 = .ok (.if_icmp .ge 12, 3) := dk_162 0 12 (dk_at dksX11_law_3 3 rfl rfl)
theorem dX11_law_76 : decode cX11_law 76 = .ok (.aload_n 0, 1) := dk_42 (dk_at dksX11_law_3 6 rfl rfl)
theorem dX11_law_77 : decode cX11_law 77 = .ok (.iconst 1, 1) := dk_4 (dk_at dksX11_law_3 7 rfl rfl)
theorem dX11_law_78 : decode cX11_law 78 = .ok (.aload_n 0, 1) := dk_42 (dk_at dksX11_law_3 8 rfl rfl)
theorem dX11_law_79 : decode cX11_law 79 = .ok (.getfield 112, 3) := dk_180 0 112 (dk_at dksX11_law_3 9 rfl rfl)
theorem dX11_law_82 : decode cX11_law 82 = .ok (.invokevirtual 132, 3) := dk_182 0 132 (dk_at dksX11_law_3 12 rfl rfl)
theorem dX11_law_85 : decode cX11_law 85 = .ok (.aload_n 0, 1) := dk_42 (dk_at dksX11_law_3 15 rfl rfl)
theorem dX11_law_86 : decode cX11_law 86 = .ok (.getfield 119, 3) := dk_180 0 119 (dk_at dksX11_law_3 16 rfl rfl)
theorem dX11_law_89 : decode cX11_law 89 = .ok (.ifCond .eq 8, 3) := dk_153 0 8 (dk_at dksX11_law_3 19 rfl rfl)
theorem dX11_law_92 : decode cX11_law 92 = .ok (.aload_n 0, 1) := dk_42 (dk_at dksX11_law_3 22 rfl rfl)
theorem dX11_law_93 : decode cX11_law 93 = .ok (.invokevirtual 193, 3) := dk_182 0 193 (dk_at dksX11_law_4 0 rfl rfl)
theorem dX11_law_96 : decode cX11_law 96 = .ok (.ireturn, 1) := dk_172 (dk_at dksX11_law_4 3 rfl rfl)
theorem dX11_law_97 : decode cX11_law 97 = .ok (.aload_n 0, 1) := dk_42 (dk_at dksX11_law_4 4 rfl rfl)
theorem dX11_law_98 : decode cX11_law 98 = .ok (.iconst (-1), 1) := dk_2 (dk_at dksX11_law_4 5 rfl rfl)
theorem dX11_law_99 : decode cX11_law 99 = .ok (.putfield 9, 3) := dk_181 0 9 (dk_at dksX11_law_4 6 rfl rfl)
theorem dX11_law_102 : decode cX11_law 102 = .ok (.aload_n 0, 1) := dk_42 (dk_at dksX11_law_4 9 rfl rfl)
theorem dX11_law_103 : decode cX11_law 103 = .ok (.aload_n 0, 1) := dk_42 (dk_at dksX11_law_4 10 rfl rfl)
theorem dX11_law_104 : decode cX11_law 104 = .ok (.getfield 215, 3) := dk_180 0 215 (dk_at dksX11_law_4 11 rfl rfl)
theorem dX11_law_107 : decode cX11_law 107 = .ok (.putfield 200, 3) := dk_181 0 200 (dk_at dksX11_law_4 14 rfl rfl)
theorem dX11_law_110 : decode cX11_law 110 = .ok (.aload_n 0, 1) := dk_42 (dk_at dksX11_law_4 17 rfl rfl)
theorem dX11_law_111 : decode cX11_law 111 = .ok (.getfield 55, 3) := dk_180 0 55 (dk_at dksX11_law_4 18 rfl rfl)
theorem dX11_law_114 : decode cX11_law 114 = .ok (.aload_n 0, 1) := dk_42 (dk_at dksX11_law_4 21 rfl rfl)
theorem dX11_law_115 : decode cX11_law 115 = .ok (.getfield 52, 3) := dk_180 0 52 (dk_at dksX11_law_5 0 rfl rfl)
theorem dX11_law_118 : decode cX11_law 118 = .ok (.aload_n 0, 1) := dk_42 (dk_at dksX11_law_5 3 rfl rfl)
theorem dX11_law_119 : decode cX11_law 119 = .ok (.getfield 200, 3) := dk_180 0 200 (dk_at dksX11_law_5 4 rfl rfl)
theorem dX11_law_122 : decode cX11_law 122 = .ok (.invokestatic 196, 3) := dk_184 0 196 (dk_at dksX11_law_5 7 rfl rfl)
theorem dX11_law_125 : decode cX11_law 125 = .ok (.iconst 1, 1) := dk_4 (dk_at dksX11_law_5 10 rfl rfl)
theorem dX11_law_126 : decode cX11_law 126 = .ok (.ireturn, 1) := dk_172 (dk_at dksX11_law_5 11 rfl rfl)
def dkwX11_sum_2 : List UInt8 := [182, 0, 218, 42, 27, 3, 182, 0, 224, 167, 255, 205, 177]
abbrev dktX11_sum_2 : List UInt8 := dkwX11_sum_2 ++ []
def dkwX11_sum_1 : List UInt8 := [42, 16, 45, 182, 0, 221, 153, 0, 7, 6, 167, 0, 4, 2, 60, 27, 2, 160, 0, 4, 177, 42]
abbrev dktX11_sum_1 : List UInt8 := dkwX11_sum_1 ++ dktX11_sum_2
def dkwX11_sum_0 : List UInt8 := [42, 182, 0, 218, 42, 180, 0, 119, 154, 0, 50, 42, 16, 43, 182, 0, 221, 153, 0, 7, 5, 167, 0, 17]
abbrev dktX11_sum_0 : List UInt8 := dkwX11_sum_0 ++ dktX11_sum_1
theorem dksX11_sum_0 : cX11_sum.data.toList.drop 0 = dktX11_sum_0 := by decide +kernel
theorem dksX11_sum_1 : cX11_sum.data.toList.drop 24 = dktX11_sum_1 := dk_seg dksX11_sum_0 24 rfl rfl
theorem dksX11_sum_2 : cX11_sum.data.toList.drop 46 = dktX11_sum_2 := dk_seg dksX11_sum_1 22 rfl rfl
theorem dX11_sum_0 : decode cX11_sum 0 = .ok (.aload_n 0, 1) := dk_42 (dk_at dksX11_sum_0 0 rfl rfl)
theorem dX11_sum_1 : decode cX11_sum 1 = .ok (.invokevirtual 218, 3) := dk_182 0 218 (dk_at dksX11_sum_0 1 rfl rfl)
theorem dX11_sum_4 : decode cX11_sum 4 = .ok (.aload_n 0, 1) := dk_42 (dk_at dksX11_sum_0 4 rfl rfl)
theorem dX11_sum_5 : decode cX11_sum 5 = .ok (.getfield 119, 3) := dk_180 0 119 (dk_at dksX11_sum_0 5 rfl rfl)
theorem dX11_sum_8 : decode cX11_sum 8 = .ok (.ifCond .ne 50, 3) := dk_154 0 50 (dk_at dksX11_sum_0 8 rfl rfl)
theorem dX11_sum_11 : decode cX11_sum 11 = .ok (.aload_n 0, 1) := dk_42 (dk_at dksX11_sum_0 11 rfl rfl)
theorem dX11_sum_12 : decode cX11_sum 12 = .ok (.bipush 43, 2) := dk_16 43 (dk_at dksX11_sum_0 12 rfl rfl)
theorem dX11_sum_14 : decode cX11_sum 14 = .ok (.invokevirtual 221, 3) := dk_182 0 221 (dk_at dksX11_sum_0 14 rfl rfl)
theorem dX11_sum_17 : decode cX11_sum 17 = .ok (.ifCond .eq 7, 3) := dk_153 0 7 (dk_at dksX11_sum_0 17 rfl rfl)
theorem dX11_sum_20 : decode cX11_sum 20 = .ok (.iconst 2, 1) := dk_5 (dk_at dksX11_sum_0 20 rfl rfl)
theorem dX11_sum_21 : decode cX11_sum 21 = .ok (.goto 17, 3) := dk_167 0 17 (dk_at dksX11_sum_0 21 rfl rfl)
theorem dX11_sum_24 : decode cX11_sum 24 = .ok (.aload_n 0, 1) := dk_42 (dk_at dksX11_sum_1 0 rfl rfl)
theorem dX11_sum_25 : decode cX11_sum 25 = .ok (.bipush 45, 2) := dk_16 45 (dk_at dksX11_sum_1 1 rfl rfl)
theorem dX11_sum_27 : decode cX11_sum 27 = .ok (.invokevirtual 221, 3) := dk_182 0 221 (dk_at dksX11_sum_1 3 rfl rfl)
theorem dX11_sum_30 : decode cX11_sum 30 = .ok (.ifCond .eq 7, 3) := dk_153 0 7 (dk_at dksX11_sum_1 6 rfl rfl)
theorem dX11_sum_33 : decode cX11_sum 33 = .ok (.iconst 3, 1) := dk_6 (dk_at dksX11_sum_1 9 rfl rfl)
theorem dX11_sum_34 : decode cX11_sum 34 = .ok (.goto 4, 3) := dk_167 0 4 (dk_at dksX11_sum_1 10 rfl rfl)
theorem dX11_sum_37 : decode cX11_sum 37 = .ok (.iconst (-1), 1) := dk_2 (dk_at dksX11_sum_1 13 rfl rfl)
theorem dX11_sum_38 : decode cX11_sum 38 = .ok (.istore_n 1, 1) := dk_60 (dk_at dksX11_sum_1 14 rfl rfl)
theorem dX11_sum_39 : decode cX11_sum 39 = .ok (.iload_n 1, 1) := dk_27 (dk_at dksX11_sum_1 15 rfl rfl)
theorem dX11_sum_40 : decode cX11_sum 40 = .ok (.iconst (-1), 1) := dk_2 (dk_at dksX11_sum_1 16 rfl rfl)
theorem dX11_sum_41 : decode cX11_sum 41 = .ok (.if_icmp .ne 4, 3) := dk_160 0 4 (dk_at dksX11_sum_1 17 rfl rfl)
theorem dX11_sum_44 : decode cX11_sum 44 = .ok (.return_, 1) := dk_177 (dk_at dksX11_sum_1 20 rfl rfl)
theorem dX11_sum_45 : decode cX11_sum 45 = .ok (.aload_n 0, 1) := dk_42 (dk_at dksX11_sum_1 21 rfl rfl)
theorem dX11_sum_46 : decode cX11_sum 46 = .ok (.invokevirtual 218, 3) := dk_182 0 218 (dk_at dksX11_sum_2 0 rfl rfl)
theorem dX11_sum_49 : decode cX11_sum 49 = .ok (.aload_n 0, 1) := dk_42 (dk_at dksX11_sum_2 3 rfl rfl)
theorem dX11_sum_50 : decode cX11_sum 50 = .ok (.iload_n 1, 1) := dk_27 (dk_at dksX11_sum_2 4 rfl rfl)
theorem dX11_sum_51 : decode cX11_sum 51 = .ok (.iconst 0, 1) := dk_3 (dk_at dksX11_sum_2 5 rfl rfl)
theorem dX11_sum_52 : decode cX11_sum 52 = .ok (.invokevirtual 224, 3) := dk_182 0 224 (dk_at dksX11_sum_2 6 rfl rfl)
theorem dX11_sum_55 : decode cX11_sum 55 = .ok (.goto (-51), 3) := dk_167 255 205 (dk_at dksX11_sum_2 9 rfl rfl)
theorem dX11_sum_58 : decode cX11_sum 58 = .ok (.return_, 1) := dk_177 (dk_at dksX11_sum_2 12 rfl rfl)
def dkwX11_product_3 : List UInt8 := [177]
abbrev dktX11_product_3 : List UInt8 := dkwX11_product_3 ++ []
def dkwX11_product_2 : List UInt8 := [167, 0, 4, 2, 60, 27, 2, 160, 0, 4, 177, 42, 182, 0, 227, 42, 27, 3, 182, 0, 224, 167, 255, 191]
abbrev dktX11_product_2 : List UInt8 := dkwX11_product_2 ++ dktX11_product_3
def dkwX11_product_1 : List UInt8 := [42, 16, 47, 182, 0, 221, 153, 0, 7, 8, 167, 0, 18, 42, 16, 37, 182, 0, 221, 153, 0, 8, 16, 6]
abbrev dktX11_product_1 : List UInt8 := dkwX11_product_1 ++ dktX11_product_2
def dkwX11_product_0 : List UInt8 := [42, 182, 0, 227, 42, 180, 0, 119, 154, 0, 64, 42, 16, 42, 182, 0, 221, 153, 0, 7, 7, 167, 0, 31]
abbrev dktX11_product_0 : List UInt8 := dkwX11_product_0 ++ dktX11_product_1
theorem dksX11_product_0 : cX11_product.data.toList.drop 0 = dktX11_product_0 := by decide +kernel
theorem dksX11_product_1 : cX11_product.data.toList.drop 24 = dktX11_product_1 := dk_seg dksX11_product_0 24 rfl rfl
theorem dksX11_product_2 : cX11_product.data.toList.drop 48 = dktX11_product_2 := dk_seg dksX11_product_1 24 rfl rfl
theorem dksX11_product_3 : cX11_product.data.toList.drop 72 = dktX11_product_3 := dk_seg dksX11_product_2 24 rfl rfl
theorem dX11_product_0 : decode cX11_product 0 = .ok (.aload_n 0, 1) := dk_42 (dk_at dksX11_product_0 0 rfl rfl)
theorem dX11_product_1 : decode cX11_product 1 = .ok (.invokevirtual 227, 3) := dk_182 0 227 (dk_at dksX11_product_0 1 rfl rfl)
theorem dX11_product_4 : decode cX11_product 4 = .ok (.aload_n 0, 1) := dk_42 (dk_at dksX11_product_0 4 rfl rfl)
theorem dX11_product_5 : decode cX11_product 5 = .ok (.getfield 119, 3) := dk_180 0 119 (dk_at dksX11_product_0 5 rfl rfl)
theorem dX11_product_8 : decode cX11_product 8 = .ok (.ifCond .ne 64, 3) := dk_154 0 64 (dk_at dksX11_product_0 8 rfl rfl)
theorem dX11_product_11 : decode cX11_product 11 = .ok (.aload_n 0, 1) := dk_42 (dk_at dksX11_product_0 11 rfl rfl)
theorem dX11_product_12 : decode cX11_product 12 = .ok (.bipush 42, 2) := dk_16 42 (dk_at dksX11_product_0 12 rfl rfl)
theorem dX11_product_14 : decode cX11_product 14 = .ok (.invokevirtual 221, 3) := dk_182 0 221 (dk_at dksX11_product_0 14 rfl rfl)
theorem dX11_product_17 : decode cX11_product 17 = .ok (.ifCond .eq 7, 3) := dk_153 0 7 (dk_at dksX11_product_0 17 rfl rfl)
theorem dX11_product_20 : decode cX11_product 20 = .ok (.iconst 4, 1) := dk_7 (dk_at dksX11_product_0 20 rfl rfl)
theorem dX11_product_21 : decode cX11_product 21 = .ok (.goto 31, 3) := dk_167 0 31 (dk_at dksX11_product_0 21 rfl rfl)
theorem dX11_product_24 : decode cX11_product 24 = .ok (.aload_n 0, 1) := dk_42 (dk_at dksX11_product_1 0 rfl rfl)
theorem dX11_product_25 : decode cX11_product 25 = .ok (.bipush 47, 2) := dk_16 47 (dk_at dksX11_product_1 1 rfl rfl)
theorem dX11_product_27 : decode cX11_product 27 = .ok (.invokevirtual 221, 3) := dk_182 0 221 (dk_at dksX11_product_1 3 rfl rfl)
theorem dX11_product_30 : decode cX11_product 30 = .ok (.ifCond .eq 7, 3) := dk_153 0 7 (dk_at dksX11_product_1 6 rfl rfl)
theorem dX11_product_33 : decode cX11_product 33 = .ok (.iconst 5, 1) := dk_8 (dk_at dksX11_product_1 9 rfl rfl)
theorem dX11_product_34 : decode cX11_product 34 = .ok (.goto 18, 3) := dk_167 0 18 (dk_at dksX11_product_1 10 rfl rfl)
theorem dX11_product_37 : decode cX11_product 37 = .ok (.aload_n 0, 1) := dk_42 (dk_at dksX11_product_1 13 rfl rfl)
theorem dX11_product_38 : decode cX11_product 38 = .ok (.bipush 37, 2) := dk_16 37 (dk_at dksX11_product_1 14 rfl rfl)
theorem dX11_product_40 : decode cX11_product 40 = .ok (.invokevirtual 221, 3) := dk_182 0 221 (dk_at dksX11_product_1 16 rfl rfl)
theorem dX11_product_43 : decode cX11_product 43 = .ok (.ifCond .eq 8, 3) := dk_153 0 8 (dk_at dksX11_product_1 19 rfl rfl)
theorem dX11_product_46 : decode cX11_product 46 = .ok (.bipush 6, 2) := dk_16 6 (dk_at dksX11_product_1 22 rfl rfl)
theorem dX11_product_48 : decode cX11_product 48 = .ok (.goto 4, 3) := dk_167 0 4 (dk_at dksX11_product_2 0 rfl rfl)
theorem dX11_product_51 : decode cX11_product 51 = .ok (.iconst (-1), 1) := dk_2 (dk_at dksX11_product_2 3 rfl rfl)
theorem dX11_product_52 : decode cX11_product 52 = .ok (.istore_n 1, 1) := dk_60 (dk_at dksX11_product_2 4 rfl rfl)
theorem dX11_product_53 : decode cX11_product 53 = .ok (.iload_n 1, 1) := dk_27 (dk_at dksX11_product_2 5 rfl rfl)
theorem dX11_product_54 : decode cX11_product 54 = .ok (.iconst (-1), 1) := dk_2 (dk_at dksX11_product_2 6 rfl rfl)
theorem dX11_product_55 : decode cX11_product 55 = .ok (.if_icmp .ne 4, 3) := dk_160 0 4 (dk_at dksX11_product_2 7 rfl rfl)
theorem dX11_product_58 : decode cX11_product 58 = .ok (.return_, 1) := dk_177 (dk_at dksX11_product_2 10 rfl rfl)
theorem dX11_product_59 : decode cX11_product 59 = .ok (.aload_n 0, 1) := dk_42 (dk_at dksX11_product_2 11 rfl rfl)
theorem dX11_product_60 : decode cX11_product 60 = .ok (.invokevirtual 227, 3) := dk_182 0 227 (dk_at dksX11_product_2 12 rfl rfl)
theorem dX11_product_63 : decode cX11_product 63 = .ok (.aload_n 0, 1) := dk_42 (dk_at dksX11_product_2 15 rfl rfl)
theorem dX11_product_64 : decode cX11_product 64 = .ok (.iload_n 1, 1) := dk_27 (dk_at dksX11_product_2 16 rfl rfl)
theorem dX11_product_65 : decode cX11_product 65 = .ok (.iconst 0, 1) := dk_3 (dk_at dksX11_product_2 17 rfl rfl)
theorem dX11_product_66 : decode cX11_product 66 = .ok (.invokevirtual 224, 3) := dk_182 0 224 (dk_at dksX11_product_2 18 rfl rfl)
theorem dX11_product_69 : decode cX11_product 69 = .ok (.goto (-65), 3) := dk_167 255 191 (dk_at dksX11_product_2 21 rfl rfl)
theorem dX11_product_72 : decode cX11_product 72 = .ok (.return_, 1) := dk_177 (dk_at dksX11_product_3 0 rfl rfl)
def dkwX11_one_8 : List UInt8 := [182, 0, 224, 167, 0, 16, 42, 3, 42, 3, 17, 3, 231, 182, 0, 175, 182, 0, 224, 177]
abbrev dktX11_one_8 : List UInt8 := dkwX11_one_8 ++ []
def dkwX11_one_7 : List UInt8 := [180, 0, 162, 4, 100, 181, 0, 162, 177, 42, 182, 0, 242, 61, 28, 2, 159, 0, 12, 42, 4, 28]
abbrev dktX11_one_7 : List UInt8 := dkwX11_one_7 ++ dktX11_one_8
def dkwX11_one_6 : List UInt8 := [177, 42, 89, 180, 0, 112, 4, 96, 181, 0, 112, 42, 182, 0, 239, 42, 16, 41, 182, 0, 179, 42, 89]
abbrev dktX11_one_6 : List UInt8 := dkwX11_one_6 ++ dktX11_one_7
def dkwX11_one_5 : List UInt8 := [181, 0, 162, 177, 42, 42, 180, 0, 112, 182, 0, 115, 16, 40, 160, 0, 42, 42, 182, 0, 236, 154, 0, 4]
abbrev dktX11_one_5 : List UInt8 := dkwX11_one_5 ++ dktX11_one_6
def dkwX11_one_4 : List UInt8 := [42, 182, 0, 239, 42, 16, 93, 182, 0, 179, 42, 27, 3, 182, 0, 224, 42, 89, 180, 0, 162, 4, 100]
abbrev dktX11_one_4 : List UInt8 := dkwX11_one_4 ++ dktX11_one_5
def dkwX11_one_3 : List UInt8 := [154, 0, 4, 177, 42, 182, 0, 156, 42, 16, 91, 182, 0, 179, 42, 182, 0, 239, 42, 16, 44, 182, 0, 179]
abbrev dktX11_one_3 : List UInt8 := dkwX11_one_3 ++ dktX11_one_4
def dkwX11_one_2 : List UInt8 := [182, 0, 152, 153, 0, 8, 16, 8, 167, 0, 4, 2, 60, 27, 2, 159, 0, 58, 42, 182, 0, 236]
abbrev dktX11_one_2 : List UInt8 := dkwX11_one_2 ++ dktX11_one_3
def dkwX11_one_1 : List UInt8 := [182, 0, 152, 153, 0, 8, 16, 7, 167, 0, 26, 42, 16, 13, 16, 15, 16, 19, 16, 20, 3, 3]
abbrev dktX11_one_1 : List UInt8 := dkwX11_one_1 ++ dktX11_one_2
def dkwX11_one_0 : List UInt8 := [42, 180, 0, 119, 153, 0, 4, 177, 42, 182, 0, 125, 42, 16, 12, 8, 4, 16, 19, 16, 20, 3]
abbrev dktX11_one_0 : List UInt8 := dkwX11_one_0 ++ dktX11_one_1
theorem dksX11_one_0 : cX11_one.data.toList.drop 0 = dktX11_one_0 := by decide +kernel
theorem dksX11_one_1 : cX11_one.data.toList.drop 22 = dktX11_one_1 := dk_seg dksX11_one_0 22 rfl rfl
theorem dksX11_one_2 : cX11_one.data.toList.drop 44 = dktX11_one_2 := dk_seg dksX11_one_1 22 rfl rfl
theorem dksX11_one_3 : cX11_one.data.toList.drop 66 = dktX11_one_3 := dk_seg dksX11_one_2 22 rfl rfl
theorem dksX11_one_4 : cX11_one.data.toList.drop 90 = dktX11_one_4 := dk_seg dksX11_one_3 24 rfl rfl
theorem dksX11_one_5 : cX11_one.data.toList.drop 113 = dktX11_one_5 := dk_seg dksX11_one_4 23 rfl rfl
theorem dksX11_one_6 : cX11_one.data.toList.drop 137 = dktX11_one_6 := dk_seg dksX11_one_5 24 rfl rfl
theorem dksX11_one_7 : cX11_one.data.toList.drop 160 = dktX11_one_7 := dk_seg dksX11_one_6 23 rfl rfl
theorem dksX11_one_8 : cX11_one.data.toList.drop 182 = dktX11_one_8 := dk_seg dksX11_one_7 22 rfl rfl
theorem dX11_one_0 : decode cX11_one 0 = .ok (.aload_n 0, 1) := dk_42 (dk_at dksX11_one_0 0 rfl rfl)
theorem dX11_one_1 : decode cX11_one 1 = .ok (.getfield 119, 3) := dk_180 0 119 (dk_at dksX11_one_0 1 rfl rfl)
theorem dX11_one_4 : decode cX11_one 4 = .ok (.ifCond .eq 4, 3) := dk_153 0 4 (dk_at dksX11_one_0 4 rfl rfl)
theorem dX11_one_7 : decode cX11_one 7 = .ok (.return_, 1) := dk_177 (dk_at dksX11_one_0 7 rfl rfl)
theorem dX11_one_8 : decode cX11_one 8 = .ok (.aload_n 0, 1) := dk_42 (dk_at dksX11_one_0 8 rfl rfl)
theorem dX11_one_9 : decode cX11_one 9 = .ok (.invokevirtual 125, 3) := dk_182 0 125 (dk_at dksX11_one_0 9 rfl rfl)
theorem dX11_one_12 : decode cX11_one 12 = .ok (.aload_n 0, 1) := dk_42 (dk_at dksX11_one_0 12 rfl rfl)
theorem dX11_one_13 : decode cX11_one 13 = .ok (.bipush 12, 2) := dk_16 12 (dk_at dksX11_one_0 13 rfl rfl)
theorem dX11_one_15 : decode cX11_one 15 = .ok (.iconst 5, 1) := dk_8 (dk_at dksX11_one_0 15 rfl rfl)
theorem dX11_one_16 : decode cX11_one 16 = .ok (.iconst 1, 1) := dk_4 (dk_at dksX11_one_0 16 rfl rfl)
theorem dX11_one_17 : decode cX11_one 17 = .ok (.bipush 19, 2) := dk_16 19 (dk_at dksX11_one_0 17 rfl rfl)
theorem dX11_one_19 : decode cX11_one 19 = .ok (.bipush 20, 2) := dk_16 20 (dk_at dksX11_one_0 19 rfl rfl)
theorem dX11_one_21 : decode cX11_one 21 = .ok (.iconst 0, 1) := dk_3 (dk_at dksX11_one_0 21 rfl rfl)
theorem dX11_one_22 : decode cX11_one 22 = .ok (.invokevirtual 152, 3) := dk_182 0 152 (dk_at dksX11_one_1 0 rfl rfl)
theorem dX11_one_25 : decode cX11_one 25 = .ok (.ifCond .eq 8, 3) := dk_153 0 8 (dk_at dksX11_one_1 3 rfl rfl)
theorem dX11_one_28 : decode cX11_one 28 = .ok (.bipush 7, 2) := dk_16 7 (dk_at dksX11_one_1 6 rfl rfl)
theorem dX11_one_30 : decode cX11_one 30 = .ok (.goto 26, 3) := dk_167 0 26 (dk_at dksX11_one_1 8 rfl rfl)
theorem dX11_one_33 : decode cX11_one 33 = .ok (.aload_n 0, 1) := dk_42 (dk_at dksX11_one_1 11 rfl rfl)
theorem dX11_one_34 : decode cX11_one 34 = .ok (.bipush 13, 2) := dk_16 13 (dk_at dksX11_one_1 12 rfl rfl)
theorem dX11_one_36 : decode cX11_one 36 = .ok (.bipush 15, 2) := dk_16 15 (dk_at dksX11_one_1 14 rfl rfl)
theorem dX11_one_38 : decode cX11_one 38 = .ok (.bipush 19, 2) := dk_16 19 (dk_at dksX11_one_1 16 rfl rfl)
theorem dX11_one_40 : decode cX11_one 40 = .ok (.bipush 20, 2) := dk_16 20 (dk_at dksX11_one_1 18 rfl rfl)
theorem dX11_one_42 : decode cX11_one 42 = .ok (.iconst 0, 1) := dk_3 (dk_at dksX11_one_1 20 rfl rfl)
theorem dX11_one_43 : decode cX11_one 43 = .ok (.iconst 0, 1) := dk_3 (dk_at dksX11_one_1 21 rfl rfl)
theorem dX11_one_44 : decode cX11_one 44 = .ok (.invokevirtual 152, 3) := dk_182 0 152 (dk_at dksX11_one_2 0 rfl rfl)
theorem dX11_one_47 : decode cX11_one 47 = .ok (.ifCond .eq 8, 3) := dk_153 0 8 (dk_at dksX11_one_2 3 rfl rfl)
theorem dX11_one_50 : decode cX11_one 50 = .ok (.bipush 8, 2) := dk_16 8 (dk_at dksX11_one_2 6 rfl rfl)
theorem dX11_one_52 : decode cX11_one 52 = .ok (.goto 4, 3) := dk_167 0 4 (dk_at dksX11_one_2 8 rfl rfl)
theorem dX11_one_55 : decode cX11_one 55 = .ok (.iconst (-1), 1) := dk_2 (dk_at dksX11_one_2 11 rfl rfl)
theorem dX11_one_56 : decode cX11_one 56 = .ok (.istore_n 1, 1) := dk_60 (dk_at dksX11_one_2 12 rfl rfl)
theorem dX11_one_57 : decode cX11_one 57 = .ok (.iload_n 1, 1) := dk_27 (dk_at dksX11_one_2 13 rfl rfl)
theorem dX11_one_58 : decode cX11_one 58 = .ok (.iconst (-1), 1) := dk_2 (dk_at dksX11_one_2 14 rfl rfl)
theorem dX11_one_59 : decode cX11_one 59 = .ok (.if_icmp .eq 58, 3) := dk_159 0 58 (dk_at dksX11_one_2 15 rfl rfl)
theorem dX11_one_62 : decode cX11_one 62 = .ok (.aload_n 0, 1) := dk_42 (dk_at dksX11_one_2 18 rfl rfl)
theorem dX11_one_63 : decode cX11_one 63 = .ok (.invokevirtual 236, 3) := dk_182 0 236 (dk_at dksX11_one_2 19 rfl rfl)
theorem dX11_one_66 : decode cX11_one 66 = .ok (.ifCond .ne 4, 3) := dk_154 0 4 (dk_at dksX11_one_3 0 rfl rfl)
theorem dX11_one_69 : decode cX11_one 69 = .ok (.return_, 1) := dk_177 (dk_at dksX11_one_3 3 rfl rfl)
theorem dX11_one_70 : decode cX11_one 70 = .ok (.aload_n 0, 1) := dk_42 (dk_at dksX11_one_3 4 rfl rfl)
theorem dX11_one_71 : decode cX11_one 71 = .ok (.invokevirtual 156, 3) := dk_182 0 156 (dk_at dksX11_one_3 5 rfl rfl)
theorem dX11_one_74 : decode cX11_one 74 = .ok (.aload_n 0, 1) := dk_42 (dk_at dksX11_one_3 8 rfl rfl)
theorem dX11_one_75 : decode cX11_one 75 = .ok (.bipush 91, 2) := dk_16 91 (dk_at dksX11_one_3 9 rfl rfl)
theorem dX11_one_77 : decode cX11_one 77 = .ok (.invokevirtual 179, 3) := dk_182 0 179 (dk_at dksX11_one_3 11 rfl rfl)
theorem dX11_one_80 : decode cX11_one 80 = .ok (.aload_n 0, 1) := dk_42 (dk_at dksX11_one_3 14 rfl rfl)
theorem dX11_one_81 : decode cX11_one 81 = .ok (.invokevirtual 239, 3) := dk_182 0 239 (dk_at dksX11_one_3 15 rfl rfl)
theorem dX11_one_84 : decode cX11_one 84 = .ok (.aload_n 0, 1) := dk_42 (dk_at dksX11_one_3 18 rfl rfl)
theorem dX11_one_85 : decode cX11_one 85 = .ok (.bipush 44, 2) := dk_16 44 (dk_at dksX11_one_3 19 rfl rfl)
theorem dX11_one_87 : decode cX11_one 87 = .ok (.invokevirtual 179, 3) := dk_182 0 179 (dk_at dksX11_one_3 21 rfl rfl)
theorem dX11_one_90 : decode cX11_one 90 = .ok (.aload_n 0, 1) := dk_42 (dk_at dksX11_one_4 0 rfl rfl)
theorem dX11_one_91 : decode cX11_one 91 = .ok (.invokevirtual 239, 3) := dk_182 0 239 (dk_at dksX11_one_4 1 rfl rfl)
theorem dX11_one_94 : decode cX11_one 94 = .ok (.aload_n 0, 1) := dk_42 (dk_at dksX11_one_4 4 rfl rfl)
theorem dX11_one_95 : decode cX11_one 95 = .ok (.bipush 93, 2) := dk_16 93 (dk_at dksX11_one_4 5 rfl rfl)
theorem dX11_one_97 : decode cX11_one 97 = .ok (.invokevirtual 179, 3) := dk_182 0 179 (dk_at dksX11_one_4 7 rfl rfl)
theorem dX11_one_100 : decode cX11_one 100 = .ok (.aload_n 0, 1) := dk_42 (dk_at dksX11_one_4 10 rfl rfl)
theorem dX11_one_101 : decode cX11_one 101 = .ok (.iload_n 1, 1) := dk_27 (dk_at dksX11_one_4 11 rfl rfl)
theorem dX11_one_102 : decode cX11_one 102 = .ok (.iconst 0, 1) := dk_3 (dk_at dksX11_one_4 12 rfl rfl)
theorem dX11_one_103 : decode cX11_one 103 = .ok (.invokevirtual 224, 3) := dk_182 0 224 (dk_at dksX11_one_4 13 rfl rfl)
theorem dX11_one_106 : decode cX11_one 106 = .ok (.aload_n 0, 1) := dk_42 (dk_at dksX11_one_4 16 rfl rfl)
theorem dX11_one_107 : decode cX11_one 107 = .ok (.dup, 1) := dk_89 (dk_at dksX11_one_4 17 rfl rfl)
theorem dX11_one_108 : decode cX11_one 108 = .ok (.getfield 162, 3) := dk_180 0 162 (dk_at dksX11_one_4 18 rfl rfl)
theorem dX11_one_111 : decode cX11_one 111 = .ok (.iconst 1, 1) := dk_4 (dk_at dksX11_one_4 21 rfl rfl)
theorem dX11_one_112 : decode cX11_one 112 = .ok (.isub, 1) := dk_100 (dk_at dksX11_one_4 22 rfl rfl)
theorem dX11_one_113 : decode cX11_one 113 = .ok (.putfield 162, 3) := dk_181 0 162 (dk_at dksX11_one_5 0 rfl rfl)
theorem dX11_one_116 : decode cX11_one 116 = .ok (.return_, 1) := dk_177 (dk_at dksX11_one_5 3 rfl rfl)
theorem dX11_one_117 : decode cX11_one 117 = .ok (.aload_n 0, 1) := dk_42 (dk_at dksX11_one_5 4 rfl rfl)
theorem dX11_one_118 : decode cX11_one 118 = .ok (.aload_n 0, 1) := dk_42 (dk_at dksX11_one_5 5 rfl rfl)
theorem dX11_one_119 : decode cX11_one 119 = .ok (.getfield 112, 3) := dk_180 0 112 (dk_at dksX11_one_5 6 rfl rfl)
theorem dX11_one_122 : decode cX11_one 122 = .ok (.invokevirtual 115, 3) := dk_182 0 115 (dk_at dksX11_one_5 9 rfl rfl)
theorem dX11_one_125 : decode cX11_one 125 = .ok (.bipush 40, 2) := dk_16 40 (dk_at dksX11_one_5 12 rfl rfl)
theorem dX11_one_127 : decode cX11_one 127 = .ok (.if_icmp .ne 42, 3) := dk_160 0 42 (dk_at dksX11_one_5 14 rfl rfl)
theorem dX11_one_130 : decode cX11_one 130 = .ok (.aload_n 0, 1) := dk_42 (dk_at dksX11_one_5 17 rfl rfl)
theorem dX11_one_131 : decode cX11_one 131 = .ok (.invokevirtual 236, 3) := dk_182 0 236 (dk_at dksX11_one_5 18 rfl rfl)
theorem dX11_one_134 : decode cX11_one 134 = .ok (.ifCond .ne 4, 3) := dk_154 0 4 (dk_at dksX11_one_5 21 rfl rfl)
theorem dX11_one_137 : decode cX11_one 137 = .ok (.return_, 1) := dk_177 (dk_at dksX11_one_6 0 rfl rfl)
theorem dX11_one_138 : decode cX11_one 138 = .ok (.aload_n 0, 1) := dk_42 (dk_at dksX11_one_6 1 rfl rfl)
theorem dX11_one_139 : decode cX11_one 139 = .ok (.dup, 1) := dk_89 (dk_at dksX11_one_6 2 rfl rfl)
theorem dX11_one_140 : decode cX11_one 140 = .ok (.getfield 112, 3) := dk_180 0 112 (dk_at dksX11_one_6 3 rfl rfl)
theorem dX11_one_143 : decode cX11_one 143 = .ok (.iconst 1, 1) := dk_4 (dk_at dksX11_one_6 6 rfl rfl)
theorem dX11_one_144 : decode cX11_one 144 = .ok (.iadd, 1) := dk_96 (dk_at dksX11_one_6 7 rfl rfl)
theorem dX11_one_145 : decode cX11_one 145 = .ok (.putfield 112, 3) := dk_181 0 112 (dk_at dksX11_one_6 8 rfl rfl)
theorem dX11_one_148 : decode cX11_one 148 = .ok (.aload_n 0, 1) := dk_42 (dk_at dksX11_one_6 11 rfl rfl)
theorem dX11_one_149 : decode cX11_one 149 = .ok (.invokevirtual 239, 3) := dk_182 0 239 (dk_at dksX11_one_6 12 rfl rfl)
theorem dX11_one_152 : decode cX11_one 152 = .ok (.aload_n 0, 1) := dk_42 (dk_at dksX11_one_6 15 rfl rfl)
theorem dX11_one_153 : decode cX11_one 153 = .ok (.bipush 41, 2) := dk_16 41 (dk_at dksX11_one_6 16 rfl rfl)
theorem dX11_one_155 : decode cX11_one 155 = .ok (.invokevirtual 179, 3) := dk_182 0 179 (dk_at dksX11_one_6 18 rfl rfl)
theorem dX11_one_158 : decode cX11_one 158 = .ok (.aload_n 0, 1) := dk_42 (dk_at dksX11_one_6 21 rfl rfl)
theorem dX11_one_159 : decode cX11_one 159 = .ok (.dup, 1) := dk_89 (dk_at dksX11_one_6 22 rfl rfl)
theorem dX11_one_160 : decode cX11_one 160 = .ok (.getfield 162, 3) := dk_180 0 162 (dk_at dksX11_one_7 0 rfl rfl)
theorem dX11_one_163 : decode cX11_one 163 = .ok (.iconst 1, 1) := dk_4 (dk_at dksX11_one_7 3 rfl rfl)
theorem dX11_one_164 : decode cX11_one 164 = .ok (.isub, 1) := dk_100 (dk_at dksX11_one_7 4 rfl rfl)
theorem dX11_one_165 : decode cX11_one 165 = .ok (.putfield 162, 3) := dk_181 0 162 (dk_at dksX11_one_7 5 rfl rfl)
theorem dX11_one_168 : decode cX11_one 168 = .ok (.return_, 1) := dk_177 (dk_at dksX11_one_7 8 rfl rfl)
theorem dX11_one_169 : decode cX11_one 169 = .ok (.aload_n 0, 1) := dk_42 (dk_at dksX11_one_7 9 rfl rfl)
theorem dX11_one_170 : decode cX11_one 170 = .ok (.invokevirtual 242, 3) := dk_182 0 242 (dk_at dksX11_one_7 10 rfl rfl)
theorem dX11_one_173 : decode cX11_one 173 = .ok (.istore_n 2, 1) := dk_61 (dk_at dksX11_one_7 13 rfl rfl)
theorem dX11_one_174 : decode cX11_one 174 = .ok (.iload_n 2, 1) := dk_28 (dk_at dksX11_one_7 14 rfl rfl)
theorem dX11_one_175 : decode cX11_one 175 = .ok (.iconst (-1), 1) := dk_2 (dk_at dksX11_one_7 15 rfl rfl)
theorem dX11_one_176 : decode cX11_one 176 = .ok (.if_icmp .eq 12, 3) := dk_159 0 12 (dk_at dksX11_one_7 16 rfl rfl)
theorem dX11_one_179 : decode cX11_one 179 = .ok (.aload_n 0, 1) := dk_42 (dk_at dksX11_one_7 19 rfl rfl)
theorem dX11_one_180 : decode cX11_one 180 = .ok (.iconst 1, 1) := dk_4 (dk_at dksX11_one_7 20 rfl rfl)
theorem dX11_one_181 : decode cX11_one 181 = .ok (.iload_n 2, 1) := dk_28 (dk_at dksX11_one_7 21 rfl rfl)
theorem dX11_one_182 : decode cX11_one 182 = .ok (.invokevirtual 224, 3) := dk_182 0 224 (dk_at dksX11_one_8 0 rfl rfl)
theorem dX11_one_185 : decode cX11_one 185 = .ok (.goto 16, 3) := dk_167 0 16 (dk_at dksX11_one_8 3 rfl rfl)
theorem dX11_one_188 : decode cX11_one 188 = .ok (.aload_n 0, 1) := dk_42 (dk_at dksX11_one_8 6 rfl rfl)
theorem dX11_one_189 : decode cX11_one 189 = .ok (.iconst 0, 1) := dk_3 (dk_at dksX11_one_8 7 rfl rfl)
theorem dX11_one_190 : decode cX11_one 190 = .ok (.aload_n 0, 1) := dk_42 (dk_at dksX11_one_8 8 rfl rfl)
theorem dX11_one_191 : decode cX11_one 191 = .ok (.iconst 0, 1) := dk_3 (dk_at dksX11_one_8 9 rfl rfl)
theorem dX11_one_192 : decode cX11_one 192 = .ok (.sipush 999, 3) := dk_17 3 231 (dk_at dksX11_one_8 10 rfl rfl)
theorem dX11_one_195 : decode cX11_one 195 = .ok (.invokevirtual 175, 3) := dk_182 0 175 (dk_at dksX11_one_8 13 rfl rfl)
theorem dX11_one_198 : decode cX11_one 198 = .ok (.invokevirtual 224, 3) := dk_182 0 224 (dk_at dksX11_one_8 16 rfl rfl)
theorem dX11_one_201 : decode cX11_one 201 = .ok (.return_, 1) := dk_177 (dk_at dksX11_one_8 19 rfl rfl)
def dkwX11_opensOne_2 : List UInt8 := [180, 0, 119, 154, 0, 7, 4, 167, 0, 4, 3, 172]
abbrev dktX11_opensOne_2 : List UInt8 := dkwX11_opensOne_2 ++ []
def dkwX11_opensOne_1 : List UInt8 := [182, 0, 132, 167, 0, 20, 42, 180, 0, 119, 154, 0, 13, 42, 89, 180, 0, 162, 4, 96, 181, 0, 162, 42]
abbrev dktX11_opensOne_1 : List UInt8 := dkwX11_opensOne_1 ++ dktX11_opensOne_2
def dkwX11_opensOne_0 : List UInt8 := [42, 180, 0, 119, 154, 0, 24, 42, 180, 0, 162, 16, 6, 160, 0, 15, 42, 6, 42, 180, 0, 112]
abbrev dktX11_opensOne_0 : List UInt8 := dkwX11_opensOne_0 ++ dktX11_opensOne_1
theorem dksX11_opensOne_0 : cX11_opensOne.data.toList.drop 0 = dktX11_opensOne_0 := by decide +kernel
theorem dksX11_opensOne_1 : cX11_opensOne.data.toList.drop 22 = dktX11_opensOne_1 := dk_seg dksX11_opensOne_0 22 rfl rfl
theorem dksX11_opensOne_2 : cX11_opensOne.data.toList.drop 46 = dktX11_opensOne_2 := dk_seg dksX11_opensOne_1 24 rfl rfl
theorem dX11_opensOne_0 : decode cX11_opensOne 0 = .ok (.aload_n 0, 1) := dk_42 (dk_at dksX11_opensOne_0 0 rfl rfl)
theorem dX11_opensOne_1 : decode cX11_opensOne 1 = .ok (.getfield 119, 3) := dk_180 0 119 (dk_at dksX11_opensOne_0 1 rfl rfl)
theorem dX11_opensOne_4 : decode cX11_opensOne 4 = .ok (.ifCond .ne 24, 3) := dk_154 0 24 (dk_at dksX11_opensOne_0 4 rfl rfl)
theorem dX11_opensOne_7 : decode cX11_opensOne 7 = .ok (.aload_n 0, 1) := dk_42 (dk_at dksX11_opensOne_0 7 rfl rfl)
theorem dX11_opensOne_8 : decode cX11_opensOne 8 = .ok (.getfield 162, 3) := dk_180 0 162 (dk_at dksX11_opensOne_0 8 rfl rfl)
theorem dX11_opensOne_11 : decode cX11_opensOne 11 = .ok (.bipush 6, 2) := dk_16 6 (dk_at dksX11_opensOne_0 11 rfl rfl)
theorem dX11_opensOne_13 : decode cX11_opensOne 13 = .ok (.if_icmp .ne 15, 3) := dk_160 0 15 (dk_at dksX11_opensOne_0 13 rfl rfl)
theorem dX11_opensOne_16 : decode cX11_opensOne 16 = .ok (.aload_n 0, 1) := dk_42 (dk_at dksX11_opensOne_0 16 rfl rfl)
theorem dX11_opensOne_17 : decode cX11_opensOne 17 = .ok (.iconst 3, 1) := dk_6 (dk_at dksX11_opensOne_0 17 rfl rfl)
theorem dX11_opensOne_18 : decode cX11_opensOne 18 = .ok (.aload_n 0, 1) := dk_42 (dk_at dksX11_opensOne_0 18 rfl rfl)
theorem dX11_opensOne_19 : decode cX11_opensOne 19 = .ok (.getfield 112, 3) := dk_180 0 112 (dk_at dksX11_opensOne_0 19 rfl rfl)
theorem dX11_opensOne_22 : decode cX11_opensOne 22 = .ok (.invokevirtual 132, 3) := dk_182 0 132 (dk_at dksX11_opensOne_1 0 rfl rfl)
theorem dX11_opensOne_25 : decode cX11_opensOne 25 = .ok (.goto 20, 3) := dk_167 0 20 (dk_at dksX11_opensOne_1 3 rfl rfl)
theorem dX11_opensOne_28 : decode cX11_opensOne 28 = .ok (.aload_n 0, 1) := dk_42 (dk_at dksX11_opensOne_1 6 rfl rfl)
theorem dX11_opensOne_29 : decode cX11_opensOne 29 = .ok (.getfield 119, 3) := dk_180 0 119 (dk_at dksX11_opensOne_1 7 rfl rfl)
theorem dX11_opensOne_32 : decode cX11_opensOne 32 = .ok (.ifCond .ne 13, 3) := dk_154 0 13 (dk_at dksX11_opensOne_1 10 rfl rfl)
theorem dX11_opensOne_35 : decode cX11_opensOne 35 = .ok (.aload_n 0, 1) := dk_42 (dk_at dksX11_opensOne_1 13 rfl rfl)
theorem dX11_opensOne_36 : decode cX11_opensOne 36 = .ok (.dup, 1) := dk_89 (dk_at dksX11_opensOne_1 14 rfl rfl)
theorem dX11_opensOne_37 : decode cX11_opensOne 37 = .ok (.getfield 162, 3) := dk_180 0 162 (dk_at dksX11_opensOne_1 15 rfl rfl)
theorem dX11_opensOne_40 : decode cX11_opensOne 40 = .ok (.iconst 1, 1) := dk_4 (dk_at dksX11_opensOne_1 18 rfl rfl)
theorem dX11_opensOne_41 : decode cX11_opensOne 41 = .ok (.iadd, 1) := dk_96 (dk_at dksX11_opensOne_1 19 rfl rfl)
theorem dX11_opensOne_42 : decode cX11_opensOne 42 = .ok (.putfield 162, 3) := dk_181 0 162 (dk_at dksX11_opensOne_1 20 rfl rfl)
theorem dX11_opensOne_45 : decode cX11_opensOne 45 = .ok (.aload_n 0, 1) := dk_42 (dk_at dksX11_opensOne_1 23 rfl rfl)
theorem dX11_opensOne_46 : decode cX11_opensOne 46 = .ok (.getfield 119, 3) := dk_180 0 119 (dk_at dksX11_opensOne_2 0 rfl rfl)
theorem dX11_opensOne_49 : decode cX11_opensOne 49 = .ok (.ifCond .ne 7, 3) := dk_154 0 7 (dk_at dksX11_opensOne_2 3 rfl rfl)
theorem dX11_opensOne_52 : decode cX11_opensOne 52 = .ok (.iconst 1, 1) := dk_4 (dk_at dksX11_opensOne_2 6 rfl rfl)
theorem dX11_opensOne_53 : decode cX11_opensOne 53 = .ok (.goto 4, 3) := dk_167 0 4 (dk_at dksX11_opensOne_2 7 rfl rfl)
theorem dX11_opensOne_56 : decode cX11_opensOne 56 = .ok (.iconst 0, 1) := dk_3 (dk_at dksX11_opensOne_2 10 rfl rfl)
theorem dX11_opensOne_57 : decode cX11_opensOne 57 = .ok (.ireturn, 1) := dk_172 (dk_at dksX11_opensOne_2 11 rfl rfl)
def dkwX11_notes_1 : List UInt8 := [42, 180, 0, 215, 50, 4, 28, 79, 42, 89, 180, 0, 215, 4, 96, 181, 0, 215, 177]
abbrev dktX11_notes_1 : List UInt8 := dkwX11_notes_1 ++ []
def dkwX11_notes_0 : List UInt8 := [42, 180, 0, 119, 153, 0, 4, 177, 42, 180, 0, 55, 42, 180, 0, 215, 50, 3, 27, 79, 42, 180, 0, 55]
abbrev dktX11_notes_0 : List UInt8 := dkwX11_notes_0 ++ dktX11_notes_1
theorem dksX11_notes_0 : cX11_notes.data.toList.drop 0 = dktX11_notes_0 := by decide +kernel
theorem dksX11_notes_1 : cX11_notes.data.toList.drop 24 = dktX11_notes_1 := dk_seg dksX11_notes_0 24 rfl rfl
theorem dX11_notes_0 : decode cX11_notes 0 = .ok (.aload_n 0, 1) := dk_42 (dk_at dksX11_notes_0 0 rfl rfl)
theorem dX11_notes_1 : decode cX11_notes 1 = .ok (.getfield 119, 3) := dk_180 0 119 (dk_at dksX11_notes_0 1 rfl rfl)
theorem dX11_notes_4 : decode cX11_notes 4 = .ok (.ifCond .eq 4, 3) := dk_153 0 4 (dk_at dksX11_notes_0 4 rfl rfl)
theorem dX11_notes_7 : decode cX11_notes 7 = .ok (.return_, 1) := dk_177 (dk_at dksX11_notes_0 7 rfl rfl)
theorem dX11_notes_8 : decode cX11_notes 8 = .ok (.aload_n 0, 1) := dk_42 (dk_at dksX11_notes_0 8 rfl rfl)
theorem dX11_notes_9 : decode cX11_notes 9 = .ok (.getfield 55, 3) := dk_180 0 55 (dk_at dksX11_notes_0 9 rfl rfl)
theorem dX11_notes_12 : decode cX11_notes 12 = .ok (.aload_n 0, 1) := dk_42 (dk_at dksX11_notes_0 12 rfl rfl)
theorem dX11_notes_13 : decode cX11_notes 13 = .ok (.getfield 215, 3) := dk_180 0 215 (dk_at dksX11_notes_0 13 rfl rfl)
theorem dX11_notes_16 : decode cX11_notes 16 = .ok (.aaload, 1) := dk_50 (dk_at dksX11_notes_0 16 rfl rfl)
theorem dX11_notes_17 : decode cX11_notes 17 = .ok (.iconst 0, 1) := dk_3 (dk_at dksX11_notes_0 17 rfl rfl)
theorem dX11_notes_18 : decode cX11_notes 18 = .ok (.iload_n 1, 1) := dk_27 (dk_at dksX11_notes_0 18 rfl rfl)
theorem dX11_notes_19 : decode cX11_notes 19 = .ok (.iastore, 1) := dk_79 (dk_at dksX11_notes_0 19 rfl rfl)
theorem dX11_notes_20 : decode cX11_notes 20 = .ok (.aload_n 0, 1) := dk_42 (dk_at dksX11_notes_0 20 rfl rfl)
theorem dX11_notes_21 : decode cX11_notes 21 = .ok (.getfield 55, 3) := dk_180 0 55 (dk_at dksX11_notes_0 21 rfl rfl)
theorem dX11_notes_24 : decode cX11_notes 24 = .ok (.aload_n 0, 1) := dk_42 (dk_at dksX11_notes_1 0 rfl rfl)
theorem dX11_notes_25 : decode cX11_notes 25 = .ok (.getfield 215, 3) := dk_180 0 215 (dk_at dksX11_notes_1 1 rfl rfl)
theorem dX11_notes_28 : decode cX11_notes 28 = .ok (.aaload, 1) := dk_50 (dk_at dksX11_notes_1 4 rfl rfl)
theorem dX11_notes_29 : decode cX11_notes 29 = .ok (.iconst 1, 1) := dk_4 (dk_at dksX11_notes_1 5 rfl rfl)
theorem dX11_notes_30 : decode cX11_notes 30 = .ok (.iload_n 2, 1) := dk_28 (dk_at dksX11_notes_1 6 rfl rfl)
theorem dX11_notes_31 : decode cX11_notes 31 = .ok (.iastore, 1) := dk_79 (dk_at dksX11_notes_1 7 rfl rfl)
theorem dX11_notes_32 : decode cX11_notes 32 = .ok (.aload_n 0, 1) := dk_42 (dk_at dksX11_notes_1 8 rfl rfl)
theorem dX11_notes_33 : decode cX11_notes 33 = .ok (.dup, 1) := dk_89 (dk_at dksX11_notes_1 9 rfl rfl)
theorem dX11_notes_34 : decode cX11_notes 34 = .ok (.getfield 215, 3) := dk_180 0 215 (dk_at dksX11_notes_1 10 rfl rfl)
theorem dX11_notes_37 : decode cX11_notes 37 = .ok (.iconst 1, 1) := dk_4 (dk_at dksX11_notes_1 13 rfl rfl)
theorem dX11_notes_38 : decode cX11_notes 38 = .ok (.iadd, 1) := dk_96 (dk_at dksX11_notes_1 14 rfl rfl)
theorem dX11_notes_39 : decode cX11_notes 39 = .ok (.putfield 215, 3) := dk_181 0 215 (dk_at dksX11_notes_1 15 rfl rfl)
theorem dX11_notes_42 : decode cX11_notes 42 = .ok (.return_, 1) := dk_177 (dk_at dksX11_notes_1 18 rfl rfl)
def dkwX11_knownHere_6 : List UInt8 := [16, 7, 167, 0, 4, 2, 172]
abbrev dktX11_knownHere_6 : List UInt8 := dkwX11_knownHere_6 ++ []
def dkwX11_knownHere_5 : List UInt8 := [182, 0, 230, 153, 0, 6, 16, 6, 172, 42, 7, 4, 16, 25, 3, 3, 3, 182, 0, 230, 153, 0, 8]
abbrev dktX11_knownHere_5 : List UInt8 := dkwX11_knownHere_5 ++ dktX11_knownHere_6
def dkwX11_knownHere_4 : List UInt8 := [16, 19, 182, 0, 230, 153, 0, 5, 8, 172, 42, 16, 19, 16, 9, 16, 19, 16, 20, 8, 16, 18]
abbrev dktX11_knownHere_4 : List UInt8 := dkwX11_knownHere_4 ++ dktX11_knownHere_5
def dkwX11_knownHere_3 : List UInt8 := [16, 12, 3, 3, 3, 182, 0, 230, 153, 0, 5, 7, 172, 42, 16, 15, 16, 20, 16, 8, 8, 16, 18]
abbrev dktX11_knownHere_3 : List UInt8 := dkwX11_knownHere_3 ++ dktX11_knownHere_4
def dkwX11_knownHere_2 : List UInt8 := [16, 19, 182, 0, 230, 153, 0, 5, 5, 172, 42, 182, 0, 233, 153, 0, 5, 6, 172, 42, 16, 9, 16, 12]
abbrev dktX11_knownHere_2 : List UInt8 := dkwX11_knownHere_2 ++ dktX11_knownHere_3
def dkwX11_knownHere_1 : List UInt8 := [16, 25, 16, 19, 3, 3, 182, 0, 230, 153, 0, 5, 4, 172, 42, 16, 12, 4, 16, 16, 16, 19, 8]
abbrev dktX11_knownHere_1 : List UInt8 := dkwX11_knownHere_1 ++ dktX11_knownHere_2
def dkwX11_knownHere_0 : List UInt8 := [42, 16, 23, 16, 15, 16, 18, 16, 20, 16, 8, 3, 182, 0, 230, 153, 0, 5, 3, 172, 42, 7, 4]
abbrev dktX11_knownHere_0 : List UInt8 := dkwX11_knownHere_0 ++ dktX11_knownHere_1
theorem dksX11_knownHere_0 : cX11_knownHere.data.toList.drop 0 = dktX11_knownHere_0 := by decide +kernel
theorem dksX11_knownHere_1 : cX11_knownHere.data.toList.drop 23 = dktX11_knownHere_1 := dk_seg dksX11_knownHere_0 23 rfl rfl
theorem dksX11_knownHere_2 : cX11_knownHere.data.toList.drop 46 = dktX11_knownHere_2 := dk_seg dksX11_knownHere_1 23 rfl rfl
theorem dksX11_knownHere_3 : cX11_knownHere.data.toList.drop 70 = dktX11_knownHere_3 := dk_seg dksX11_knownHere_2 24 rfl rfl
theorem dksX11_knownHere_4 : cX11_knownHere.data.toList.drop 93 = dktX11_knownHere_4 := dk_seg dksX11_knownHere_3 23 rfl rfl
theorem dksX11_knownHere_5 : cX11_knownHere.data.toList.drop 115 = dktX11_knownHere_5 := dk_seg dksX11_knownHere_4 22 rfl rfl
theorem dksX11_knownHere_6 : cX11_knownHere.data.toList.drop 138 = dktX11_knownHere_6 := dk_seg dksX11_knownHere_5 23 rfl rfl
theorem dX11_knownHere_0 : decode cX11_knownHere 0 = .ok (.aload_n 0, 1) := dk_42 (dk_at dksX11_knownHere_0 0 rfl rfl)
theorem dX11_knownHere_1 : decode cX11_knownHere 1 = .ok (.bipush 23, 2) := dk_16 23 (dk_at dksX11_knownHere_0 1 rfl rfl)
theorem dX11_knownHere_3 : decode cX11_knownHere 3 = .ok (.bipush 15, 2) := dk_16 15 (dk_at dksX11_knownHere_0 3 rfl rfl)
theorem dX11_knownHere_5 : decode cX11_knownHere 5 = .ok (.bipush 18, 2) := dk_16 18 (dk_at dksX11_knownHere_0 5 rfl rfl)
theorem dX11_knownHere_7 : decode cX11_knownHere 7 = .ok (.bipush 20, 2) := dk_16 20 (dk_at dksX11_knownHere_0 7 rfl rfl)
theorem dX11_knownHere_9 : decode cX11_knownHere 9 = .ok (.bipush 8, 2) := dk_16 8 (dk_at dksX11_knownHere_0 9 rfl rfl)
theorem dX11_knownHere_11 : decode cX11_knownHere 11 = .ok (.iconst 0, 1) := dk_3 (dk_at dksX11_knownHere_0 11 rfl rfl)
theorem dX11_knownHere_12 : decode cX11_knownHere 12 = .ok (.invokevirtual 230, 3) := dk_182 0 230 (dk_at dksX11_knownHere_0 12 rfl rfl)
theorem dX11_knownHere_15 : decode cX11_knownHere 15 = .ok (.ifCond .eq 5, 3) := dk_153 0 5 (dk_at dksX11_knownHere_0 15 rfl rfl)
theorem dX11_knownHere_18 : decode cX11_knownHere 18 = .ok (.iconst 0, 1) := dk_3 (dk_at dksX11_knownHere_0 18 rfl rfl)
theorem dX11_knownHere_19 : decode cX11_knownHere 19 = .ok (.ireturn, 1) := dk_172 (dk_at dksX11_knownHere_0 19 rfl rfl)
theorem dX11_knownHere_20 : decode cX11_knownHere 20 = .ok (.aload_n 0, 1) := dk_42 (dk_at dksX11_knownHere_0 20 rfl rfl)
theorem dX11_knownHere_21 : decode cX11_knownHere 21 = .ok (.iconst 4, 1) := dk_7 (dk_at dksX11_knownHere_0 21 rfl rfl)
theorem dX11_knownHere_22 : decode cX11_knownHere 22 = .ok (.iconst 1, 1) := dk_4 (dk_at dksX11_knownHere_0 22 rfl rfl)
theorem dX11_knownHere_23 : decode cX11_knownHere 23 = .ok (.bipush 25, 2) := dk_16 25 (dk_at dksX11_knownHere_1 0 rfl rfl)
theorem dX11_knownHere_25 : decode cX11_knownHere 25 = .ok (.bipush 19, 2) := dk_16 19 (dk_at dksX11_knownHere_1 2 rfl rfl)
theorem dX11_knownHere_27 : decode cX11_knownHere 27 = .ok (.iconst 0, 1) := dk_3 (dk_at dksX11_knownHere_1 4 rfl rfl)
theorem dX11_knownHere_28 : decode cX11_knownHere 28 = .ok (.iconst 0, 1) := dk_3 (dk_at dksX11_knownHere_1 5 rfl rfl)
theorem dX11_knownHere_29 : decode cX11_knownHere 29 = .ok (.invokevirtual 230, 3) := dk_182 0 230 (dk_at dksX11_knownHere_1 6 rfl rfl)
theorem dX11_knownHere_32 : decode cX11_knownHere 32 = .ok (.ifCond .eq 5, 3) := dk_153 0 5 (dk_at dksX11_knownHere_1 9 rfl rfl)
theorem dX11_knownHere_35 : decode cX11_knownHere 35 = .ok (.iconst 1, 1) := dk_4 (dk_at dksX11_knownHere_1 12 rfl rfl)
theorem dX11_knownHere_36 : decode cX11_knownHere 36 = .ok (.ireturn, 1) := dk_172 (dk_at dksX11_knownHere_1 13 rfl rfl)
theorem dX11_knownHere_37 : decode cX11_knownHere 37 = .ok (.aload_n 0, 1) := dk_42 (dk_at dksX11_knownHere_1 14 rfl rfl)
theorem dX11_knownHere_38 : decode cX11_knownHere 38 = .ok (.bipush 12, 2) := dk_16 12 (dk_at dksX11_knownHere_1 15 rfl rfl)
theorem dX11_knownHere_40 : decode cX11_knownHere 40 = .ok (.iconst 1, 1) := dk_4 (dk_at dksX11_knownHere_1 17 rfl rfl)
theorem dX11_knownHere_41 : decode cX11_knownHere 41 = .ok (.bipush 16, 2) := dk_16 16 (dk_at dksX11_knownHere_1 18 rfl rfl)
theorem dX11_knownHere_43 : decode cX11_knownHere 43 = .ok (.bipush 19, 2) := dk_16 19 (dk_at dksX11_knownHere_1 20 rfl rfl)
theorem dX11_knownHere_45 : decode cX11_knownHere 45 = .ok (.iconst 5, 1) := dk_8 (dk_at dksX11_knownHere_1 22 rfl rfl)
theorem dX11_knownHere_46 : decode cX11_knownHere 46 = .ok (.bipush 19, 2) := dk_16 19 (dk_at dksX11_knownHere_2 0 rfl rfl)
theorem dX11_knownHere_48 : decode cX11_knownHere 48 = .ok (.invokevirtual 230, 3) := dk_182 0 230 (dk_at dksX11_knownHere_2 2 rfl rfl)
theorem dX11_knownHere_51 : decode cX11_knownHere 51 = .ok (.ifCond .eq 5, 3) := dk_153 0 5 (dk_at dksX11_knownHere_2 5 rfl rfl)
theorem dX11_knownHere_54 : decode cX11_knownHere 54 = .ok (.iconst 2, 1) := dk_5 (dk_at dksX11_knownHere_2 8 rfl rfl)
theorem dX11_knownHere_55 : decode cX11_knownHere 55 = .ok (.ireturn, 1) := dk_172 (dk_at dksX11_knownHere_2 9 rfl rfl)
theorem dX11_knownHere_56 : decode cX11_knownHere 56 = .ok (.aload_n 0, 1) := dk_42 (dk_at dksX11_knownHere_2 10 rfl rfl)
theorem dX11_knownHere_57 : decode cX11_knownHere 57 = .ok (.invokevirtual 233, 3) := dk_182 0 233 (dk_at dksX11_knownHere_2 11 rfl rfl)
theorem dX11_knownHere_60 : decode cX11_knownHere 60 = .ok (.ifCond .eq 5, 3) := dk_153 0 5 (dk_at dksX11_knownHere_2 14 rfl rfl)
theorem dX11_knownHere_63 : decode cX11_knownHere 63 = .ok (.iconst 3, 1) := dk_6 (dk_at dksX11_knownHere_2 17 rfl rfl)
theorem dX11_knownHere_64 : decode cX11_knownHere 64 = .ok (.ireturn, 1) := dk_172 (dk_at dksX11_knownHere_2 18 rfl rfl)
theorem dX11_knownHere_65 : decode cX11_knownHere 65 = .ok (.aload_n 0, 1) := dk_42 (dk_at dksX11_knownHere_2 19 rfl rfl)
theorem dX11_knownHere_66 : decode cX11_knownHere 66 = .ok (.bipush 9, 2) := dk_16 9 (dk_at dksX11_knownHere_2 20 rfl rfl)
theorem dX11_knownHere_68 : decode cX11_knownHere 68 = .ok (.bipush 12, 2) := dk_16 12 (dk_at dksX11_knownHere_2 22 rfl rfl)
theorem dX11_knownHere_70 : decode cX11_knownHere 70 = .ok (.bipush 12, 2) := dk_16 12 (dk_at dksX11_knownHere_3 0 rfl rfl)
theorem dX11_knownHere_72 : decode cX11_knownHere 72 = .ok (.iconst 0, 1) := dk_3 (dk_at dksX11_knownHere_3 2 rfl rfl)
theorem dX11_knownHere_73 : decode cX11_knownHere 73 = .ok (.iconst 0, 1) := dk_3 (dk_at dksX11_knownHere_3 3 rfl rfl)
theorem dX11_knownHere_74 : decode cX11_knownHere 74 = .ok (.iconst 0, 1) := dk_3 (dk_at dksX11_knownHere_3 4 rfl rfl)
theorem dX11_knownHere_75 : decode cX11_knownHere 75 = .ok (.invokevirtual 230, 3) := dk_182 0 230 (dk_at dksX11_knownHere_3 5 rfl rfl)
theorem dX11_knownHere_78 : decode cX11_knownHere 78 = .ok (.ifCond .eq 5, 3) := dk_153 0 5 (dk_at dksX11_knownHere_3 8 rfl rfl)
theorem dX11_knownHere_81 : decode cX11_knownHere 81 = .ok (.iconst 4, 1) := dk_7 (dk_at dksX11_knownHere_3 11 rfl rfl)
theorem dX11_knownHere_82 : decode cX11_knownHere 82 = .ok (.ireturn, 1) := dk_172 (dk_at dksX11_knownHere_3 12 rfl rfl)
theorem dX11_knownHere_83 : decode cX11_knownHere 83 = .ok (.aload_n 0, 1) := dk_42 (dk_at dksX11_knownHere_3 13 rfl rfl)
theorem dX11_knownHere_84 : decode cX11_knownHere 84 = .ok (.bipush 15, 2) := dk_16 15 (dk_at dksX11_knownHere_3 14 rfl rfl)
theorem dX11_knownHere_86 : decode cX11_knownHere 86 = .ok (.bipush 20, 2) := dk_16 20 (dk_at dksX11_knownHere_3 16 rfl rfl)
theorem dX11_knownHere_88 : decode cX11_knownHere 88 = .ok (.bipush 8, 2) := dk_16 8 (dk_at dksX11_knownHere_3 18 rfl rfl)
theorem dX11_knownHere_90 : decode cX11_knownHere 90 = .ok (.iconst 5, 1) := dk_8 (dk_at dksX11_knownHere_3 20 rfl rfl)
theorem dX11_knownHere_91 : decode cX11_knownHere 91 = .ok (.bipush 18, 2) := dk_16 18 (dk_at dksX11_knownHere_3 21 rfl rfl)
theorem dX11_knownHere_93 : decode cX11_knownHere 93 = .ok (.bipush 19, 2) := dk_16 19 (dk_at dksX11_knownHere_4 0 rfl rfl)
theorem dX11_knownHere_95 : decode cX11_knownHere 95 = .ok (.invokevirtual 230, 3) := dk_182 0 230 (dk_at dksX11_knownHere_4 2 rfl rfl)
theorem dX11_knownHere_98 : decode cX11_knownHere 98 = .ok (.ifCond .eq 5, 3) := dk_153 0 5 (dk_at dksX11_knownHere_4 5 rfl rfl)
theorem dX11_knownHere_101 : decode cX11_knownHere 101 = .ok (.iconst 5, 1) := dk_8 (dk_at dksX11_knownHere_4 8 rfl rfl)
theorem dX11_knownHere_102 : decode cX11_knownHere 102 = .ok (.ireturn, 1) := dk_172 (dk_at dksX11_knownHere_4 9 rfl rfl)
theorem dX11_knownHere_103 : decode cX11_knownHere 103 = .ok (.aload_n 0, 1) := dk_42 (dk_at dksX11_knownHere_4 10 rfl rfl)
theorem dX11_knownHere_104 : decode cX11_knownHere 104 = .ok (.bipush 19, 2) := dk_16 19 (dk_at dksX11_knownHere_4 11 rfl rfl)
theorem dX11_knownHere_106 : decode cX11_knownHere 106 = .ok (.bipush 9, 2) := dk_16 9 (dk_at dksX11_knownHere_4 13 rfl rfl)
theorem dX11_knownHere_108 : decode cX11_knownHere 108 = .ok (.bipush 19, 2) := dk_16 19 (dk_at dksX11_knownHere_4 15 rfl rfl)
theorem dX11_knownHere_110 : decode cX11_knownHere 110 = .ok (.bipush 20, 2) := dk_16 20 (dk_at dksX11_knownHere_4 17 rfl rfl)
theorem dX11_knownHere_112 : decode cX11_knownHere 112 = .ok (.iconst 5, 1) := dk_8 (dk_at dksX11_knownHere_4 19 rfl rfl)
theorem dX11_knownHere_113 : decode cX11_knownHere 113 = .ok (.bipush 18, 2) := dk_16 18 (dk_at dksX11_knownHere_4 20 rfl rfl)
theorem dX11_knownHere_115 : decode cX11_knownHere 115 = .ok (.invokevirtual 230, 3) := dk_182 0 230 (dk_at dksX11_knownHere_5 0 rfl rfl)
theorem dX11_knownHere_118 : decode cX11_knownHere 118 = .ok (.ifCond .eq 6, 3) := dk_153 0 6 (dk_at dksX11_knownHere_5 3 rfl rfl)
theorem dX11_knownHere_121 : decode cX11_knownHere 121 = .ok (.bipush 6, 2) := dk_16 6 (dk_at dksX11_knownHere_5 6 rfl rfl)
theorem dX11_knownHere_123 : decode cX11_knownHere 123 = .ok (.ireturn, 1) := dk_172 (dk_at dksX11_knownHere_5 8 rfl rfl)
theorem dX11_knownHere_124 : decode cX11_knownHere 124 = .ok (.aload_n 0, 1) := dk_42 (dk_at dksX11_knownHere_5 9 rfl rfl)
theorem dX11_knownHere_125 : decode cX11_knownHere 125 = .ok (.iconst 4, 1) := dk_7 (dk_at dksX11_knownHere_5 10 rfl rfl)
theorem dX11_knownHere_126 : decode cX11_knownHere 126 = .ok (.iconst 1, 1) := dk_4 (dk_at dksX11_knownHere_5 11 rfl rfl)
theorem dX11_knownHere_127 : decode cX11_knownHere 127 = .ok (.bipush 25, 2) := dk_16 25 (dk_at dksX11_knownHere_5 12 rfl rfl)
theorem dX11_knownHere_129 : decode cX11_knownHere 129 = .ok (.iconst 0, 1) := dk_3 (dk_at dksX11_knownHere_5 14 rfl rfl)
theorem dX11_knownHere_130 : decode cX11_knownHere 130 = .ok (.iconst 0, 1) := dk_3 (dk_at dksX11_knownHere_5 15 rfl rfl)
theorem dX11_knownHere_131 : decode cX11_knownHere 131 = .ok (.iconst 0, 1) := dk_3 (dk_at dksX11_knownHere_5 16 rfl rfl)
theorem dX11_knownHere_132 : decode cX11_knownHere 132 = .ok (.invokevirtual 230, 3) := dk_182 0 230 (dk_at dksX11_knownHere_5 17 rfl rfl)
theorem dX11_knownHere_135 : decode cX11_knownHere 135 = .ok (.ifCond .eq 8, 3) := dk_153 0 8 (dk_at dksX11_knownHere_5 20 rfl rfl)
theorem dX11_knownHere_138 : decode cX11_knownHere 138 = .ok (.bipush 7, 2) := dk_16 7 (dk_at dksX11_knownHere_6 0 rfl rfl)
theorem dX11_knownHere_140 : decode cX11_knownHere 140 = .ok (.goto 4, 3) := dk_167 0 4 (dk_at dksX11_knownHere_6 2 rfl rfl)
theorem dX11_knownHere_143 : decode cX11_knownHere 143 = .ok (.iconst (-1), 1) := dk_2 (dk_at dksX11_knownHere_6 5 rfl rfl)
theorem dX11_knownHere_144 : decode cX11_knownHere 144 = .ok (.ireturn, 1) := dk_172 (dk_at dksX11_knownHere_6 6 rfl rfl)
def dkwX11_takes_1 : List UInt8 := [21, 7, 172]
abbrev dktX11_takes_1 : List UInt8 := dkwX11_takes_1 ++ []
def dkwX11_takes_0 : List UInt8 := [42, 27, 28, 29, 21, 4, 21, 5, 21, 6, 182, 0, 152, 54, 7, 21, 7, 153, 0, 7, 42, 182, 0, 156]
abbrev dktX11_takes_0 : List UInt8 := dkwX11_takes_0 ++ dktX11_takes_1
theorem dksX11_takes_0 : cX11_takes.data.toList.drop 0 = dktX11_takes_0 := by decide +kernel
theorem dksX11_takes_1 : cX11_takes.data.toList.drop 24 = dktX11_takes_1 := dk_seg dksX11_takes_0 24 rfl rfl
theorem dX11_takes_0 : decode cX11_takes 0 = .ok (.aload_n 0, 1) := dk_42 (dk_at dksX11_takes_0 0 rfl rfl)
theorem dX11_takes_1 : decode cX11_takes 1 = .ok (.iload_n 1, 1) := dk_27 (dk_at dksX11_takes_0 1 rfl rfl)
theorem dX11_takes_2 : decode cX11_takes 2 = .ok (.iload_n 2, 1) := dk_28 (dk_at dksX11_takes_0 2 rfl rfl)
theorem dX11_takes_3 : decode cX11_takes 3 = .ok (.iload_n 3, 1) := dk_29 (dk_at dksX11_takes_0 3 rfl rfl)
theorem dX11_takes_4 : decode cX11_takes 4 = .ok (.iload 4, 2) := dk_21 4 (dk_at dksX11_takes_0 4 rfl rfl)
theorem dX11_takes_6 : decode cX11_takes 6 = .ok (.iload 5, 2) := dk_21 5 (dk_at dksX11_takes_0 6 rfl rfl)
theorem dX11_takes_8 : decode cX11_takes 8 = .ok (.iload 6, 2) := dk_21 6 (dk_at dksX11_takes_0 8 rfl rfl)
theorem dX11_takes_10 : decode cX11_takes 10 = .ok (.invokevirtual 152, 3) := dk_182 0 152 (dk_at dksX11_takes_0 10 rfl rfl)
theorem dX11_takes_13 : decode cX11_takes 13 = .ok (.istore 7, 2) := dk_54 7 (dk_at dksX11_takes_0 13 rfl rfl)
theorem dX11_takes_15 : decode cX11_takes 15 = .ok (.iload 7, 2) := dk_21 7 (dk_at dksX11_takes_0 15 rfl rfl)
theorem dX11_takes_17 : decode cX11_takes 17 = .ok (.ifCond .eq 7, 3) := dk_153 0 7 (dk_at dksX11_takes_0 17 rfl rfl)
theorem dX11_takes_20 : decode cX11_takes 20 = .ok (.aload_n 0, 1) := dk_42 (dk_at dksX11_takes_0 20 rfl rfl)
theorem dX11_takes_21 : decode cX11_takes 21 = .ok (.invokevirtual 156, 3) := dk_182 0 156 (dk_at dksX11_takes_0 21 rfl rfl)
theorem dX11_takes_24 : decode cX11_takes 24 = .ok (.iload 7, 2) := dk_21 7 (dk_at dksX11_takes_1 0 rfl rfl)
theorem dX11_takes_26 : decode cX11_takes 26 = .ok (.ireturn, 1) := dk_172 (dk_at dksX11_takes_1 2 rfl rfl)
def dkwX11_isTempted_5 : List UInt8 := [42, 182, 0, 156, 29, 172]
abbrev dktX11_isTempted_5 : List UInt8 := dkwX11_isTempted_5 ++ []
def dkwX11_isTempted_4 : List UInt8 := [180, 0, 112, 16, 6, 96, 182, 0, 115, 16, 100, 160, 0, 7, 4, 167, 0, 4, 3, 62, 29, 153, 0, 7]
abbrev dktX11_isTempted_4 : List UInt8 := dkwX11_isTempted_4 ++ dktX11_isTempted_5
def dkwX11_isTempted_3 : List UInt8 := [16, 7, 160, 0, 40, 27, 16, 20, 8, 16, 13, 16, 16, 16, 20, 8, 184, 0, 148, 160, 0, 23, 42, 42]
abbrev dktX11_isTempted_3 : List UInt8 := dkwX11_isTempted_3 ++ dktX11_isTempted_4
def dkwX11_isTempted_2 : List UInt8 := [28, 96, 182, 0, 115, 96, 16, 97, 100, 4, 96, 167, 0, 4, 27, 60, 132, 2, 1, 167, 255, 206, 28]
abbrev dktX11_isTempted_2 : List UInt8 := dkwX11_isTempted_2 ++ dktX11_isTempted_3
def dkwX11_isTempted_1 : List UInt8 := [182, 0, 115, 184, 0, 141, 153, 0, 40, 28, 16, 6, 162, 0, 26, 16, 27, 27, 104, 42, 42, 180, 0, 112]
abbrev dktX11_isTempted_1 : List UInt8 := dkwX11_isTempted_1 ++ dktX11_isTempted_2
def dkwX11_isTempted_0 : List UInt8 := [42, 180, 0, 119, 153, 0, 5, 3, 172, 42, 182, 0, 125, 3, 60, 3, 61, 42, 42, 180, 0, 112, 28, 96]
abbrev dktX11_isTempted_0 : List UInt8 := dkwX11_isTempted_0 ++ dktX11_isTempted_1
theorem dksX11_isTempted_0 : cX11_isTempted.data.toList.drop 0 = dktX11_isTempted_0 := by decide +kernel
theorem dksX11_isTempted_1 : cX11_isTempted.data.toList.drop 24 = dktX11_isTempted_1 := dk_seg dksX11_isTempted_0 24 rfl rfl
theorem dksX11_isTempted_2 : cX11_isTempted.data.toList.drop 48 = dktX11_isTempted_2 := dk_seg dksX11_isTempted_1 24 rfl rfl
theorem dksX11_isTempted_3 : cX11_isTempted.data.toList.drop 71 = dktX11_isTempted_3 := dk_seg dksX11_isTempted_2 23 rfl rfl
theorem dksX11_isTempted_4 : cX11_isTempted.data.toList.drop 95 = dktX11_isTempted_4 := dk_seg dksX11_isTempted_3 24 rfl rfl
theorem dksX11_isTempted_5 : cX11_isTempted.data.toList.drop 119 = dktX11_isTempted_5 := dk_seg dksX11_isTempted_4 24 rfl rfl
theorem dX11_isTempted_0 : decode cX11_isTempted 0 = .ok (.aload_n 0, 1) := dk_42 (dk_at dksX11_isTempted_0 0 rfl rfl)
theorem dX11_isTempted_1 : decode cX11_isTempted 1 = .ok (.getfield 119, 3) := dk_180 0 119 (dk_at dksX11_isTempted_0 1 rfl rfl)
theorem dX11_isTempted_4 : decode cX11_isTempted 4 = .ok (.ifCond .eq 5, 3) := dk_153 0 5 (dk_at dksX11_isTempted_0 4 rfl rfl)
theorem dX11_isTempted_7 : decode cX11_isTempted 7 = .ok (.iconst 0, 1) := dk_3 (dk_at dksX11_isTempted_0 7 rfl rfl)
theorem dX11_isTempted_8 : decode cX11_isTempted 8 = .ok (.ireturn, 1) := dk_172 (dk_at dksX11_isTempted_0 8 rfl rfl)
theorem dX11_isTempted_9 : decode cX11_isTempted 9 = .ok (.aload_n 0, 1) := dk_42 (dk_at dksX11_isTempted_0 9 rfl rfl)
theorem dX11_isTempted_10 : decode cX11_isTempted 10 = .ok (.invokevirtual 125, 3) := dk_182 0 125 (dk_at dksX11_isTempted_0 10 rfl rfl)
theorem dX11_isTempted_13 : decode cX11_isTempted 13 = .ok (.iconst 0, 1) := dk_3 (dk_at dksX11_isTempted_0 13 rfl rfl)
theorem dX11_isTempted_14 : decode cX11_isTempted 14 = .ok (.istore_n 1, 1) := dk_60 (dk_at dksX11_isTempted_0 14 rfl rfl)
theorem dX11_isTempted_15 : decode cX11_isTempted 15 = .ok (.iconst 0, 1) := dk_3 (dk_at dksX11_isTempted_0 15 rfl rfl)
theorem dX11_isTempted_16 : decode cX11_isTempted 16 = .ok (.istore_n 2, 1) := dk_61 (dk_at dksX11_isTempted_0 16 rfl rfl)
theorem dX11_isTempted_17 : decode cX11_isTempted 17 = .ok (.aload_n 0, 1) := dk_42 (dk_at dksX11_isTempted_0 17 rfl rfl)
theorem dX11_isTempted_18 : decode cX11_isTempted 18 = .ok (.aload_n 0, 1) := dk_42 (dk_at dksX11_isTempted_0 18 rfl rfl)
theorem dX11_isTempted_19 : decode cX11_isTempted 19 = .ok (.getfield 112, 3) := dk_180 0 112 (dk_at dksX11_isTempted_0 19 rfl rfl)
theorem dX11_isTempted_22 : decode cX11_isTempted 22 = .ok (.iload_n 2, 1) := dk_28 (dk_at dksX11_isTempted_0 22 rfl rfl)
theorem dX11_isTempted_23 : decode cX11_isTempted 23 = .ok (.iadd, 1) := dk_96 (dk_at dksX11_isTempted_0 23 rfl rfl)
theorem dX11_isTempted_24 : decode cX11_isTempted 24 = .ok (.invokevirtual 115, 3) := dk_182 0 115 (dk_at dksX11_isTempted_1 0 rfl rfl)
theorem dX11_isTempted_27 : decode cX11_isTempted 27 = .ok (.invokestatic 141, 3) := dk_184 0 141 (dk_at dksX11_isTempted_1 3 rfl rfl)
theorem dX11_isTempted_30 : decode cX11_isTempted 30 = .ok (.ifCond .eq 40, 3) := dk_153 0 40 (dk_at dksX11_isTempted_1 6 rfl rfl)
theorem dX11_isTempted_33 : decode cX11_isTempted 33 = .ok (.iload_n 2, 1) := dk_28 (dk_at dksX11_isTempted_1 9 rfl rfl)
theorem dX11_isTempted_34 : decode cX11_isTempted 34 = .ok (.bipush 6, 2) := dk_16 6 (dk_at dksX11_isTempted_1 10 rfl rfl)
theorem dX11_isTempted_36 : decode cX11_isTempted 36 = .ok (.if_icmp .ge 26, 3) := dk_162 0 26 (dk_at dksX11_isTempted_1 12 rfl rfl)
theorem dX11_isTempted_39 : decode cX11_isTempted 39 = .ok (.bipush 27, 2) := dk_16 27 (dk_at dksX11_isTempted_1 15 rfl rfl)
theorem dX11_isTempted_41 : decode cX11_isTempted 41 = .ok (.iload_n 1, 1) := dk_27 (dk_at dksX11_isTempted_1 17 rfl rfl)
theorem dX11_isTempted_42 : decode cX11_isTempted 42 = .ok (.imul, 1) := dk_104 (dk_at dksX11_isTempted_1 18 rfl rfl)
theorem dX11_isTempted_43 : decode cX11_isTempted 43 = .ok (.aload_n 0, 1) := dk_42 (dk_at dksX11_isTempted_1 19 rfl rfl)
theorem dX11_isTempted_44 : decode cX11_isTempted 44 = .ok (.aload_n 0, 1) := dk_42 (dk_at dksX11_isTempted_1 20 rfl rfl)
theorem dX11_isTempted_45 : decode cX11_isTempted 45 = .ok (.getfield 112, 3) := dk_180 0 112 (dk_at dksX11_isTempted_1 21 rfl rfl)
theorem dX11_isTempted_48 : decode cX11_isTempted 48 = .ok (.iload_n 2, 1) := dk_28 (dk_at dksX11_isTempted_2 0 rfl rfl)
theorem dX11_isTempted_49 : decode cX11_isTempted 49 = .ok (.iadd, 1) := dk_96 (dk_at dksX11_isTempted_2 1 rfl rfl)
theorem dX11_isTempted_50 : decode cX11_isTempted 50 = .ok (.invokevirtual 115, 3) := dk_182 0 115 (dk_at dksX11_isTempted_2 2 rfl rfl)
theorem dX11_isTempted_53 : decode cX11_isTempted 53 = .ok (.iadd, 1) := dk_96 (dk_at dksX11_isTempted_2 5 rfl rfl)
theorem dX11_isTempted_54 : decode cX11_isTempted 54 = .ok (.bipush 97, 2) := dk_16 97 (dk_at dksX11_isTempted_2 6 rfl rfl)
theorem dX11_isTempted_56 : decode cX11_isTempted 56 = .ok (.isub, 1) := dk_100 (dk_at dksX11_isTempted_2 8 rfl rfl)
theorem dX11_isTempted_57 : decode cX11_isTempted 57 = .ok (.iconst 1, 1) := dk_4 (dk_at dksX11_isTempted_2 9 rfl rfl)
theorem dX11_isTempted_58 : decode cX11_isTempted 58 = .ok (.iadd, 1) := dk_96 (dk_at dksX11_isTempted_2 10 rfl rfl)
theorem dX11_isTempted_59 : decode cX11_isTempted 59 = .ok (.goto 4, 3) := dk_167 0 4 (dk_at dksX11_isTempted_2 11 rfl rfl)
theorem dX11_isTempted_62 : decode cX11_isTempted 62 = .ok (.iload_n 1, 1) := dk_27 (dk_at dksX11_isTempted_2 14 rfl rfl)
theorem dX11_isTempted_63 : decode cX11_isTempted 63 = .ok (.istore_n 1, 1) := dk_60 (dk_at dksX11_isTempted_2 15 rfl rfl)
theorem dX11_isTempted_64 : decode cX11_isTempted 64 = .ok (.iinc 2 1, 3) := dk_132 2 1 (dk_at dksX11_isTempted_2 16 rfl rfl)
theorem dX11_isTempted_67 : decode cX11_isTempted 67 = .ok (.goto (-50), 3) := dk_167 255 206 (dk_at dksX11_isTempted_2 19 rfl rfl)
theorem dX11_isTempted_70 : decode cX11_isTempted 70 = .ok (.iload_n 2, 1) := dk_28 (dk_at dksX11_isTempted_2 22 rfl rfl)
theorem dX11_isTempted_71 : decode cX11_isTempted 71 = .ok (.bipush 7, 2) := dk_16 7 (dk_at dksX11_isTempted_3 0 rfl rfl)
theorem dX11_isTempted_73 : decode cX11_isTempted 73 = .ok (.if_icmp .ne 40, 3) := dk_160 0 40 (dk_at dksX11_isTempted_3 2 rfl rfl)
theorem dX11_isTempted_76 : decode cX11_isTempted 76 = .ok (.iload_n 1, 1) := dk_27 (dk_at dksX11_isTempted_3 5 rfl rfl)
theorem dX11_isTempted_77 : decode cX11_isTempted 77 = .ok (.bipush 20, 2) := dk_16 20 (dk_at dksX11_isTempted_3 6 rfl rfl)
theorem dX11_isTempted_79 : decode cX11_isTempted 79 = .ok (.iconst 5, 1) := dk_8 (dk_at dksX11_isTempted_3 8 rfl rfl)
theorem dX11_isTempted_80 : decode cX11_isTempted 80 = .ok (.bipush 13, 2) := dk_16 13 (dk_at dksX11_isTempted_3 9 rfl rfl)
theorem dX11_isTempted_82 : decode cX11_isTempted 82 = .ok (.bipush 16, 2) := dk_16 16 (dk_at dksX11_isTempted_3 11 rfl rfl)
theorem dX11_isTempted_84 : decode cX11_isTempted 84 = .ok (.bipush 20, 2) := dk_16 20 (dk_at dksX11_isTempted_3 13 rfl rfl)
theorem dX11_isTempted_86 : decode cX11_isTempted 86 = .ok (.iconst 5, 1) := dk_8 (dk_at dksX11_isTempted_3 15 rfl rfl)
theorem dX11_isTempted_87 : decode cX11_isTempted 87 = .ok (.invokestatic 148, 3) := dk_184 0 148 (dk_at dksX11_isTempted_3 16 rfl rfl)
theorem dX11_isTempted_90 : decode cX11_isTempted 90 = .ok (.if_icmp .ne 23, 3) := dk_160 0 23 (dk_at dksX11_isTempted_3 19 rfl rfl)
theorem dX11_isTempted_93 : decode cX11_isTempted 93 = .ok (.aload_n 0, 1) := dk_42 (dk_at dksX11_isTempted_3 22 rfl rfl)
theorem dX11_isTempted_94 : decode cX11_isTempted 94 = .ok (.aload_n 0, 1) := dk_42 (dk_at dksX11_isTempted_3 23 rfl rfl)
theorem dX11_isTempted_95 : decode cX11_isTempted 95 = .ok (.getfield 112, 3) := dk_180 0 112 (dk_at dksX11_isTempted_4 0 rfl rfl)
theorem dX11_isTempted_98 : decode cX11_isTempted 98 = .ok (.bipush 6, 2) := dk_16 6 (dk_at dksX11_isTempted_4 3 rfl rfl)
theorem dX11_isTempted_100 : decode cX11_isTempted 100 = .ok (.iadd, 1) := dk_96 (dk_at dksX11_isTempted_4 5 rfl rfl)
theorem dX11_isTempted_101 : decode cX11_isTempted 101 = .ok (.invokevirtual 115, 3) := dk_182 0 115 (dk_at dksX11_isTempted_4 6 rfl rfl)
theorem dX11_isTempted_104 : decode cX11_isTempted 104 = .ok (.bipush 100, 2) := dk_16 100 (dk_at dksX11_isTempted_4 9 rfl rfl)
theorem dX11_isTempted_106 : decode cX11_isTempted 106 = .ok (.if_icmp .ne 7, 3) := dk_160 0 7 (dk_at dksX11_isTempted_4 11 rfl rfl)
theorem dX11_isTempted_109 : decode cX11_isTempted 109 = .ok (.iconst 1, 1) := dk_4 (dk_at dksX11_isTempted_4 14 rfl rfl)
theorem dX11_isTempted_110 : decode cX11_isTempted 110 = .ok (.goto 4, 3) := dk_167 0 4 (dk_at dksX11_isTempted_4 15 rfl rfl)
theorem dX11_isTempted_113 : decode cX11_isTempted 113 = .ok (.iconst 0, 1) := dk_3 (dk_at dksX11_isTempted_4 18 rfl rfl)
theorem dX11_isTempted_114 : decode cX11_isTempted 114 = .ok (.istore_n 3, 1) := dk_62 (dk_at dksX11_isTempted_4 19 rfl rfl)
theorem dX11_isTempted_115 : decode cX11_isTempted 115 = .ok (.iload_n 3, 1) := dk_29 (dk_at dksX11_isTempted_4 20 rfl rfl)
theorem dX11_isTempted_116 : decode cX11_isTempted 116 = .ok (.ifCond .eq 7, 3) := dk_153 0 7 (dk_at dksX11_isTempted_4 21 rfl rfl)
theorem dX11_isTempted_119 : decode cX11_isTempted 119 = .ok (.aload_n 0, 1) := dk_42 (dk_at dksX11_isTempted_5 0 rfl rfl)
theorem dX11_isTempted_120 : decode cX11_isTempted 120 = .ok (.invokevirtual 156, 3) := dk_182 0 156 (dk_at dksX11_isTempted_5 1 rfl rfl)
theorem dX11_isTempted_123 : decode cX11_isTempted 123 = .ok (.iload_n 3, 1) := dk_29 (dk_at dksX11_isTempted_5 4 rfl rfl)
theorem dX11_isTempted_124 : decode cX11_isTempted 124 = .ok (.ireturn, 1) := dk_172 (dk_at dksX11_isTempted_5 5 rfl rfl)
def dkwX11_takesSign_2 : List UInt8 := [172]
abbrev dktX11_takesSign_2 : List UInt8 := dkwX11_takesSign_2 ++ []
def dkwX11_takesSign_1 : List UInt8 := [160, 0, 7, 4, 167, 0, 4, 3, 61, 28, 153, 0, 13, 42, 89, 180, 0, 112, 4, 96, 181, 0, 112, 28]
abbrev dktX11_takesSign_1 : List UInt8 := dkwX11_takesSign_1 ++ dktX11_takesSign_2
def dkwX11_takesSign_0 : List UInt8 := [42, 180, 0, 119, 153, 0, 5, 3, 172, 42, 182, 0, 125, 42, 42, 180, 0, 112, 182, 0, 115, 27]
abbrev dktX11_takesSign_0 : List UInt8 := dkwX11_takesSign_0 ++ dktX11_takesSign_1
theorem dksX11_takesSign_0 : cX11_takesSign.data.toList.drop 0 = dktX11_takesSign_0 := by decide +kernel
theorem dksX11_takesSign_1 : cX11_takesSign.data.toList.drop 22 = dktX11_takesSign_1 := dk_seg dksX11_takesSign_0 22 rfl rfl
theorem dksX11_takesSign_2 : cX11_takesSign.data.toList.drop 46 = dktX11_takesSign_2 := dk_seg dksX11_takesSign_1 24 rfl rfl
theorem dX11_takesSign_0 : decode cX11_takesSign 0 = .ok (.aload_n 0, 1) := dk_42 (dk_at dksX11_takesSign_0 0 rfl rfl)
theorem dX11_takesSign_1 : decode cX11_takesSign 1 = .ok (.getfield 119, 3) := dk_180 0 119 (dk_at dksX11_takesSign_0 1 rfl rfl)
theorem dX11_takesSign_4 : decode cX11_takesSign 4 = .ok (.ifCond .eq 5, 3) := dk_153 0 5 (dk_at dksX11_takesSign_0 4 rfl rfl)
theorem dX11_takesSign_7 : decode cX11_takesSign 7 = .ok (.iconst 0, 1) := dk_3 (dk_at dksX11_takesSign_0 7 rfl rfl)
theorem dX11_takesSign_8 : decode cX11_takesSign 8 = .ok (.ireturn, 1) := dk_172 (dk_at dksX11_takesSign_0 8 rfl rfl)
theorem dX11_takesSign_9 : decode cX11_takesSign 9 = .ok (.aload_n 0, 1) := dk_42 (dk_at dksX11_takesSign_0 9 rfl rfl)
theorem dX11_takesSign_10 : decode cX11_takesSign 10 = .ok (.invokevirtual 125, 3) := dk_182 0 125 (dk_at dksX11_takesSign_0 10 rfl rfl)
theorem dX11_takesSign_13 : decode cX11_takesSign 13 = .ok (.aload_n 0, 1) := dk_42 (dk_at dksX11_takesSign_0 13 rfl rfl)
theorem dX11_takesSign_14 : decode cX11_takesSign 14 = .ok (.aload_n 0, 1) := dk_42 (dk_at dksX11_takesSign_0 14 rfl rfl)
theorem dX11_takesSign_15 : decode cX11_takesSign 15 = .ok (.getfield 112, 3) := dk_180 0 112 (dk_at dksX11_takesSign_0 15 rfl rfl)
theorem dX11_takesSign_18 : decode cX11_takesSign 18 = .ok (.invokevirtual 115, 3) := dk_182 0 115 (dk_at dksX11_takesSign_0 18 rfl rfl)
theorem dX11_takesSign_21 : decode cX11_takesSign 21 = .ok (.iload_n 1, 1) := dk_27 (dk_at dksX11_takesSign_0 21 rfl rfl)
theorem dX11_takesSign_22 : decode cX11_takesSign 22 = .ok (.if_icmp .ne 7, 3) := dk_160 0 7 (dk_at dksX11_takesSign_1 0 rfl rfl)
theorem dX11_takesSign_25 : decode cX11_takesSign 25 = .ok (.iconst 1, 1) := dk_4 (dk_at dksX11_takesSign_1 3 rfl rfl)
theorem dX11_takesSign_26 : decode cX11_takesSign 26 = .ok (.goto 4, 3) := dk_167 0 4 (dk_at dksX11_takesSign_1 4 rfl rfl)
theorem dX11_takesSign_29 : decode cX11_takesSign 29 = .ok (.iconst 0, 1) := dk_3 (dk_at dksX11_takesSign_1 7 rfl rfl)
theorem dX11_takesSign_30 : decode cX11_takesSign 30 = .ok (.istore_n 2, 1) := dk_61 (dk_at dksX11_takesSign_1 8 rfl rfl)
theorem dX11_takesSign_31 : decode cX11_takesSign 31 = .ok (.iload_n 2, 1) := dk_28 (dk_at dksX11_takesSign_1 9 rfl rfl)
theorem dX11_takesSign_32 : decode cX11_takesSign 32 = .ok (.ifCond .eq 13, 3) := dk_153 0 13 (dk_at dksX11_takesSign_1 10 rfl rfl)
theorem dX11_takesSign_35 : decode cX11_takesSign 35 = .ok (.aload_n 0, 1) := dk_42 (dk_at dksX11_takesSign_1 13 rfl rfl)
theorem dX11_takesSign_36 : decode cX11_takesSign 36 = .ok (.dup, 1) := dk_89 (dk_at dksX11_takesSign_1 14 rfl rfl)
theorem dX11_takesSign_37 : decode cX11_takesSign 37 = .ok (.getfield 112, 3) := dk_180 0 112 (dk_at dksX11_takesSign_1 15 rfl rfl)
theorem dX11_takesSign_40 : decode cX11_takesSign 40 = .ok (.iconst 1, 1) := dk_4 (dk_at dksX11_takesSign_1 18 rfl rfl)
theorem dX11_takesSign_41 : decode cX11_takesSign 41 = .ok (.iadd, 1) := dk_96 (dk_at dksX11_takesSign_1 19 rfl rfl)
theorem dX11_takesSign_42 : decode cX11_takesSign 42 = .ok (.putfield 112, 3) := dk_181 0 112 (dk_at dksX11_takesSign_1 20 rfl rfl)
theorem dX11_takesSign_45 : decode cX11_takesSign 45 = .ok (.iload_n 2, 1) := dk_28 (dk_at dksX11_takesSign_1 23 rfl rfl)
theorem dX11_takesSign_46 : decode cX11_takesSign 46 = .ok (.ireturn, 1) := dk_172 (dk_at dksX11_takesSign_2 0 rfl rfl)
def dkwX11_seen_8 : List UInt8 := [181, 0, 203, 42, 180, 0, 61, 42, 180, 0, 58, 28, 184, 0, 196, 28, 172]
abbrev dktX11_seen_8 : List UInt8 := dkwX11_seen_8 ++ []
def dkwX11_seen_7 : List UInt8 := [167, 255, 138, 42, 180, 0, 119, 153, 0, 8, 42, 182, 0, 193, 172, 42, 2, 181, 0, 9, 42, 28]
abbrev dktX11_seen_7 : List UInt8 := dkwX11_seen_7 ++ dktX11_seen_8
def dkwX11_seen_6 : List UInt8 := [28, 50, 3, 21, 5, 79, 42, 180, 0, 61, 28, 50, 4, 21, 6, 79, 132, 2, 1, 42, 182, 0, 125]
abbrev dktX11_seen_6 : List UInt8 := dkwX11_seen_6 ++ dktX11_seen_7
def dkwX11_seen_5 : List UInt8 := [42, 16, 59, 182, 0, 179, 42, 180, 0, 119, 154, 0, 33, 29, 4, 21, 5, 120, 128, 62, 42, 180, 0, 61]
abbrev dktX11_seen_5 : List UInt8 := dkwX11_seen_5 ++ dktX11_seen_6
def dkwX11_seen_4 : List UInt8 := [21, 5, 184, 1, 7, 153, 0, 10, 42, 5, 21, 4, 182, 0, 132, 42, 3, 16, 99, 182, 0, 175, 54, 6]
abbrev dktX11_seen_4 : List UInt8 := dkwX11_seen_4 ++ dktX11_seen_5
def dkwX11_seen_3 : List UInt8 := [42, 3, 42, 180, 0, 23, 4, 46, 4, 100, 182, 0, 175, 54, 5, 42, 180, 0, 119, 154, 0, 19, 29]
abbrev dktX11_seen_3 : List UInt8 := dkwX11_seen_3 ++ dktX11_seen_4
def dkwX11_seen_2 : List UInt8 := [42, 180, 0, 119, 154, 0, 117, 42, 180, 0, 112, 42, 180, 0, 109, 162, 0, 106, 42, 180, 0, 112, 54, 4]
abbrev dktX11_seen_2 : List UInt8 := dkwX11_seen_2 ++ dktX11_seen_3
def dkwX11_seen_1 : List UInt8 := [4, 167, 0, 4, 3, 4, 4, 182, 0, 183, 153, 0, 5, 3, 172, 42, 27, 182, 0, 187, 3, 61, 3, 62]
abbrev dktX11_seen_1 : List UInt8 := dkwX11_seen_1 ++ dktX11_seen_2
def dkwX11_seen_0 : List UInt8 := [42, 3, 181, 0, 103, 42, 27, 3, 42, 180, 0, 106, 184, 0, 137, 153, 0, 9, 27, 16, 60, 164, 0, 7]
abbrev dktX11_seen_0 : List UInt8 := dkwX11_seen_0 ++ dktX11_seen_1
theorem dksX11_seen_0 : cX11_seen.data.toList.drop 0 = dktX11_seen_0 := by decide +kernel
theorem dksX11_seen_1 : cX11_seen.data.toList.drop 24 = dktX11_seen_1 := dk_seg dksX11_seen_0 24 rfl rfl
theorem dksX11_seen_2 : cX11_seen.data.toList.drop 48 = dktX11_seen_2 := dk_seg dksX11_seen_1 24 rfl rfl
theorem dksX11_seen_3 : cX11_seen.data.toList.drop 72 = dktX11_seen_3 := dk_seg dksX11_seen_2 24 rfl rfl
theorem dksX11_seen_4 : cX11_seen.data.toList.drop 95 = dktX11_seen_4 := dk_seg dksX11_seen_3 23 rfl rfl
theorem dksX11_seen_5 : cX11_seen.data.toList.drop 119 = dktX11_seen_5 := dk_seg dksX11_seen_4 24 rfl rfl
theorem dksX11_seen_6 : cX11_seen.data.toList.drop 143 = dktX11_seen_6 := dk_seg dksX11_seen_5 24 rfl rfl
theorem dksX11_seen_7 : cX11_seen.data.toList.drop 166 = dktX11_seen_7 := dk_seg dksX11_seen_6 23 rfl rfl
theorem dksX11_seen_8 : cX11_seen.data.toList.drop 188 = dktX11_seen_8 := dk_seg dksX11_seen_7 22 rfl rfl
theorem dX11_seen_0 : decode cX11_seen 0 = .ok (.aload_n 0, 1) := dk_42 (dk_at dksX11_seen_0 0 rfl rfl)
theorem dX11_seen_1 : decode cX11_seen 1 = .ok (.iconst 0, 1) := dk_3 (dk_at dksX11_seen_0 1 rfl rfl)
theorem dX11_seen_2 : decode cX11_seen 2 = .ok (.putfield 103, 3) := dk_181 0 103 (dk_at dksX11_seen_0 2 rfl rfl)
theorem dX11_seen_5 : decode cX11_seen 5 = .ok (.aload_n 0, 1) := dk_42 (dk_at dksX11_seen_0 5 rfl rfl)
theorem dX11_seen_6 : decode cX11_seen 6 = .ok (.iload_n 1, 1) := dk_27 (dk_at dksX11_seen_0 6 rfl rfl)
theorem dX11_seen_7 : decode cX11_seen 7 = .ok (.iconst 0, 1) := dk_3 (dk_at dksX11_seen_0 7 rfl rfl)
theorem dX11_seen_8 : decode cX11_seen 8 = .ok (.aload_n 0, 1) := dk_42 (dk_at dksX11_seen_0 8 rfl rfl)
theorem dX11_seen_9 : decode cX11_seen 9 = .ok (.getfield 106, 3) := dk_180 0 106 (dk_at dksX11_seen_0 9 rfl rfl)
theorem dX11_seen_12 : decode cX11_seen 12 = .ok (.invokestatic 137, 3) := dk_184 0 137 (dk_at dksX11_seen_0 12 rfl rfl)
theorem dX11_seen_15 : decode cX11_seen 15 = .ok (.ifCond .eq 9, 3) := dk_153 0 9 (dk_at dksX11_seen_0 15 rfl rfl)
theorem dX11_seen_18 : decode cX11_seen 18 = .ok (.iload_n 1, 1) := dk_27 (dk_at dksX11_seen_0 18 rfl rfl)
theorem dX11_seen_19 : decode cX11_seen 19 = .ok (.bipush 60, 2) := dk_16 60 (dk_at dksX11_seen_0 19 rfl rfl)
theorem dX11_seen_21 : decode cX11_seen 21 = .ok (.if_icmp .le 7, 3) := dk_164 0 7 (dk_at dksX11_seen_0 21 rfl rfl)
theorem dX11_seen_24 : decode cX11_seen 24 = .ok (.iconst 1, 1) := dk_4 (dk_at dksX11_seen_1 0 rfl rfl)
theorem dX11_seen_25 : decode cX11_seen 25 = .ok (.goto 4, 3) := dk_167 0 4 (dk_at dksX11_seen_1 1 rfl rfl)
theorem dX11_seen_28 : decode cX11_seen 28 = .ok (.iconst 0, 1) := dk_3 (dk_at dksX11_seen_1 4 rfl rfl)
theorem dX11_seen_29 : decode cX11_seen 29 = .ok (.iconst 1, 1) := dk_4 (dk_at dksX11_seen_1 5 rfl rfl)
theorem dX11_seen_30 : decode cX11_seen 30 = .ok (.iconst 1, 1) := dk_4 (dk_at dksX11_seen_1 6 rfl rfl)
theorem dX11_seen_31 : decode cX11_seen 31 = .ok (.invokevirtual 183, 3) := dk_182 0 183 (dk_at dksX11_seen_1 7 rfl rfl)
theorem dX11_seen_34 : decode cX11_seen 34 = .ok (.ifCond .eq 5, 3) := dk_153 0 5 (dk_at dksX11_seen_1 10 rfl rfl)
theorem dX11_seen_37 : decode cX11_seen 37 = .ok (.iconst 0, 1) := dk_3 (dk_at dksX11_seen_1 13 rfl rfl)
theorem dX11_seen_38 : decode cX11_seen 38 = .ok (.ireturn, 1) := dk_172 (dk_at dksX11_seen_1 14 rfl rfl)
theorem dX11_seen_39 : decode cX11_seen 39 = .ok (.aload_n 0, 1) := dk_42 (dk_at dksX11_seen_1 15 rfl rfl)
theorem dX11_seen_40 : decode cX11_seen 40 = .ok (.iload_n 1, 1) := dk_27 (dk_at dksX11_seen_1 16 rfl rfl)
theorem dX11_seen_41 : decode cX11_seen 41 = .ok (.invokevirtual 187, 3) := dk_182 0 187 (dk_at dksX11_seen_1 17 rfl rfl)
theorem dX11_seen_44 : decode cX11_seen 44 = .ok (.iconst 0, 1) := dk_3 (dk_at dksX11_seen_1 20 rfl rfl)
theorem dX11_seen_45 : decode cX11_seen 45 = .ok (.istore_n 2, 1) := dk_61 (dk_at dksX11_seen_1 21 rfl rfl)
theorem dX11_seen_46 : decode cX11_seen 46 = .ok (.iconst 0, 1) := dk_3 (dk_at dksX11_seen_1 22 rfl rfl)
theorem dX11_seen_47 : decode cX11_seen 47 = .ok (.istore_n 3, 1) := dk_62 (dk_at dksX11_seen_1 23 rfl rfl)
theorem dX11_seen_48 : decode cX11_seen 48 = .ok (.aload_n 0, 1) := dk_42 (dk_at dksX11_seen_2 0 rfl rfl)
theorem dX11_seen_49 : decode cX11_seen 49 = .ok (.getfield 119, 3) := dk_180 0 119 (dk_at dksX11_seen_2 1 rfl rfl)
theorem dX11_seen_52 : decode cX11_seen 52 = .ok (.ifCond .ne 117, 3) := dk_154 0 117 (dk_at dksX11_seen_2 4 rfl rfl)
theorem dX11_seen_55 : decode cX11_seen 55 = .ok (.aload_n 0, 1) := dk_42 (dk_at dksX11_seen_2 7 rfl rfl)
theorem dX11_seen_56 : decode cX11_seen 56 = .ok (.getfield 112, 3) := dk_180 0 112 (dk_at dksX11_seen_2 8 rfl rfl)
theorem dX11_seen_59 : decode cX11_seen 59 = .ok (.aload_n 0, 1) := dk_42 (dk_at dksX11_seen_2 11 rfl rfl)
theorem dX11_seen_60 : decode cX11_seen 60 = .ok (.getfield 109, 3) := dk_180 0 109 (dk_at dksX11_seen_2 12 rfl rfl)
theorem dX11_seen_63 : decode cX11_seen 63 = .ok (.if_icmp .ge 106, 3) := dk_162 0 106 (dk_at dksX11_seen_2 15 rfl rfl)
theorem dX11_seen_66 : decode cX11_seen 66 = .ok (.aload_n 0, 1) := dk_42 (dk_at dksX11_seen_2 18 rfl rfl)
theorem dX11_seen_67 : decode cX11_seen 67 = .ok (.getfield 112, 3) := dk_180 0 112 (dk_at dksX11_seen_2 19 rfl rfl)
theorem dX11_seen_70 : decode cX11_seen 70 = .ok (.istore 4, 2) := dk_54 4 (dk_at dksX11_seen_2 22 rfl rfl)
theorem dX11_seen_72 : decode cX11_seen 72 = .ok (.aload_n 0, 1) := dk_42 (dk_at dksX11_seen_3 0 rfl rfl)
theorem dX11_seen_73 : decode cX11_seen 73 = .ok (.iconst 0, 1) := dk_3 (dk_at dksX11_seen_3 1 rfl rfl)
theorem dX11_seen_74 : decode cX11_seen 74 = .ok (.aload_n 0, 1) := dk_42 (dk_at dksX11_seen_3 2 rfl rfl)
theorem dX11_seen_75 : decode cX11_seen 75 = .ok (.getfield 23, 3) := dk_180 0 23 (dk_at dksX11_seen_3 3 rfl rfl)
theorem dX11_seen_78 : decode cX11_seen 78 = .ok (.iconst 1, 1) := dk_4 (dk_at dksX11_seen_3 6 rfl rfl)
theorem dX11_seen_79 : decode cX11_seen 79 = .ok (.iaload, 1) := dk_46 (dk_at dksX11_seen_3 7 rfl rfl)
theorem dX11_seen_80 : decode cX11_seen 80 = .ok (.iconst 1, 1) := dk_4 (dk_at dksX11_seen_3 8 rfl rfl)
theorem dX11_seen_81 : decode cX11_seen 81 = .ok (.isub, 1) := dk_100 (dk_at dksX11_seen_3 9 rfl rfl)
theorem dX11_seen_82 : decode cX11_seen 82 = .ok (.invokevirtual 175, 3) := dk_182 0 175 (dk_at dksX11_seen_3 10 rfl rfl)
theorem dX11_seen_85 : decode cX11_seen 85 = .ok (.istore 5, 2) := dk_54 5 (dk_at dksX11_seen_3 13 rfl rfl)
theorem dX11_seen_87 : decode cX11_seen 87 = .ok (.aload_n 0, 1) := dk_42 (dk_at dksX11_seen_3 15 rfl rfl)
theorem dX11_seen_88 : decode cX11_seen 88 = .ok (.getfield 119, 3) := dk_180 0 119 (dk_at dksX11_seen_3 16 rfl rfl)
theorem dX11_seen_91 : decode cX11_seen 91 = .ok (.ifCond .ne 19, 3) := dk_154 0 19 (dk_at dksX11_seen_3 19 rfl rfl)
theorem dX11_seen_94 : decode cX11_seen 94 = .ok (.iload_n 3, 1) := dk_29 (dk_at dksX11_seen_3 22 rfl rfl)
theorem dX11_seen_95 : decode cX11_seen 95 = .ok (.iload 5, 2) := dk_21 5 (dk_at dksX11_seen_4 0 rfl rfl)
theorem dX11_seen_97 : decode cX11_seen 97 = .ok (.invokestatic 263, 3) := dk_184 1 7 (dk_at dksX11_seen_4 2 rfl rfl)
theorem dX11_seen_100 : decode cX11_seen 100 = .ok (.ifCond .eq 10, 3) := dk_153 0 10 (dk_at dksX11_seen_4 5 rfl rfl)
theorem dX11_seen_103 : decode cX11_seen 103 = .ok (.aload_n 0, 1) := dk_42 (dk_at dksX11_seen_4 8 rfl rfl)
theorem dX11_seen_104 : decode cX11_seen 104 = .ok (.iconst 2, 1) := dk_5 (dk_at dksX11_seen_4 9 rfl rfl)
theorem dX11_seen_105 : decode cX11_seen 105 = .ok (.iload 4, 2) := dk_21 4 (dk_at dksX11_seen_4 10 rfl rfl)
theorem dX11_seen_107 : decode cX11_seen 107 = .ok (.invokevirtual 132, 3) := dk_182 0 132 (dk_at dksX11_seen_4 12 rfl rfl)
theorem dX11_seen_110 : decode cX11_seen 110 = .ok (.aload_n 0, 1) := dk_42 (dk_at dksX11_seen_4 15 rfl rfl)
theorem dX11_seen_111 : decode cX11_seen 111 = .ok (.iconst 0, 1) := dk_3 (dk_at dksX11_seen_4 16 rfl rfl)
theorem dX11_seen_112 : decode cX11_seen 112 = .ok (.bipush 99, 2) := dk_16 99 (dk_at dksX11_seen_4 17 rfl rfl)
theorem dX11_seen_114 : decode cX11_seen 114 = .ok (.invokevirtual 175, 3) := dk_182 0 175 (dk_at dksX11_seen_4 19 rfl rfl)
theorem dX11_seen_117 : decode cX11_seen 117 = .ok (.istore 6, 2) := dk_54 6 (dk_at dksX11_seen_4 22 rfl rfl)
theorem dX11_seen_119 : decode cX11_seen 119 = .ok (.aload_n 0, 1) := dk_42 (dk_at dksX11_seen_5 0 rfl rfl)
theorem dX11_seen_120 : decode cX11_seen 120 = .ok (.bipush 59, 2) := dk_16 59 (dk_at dksX11_seen_5 1 rfl rfl)
theorem dX11_seen_122 : decode cX11_seen 122 = .ok (.invokevirtual 179, 3) := dk_182 0 179 (dk_at dksX11_seen_5 3 rfl rfl)
theorem dX11_seen_125 : decode cX11_seen 125 = .ok (.aload_n 0, 1) := dk_42 (dk_at dksX11_seen_5 6 rfl rfl)
theorem dX11_seen_126 : decode cX11_seen 126 = .ok (.getfield 119, 3) := dk_180 0 119 (dk_at dksX11_seen_5 7 rfl rfl)
theorem dX11_seen_129 : decode cX11_seen 129 = .ok (.ifCond .ne 33, 3) := dk_154 0 33 (dk_at dksX11_seen_5 10 rfl rfl)
theorem dX11_seen_132 : decode cX11_seen 132 = .ok (.iload_n 3, 1) := dk_29 (dk_at dksX11_seen_5 13 rfl rfl)
theorem dX11_seen_133 : decode cX11_seen 133 = .ok (.iconst 1, 1) := dk_4 (dk_at dksX11_seen_5 14 rfl rfl)
theorem dX11_seen_134 : decode cX11_seen 134 = .ok (.iload 5, 2) := dk_21 5 (dk_at dksX11_seen_5 15 rfl rfl)
theorem dX11_seen_136 : decode cX11_seen 136 = .ok (.ishl, 1) := dk_120 (dk_at dksX11_seen_5 17 rfl rfl)
theorem dX11_seen_137 : decode cX11_seen 137 = .ok (.ior, 1) := dk_128 (dk_at dksX11_seen_5 18 rfl rfl)
theorem dX11_seen_138 : decode cX11_seen 138 = .ok (.istore_n 3, 1) := dk_62 (dk_at dksX11_seen_5 19 rfl rfl)
theorem dX11_seen_139 : decode cX11_seen 139 = .ok (.aload_n 0, 1) := dk_42 (dk_at dksX11_seen_5 20 rfl rfl)
theorem dX11_seen_140 : decode cX11_seen 140 = .ok (.getfield 61, 3) := dk_180 0 61 (dk_at dksX11_seen_5 21 rfl rfl)
theorem dX11_seen_143 : decode cX11_seen 143 = .ok (.iload_n 2, 1) := dk_28 (dk_at dksX11_seen_6 0 rfl rfl)
theorem dX11_seen_144 : decode cX11_seen 144 = .ok (.aaload, 1) := dk_50 (dk_at dksX11_seen_6 1 rfl rfl)
theorem dX11_seen_145 : decode cX11_seen 145 = .ok (.iconst 0, 1) := dk_3 (dk_at dksX11_seen_6 2 rfl rfl)
theorem dX11_seen_146 : decode cX11_seen 146 = .ok (.iload 5, 2) := dk_21 5 (dk_at dksX11_seen_6 3 rfl rfl)
theorem dX11_seen_148 : decode cX11_seen 148 = .ok (.iastore, 1) := dk_79 (dk_at dksX11_seen_6 5 rfl rfl)
theorem dX11_seen_149 : decode cX11_seen 149 = .ok (.aload_n 0, 1) := dk_42 (dk_at dksX11_seen_6 6 rfl rfl)
theorem dX11_seen_150 : decode cX11_seen 150 = .ok (.getfield 61, 3) := dk_180 0 61 (dk_at dksX11_seen_6 7 rfl rfl)
theorem dX11_seen_153 : decode cX11_seen 153 = .ok (.iload_n 2, 1) := dk_28 (dk_at dksX11_seen_6 10 rfl rfl)
theorem dX11_seen_154 : decode cX11_seen 154 = .ok (.aaload, 1) := dk_50 (dk_at dksX11_seen_6 11 rfl rfl)
theorem dX11_seen_155 : decode cX11_seen 155 = .ok (.iconst 1, 1) := dk_4 (dk_at dksX11_seen_6 12 rfl rfl)
theorem dX11_seen_156 : decode cX11_seen 156 = .ok (.iload 6, 2) := dk_21 6 (dk_at dksX11_seen_6 13 rfl rfl)
theorem dX11_seen_158 : decode cX11_seen 158 = .ok (.iastore, 1) := dk_79 (dk_at dksX11_seen_6 15 rfl rfl)
theorem dX11_seen_159 : decode cX11_seen 159 = .ok (.iinc 2 1, 3) := dk_132 2 1 (dk_at dksX11_seen_6 16 rfl rfl)
theorem dX11_seen_162 : decode cX11_seen 162 = .ok (.aload_n 0, 1) := dk_42 (dk_at dksX11_seen_6 19 rfl rfl)
theorem dX11_seen_163 : decode cX11_seen 163 = .ok (.invokevirtual 125, 3) := dk_182 0 125 (dk_at dksX11_seen_6 20 rfl rfl)
theorem dX11_seen_166 : decode cX11_seen 166 = .ok (.goto (-118), 3) := dk_167 255 138 (dk_at dksX11_seen_7 0 rfl rfl)
theorem dX11_seen_169 : decode cX11_seen 169 = .ok (.aload_n 0, 1) := dk_42 (dk_at dksX11_seen_7 3 rfl rfl)
theorem dX11_seen_170 : decode cX11_seen 170 = .ok (.getfield 119, 3) := dk_180 0 119 (dk_at dksX11_seen_7 4 rfl rfl)
theorem dX11_seen_173 : decode cX11_seen 173 = .ok (.ifCond .eq 8, 3) := dk_153 0 8 (dk_at dksX11_seen_7 7 rfl rfl)
theorem dX11_seen_176 : decode cX11_seen 176 = .ok (.aload_n 0, 1) := dk_42 (dk_at dksX11_seen_7 10 rfl rfl)
theorem dX11_seen_177 : decode cX11_seen 177 = .ok (.invokevirtual 193, 3) := dk_182 0 193 (dk_at dksX11_seen_7 11 rfl rfl)
theorem dX11_seen_180 : decode cX11_seen 180 = .ok (.ireturn, 1) := dk_172 (dk_at dksX11_seen_7 14 rfl rfl)
theorem dX11_seen_181 : decode cX11_seen 181 = .ok (.aload_n 0, 1) := dk_42 (dk_at dksX11_seen_7 15 rfl rfl)
theorem dX11_seen_182 : decode cX11_seen 182 = .ok (.iconst (-1), 1) := dk_2 (dk_at dksX11_seen_7 16 rfl rfl)
theorem dX11_seen_183 : decode cX11_seen 183 = .ok (.putfield 9, 3) := dk_181 0 9 (dk_at dksX11_seen_7 17 rfl rfl)
theorem dX11_seen_186 : decode cX11_seen 186 = .ok (.aload_n 0, 1) := dk_42 (dk_at dksX11_seen_7 20 rfl rfl)
theorem dX11_seen_187 : decode cX11_seen 187 = .ok (.iload_n 2, 1) := dk_28 (dk_at dksX11_seen_7 21 rfl rfl)
theorem dX11_seen_188 : decode cX11_seen 188 = .ok (.putfield 203, 3) := dk_181 0 203 (dk_at dksX11_seen_8 0 rfl rfl)
theorem dX11_seen_191 : decode cX11_seen 191 = .ok (.aload_n 0, 1) := dk_42 (dk_at dksX11_seen_8 3 rfl rfl)
theorem dX11_seen_192 : decode cX11_seen 192 = .ok (.getfield 61, 3) := dk_180 0 61 (dk_at dksX11_seen_8 4 rfl rfl)
theorem dX11_seen_195 : decode cX11_seen 195 = .ok (.aload_n 0, 1) := dk_42 (dk_at dksX11_seen_8 7 rfl rfl)
theorem dX11_seen_196 : decode cX11_seen 196 = .ok (.getfield 58, 3) := dk_180 0 58 (dk_at dksX11_seen_8 8 rfl rfl)
theorem dX11_seen_199 : decode cX11_seen 199 = .ok (.iload_n 2, 1) := dk_28 (dk_at dksX11_seen_8 11 rfl rfl)
theorem dX11_seen_200 : decode cX11_seen 200 = .ok (.invokestatic 196, 3) := dk_184 0 196 (dk_at dksX11_seen_8 12 rfl rfl)
theorem dX11_seen_203 : decode cX11_seen 203 = .ok (.iload_n 2, 1) := dk_28 (dk_at dksX11_seen_8 15 rfl rfl)
theorem dX11_seen_204 : decode cX11_seen 204 = .ok (.ireturn, 1) := dk_172 (dk_at dksX11_seen_8 16 rfl rfl)
def dkwX11_has_0 : List UInt8 := [26, 27, 122, 4, 126, 4, 160, 0, 7, 4, 167, 0, 4, 3, 172]
abbrev dktX11_has_0 : List UInt8 := dkwX11_has_0 ++ []
theorem dksX11_has_0 : cX11_has.data.toList.drop 0 = dktX11_has_0 := by decide +kernel
theorem dX11_has_0 : decode cX11_has 0 = .ok (.iload_n 0, 1) := dk_26 (dk_at dksX11_has_0 0 rfl rfl)
theorem dX11_has_1 : decode cX11_has 1 = .ok (.iload_n 1, 1) := dk_27 (dk_at dksX11_has_0 1 rfl rfl)
theorem dX11_has_2 : decode cX11_has 2 = .ok (.ishr, 1) := dk_122 (dk_at dksX11_has_0 2 rfl rfl)
theorem dX11_has_3 : decode cX11_has 3 = .ok (.iconst 1, 1) := dk_4 (dk_at dksX11_has_0 3 rfl rfl)
theorem dX11_has_4 : decode cX11_has 4 = .ok (.iand, 1) := dk_126 (dk_at dksX11_has_0 4 rfl rfl)
theorem dX11_has_5 : decode cX11_has 5 = .ok (.iconst 1, 1) := dk_4 (dk_at dksX11_has_0 5 rfl rfl)
theorem dX11_has_6 : decode cX11_has 6 = .ok (.if_icmp .ne 7, 3) := dk_160 0 7 (dk_at dksX11_has_0 6 rfl rfl)
theorem dX11_has_9 : decode cX11_has 9 = .ok (.iconst 1, 1) := dk_4 (dk_at dksX11_has_0 9 rfl rfl)
theorem dX11_has_10 : decode cX11_has 10 = .ok (.goto 4, 3) := dk_167 0 4 (dk_at dksX11_has_0 10 rfl rfl)
theorem dX11_has_13 : decode cX11_has 13 = .ok (.iconst 0, 1) := dk_3 (dk_at dksX11_has_0 13 rfl rfl)
theorem dX11_has_14 : decode cX11_has 14 = .ok (.ireturn, 1) := dk_172 (dk_at dksX11_has_0 14 rfl rfl)
def dkwX11_fault_0 : List UInt8 := [42, 3, 181, 0, 103, 42, 180, 0, 9, 172]
abbrev dktX11_fault_0 : List UInt8 := dkwX11_fault_0 ++ []
theorem dksX11_fault_0 : cX11_fault.data.toList.drop 0 = dktX11_fault_0 := by decide +kernel
theorem dX11_fault_0 : decode cX11_fault 0 = .ok (.aload_n 0, 1) := dk_42 (dk_at dksX11_fault_0 0 rfl rfl)
theorem dX11_fault_1 : decode cX11_fault 1 = .ok (.iconst 0, 1) := dk_3 (dk_at dksX11_fault_0 1 rfl rfl)
theorem dX11_fault_2 : decode cX11_fault 2 = .ok (.putfield 103, 3) := dk_181 0 103 (dk_at dksX11_fault_0 2 rfl rfl)
theorem dX11_fault_5 : decode cX11_fault 5 = .ok (.aload_n 0, 1) := dk_42 (dk_at dksX11_fault_0 5 rfl rfl)
theorem dX11_fault_6 : decode cX11_fault 6 = .ok (.getfield 9, 3) := dk_180 0 9 (dk_at dksX11_fault_0 6 rfl rfl)
theorem dX11_fault_9 : decode cX11_fault 9 = .ok (.ireturn, 1) := dk_172 (dk_at dksX11_fault_0 9 rfl rfl)
def dkwX11_work_7 : List UInt8 := [180, 1, 1, 182, 1, 59, 42, 180, 1, 66, 172]
abbrev dktX11_work_7 : List UInt8 := dkwX11_work_7 ++ []
def dkwX11_work_6 : List UInt8 := [4, 96, 181, 0, 206, 42, 3, 181, 1, 56, 42, 3, 181, 1, 66, 42, 3, 181, 0, 209, 42, 3, 42]
abbrev dktX11_work_6 : List UInt8 := dkwX11_work_6 ++ dktX11_work_7
def dkwX11_work_5 : List UInt8 := [181, 0, 9, 42, 180, 0, 73, 42, 180, 0, 79, 42, 180, 0, 206, 50, 184, 1, 69, 42, 89, 180, 0, 206]
abbrev dktX11_work_5 : List UInt8 := dkwX11_work_5 ++ dktX11_work_6
def dkwX11_work_4 : List UInt8 := [182, 1, 4, 42, 182, 0, 125, 167, 255, 230, 42, 180, 0, 119, 153, 0, 8, 42, 182, 0, 193, 172, 42, 2]
abbrev dktX11_work_4 : List UInt8 := dkwX11_work_4 ++ dktX11_work_5
def dkwX11_work_3 : List UInt8 := [181, 1, 1, 42, 180, 0, 119, 154, 0, 25, 42, 180, 0, 112, 42, 180, 0, 109, 162, 0, 14, 42]
abbrev dktX11_work_3 : List UInt8 := dkwX11_work_3 ++ dktX11_work_4
def dkwX11_work_2 : List UInt8 := [160, 0, 16, 42, 3, 181, 0, 106, 42, 2, 181, 0, 9, 16, 236, 172, 42, 27, 182, 0, 187, 42, 3]
abbrev dktX11_work_2 : List UInt8 := dkwX11_work_2 ++ dktX11_work_3
def dkwX11_work_1 : List UInt8 := [164, 0, 7, 4, 167, 0, 4, 3, 4, 4, 182, 0, 183, 153, 0, 5, 3, 172, 42, 180, 0, 206, 16, 16]
abbrev dktX11_work_1 : List UInt8 := dkwX11_work_1 ++ dktX11_work_2
def dkwX11_work_0 : List UInt8 := [42, 3, 181, 0, 103, 42, 27, 3, 42, 180, 0, 106, 184, 0, 137, 153, 0, 10, 27, 17, 0, 150]
abbrev dktX11_work_0 : List UInt8 := dkwX11_work_0 ++ dktX11_work_1
theorem dksX11_work_0 : cX11_work.data.toList.drop 0 = dktX11_work_0 := by decide +kernel
theorem dksX11_work_1 : cX11_work.data.toList.drop 22 = dktX11_work_1 := dk_seg dksX11_work_0 22 rfl rfl
theorem dksX11_work_2 : cX11_work.data.toList.drop 46 = dktX11_work_2 := dk_seg dksX11_work_1 24 rfl rfl
theorem dksX11_work_3 : cX11_work.data.toList.drop 69 = dktX11_work_3 := dk_seg dksX11_work_2 23 rfl rfl
theorem dksX11_work_4 : cX11_work.data.toList.drop 91 = dktX11_work_4 := dk_seg dksX11_work_3 22 rfl rfl
theorem dksX11_work_5 : cX11_work.data.toList.drop 115 = dktX11_work_5 := dk_seg dksX11_work_4 24 rfl rfl
theorem dksX11_work_6 : cX11_work.data.toList.drop 139 = dktX11_work_6 := dk_seg dksX11_work_5 24 rfl rfl
theorem dksX11_work_7 : cX11_work.data.toList.drop 162 = dktX11_work_7 := dk_seg dksX11_work_6 23 rfl rfl
theorem dX11_work_0 : decode cX11_work 0 = .ok (.aload_n 0, 1) := dk_42 (dk_at dksX11_work_0 0 rfl rfl)
theorem dX11_work_1 : decode cX11_work 1 = .ok (.iconst 0, 1) := dk_3 (dk_at dksX11_work_0 1 rfl rfl)
theorem dX11_work_2 : decode cX11_work 2 = .ok (.putfield 103, 3) := dk_181 0 103 (dk_at dksX11_work_0 2 rfl rfl)
theorem dX11_work_5 : decode cX11_work 5 = .ok (.aload_n 0, 1) := dk_42 (dk_at dksX11_work_0 5 rfl rfl)
theorem dX11_work_6 : decode cX11_work 6 = .ok (.iload_n 1, 1) := dk_27 (dk_at dksX11_work_0 6 rfl rfl)
theorem dX11_work_7 : decode cX11_work 7 = .ok (.iconst 0, 1) := dk_3 (dk_at dksX11_work_0 7 rfl rfl)
theorem dX11_work_8 : decode cX11_work 8 = .ok (.aload_n 0, 1) := dk_42 (dk_at dksX11_work_0 8 rfl rfl)
theorem dX11_work_9 : decode cX11_work 9 = .ok (.getfield 106, 3) := dk_180 0 106 (dk_at dksX11_work_0 9 rfl rfl)
theorem dX11_work_12 : decode cX11_work 12 = .ok (.invokestatic 137, 3) := dk_184 0 137 (dk_at dksX11_work_0 12 rfl rfl)
theorem dX11_work_15 : decode cX11_work 15 = .ok (.ifCond .eq 10, 3) := dk_153 0 10 (dk_at dksX11_work_0 15 rfl rfl)
theorem dX11_work_18 : decode cX11_work 18 = .ok (.iload_n 1, 1) := dk_27 (dk_at dksX11_work_0 18 rfl rfl)
theorem dX11_work_19 : decode cX11_work 19 = .ok (.sipush 150, 3) := dk_17 0 150 (dk_at dksX11_work_0 19 rfl rfl)
theorem dX11_work_22 : decode cX11_work 22 = .ok (.if_icmp .le 7, 3) := dk_164 0 7 (dk_at dksX11_work_1 0 rfl rfl)
theorem dX11_work_25 : decode cX11_work 25 = .ok (.iconst 1, 1) := dk_4 (dk_at dksX11_work_1 3 rfl rfl)
theorem dX11_work_26 : decode cX11_work 26 = .ok (.goto 4, 3) := dk_167 0 4 (dk_at dksX11_work_1 4 rfl rfl)
theorem dX11_work_29 : decode cX11_work 29 = .ok (.iconst 0, 1) := dk_3 (dk_at dksX11_work_1 7 rfl rfl)
theorem dX11_work_30 : decode cX11_work 30 = .ok (.iconst 1, 1) := dk_4 (dk_at dksX11_work_1 8 rfl rfl)
theorem dX11_work_31 : decode cX11_work 31 = .ok (.iconst 1, 1) := dk_4 (dk_at dksX11_work_1 9 rfl rfl)
theorem dX11_work_32 : decode cX11_work 32 = .ok (.invokevirtual 183, 3) := dk_182 0 183 (dk_at dksX11_work_1 10 rfl rfl)
theorem dX11_work_35 : decode cX11_work 35 = .ok (.ifCond .eq 5, 3) := dk_153 0 5 (dk_at dksX11_work_1 13 rfl rfl)
theorem dX11_work_38 : decode cX11_work 38 = .ok (.iconst 0, 1) := dk_3 (dk_at dksX11_work_1 16 rfl rfl)
theorem dX11_work_39 : decode cX11_work 39 = .ok (.ireturn, 1) := dk_172 (dk_at dksX11_work_1 17 rfl rfl)
theorem dX11_work_40 : decode cX11_work 40 = .ok (.aload_n 0, 1) := dk_42 (dk_at dksX11_work_1 18 rfl rfl)
theorem dX11_work_41 : decode cX11_work 41 = .ok (.getfield 206, 3) := dk_180 0 206 (dk_at dksX11_work_1 19 rfl rfl)
theorem dX11_work_44 : decode cX11_work 44 = .ok (.bipush 16, 2) := dk_16 16 (dk_at dksX11_work_1 22 rfl rfl)
theorem dX11_work_46 : decode cX11_work 46 = .ok (.if_icmp .ne 16, 3) := dk_160 0 16 (dk_at dksX11_work_2 0 rfl rfl)
theorem dX11_work_49 : decode cX11_work 49 = .ok (.aload_n 0, 1) := dk_42 (dk_at dksX11_work_2 3 rfl rfl)
theorem dX11_work_50 : decode cX11_work 50 = .ok (.iconst 0, 1) := dk_3 (dk_at dksX11_work_2 4 rfl rfl)
theorem dX11_work_51 : decode cX11_work 51 = .ok (.putfield 106, 3) := dk_181 0 106 (dk_at dksX11_work_2 5 rfl rfl)
theorem dX11_work_54 : decode cX11_work 54 = .ok (.aload_n 0, 1) := dk_42 (dk_at dksX11_work_2 8 rfl rfl)
theorem dX11_work_55 : decode cX11_work 55 = .ok (.iconst (-1), 1) := dk_2 (dk_at dksX11_work_2 9 rfl rfl)
theorem dX11_work_56 : decode cX11_work 56 = .ok (.putfield 9, 3) := dk_181 0 9 (dk_at dksX11_work_2 10 rfl rfl)
theorem dX11_work_59 : decode cX11_work 59 = .ok (.bipush (-20), 2) := dk_16 236 (dk_at dksX11_work_2 13 rfl rfl)
theorem dX11_work_61 : decode cX11_work 61 = .ok (.ireturn, 1) := dk_172 (dk_at dksX11_work_2 15 rfl rfl)
theorem dX11_work_62 : decode cX11_work 62 = .ok (.aload_n 0, 1) := dk_42 (dk_at dksX11_work_2 16 rfl rfl)
theorem dX11_work_63 : decode cX11_work 63 = .ok (.iload_n 1, 1) := dk_27 (dk_at dksX11_work_2 17 rfl rfl)
theorem dX11_work_64 : decode cX11_work 64 = .ok (.invokevirtual 187, 3) := dk_182 0 187 (dk_at dksX11_work_2 18 rfl rfl)
theorem dX11_work_67 : decode cX11_work 67 = .ok (.aload_n 0, 1) := dk_42 (dk_at dksX11_work_2 21 rfl rfl)
theorem dX11_work_68 : decode cX11_work 68 = .ok (.iconst 0, 1) := dk_3 (dk_at dksX11_work_2 22 rfl rfl)
theorem dX11_work_69 : decode cX11_work 69 = .ok (.putfield 257, 3) := dk_181 1 1 (dk_at dksX11_work_3 0 rfl rfl)
theorem dX11_work_72 : decode cX11_work 72 = .ok (.aload_n 0, 1) := dk_42 (dk_at dksX11_work_3 3 rfl rfl)
theorem dX11_work_73 : decode cX11_work 73 = .ok (.getfield 119, 3) := dk_180 0 119 (dk_at dksX11_work_3 4 rfl rfl)
theorem dX11_work_76 : decode cX11_work 76 = .ok (.ifCond .ne 25, 3) := dk_154 0 25 (dk_at dksX11_work_3 7 rfl rfl)
theorem dX11_work_79 : decode cX11_work 79 = .ok (.aload_n 0, 1) := dk_42 (dk_at dksX11_work_3 10 rfl rfl)
theorem dX11_work_80 : decode cX11_work 80 = .ok (.getfield 112, 3) := dk_180 0 112 (dk_at dksX11_work_3 11 rfl rfl)
theorem dX11_work_83 : decode cX11_work 83 = .ok (.aload_n 0, 1) := dk_42 (dk_at dksX11_work_3 14 rfl rfl)
theorem dX11_work_84 : decode cX11_work 84 = .ok (.getfield 109, 3) := dk_180 0 109 (dk_at dksX11_work_3 15 rfl rfl)
theorem dX11_work_87 : decode cX11_work 87 = .ok (.if_icmp .ge 14, 3) := dk_162 0 14 (dk_at dksX11_work_3 18 rfl rfl)
theorem dX11_work_90 : decode cX11_work 90 = .ok (.aload_n 0, 1) := dk_42 (dk_at dksX11_work_3 21 rfl rfl)
theorem dX11_work_91 : decode cX11_work 91 = .ok (.invokevirtual 260, 3) := dk_182 1 4 (dk_at dksX11_work_4 0 rfl rfl)
theorem dX11_work_94 : decode cX11_work 94 = .ok (.aload_n 0, 1) := dk_42 (dk_at dksX11_work_4 3 rfl rfl)
theorem dX11_work_95 : decode cX11_work 95 = .ok (.invokevirtual 125, 3) := dk_182 0 125 (dk_at dksX11_work_4 4 rfl rfl)
theorem dX11_work_98 : decode cX11_work 98 = .ok (.goto (-26), 3) := dk_167 255 230 (dk_at dksX11_work_4 7 rfl rfl)
theorem dX11_work_101 : decode cX11_work 101 = .ok (.aload_n 0, 1) := dk_42 (dk_at dksX11_work_4 10 rfl rfl)
theorem dX11_work_102 : decode cX11_work 102 = .ok (.getfield 119, 3) := dk_180 0 119 (dk_at dksX11_work_4 11 rfl rfl)
theorem dX11_work_105 : decode cX11_work 105 = .ok (.ifCond .eq 8, 3) := dk_153 0 8 (dk_at dksX11_work_4 14 rfl rfl)
theorem dX11_work_108 : decode cX11_work 108 = .ok (.aload_n 0, 1) := dk_42 (dk_at dksX11_work_4 17 rfl rfl)
theorem dX11_work_109 : decode cX11_work 109 = .ok (.invokevirtual 193, 3) := dk_182 0 193 (dk_at dksX11_work_4 18 rfl rfl)
theorem dX11_work_112 : decode cX11_work 112 = .ok (.ireturn, 1) := dk_172 (dk_at dksX11_work_4 21 rfl rfl)
theorem dX11_work_113 : decode cX11_work 113 = .ok (.aload_n 0, 1) := dk_42 (dk_at dksX11_work_4 22 rfl rfl)
theorem dX11_work_114 : decode cX11_work 114 = .ok (.iconst (-1), 1) := dk_2 (dk_at dksX11_work_4 23 rfl rfl)
theorem dX11_work_115 : decode cX11_work 115 = .ok (.putfield 9, 3) := dk_181 0 9 (dk_at dksX11_work_5 0 rfl rfl)
theorem dX11_work_118 : decode cX11_work 118 = .ok (.aload_n 0, 1) := dk_42 (dk_at dksX11_work_5 3 rfl rfl)
theorem dX11_work_119 : decode cX11_work 119 = .ok (.getfield 73, 3) := dk_180 0 73 (dk_at dksX11_work_5 4 rfl rfl)
theorem dX11_work_122 : decode cX11_work 122 = .ok (.aload_n 0, 1) := dk_42 (dk_at dksX11_work_5 7 rfl rfl)
theorem dX11_work_123 : decode cX11_work 123 = .ok (.getfield 79, 3) := dk_180 0 79 (dk_at dksX11_work_5 8 rfl rfl)
theorem dX11_work_126 : decode cX11_work 126 = .ok (.aload_n 0, 1) := dk_42 (dk_at dksX11_work_5 11 rfl rfl)
theorem dX11_work_127 : decode cX11_work 127 = .ok (.getfield 206, 3) := dk_180 0 206 (dk_at dksX11_work_5 12 rfl rfl)
theorem dX11_work_130 : decode cX11_work 130 = .ok (.aaload, 1) := dk_50 (dk_at dksX11_work_5 15 rfl rfl)
theorem dX11_work_131 : decode cX11_work 131 = .ok (.invokestatic 325, 3) := dk_184 1 69 (dk_at dksX11_work_5 16 rfl rfl)
theorem dX11_work_134 : decode cX11_work 134 = .ok (.aload_n 0, 1) := dk_42 (dk_at dksX11_work_5 19 rfl rfl)
theorem dX11_work_135 : decode cX11_work 135 = .ok (.dup, 1) := dk_89 (dk_at dksX11_work_5 20 rfl rfl)
theorem dX11_work_136 : decode cX11_work 136 = .ok (.getfield 206, 3) := dk_180 0 206 (dk_at dksX11_work_5 21 rfl rfl)
theorem dX11_work_139 : decode cX11_work 139 = .ok (.iconst 1, 1) := dk_4 (dk_at dksX11_work_6 0 rfl rfl)
theorem dX11_work_140 : decode cX11_work 140 = .ok (.iadd, 1) := dk_96 (dk_at dksX11_work_6 1 rfl rfl)
theorem dX11_work_141 : decode cX11_work 141 = .ok (.putfield 206, 3) := dk_181 0 206 (dk_at dksX11_work_6 2 rfl rfl)
theorem dX11_work_144 : decode cX11_work 144 = .ok (.aload_n 0, 1) := dk_42 (dk_at dksX11_work_6 5 rfl rfl)
theorem dX11_work_145 : decode cX11_work 145 = .ok (.iconst 0, 1) := dk_3 (dk_at dksX11_work_6 6 rfl rfl)
theorem dX11_work_146 : decode cX11_work 146 = .ok (.putfield 312, 3) := dk_181 1 56 (dk_at dksX11_work_6 7 rfl rfl)
theorem dX11_work_149 : decode cX11_work 149 = .ok (.aload_n 0, 1) := dk_42 (dk_at dksX11_work_6 10 rfl rfl)
theorem dX11_work_150 : decode cX11_work 150 = .ok (.iconst 0, 1) := dk_3 (dk_at dksX11_work_6 11 rfl rfl)
theorem dX11_work_151 : decode cX11_work 151 = .ok (.putfield 322, 3) := dk_181 1 66 (dk_at dksX11_work_6 12 rfl rfl)
theorem dX11_work_154 : decode cX11_work 154 = .ok (.aload_n 0, 1) := dk_42 (dk_at dksX11_work_6 15 rfl rfl)
theorem dX11_work_155 : decode cX11_work 155 = .ok (.iconst 0, 1) := dk_3 (dk_at dksX11_work_6 16 rfl rfl)
theorem dX11_work_156 : decode cX11_work 156 = .ok (.putfield 209, 3) := dk_181 0 209 (dk_at dksX11_work_6 17 rfl rfl)
theorem dX11_work_159 : decode cX11_work 159 = .ok (.aload_n 0, 1) := dk_42 (dk_at dksX11_work_6 20 rfl rfl)
theorem dX11_work_160 : decode cX11_work 160 = .ok (.iconst 0, 1) := dk_3 (dk_at dksX11_work_6 21 rfl rfl)
theorem dX11_work_161 : decode cX11_work 161 = .ok (.aload_n 0, 1) := dk_42 (dk_at dksX11_work_6 22 rfl rfl)
theorem dX11_work_162 : decode cX11_work 162 = .ok (.getfield 257, 3) := dk_180 1 1 (dk_at dksX11_work_7 0 rfl rfl)
theorem dX11_work_165 : decode cX11_work 165 = .ok (.invokevirtual 315, 3) := dk_182 1 59 (dk_at dksX11_work_7 3 rfl rfl)
theorem dX11_work_168 : decode cX11_work 168 = .ok (.aload_n 0, 1) := dk_42 (dk_at dksX11_work_7 6 rfl rfl)
theorem dX11_work_169 : decode cX11_work 169 = .ok (.getfield 322, 3) := dk_180 1 66 (dk_at dksX11_work_7 7 rfl rfl)
theorem dX11_work_172 : decode cX11_work 172 = .ok (.ireturn, 1) := dk_172 (dk_at dksX11_work_7 10 rfl rfl)
def dkwX11_readsStep_9 : List UInt8 := [181, 0, 162, 44, 6, 42, 180, 1, 1, 79, 42, 16, 59, 182, 0, 179, 177]
abbrev dktX11_readsStep_9 : List UInt8 := dkwX11_readsStep_9 ++ []
def dkwX11_readsStep_8 : List UInt8 := [182, 1, 4, 42, 182, 0, 125, 167, 255, 228, 42, 16, 93, 182, 0, 179, 42, 89, 180, 0, 162, 4, 100]
abbrev dktX11_readsStep_8 : List UInt8 := dkwX11_readsStep_8 ++ dktX11_readsStep_9
def dkwX11_readsStep_7 : List UInt8 := [182, 0, 125, 42, 180, 0, 119, 154, 0, 27, 42, 42, 180, 0, 112, 182, 0, 115, 16, 93, 159, 0, 14, 42]
abbrev dktX11_readsStep_7 : List UInt8 := dkwX11_readsStep_7 ++ dktX11_readsStep_8
def dkwX11_readsStep_6 : List UInt8 := [79, 27, 16, 6, 160, 0, 70, 44, 4, 42, 3, 16, 40, 182, 0, 175, 79, 42, 16, 91, 182, 0, 179, 42]
abbrev dktX11_readsStep_6 : List UInt8 := dkwX11_readsStep_6 ++ dktX11_readsStep_7
def dkwX11_readsStep_5 : List UInt8 := [182, 0, 175, 79, 27, 6, 160, 0, 19, 44, 5, 42, 3, 42, 180, 0, 23, 5, 46, 4, 100, 182, 0, 175]
abbrev dktX11_readsStep_5 : List UInt8 := dkwX11_readsStep_5 ++ dktX11_readsStep_6
def dkwX11_readsStep_4 : List UInt8 := [79, 27, 5, 159, 0, 8, 27, 7, 160, 0, 19, 44, 4, 42, 3, 42, 180, 0, 23, 3, 46, 4, 100]
abbrev dktX11_readsStep_4 : List UInt8 := dkwX11_readsStep_4 ++ dktX11_readsStep_5
def dkwX11_readsStep_3 : List UInt8 := [5, 161, 0, 8, 27, 6, 160, 0, 19, 44, 4, 42, 3, 42, 180, 0, 23, 4, 46, 4, 100, 182, 0, 175]
abbrev dktX11_readsStep_3 : List UInt8 := dkwX11_readsStep_3 ++ dktX11_readsStep_4
def dkwX11_readsStep_2 : List UInt8 := [180, 0, 70, 42, 180, 1, 1, 50, 77, 42, 89, 180, 1, 1, 4, 96, 181, 1, 1, 44, 3, 27, 79, 27]
abbrev dktX11_readsStep_2 : List UInt8 := dkwX11_readsStep_2 ++ dktX11_readsStep_3
def dkwX11_readsStep_1 : List UInt8 := [160, 0, 11, 42, 182, 0, 236, 154, 0, 4, 177, 42, 180, 0, 119, 153, 0, 4, 177, 42, 182, 0, 156, 42]
abbrev dktX11_readsStep_1 : List UInt8 := dkwX11_readsStep_1 ++ dktX11_readsStep_2
def dkwX11_readsStep_0 : List UInt8 := [42, 182, 0, 254, 60, 27, 2, 160, 0, 12, 42, 4, 42, 180, 0, 112, 182, 0, 132, 27, 16, 6]
abbrev dktX11_readsStep_0 : List UInt8 := dkwX11_readsStep_0 ++ dktX11_readsStep_1
theorem dksX11_readsStep_0 : cX11_readsStep.data.toList.drop 0 = dktX11_readsStep_0 := by decide +kernel
theorem dksX11_readsStep_1 : cX11_readsStep.data.toList.drop 22 = dktX11_readsStep_1 := dk_seg dksX11_readsStep_0 22 rfl rfl
theorem dksX11_readsStep_2 : cX11_readsStep.data.toList.drop 46 = dktX11_readsStep_2 := dk_seg dksX11_readsStep_1 24 rfl rfl
theorem dksX11_readsStep_3 : cX11_readsStep.data.toList.drop 70 = dktX11_readsStep_3 := dk_seg dksX11_readsStep_2 24 rfl rfl
theorem dksX11_readsStep_4 : cX11_readsStep.data.toList.drop 94 = dktX11_readsStep_4 := dk_seg dksX11_readsStep_3 24 rfl rfl
theorem dksX11_readsStep_5 : cX11_readsStep.data.toList.drop 117 = dktX11_readsStep_5 := dk_seg dksX11_readsStep_4 23 rfl rfl
theorem dksX11_readsStep_6 : cX11_readsStep.data.toList.drop 141 = dktX11_readsStep_6 := dk_seg dksX11_readsStep_5 24 rfl rfl
theorem dksX11_readsStep_7 : cX11_readsStep.data.toList.drop 165 = dktX11_readsStep_7 := dk_seg dksX11_readsStep_6 24 rfl rfl
theorem dksX11_readsStep_8 : cX11_readsStep.data.toList.drop 189 = dktX11_readsStep_8 := dk_seg dksX11_readsStep_7 24 rfl rfl
theorem dksX11_readsStep_9 : cX11_readsStep.data.toList.drop 212 = dktX11_readsStep_9 := dk_seg dksX11_readsStep_8 23 rfl rfl
theorem dX11_readsStep_0 : decode cX11_readsStep 0 = .ok (.aload_n 0, 1) := dk_42 (dk_at dksX11_readsStep_0 0 rfl rfl)
theorem dX11_readsStep_1 : decode cX11_readsStep 1 = .ok (.invokevirtual 254, 3) := dk_182 0 254 (dk_at dksX11_readsStep_0 1 rfl rfl)
theorem dX11_readsStep_4 : decode cX11_readsStep 4 = .ok (.istore_n 1, 1) := dk_60 (dk_at dksX11_readsStep_0 4 rfl rfl)
theorem dX11_readsStep_5 : decode cX11_readsStep 5 = .ok (.iload_n 1, 1) := dk_27 (dk_at dksX11_readsStep_0 5 rfl rfl)
theorem dX11_readsStep_6 : decode cX11_readsStep 6 = .ok (.iconst (-1), 1) := dk_2 (dk_at dksX11_readsStep_0 6 rfl rfl)
theorem dX11_readsStep_7 : decode cX11_readsStep 7 = .ok (.if_icmp .ne 12, 3) := dk_160 0 12 (dk_at dksX11_readsStep_0 7 rfl rfl)
theorem dX11_readsStep_10 : decode cX11_readsStep 10 = .ok (.aload_n 0, 1) := dk_42 (dk_at dksX11_readsStep_0 10 rfl rfl)
theorem dX11_readsStep_11 : decode cX11_readsStep 11 = .ok (.iconst 1, 1) := dk_4 (dk_at dksX11_readsStep_0 11 rfl rfl)
theorem dX11_readsStep_12 : decode cX11_readsStep 12 = .ok (.aload_n 0, 1) := dk_42 (dk_at dksX11_readsStep_0 12 rfl rfl)
theorem dX11_readsStep_13 : decode cX11_readsStep 13 = .ok (.getfield 112, 3) := dk_180 0 112 (dk_at dksX11_readsStep_0 13 rfl rfl)
theorem dX11_readsStep_16 : decode cX11_readsStep 16 = .ok (.invokevirtual 132, 3) := dk_182 0 132 (dk_at dksX11_readsStep_0 16 rfl rfl)
theorem dX11_readsStep_19 : decode cX11_readsStep 19 = .ok (.iload_n 1, 1) := dk_27 (dk_at dksX11_readsStep_0 19 rfl rfl)
theorem dX11_readsStep_20 : decode cX11_readsStep 20 = .ok (.bipush 6, 2) := dk_16 6 (dk_at dksX11_readsStep_0 20 rfl rfl)
theorem dX11_readsStep_22 : decode cX11_readsStep 22 = .ok (.if_icmp .ne 11, 3) := dk_160 0 11 (dk_at dksX11_readsStep_1 0 rfl rfl)
theorem dX11_readsStep_25 : decode cX11_readsStep 25 = .ok (.aload_n 0, 1) := dk_42 (dk_at dksX11_readsStep_1 3 rfl rfl)
theorem dX11_readsStep_26 : decode cX11_readsStep 26 = .ok (.invokevirtual 236, 3) := dk_182 0 236 (dk_at dksX11_readsStep_1 4 rfl rfl)
theorem dX11_readsStep_29 : decode cX11_readsStep 29 = .ok (.ifCond .ne 4, 3) := dk_154 0 4 (dk_at dksX11_readsStep_1 7 rfl rfl)
theorem dX11_readsStep_32 : decode cX11_readsStep 32 = .ok (.return_, 1) := dk_177 (dk_at dksX11_readsStep_1 10 rfl rfl)
theorem dX11_readsStep_33 : decode cX11_readsStep 33 = .ok (.aload_n 0, 1) := dk_42 (dk_at dksX11_readsStep_1 11 rfl rfl)
theorem dX11_readsStep_34 : decode cX11_readsStep 34 = .ok (.getfield 119, 3) := dk_180 0 119 (dk_at dksX11_readsStep_1 12 rfl rfl)
theorem dX11_readsStep_37 : decode cX11_readsStep 37 = .ok (.ifCond .eq 4, 3) := dk_153 0 4 (dk_at dksX11_readsStep_1 15 rfl rfl)
theorem dX11_readsStep_40 : decode cX11_readsStep 40 = .ok (.return_, 1) := dk_177 (dk_at dksX11_readsStep_1 18 rfl rfl)
theorem dX11_readsStep_41 : decode cX11_readsStep 41 = .ok (.aload_n 0, 1) := dk_42 (dk_at dksX11_readsStep_1 19 rfl rfl)
theorem dX11_readsStep_42 : decode cX11_readsStep 42 = .ok (.invokevirtual 156, 3) := dk_182 0 156 (dk_at dksX11_readsStep_1 20 rfl rfl)
theorem dX11_readsStep_45 : decode cX11_readsStep 45 = .ok (.aload_n 0, 1) := dk_42 (dk_at dksX11_readsStep_1 23 rfl rfl)
theorem dX11_readsStep_46 : decode cX11_readsStep 46 = .ok (.getfield 70, 3) := dk_180 0 70 (dk_at dksX11_readsStep_2 0 rfl rfl)
theorem dX11_readsStep_49 : decode cX11_readsStep 49 = .ok (.aload_n 0, 1) := dk_42 (dk_at dksX11_readsStep_2 3 rfl rfl)
theorem dX11_readsStep_50 : decode cX11_readsStep 50 = .ok (.getfield 257, 3) := dk_180 1 1 (dk_at dksX11_readsStep_2 4 rfl rfl)
theorem dX11_readsStep_53 : decode cX11_readsStep 53 = .ok (.aaload, 1) := dk_50 (dk_at dksX11_readsStep_2 7 rfl rfl)
theorem dX11_readsStep_54 : decode cX11_readsStep 54 = .ok (.astore_n 2, 1) := dk_77 (dk_at dksX11_readsStep_2 8 rfl rfl)
theorem dX11_readsStep_55 : decode cX11_readsStep 55 = .ok (.aload_n 0, 1) := dk_42 (dk_at dksX11_readsStep_2 9 rfl rfl)
theorem dX11_readsStep_56 : decode cX11_readsStep 56 = .ok (.dup, 1) := dk_89 (dk_at dksX11_readsStep_2 10 rfl rfl)
theorem dX11_readsStep_57 : decode cX11_readsStep 57 = .ok (.getfield 257, 3) := dk_180 1 1 (dk_at dksX11_readsStep_2 11 rfl rfl)
theorem dX11_readsStep_60 : decode cX11_readsStep 60 = .ok (.iconst 1, 1) := dk_4 (dk_at dksX11_readsStep_2 14 rfl rfl)
theorem dX11_readsStep_61 : decode cX11_readsStep 61 = .ok (.iadd, 1) := dk_96 (dk_at dksX11_readsStep_2 15 rfl rfl)
theorem dX11_readsStep_62 : decode cX11_readsStep 62 = .ok (.putfield 257, 3) := dk_181 1 1 (dk_at dksX11_readsStep_2 16 rfl rfl)
theorem dX11_readsStep_65 : decode cX11_readsStep 65 = .ok (.aload_n 2, 1) := dk_44 (dk_at dksX11_readsStep_2 19 rfl rfl)
theorem dX11_readsStep_66 : decode cX11_readsStep 66 = .ok (.iconst 0, 1) := dk_3 (dk_at dksX11_readsStep_2 20 rfl rfl)
theorem dX11_readsStep_67 : decode cX11_readsStep 67 = .ok (.iload_n 1, 1) := dk_27 (dk_at dksX11_readsStep_2 21 rfl rfl)
theorem dX11_readsStep_68 : decode cX11_readsStep 68 = .ok (.iastore, 1) := dk_79 (dk_at dksX11_readsStep_2 22 rfl rfl)
theorem dX11_readsStep_69 : decode cX11_readsStep 69 = .ok (.iload_n 1, 1) := dk_27 (dk_at dksX11_readsStep_2 23 rfl rfl)
theorem dX11_readsStep_70 : decode cX11_readsStep 70 = .ok (.iconst 2, 1) := dk_5 (dk_at dksX11_readsStep_3 0 rfl rfl)
theorem dX11_readsStep_71 : decode cX11_readsStep 71 = .ok (.if_icmp .lt 8, 3) := dk_161 0 8 (dk_at dksX11_readsStep_3 1 rfl rfl)
theorem dX11_readsStep_74 : decode cX11_readsStep 74 = .ok (.iload_n 1, 1) := dk_27 (dk_at dksX11_readsStep_3 4 rfl rfl)
theorem dX11_readsStep_75 : decode cX11_readsStep 75 = .ok (.iconst 3, 1) := dk_6 (dk_at dksX11_readsStep_3 5 rfl rfl)
theorem dX11_readsStep_76 : decode cX11_readsStep 76 = .ok (.if_icmp .ne 19, 3) := dk_160 0 19 (dk_at dksX11_readsStep_3 6 rfl rfl)
theorem dX11_readsStep_79 : decode cX11_readsStep 79 = .ok (.aload_n 2, 1) := dk_44 (dk_at dksX11_readsStep_3 9 rfl rfl)
theorem dX11_readsStep_80 : decode cX11_readsStep 80 = .ok (.iconst 1, 1) := dk_4 (dk_at dksX11_readsStep_3 10 rfl rfl)
theorem dX11_readsStep_81 : decode cX11_readsStep 81 = .ok (.aload_n 0, 1) := dk_42 (dk_at dksX11_readsStep_3 11 rfl rfl)
theorem dX11_readsStep_82 : decode cX11_readsStep 82 = .ok (.iconst 0, 1) := dk_3 (dk_at dksX11_readsStep_3 12 rfl rfl)
theorem dX11_readsStep_83 : decode cX11_readsStep 83 = .ok (.aload_n 0, 1) := dk_42 (dk_at dksX11_readsStep_3 13 rfl rfl)
theorem dX11_readsStep_84 : decode cX11_readsStep 84 = .ok (.getfield 23, 3) := dk_180 0 23 (dk_at dksX11_readsStep_3 14 rfl rfl)
theorem dX11_readsStep_87 : decode cX11_readsStep 87 = .ok (.iconst 1, 1) := dk_4 (dk_at dksX11_readsStep_3 17 rfl rfl)
theorem dX11_readsStep_88 : decode cX11_readsStep 88 = .ok (.iaload, 1) := dk_46 (dk_at dksX11_readsStep_3 18 rfl rfl)
theorem dX11_readsStep_89 : decode cX11_readsStep 89 = .ok (.iconst 1, 1) := dk_4 (dk_at dksX11_readsStep_3 19 rfl rfl)
theorem dX11_readsStep_90 : decode cX11_readsStep 90 = .ok (.isub, 1) := dk_100 (dk_at dksX11_readsStep_3 20 rfl rfl)
theorem dX11_readsStep_91 : decode cX11_readsStep 91 = .ok (.invokevirtual 175, 3) := dk_182 0 175 (dk_at dksX11_readsStep_3 21 rfl rfl)
theorem dX11_readsStep_94 : decode cX11_readsStep 94 = .ok (.iastore, 1) := dk_79 (dk_at dksX11_readsStep_4 0 rfl rfl)
theorem dX11_readsStep_95 : decode cX11_readsStep 95 = .ok (.iload_n 1, 1) := dk_27 (dk_at dksX11_readsStep_4 1 rfl rfl)
theorem dX11_readsStep_96 : decode cX11_readsStep 96 = .ok (.iconst 2, 1) := dk_5 (dk_at dksX11_readsStep_4 2 rfl rfl)
theorem dX11_readsStep_97 : decode cX11_readsStep 97 = .ok (.if_icmp .eq 8, 3) := dk_159 0 8 (dk_at dksX11_readsStep_4 3 rfl rfl)
theorem dX11_readsStep_100 : decode cX11_readsStep 100 = .ok (.iload_n 1, 1) := dk_27 (dk_at dksX11_readsStep_4 6 rfl rfl)
theorem dX11_readsStep_101 : decode cX11_readsStep 101 = .ok (.iconst 4, 1) := dk_7 (dk_at dksX11_readsStep_4 7 rfl rfl)
theorem dX11_readsStep_102 : decode cX11_readsStep 102 = .ok (.if_icmp .ne 19, 3) := dk_160 0 19 (dk_at dksX11_readsStep_4 8 rfl rfl)
theorem dX11_readsStep_105 : decode cX11_readsStep 105 = .ok (.aload_n 2, 1) := dk_44 (dk_at dksX11_readsStep_4 11 rfl rfl)
theorem dX11_readsStep_106 : decode cX11_readsStep 106 = .ok (.iconst 1, 1) := dk_4 (dk_at dksX11_readsStep_4 12 rfl rfl)
theorem dX11_readsStep_107 : decode cX11_readsStep 107 = .ok (.aload_n 0, 1) := dk_42 (dk_at dksX11_readsStep_4 13 rfl rfl)
theorem dX11_readsStep_108 : decode cX11_readsStep 108 = .ok (.iconst 0, 1) := dk_3 (dk_at dksX11_readsStep_4 14 rfl rfl)
theorem dX11_readsStep_109 : decode cX11_readsStep 109 = .ok (.aload_n 0, 1) := dk_42 (dk_at dksX11_readsStep_4 15 rfl rfl)
theorem dX11_readsStep_110 : decode cX11_readsStep 110 = .ok (.getfield 23, 3) := dk_180 0 23 (dk_at dksX11_readsStep_4 16 rfl rfl)
theorem dX11_readsStep_113 : decode cX11_readsStep 113 = .ok (.iconst 0, 1) := dk_3 (dk_at dksX11_readsStep_4 19 rfl rfl)
theorem dX11_readsStep_114 : decode cX11_readsStep 114 = .ok (.iaload, 1) := dk_46 (dk_at dksX11_readsStep_4 20 rfl rfl)
theorem dX11_readsStep_115 : decode cX11_readsStep 115 = .ok (.iconst 1, 1) := dk_4 (dk_at dksX11_readsStep_4 21 rfl rfl)
theorem dX11_readsStep_116 : decode cX11_readsStep 116 = .ok (.isub, 1) := dk_100 (dk_at dksX11_readsStep_4 22 rfl rfl)
theorem dX11_readsStep_117 : decode cX11_readsStep 117 = .ok (.invokevirtual 175, 3) := dk_182 0 175 (dk_at dksX11_readsStep_5 0 rfl rfl)
theorem dX11_readsStep_120 : decode cX11_readsStep 120 = .ok (.iastore, 1) := dk_79 (dk_at dksX11_readsStep_5 3 rfl rfl)
theorem dX11_readsStep_121 : decode cX11_readsStep 121 = .ok (.iload_n 1, 1) := dk_27 (dk_at dksX11_readsStep_5 4 rfl rfl)
theorem dX11_readsStep_122 : decode cX11_readsStep 122 = .ok (.iconst 3, 1) := dk_6 (dk_at dksX11_readsStep_5 5 rfl rfl)
theorem dX11_readsStep_123 : decode cX11_readsStep 123 = .ok (.if_icmp .ne 19, 3) := dk_160 0 19 (dk_at dksX11_readsStep_5 6 rfl rfl)
theorem dX11_readsStep_126 : decode cX11_readsStep 126 = .ok (.aload_n 2, 1) := dk_44 (dk_at dksX11_readsStep_5 9 rfl rfl)
theorem dX11_readsStep_127 : decode cX11_readsStep 127 = .ok (.iconst 2, 1) := dk_5 (dk_at dksX11_readsStep_5 10 rfl rfl)
theorem dX11_readsStep_128 : decode cX11_readsStep 128 = .ok (.aload_n 0, 1) := dk_42 (dk_at dksX11_readsStep_5 11 rfl rfl)
theorem dX11_readsStep_129 : decode cX11_readsStep 129 = .ok (.iconst 0, 1) := dk_3 (dk_at dksX11_readsStep_5 12 rfl rfl)
theorem dX11_readsStep_130 : decode cX11_readsStep 130 = .ok (.aload_n 0, 1) := dk_42 (dk_at dksX11_readsStep_5 13 rfl rfl)
theorem dX11_readsStep_131 : decode cX11_readsStep 131 = .ok (.getfield 23, 3) := dk_180 0 23 (dk_at dksX11_readsStep_5 14 rfl rfl)
theorem dX11_readsStep_134 : decode cX11_readsStep 134 = .ok (.iconst 2, 1) := dk_5 (dk_at dksX11_readsStep_5 17 rfl rfl)
theorem dX11_readsStep_135 : decode cX11_readsStep 135 = .ok (.iaload, 1) := dk_46 (dk_at dksX11_readsStep_5 18 rfl rfl)
theorem dX11_readsStep_136 : decode cX11_readsStep 136 = .ok (.iconst 1, 1) := dk_4 (dk_at dksX11_readsStep_5 19 rfl rfl)
theorem dX11_readsStep_137 : decode cX11_readsStep 137 = .ok (.isub, 1) := dk_100 (dk_at dksX11_readsStep_5 20 rfl rfl)
theorem dX11_readsStep_138 : decode cX11_readsStep 138 = .ok (.invokevirtual 175, 3) := dk_182 0 175 (dk_at dksX11_readsStep_5 21 rfl rfl)
theorem dX11_readsStep_141 : decode cX11_readsStep 141 = .ok (.iastore, 1) := dk_79 (dk_at dksX11_readsStep_6 0 rfl rfl)
theorem dX11_readsStep_142 : decode cX11_readsStep 142 = .ok (.iload_n 1, 1) := dk_27 (dk_at dksX11_readsStep_6 1 rfl rfl)
theorem dX11_readsStep_143 : decode cX11_readsStep 143 = .ok (.bipush 6, 2) := dk_16 6 (dk_at dksX11_readsStep_6 2 rfl rfl)
theorem dX11_readsStep_145 : decode cX11_readsStep 145 = .ok (.if_icmp .ne 70, 3) := dk_160 0 70 (dk_at dksX11_readsStep_6 4 rfl rfl)
theorem dX11_readsStep_148 : decode cX11_readsStep 148 = .ok (.aload_n 2, 1) := dk_44 (dk_at dksX11_readsStep_6 7 rfl rfl)
theorem dX11_readsStep_149 : decode cX11_readsStep 149 = .ok (.iconst 1, 1) := dk_4 (dk_at dksX11_readsStep_6 8 rfl rfl)
theorem dX11_readsStep_150 : decode cX11_readsStep 150 = .ok (.aload_n 0, 1) := dk_42 (dk_at dksX11_readsStep_6 9 rfl rfl)
theorem dX11_readsStep_151 : decode cX11_readsStep 151 = .ok (.iconst 0, 1) := dk_3 (dk_at dksX11_readsStep_6 10 rfl rfl)
theorem dX11_readsStep_152 : decode cX11_readsStep 152 = .ok (.bipush 40, 2) := dk_16 40 (dk_at dksX11_readsStep_6 11 rfl rfl)
theorem dX11_readsStep_154 : decode cX11_readsStep 154 = .ok (.invokevirtual 175, 3) := dk_182 0 175 (dk_at dksX11_readsStep_6 13 rfl rfl)
theorem dX11_readsStep_157 : decode cX11_readsStep 157 = .ok (.iastore, 1) := dk_79 (dk_at dksX11_readsStep_6 16 rfl rfl)
theorem dX11_readsStep_158 : decode cX11_readsStep 158 = .ok (.aload_n 0, 1) := dk_42 (dk_at dksX11_readsStep_6 17 rfl rfl)
theorem dX11_readsStep_159 : decode cX11_readsStep 159 = .ok (.bipush 91, 2) := dk_16 91 (dk_at dksX11_readsStep_6 18 rfl rfl)
theorem dX11_readsStep_161 : decode cX11_readsStep 161 = .ok (.invokevirtual 179, 3) := dk_182 0 179 (dk_at dksX11_readsStep_6 20 rfl rfl)
theorem dX11_readsStep_164 : decode cX11_readsStep 164 = .ok (.aload_n 0, 1) := dk_42 (dk_at dksX11_readsStep_6 23 rfl rfl)
theorem dX11_readsStep_165 : decode cX11_readsStep 165 = .ok (.invokevirtual 125, 3) := dk_182 0 125 (dk_at dksX11_readsStep_7 0 rfl rfl)
theorem dX11_readsStep_168 : decode cX11_readsStep 168 = .ok (.aload_n 0, 1) := dk_42 (dk_at dksX11_readsStep_7 3 rfl rfl)
theorem dX11_readsStep_169 : decode cX11_readsStep 169 = .ok (.getfield 119, 3) := dk_180 0 119 (dk_at dksX11_readsStep_7 4 rfl rfl)
theorem dX11_readsStep_172 : decode cX11_readsStep 172 = .ok (.ifCond .ne 27, 3) := dk_154 0 27 (dk_at dksX11_readsStep_7 7 rfl rfl)
theorem dX11_readsStep_175 : decode cX11_readsStep 175 = .ok (.aload_n 0, 1) := dk_42 (dk_at dksX11_readsStep_7 10 rfl rfl)
theorem dX11_readsStep_176 : decode cX11_readsStep 176 = .ok (.aload_n 0, 1) := dk_42 (dk_at dksX11_readsStep_7 11 rfl rfl)
theorem dX11_readsStep_177 : decode cX11_readsStep 177 = .ok (.getfield 112, 3) := dk_180 0 112 (dk_at dksX11_readsStep_7 12 rfl rfl)
theorem dX11_readsStep_180 : decode cX11_readsStep 180 = .ok (.invokevirtual 115, 3) := dk_182 0 115 (dk_at dksX11_readsStep_7 15 rfl rfl)
theorem dX11_readsStep_183 : decode cX11_readsStep 183 = .ok (.bipush 93, 2) := dk_16 93 (dk_at dksX11_readsStep_7 18 rfl rfl)
theorem dX11_readsStep_185 : decode cX11_readsStep 185 = .ok (.if_icmp .eq 14, 3) := dk_159 0 14 (dk_at dksX11_readsStep_7 20 rfl rfl)
theorem dX11_readsStep_188 : decode cX11_readsStep 188 = .ok (.aload_n 0, 1) := dk_42 (dk_at dksX11_readsStep_7 23 rfl rfl)
theorem dX11_readsStep_189 : decode cX11_readsStep 189 = .ok (.invokevirtual 260, 3) := dk_182 1 4 (dk_at dksX11_readsStep_8 0 rfl rfl)
theorem dX11_readsStep_192 : decode cX11_readsStep 192 = .ok (.aload_n 0, 1) := dk_42 (dk_at dksX11_readsStep_8 3 rfl rfl)
theorem dX11_readsStep_193 : decode cX11_readsStep 193 = .ok (.invokevirtual 125, 3) := dk_182 0 125 (dk_at dksX11_readsStep_8 4 rfl rfl)
theorem dX11_readsStep_196 : decode cX11_readsStep 196 = .ok (.goto (-28), 3) := dk_167 255 228 (dk_at dksX11_readsStep_8 7 rfl rfl)
theorem dX11_readsStep_199 : decode cX11_readsStep 199 = .ok (.aload_n 0, 1) := dk_42 (dk_at dksX11_readsStep_8 10 rfl rfl)
theorem dX11_readsStep_200 : decode cX11_readsStep 200 = .ok (.bipush 93, 2) := dk_16 93 (dk_at dksX11_readsStep_8 11 rfl rfl)
theorem dX11_readsStep_202 : decode cX11_readsStep 202 = .ok (.invokevirtual 179, 3) := dk_182 0 179 (dk_at dksX11_readsStep_8 13 rfl rfl)
theorem dX11_readsStep_205 : decode cX11_readsStep 205 = .ok (.aload_n 0, 1) := dk_42 (dk_at dksX11_readsStep_8 16 rfl rfl)
theorem dX11_readsStep_206 : decode cX11_readsStep 206 = .ok (.dup, 1) := dk_89 (dk_at dksX11_readsStep_8 17 rfl rfl)
theorem dX11_readsStep_207 : decode cX11_readsStep 207 = .ok (.getfield 162, 3) := dk_180 0 162 (dk_at dksX11_readsStep_8 18 rfl rfl)
theorem dX11_readsStep_210 : decode cX11_readsStep 210 = .ok (.iconst 1, 1) := dk_4 (dk_at dksX11_readsStep_8 21 rfl rfl)
theorem dX11_readsStep_211 : decode cX11_readsStep 211 = .ok (.isub, 1) := dk_100 (dk_at dksX11_readsStep_8 22 rfl rfl)
theorem dX11_readsStep_212 : decode cX11_readsStep 212 = .ok (.putfield 162, 3) := dk_181 0 162 (dk_at dksX11_readsStep_9 0 rfl rfl)
theorem dX11_readsStep_215 : decode cX11_readsStep 215 = .ok (.aload_n 2, 1) := dk_44 (dk_at dksX11_readsStep_9 3 rfl rfl)
theorem dX11_readsStep_216 : decode cX11_readsStep 216 = .ok (.iconst 3, 1) := dk_6 (dk_at dksX11_readsStep_9 4 rfl rfl)
theorem dX11_readsStep_217 : decode cX11_readsStep 217 = .ok (.aload_n 0, 1) := dk_42 (dk_at dksX11_readsStep_9 5 rfl rfl)
theorem dX11_readsStep_218 : decode cX11_readsStep 218 = .ok (.getfield 257, 3) := dk_180 1 1 (dk_at dksX11_readsStep_9 6 rfl rfl)
theorem dX11_readsStep_221 : decode cX11_readsStep 221 = .ok (.iastore, 1) := dk_79 (dk_at dksX11_readsStep_9 9 rfl rfl)
theorem dX11_readsStep_222 : decode cX11_readsStep 222 = .ok (.aload_n 0, 1) := dk_42 (dk_at dksX11_readsStep_9 10 rfl rfl)
theorem dX11_readsStep_223 : decode cX11_readsStep 223 = .ok (.bipush 59, 2) := dk_16 59 (dk_at dksX11_readsStep_9 11 rfl rfl)
theorem dX11_readsStep_225 : decode cX11_readsStep 225 = .ok (.invokevirtual 179, 3) := dk_182 0 179 (dk_at dksX11_readsStep_9 13 rfl rfl)
theorem dX11_readsStep_228 : decode cX11_readsStep 228 = .ok (.return_, 1) := dk_177 (dk_at dksX11_readsStep_9 16 rfl rfl)
def dkwX11_stepHere_5 : List UInt8 := [16, 6, 167, 0, 4, 2, 172]
abbrev dktX11_stepHere_5 : List UInt8 := dkwX11_stepHere_5 ++ []
def dkwX11_stepHere_4 : List UInt8 := [182, 0, 152, 153, 0, 5, 8, 172, 42, 4, 16, 7, 4, 16, 9, 16, 14, 3, 182, 0, 152, 153, 0, 8]
abbrev dktX11_stepHere_4 : List UInt8 := dkwX11_stepHere_4 ++ dktX11_stepHere_5
def dkwX11_stepHere_3 : List UInt8 := [16, 9, 8, 3, 3, 3, 182, 0, 152, 153, 0, 5, 7, 172, 42, 7, 4, 16, 25, 3, 3, 3]
abbrev dktX11_stepHere_3 : List UInt8 := dkwX11_stepHere_3 ++ dktX11_stepHere_4
def dkwX11_stepHere_2 : List UInt8 := [153, 0, 5, 5, 172, 42, 6, 16, 21, 16, 18, 8, 3, 3, 182, 0, 152, 153, 0, 5, 6, 172, 42, 7]
abbrev dktX11_stepHere_2 : List UInt8 := dkwX11_stepHere_2 ++ dktX11_stepHere_3
def dkwX11_stepHere_1 : List UInt8 := [3, 3, 182, 0, 152, 153, 0, 5, 4, 172, 42, 16, 12, 4, 16, 16, 16, 19, 8, 3, 182, 0, 152]
abbrev dktX11_stepHere_1 : List UInt8 := dkwX11_stepHere_1 ++ dktX11_stepHere_2
def dkwX11_stepHere_0 : List UInt8 := [42, 16, 7, 16, 9, 16, 22, 8, 3, 3, 182, 0, 152, 153, 0, 5, 3, 172, 42, 5, 4, 6, 16, 11]
abbrev dktX11_stepHere_0 : List UInt8 := dkwX11_stepHere_0 ++ dktX11_stepHere_1
theorem dksX11_stepHere_0 : cX11_stepHere.data.toList.drop 0 = dktX11_stepHere_0 := by decide +kernel
theorem dksX11_stepHere_1 : cX11_stepHere.data.toList.drop 24 = dktX11_stepHere_1 := dk_seg dksX11_stepHere_0 24 rfl rfl
theorem dksX11_stepHere_2 : cX11_stepHere.data.toList.drop 47 = dktX11_stepHere_2 := dk_seg dksX11_stepHere_1 23 rfl rfl
theorem dksX11_stepHere_3 : cX11_stepHere.data.toList.drop 71 = dktX11_stepHere_3 := dk_seg dksX11_stepHere_2 24 rfl rfl
theorem dksX11_stepHere_4 : cX11_stepHere.data.toList.drop 93 = dktX11_stepHere_4 := dk_seg dksX11_stepHere_3 22 rfl rfl
theorem dksX11_stepHere_5 : cX11_stepHere.data.toList.drop 117 = dktX11_stepHere_5 := dk_seg dksX11_stepHere_4 24 rfl rfl
theorem dX11_stepHere_0 : decode cX11_stepHere 0 = .ok (.aload_n 0, 1) := dk_42 (dk_at dksX11_stepHere_0 0 rfl rfl)
theorem dX11_stepHere_1 : decode cX11_stepHere 1 = .ok (.bipush 7, 2) := dk_16 7 (dk_at dksX11_stepHere_0 1 rfl rfl)
theorem dX11_stepHere_3 : decode cX11_stepHere 3 = .ok (.bipush 9, 2) := dk_16 9 (dk_at dksX11_stepHere_0 3 rfl rfl)
theorem dX11_stepHere_5 : decode cX11_stepHere 5 = .ok (.bipush 22, 2) := dk_16 22 (dk_at dksX11_stepHere_0 5 rfl rfl)
theorem dX11_stepHere_7 : decode cX11_stepHere 7 = .ok (.iconst 5, 1) := dk_8 (dk_at dksX11_stepHere_0 7 rfl rfl)
theorem dX11_stepHere_8 : decode cX11_stepHere 8 = .ok (.iconst 0, 1) := dk_3 (dk_at dksX11_stepHere_0 8 rfl rfl)
theorem dX11_stepHere_9 : decode cX11_stepHere 9 = .ok (.iconst 0, 1) := dk_3 (dk_at dksX11_stepHere_0 9 rfl rfl)
theorem dX11_stepHere_10 : decode cX11_stepHere 10 = .ok (.invokevirtual 152, 3) := dk_182 0 152 (dk_at dksX11_stepHere_0 10 rfl rfl)
theorem dX11_stepHere_13 : decode cX11_stepHere 13 = .ok (.ifCond .eq 5, 3) := dk_153 0 5 (dk_at dksX11_stepHere_0 13 rfl rfl)
theorem dX11_stepHere_16 : decode cX11_stepHere 16 = .ok (.iconst 0, 1) := dk_3 (dk_at dksX11_stepHere_0 16 rfl rfl)
theorem dX11_stepHere_17 : decode cX11_stepHere 17 = .ok (.ireturn, 1) := dk_172 (dk_at dksX11_stepHere_0 17 rfl rfl)
theorem dX11_stepHere_18 : decode cX11_stepHere 18 = .ok (.aload_n 0, 1) := dk_42 (dk_at dksX11_stepHere_0 18 rfl rfl)
theorem dX11_stepHere_19 : decode cX11_stepHere 19 = .ok (.iconst 2, 1) := dk_5 (dk_at dksX11_stepHere_0 19 rfl rfl)
theorem dX11_stepHere_20 : decode cX11_stepHere 20 = .ok (.iconst 1, 1) := dk_4 (dk_at dksX11_stepHere_0 20 rfl rfl)
theorem dX11_stepHere_21 : decode cX11_stepHere 21 = .ok (.iconst 3, 1) := dk_6 (dk_at dksX11_stepHere_0 21 rfl rfl)
theorem dX11_stepHere_22 : decode cX11_stepHere 22 = .ok (.bipush 11, 2) := dk_16 11 (dk_at dksX11_stepHere_0 22 rfl rfl)
theorem dX11_stepHere_24 : decode cX11_stepHere 24 = .ok (.iconst 0, 1) := dk_3 (dk_at dksX11_stepHere_1 0 rfl rfl)
theorem dX11_stepHere_25 : decode cX11_stepHere 25 = .ok (.iconst 0, 1) := dk_3 (dk_at dksX11_stepHere_1 1 rfl rfl)
theorem dX11_stepHere_26 : decode cX11_stepHere 26 = .ok (.invokevirtual 152, 3) := dk_182 0 152 (dk_at dksX11_stepHere_1 2 rfl rfl)
theorem dX11_stepHere_29 : decode cX11_stepHere 29 = .ok (.ifCond .eq 5, 3) := dk_153 0 5 (dk_at dksX11_stepHere_1 5 rfl rfl)
theorem dX11_stepHere_32 : decode cX11_stepHere 32 = .ok (.iconst 1, 1) := dk_4 (dk_at dksX11_stepHere_1 8 rfl rfl)
theorem dX11_stepHere_33 : decode cX11_stepHere 33 = .ok (.ireturn, 1) := dk_172 (dk_at dksX11_stepHere_1 9 rfl rfl)
theorem dX11_stepHere_34 : decode cX11_stepHere 34 = .ok (.aload_n 0, 1) := dk_42 (dk_at dksX11_stepHere_1 10 rfl rfl)
theorem dX11_stepHere_35 : decode cX11_stepHere 35 = .ok (.bipush 12, 2) := dk_16 12 (dk_at dksX11_stepHere_1 11 rfl rfl)
theorem dX11_stepHere_37 : decode cX11_stepHere 37 = .ok (.iconst 1, 1) := dk_4 (dk_at dksX11_stepHere_1 13 rfl rfl)
theorem dX11_stepHere_38 : decode cX11_stepHere 38 = .ok (.bipush 16, 2) := dk_16 16 (dk_at dksX11_stepHere_1 14 rfl rfl)
theorem dX11_stepHere_40 : decode cX11_stepHere 40 = .ok (.bipush 19, 2) := dk_16 19 (dk_at dksX11_stepHere_1 16 rfl rfl)
theorem dX11_stepHere_42 : decode cX11_stepHere 42 = .ok (.iconst 5, 1) := dk_8 (dk_at dksX11_stepHere_1 18 rfl rfl)
theorem dX11_stepHere_43 : decode cX11_stepHere 43 = .ok (.iconst 0, 1) := dk_3 (dk_at dksX11_stepHere_1 19 rfl rfl)
theorem dX11_stepHere_44 : decode cX11_stepHere 44 = .ok (.invokevirtual 152, 3) := dk_182 0 152 (dk_at dksX11_stepHere_1 20 rfl rfl)
theorem dX11_stepHere_47 : decode cX11_stepHere 47 = .ok (.ifCond .eq 5, 3) := dk_153 0 5 (dk_at dksX11_stepHere_2 0 rfl rfl)
theorem dX11_stepHere_50 : decode cX11_stepHere 50 = .ok (.iconst 2, 1) := dk_5 (dk_at dksX11_stepHere_2 3 rfl rfl)
theorem dX11_stepHere_51 : decode cX11_stepHere 51 = .ok (.ireturn, 1) := dk_172 (dk_at dksX11_stepHere_2 4 rfl rfl)
theorem dX11_stepHere_52 : decode cX11_stepHere 52 = .ok (.aload_n 0, 1) := dk_42 (dk_at dksX11_stepHere_2 5 rfl rfl)
theorem dX11_stepHere_53 : decode cX11_stepHere 53 = .ok (.iconst 3, 1) := dk_6 (dk_at dksX11_stepHere_2 6 rfl rfl)
theorem dX11_stepHere_54 : decode cX11_stepHere 54 = .ok (.bipush 21, 2) := dk_16 21 (dk_at dksX11_stepHere_2 7 rfl rfl)
theorem dX11_stepHere_56 : decode cX11_stepHere 56 = .ok (.bipush 18, 2) := dk_16 18 (dk_at dksX11_stepHere_2 9 rfl rfl)
theorem dX11_stepHere_58 : decode cX11_stepHere 58 = .ok (.iconst 5, 1) := dk_8 (dk_at dksX11_stepHere_2 11 rfl rfl)
theorem dX11_stepHere_59 : decode cX11_stepHere 59 = .ok (.iconst 0, 1) := dk_3 (dk_at dksX11_stepHere_2 12 rfl rfl)
theorem dX11_stepHere_60 : decode cX11_stepHere 60 = .ok (.iconst 0, 1) := dk_3 (dk_at dksX11_stepHere_2 13 rfl rfl)
theorem dX11_stepHere_61 : decode cX11_stepHere 61 = .ok (.invokevirtual 152, 3) := dk_182 0 152 (dk_at dksX11_stepHere_2 14 rfl rfl)
theorem dX11_stepHere_64 : decode cX11_stepHere 64 = .ok (.ifCond .eq 5, 3) := dk_153 0 5 (dk_at dksX11_stepHere_2 17 rfl rfl)
theorem dX11_stepHere_67 : decode cX11_stepHere 67 = .ok (.iconst 3, 1) := dk_6 (dk_at dksX11_stepHere_2 20 rfl rfl)
theorem dX11_stepHere_68 : decode cX11_stepHere 68 = .ok (.ireturn, 1) := dk_172 (dk_at dksX11_stepHere_2 21 rfl rfl)
theorem dX11_stepHere_69 : decode cX11_stepHere 69 = .ok (.aload_n 0, 1) := dk_42 (dk_at dksX11_stepHere_2 22 rfl rfl)
theorem dX11_stepHere_70 : decode cX11_stepHere 70 = .ok (.iconst 4, 1) := dk_7 (dk_at dksX11_stepHere_2 23 rfl rfl)
theorem dX11_stepHere_71 : decode cX11_stepHere 71 = .ok (.bipush 9, 2) := dk_16 9 (dk_at dksX11_stepHere_3 0 rfl rfl)
theorem dX11_stepHere_73 : decode cX11_stepHere 73 = .ok (.iconst 5, 1) := dk_8 (dk_at dksX11_stepHere_3 2 rfl rfl)
theorem dX11_stepHere_74 : decode cX11_stepHere 74 = .ok (.iconst 0, 1) := dk_3 (dk_at dksX11_stepHere_3 3 rfl rfl)
theorem dX11_stepHere_75 : decode cX11_stepHere 75 = .ok (.iconst 0, 1) := dk_3 (dk_at dksX11_stepHere_3 4 rfl rfl)
theorem dX11_stepHere_76 : decode cX11_stepHere 76 = .ok (.iconst 0, 1) := dk_3 (dk_at dksX11_stepHere_3 5 rfl rfl)
theorem dX11_stepHere_77 : decode cX11_stepHere 77 = .ok (.invokevirtual 152, 3) := dk_182 0 152 (dk_at dksX11_stepHere_3 6 rfl rfl)
theorem dX11_stepHere_80 : decode cX11_stepHere 80 = .ok (.ifCond .eq 5, 3) := dk_153 0 5 (dk_at dksX11_stepHere_3 9 rfl rfl)
theorem dX11_stepHere_83 : decode cX11_stepHere 83 = .ok (.iconst 4, 1) := dk_7 (dk_at dksX11_stepHere_3 12 rfl rfl)
theorem dX11_stepHere_84 : decode cX11_stepHere 84 = .ok (.ireturn, 1) := dk_172 (dk_at dksX11_stepHere_3 13 rfl rfl)
theorem dX11_stepHere_85 : decode cX11_stepHere 85 = .ok (.aload_n 0, 1) := dk_42 (dk_at dksX11_stepHere_3 14 rfl rfl)
theorem dX11_stepHere_86 : decode cX11_stepHere 86 = .ok (.iconst 4, 1) := dk_7 (dk_at dksX11_stepHere_3 15 rfl rfl)
theorem dX11_stepHere_87 : decode cX11_stepHere 87 = .ok (.iconst 1, 1) := dk_4 (dk_at dksX11_stepHere_3 16 rfl rfl)
theorem dX11_stepHere_88 : decode cX11_stepHere 88 = .ok (.bipush 25, 2) := dk_16 25 (dk_at dksX11_stepHere_3 17 rfl rfl)
theorem dX11_stepHere_90 : decode cX11_stepHere 90 = .ok (.iconst 0, 1) := dk_3 (dk_at dksX11_stepHere_3 19 rfl rfl)
theorem dX11_stepHere_91 : decode cX11_stepHere 91 = .ok (.iconst 0, 1) := dk_3 (dk_at dksX11_stepHere_3 20 rfl rfl)
theorem dX11_stepHere_92 : decode cX11_stepHere 92 = .ok (.iconst 0, 1) := dk_3 (dk_at dksX11_stepHere_3 21 rfl rfl)
theorem dX11_stepHere_93 : decode cX11_stepHere 93 = .ok (.invokevirtual 152, 3) := dk_182 0 152 (dk_at dksX11_stepHere_4 0 rfl rfl)
theorem dX11_stepHere_96 : decode cX11_stepHere 96 = .ok (.ifCond .eq 5, 3) := dk_153 0 5 (dk_at dksX11_stepHere_4 3 rfl rfl)
theorem dX11_stepHere_99 : decode cX11_stepHere 99 = .ok (.iconst 5, 1) := dk_8 (dk_at dksX11_stepHere_4 6 rfl rfl)
theorem dX11_stepHere_100 : decode cX11_stepHere 100 = .ok (.ireturn, 1) := dk_172 (dk_at dksX11_stepHere_4 7 rfl rfl)
theorem dX11_stepHere_101 : decode cX11_stepHere 101 = .ok (.aload_n 0, 1) := dk_42 (dk_at dksX11_stepHere_4 8 rfl rfl)
theorem dX11_stepHere_102 : decode cX11_stepHere 102 = .ok (.iconst 1, 1) := dk_4 (dk_at dksX11_stepHere_4 9 rfl rfl)
theorem dX11_stepHere_103 : decode cX11_stepHere 103 = .ok (.bipush 7, 2) := dk_16 7 (dk_at dksX11_stepHere_4 10 rfl rfl)
theorem dX11_stepHere_105 : decode cX11_stepHere 105 = .ok (.iconst 1, 1) := dk_4 (dk_at dksX11_stepHere_4 12 rfl rfl)
theorem dX11_stepHere_106 : decode cX11_stepHere 106 = .ok (.bipush 9, 2) := dk_16 9 (dk_at dksX11_stepHere_4 13 rfl rfl)
theorem dX11_stepHere_108 : decode cX11_stepHere 108 = .ok (.bipush 14, 2) := dk_16 14 (dk_at dksX11_stepHere_4 15 rfl rfl)
theorem dX11_stepHere_110 : decode cX11_stepHere 110 = .ok (.iconst 0, 1) := dk_3 (dk_at dksX11_stepHere_4 17 rfl rfl)
theorem dX11_stepHere_111 : decode cX11_stepHere 111 = .ok (.invokevirtual 152, 3) := dk_182 0 152 (dk_at dksX11_stepHere_4 18 rfl rfl)
theorem dX11_stepHere_114 : decode cX11_stepHere 114 = .ok (.ifCond .eq 8, 3) := dk_153 0 8 (dk_at dksX11_stepHere_4 21 rfl rfl)
theorem dX11_stepHere_117 : decode cX11_stepHere 117 = .ok (.bipush 6, 2) := dk_16 6 (dk_at dksX11_stepHere_5 0 rfl rfl)
theorem dX11_stepHere_119 : decode cX11_stepHere 119 = .ok (.goto 4, 3) := dk_167 0 4 (dk_at dksX11_stepHere_5 2 rfl rfl)
theorem dX11_stepHere_122 : decode cX11_stepHere 122 = .ok (.iconst (-1), 1) := dk_2 (dk_at dksX11_stepHere_5 5 rfl rfl)
theorem dX11_stepHere_123 : decode cX11_stepHere 123 = .ok (.ireturn, 1) := dk_172 (dk_at dksX11_stepHere_5 6 rfl rfl)
def dkwX11_copies_0 : List UInt8 := [3, 61, 28, 16, 45, 162, 0, 15, 43, 28, 42, 28, 46, 79, 132, 2, 1, 167, 255, 241, 177]
abbrev dktX11_copies_0 : List UInt8 := dkwX11_copies_0 ++ []
theorem dksX11_copies_0 : cX11_copies.data.toList.drop 0 = dktX11_copies_0 := by decide +kernel
theorem dX11_copies_0 : decode cX11_copies 0 = .ok (.iconst 0, 1) := dk_3 (dk_at dksX11_copies_0 0 rfl rfl)
theorem dX11_copies_1 : decode cX11_copies 1 = .ok (.istore_n 2, 1) := dk_61 (dk_at dksX11_copies_0 1 rfl rfl)
theorem dX11_copies_2 : decode cX11_copies 2 = .ok (.iload_n 2, 1) := dk_28 (dk_at dksX11_copies_0 2 rfl rfl)
theorem dX11_copies_3 : decode cX11_copies 3 = .ok (.bipush 45, 2) := dk_16 45 (dk_at dksX11_copies_0 3 rfl rfl)
theorem dX11_copies_5 : decode cX11_copies 5 = .ok (.if_icmp .ge 15, 3) := dk_162 0 15 (dk_at dksX11_copies_0 5 rfl rfl)
theorem dX11_copies_8 : decode cX11_copies 8 = .ok (.aload_n 1, 1) := dk_43 (dk_at dksX11_copies_0 8 rfl rfl)
theorem dX11_copies_9 : decode cX11_copies 9 = .ok (.iload_n 2, 1) := dk_28 (dk_at dksX11_copies_0 9 rfl rfl)
theorem dX11_copies_10 : decode cX11_copies 10 = .ok (.aload_n 0, 1) := dk_42 (dk_at dksX11_copies_0 10 rfl rfl)
theorem dX11_copies_11 : decode cX11_copies 11 = .ok (.iload_n 2, 1) := dk_28 (dk_at dksX11_copies_0 11 rfl rfl)
theorem dX11_copies_12 : decode cX11_copies 12 = .ok (.iaload, 1) := dk_46 (dk_at dksX11_copies_0 12 rfl rfl)
theorem dX11_copies_13 : decode cX11_copies 13 = .ok (.iastore, 1) := dk_79 (dk_at dksX11_copies_0 13 rfl rfl)
theorem dX11_copies_14 : decode cX11_copies 14 = .ok (.iinc 2 1, 3) := dk_132 2 1 (dk_at dksX11_copies_0 14 rfl rfl)
theorem dX11_copies_17 : decode cX11_copies 17 = .ok (.goto (-15), 3) := dk_167 255 241 (dk_at dksX11_copies_0 17 rfl rfl)
theorem dX11_copies_20 : decode cX11_copies 20 = .ok (.return_, 1) := dk_177 (dk_at dksX11_copies_0 20 rfl rfl)
def dkwX11_goes_6 : List UInt8 := [96, 181, 0, 209, 42, 180, 0, 70, 29, 50, 6, 46, 62, 167, 255, 105, 177]
abbrev dktX11_goes_6 : List UInt8 := dkwX11_goes_6 ++ []
def dkwX11_goes_5 : List UInt8 := [4, 167, 0, 4, 3, 96, 181, 1, 66, 42, 89, 180, 0, 209, 21, 4, 153, 0, 7, 3, 167, 0, 4, 4]
abbrev dktX11_goes_5 : List UInt8 := dkwX11_goes_5 ++ dktX11_goes_6
def dkwX11_goes_4 : List UInt8 := [180, 0, 73, 42, 180, 0, 70, 29, 50, 182, 1, 62, 54, 4, 42, 89, 180, 1, 66, 21, 4, 153, 0, 7]
abbrev dktX11_goes_4 : List UInt8 := dkwX11_goes_4 ++ dktX11_goes_5
def dkwX11_goes_3 : List UInt8 := [42, 180, 0, 70, 29, 50, 6, 46, 182, 1, 59, 132, 4, 1, 167, 255, 215, 167, 0, 57, 42, 42]
abbrev dktX11_goes_3 : List UInt8 := dkwX11_goes_3 ++ dktX11_goes_4
def dkwX11_goes_2 : List UInt8 := [180, 0, 70, 29, 50, 4, 46, 162, 0, 34, 42, 180, 1, 56, 17, 0, 200, 162, 0, 24, 42, 29, 4, 96]
abbrev dktX11_goes_2 : List UInt8 := dkwX11_goes_2 ++ dktX11_goes_3
def dkwX11_goes_1 : List UInt8 := [181, 1, 56, 42, 180, 0, 70, 29, 50, 3, 46, 16, 6, 160, 0, 53, 3, 54, 4, 21, 4, 42]
abbrev dktX11_goes_1 : List UInt8 := dkwX11_goes_1 ++ dktX11_goes_2
def dkwX11_goes_0 : List UInt8 := [27, 62, 29, 28, 162, 0, 152, 42, 180, 1, 56, 17, 0, 200, 162, 0, 142, 42, 89, 180, 1, 56, 4, 96]
abbrev dktX11_goes_0 : List UInt8 := dkwX11_goes_0 ++ dktX11_goes_1
theorem dksX11_goes_0 : cX11_goes.data.toList.drop 0 = dktX11_goes_0 := by decide +kernel
theorem dksX11_goes_1 : cX11_goes.data.toList.drop 24 = dktX11_goes_1 := dk_seg dksX11_goes_0 24 rfl rfl
theorem dksX11_goes_2 : cX11_goes.data.toList.drop 46 = dktX11_goes_2 := dk_seg dksX11_goes_1 22 rfl rfl
theorem dksX11_goes_3 : cX11_goes.data.toList.drop 70 = dktX11_goes_3 := dk_seg dksX11_goes_2 24 rfl rfl
theorem dksX11_goes_4 : cX11_goes.data.toList.drop 92 = dktX11_goes_4 := dk_seg dksX11_goes_3 22 rfl rfl
theorem dksX11_goes_5 : cX11_goes.data.toList.drop 116 = dktX11_goes_5 := dk_seg dksX11_goes_4 24 rfl rfl
theorem dksX11_goes_6 : cX11_goes.data.toList.drop 140 = dktX11_goes_6 := dk_seg dksX11_goes_5 24 rfl rfl
theorem dX11_goes_0 : decode cX11_goes 0 = .ok (.iload_n 1, 1) := dk_27 (dk_at dksX11_goes_0 0 rfl rfl)
theorem dX11_goes_1 : decode cX11_goes 1 = .ok (.istore_n 3, 1) := dk_62 (dk_at dksX11_goes_0 1 rfl rfl)
theorem dX11_goes_2 : decode cX11_goes 2 = .ok (.iload_n 3, 1) := dk_29 (dk_at dksX11_goes_0 2 rfl rfl)
theorem dX11_goes_3 : decode cX11_goes 3 = .ok (.iload_n 2, 1) := dk_28 (dk_at dksX11_goes_0 3 rfl rfl)
theorem dX11_goes_4 : decode cX11_goes 4 = .ok (.if_icmp .ge 152, 3) := dk_162 0 152 (dk_at dksX11_goes_0 4 rfl rfl)
theorem dX11_goes_7 : decode cX11_goes 7 = .ok (.aload_n 0, 1) := dk_42 (dk_at dksX11_goes_0 7 rfl rfl)
theorem dX11_goes_8 : decode cX11_goes 8 = .ok (.getfield 312, 3) := dk_180 1 56 (dk_at dksX11_goes_0 8 rfl rfl)
theorem dX11_goes_11 : decode cX11_goes 11 = .ok (.sipush 200, 3) := dk_17 0 200 (dk_at dksX11_goes_0 11 rfl rfl)
theorem dX11_goes_14 : decode cX11_goes 14 = .ok (.if_icmp .ge 142, 3) := dk_162 0 142 (dk_at dksX11_goes_0 14 rfl rfl)
theorem dX11_goes_17 : decode cX11_goes 17 = .ok (.aload_n 0, 1) := dk_42 (dk_at dksX11_goes_0 17 rfl rfl)
theorem dX11_goes_18 : decode cX11_goes 18 = .ok (.dup, 1) := dk_89 (dk_at dksX11_goes_0 18 rfl rfl)
theorem dX11_goes_19 : decode cX11_goes 19 = .ok (.getfield 312, 3) := dk_180 1 56 (dk_at dksX11_goes_0 19 rfl rfl)
theorem dX11_goes_22 : decode cX11_goes 22 = .ok (.iconst 1, 1) := dk_4 (dk_at dksX11_goes_0 22 rfl rfl)
theorem dX11_goes_23 : decode cX11_goes 23 = .ok (.iadd, 1) := dk_96 (dk_at dksX11_goes_0 23 rfl rfl)
theorem dX11_goes_24 : decode cX11_goes 24 = .ok (.putfield 312, 3) := dk_181 1 56 (dk_at dksX11_goes_1 0 rfl rfl)
theorem dX11_goes_27 : decode cX11_goes 27 = .ok (.aload_n 0, 1) := dk_42 (dk_at dksX11_goes_1 3 rfl rfl)
theorem dX11_goes_28 : decode cX11_goes 28 = .ok (.getfield 70, 3) := dk_180 0 70 (dk_at dksX11_goes_1 4 rfl rfl)
theorem dX11_goes_31 : decode cX11_goes 31 = .ok (.iload_n 3, 1) := dk_29 (dk_at dksX11_goes_1 7 rfl rfl)
theorem dX11_goes_32 : decode cX11_goes 32 = .ok (.aaload, 1) := dk_50 (dk_at dksX11_goes_1 8 rfl rfl)
theorem dX11_goes_33 : decode cX11_goes 33 = .ok (.iconst 0, 1) := dk_3 (dk_at dksX11_goes_1 9 rfl rfl)
theorem dX11_goes_34 : decode cX11_goes 34 = .ok (.iaload, 1) := dk_46 (dk_at dksX11_goes_1 10 rfl rfl)
theorem dX11_goes_35 : decode cX11_goes 35 = .ok (.bipush 6, 2) := dk_16 6 (dk_at dksX11_goes_1 11 rfl rfl)
theorem dX11_goes_37 : decode cX11_goes 37 = .ok (.if_icmp .ne 53, 3) := dk_160 0 53 (dk_at dksX11_goes_1 13 rfl rfl)
theorem dX11_goes_40 : decode cX11_goes 40 = .ok (.iconst 0, 1) := dk_3 (dk_at dksX11_goes_1 16 rfl rfl)
theorem dX11_goes_41 : decode cX11_goes 41 = .ok (.istore 4, 2) := dk_54 4 (dk_at dksX11_goes_1 17 rfl rfl)
theorem dX11_goes_43 : decode cX11_goes 43 = .ok (.iload 4, 2) := dk_21 4 (dk_at dksX11_goes_1 19 rfl rfl)
theorem dX11_goes_45 : decode cX11_goes 45 = .ok (.aload_n 0, 1) := dk_42 (dk_at dksX11_goes_1 21 rfl rfl)
theorem dX11_goes_46 : decode cX11_goes 46 = .ok (.getfield 70, 3) := dk_180 0 70 (dk_at dksX11_goes_2 0 rfl rfl)
theorem dX11_goes_49 : decode cX11_goes 49 = .ok (.iload_n 3, 1) := dk_29 (dk_at dksX11_goes_2 3 rfl rfl)
theorem dX11_goes_50 : decode cX11_goes 50 = .ok (.aaload, 1) := dk_50 (dk_at dksX11_goes_2 4 rfl rfl)
theorem dX11_goes_51 : decode cX11_goes 51 = .ok (.iconst 1, 1) := dk_4 (dk_at dksX11_goes_2 5 rfl rfl)
theorem dX11_goes_52 : decode cX11_goes 52 = .ok (.iaload, 1) := dk_46 (dk_at dksX11_goes_2 6 rfl rfl)
theorem dX11_goes_53 : decode cX11_goes 53 = .ok (.if_icmp .ge 34, 3) := dk_162 0 34 (dk_at dksX11_goes_2 7 rfl rfl)
theorem dX11_goes_56 : decode cX11_goes 56 = .ok (.aload_n 0, 1) := dk_42 (dk_at dksX11_goes_2 10 rfl rfl)
theorem dX11_goes_57 : decode cX11_goes 57 = .ok (.getfield 312, 3) := dk_180 1 56 (dk_at dksX11_goes_2 11 rfl rfl)
theorem dX11_goes_60 : decode cX11_goes 60 = .ok (.sipush 200, 3) := dk_17 0 200 (dk_at dksX11_goes_2 14 rfl rfl)
theorem dX11_goes_63 : decode cX11_goes 63 = .ok (.if_icmp .ge 24, 3) := dk_162 0 24 (dk_at dksX11_goes_2 17 rfl rfl)
theorem dX11_goes_66 : decode cX11_goes 66 = .ok (.aload_n 0, 1) := dk_42 (dk_at dksX11_goes_2 20 rfl rfl)
theorem dX11_goes_67 : decode cX11_goes 67 = .ok (.iload_n 3, 1) := dk_29 (dk_at dksX11_goes_2 21 rfl rfl)
theorem dX11_goes_68 : decode cX11_goes 68 = .ok (.iconst 1, 1) := dk_4 (dk_at dksX11_goes_2 22 rfl rfl)
theorem dX11_goes_69 : decode cX11_goes 69 = .ok (.iadd, 1) := dk_96 (dk_at dksX11_goes_2 23 rfl rfl)
theorem dX11_goes_70 : decode cX11_goes 70 = .ok (.aload_n 0, 1) := dk_42 (dk_at dksX11_goes_3 0 rfl rfl)
theorem dX11_goes_71 : decode cX11_goes 71 = .ok (.getfield 70, 3) := dk_180 0 70 (dk_at dksX11_goes_3 1 rfl rfl)
theorem dX11_goes_74 : decode cX11_goes 74 = .ok (.iload_n 3, 1) := dk_29 (dk_at dksX11_goes_3 4 rfl rfl)
theorem dX11_goes_75 : decode cX11_goes 75 = .ok (.aaload, 1) := dk_50 (dk_at dksX11_goes_3 5 rfl rfl)
theorem dX11_goes_76 : decode cX11_goes 76 = .ok (.iconst 3, 1) := dk_6 (dk_at dksX11_goes_3 6 rfl rfl)
theorem dX11_goes_77 : decode cX11_goes 77 = .ok (.iaload, 1) := dk_46 (dk_at dksX11_goes_3 7 rfl rfl)
theorem dX11_goes_78 : decode cX11_goes 78 = .ok (.invokevirtual 315, 3) := dk_182 1 59 (dk_at dksX11_goes_3 8 rfl rfl)
theorem dX11_goes_81 : decode cX11_goes 81 = .ok (.iinc 4 1, 3) := dk_132 4 1 (dk_at dksX11_goes_3 11 rfl rfl)
theorem dX11_goes_84 : decode cX11_goes 84 = .ok (.goto (-41), 3) := dk_167 255 215 (dk_at dksX11_goes_3 14 rfl rfl)
theorem dX11_goes_87 : decode cX11_goes 87 = .ok (.goto 57, 3) := dk_167 0 57 (dk_at dksX11_goes_3 17 rfl rfl)
theorem dX11_goes_90 : decode cX11_goes 90 = .ok (.aload_n 0, 1) := dk_42 (dk_at dksX11_goes_3 20 rfl rfl)
theorem dX11_goes_91 : decode cX11_goes 91 = .ok (.aload_n 0, 1) := dk_42 (dk_at dksX11_goes_3 21 rfl rfl)
theorem dX11_goes_92 : decode cX11_goes 92 = .ok (.getfield 73, 3) := dk_180 0 73 (dk_at dksX11_goes_4 0 rfl rfl)
theorem dX11_goes_95 : decode cX11_goes 95 = .ok (.aload_n 0, 1) := dk_42 (dk_at dksX11_goes_4 3 rfl rfl)
theorem dX11_goes_96 : decode cX11_goes 96 = .ok (.getfield 70, 3) := dk_180 0 70 (dk_at dksX11_goes_4 4 rfl rfl)
theorem dX11_goes_99 : decode cX11_goes 99 = .ok (.iload_n 3, 1) := dk_29 (dk_at dksX11_goes_4 7 rfl rfl)
theorem dX11_goes_100 : decode cX11_goes 100 = .ok (.aaload, 1) := dk_50 (dk_at dksX11_goes_4 8 rfl rfl)
theorem dX11_goes_101 : decode cX11_goes 101 = .ok (.invokevirtual 318, 3) := dk_182 1 62 (dk_at dksX11_goes_4 9 rfl rfl)
theorem dX11_goes_104 : decode cX11_goes 104 = .ok (.istore 4, 2) := dk_54 4 (dk_at dksX11_goes_4 12 rfl rfl)
theorem dX11_goes_106 : decode cX11_goes 106 = .ok (.aload_n 0, 1) := dk_42 (dk_at dksX11_goes_4 14 rfl rfl)
theorem dX11_goes_107 : decode cX11_goes 107 = .ok (.dup, 1) := dk_89 (dk_at dksX11_goes_4 15 rfl rfl)
theorem dX11_goes_108 : decode cX11_goes 108 = .ok (.getfield 322, 3) := dk_180 1 66 (dk_at dksX11_goes_4 16 rfl rfl)
theorem dX11_goes_111 : decode cX11_goes 111 = .ok (.iload 4, 2) := dk_21 4 (dk_at dksX11_goes_4 19 rfl rfl)
theorem dX11_goes_113 : decode cX11_goes 113 = .ok (.ifCond .eq 7, 3) := dk_153 0 7 (dk_at dksX11_goes_4 21 rfl rfl)
theorem dX11_goes_116 : decode cX11_goes 116 = .ok (.iconst 1, 1) := dk_4 (dk_at dksX11_goes_5 0 rfl rfl)
theorem dX11_goes_117 : decode cX11_goes 117 = .ok (.goto 4, 3) := dk_167 0 4 (dk_at dksX11_goes_5 1 rfl rfl)
theorem dX11_goes_120 : decode cX11_goes 120 = .ok (.iconst 0, 1) := dk_3 (dk_at dksX11_goes_5 4 rfl rfl)
theorem dX11_goes_121 : decode cX11_goes 121 = .ok (.iadd, 1) := dk_96 (dk_at dksX11_goes_5 5 rfl rfl)
theorem dX11_goes_122 : decode cX11_goes 122 = .ok (.putfield 322, 3) := dk_181 1 66 (dk_at dksX11_goes_5 6 rfl rfl)
theorem dX11_goes_125 : decode cX11_goes 125 = .ok (.aload_n 0, 1) := dk_42 (dk_at dksX11_goes_5 9 rfl rfl)
theorem dX11_goes_126 : decode cX11_goes 126 = .ok (.dup, 1) := dk_89 (dk_at dksX11_goes_5 10 rfl rfl)
theorem dX11_goes_127 : decode cX11_goes 127 = .ok (.getfield 209, 3) := dk_180 0 209 (dk_at dksX11_goes_5 11 rfl rfl)
theorem dX11_goes_130 : decode cX11_goes 130 = .ok (.iload 4, 2) := dk_21 4 (dk_at dksX11_goes_5 14 rfl rfl)
theorem dX11_goes_132 : decode cX11_goes 132 = .ok (.ifCond .eq 7, 3) := dk_153 0 7 (dk_at dksX11_goes_5 16 rfl rfl)
theorem dX11_goes_135 : decode cX11_goes 135 = .ok (.iconst 0, 1) := dk_3 (dk_at dksX11_goes_5 19 rfl rfl)
theorem dX11_goes_136 : decode cX11_goes 136 = .ok (.goto 4, 3) := dk_167 0 4 (dk_at dksX11_goes_5 20 rfl rfl)
theorem dX11_goes_139 : decode cX11_goes 139 = .ok (.iconst 1, 1) := dk_4 (dk_at dksX11_goes_5 23 rfl rfl)
theorem dX11_goes_140 : decode cX11_goes 140 = .ok (.iadd, 1) := dk_96 (dk_at dksX11_goes_6 0 rfl rfl)
theorem dX11_goes_141 : decode cX11_goes 141 = .ok (.putfield 209, 3) := dk_181 0 209 (dk_at dksX11_goes_6 1 rfl rfl)
theorem dX11_goes_144 : decode cX11_goes 144 = .ok (.aload_n 0, 1) := dk_42 (dk_at dksX11_goes_6 4 rfl rfl)
theorem dX11_goes_145 : decode cX11_goes 145 = .ok (.getfield 70, 3) := dk_180 0 70 (dk_at dksX11_goes_6 5 rfl rfl)
theorem dX11_goes_148 : decode cX11_goes 148 = .ok (.iload_n 3, 1) := dk_29 (dk_at dksX11_goes_6 8 rfl rfl)
theorem dX11_goes_149 : decode cX11_goes 149 = .ok (.aaload, 1) := dk_50 (dk_at dksX11_goes_6 9 rfl rfl)
theorem dX11_goes_150 : decode cX11_goes 150 = .ok (.iconst 3, 1) := dk_6 (dk_at dksX11_goes_6 10 rfl rfl)
theorem dX11_goes_151 : decode cX11_goes 151 = .ok (.iaload, 1) := dk_46 (dk_at dksX11_goes_6 11 rfl rfl)
theorem dX11_goes_152 : decode cX11_goes 152 = .ok (.istore_n 3, 1) := dk_62 (dk_at dksX11_goes_6 12 rfl rfl)
theorem dX11_goes_153 : decode cX11_goes 153 = .ok (.goto (-151), 3) := dk_167 255 105 (dk_at dksX11_goes_6 13 rfl rfl)
theorem dX11_goes_156 : decode cX11_goes 156 = .ok (.return_, 1) := dk_177 (dk_at dksX11_goes_6 16 rfl rfl)
def dkwX11_does_8 : List UInt8 := [46, 17, 1, 244, 161, 0, 5, 3, 172, 42, 43, 182, 1, 52, 4, 172]
abbrev dktX11_does_8 : List UInt8 := dkwX11_does_8 ++ []
def dkwX11_does_7 : List UInt8 := [16, 16, 21, 4, 96, 46, 79, 132, 4, 1, 167, 255, 211, 43, 3, 29, 96, 4, 79, 4, 172, 43, 16, 44]
abbrev dktX11_does_7 : List UInt8 := dkwX11_does_7 ++ dktX11_does_8
def dkwX11_does_6 : List UInt8 := [43, 16, 16, 21, 4, 96, 42, 180, 0, 43, 21, 4, 50, 3, 46, 29, 160, 0, 7, 2, 167, 0, 10, 43]
abbrev dktX11_does_6 : List UInt8 := dkwX11_does_6 ++ dktX11_does_7
def dkwX11_does_5 : List UInt8 := [3, 29, 96, 46, 4, 160, 0, 5, 3, 172, 3, 54, 4, 21, 4, 42, 180, 0, 23, 4, 46, 162, 0, 40]
abbrev dktX11_does_5 : List UInt8 := dkwX11_does_5 ++ dktX11_does_6
def dkwX11_does_4 : List UInt8 := [29, 96, 2, 79, 4, 172, 42, 43, 29, 182, 1, 46, 172, 42, 43, 29, 44, 5, 46, 182, 1, 49, 172, 43]
abbrev dktX11_does_4 : List UInt8 := dkwX11_does_4 ++ dktX11_does_5
def dkwX11_does_3 : List UInt8 := [3, 172, 43, 16, 16, 29, 96, 3, 79, 4, 172, 43, 29, 184, 1, 11, 154, 0, 5, 3, 172, 43, 16, 16]
abbrev dktX11_does_3 : List UInt8 := dkwX11_does_3 ++ dktX11_does_4
def dkwX11_does_2 : List UInt8 := [43, 29, 184, 1, 11, 154, 0, 19, 43, 3, 42, 180, 0, 43, 29, 50, 3, 46, 96, 46, 4, 160, 0, 5]
abbrev dktX11_does_2 : List UInt8 := dkwX11_does_2 ++ dktX11_does_3
def dkwX11_does_1 : List UInt8 := [170, 0, 0, 0, 174, 0, 0, 0, 0, 0, 0, 0, 4, 0, 0, 0, 33, 0, 0, 0, 68, 0, 0, 0, 87, 0, 0, 0, 94, 0, 0, 0, 104]
abbrev dktX11_does_1 : List UInt8 := dkwX11_does_1 ++ dktX11_does_2
def dkwX11_does_0 : List UInt8 := [44, 4, 46, 62, 44, 3, 46]
abbrev dktX11_does_0 : List UInt8 := dkwX11_does_0 ++ dktX11_does_1
theorem dksX11_does_0 : cX11_does.data.toList.drop 0 = dktX11_does_0 := by decide +kernel
theorem dksX11_does_1 : cX11_does.data.toList.drop 7 = dktX11_does_1 := dk_seg dksX11_does_0 7 rfl rfl
theorem dksX11_does_2 : cX11_does.data.toList.drop 40 = dktX11_does_2 := dk_seg dksX11_does_1 33 rfl rfl
theorem dksX11_does_3 : cX11_does.data.toList.drop 64 = dktX11_does_3 := dk_seg dksX11_does_2 24 rfl rfl
theorem dksX11_does_4 : cX11_does.data.toList.drop 88 = dktX11_does_4 := dk_seg dksX11_does_3 24 rfl rfl
theorem dksX11_does_5 : cX11_does.data.toList.drop 112 = dktX11_does_5 := dk_seg dksX11_does_4 24 rfl rfl
theorem dksX11_does_6 : cX11_does.data.toList.drop 136 = dktX11_does_6 := dk_seg dksX11_does_5 24 rfl rfl
theorem dksX11_does_7 : cX11_does.data.toList.drop 160 = dktX11_does_7 := dk_seg dksX11_does_6 24 rfl rfl
theorem dksX11_does_8 : cX11_does.data.toList.drop 184 = dktX11_does_8 := dk_seg dksX11_does_7 24 rfl rfl
theorem dX11_does_0 : decode cX11_does 0 = .ok (.aload_n 2, 1) := dk_44 (dk_at dksX11_does_0 0 rfl rfl)
theorem dX11_does_1 : decode cX11_does 1 = .ok (.iconst 1, 1) := dk_4 (dk_at dksX11_does_0 1 rfl rfl)
theorem dX11_does_2 : decode cX11_does 2 = .ok (.iaload, 1) := dk_46 (dk_at dksX11_does_0 2 rfl rfl)
theorem dX11_does_3 : decode cX11_does 3 = .ok (.istore_n 3, 1) := dk_62 (dk_at dksX11_does_0 3 rfl rfl)
theorem dX11_does_4 : decode cX11_does 4 = .ok (.aload_n 2, 1) := dk_44 (dk_at dksX11_does_0 4 rfl rfl)
theorem dX11_does_5 : decode cX11_does 5 = .ok (.iconst 0, 1) := dk_3 (dk_at dksX11_does_0 5 rfl rfl)
theorem dX11_does_6 : decode cX11_does 6 = .ok (.iaload, 1) := dk_46 (dk_at dksX11_does_0 6 rfl rfl)
theorem dX11_does_7 : decode cX11_does 7 = .ok (.tableswitch 174 0 4 #[33, 68, 87, 94, 104], 33) := by decide +kernel
theorem dX11_does_40 : decode cX11_does 40 = .ok (.aload_n 1, 1) := dk_43 (dk_at dksX11_does_2 0 rfl rfl)
theorem dX11_does_41 : decode cX11_does 41 = .ok (.iload_n 3, 1) := dk_29 (dk_at dksX11_does_2 1 rfl rfl)
theorem dX11_does_42 : decode cX11_does 42 = .ok (.invokestatic 267, 3) := dk_184 1 11 (dk_at dksX11_does_2 2 rfl rfl)
theorem dX11_does_45 : decode cX11_does 45 = .ok (.ifCond .ne 19, 3) := dk_154 0 19 (dk_at dksX11_does_2 5 rfl rfl)
theorem dX11_does_48 : decode cX11_does 48 = .ok (.aload_n 1, 1) := dk_43 (dk_at dksX11_does_2 8 rfl rfl)
theorem dX11_does_49 : decode cX11_does 49 = .ok (.iconst 0, 1) := dk_3 (dk_at dksX11_does_2 9 rfl rfl)
theorem dX11_does_50 : decode cX11_does 50 = .ok (.aload_n 0, 1) := dk_42 (dk_at dksX11_does_2 10 rfl rfl)
theorem dX11_does_51 : decode cX11_does 51 = .ok (.getfield 43, 3) := dk_180 0 43 (dk_at dksX11_does_2 11 rfl rfl)
theorem dX11_does_54 : decode cX11_does 54 = .ok (.iload_n 3, 1) := dk_29 (dk_at dksX11_does_2 14 rfl rfl)
theorem dX11_does_55 : decode cX11_does 55 = .ok (.aaload, 1) := dk_50 (dk_at dksX11_does_2 15 rfl rfl)
theorem dX11_does_56 : decode cX11_does 56 = .ok (.iconst 0, 1) := dk_3 (dk_at dksX11_does_2 16 rfl rfl)
theorem dX11_does_57 : decode cX11_does 57 = .ok (.iaload, 1) := dk_46 (dk_at dksX11_does_2 17 rfl rfl)
theorem dX11_does_58 : decode cX11_does 58 = .ok (.iadd, 1) := dk_96 (dk_at dksX11_does_2 18 rfl rfl)
theorem dX11_does_59 : decode cX11_does 59 = .ok (.iaload, 1) := dk_46 (dk_at dksX11_does_2 19 rfl rfl)
theorem dX11_does_60 : decode cX11_does 60 = .ok (.iconst 1, 1) := dk_4 (dk_at dksX11_does_2 20 rfl rfl)
theorem dX11_does_61 : decode cX11_does 61 = .ok (.if_icmp .ne 5, 3) := dk_160 0 5 (dk_at dksX11_does_2 21 rfl rfl)
theorem dX11_does_64 : decode cX11_does 64 = .ok (.iconst 0, 1) := dk_3 (dk_at dksX11_does_3 0 rfl rfl)
theorem dX11_does_65 : decode cX11_does 65 = .ok (.ireturn, 1) := dk_172 (dk_at dksX11_does_3 1 rfl rfl)
theorem dX11_does_66 : decode cX11_does 66 = .ok (.aload_n 1, 1) := dk_43 (dk_at dksX11_does_3 2 rfl rfl)
theorem dX11_does_67 : decode cX11_does 67 = .ok (.bipush 16, 2) := dk_16 16 (dk_at dksX11_does_3 3 rfl rfl)
theorem dX11_does_69 : decode cX11_does 69 = .ok (.iload_n 3, 1) := dk_29 (dk_at dksX11_does_3 5 rfl rfl)
theorem dX11_does_70 : decode cX11_does 70 = .ok (.iadd, 1) := dk_96 (dk_at dksX11_does_3 6 rfl rfl)
theorem dX11_does_71 : decode cX11_does 71 = .ok (.iconst 0, 1) := dk_3 (dk_at dksX11_does_3 7 rfl rfl)
theorem dX11_does_72 : decode cX11_does 72 = .ok (.iastore, 1) := dk_79 (dk_at dksX11_does_3 8 rfl rfl)
theorem dX11_does_73 : decode cX11_does 73 = .ok (.iconst 1, 1) := dk_4 (dk_at dksX11_does_3 9 rfl rfl)
theorem dX11_does_74 : decode cX11_does 74 = .ok (.ireturn, 1) := dk_172 (dk_at dksX11_does_3 10 rfl rfl)
theorem dX11_does_75 : decode cX11_does 75 = .ok (.aload_n 1, 1) := dk_43 (dk_at dksX11_does_3 11 rfl rfl)
theorem dX11_does_76 : decode cX11_does 76 = .ok (.iload_n 3, 1) := dk_29 (dk_at dksX11_does_3 12 rfl rfl)
theorem dX11_does_77 : decode cX11_does 77 = .ok (.invokestatic 267, 3) := dk_184 1 11 (dk_at dksX11_does_3 13 rfl rfl)
theorem dX11_does_80 : decode cX11_does 80 = .ok (.ifCond .ne 5, 3) := dk_154 0 5 (dk_at dksX11_does_3 16 rfl rfl)
theorem dX11_does_83 : decode cX11_does 83 = .ok (.iconst 0, 1) := dk_3 (dk_at dksX11_does_3 19 rfl rfl)
theorem dX11_does_84 : decode cX11_does 84 = .ok (.ireturn, 1) := dk_172 (dk_at dksX11_does_3 20 rfl rfl)
theorem dX11_does_85 : decode cX11_does 85 = .ok (.aload_n 1, 1) := dk_43 (dk_at dksX11_does_3 21 rfl rfl)
theorem dX11_does_86 : decode cX11_does 86 = .ok (.bipush 16, 2) := dk_16 16 (dk_at dksX11_does_3 22 rfl rfl)
theorem dX11_does_88 : decode cX11_does 88 = .ok (.iload_n 3, 1) := dk_29 (dk_at dksX11_does_4 0 rfl rfl)
theorem dX11_does_89 : decode cX11_does 89 = .ok (.iadd, 1) := dk_96 (dk_at dksX11_does_4 1 rfl rfl)
theorem dX11_does_90 : decode cX11_does 90 = .ok (.iconst (-1), 1) := dk_2 (dk_at dksX11_does_4 2 rfl rfl)
theorem dX11_does_91 : decode cX11_does 91 = .ok (.iastore, 1) := dk_79 (dk_at dksX11_does_4 3 rfl rfl)
theorem dX11_does_92 : decode cX11_does 92 = .ok (.iconst 1, 1) := dk_4 (dk_at dksX11_does_4 4 rfl rfl)
theorem dX11_does_93 : decode cX11_does 93 = .ok (.ireturn, 1) := dk_172 (dk_at dksX11_does_4 5 rfl rfl)
theorem dX11_does_94 : decode cX11_does 94 = .ok (.aload_n 0, 1) := dk_42 (dk_at dksX11_does_4 6 rfl rfl)
theorem dX11_does_95 : decode cX11_does 95 = .ok (.aload_n 1, 1) := dk_43 (dk_at dksX11_does_4 7 rfl rfl)
theorem dX11_does_96 : decode cX11_does 96 = .ok (.iload_n 3, 1) := dk_29 (dk_at dksX11_does_4 8 rfl rfl)
theorem dX11_does_97 : decode cX11_does 97 = .ok (.invokevirtual 302, 3) := dk_182 1 46 (dk_at dksX11_does_4 9 rfl rfl)
theorem dX11_does_100 : decode cX11_does 100 = .ok (.ireturn, 1) := dk_172 (dk_at dksX11_does_4 12 rfl rfl)
theorem dX11_does_101 : decode cX11_does 101 = .ok (.aload_n 0, 1) := dk_42 (dk_at dksX11_does_4 13 rfl rfl)
theorem dX11_does_102 : decode cX11_does 102 = .ok (.aload_n 1, 1) := dk_43 (dk_at dksX11_does_4 14 rfl rfl)
theorem dX11_does_103 : decode cX11_does 103 = .ok (.iload_n 3, 1) := dk_29 (dk_at dksX11_does_4 15 rfl rfl)
theorem dX11_does_104 : decode cX11_does 104 = .ok (.aload_n 2, 1) := dk_44 (dk_at dksX11_does_4 16 rfl rfl)
theorem dX11_does_105 : decode cX11_does 105 = .ok (.iconst 2, 1) := dk_5 (dk_at dksX11_does_4 17 rfl rfl)
theorem dX11_does_106 : decode cX11_does 106 = .ok (.iaload, 1) := dk_46 (dk_at dksX11_does_4 18 rfl rfl)
theorem dX11_does_107 : decode cX11_does 107 = .ok (.invokevirtual 305, 3) := dk_182 1 49 (dk_at dksX11_does_4 19 rfl rfl)
theorem dX11_does_110 : decode cX11_does 110 = .ok (.ireturn, 1) := dk_172 (dk_at dksX11_does_4 22 rfl rfl)
theorem dX11_does_111 : decode cX11_does 111 = .ok (.aload_n 1, 1) := dk_43 (dk_at dksX11_does_4 23 rfl rfl)
theorem dX11_does_112 : decode cX11_does 112 = .ok (.iconst 0, 1) := dk_3 (dk_at dksX11_does_5 0 rfl rfl)
theorem dX11_does_113 : decode cX11_does 113 = .ok (.iload_n 3, 1) := dk_29 (dk_at dksX11_does_5 1 rfl rfl)
theorem dX11_does_114 : decode cX11_does 114 = .ok (.iadd, 1) := dk_96 (dk_at dksX11_does_5 2 rfl rfl)
theorem dX11_does_115 : decode cX11_does 115 = .ok (.iaload, 1) := dk_46 (dk_at dksX11_does_5 3 rfl rfl)
theorem dX11_does_116 : decode cX11_does 116 = .ok (.iconst 1, 1) := dk_4 (dk_at dksX11_does_5 4 rfl rfl)
theorem dX11_does_117 : decode cX11_does 117 = .ok (.if_icmp .ne 5, 3) := dk_160 0 5 (dk_at dksX11_does_5 5 rfl rfl)
theorem dX11_does_120 : decode cX11_does 120 = .ok (.iconst 0, 1) := dk_3 (dk_at dksX11_does_5 8 rfl rfl)
theorem dX11_does_121 : decode cX11_does 121 = .ok (.ireturn, 1) := dk_172 (dk_at dksX11_does_5 9 rfl rfl)
theorem dX11_does_122 : decode cX11_does 122 = .ok (.iconst 0, 1) := dk_3 (dk_at dksX11_does_5 10 rfl rfl)
theorem dX11_does_123 : decode cX11_does 123 = .ok (.istore 4, 2) := dk_54 4 (dk_at dksX11_does_5 11 rfl rfl)
theorem dX11_does_125 : decode cX11_does 125 = .ok (.iload 4, 2) := dk_21 4 (dk_at dksX11_does_5 13 rfl rfl)
theorem dX11_does_127 : decode cX11_does 127 = .ok (.aload_n 0, 1) := dk_42 (dk_at dksX11_does_5 15 rfl rfl)
theorem dX11_does_128 : decode cX11_does 128 = .ok (.getfield 23, 3) := dk_180 0 23 (dk_at dksX11_does_5 16 rfl rfl)
theorem dX11_does_131 : decode cX11_does 131 = .ok (.iconst 1, 1) := dk_4 (dk_at dksX11_does_5 19 rfl rfl)
theorem dX11_does_132 : decode cX11_does 132 = .ok (.iaload, 1) := dk_46 (dk_at dksX11_does_5 20 rfl rfl)
theorem dX11_does_133 : decode cX11_does 133 = .ok (.if_icmp .ge 40, 3) := dk_162 0 40 (dk_at dksX11_does_5 21 rfl rfl)
theorem dX11_does_136 : decode cX11_does 136 = .ok (.aload_n 1, 1) := dk_43 (dk_at dksX11_does_6 0 rfl rfl)
theorem dX11_does_137 : decode cX11_does 137 = .ok (.bipush 16, 2) := dk_16 16 (dk_at dksX11_does_6 1 rfl rfl)
theorem dX11_does_139 : decode cX11_does 139 = .ok (.iload 4, 2) := dk_21 4 (dk_at dksX11_does_6 3 rfl rfl)
theorem dX11_does_141 : decode cX11_does 141 = .ok (.iadd, 1) := dk_96 (dk_at dksX11_does_6 5 rfl rfl)
theorem dX11_does_142 : decode cX11_does 142 = .ok (.aload_n 0, 1) := dk_42 (dk_at dksX11_does_6 6 rfl rfl)
theorem dX11_does_143 : decode cX11_does 143 = .ok (.getfield 43, 3) := dk_180 0 43 (dk_at dksX11_does_6 7 rfl rfl)
theorem dX11_does_146 : decode cX11_does 146 = .ok (.iload 4, 2) := dk_21 4 (dk_at dksX11_does_6 10 rfl rfl)
theorem dX11_does_148 : decode cX11_does 148 = .ok (.aaload, 1) := dk_50 (dk_at dksX11_does_6 12 rfl rfl)
theorem dX11_does_149 : decode cX11_does 149 = .ok (.iconst 0, 1) := dk_3 (dk_at dksX11_does_6 13 rfl rfl)
theorem dX11_does_150 : decode cX11_does 150 = .ok (.iaload, 1) := dk_46 (dk_at dksX11_does_6 14 rfl rfl)
theorem dX11_does_151 : decode cX11_does 151 = .ok (.iload_n 3, 1) := dk_29 (dk_at dksX11_does_6 15 rfl rfl)
theorem dX11_does_152 : decode cX11_does 152 = .ok (.if_icmp .ne 7, 3) := dk_160 0 7 (dk_at dksX11_does_6 16 rfl rfl)
theorem dX11_does_155 : decode cX11_does 155 = .ok (.iconst (-1), 1) := dk_2 (dk_at dksX11_does_6 19 rfl rfl)
theorem dX11_does_156 : decode cX11_does 156 = .ok (.goto 10, 3) := dk_167 0 10 (dk_at dksX11_does_6 20 rfl rfl)
theorem dX11_does_159 : decode cX11_does 159 = .ok (.aload_n 1, 1) := dk_43 (dk_at dksX11_does_6 23 rfl rfl)
theorem dX11_does_160 : decode cX11_does 160 = .ok (.bipush 16, 2) := dk_16 16 (dk_at dksX11_does_7 0 rfl rfl)
theorem dX11_does_162 : decode cX11_does 162 = .ok (.iload 4, 2) := dk_21 4 (dk_at dksX11_does_7 2 rfl rfl)
theorem dX11_does_164 : decode cX11_does 164 = .ok (.iadd, 1) := dk_96 (dk_at dksX11_does_7 4 rfl rfl)
theorem dX11_does_165 : decode cX11_does 165 = .ok (.iaload, 1) := dk_46 (dk_at dksX11_does_7 5 rfl rfl)
theorem dX11_does_166 : decode cX11_does 166 = .ok (.iastore, 1) := dk_79 (dk_at dksX11_does_7 6 rfl rfl)
theorem dX11_does_167 : decode cX11_does 167 = .ok (.iinc 4 1, 3) := dk_132 4 1 (dk_at dksX11_does_7 7 rfl rfl)
theorem dX11_does_170 : decode cX11_does 170 = .ok (.goto (-45), 3) := dk_167 255 211 (dk_at dksX11_does_7 10 rfl rfl)
theorem dX11_does_173 : decode cX11_does 173 = .ok (.aload_n 1, 1) := dk_43 (dk_at dksX11_does_7 13 rfl rfl)
theorem dX11_does_174 : decode cX11_does 174 = .ok (.iconst 0, 1) := dk_3 (dk_at dksX11_does_7 14 rfl rfl)
theorem dX11_does_175 : decode cX11_does 175 = .ok (.iload_n 3, 1) := dk_29 (dk_at dksX11_does_7 15 rfl rfl)
theorem dX11_does_176 : decode cX11_does 176 = .ok (.iadd, 1) := dk_96 (dk_at dksX11_does_7 16 rfl rfl)
theorem dX11_does_177 : decode cX11_does 177 = .ok (.iconst 1, 1) := dk_4 (dk_at dksX11_does_7 17 rfl rfl)
theorem dX11_does_178 : decode cX11_does 178 = .ok (.iastore, 1) := dk_79 (dk_at dksX11_does_7 18 rfl rfl)
theorem dX11_does_179 : decode cX11_does 179 = .ok (.iconst 1, 1) := dk_4 (dk_at dksX11_does_7 19 rfl rfl)
theorem dX11_does_180 : decode cX11_does 180 = .ok (.ireturn, 1) := dk_172 (dk_at dksX11_does_7 20 rfl rfl)
theorem dX11_does_181 : decode cX11_does 181 = .ok (.aload_n 1, 1) := dk_43 (dk_at dksX11_does_7 21 rfl rfl)
theorem dX11_does_182 : decode cX11_does 182 = .ok (.bipush 44, 2) := dk_16 44 (dk_at dksX11_does_7 22 rfl rfl)
theorem dX11_does_184 : decode cX11_does 184 = .ok (.iaload, 1) := dk_46 (dk_at dksX11_does_8 0 rfl rfl)
theorem dX11_does_185 : decode cX11_does 185 = .ok (.sipush 500, 3) := dk_17 1 244 (dk_at dksX11_does_8 1 rfl rfl)
theorem dX11_does_188 : decode cX11_does 188 = .ok (.if_icmp .lt 5, 3) := dk_161 0 5 (dk_at dksX11_does_8 4 rfl rfl)
theorem dX11_does_191 : decode cX11_does 191 = .ok (.iconst 0, 1) := dk_3 (dk_at dksX11_does_8 7 rfl rfl)
theorem dX11_does_192 : decode cX11_does 192 = .ok (.ireturn, 1) := dk_172 (dk_at dksX11_does_8 8 rfl rfl)
theorem dX11_does_193 : decode cX11_does 193 = .ok (.aload_n 0, 1) := dk_42 (dk_at dksX11_does_8 9 rfl rfl)
theorem dX11_does_194 : decode cX11_does 194 = .ok (.aload_n 1, 1) := dk_43 (dk_at dksX11_does_8 10 rfl rfl)
theorem dX11_does_195 : decode cX11_does 195 = .ok (.invokevirtual 308, 3) := dk_182 1 52 (dk_at dksX11_does_8 11 rfl rfl)
theorem dX11_does_198 : decode cX11_does 198 = .ok (.iconst 1, 1) := dk_4 (dk_at dksX11_does_8 14 rfl rfl)
theorem dX11_does_199 : decode cX11_does 199 = .ok (.ireturn, 1) := dk_172 (dk_at dksX11_does_8 15 rfl rfl)
def dkwX11_isKept_0 : List UInt8 := [42, 16, 16, 27, 96, 46, 2, 159, 0, 7, 4, 167, 0, 4, 3, 172]
abbrev dktX11_isKept_0 : List UInt8 := dkwX11_isKept_0 ++ []
theorem dksX11_isKept_0 : cX11_isKept.data.toList.drop 0 = dktX11_isKept_0 := by decide +kernel
theorem dX11_isKept_0 : decode cX11_isKept 0 = .ok (.aload_n 0, 1) := dk_42 (dk_at dksX11_isKept_0 0 rfl rfl)
theorem dX11_isKept_1 : decode cX11_isKept 1 = .ok (.bipush 16, 2) := dk_16 16 (dk_at dksX11_isKept_0 1 rfl rfl)
theorem dX11_isKept_3 : decode cX11_isKept 3 = .ok (.iload_n 1, 1) := dk_27 (dk_at dksX11_isKept_0 3 rfl rfl)
theorem dX11_isKept_4 : decode cX11_isKept 4 = .ok (.iadd, 1) := dk_96 (dk_at dksX11_isKept_0 4 rfl rfl)
theorem dX11_isKept_5 : decode cX11_isKept 5 = .ok (.iaload, 1) := dk_46 (dk_at dksX11_isKept_0 5 rfl rfl)
theorem dX11_isKept_6 : decode cX11_isKept 6 = .ok (.iconst (-1), 1) := dk_2 (dk_at dksX11_isKept_0 6 rfl rfl)
theorem dX11_isKept_7 : decode cX11_isKept 7 = .ok (.if_icmp .eq 7, 3) := dk_159 0 7 (dk_at dksX11_isKept_0 7 rfl rfl)
theorem dX11_isKept_10 : decode cX11_isKept 10 = .ok (.iconst 1, 1) := dk_4 (dk_at dksX11_isKept_0 10 rfl rfl)
theorem dX11_isKept_11 : decode cX11_isKept 11 = .ok (.goto 4, 3) := dk_167 0 4 (dk_at dksX11_isKept_0 11 rfl rfl)
theorem dX11_isKept_14 : decode cX11_isKept 14 = .ok (.iconst 0, 1) := dk_3 (dk_at dksX11_isKept_0 14 rfl rfl)
theorem dX11_isKept_15 : decode cX11_isKept 15 = .ok (.ireturn, 1) := dk_172 (dk_at dksX11_isKept_0 15 rfl rfl)
def dkwX11_lapses_3 : List UInt8 := [4, 96, 79, 4, 172]
abbrev dktX11_lapses_3 : List UInt8 := dkwX11_lapses_3 ++ []
def dkwX11_lapses_2 : List UInt8 := [108, 167, 0, 9, 43, 16, 16, 29, 96, 46, 79, 132, 3, 1, 167, 255, 207, 43, 16, 8, 28, 96, 92, 46]
abbrev dktX11_lapses_2 : List UInt8 := dkwX11_lapses_2 ++ dktX11_lapses_3
def dkwX11_lapses_1 : List UInt8 := [16, 16, 29, 96, 42, 43, 28, 182, 1, 18, 29, 184, 1, 7, 153, 0, 14, 43, 16, 16, 29, 96, 46, 5]
abbrev dktX11_lapses_1 : List UInt8 := dkwX11_lapses_1 ++ dktX11_lapses_2
def dkwX11_lapses_0 : List UInt8 := [42, 43, 28, 182, 1, 40, 154, 0, 5, 3, 172, 3, 62, 29, 42, 180, 0, 23, 4, 46, 162, 0, 45, 43]
abbrev dktX11_lapses_0 : List UInt8 := dkwX11_lapses_0 ++ dktX11_lapses_1
theorem dksX11_lapses_0 : cX11_lapses.data.toList.drop 0 = dktX11_lapses_0 := by decide +kernel
theorem dksX11_lapses_1 : cX11_lapses.data.toList.drop 24 = dktX11_lapses_1 := dk_seg dksX11_lapses_0 24 rfl rfl
theorem dksX11_lapses_2 : cX11_lapses.data.toList.drop 48 = dktX11_lapses_2 := dk_seg dksX11_lapses_1 24 rfl rfl
theorem dksX11_lapses_3 : cX11_lapses.data.toList.drop 72 = dktX11_lapses_3 := dk_seg dksX11_lapses_2 24 rfl rfl
theorem dX11_lapses_0 : decode cX11_lapses 0 = .ok (.aload_n 0, 1) := dk_42 (dk_at dksX11_lapses_0 0 rfl rfl)
theorem dX11_lapses_1 : decode cX11_lapses 1 = .ok (.aload_n 1, 1) := dk_43 (dk_at dksX11_lapses_0 1 rfl rfl)
theorem dX11_lapses_2 : decode cX11_lapses 2 = .ok (.iload_n 2, 1) := dk_28 (dk_at dksX11_lapses_0 2 rfl rfl)
theorem dX11_lapses_3 : decode cX11_lapses 3 = .ok (.invokevirtual 296, 3) := dk_182 1 40 (dk_at dksX11_lapses_0 3 rfl rfl)
theorem dX11_lapses_6 : decode cX11_lapses 6 = .ok (.ifCond .ne 5, 3) := dk_154 0 5 (dk_at dksX11_lapses_0 6 rfl rfl)
theorem dX11_lapses_9 : decode cX11_lapses 9 = .ok (.iconst 0, 1) := dk_3 (dk_at dksX11_lapses_0 9 rfl rfl)
theorem dX11_lapses_10 : decode cX11_lapses 10 = .ok (.ireturn, 1) := dk_172 (dk_at dksX11_lapses_0 10 rfl rfl)
theorem dX11_lapses_11 : decode cX11_lapses 11 = .ok (.iconst 0, 1) := dk_3 (dk_at dksX11_lapses_0 11 rfl rfl)
theorem dX11_lapses_12 : decode cX11_lapses 12 = .ok (.istore_n 3, 1) := dk_62 (dk_at dksX11_lapses_0 12 rfl rfl)
theorem dX11_lapses_13 : decode cX11_lapses 13 = .ok (.iload_n 3, 1) := dk_29 (dk_at dksX11_lapses_0 13 rfl rfl)
theorem dX11_lapses_14 : decode cX11_lapses 14 = .ok (.aload_n 0, 1) := dk_42 (dk_at dksX11_lapses_0 14 rfl rfl)
theorem dX11_lapses_15 : decode cX11_lapses 15 = .ok (.getfield 23, 3) := dk_180 0 23 (dk_at dksX11_lapses_0 15 rfl rfl)
theorem dX11_lapses_18 : decode cX11_lapses 18 = .ok (.iconst 1, 1) := dk_4 (dk_at dksX11_lapses_0 18 rfl rfl)
theorem dX11_lapses_19 : decode cX11_lapses 19 = .ok (.iaload, 1) := dk_46 (dk_at dksX11_lapses_0 19 rfl rfl)
theorem dX11_lapses_20 : decode cX11_lapses 20 = .ok (.if_icmp .ge 45, 3) := dk_162 0 45 (dk_at dksX11_lapses_0 20 rfl rfl)
theorem dX11_lapses_23 : decode cX11_lapses 23 = .ok (.aload_n 1, 1) := dk_43 (dk_at dksX11_lapses_0 23 rfl rfl)
theorem dX11_lapses_24 : decode cX11_lapses 24 = .ok (.bipush 16, 2) := dk_16 16 (dk_at dksX11_lapses_1 0 rfl rfl)
theorem dX11_lapses_26 : decode cX11_lapses 26 = .ok (.iload_n 3, 1) := dk_29 (dk_at dksX11_lapses_1 2 rfl rfl)
theorem dX11_lapses_27 : decode cX11_lapses 27 = .ok (.iadd, 1) := dk_96 (dk_at dksX11_lapses_1 3 rfl rfl)
theorem dX11_lapses_28 : decode cX11_lapses 28 = .ok (.aload_n 0, 1) := dk_42 (dk_at dksX11_lapses_1 4 rfl rfl)
theorem dX11_lapses_29 : decode cX11_lapses 29 = .ok (.aload_n 1, 1) := dk_43 (dk_at dksX11_lapses_1 5 rfl rfl)
theorem dX11_lapses_30 : decode cX11_lapses 30 = .ok (.iload_n 2, 1) := dk_28 (dk_at dksX11_lapses_1 6 rfl rfl)
theorem dX11_lapses_31 : decode cX11_lapses 31 = .ok (.invokevirtual 274, 3) := dk_182 1 18 (dk_at dksX11_lapses_1 7 rfl rfl)
theorem dX11_lapses_34 : decode cX11_lapses 34 = .ok (.iload_n 3, 1) := dk_29 (dk_at dksX11_lapses_1 10 rfl rfl)
theorem dX11_lapses_35 : decode cX11_lapses 35 = .ok (.invokestatic 263, 3) := dk_184 1 7 (dk_at dksX11_lapses_1 11 rfl rfl)
theorem dX11_lapses_38 : decode cX11_lapses 38 = .ok (.ifCond .eq 14, 3) := dk_153 0 14 (dk_at dksX11_lapses_1 14 rfl rfl)
theorem dX11_lapses_41 : decode cX11_lapses 41 = .ok (.aload_n 1, 1) := dk_43 (dk_at dksX11_lapses_1 17 rfl rfl)
theorem dX11_lapses_42 : decode cX11_lapses 42 = .ok (.bipush 16, 2) := dk_16 16 (dk_at dksX11_lapses_1 18 rfl rfl)
theorem dX11_lapses_44 : decode cX11_lapses 44 = .ok (.iload_n 3, 1) := dk_29 (dk_at dksX11_lapses_1 20 rfl rfl)
theorem dX11_lapses_45 : decode cX11_lapses 45 = .ok (.iadd, 1) := dk_96 (dk_at dksX11_lapses_1 21 rfl rfl)
theorem dX11_lapses_46 : decode cX11_lapses 46 = .ok (.iaload, 1) := dk_46 (dk_at dksX11_lapses_1 22 rfl rfl)
theorem dX11_lapses_47 : decode cX11_lapses 47 = .ok (.iconst 2, 1) := dk_5 (dk_at dksX11_lapses_1 23 rfl rfl)
theorem dX11_lapses_48 : decode cX11_lapses 48 = .ok (.idiv, 1) := dk_108 (dk_at dksX11_lapses_2 0 rfl rfl)
theorem dX11_lapses_49 : decode cX11_lapses 49 = .ok (.goto 9, 3) := dk_167 0 9 (dk_at dksX11_lapses_2 1 rfl rfl)
theorem dX11_lapses_52 : decode cX11_lapses 52 = .ok (.aload_n 1, 1) := dk_43 (dk_at dksX11_lapses_2 4 rfl rfl)
theorem dX11_lapses_53 : decode cX11_lapses 53 = .ok (.bipush 16, 2) := dk_16 16 (dk_at dksX11_lapses_2 5 rfl rfl)
theorem dX11_lapses_55 : decode cX11_lapses 55 = .ok (.iload_n 3, 1) := dk_29 (dk_at dksX11_lapses_2 7 rfl rfl)
theorem dX11_lapses_56 : decode cX11_lapses 56 = .ok (.iadd, 1) := dk_96 (dk_at dksX11_lapses_2 8 rfl rfl)
theorem dX11_lapses_57 : decode cX11_lapses 57 = .ok (.iaload, 1) := dk_46 (dk_at dksX11_lapses_2 9 rfl rfl)
theorem dX11_lapses_58 : decode cX11_lapses 58 = .ok (.iastore, 1) := dk_79 (dk_at dksX11_lapses_2 10 rfl rfl)
theorem dX11_lapses_59 : decode cX11_lapses 59 = .ok (.iinc 3 1, 3) := dk_132 3 1 (dk_at dksX11_lapses_2 11 rfl rfl)
theorem dX11_lapses_62 : decode cX11_lapses 62 = .ok (.goto (-49), 3) := dk_167 255 207 (dk_at dksX11_lapses_2 14 rfl rfl)
theorem dX11_lapses_65 : decode cX11_lapses 65 = .ok (.aload_n 1, 1) := dk_43 (dk_at dksX11_lapses_2 17 rfl rfl)
theorem dX11_lapses_66 : decode cX11_lapses 66 = .ok (.bipush 8, 2) := dk_16 8 (dk_at dksX11_lapses_2 18 rfl rfl)
theorem dX11_lapses_68 : decode cX11_lapses 68 = .ok (.iload_n 2, 1) := dk_28 (dk_at dksX11_lapses_2 20 rfl rfl)
theorem dX11_lapses_69 : decode cX11_lapses 69 = .ok (.iadd, 1) := dk_96 (dk_at dksX11_lapses_2 21 rfl rfl)
theorem dX11_lapses_70 : decode cX11_lapses 70 = .ok (.dup2, 1) := dk_92 (dk_at dksX11_lapses_2 22 rfl rfl)
theorem dX11_lapses_71 : decode cX11_lapses 71 = .ok (.iaload, 1) := dk_46 (dk_at dksX11_lapses_2 23 rfl rfl)
theorem dX11_lapses_72 : decode cX11_lapses 72 = .ok (.iconst 1, 1) := dk_4 (dk_at dksX11_lapses_3 0 rfl rfl)
theorem dX11_lapses_73 : decode cX11_lapses 73 = .ok (.iadd, 1) := dk_96 (dk_at dksX11_lapses_3 1 rfl rfl)
theorem dX11_lapses_74 : decode cX11_lapses 74 = .ok (.iastore, 1) := dk_79 (dk_at dksX11_lapses_3 2 rfl rfl)
theorem dX11_lapses_75 : decode cX11_lapses 75 = .ok (.iconst 1, 1) := dk_4 (dk_at dksX11_lapses_3 3 rfl rfl)
theorem dX11_lapses_76 : decode cX11_lapses 76 = .ok (.ireturn, 1) := dk_172 (dk_at dksX11_lapses_3 4 rfl rfl)
def dkwX11_canLapse_0 : List UInt8 := [43, 3, 28, 96, 46, 154, 0, 16, 42, 43, 28, 182, 1, 18, 153, 0, 7, 4, 167, 0, 4, 3, 172]
abbrev dktX11_canLapse_0 : List UInt8 := dkwX11_canLapse_0 ++ []
theorem dksX11_canLapse_0 : cX11_canLapse.data.toList.drop 0 = dktX11_canLapse_0 := by decide +kernel
theorem dX11_canLapse_0 : decode cX11_canLapse 0 = .ok (.aload_n 1, 1) := dk_43 (dk_at dksX11_canLapse_0 0 rfl rfl)
theorem dX11_canLapse_1 : decode cX11_canLapse 1 = .ok (.iconst 0, 1) := dk_3 (dk_at dksX11_canLapse_0 1 rfl rfl)
theorem dX11_canLapse_2 : decode cX11_canLapse 2 = .ok (.iload_n 2, 1) := dk_28 (dk_at dksX11_canLapse_0 2 rfl rfl)
theorem dX11_canLapse_3 : decode cX11_canLapse 3 = .ok (.iadd, 1) := dk_96 (dk_at dksX11_canLapse_0 3 rfl rfl)
theorem dX11_canLapse_4 : decode cX11_canLapse 4 = .ok (.iaload, 1) := dk_46 (dk_at dksX11_canLapse_0 4 rfl rfl)
theorem dX11_canLapse_5 : decode cX11_canLapse 5 = .ok (.ifCond .ne 16, 3) := dk_154 0 16 (dk_at dksX11_canLapse_0 5 rfl rfl)
theorem dX11_canLapse_8 : decode cX11_canLapse 8 = .ok (.aload_n 0, 1) := dk_42 (dk_at dksX11_canLapse_0 8 rfl rfl)
theorem dX11_canLapse_9 : decode cX11_canLapse 9 = .ok (.aload_n 1, 1) := dk_43 (dk_at dksX11_canLapse_0 9 rfl rfl)
theorem dX11_canLapse_10 : decode cX11_canLapse 10 = .ok (.iload_n 2, 1) := dk_28 (dk_at dksX11_canLapse_0 10 rfl rfl)
theorem dX11_canLapse_11 : decode cX11_canLapse 11 = .ok (.invokevirtual 274, 3) := dk_182 1 18 (dk_at dksX11_canLapse_0 11 rfl rfl)
theorem dX11_canLapse_14 : decode cX11_canLapse 14 = .ok (.ifCond .eq 7, 3) := dk_153 0 7 (dk_at dksX11_canLapse_0 14 rfl rfl)
theorem dX11_canLapse_17 : decode cX11_canLapse 17 = .ok (.iconst 1, 1) := dk_4 (dk_at dksX11_canLapse_0 17 rfl rfl)
theorem dX11_canLapse_18 : decode cX11_canLapse 18 = .ok (.goto 4, 3) := dk_167 0 4 (dk_at dksX11_canLapse_0 18 rfl rfl)
theorem dX11_canLapse_21 : decode cX11_canLapse 21 = .ok (.iconst 0, 1) := dk_3 (dk_at dksX11_canLapse_0 21 rfl rfl)
theorem dX11_canLapse_22 : decode cX11_canLapse 22 = .ok (.ireturn, 1) := dk_172 (dk_at dksX11_canLapse_0 22 rfl rfl)
def dkwX11_keptOf_2 : List UInt8 := [62, 132, 4, 1, 167, 255, 209, 29, 172]
abbrev dktX11_keptOf_2 : List UInt8 := dkwX11_keptOf_2 ++ []
def dkwX11_keptOf_1 : List UInt8 := [3, 46, 28, 160, 0, 19, 43, 21, 4, 184, 1, 11, 153, 0, 10, 4, 21, 4, 120, 167, 0, 4, 3, 128]
abbrev dktX11_keptOf_1 : List UInt8 := dkwX11_keptOf_1 ++ dktX11_keptOf_2
def dkwX11_keptOf_0 : List UInt8 := [3, 62, 3, 54, 4, 21, 4, 42, 180, 0, 23, 4, 46, 162, 0, 42, 29, 42, 180, 0, 43, 21, 4, 50]
abbrev dktX11_keptOf_0 : List UInt8 := dkwX11_keptOf_0 ++ dktX11_keptOf_1
theorem dksX11_keptOf_0 : cX11_keptOf.data.toList.drop 0 = dktX11_keptOf_0 := by decide +kernel
theorem dksX11_keptOf_1 : cX11_keptOf.data.toList.drop 24 = dktX11_keptOf_1 := dk_seg dksX11_keptOf_0 24 rfl rfl
theorem dksX11_keptOf_2 : cX11_keptOf.data.toList.drop 48 = dktX11_keptOf_2 := dk_seg dksX11_keptOf_1 24 rfl rfl
theorem dX11_keptOf_0 : decode cX11_keptOf 0 = .ok (.iconst 0, 1) := dk_3 (dk_at dksX11_keptOf_0 0 rfl rfl)
theorem dX11_keptOf_1 : decode cX11_keptOf 1 = .ok (.istore_n 3, 1) := dk_62 (dk_at dksX11_keptOf_0 1 rfl rfl)
theorem dX11_keptOf_2 : decode cX11_keptOf 2 = .ok (.iconst 0, 1) := dk_3 (dk_at dksX11_keptOf_0 2 rfl rfl)
theorem dX11_keptOf_3 : decode cX11_keptOf 3 = .ok (.istore 4, 2) := dk_54 4 (dk_at dksX11_keptOf_0 3 rfl rfl)
theorem dX11_keptOf_5 : decode cX11_keptOf 5 = .ok (.iload 4, 2) := dk_21 4 (dk_at dksX11_keptOf_0 5 rfl rfl)
theorem dX11_keptOf_7 : decode cX11_keptOf 7 = .ok (.aload_n 0, 1) := dk_42 (dk_at dksX11_keptOf_0 7 rfl rfl)
theorem dX11_keptOf_8 : decode cX11_keptOf 8 = .ok (.getfield 23, 3) := dk_180 0 23 (dk_at dksX11_keptOf_0 8 rfl rfl)
theorem dX11_keptOf_11 : decode cX11_keptOf 11 = .ok (.iconst 1, 1) := dk_4 (dk_at dksX11_keptOf_0 11 rfl rfl)
theorem dX11_keptOf_12 : decode cX11_keptOf 12 = .ok (.iaload, 1) := dk_46 (dk_at dksX11_keptOf_0 12 rfl rfl)
theorem dX11_keptOf_13 : decode cX11_keptOf 13 = .ok (.if_icmp .ge 42, 3) := dk_162 0 42 (dk_at dksX11_keptOf_0 13 rfl rfl)
theorem dX11_keptOf_16 : decode cX11_keptOf 16 = .ok (.iload_n 3, 1) := dk_29 (dk_at dksX11_keptOf_0 16 rfl rfl)
theorem dX11_keptOf_17 : decode cX11_keptOf 17 = .ok (.aload_n 0, 1) := dk_42 (dk_at dksX11_keptOf_0 17 rfl rfl)
theorem dX11_keptOf_18 : decode cX11_keptOf 18 = .ok (.getfield 43, 3) := dk_180 0 43 (dk_at dksX11_keptOf_0 18 rfl rfl)
theorem dX11_keptOf_21 : decode cX11_keptOf 21 = .ok (.iload 4, 2) := dk_21 4 (dk_at dksX11_keptOf_0 21 rfl rfl)
theorem dX11_keptOf_23 : decode cX11_keptOf 23 = .ok (.aaload, 1) := dk_50 (dk_at dksX11_keptOf_0 23 rfl rfl)
theorem dX11_keptOf_24 : decode cX11_keptOf 24 = .ok (.iconst 0, 1) := dk_3 (dk_at dksX11_keptOf_1 0 rfl rfl)
theorem dX11_keptOf_25 : decode cX11_keptOf 25 = .ok (.iaload, 1) := dk_46 (dk_at dksX11_keptOf_1 1 rfl rfl)
theorem dX11_keptOf_26 : decode cX11_keptOf 26 = .ok (.iload_n 2, 1) := dk_28 (dk_at dksX11_keptOf_1 2 rfl rfl)
theorem dX11_keptOf_27 : decode cX11_keptOf 27 = .ok (.if_icmp .ne 19, 3) := dk_160 0 19 (dk_at dksX11_keptOf_1 3 rfl rfl)
theorem dX11_keptOf_30 : decode cX11_keptOf 30 = .ok (.aload_n 1, 1) := dk_43 (dk_at dksX11_keptOf_1 6 rfl rfl)
theorem dX11_keptOf_31 : decode cX11_keptOf 31 = .ok (.iload 4, 2) := dk_21 4 (dk_at dksX11_keptOf_1 7 rfl rfl)
theorem dX11_keptOf_33 : decode cX11_keptOf 33 = .ok (.invokestatic 267, 3) := dk_184 1 11 (dk_at dksX11_keptOf_1 9 rfl rfl)
theorem dX11_keptOf_36 : decode cX11_keptOf 36 = .ok (.ifCond .eq 10, 3) := dk_153 0 10 (dk_at dksX11_keptOf_1 12 rfl rfl)
theorem dX11_keptOf_39 : decode cX11_keptOf 39 = .ok (.iconst 1, 1) := dk_4 (dk_at dksX11_keptOf_1 15 rfl rfl)
theorem dX11_keptOf_40 : decode cX11_keptOf 40 = .ok (.iload 4, 2) := dk_21 4 (dk_at dksX11_keptOf_1 16 rfl rfl)
theorem dX11_keptOf_42 : decode cX11_keptOf 42 = .ok (.ishl, 1) := dk_120 (dk_at dksX11_keptOf_1 18 rfl rfl)
theorem dX11_keptOf_43 : decode cX11_keptOf 43 = .ok (.goto 4, 3) := dk_167 0 4 (dk_at dksX11_keptOf_1 19 rfl rfl)
theorem dX11_keptOf_46 : decode cX11_keptOf 46 = .ok (.iconst 0, 1) := dk_3 (dk_at dksX11_keptOf_1 22 rfl rfl)
theorem dX11_keptOf_47 : decode cX11_keptOf 47 = .ok (.ior, 1) := dk_128 (dk_at dksX11_keptOf_1 23 rfl rfl)
theorem dX11_keptOf_48 : decode cX11_keptOf 48 = .ok (.istore_n 3, 1) := dk_62 (dk_at dksX11_keptOf_2 0 rfl rfl)
theorem dX11_keptOf_49 : decode cX11_keptOf 49 = .ok (.iinc 4 1, 3) := dk_132 4 1 (dk_at dksX11_keptOf_2 1 rfl rfl)
theorem dX11_keptOf_52 : decode cX11_keptOf 52 = .ok (.goto (-47), 3) := dk_167 255 209 (dk_at dksX11_keptOf_2 4 rfl rfl)
theorem dX11_keptOf_55 : decode cX11_keptOf 55 = .ok (.iload_n 3, 1) := dk_29 (dk_at dksX11_keptOf_2 7 rfl rfl)
theorem dX11_keptOf_56 : decode cX11_keptOf 56 = .ok (.ireturn, 1) := dk_172 (dk_at dksX11_keptOf_2 8 rfl rfl)
def dkwX11_cures_1 : List UInt8 := [4, 79, 4, 172]
abbrev dktX11_cures_1 : List UInt8 := dkwX11_cures_1 ++ []
def dkwX11_cures_0 : List UInt8 := [42, 43, 28, 29, 182, 1, 43, 154, 0, 5, 3, 172, 43, 16, 36, 29, 96, 28, 79, 43, 16, 26, 28, 96]
abbrev dktX11_cures_0 : List UInt8 := dkwX11_cures_0 ++ dktX11_cures_1
theorem dksX11_cures_0 : cX11_cures.data.toList.drop 0 = dktX11_cures_0 := by decide +kernel
theorem dksX11_cures_1 : cX11_cures.data.toList.drop 24 = dktX11_cures_1 := dk_seg dksX11_cures_0 24 rfl rfl
theorem dX11_cures_0 : decode cX11_cures 0 = .ok (.aload_n 0, 1) := dk_42 (dk_at dksX11_cures_0 0 rfl rfl)
theorem dX11_cures_1 : decode cX11_cures 1 = .ok (.aload_n 1, 1) := dk_43 (dk_at dksX11_cures_0 1 rfl rfl)
theorem dX11_cures_2 : decode cX11_cures 2 = .ok (.iload_n 2, 1) := dk_28 (dk_at dksX11_cures_0 2 rfl rfl)
theorem dX11_cures_3 : decode cX11_cures 3 = .ok (.iload_n 3, 1) := dk_29 (dk_at dksX11_cures_0 3 rfl rfl)
theorem dX11_cures_4 : decode cX11_cures 4 = .ok (.invokevirtual 299, 3) := dk_182 1 43 (dk_at dksX11_cures_0 4 rfl rfl)
theorem dX11_cures_7 : decode cX11_cures 7 = .ok (.ifCond .ne 5, 3) := dk_154 0 5 (dk_at dksX11_cures_0 7 rfl rfl)
theorem dX11_cures_10 : decode cX11_cures 10 = .ok (.iconst 0, 1) := dk_3 (dk_at dksX11_cures_0 10 rfl rfl)
theorem dX11_cures_11 : decode cX11_cures 11 = .ok (.ireturn, 1) := dk_172 (dk_at dksX11_cures_0 11 rfl rfl)
theorem dX11_cures_12 : decode cX11_cures 12 = .ok (.aload_n 1, 1) := dk_43 (dk_at dksX11_cures_0 12 rfl rfl)
theorem dX11_cures_13 : decode cX11_cures 13 = .ok (.bipush 36, 2) := dk_16 36 (dk_at dksX11_cures_0 13 rfl rfl)
theorem dX11_cures_15 : decode cX11_cures 15 = .ok (.iload_n 3, 1) := dk_29 (dk_at dksX11_cures_0 15 rfl rfl)
theorem dX11_cures_16 : decode cX11_cures 16 = .ok (.iadd, 1) := dk_96 (dk_at dksX11_cures_0 16 rfl rfl)
theorem dX11_cures_17 : decode cX11_cures 17 = .ok (.iload_n 2, 1) := dk_28 (dk_at dksX11_cures_0 17 rfl rfl)
theorem dX11_cures_18 : decode cX11_cures 18 = .ok (.iastore, 1) := dk_79 (dk_at dksX11_cures_0 18 rfl rfl)
theorem dX11_cures_19 : decode cX11_cures 19 = .ok (.aload_n 1, 1) := dk_43 (dk_at dksX11_cures_0 19 rfl rfl)
theorem dX11_cures_20 : decode cX11_cures 20 = .ok (.bipush 26, 2) := dk_16 26 (dk_at dksX11_cures_0 20 rfl rfl)
theorem dX11_cures_22 : decode cX11_cures 22 = .ok (.iload_n 2, 1) := dk_28 (dk_at dksX11_cures_0 22 rfl rfl)
theorem dX11_cures_23 : decode cX11_cures 23 = .ok (.iadd, 1) := dk_96 (dk_at dksX11_cures_0 23 rfl rfl)
theorem dX11_cures_24 : decode cX11_cures 24 = .ok (.iconst 1, 1) := dk_4 (dk_at dksX11_cures_1 0 rfl rfl)
theorem dX11_cures_25 : decode cX11_cures 25 = .ok (.iastore, 1) := dk_79 (dk_at dksX11_cures_1 1 rfl rfl)
theorem dX11_cures_26 : decode cX11_cures 26 = .ok (.iconst 1, 1) := dk_4 (dk_at dksX11_cures_1 2 rfl rfl)
theorem dX11_cures_27 : decode cX11_cures 27 = .ok (.ireturn, 1) := dk_172 (dk_at dksX11_cures_1 3 rfl rfl)
def dkwX11_canCure_1 : List UInt8 := [182, 1, 36, 153, 0, 7, 4, 167, 0, 4, 3, 172]
abbrev dktX11_canCure_1 : List UInt8 := dkwX11_canCure_1 ++ []
def dkwX11_canCure_0 : List UInt8 := [43, 16, 36, 29, 96, 46, 2, 160, 0, 26, 43, 16, 26, 28, 96, 46, 154, 0, 17, 42, 43, 28, 29]
abbrev dktX11_canCure_0 : List UInt8 := dkwX11_canCure_0 ++ dktX11_canCure_1
theorem dksX11_canCure_0 : cX11_canCure.data.toList.drop 0 = dktX11_canCure_0 := by decide +kernel
theorem dksX11_canCure_1 : cX11_canCure.data.toList.drop 23 = dktX11_canCure_1 := dk_seg dksX11_canCure_0 23 rfl rfl
theorem dX11_canCure_0 : decode cX11_canCure 0 = .ok (.aload_n 1, 1) := dk_43 (dk_at dksX11_canCure_0 0 rfl rfl)
theorem dX11_canCure_1 : decode cX11_canCure 1 = .ok (.bipush 36, 2) := dk_16 36 (dk_at dksX11_canCure_0 1 rfl rfl)
theorem dX11_canCure_3 : decode cX11_canCure 3 = .ok (.iload_n 3, 1) := dk_29 (dk_at dksX11_canCure_0 3 rfl rfl)
theorem dX11_canCure_4 : decode cX11_canCure 4 = .ok (.iadd, 1) := dk_96 (dk_at dksX11_canCure_0 4 rfl rfl)
theorem dX11_canCure_5 : decode cX11_canCure 5 = .ok (.iaload, 1) := dk_46 (dk_at dksX11_canCure_0 5 rfl rfl)
theorem dX11_canCure_6 : decode cX11_canCure 6 = .ok (.iconst (-1), 1) := dk_2 (dk_at dksX11_canCure_0 6 rfl rfl)
theorem dX11_canCure_7 : decode cX11_canCure 7 = .ok (.if_icmp .ne 26, 3) := dk_160 0 26 (dk_at dksX11_canCure_0 7 rfl rfl)
theorem dX11_canCure_10 : decode cX11_canCure 10 = .ok (.aload_n 1, 1) := dk_43 (dk_at dksX11_canCure_0 10 rfl rfl)
theorem dX11_canCure_11 : decode cX11_canCure 11 = .ok (.bipush 26, 2) := dk_16 26 (dk_at dksX11_canCure_0 11 rfl rfl)
theorem dX11_canCure_13 : decode cX11_canCure 13 = .ok (.iload_n 2, 1) := dk_28 (dk_at dksX11_canCure_0 13 rfl rfl)
theorem dX11_canCure_14 : decode cX11_canCure 14 = .ok (.iadd, 1) := dk_96 (dk_at dksX11_canCure_0 14 rfl rfl)
theorem dX11_canCure_15 : decode cX11_canCure 15 = .ok (.iaload, 1) := dk_46 (dk_at dksX11_canCure_0 15 rfl rfl)
theorem dX11_canCure_16 : decode cX11_canCure 16 = .ok (.ifCond .ne 17, 3) := dk_154 0 17 (dk_at dksX11_canCure_0 16 rfl rfl)
theorem dX11_canCure_19 : decode cX11_canCure 19 = .ok (.aload_n 0, 1) := dk_42 (dk_at dksX11_canCure_0 19 rfl rfl)
theorem dX11_canCure_20 : decode cX11_canCure 20 = .ok (.aload_n 1, 1) := dk_43 (dk_at dksX11_canCure_0 20 rfl rfl)
theorem dX11_canCure_21 : decode cX11_canCure 21 = .ok (.iload_n 2, 1) := dk_28 (dk_at dksX11_canCure_0 21 rfl rfl)
theorem dX11_canCure_22 : decode cX11_canCure 22 = .ok (.iload_n 3, 1) := dk_29 (dk_at dksX11_canCure_0 22 rfl rfl)
theorem dX11_canCure_23 : decode cX11_canCure 23 = .ok (.invokevirtual 292, 3) := dk_182 1 36 (dk_at dksX11_canCure_1 0 rfl rfl)
theorem dX11_canCure_26 : decode cX11_canCure 26 = .ok (.ifCond .eq 7, 3) := dk_153 0 7 (dk_at dksX11_canCure_1 3 rfl rfl)
theorem dX11_canCure_29 : decode cX11_canCure 29 = .ok (.iconst 1, 1) := dk_4 (dk_at dksX11_canCure_1 6 rfl rfl)
theorem dX11_canCure_30 : decode cX11_canCure 30 = .ok (.goto 4, 3) := dk_167 0 4 (dk_at dksX11_canCure_1 7 rfl rfl)
theorem dX11_canCure_33 : decode cX11_canCure 33 = .ok (.iconst 0, 1) := dk_3 (dk_at dksX11_canCure_1 10 rfl rfl)
theorem dX11_canCure_34 : decode cX11_canCure 34 = .ok (.ireturn, 1) := dk_172 (dk_at dksX11_canCure_1 11 rfl rfl)
def dkwX11_isAble_1 : List UInt8 := [182, 1, 33, 42, 180, 0, 49, 29, 50, 4, 46, 161, 0, 7, 4, 167, 0, 4, 3, 172]
abbrev dktX11_isAble_1 : List UInt8 := dkwX11_isAble_1 ++ []
def dkwX11_isAble_0 : List UInt8 := [42, 180, 0, 43, 28, 50, 4, 46, 42, 180, 0, 49, 29, 50, 3, 46, 160, 0, 24, 42, 43, 28]
abbrev dktX11_isAble_0 : List UInt8 := dkwX11_isAble_0 ++ dktX11_isAble_1
theorem dksX11_isAble_0 : cX11_isAble.data.toList.drop 0 = dktX11_isAble_0 := by decide +kernel
theorem dksX11_isAble_1 : cX11_isAble.data.toList.drop 22 = dktX11_isAble_1 := dk_seg dksX11_isAble_0 22 rfl rfl
theorem dX11_isAble_0 : decode cX11_isAble 0 = .ok (.aload_n 0, 1) := dk_42 (dk_at dksX11_isAble_0 0 rfl rfl)
theorem dX11_isAble_1 : decode cX11_isAble 1 = .ok (.getfield 43, 3) := dk_180 0 43 (dk_at dksX11_isAble_0 1 rfl rfl)
theorem dX11_isAble_4 : decode cX11_isAble 4 = .ok (.iload_n 2, 1) := dk_28 (dk_at dksX11_isAble_0 4 rfl rfl)
theorem dX11_isAble_5 : decode cX11_isAble 5 = .ok (.aaload, 1) := dk_50 (dk_at dksX11_isAble_0 5 rfl rfl)
theorem dX11_isAble_6 : decode cX11_isAble 6 = .ok (.iconst 1, 1) := dk_4 (dk_at dksX11_isAble_0 6 rfl rfl)
theorem dX11_isAble_7 : decode cX11_isAble 7 = .ok (.iaload, 1) := dk_46 (dk_at dksX11_isAble_0 7 rfl rfl)
theorem dX11_isAble_8 : decode cX11_isAble 8 = .ok (.aload_n 0, 1) := dk_42 (dk_at dksX11_isAble_0 8 rfl rfl)
theorem dX11_isAble_9 : decode cX11_isAble 9 = .ok (.getfield 49, 3) := dk_180 0 49 (dk_at dksX11_isAble_0 9 rfl rfl)
theorem dX11_isAble_12 : decode cX11_isAble 12 = .ok (.iload_n 3, 1) := dk_29 (dk_at dksX11_isAble_0 12 rfl rfl)
theorem dX11_isAble_13 : decode cX11_isAble 13 = .ok (.aaload, 1) := dk_50 (dk_at dksX11_isAble_0 13 rfl rfl)
theorem dX11_isAble_14 : decode cX11_isAble 14 = .ok (.iconst 0, 1) := dk_3 (dk_at dksX11_isAble_0 14 rfl rfl)
theorem dX11_isAble_15 : decode cX11_isAble 15 = .ok (.iaload, 1) := dk_46 (dk_at dksX11_isAble_0 15 rfl rfl)
theorem dX11_isAble_16 : decode cX11_isAble 16 = .ok (.if_icmp .ne 24, 3) := dk_160 0 24 (dk_at dksX11_isAble_0 16 rfl rfl)
theorem dX11_isAble_19 : decode cX11_isAble 19 = .ok (.aload_n 0, 1) := dk_42 (dk_at dksX11_isAble_0 19 rfl rfl)
theorem dX11_isAble_20 : decode cX11_isAble 20 = .ok (.aload_n 1, 1) := dk_43 (dk_at dksX11_isAble_0 20 rfl rfl)
theorem dX11_isAble_21 : decode cX11_isAble 21 = .ok (.iload_n 2, 1) := dk_28 (dk_at dksX11_isAble_0 21 rfl rfl)
theorem dX11_isAble_22 : decode cX11_isAble 22 = .ok (.invokevirtual 289, 3) := dk_182 1 33 (dk_at dksX11_isAble_1 0 rfl rfl)
theorem dX11_isAble_25 : decode cX11_isAble 25 = .ok (.aload_n 0, 1) := dk_42 (dk_at dksX11_isAble_1 3 rfl rfl)
theorem dX11_isAble_26 : decode cX11_isAble 26 = .ok (.getfield 49, 3) := dk_180 0 49 (dk_at dksX11_isAble_1 4 rfl rfl)
theorem dX11_isAble_29 : decode cX11_isAble 29 = .ok (.iload_n 3, 1) := dk_29 (dk_at dksX11_isAble_1 7 rfl rfl)
theorem dX11_isAble_30 : decode cX11_isAble 30 = .ok (.aaload, 1) := dk_50 (dk_at dksX11_isAble_1 8 rfl rfl)
theorem dX11_isAble_31 : decode cX11_isAble 31 = .ok (.iconst 1, 1) := dk_4 (dk_at dksX11_isAble_1 9 rfl rfl)
theorem dX11_isAble_32 : decode cX11_isAble 32 = .ok (.iaload, 1) := dk_46 (dk_at dksX11_isAble_1 10 rfl rfl)
theorem dX11_isAble_33 : decode cX11_isAble 33 = .ok (.if_icmp .lt 7, 3) := dk_161 0 7 (dk_at dksX11_isAble_1 11 rfl rfl)
theorem dX11_isAble_36 : decode cX11_isAble 36 = .ok (.iconst 1, 1) := dk_4 (dk_at dksX11_isAble_1 14 rfl rfl)
theorem dX11_isAble_37 : decode cX11_isAble 37 = .ok (.goto 4, 3) := dk_167 0 4 (dk_at dksX11_isAble_1 15 rfl rfl)
theorem dX11_isAble_40 : decode cX11_isAble 40 = .ok (.iconst 0, 1) := dk_3 (dk_at dksX11_isAble_1 18 rfl rfl)
theorem dX11_isAble_41 : decode cX11_isAble 41 = .ok (.ireturn, 1) := dk_172 (dk_at dksX11_isAble_1 19 rfl rfl)
def dkwX11_power_1 : List UInt8 := [28, 50, 3, 46, 96, 46, 43, 16, 44, 46, 182, 1, 29, 167, 0, 4, 3, 172]
abbrev dktX11_power_1 : List UInt8 := dkwX11_power_1 ++ []
def dkwX11_power_0 : List UInt8 := [43, 28, 184, 1, 11, 153, 0, 35, 42, 43, 28, 43, 16, 16, 28, 96, 46, 43, 16, 8, 42, 180, 0, 43]
abbrev dktX11_power_0 : List UInt8 := dkwX11_power_0 ++ dktX11_power_1
theorem dksX11_power_0 : cX11_power.data.toList.drop 0 = dktX11_power_0 := by decide +kernel
theorem dksX11_power_1 : cX11_power.data.toList.drop 24 = dktX11_power_1 := dk_seg dksX11_power_0 24 rfl rfl
theorem dX11_power_0 : decode cX11_power 0 = .ok (.aload_n 1, 1) := dk_43 (dk_at dksX11_power_0 0 rfl rfl)
theorem dX11_power_1 : decode cX11_power 1 = .ok (.iload_n 2, 1) := dk_28 (dk_at dksX11_power_0 1 rfl rfl)
theorem dX11_power_2 : decode cX11_power 2 = .ok (.invokestatic 267, 3) := dk_184 1 11 (dk_at dksX11_power_0 2 rfl rfl)
theorem dX11_power_5 : decode cX11_power 5 = .ok (.ifCond .eq 35, 3) := dk_153 0 35 (dk_at dksX11_power_0 5 rfl rfl)
theorem dX11_power_8 : decode cX11_power 8 = .ok (.aload_n 0, 1) := dk_42 (dk_at dksX11_power_0 8 rfl rfl)
theorem dX11_power_9 : decode cX11_power 9 = .ok (.aload_n 1, 1) := dk_43 (dk_at dksX11_power_0 9 rfl rfl)
theorem dX11_power_10 : decode cX11_power 10 = .ok (.iload_n 2, 1) := dk_28 (dk_at dksX11_power_0 10 rfl rfl)
theorem dX11_power_11 : decode cX11_power 11 = .ok (.aload_n 1, 1) := dk_43 (dk_at dksX11_power_0 11 rfl rfl)
theorem dX11_power_12 : decode cX11_power 12 = .ok (.bipush 16, 2) := dk_16 16 (dk_at dksX11_power_0 12 rfl rfl)
theorem dX11_power_14 : decode cX11_power 14 = .ok (.iload_n 2, 1) := dk_28 (dk_at dksX11_power_0 14 rfl rfl)
theorem dX11_power_15 : decode cX11_power 15 = .ok (.iadd, 1) := dk_96 (dk_at dksX11_power_0 15 rfl rfl)
theorem dX11_power_16 : decode cX11_power 16 = .ok (.iaload, 1) := dk_46 (dk_at dksX11_power_0 16 rfl rfl)
theorem dX11_power_17 : decode cX11_power 17 = .ok (.aload_n 1, 1) := dk_43 (dk_at dksX11_power_0 17 rfl rfl)
theorem dX11_power_18 : decode cX11_power 18 = .ok (.bipush 8, 2) := dk_16 8 (dk_at dksX11_power_0 18 rfl rfl)
theorem dX11_power_20 : decode cX11_power 20 = .ok (.aload_n 0, 1) := dk_42 (dk_at dksX11_power_0 20 rfl rfl)
theorem dX11_power_21 : decode cX11_power 21 = .ok (.getfield 43, 3) := dk_180 0 43 (dk_at dksX11_power_0 21 rfl rfl)
theorem dX11_power_24 : decode cX11_power 24 = .ok (.iload_n 2, 1) := dk_28 (dk_at dksX11_power_1 0 rfl rfl)
theorem dX11_power_25 : decode cX11_power 25 = .ok (.aaload, 1) := dk_50 (dk_at dksX11_power_1 1 rfl rfl)
theorem dX11_power_26 : decode cX11_power 26 = .ok (.iconst 0, 1) := dk_3 (dk_at dksX11_power_1 2 rfl rfl)
theorem dX11_power_27 : decode cX11_power 27 = .ok (.iaload, 1) := dk_46 (dk_at dksX11_power_1 3 rfl rfl)
theorem dX11_power_28 : decode cX11_power 28 = .ok (.iadd, 1) := dk_96 (dk_at dksX11_power_1 4 rfl rfl)
theorem dX11_power_29 : decode cX11_power 29 = .ok (.iaload, 1) := dk_46 (dk_at dksX11_power_1 5 rfl rfl)
theorem dX11_power_30 : decode cX11_power 30 = .ok (.aload_n 1, 1) := dk_43 (dk_at dksX11_power_1 6 rfl rfl)
theorem dX11_power_31 : decode cX11_power 31 = .ok (.bipush 44, 2) := dk_16 44 (dk_at dksX11_power_1 7 rfl rfl)
theorem dX11_power_33 : decode cX11_power 33 = .ok (.iaload, 1) := dk_46 (dk_at dksX11_power_1 9 rfl rfl)
theorem dX11_power_34 : decode cX11_power 34 = .ok (.invokevirtual 285, 3) := dk_182 1 29 (dk_at dksX11_power_1 10 rfl rfl)
theorem dX11_power_37 : decode cX11_power 37 = .ok (.goto 4, 3) := dk_167 0 4 (dk_at dksX11_power_1 13 rfl rfl)
theorem dX11_power_40 : decode cX11_power 40 = .ok (.iconst 0, 1) := dk_3 (dk_at dksX11_power_1 16 rfl rfl)
theorem dX11_power_41 : decode cX11_power 41 = .ok (.ireturn, 1) := dk_172 (dk_at dksX11_power_1 17 rfl rfl)
def dkwX11_powerOf_2 : List UInt8 := [4, 100, 21, 6, 21, 5, 182, 1, 25, 172]
abbrev dktX11_powerOf_2 : List UInt8 := dkwX11_powerOf_2 ++ []
def dkwX11_powerOf_1 : List UInt8 := [180, 0, 29, 21, 6, 46, 42, 180, 0, 43, 28, 50, 4, 46, 42, 43, 21, 6, 182, 1, 18, 184, 1, 22]
abbrev dktX11_powerOf_1 : List UInt8 := dkwX11_powerOf_1 ++ dktX11_powerOf_2
def dkwX11_powerOf_0 : List UInt8 := [42, 180, 0, 43, 28, 50, 3, 46, 54, 6, 42, 42, 180, 0, 43, 28, 50, 5, 46, 29, 21, 4, 42]
abbrev dktX11_powerOf_0 : List UInt8 := dkwX11_powerOf_0 ++ dktX11_powerOf_1
theorem dksX11_powerOf_0 : cX11_powerOf.data.toList.drop 0 = dktX11_powerOf_0 := by decide +kernel
theorem dksX11_powerOf_1 : cX11_powerOf.data.toList.drop 23 = dktX11_powerOf_1 := dk_seg dksX11_powerOf_0 23 rfl rfl
theorem dksX11_powerOf_2 : cX11_powerOf.data.toList.drop 47 = dktX11_powerOf_2 := dk_seg dksX11_powerOf_1 24 rfl rfl
theorem dX11_powerOf_0 : decode cX11_powerOf 0 = .ok (.aload_n 0, 1) := dk_42 (dk_at dksX11_powerOf_0 0 rfl rfl)
theorem dX11_powerOf_1 : decode cX11_powerOf 1 = .ok (.getfield 43, 3) := dk_180 0 43 (dk_at dksX11_powerOf_0 1 rfl rfl)
theorem dX11_powerOf_4 : decode cX11_powerOf 4 = .ok (.iload_n 2, 1) := dk_28 (dk_at dksX11_powerOf_0 4 rfl rfl)
theorem dX11_powerOf_5 : decode cX11_powerOf 5 = .ok (.aaload, 1) := dk_50 (dk_at dksX11_powerOf_0 5 rfl rfl)
theorem dX11_powerOf_6 : decode cX11_powerOf 6 = .ok (.iconst 0, 1) := dk_3 (dk_at dksX11_powerOf_0 6 rfl rfl)
theorem dX11_powerOf_7 : decode cX11_powerOf 7 = .ok (.iaload, 1) := dk_46 (dk_at dksX11_powerOf_0 7 rfl rfl)
theorem dX11_powerOf_8 : decode cX11_powerOf 8 = .ok (.istore 6, 2) := dk_54 6 (dk_at dksX11_powerOf_0 8 rfl rfl)
theorem dX11_powerOf_10 : decode cX11_powerOf 10 = .ok (.aload_n 0, 1) := dk_42 (dk_at dksX11_powerOf_0 10 rfl rfl)
theorem dX11_powerOf_11 : decode cX11_powerOf 11 = .ok (.aload_n 0, 1) := dk_42 (dk_at dksX11_powerOf_0 11 rfl rfl)
theorem dX11_powerOf_12 : decode cX11_powerOf 12 = .ok (.getfield 43, 3) := dk_180 0 43 (dk_at dksX11_powerOf_0 12 rfl rfl)
theorem dX11_powerOf_15 : decode cX11_powerOf 15 = .ok (.iload_n 2, 1) := dk_28 (dk_at dksX11_powerOf_0 15 rfl rfl)
theorem dX11_powerOf_16 : decode cX11_powerOf 16 = .ok (.aaload, 1) := dk_50 (dk_at dksX11_powerOf_0 16 rfl rfl)
theorem dX11_powerOf_17 : decode cX11_powerOf 17 = .ok (.iconst 2, 1) := dk_5 (dk_at dksX11_powerOf_0 17 rfl rfl)
theorem dX11_powerOf_18 : decode cX11_powerOf 18 = .ok (.iaload, 1) := dk_46 (dk_at dksX11_powerOf_0 18 rfl rfl)
theorem dX11_powerOf_19 : decode cX11_powerOf 19 = .ok (.iload_n 3, 1) := dk_29 (dk_at dksX11_powerOf_0 19 rfl rfl)
theorem dX11_powerOf_20 : decode cX11_powerOf 20 = .ok (.iload 4, 2) := dk_21 4 (dk_at dksX11_powerOf_0 20 rfl rfl)
theorem dX11_powerOf_22 : decode cX11_powerOf 22 = .ok (.aload_n 0, 1) := dk_42 (dk_at dksX11_powerOf_0 22 rfl rfl)
theorem dX11_powerOf_23 : decode cX11_powerOf 23 = .ok (.getfield 29, 3) := dk_180 0 29 (dk_at dksX11_powerOf_1 0 rfl rfl)
theorem dX11_powerOf_26 : decode cX11_powerOf 26 = .ok (.iload 6, 2) := dk_21 6 (dk_at dksX11_powerOf_1 3 rfl rfl)
theorem dX11_powerOf_28 : decode cX11_powerOf 28 = .ok (.iaload, 1) := dk_46 (dk_at dksX11_powerOf_1 5 rfl rfl)
theorem dX11_powerOf_29 : decode cX11_powerOf 29 = .ok (.aload_n 0, 1) := dk_42 (dk_at dksX11_powerOf_1 6 rfl rfl)
theorem dX11_powerOf_30 : decode cX11_powerOf 30 = .ok (.getfield 43, 3) := dk_180 0 43 (dk_at dksX11_powerOf_1 7 rfl rfl)
theorem dX11_powerOf_33 : decode cX11_powerOf 33 = .ok (.iload_n 2, 1) := dk_28 (dk_at dksX11_powerOf_1 10 rfl rfl)
theorem dX11_powerOf_34 : decode cX11_powerOf 34 = .ok (.aaload, 1) := dk_50 (dk_at dksX11_powerOf_1 11 rfl rfl)
theorem dX11_powerOf_35 : decode cX11_powerOf 35 = .ok (.iconst 1, 1) := dk_4 (dk_at dksX11_powerOf_1 12 rfl rfl)
theorem dX11_powerOf_36 : decode cX11_powerOf 36 = .ok (.iaload, 1) := dk_46 (dk_at dksX11_powerOf_1 13 rfl rfl)
theorem dX11_powerOf_37 : decode cX11_powerOf 37 = .ok (.aload_n 0, 1) := dk_42 (dk_at dksX11_powerOf_1 14 rfl rfl)
theorem dX11_powerOf_38 : decode cX11_powerOf 38 = .ok (.aload_n 1, 1) := dk_43 (dk_at dksX11_powerOf_1 15 rfl rfl)
theorem dX11_powerOf_39 : decode cX11_powerOf 39 = .ok (.iload 6, 2) := dk_21 6 (dk_at dksX11_powerOf_1 16 rfl rfl)
theorem dX11_powerOf_41 : decode cX11_powerOf 41 = .ok (.invokevirtual 274, 3) := dk_182 1 18 (dk_at dksX11_powerOf_1 18 rfl rfl)
theorem dX11_powerOf_44 : decode cX11_powerOf 44 = .ok (.invokestatic 278, 3) := dk_184 1 22 (dk_at dksX11_powerOf_1 21 rfl rfl)
theorem dX11_powerOf_47 : decode cX11_powerOf 47 = .ok (.iconst 1, 1) := dk_4 (dk_at dksX11_powerOf_2 0 rfl rfl)
theorem dX11_powerOf_48 : decode cX11_powerOf 48 = .ok (.isub, 1) := dk_100 (dk_at dksX11_powerOf_2 1 rfl rfl)
theorem dX11_powerOf_49 : decode cX11_powerOf 49 = .ok (.iload 6, 2) := dk_21 6 (dk_at dksX11_powerOf_2 2 rfl rfl)
theorem dX11_powerOf_51 : decode cX11_powerOf 51 = .ok (.iload 5, 2) := dk_21 5 (dk_at dksX11_powerOf_2 4 rfl rfl)
theorem dX11_powerOf_53 : decode cX11_powerOf 53 = .ok (.invokevirtual 281, 3) := dk_182 1 25 (dk_at dksX11_powerOf_2 6 rfl rfl)
theorem dX11_powerOf_56 : decode cX11_powerOf 56 = .ok (.ireturn, 1) := dk_172 (dk_at dksX11_powerOf_2 9 rfl rfl)
def dkwX11_ones_1 : List UInt8 := [27, 172]
abbrev dktX11_ones_1 : List UInt8 := dkwX11_ones_1 ++ []
def dkwX11_ones_0 : List UInt8 := [3, 60, 3, 61, 28, 16, 10, 162, 0, 17, 27, 26, 28, 122, 4, 126, 96, 60, 132, 2, 1, 167, 255, 239]
abbrev dktX11_ones_0 : List UInt8 := dkwX11_ones_0 ++ dktX11_ones_1
theorem dksX11_ones_0 : cX11_ones.data.toList.drop 0 = dktX11_ones_0 := by decide +kernel
theorem dksX11_ones_1 : cX11_ones.data.toList.drop 24 = dktX11_ones_1 := dk_seg dksX11_ones_0 24 rfl rfl
theorem dX11_ones_0 : decode cX11_ones 0 = .ok (.iconst 0, 1) := dk_3 (dk_at dksX11_ones_0 0 rfl rfl)
theorem dX11_ones_1 : decode cX11_ones 1 = .ok (.istore_n 1, 1) := dk_60 (dk_at dksX11_ones_0 1 rfl rfl)
theorem dX11_ones_2 : decode cX11_ones 2 = .ok (.iconst 0, 1) := dk_3 (dk_at dksX11_ones_0 2 rfl rfl)
theorem dX11_ones_3 : decode cX11_ones 3 = .ok (.istore_n 2, 1) := dk_61 (dk_at dksX11_ones_0 3 rfl rfl)
theorem dX11_ones_4 : decode cX11_ones 4 = .ok (.iload_n 2, 1) := dk_28 (dk_at dksX11_ones_0 4 rfl rfl)
theorem dX11_ones_5 : decode cX11_ones 5 = .ok (.bipush 10, 2) := dk_16 10 (dk_at dksX11_ones_0 5 rfl rfl)
theorem dX11_ones_7 : decode cX11_ones 7 = .ok (.if_icmp .ge 17, 3) := dk_162 0 17 (dk_at dksX11_ones_0 7 rfl rfl)
theorem dX11_ones_10 : decode cX11_ones 10 = .ok (.iload_n 1, 1) := dk_27 (dk_at dksX11_ones_0 10 rfl rfl)
theorem dX11_ones_11 : decode cX11_ones 11 = .ok (.iload_n 0, 1) := dk_26 (dk_at dksX11_ones_0 11 rfl rfl)
theorem dX11_ones_12 : decode cX11_ones 12 = .ok (.iload_n 2, 1) := dk_28 (dk_at dksX11_ones_0 12 rfl rfl)
theorem dX11_ones_13 : decode cX11_ones 13 = .ok (.ishr, 1) := dk_122 (dk_at dksX11_ones_0 13 rfl rfl)
theorem dX11_ones_14 : decode cX11_ones 14 = .ok (.iconst 1, 1) := dk_4 (dk_at dksX11_ones_0 14 rfl rfl)
theorem dX11_ones_15 : decode cX11_ones 15 = .ok (.iand, 1) := dk_126 (dk_at dksX11_ones_0 15 rfl rfl)
theorem dX11_ones_16 : decode cX11_ones 16 = .ok (.iadd, 1) := dk_96 (dk_at dksX11_ones_0 16 rfl rfl)
theorem dX11_ones_17 : decode cX11_ones 17 = .ok (.istore_n 1, 1) := dk_60 (dk_at dksX11_ones_0 17 rfl rfl)
theorem dX11_ones_18 : decode cX11_ones 18 = .ok (.iinc 2 1, 3) := dk_132 2 1 (dk_at dksX11_ones_0 18 rfl rfl)
theorem dX11_ones_21 : decode cX11_ones 21 = .ok (.goto (-17), 3) := dk_167 255 239 (dk_at dksX11_ones_0 21 rfl rfl)
theorem dX11_ones_24 : decode cX11_ones 24 = .ok (.iload_n 1, 1) := dk_27 (dk_at dksX11_ones_1 0 rfl rfl)
theorem dX11_ones_25 : decode cX11_ones 25 = .ok (.ireturn, 1) := dk_172 (dk_at dksX11_ones_1 1 rfl rfl)
def dkwX11_powerBy_2 : List UInt8 := [180, 0, 67, 16, 6, 21, 7, 79, 42, 180, 0, 67, 16, 7, 21, 8, 79, 42, 182, 1, 15, 172]
abbrev dktX11_powerBy_2 : List UInt8 := dkwX11_powerBy_2 ++ []
def dkwX11_powerBy_1 : List UInt8 := [180, 0, 67, 6, 21, 4, 79, 42, 180, 0, 67, 7, 21, 5, 79, 42, 180, 0, 67, 8, 21, 6, 79, 42]
abbrev dktX11_powerBy_1 : List UInt8 := dkwX11_powerBy_1 ++ dktX11_powerBy_2
def dkwX11_powerBy_0 : List UInt8 := [42, 180, 0, 67, 3, 27, 79, 42, 180, 0, 67, 4, 28, 79, 42, 180, 0, 67, 5, 29, 79, 42]
abbrev dktX11_powerBy_0 : List UInt8 := dkwX11_powerBy_0 ++ dktX11_powerBy_1
theorem dksX11_powerBy_0 : cX11_powerBy.data.toList.drop 0 = dktX11_powerBy_0 := by decide +kernel
theorem dksX11_powerBy_1 : cX11_powerBy.data.toList.drop 22 = dktX11_powerBy_1 := dk_seg dksX11_powerBy_0 22 rfl rfl
theorem dksX11_powerBy_2 : cX11_powerBy.data.toList.drop 46 = dktX11_powerBy_2 := dk_seg dksX11_powerBy_1 24 rfl rfl
theorem dX11_powerBy_0 : decode cX11_powerBy 0 = .ok (.aload_n 0, 1) := dk_42 (dk_at dksX11_powerBy_0 0 rfl rfl)
theorem dX11_powerBy_1 : decode cX11_powerBy 1 = .ok (.getfield 67, 3) := dk_180 0 67 (dk_at dksX11_powerBy_0 1 rfl rfl)
theorem dX11_powerBy_4 : decode cX11_powerBy 4 = .ok (.iconst 0, 1) := dk_3 (dk_at dksX11_powerBy_0 4 rfl rfl)
theorem dX11_powerBy_5 : decode cX11_powerBy 5 = .ok (.iload_n 1, 1) := dk_27 (dk_at dksX11_powerBy_0 5 rfl rfl)
theorem dX11_powerBy_6 : decode cX11_powerBy 6 = .ok (.iastore, 1) := dk_79 (dk_at dksX11_powerBy_0 6 rfl rfl)
theorem dX11_powerBy_7 : decode cX11_powerBy 7 = .ok (.aload_n 0, 1) := dk_42 (dk_at dksX11_powerBy_0 7 rfl rfl)
theorem dX11_powerBy_8 : decode cX11_powerBy 8 = .ok (.getfield 67, 3) := dk_180 0 67 (dk_at dksX11_powerBy_0 8 rfl rfl)
theorem dX11_powerBy_11 : decode cX11_powerBy 11 = .ok (.iconst 1, 1) := dk_4 (dk_at dksX11_powerBy_0 11 rfl rfl)
theorem dX11_powerBy_12 : decode cX11_powerBy 12 = .ok (.iload_n 2, 1) := dk_28 (dk_at dksX11_powerBy_0 12 rfl rfl)
theorem dX11_powerBy_13 : decode cX11_powerBy 13 = .ok (.iastore, 1) := dk_79 (dk_at dksX11_powerBy_0 13 rfl rfl)
theorem dX11_powerBy_14 : decode cX11_powerBy 14 = .ok (.aload_n 0, 1) := dk_42 (dk_at dksX11_powerBy_0 14 rfl rfl)
theorem dX11_powerBy_15 : decode cX11_powerBy 15 = .ok (.getfield 67, 3) := dk_180 0 67 (dk_at dksX11_powerBy_0 15 rfl rfl)
theorem dX11_powerBy_18 : decode cX11_powerBy 18 = .ok (.iconst 2, 1) := dk_5 (dk_at dksX11_powerBy_0 18 rfl rfl)
theorem dX11_powerBy_19 : decode cX11_powerBy 19 = .ok (.iload_n 3, 1) := dk_29 (dk_at dksX11_powerBy_0 19 rfl rfl)
theorem dX11_powerBy_20 : decode cX11_powerBy 20 = .ok (.iastore, 1) := dk_79 (dk_at dksX11_powerBy_0 20 rfl rfl)
theorem dX11_powerBy_21 : decode cX11_powerBy 21 = .ok (.aload_n 0, 1) := dk_42 (dk_at dksX11_powerBy_0 21 rfl rfl)
theorem dX11_powerBy_22 : decode cX11_powerBy 22 = .ok (.getfield 67, 3) := dk_180 0 67 (dk_at dksX11_powerBy_1 0 rfl rfl)
theorem dX11_powerBy_25 : decode cX11_powerBy 25 = .ok (.iconst 3, 1) := dk_6 (dk_at dksX11_powerBy_1 3 rfl rfl)
theorem dX11_powerBy_26 : decode cX11_powerBy 26 = .ok (.iload 4, 2) := dk_21 4 (dk_at dksX11_powerBy_1 4 rfl rfl)
theorem dX11_powerBy_28 : decode cX11_powerBy 28 = .ok (.iastore, 1) := dk_79 (dk_at dksX11_powerBy_1 6 rfl rfl)
theorem dX11_powerBy_29 : decode cX11_powerBy 29 = .ok (.aload_n 0, 1) := dk_42 (dk_at dksX11_powerBy_1 7 rfl rfl)
theorem dX11_powerBy_30 : decode cX11_powerBy 30 = .ok (.getfield 67, 3) := dk_180 0 67 (dk_at dksX11_powerBy_1 8 rfl rfl)
theorem dX11_powerBy_33 : decode cX11_powerBy 33 = .ok (.iconst 4, 1) := dk_7 (dk_at dksX11_powerBy_1 11 rfl rfl)
theorem dX11_powerBy_34 : decode cX11_powerBy 34 = .ok (.iload 5, 2) := dk_21 5 (dk_at dksX11_powerBy_1 12 rfl rfl)
theorem dX11_powerBy_36 : decode cX11_powerBy 36 = .ok (.iastore, 1) := dk_79 (dk_at dksX11_powerBy_1 14 rfl rfl)
theorem dX11_powerBy_37 : decode cX11_powerBy 37 = .ok (.aload_n 0, 1) := dk_42 (dk_at dksX11_powerBy_1 15 rfl rfl)
theorem dX11_powerBy_38 : decode cX11_powerBy 38 = .ok (.getfield 67, 3) := dk_180 0 67 (dk_at dksX11_powerBy_1 16 rfl rfl)
theorem dX11_powerBy_41 : decode cX11_powerBy 41 = .ok (.iconst 5, 1) := dk_8 (dk_at dksX11_powerBy_1 19 rfl rfl)
theorem dX11_powerBy_42 : decode cX11_powerBy 42 = .ok (.iload 6, 2) := dk_21 6 (dk_at dksX11_powerBy_1 20 rfl rfl)
theorem dX11_powerBy_44 : decode cX11_powerBy 44 = .ok (.iastore, 1) := dk_79 (dk_at dksX11_powerBy_1 22 rfl rfl)
theorem dX11_powerBy_45 : decode cX11_powerBy 45 = .ok (.aload_n 0, 1) := dk_42 (dk_at dksX11_powerBy_1 23 rfl rfl)
theorem dX11_powerBy_46 : decode cX11_powerBy 46 = .ok (.getfield 67, 3) := dk_180 0 67 (dk_at dksX11_powerBy_2 0 rfl rfl)
theorem dX11_powerBy_49 : decode cX11_powerBy 49 = .ok (.bipush 6, 2) := dk_16 6 (dk_at dksX11_powerBy_2 3 rfl rfl)
theorem dX11_powerBy_51 : decode cX11_powerBy 51 = .ok (.iload 7, 2) := dk_21 7 (dk_at dksX11_powerBy_2 5 rfl rfl)
theorem dX11_powerBy_53 : decode cX11_powerBy 53 = .ok (.iastore, 1) := dk_79 (dk_at dksX11_powerBy_2 7 rfl rfl)
theorem dX11_powerBy_54 : decode cX11_powerBy 54 = .ok (.aload_n 0, 1) := dk_42 (dk_at dksX11_powerBy_2 8 rfl rfl)
theorem dX11_powerBy_55 : decode cX11_powerBy 55 = .ok (.getfield 67, 3) := dk_180 0 67 (dk_at dksX11_powerBy_2 9 rfl rfl)
theorem dX11_powerBy_58 : decode cX11_powerBy 58 = .ok (.bipush 7, 2) := dk_16 7 (dk_at dksX11_powerBy_2 12 rfl rfl)
theorem dX11_powerBy_60 : decode cX11_powerBy 60 = .ok (.iload 8, 2) := dk_21 8 (dk_at dksX11_powerBy_2 14 rfl rfl)
theorem dX11_powerBy_62 : decode cX11_powerBy 62 = .ok (.iastore, 1) := dk_79 (dk_at dksX11_powerBy_2 16 rfl rfl)
theorem dX11_powerBy_63 : decode cX11_powerBy 63 = .ok (.aload_n 0, 1) := dk_42 (dk_at dksX11_powerBy_2 17 rfl rfl)
theorem dX11_powerBy_64 : decode cX11_powerBy 64 = .ok (.invokevirtual 271, 3) := dk_182 1 15 (dk_at dksX11_powerBy_2 18 rfl rfl)
theorem dX11_powerBy_67 : decode cX11_powerBy 67 = .ok (.ireturn, 1) := dk_172 (dk_at dksX11_powerBy_2 21 rfl rfl)
def dkwX11_byLaw_6 : List UInt8 := [16, 99, 3, 42, 180, 0, 64, 3, 46, 184, 0, 248, 184, 0, 245, 172]
abbrev dktX11_byLaw_6 : List UInt8 := dkwX11_byLaw_6 ++ []
def dkwX11_byLaw_5 : List UInt8 := [42, 180, 0, 64, 27, 4, 100, 46, 42, 180, 0, 64, 27, 46, 184, 0, 251, 79, 132, 2, 1, 167, 255, 150]
abbrev dktX11_byLaw_5 : List UInt8 := dkwX11_byLaw_5 ++ dktX11_byLaw_6
def dkwX11_byLaw_4 : List UInt8 := [132, 1, 1, 167, 0, 39, 132, 1, 255, 42, 180, 0, 64, 27, 4, 100, 42, 180, 0, 52, 28, 50, 3, 46]
abbrev dktX11_byLaw_4 : List UInt8 := dkwX11_byLaw_4 ++ dktX11_byLaw_5
def dkwX11_byLaw_3 : List UInt8 := [180, 0, 52, 28, 50, 4, 46, 167, 0, 16, 42, 180, 0, 67, 42, 180, 0, 52, 28, 50, 4, 46, 46, 79]
abbrev dktX11_byLaw_3 : List UInt8 := dkwX11_byLaw_3 ++ dktX11_byLaw_4
def dkwX11_byLaw_2 : List UInt8 := [3, 46, 5, 162, 0, 50, 42, 180, 0, 64, 27, 42, 180, 0, 52, 28, 50, 3, 46, 154, 0, 14, 42]
abbrev dktX11_byLaw_2 : List UInt8 := dkwX11_byLaw_2 ++ dktX11_byLaw_3
def dkwX11_byLaw_1 : List UInt8 := [180, 0, 67, 5, 46, 104, 100, 79, 3, 61, 28, 42, 180, 0, 200, 162, 0, 104, 42, 180, 0, 52, 28, 50]
abbrev dktX11_byLaw_1 : List UInt8 := dkwX11_byLaw_1 ++ dktX11_byLaw_2
def dkwX11_byLaw_0 : List UInt8 := [3, 60, 42, 180, 0, 64, 3, 42, 180, 0, 67, 3, 46, 42, 180, 0, 67, 4, 46, 96, 5, 42]
abbrev dktX11_byLaw_0 : List UInt8 := dkwX11_byLaw_0 ++ dktX11_byLaw_1
theorem dksX11_byLaw_0 : cX11_byLaw.data.toList.drop 0 = dktX11_byLaw_0 := by decide +kernel
theorem dksX11_byLaw_1 : cX11_byLaw.data.toList.drop 22 = dktX11_byLaw_1 := dk_seg dksX11_byLaw_0 22 rfl rfl
theorem dksX11_byLaw_2 : cX11_byLaw.data.toList.drop 46 = dktX11_byLaw_2 := dk_seg dksX11_byLaw_1 24 rfl rfl
theorem dksX11_byLaw_3 : cX11_byLaw.data.toList.drop 69 = dktX11_byLaw_3 := dk_seg dksX11_byLaw_2 23 rfl rfl
theorem dksX11_byLaw_4 : cX11_byLaw.data.toList.drop 93 = dktX11_byLaw_4 := dk_seg dksX11_byLaw_3 24 rfl rfl
theorem dksX11_byLaw_5 : cX11_byLaw.data.toList.drop 117 = dktX11_byLaw_5 := dk_seg dksX11_byLaw_4 24 rfl rfl
theorem dksX11_byLaw_6 : cX11_byLaw.data.toList.drop 141 = dktX11_byLaw_6 := dk_seg dksX11_byLaw_5 24 rfl rfl
theorem dX11_byLaw_0 : decode cX11_byLaw 0 = .ok (.iconst 0, 1) := dk_3 (dk_at dksX11_byLaw_0 0 rfl rfl)
theorem dX11_byLaw_1 : decode cX11_byLaw 1 = .ok (.istore_n 1, 1) := dk_60 (dk_at dksX11_byLaw_0 1 rfl rfl)
theorem dX11_byLaw_2 : decode cX11_byLaw 2 = .ok (.aload_n 0, 1) := dk_42 (dk_at dksX11_byLaw_0 2 rfl rfl)
theorem dX11_byLaw_3 : decode cX11_byLaw 3 = .ok (.getfield 64, 3) := dk_180 0 64 (dk_at dksX11_byLaw_0 3 rfl rfl)
theorem dX11_byLaw_6 : decode cX11_byLaw 6 = .ok (.iconst 0, 1) := dk_3 (dk_at dksX11_byLaw_0 6 rfl rfl)
theorem dX11_byLaw_7 : decode cX11_byLaw 7 = .ok (.aload_n 0, 1) := dk_42 (dk_at dksX11_byLaw_0 7 rfl rfl)
theorem dX11_byLaw_8 : decode cX11_byLaw 8 = .ok (.getfield 67, 3) := dk_180 0 67 (dk_at dksX11_byLaw_0 8 rfl rfl)
theorem dX11_byLaw_11 : decode cX11_byLaw 11 = .ok (.iconst 0, 1) := dk_3 (dk_at dksX11_byLaw_0 11 rfl rfl)
theorem dX11_byLaw_12 : decode cX11_byLaw 12 = .ok (.iaload, 1) := dk_46 (dk_at dksX11_byLaw_0 12 rfl rfl)
theorem dX11_byLaw_13 : decode cX11_byLaw 13 = .ok (.aload_n 0, 1) := dk_42 (dk_at dksX11_byLaw_0 13 rfl rfl)
theorem dX11_byLaw_14 : decode cX11_byLaw 14 = .ok (.getfield 67, 3) := dk_180 0 67 (dk_at dksX11_byLaw_0 14 rfl rfl)
theorem dX11_byLaw_17 : decode cX11_byLaw 17 = .ok (.iconst 1, 1) := dk_4 (dk_at dksX11_byLaw_0 17 rfl rfl)
theorem dX11_byLaw_18 : decode cX11_byLaw 18 = .ok (.iaload, 1) := dk_46 (dk_at dksX11_byLaw_0 18 rfl rfl)
theorem dX11_byLaw_19 : decode cX11_byLaw 19 = .ok (.iadd, 1) := dk_96 (dk_at dksX11_byLaw_0 19 rfl rfl)
theorem dX11_byLaw_20 : decode cX11_byLaw 20 = .ok (.iconst 2, 1) := dk_5 (dk_at dksX11_byLaw_0 20 rfl rfl)
theorem dX11_byLaw_21 : decode cX11_byLaw 21 = .ok (.aload_n 0, 1) := dk_42 (dk_at dksX11_byLaw_0 21 rfl rfl)
theorem dX11_byLaw_22 : decode cX11_byLaw 22 = .ok (.getfield 67, 3) := dk_180 0 67 (dk_at dksX11_byLaw_1 0 rfl rfl)
theorem dX11_byLaw_25 : decode cX11_byLaw 25 = .ok (.iconst 2, 1) := dk_5 (dk_at dksX11_byLaw_1 3 rfl rfl)
theorem dX11_byLaw_26 : decode cX11_byLaw 26 = .ok (.iaload, 1) := dk_46 (dk_at dksX11_byLaw_1 4 rfl rfl)
theorem dX11_byLaw_27 : decode cX11_byLaw 27 = .ok (.imul, 1) := dk_104 (dk_at dksX11_byLaw_1 5 rfl rfl)
theorem dX11_byLaw_28 : decode cX11_byLaw 28 = .ok (.isub, 1) := dk_100 (dk_at dksX11_byLaw_1 6 rfl rfl)
theorem dX11_byLaw_29 : decode cX11_byLaw 29 = .ok (.iastore, 1) := dk_79 (dk_at dksX11_byLaw_1 7 rfl rfl)
theorem dX11_byLaw_30 : decode cX11_byLaw 30 = .ok (.iconst 0, 1) := dk_3 (dk_at dksX11_byLaw_1 8 rfl rfl)
theorem dX11_byLaw_31 : decode cX11_byLaw 31 = .ok (.istore_n 2, 1) := dk_61 (dk_at dksX11_byLaw_1 9 rfl rfl)
theorem dX11_byLaw_32 : decode cX11_byLaw 32 = .ok (.iload_n 2, 1) := dk_28 (dk_at dksX11_byLaw_1 10 rfl rfl)
theorem dX11_byLaw_33 : decode cX11_byLaw 33 = .ok (.aload_n 0, 1) := dk_42 (dk_at dksX11_byLaw_1 11 rfl rfl)
theorem dX11_byLaw_34 : decode cX11_byLaw 34 = .ok (.getfield 200, 3) := dk_180 0 200 (dk_at dksX11_byLaw_1 12 rfl rfl)
theorem dX11_byLaw_37 : decode cX11_byLaw 37 = .ok (.if_icmp .ge 104, 3) := dk_162 0 104 (dk_at dksX11_byLaw_1 15 rfl rfl)
theorem dX11_byLaw_40 : decode cX11_byLaw 40 = .ok (.aload_n 0, 1) := dk_42 (dk_at dksX11_byLaw_1 18 rfl rfl)
theorem dX11_byLaw_41 : decode cX11_byLaw 41 = .ok (.getfield 52, 3) := dk_180 0 52 (dk_at dksX11_byLaw_1 19 rfl rfl)
theorem dX11_byLaw_44 : decode cX11_byLaw 44 = .ok (.iload_n 2, 1) := dk_28 (dk_at dksX11_byLaw_1 22 rfl rfl)
theorem dX11_byLaw_45 : decode cX11_byLaw 45 = .ok (.aaload, 1) := dk_50 (dk_at dksX11_byLaw_1 23 rfl rfl)
theorem dX11_byLaw_46 : decode cX11_byLaw 46 = .ok (.iconst 0, 1) := dk_3 (dk_at dksX11_byLaw_2 0 rfl rfl)
theorem dX11_byLaw_47 : decode cX11_byLaw 47 = .ok (.iaload, 1) := dk_46 (dk_at dksX11_byLaw_2 1 rfl rfl)
theorem dX11_byLaw_48 : decode cX11_byLaw 48 = .ok (.iconst 2, 1) := dk_5 (dk_at dksX11_byLaw_2 2 rfl rfl)
theorem dX11_byLaw_49 : decode cX11_byLaw 49 = .ok (.if_icmp .ge 50, 3) := dk_162 0 50 (dk_at dksX11_byLaw_2 3 rfl rfl)
theorem dX11_byLaw_52 : decode cX11_byLaw 52 = .ok (.aload_n 0, 1) := dk_42 (dk_at dksX11_byLaw_2 6 rfl rfl)
theorem dX11_byLaw_53 : decode cX11_byLaw 53 = .ok (.getfield 64, 3) := dk_180 0 64 (dk_at dksX11_byLaw_2 7 rfl rfl)
theorem dX11_byLaw_56 : decode cX11_byLaw 56 = .ok (.iload_n 1, 1) := dk_27 (dk_at dksX11_byLaw_2 10 rfl rfl)
theorem dX11_byLaw_57 : decode cX11_byLaw 57 = .ok (.aload_n 0, 1) := dk_42 (dk_at dksX11_byLaw_2 11 rfl rfl)
theorem dX11_byLaw_58 : decode cX11_byLaw 58 = .ok (.getfield 52, 3) := dk_180 0 52 (dk_at dksX11_byLaw_2 12 rfl rfl)
theorem dX11_byLaw_61 : decode cX11_byLaw 61 = .ok (.iload_n 2, 1) := dk_28 (dk_at dksX11_byLaw_2 15 rfl rfl)
theorem dX11_byLaw_62 : decode cX11_byLaw 62 = .ok (.aaload, 1) := dk_50 (dk_at dksX11_byLaw_2 16 rfl rfl)
theorem dX11_byLaw_63 : decode cX11_byLaw 63 = .ok (.iconst 0, 1) := dk_3 (dk_at dksX11_byLaw_2 17 rfl rfl)
theorem dX11_byLaw_64 : decode cX11_byLaw 64 = .ok (.iaload, 1) := dk_46 (dk_at dksX11_byLaw_2 18 rfl rfl)
theorem dX11_byLaw_65 : decode cX11_byLaw 65 = .ok (.ifCond .ne 14, 3) := dk_154 0 14 (dk_at dksX11_byLaw_2 19 rfl rfl)
theorem dX11_byLaw_68 : decode cX11_byLaw 68 = .ok (.aload_n 0, 1) := dk_42 (dk_at dksX11_byLaw_2 22 rfl rfl)
theorem dX11_byLaw_69 : decode cX11_byLaw 69 = .ok (.getfield 52, 3) := dk_180 0 52 (dk_at dksX11_byLaw_3 0 rfl rfl)
theorem dX11_byLaw_72 : decode cX11_byLaw 72 = .ok (.iload_n 2, 1) := dk_28 (dk_at dksX11_byLaw_3 3 rfl rfl)
theorem dX11_byLaw_73 : decode cX11_byLaw 73 = .ok (.aaload, 1) := dk_50 (dk_at dksX11_byLaw_3 4 rfl rfl)
theorem dX11_byLaw_74 : decode cX11_byLaw 74 = .ok (.iconst 1, 1) := dk_4 (dk_at dksX11_byLaw_3 5 rfl rfl)
theorem dX11_byLaw_75 : decode cX11_byLaw 75 = .ok (.iaload, 1) := dk_46 (dk_at dksX11_byLaw_3 6 rfl rfl)
theorem dX11_byLaw_76 : decode cX11_byLaw 76 = .ok (.goto 16, 3) := dk_167 0 16 (dk_at dksX11_byLaw_3 7 rfl rfl)
theorem dX11_byLaw_79 : decode cX11_byLaw 79 = .ok (.aload_n 0, 1) := dk_42 (dk_at dksX11_byLaw_3 10 rfl rfl)
theorem dX11_byLaw_80 : decode cX11_byLaw 80 = .ok (.getfield 67, 3) := dk_180 0 67 (dk_at dksX11_byLaw_3 11 rfl rfl)
theorem dX11_byLaw_83 : decode cX11_byLaw 83 = .ok (.aload_n 0, 1) := dk_42 (dk_at dksX11_byLaw_3 14 rfl rfl)
theorem dX11_byLaw_84 : decode cX11_byLaw 84 = .ok (.getfield 52, 3) := dk_180 0 52 (dk_at dksX11_byLaw_3 15 rfl rfl)
theorem dX11_byLaw_87 : decode cX11_byLaw 87 = .ok (.iload_n 2, 1) := dk_28 (dk_at dksX11_byLaw_3 18 rfl rfl)
theorem dX11_byLaw_88 : decode cX11_byLaw 88 = .ok (.aaload, 1) := dk_50 (dk_at dksX11_byLaw_3 19 rfl rfl)
theorem dX11_byLaw_89 : decode cX11_byLaw 89 = .ok (.iconst 1, 1) := dk_4 (dk_at dksX11_byLaw_3 20 rfl rfl)
theorem dX11_byLaw_90 : decode cX11_byLaw 90 = .ok (.iaload, 1) := dk_46 (dk_at dksX11_byLaw_3 21 rfl rfl)
theorem dX11_byLaw_91 : decode cX11_byLaw 91 = .ok (.iaload, 1) := dk_46 (dk_at dksX11_byLaw_3 22 rfl rfl)
theorem dX11_byLaw_92 : decode cX11_byLaw 92 = .ok (.iastore, 1) := dk_79 (dk_at dksX11_byLaw_3 23 rfl rfl)
theorem dX11_byLaw_93 : decode cX11_byLaw 93 = .ok (.iinc 1 1, 3) := dk_132 1 1 (dk_at dksX11_byLaw_4 0 rfl rfl)
theorem dX11_byLaw_96 : decode cX11_byLaw 96 = .ok (.goto 39, 3) := dk_167 0 39 (dk_at dksX11_byLaw_4 3 rfl rfl)
theorem dX11_byLaw_99 : decode cX11_byLaw 99 = .ok (.iinc 1 (-1), 3) := dk_132 1 255 (dk_at dksX11_byLaw_4 6 rfl rfl)
theorem dX11_byLaw_102 : decode cX11_byLaw 102 = .ok (.aload_n 0, 1) := dk_42 (dk_at dksX11_byLaw_4 9 rfl rfl)
theorem dX11_byLaw_103 : decode cX11_byLaw 103 = .ok (.getfield 64, 3) := dk_180 0 64 (dk_at dksX11_byLaw_4 10 rfl rfl)
theorem dX11_byLaw_106 : decode cX11_byLaw 106 = .ok (.iload_n 1, 1) := dk_27 (dk_at dksX11_byLaw_4 13 rfl rfl)
theorem dX11_byLaw_107 : decode cX11_byLaw 107 = .ok (.iconst 1, 1) := dk_4 (dk_at dksX11_byLaw_4 14 rfl rfl)
theorem dX11_byLaw_108 : decode cX11_byLaw 108 = .ok (.isub, 1) := dk_100 (dk_at dksX11_byLaw_4 15 rfl rfl)
theorem dX11_byLaw_109 : decode cX11_byLaw 109 = .ok (.aload_n 0, 1) := dk_42 (dk_at dksX11_byLaw_4 16 rfl rfl)
theorem dX11_byLaw_110 : decode cX11_byLaw 110 = .ok (.getfield 52, 3) := dk_180 0 52 (dk_at dksX11_byLaw_4 17 rfl rfl)
theorem dX11_byLaw_113 : decode cX11_byLaw 113 = .ok (.iload_n 2, 1) := dk_28 (dk_at dksX11_byLaw_4 20 rfl rfl)
theorem dX11_byLaw_114 : decode cX11_byLaw 114 = .ok (.aaload, 1) := dk_50 (dk_at dksX11_byLaw_4 21 rfl rfl)
theorem dX11_byLaw_115 : decode cX11_byLaw 115 = .ok (.iconst 0, 1) := dk_3 (dk_at dksX11_byLaw_4 22 rfl rfl)
theorem dX11_byLaw_116 : decode cX11_byLaw 116 = .ok (.iaload, 1) := dk_46 (dk_at dksX11_byLaw_4 23 rfl rfl)
theorem dX11_byLaw_117 : decode cX11_byLaw 117 = .ok (.aload_n 0, 1) := dk_42 (dk_at dksX11_byLaw_5 0 rfl rfl)
theorem dX11_byLaw_118 : decode cX11_byLaw 118 = .ok (.getfield 64, 3) := dk_180 0 64 (dk_at dksX11_byLaw_5 1 rfl rfl)
theorem dX11_byLaw_121 : decode cX11_byLaw 121 = .ok (.iload_n 1, 1) := dk_27 (dk_at dksX11_byLaw_5 4 rfl rfl)
theorem dX11_byLaw_122 : decode cX11_byLaw 122 = .ok (.iconst 1, 1) := dk_4 (dk_at dksX11_byLaw_5 5 rfl rfl)
theorem dX11_byLaw_123 : decode cX11_byLaw 123 = .ok (.isub, 1) := dk_100 (dk_at dksX11_byLaw_5 6 rfl rfl)
theorem dX11_byLaw_124 : decode cX11_byLaw 124 = .ok (.iaload, 1) := dk_46 (dk_at dksX11_byLaw_5 7 rfl rfl)
theorem dX11_byLaw_125 : decode cX11_byLaw 125 = .ok (.aload_n 0, 1) := dk_42 (dk_at dksX11_byLaw_5 8 rfl rfl)
theorem dX11_byLaw_126 : decode cX11_byLaw 126 = .ok (.getfield 64, 3) := dk_180 0 64 (dk_at dksX11_byLaw_5 9 rfl rfl)
theorem dX11_byLaw_129 : decode cX11_byLaw 129 = .ok (.iload_n 1, 1) := dk_27 (dk_at dksX11_byLaw_5 12 rfl rfl)
theorem dX11_byLaw_130 : decode cX11_byLaw 130 = .ok (.iaload, 1) := dk_46 (dk_at dksX11_byLaw_5 13 rfl rfl)
theorem dX11_byLaw_131 : decode cX11_byLaw 131 = .ok (.invokestatic 251, 3) := dk_184 0 251 (dk_at dksX11_byLaw_5 14 rfl rfl)
theorem dX11_byLaw_134 : decode cX11_byLaw 134 = .ok (.iastore, 1) := dk_79 (dk_at dksX11_byLaw_5 17 rfl rfl)
theorem dX11_byLaw_135 : decode cX11_byLaw 135 = .ok (.iinc 2 1, 3) := dk_132 2 1 (dk_at dksX11_byLaw_5 18 rfl rfl)
theorem dX11_byLaw_138 : decode cX11_byLaw 138 = .ok (.goto (-106), 3) := dk_167 255 150 (dk_at dksX11_byLaw_5 21 rfl rfl)
theorem dX11_byLaw_141 : decode cX11_byLaw 141 = .ok (.bipush 99, 2) := dk_16 99 (dk_at dksX11_byLaw_6 0 rfl rfl)
theorem dX11_byLaw_143 : decode cX11_byLaw 143 = .ok (.iconst 0, 1) := dk_3 (dk_at dksX11_byLaw_6 2 rfl rfl)
theorem dX11_byLaw_144 : decode cX11_byLaw 144 = .ok (.aload_n 0, 1) := dk_42 (dk_at dksX11_byLaw_6 3 rfl rfl)
theorem dX11_byLaw_145 : decode cX11_byLaw 145 = .ok (.getfield 64, 3) := dk_180 0 64 (dk_at dksX11_byLaw_6 4 rfl rfl)
theorem dX11_byLaw_148 : decode cX11_byLaw 148 = .ok (.iconst 0, 1) := dk_3 (dk_at dksX11_byLaw_6 7 rfl rfl)
theorem dX11_byLaw_149 : decode cX11_byLaw 149 = .ok (.iaload, 1) := dk_46 (dk_at dksX11_byLaw_6 8 rfl rfl)
theorem dX11_byLaw_150 : decode cX11_byLaw 150 = .ok (.invokestatic 248, 3) := dk_184 0 248 (dk_at dksX11_byLaw_6 9 rfl rfl)
theorem dX11_byLaw_153 : decode cX11_byLaw 153 = .ok (.invokestatic 245, 3) := dk_184 0 245 (dk_at dksX11_byLaw_6 12 rfl rfl)
theorem dX11_byLaw_156 : decode cX11_byLaw 156 = .ok (.ireturn, 1) := dk_172 (dk_at dksX11_byLaw_6 15 rfl rfl)
def dkwX11_by_4 : List UInt8 := [167, 0, 6, 27, 28, 112, 172, 27, 28, 184, 0, 245, 172, 27, 28, 184, 0, 248, 172]
abbrev dktX11_by_4 : List UInt8 := dkwX11_by_4 ++ []
def dkwX11_by_3 : List UInt8 := [160, 0, 8, 27, 116, 167, 0, 6, 27, 28, 108, 172, 28, 153, 0, 8, 28, 2, 160, 0, 7, 3]
abbrev dktX11_by_3 : List UInt8 := dkwX11_by_3 ++ dktX11_by_4
def dkwX11_by_2 : List UInt8 := [27, 28, 96, 172, 27, 28, 100, 172, 27, 28, 104, 172, 28, 154, 0, 7, 3, 167, 0, 16, 28, 2]
abbrev dktX11_by_2 : List UInt8 := dkwX11_by_2 ++ dktX11_by_3
def dkwX11_by_1 : List UInt8 := [170, 0, 0, 0, 0, 0, 96, 0, 0, 0, 2, 0, 0, 0, 7, 0, 0, 0, 39, 0, 0, 0, 43, 0, 0, 0, 47, 0, 0, 0, 51, 0, 0, 0, 73, 0, 0, 0, 90]
abbrev dktX11_by_1 : List UInt8 := dkwX11_by_1 ++ dktX11_by_2
def dkwX11_by_0 : List UInt8 := [26]
abbrev dktX11_by_0 : List UInt8 := dkwX11_by_0 ++ dktX11_by_1
theorem dksX11_by_0 : cX11_by.data.toList.drop 0 = dktX11_by_0 := by decide +kernel
theorem dksX11_by_1 : cX11_by.data.toList.drop 1 = dktX11_by_1 := dk_seg dksX11_by_0 1 rfl rfl
theorem dksX11_by_2 : cX11_by.data.toList.drop 40 = dktX11_by_2 := dk_seg dksX11_by_1 39 rfl rfl
theorem dksX11_by_3 : cX11_by.data.toList.drop 62 = dktX11_by_3 := dk_seg dksX11_by_2 22 rfl rfl
theorem dksX11_by_4 : cX11_by.data.toList.drop 84 = dktX11_by_4 := dk_seg dksX11_by_3 22 rfl rfl
theorem dX11_by_0 : decode cX11_by 0 = .ok (.iload_n 0, 1) := dk_26 (dk_at dksX11_by_0 0 rfl rfl)
theorem dX11_by_1 : decode cX11_by 1 = .ok (.tableswitch 96 2 7 #[39, 43, 47, 51, 73, 90], 39) := by decide +kernel
theorem dX11_by_40 : decode cX11_by 40 = .ok (.iload_n 1, 1) := dk_27 (dk_at dksX11_by_2 0 rfl rfl)
theorem dX11_by_41 : decode cX11_by 41 = .ok (.iload_n 2, 1) := dk_28 (dk_at dksX11_by_2 1 rfl rfl)
theorem dX11_by_42 : decode cX11_by 42 = .ok (.iadd, 1) := dk_96 (dk_at dksX11_by_2 2 rfl rfl)
theorem dX11_by_43 : decode cX11_by 43 = .ok (.ireturn, 1) := dk_172 (dk_at dksX11_by_2 3 rfl rfl)
theorem dX11_by_44 : decode cX11_by 44 = .ok (.iload_n 1, 1) := dk_27 (dk_at dksX11_by_2 4 rfl rfl)
theorem dX11_by_45 : decode cX11_by 45 = .ok (.iload_n 2, 1) := dk_28 (dk_at dksX11_by_2 5 rfl rfl)
theorem dX11_by_46 : decode cX11_by 46 = .ok (.isub, 1) := dk_100 (dk_at dksX11_by_2 6 rfl rfl)
theorem dX11_by_47 : decode cX11_by 47 = .ok (.ireturn, 1) := dk_172 (dk_at dksX11_by_2 7 rfl rfl)
theorem dX11_by_48 : decode cX11_by 48 = .ok (.iload_n 1, 1) := dk_27 (dk_at dksX11_by_2 8 rfl rfl)
theorem dX11_by_49 : decode cX11_by 49 = .ok (.iload_n 2, 1) := dk_28 (dk_at dksX11_by_2 9 rfl rfl)
theorem dX11_by_50 : decode cX11_by 50 = .ok (.imul, 1) := dk_104 (dk_at dksX11_by_2 10 rfl rfl)
theorem dX11_by_51 : decode cX11_by 51 = .ok (.ireturn, 1) := dk_172 (dk_at dksX11_by_2 11 rfl rfl)
theorem dX11_by_52 : decode cX11_by 52 = .ok (.iload_n 2, 1) := dk_28 (dk_at dksX11_by_2 12 rfl rfl)
theorem dX11_by_53 : decode cX11_by 53 = .ok (.ifCond .ne 7, 3) := dk_154 0 7 (dk_at dksX11_by_2 13 rfl rfl)
theorem dX11_by_56 : decode cX11_by 56 = .ok (.iconst 0, 1) := dk_3 (dk_at dksX11_by_2 16 rfl rfl)
theorem dX11_by_57 : decode cX11_by 57 = .ok (.goto 16, 3) := dk_167 0 16 (dk_at dksX11_by_2 17 rfl rfl)
theorem dX11_by_60 : decode cX11_by 60 = .ok (.iload_n 2, 1) := dk_28 (dk_at dksX11_by_2 20 rfl rfl)
theorem dX11_by_61 : decode cX11_by 61 = .ok (.iconst (-1), 1) := dk_2 (dk_at dksX11_by_2 21 rfl rfl)
theorem dX11_by_62 : decode cX11_by 62 = .ok (.if_icmp .ne 8, 3) := dk_160 0 8 (dk_at dksX11_by_3 0 rfl rfl)
theorem dX11_by_65 : decode cX11_by 65 = .ok (.iload_n 1, 1) := dk_27 (dk_at dksX11_by_3 3 rfl rfl)
theorem dX11_by_66 : decode cX11_by 66 = .ok (.ineg, 1) := dk_116 (dk_at dksX11_by_3 4 rfl rfl)
theorem dX11_by_67 : decode cX11_by 67 = .ok (.goto 6, 3) := dk_167 0 6 (dk_at dksX11_by_3 5 rfl rfl)
theorem dX11_by_70 : decode cX11_by 70 = .ok (.iload_n 1, 1) := dk_27 (dk_at dksX11_by_3 8 rfl rfl)
theorem dX11_by_71 : decode cX11_by 71 = .ok (.iload_n 2, 1) := dk_28 (dk_at dksX11_by_3 9 rfl rfl)
theorem dX11_by_72 : decode cX11_by 72 = .ok (.idiv, 1) := dk_108 (dk_at dksX11_by_3 10 rfl rfl)
theorem dX11_by_73 : decode cX11_by 73 = .ok (.ireturn, 1) := dk_172 (dk_at dksX11_by_3 11 rfl rfl)
theorem dX11_by_74 : decode cX11_by 74 = .ok (.iload_n 2, 1) := dk_28 (dk_at dksX11_by_3 12 rfl rfl)
theorem dX11_by_75 : decode cX11_by 75 = .ok (.ifCond .eq 8, 3) := dk_153 0 8 (dk_at dksX11_by_3 13 rfl rfl)
theorem dX11_by_78 : decode cX11_by 78 = .ok (.iload_n 2, 1) := dk_28 (dk_at dksX11_by_3 16 rfl rfl)
theorem dX11_by_79 : decode cX11_by 79 = .ok (.iconst (-1), 1) := dk_2 (dk_at dksX11_by_3 17 rfl rfl)
theorem dX11_by_80 : decode cX11_by 80 = .ok (.if_icmp .ne 7, 3) := dk_160 0 7 (dk_at dksX11_by_3 18 rfl rfl)
theorem dX11_by_83 : decode cX11_by 83 = .ok (.iconst 0, 1) := dk_3 (dk_at dksX11_by_3 21 rfl rfl)
theorem dX11_by_84 : decode cX11_by 84 = .ok (.goto 6, 3) := dk_167 0 6 (dk_at dksX11_by_4 0 rfl rfl)
theorem dX11_by_87 : decode cX11_by 87 = .ok (.iload_n 1, 1) := dk_27 (dk_at dksX11_by_4 3 rfl rfl)
theorem dX11_by_88 : decode cX11_by 88 = .ok (.iload_n 2, 1) := dk_28 (dk_at dksX11_by_4 4 rfl rfl)
theorem dX11_by_89 : decode cX11_by 89 = .ok (.irem, 1) := dk_112 (dk_at dksX11_by_4 5 rfl rfl)
theorem dX11_by_90 : decode cX11_by 90 = .ok (.ireturn, 1) := dk_172 (dk_at dksX11_by_4 6 rfl rfl)
theorem dX11_by_91 : decode cX11_by 91 = .ok (.iload_n 1, 1) := dk_27 (dk_at dksX11_by_4 7 rfl rfl)
theorem dX11_by_92 : decode cX11_by 92 = .ok (.iload_n 2, 1) := dk_28 (dk_at dksX11_by_4 8 rfl rfl)
theorem dX11_by_93 : decode cX11_by 93 = .ok (.invokestatic 245, 3) := dk_184 0 245 (dk_at dksX11_by_4 9 rfl rfl)
theorem dX11_by_96 : decode cX11_by 96 = .ok (.ireturn, 1) := dk_172 (dk_at dksX11_by_4 12 rfl rfl)
theorem dX11_by_97 : decode cX11_by 97 = .ok (.iload_n 1, 1) := dk_27 (dk_at dksX11_by_4 13 rfl rfl)
theorem dX11_by_98 : decode cX11_by 98 = .ok (.iload_n 2, 1) := dk_28 (dk_at dksX11_by_4 14 rfl rfl)
theorem dX11_by_99 : decode cX11_by 99 = .ok (.invokestatic 248, 3) := dk_184 0 248 (dk_at dksX11_by_4 15 rfl rfl)
theorem dX11_by_102 : decode cX11_by 102 = .ok (.ireturn, 1) := dk_172 (dk_at dksX11_by_4 18 rfl rfl)
def dkwX11_less_0 : List UInt8 := [26, 27, 162, 0, 7, 26, 167, 0, 4, 27, 172]
abbrev dktX11_less_0 : List UInt8 := dkwX11_less_0 ++ []
theorem dksX11_less_0 : cX11_less.data.toList.drop 0 = dktX11_less_0 := by decide +kernel
theorem dX11_less_0 : decode cX11_less 0 = .ok (.iload_n 0, 1) := dk_26 (dk_at dksX11_less_0 0 rfl rfl)
theorem dX11_less_1 : decode cX11_less 1 = .ok (.iload_n 1, 1) := dk_27 (dk_at dksX11_less_0 1 rfl rfl)
theorem dX11_less_2 : decode cX11_less 2 = .ok (.if_icmp .ge 7, 3) := dk_162 0 7 (dk_at dksX11_less_0 2 rfl rfl)
theorem dX11_less_5 : decode cX11_less 5 = .ok (.iload_n 0, 1) := dk_26 (dk_at dksX11_less_0 5 rfl rfl)
theorem dX11_less_6 : decode cX11_less 6 = .ok (.goto 4, 3) := dk_167 0 4 (dk_at dksX11_less_0 6 rfl rfl)
theorem dX11_less_9 : decode cX11_less 9 = .ok (.iload_n 1, 1) := dk_27 (dk_at dksX11_less_0 9 rfl rfl)
theorem dX11_less_10 : decode cX11_less 10 = .ok (.ireturn, 1) := dk_172 (dk_at dksX11_less_0 10 rfl rfl)
def dkwX11_more_0 : List UInt8 := [26, 27, 164, 0, 7, 26, 167, 0, 4, 27, 172]
abbrev dktX11_more_0 : List UInt8 := dkwX11_more_0 ++ []
theorem dksX11_more_0 : cX11_more.data.toList.drop 0 = dktX11_more_0 := by decide +kernel
theorem dX11_more_0 : decode cX11_more 0 = .ok (.iload_n 0, 1) := dk_26 (dk_at dksX11_more_0 0 rfl rfl)
theorem dX11_more_1 : decode cX11_more 1 = .ok (.iload_n 1, 1) := dk_27 (dk_at dksX11_more_0 1 rfl rfl)
theorem dX11_more_2 : decode cX11_more 2 = .ok (.if_icmp .le 7, 3) := dk_164 0 7 (dk_at dksX11_more_0 2 rfl rfl)
theorem dX11_more_5 : decode cX11_more 5 = .ok (.iload_n 0, 1) := dk_26 (dk_at dksX11_more_0 5 rfl rfl)
theorem dX11_more_6 : decode cX11_more 6 = .ok (.goto 4, 3) := dk_167 0 4 (dk_at dksX11_more_0 6 rfl rfl)
theorem dX11_more_9 : decode cX11_more 9 = .ok (.iload_n 1, 1) := dk_27 (dk_at dksX11_more_0 9 rfl rfl)
theorem dX11_more_10 : decode cX11_more 10 = .ok (.ireturn, 1) := dk_172 (dk_at dksX11_more_0 10 rfl rfl)
def dkwX11_dayEnds_2 : List UInt8 := [16, 44, 92, 46, 4, 96, 79, 177]
abbrev dktX11_dayEnds_2 : List UInt8 := dkwX11_dayEnds_2 ++ []
def dkwX11_dayEnds_1 : List UInt8 := [153, 0, 7, 4, 167, 0, 4, 3, 96, 79, 43, 16, 26, 28, 96, 3, 79, 132, 2, 1, 167, 255, 214, 43]
abbrev dktX11_dayEnds_1 : List UInt8 := dkwX11_dayEnds_1 ++ dktX11_dayEnds_2
def dkwX11_dayEnds_0 : List UInt8 := [3, 61, 28, 42, 180, 0, 23, 4, 46, 162, 0, 38, 43, 16, 16, 28, 96, 92, 46, 43, 28, 184, 1, 11]
abbrev dktX11_dayEnds_0 : List UInt8 := dkwX11_dayEnds_0 ++ dktX11_dayEnds_1
theorem dksX11_dayEnds_0 : cX11_dayEnds.data.toList.drop 0 = dktX11_dayEnds_0 := by decide +kernel
theorem dksX11_dayEnds_1 : cX11_dayEnds.data.toList.drop 24 = dktX11_dayEnds_1 := dk_seg dksX11_dayEnds_0 24 rfl rfl
theorem dksX11_dayEnds_2 : cX11_dayEnds.data.toList.drop 48 = dktX11_dayEnds_2 := dk_seg dksX11_dayEnds_1 24 rfl rfl
theorem dX11_dayEnds_0 : decode cX11_dayEnds 0 = .ok (.iconst 0, 1) := dk_3 (dk_at dksX11_dayEnds_0 0 rfl rfl)
theorem dX11_dayEnds_1 : decode cX11_dayEnds 1 = .ok (.istore_n 2, 1) := dk_61 (dk_at dksX11_dayEnds_0 1 rfl rfl)
theorem dX11_dayEnds_2 : decode cX11_dayEnds 2 = .ok (.iload_n 2, 1) := dk_28 (dk_at dksX11_dayEnds_0 2 rfl rfl)
theorem dX11_dayEnds_3 : decode cX11_dayEnds 3 = .ok (.aload_n 0, 1) := dk_42 (dk_at dksX11_dayEnds_0 3 rfl rfl)
theorem dX11_dayEnds_4 : decode cX11_dayEnds 4 = .ok (.getfield 23, 3) := dk_180 0 23 (dk_at dksX11_dayEnds_0 4 rfl rfl)
theorem dX11_dayEnds_7 : decode cX11_dayEnds 7 = .ok (.iconst 1, 1) := dk_4 (dk_at dksX11_dayEnds_0 7 rfl rfl)
theorem dX11_dayEnds_8 : decode cX11_dayEnds 8 = .ok (.iaload, 1) := dk_46 (dk_at dksX11_dayEnds_0 8 rfl rfl)
theorem dX11_dayEnds_9 : decode cX11_dayEnds 9 = .ok (.if_icmp .ge 38, 3) := dk_162 0 38 (dk_at dksX11_dayEnds_0 9 rfl rfl)
theorem dX11_dayEnds_12 : decode cX11_dayEnds 12 = .ok (.aload_n 1, 1) := dk_43 (dk_at dksX11_dayEnds_0 12 rfl rfl)
theorem dX11_dayEnds_13 : decode cX11_dayEnds 13 = .ok (.bipush 16, 2) := dk_16 16 (dk_at dksX11_dayEnds_0 13 rfl rfl)
theorem dX11_dayEnds_15 : decode cX11_dayEnds 15 = .ok (.iload_n 2, 1) := dk_28 (dk_at dksX11_dayEnds_0 15 rfl rfl)
theorem dX11_dayEnds_16 : decode cX11_dayEnds 16 = .ok (.iadd, 1) := dk_96 (dk_at dksX11_dayEnds_0 16 rfl rfl)
theorem dX11_dayEnds_17 : decode cX11_dayEnds 17 = .ok (.dup2, 1) := dk_92 (dk_at dksX11_dayEnds_0 17 rfl rfl)
theorem dX11_dayEnds_18 : decode cX11_dayEnds 18 = .ok (.iaload, 1) := dk_46 (dk_at dksX11_dayEnds_0 18 rfl rfl)
theorem dX11_dayEnds_19 : decode cX11_dayEnds 19 = .ok (.aload_n 1, 1) := dk_43 (dk_at dksX11_dayEnds_0 19 rfl rfl)
theorem dX11_dayEnds_20 : decode cX11_dayEnds 20 = .ok (.iload_n 2, 1) := dk_28 (dk_at dksX11_dayEnds_0 20 rfl rfl)
theorem dX11_dayEnds_21 : decode cX11_dayEnds 21 = .ok (.invokestatic 267, 3) := dk_184 1 11 (dk_at dksX11_dayEnds_0 21 rfl rfl)
theorem dX11_dayEnds_24 : decode cX11_dayEnds 24 = .ok (.ifCond .eq 7, 3) := dk_153 0 7 (dk_at dksX11_dayEnds_1 0 rfl rfl)
theorem dX11_dayEnds_27 : decode cX11_dayEnds 27 = .ok (.iconst 1, 1) := dk_4 (dk_at dksX11_dayEnds_1 3 rfl rfl)
theorem dX11_dayEnds_28 : decode cX11_dayEnds 28 = .ok (.goto 4, 3) := dk_167 0 4 (dk_at dksX11_dayEnds_1 4 rfl rfl)
theorem dX11_dayEnds_31 : decode cX11_dayEnds 31 = .ok (.iconst 0, 1) := dk_3 (dk_at dksX11_dayEnds_1 7 rfl rfl)
theorem dX11_dayEnds_32 : decode cX11_dayEnds 32 = .ok (.iadd, 1) := dk_96 (dk_at dksX11_dayEnds_1 8 rfl rfl)
theorem dX11_dayEnds_33 : decode cX11_dayEnds 33 = .ok (.iastore, 1) := dk_79 (dk_at dksX11_dayEnds_1 9 rfl rfl)
theorem dX11_dayEnds_34 : decode cX11_dayEnds 34 = .ok (.aload_n 1, 1) := dk_43 (dk_at dksX11_dayEnds_1 10 rfl rfl)
theorem dX11_dayEnds_35 : decode cX11_dayEnds 35 = .ok (.bipush 26, 2) := dk_16 26 (dk_at dksX11_dayEnds_1 11 rfl rfl)
theorem dX11_dayEnds_37 : decode cX11_dayEnds 37 = .ok (.iload_n 2, 1) := dk_28 (dk_at dksX11_dayEnds_1 13 rfl rfl)
theorem dX11_dayEnds_38 : decode cX11_dayEnds 38 = .ok (.iadd, 1) := dk_96 (dk_at dksX11_dayEnds_1 14 rfl rfl)
theorem dX11_dayEnds_39 : decode cX11_dayEnds 39 = .ok (.iconst 0, 1) := dk_3 (dk_at dksX11_dayEnds_1 15 rfl rfl)
theorem dX11_dayEnds_40 : decode cX11_dayEnds 40 = .ok (.iastore, 1) := dk_79 (dk_at dksX11_dayEnds_1 16 rfl rfl)
theorem dX11_dayEnds_41 : decode cX11_dayEnds 41 = .ok (.iinc 2 1, 3) := dk_132 2 1 (dk_at dksX11_dayEnds_1 17 rfl rfl)
theorem dX11_dayEnds_44 : decode cX11_dayEnds 44 = .ok (.goto (-42), 3) := dk_167 255 214 (dk_at dksX11_dayEnds_1 20 rfl rfl)
theorem dX11_dayEnds_47 : decode cX11_dayEnds 47 = .ok (.aload_n 1, 1) := dk_43 (dk_at dksX11_dayEnds_1 23 rfl rfl)
theorem dX11_dayEnds_48 : decode cX11_dayEnds 48 = .ok (.bipush 44, 2) := dk_16 44 (dk_at dksX11_dayEnds_2 0 rfl rfl)
theorem dX11_dayEnds_50 : decode cX11_dayEnds 50 = .ok (.dup2, 1) := dk_92 (dk_at dksX11_dayEnds_2 2 rfl rfl)
theorem dX11_dayEnds_51 : decode cX11_dayEnds 51 = .ok (.iaload, 1) := dk_46 (dk_at dksX11_dayEnds_2 3 rfl rfl)
theorem dX11_dayEnds_52 : decode cX11_dayEnds 52 = .ok (.iconst 1, 1) := dk_4 (dk_at dksX11_dayEnds_2 4 rfl rfl)
theorem dX11_dayEnds_53 : decode cX11_dayEnds 53 = .ok (.iadd, 1) := dk_96 (dk_at dksX11_dayEnds_2 5 rfl rfl)
theorem dX11_dayEnds_54 : decode cX11_dayEnds 54 = .ok (.iastore, 1) := dk_79 (dk_at dksX11_dayEnds_2 6 rfl rfl)
theorem dX11_dayEnds_55 : decode cX11_dayEnds 55 = .ok (.return_, 1) := dk_177 (dk_at dksX11_dayEnds_2 7 rfl rfl)
def dkwX11_undo_2 : List UInt8 := [180, 0, 206, 172]
abbrev dktX11_undo_2 : List UInt8 := dkwX11_undo_2 ++ []
def dkwX11_undo_1 : List UInt8 := [42, 180, 0, 79, 42, 180, 0, 206, 50, 42, 180, 0, 73, 184, 1, 69, 42, 3, 181, 0, 209, 42]
abbrev dktX11_undo_1 : List UInt8 := dkwX11_undo_1 ++ dktX11_undo_2
def dkwX11_undo_0 : List UInt8 := [42, 3, 181, 0, 103, 42, 180, 0, 206, 154, 0, 5, 2, 172, 42, 89, 180, 0, 206, 4, 100, 181, 0, 206]
abbrev dktX11_undo_0 : List UInt8 := dkwX11_undo_0 ++ dktX11_undo_1
theorem dksX11_undo_0 : cX11_undo.data.toList.drop 0 = dktX11_undo_0 := by decide +kernel
theorem dksX11_undo_1 : cX11_undo.data.toList.drop 24 = dktX11_undo_1 := dk_seg dksX11_undo_0 24 rfl rfl
theorem dksX11_undo_2 : cX11_undo.data.toList.drop 46 = dktX11_undo_2 := dk_seg dksX11_undo_1 22 rfl rfl
theorem dX11_undo_0 : decode cX11_undo 0 = .ok (.aload_n 0, 1) := dk_42 (dk_at dksX11_undo_0 0 rfl rfl)
theorem dX11_undo_1 : decode cX11_undo 1 = .ok (.iconst 0, 1) := dk_3 (dk_at dksX11_undo_0 1 rfl rfl)
theorem dX11_undo_2 : decode cX11_undo 2 = .ok (.putfield 103, 3) := dk_181 0 103 (dk_at dksX11_undo_0 2 rfl rfl)
theorem dX11_undo_5 : decode cX11_undo 5 = .ok (.aload_n 0, 1) := dk_42 (dk_at dksX11_undo_0 5 rfl rfl)
theorem dX11_undo_6 : decode cX11_undo 6 = .ok (.getfield 206, 3) := dk_180 0 206 (dk_at dksX11_undo_0 6 rfl rfl)
theorem dX11_undo_9 : decode cX11_undo 9 = .ok (.ifCond .ne 5, 3) := dk_154 0 5 (dk_at dksX11_undo_0 9 rfl rfl)
theorem dX11_undo_12 : decode cX11_undo 12 = .ok (.iconst (-1), 1) := dk_2 (dk_at dksX11_undo_0 12 rfl rfl)
theorem dX11_undo_13 : decode cX11_undo 13 = .ok (.ireturn, 1) := dk_172 (dk_at dksX11_undo_0 13 rfl rfl)
theorem dX11_undo_14 : decode cX11_undo 14 = .ok (.aload_n 0, 1) := dk_42 (dk_at dksX11_undo_0 14 rfl rfl)
theorem dX11_undo_15 : decode cX11_undo 15 = .ok (.dup, 1) := dk_89 (dk_at dksX11_undo_0 15 rfl rfl)
theorem dX11_undo_16 : decode cX11_undo 16 = .ok (.getfield 206, 3) := dk_180 0 206 (dk_at dksX11_undo_0 16 rfl rfl)
theorem dX11_undo_19 : decode cX11_undo 19 = .ok (.iconst 1, 1) := dk_4 (dk_at dksX11_undo_0 19 rfl rfl)
theorem dX11_undo_20 : decode cX11_undo 20 = .ok (.isub, 1) := dk_100 (dk_at dksX11_undo_0 20 rfl rfl)
theorem dX11_undo_21 : decode cX11_undo 21 = .ok (.putfield 206, 3) := dk_181 0 206 (dk_at dksX11_undo_0 21 rfl rfl)
theorem dX11_undo_24 : decode cX11_undo 24 = .ok (.aload_n 0, 1) := dk_42 (dk_at dksX11_undo_1 0 rfl rfl)
theorem dX11_undo_25 : decode cX11_undo 25 = .ok (.getfield 79, 3) := dk_180 0 79 (dk_at dksX11_undo_1 1 rfl rfl)
theorem dX11_undo_28 : decode cX11_undo 28 = .ok (.aload_n 0, 1) := dk_42 (dk_at dksX11_undo_1 4 rfl rfl)
theorem dX11_undo_29 : decode cX11_undo 29 = .ok (.getfield 206, 3) := dk_180 0 206 (dk_at dksX11_undo_1 5 rfl rfl)
theorem dX11_undo_32 : decode cX11_undo 32 = .ok (.aaload, 1) := dk_50 (dk_at dksX11_undo_1 8 rfl rfl)
theorem dX11_undo_33 : decode cX11_undo 33 = .ok (.aload_n 0, 1) := dk_42 (dk_at dksX11_undo_1 9 rfl rfl)
theorem dX11_undo_34 : decode cX11_undo 34 = .ok (.getfield 73, 3) := dk_180 0 73 (dk_at dksX11_undo_1 10 rfl rfl)
theorem dX11_undo_37 : decode cX11_undo 37 = .ok (.invokestatic 325, 3) := dk_184 1 69 (dk_at dksX11_undo_1 13 rfl rfl)
theorem dX11_undo_40 : decode cX11_undo 40 = .ok (.aload_n 0, 1) := dk_42 (dk_at dksX11_undo_1 16 rfl rfl)
theorem dX11_undo_41 : decode cX11_undo 41 = .ok (.iconst 0, 1) := dk_3 (dk_at dksX11_undo_1 17 rfl rfl)
theorem dX11_undo_42 : decode cX11_undo 42 = .ok (.putfield 209, 3) := dk_181 0 209 (dk_at dksX11_undo_1 18 rfl rfl)
theorem dX11_undo_45 : decode cX11_undo 45 = .ok (.aload_n 0, 1) := dk_42 (dk_at dksX11_undo_1 21 rfl rfl)
theorem dX11_undo_46 : decode cX11_undo 46 = .ok (.getfield 206, 3) := dk_180 0 206 (dk_at dksX11_undo_2 0 rfl rfl)
theorem dX11_undo_49 : decode cX11_undo 49 = .ok (.ireturn, 1) := dk_172 (dk_at dksX11_undo_2 3 rfl rfl)
def dkwX11_told_10 : List UInt8 := [182, 1, 77, 172]
abbrev dktX11_told_10 : List UInt8 := dkwX11_told_10 ++ []
def dkwX11_told_9 : List UInt8 := [182, 1, 73, 172, 21, 4, 172, 42, 180, 0, 203, 172, 42, 180, 0, 209, 172, 42, 42, 180, 0, 73]
abbrev dktX11_told_9 : List UInt8 := dkwX11_told_9 ++ dktX11_told_10
def dkwX11_told_8 : List UInt8 := [42, 180, 0, 23, 27, 46, 172, 42, 180, 0, 73, 16, 44, 46, 172, 28, 172, 29, 172, 42, 42, 180, 0, 73]
abbrev dktX11_told_8 : List UInt8 := dkwX11_told_8 ++ dktX11_told_9
def dkwX11_told_7 : List UInt8 := [170, 0, 0, 0, 0, 0, 0, 97, 0, 0, 0, 0, 0, 0, 0, 9, 0, 0, 0, 56, 0, 0, 0, 56, 0, 0, 0, 56, 0, 0, 0, 63, 0, 0, 0, 71, 0, 0, 0, 73, 0, 0, 0, 75, 0, 0, 0, 84, 0, 0, 0, 87, 0, 0, 0, 92]
abbrev dktX11_told_7 : List UInt8 := dkwX11_told_7 ++ dktX11_told_8
def dkwX11_told_6 : List UInt8 := [167, 0, 4, 3, 128, 54, 4, 132, 5, 1, 167, 255, 192, 27]
abbrev dktX11_told_6 : List UInt8 := dkwX11_told_6 ++ dktX11_told_7
def dkwX11_told_5 : List UInt8 := [128, 62, 21, 4, 42, 180, 0, 73, 16, 26, 21, 5, 96, 46, 4, 160, 0, 10, 4, 21, 5, 120]
abbrev dktX11_told_5 : List UInt8 := dkwX11_told_5 ++ dktX11_told_6
def dkwX11_told_4 : List UInt8 := [162, 0, 59, 29, 42, 180, 0, 73, 21, 5, 184, 1, 11, 153, 0, 10, 4, 21, 5, 120, 167, 0, 4, 3]
abbrev dktX11_told_4 : List UInt8 := dkwX11_told_4 ++ dktX11_told_5
def dkwX11_told_3 : List UInt8 := [167, 0, 4, 3, 128, 61, 132, 5, 1, 167, 255, 219, 3, 54, 5, 21, 5, 42, 180, 0, 23, 4, 46]
abbrev dktX11_told_3 : List UInt8 := dkwX11_told_3 ++ dktX11_told_4
def dkwX11_told_2 : List UInt8 := [3, 46, 162, 0, 32, 28, 42, 180, 0, 73, 3, 21, 5, 96, 46, 154, 0, 10, 4, 21, 5, 120]
abbrev dktX11_told_2 : List UInt8 := dkwX11_told_2 ++ dktX11_told_3
def dkwX11_told_1 : List UInt8 := [182, 0, 183, 153, 0, 5, 3, 172, 3, 61, 3, 62, 3, 54, 4, 3, 54, 5, 21, 5, 42, 180, 0, 23]
abbrev dktX11_told_1 : List UInt8 := dkwX11_told_1 ++ dktX11_told_2
def dkwX11_told_0 : List UInt8 := [42, 3, 181, 0, 103, 42, 27, 3, 16, 10, 184, 0, 137, 154, 0, 7, 4, 167, 0, 4, 3, 4, 4]
abbrev dktX11_told_0 : List UInt8 := dkwX11_told_0 ++ dktX11_told_1
theorem dksX11_told_0 : cX11_told.data.toList.drop 0 = dktX11_told_0 := by decide +kernel
theorem dksX11_told_1 : cX11_told.data.toList.drop 23 = dktX11_told_1 := dk_seg dksX11_told_0 23 rfl rfl
theorem dksX11_told_2 : cX11_told.data.toList.drop 47 = dktX11_told_2 := dk_seg dksX11_told_1 24 rfl rfl
theorem dksX11_told_3 : cX11_told.data.toList.drop 69 = dktX11_told_3 := dk_seg dksX11_told_2 22 rfl rfl
theorem dksX11_told_4 : cX11_told.data.toList.drop 92 = dktX11_told_4 := dk_seg dksX11_told_3 23 rfl rfl
theorem dksX11_told_5 : cX11_told.data.toList.drop 116 = dktX11_told_5 := dk_seg dksX11_told_4 24 rfl rfl
theorem dksX11_told_6 : cX11_told.data.toList.drop 138 = dktX11_told_6 := dk_seg dksX11_told_5 22 rfl rfl
theorem dksX11_told_7 : cX11_told.data.toList.drop 152 = dktX11_told_7 := dk_seg dksX11_told_6 14 rfl rfl
theorem dksX11_told_8 : cX11_told.data.toList.drop 208 = dktX11_told_8 := dk_seg dksX11_told_7 56 rfl rfl
theorem dksX11_told_9 : cX11_told.data.toList.drop 232 = dktX11_told_9 := dk_seg dksX11_told_8 24 rfl rfl
theorem dksX11_told_10 : cX11_told.data.toList.drop 254 = dktX11_told_10 := dk_seg dksX11_told_9 22 rfl rfl
theorem dX11_told_0 : decode cX11_told 0 = .ok (.aload_n 0, 1) := dk_42 (dk_at dksX11_told_0 0 rfl rfl)
theorem dX11_told_1 : decode cX11_told 1 = .ok (.iconst 0, 1) := dk_3 (dk_at dksX11_told_0 1 rfl rfl)
theorem dX11_told_2 : decode cX11_told 2 = .ok (.putfield 103, 3) := dk_181 0 103 (dk_at dksX11_told_0 2 rfl rfl)
theorem dX11_told_5 : decode cX11_told 5 = .ok (.aload_n 0, 1) := dk_42 (dk_at dksX11_told_0 5 rfl rfl)
theorem dX11_told_6 : decode cX11_told 6 = .ok (.iload_n 1, 1) := dk_27 (dk_at dksX11_told_0 6 rfl rfl)
theorem dX11_told_7 : decode cX11_told 7 = .ok (.iconst 0, 1) := dk_3 (dk_at dksX11_told_0 7 rfl rfl)
theorem dX11_told_8 : decode cX11_told 8 = .ok (.bipush 10, 2) := dk_16 10 (dk_at dksX11_told_0 8 rfl rfl)
theorem dX11_told_10 : decode cX11_told 10 = .ok (.invokestatic 137, 3) := dk_184 0 137 (dk_at dksX11_told_0 10 rfl rfl)
theorem dX11_told_13 : decode cX11_told 13 = .ok (.ifCond .ne 7, 3) := dk_154 0 7 (dk_at dksX11_told_0 13 rfl rfl)
theorem dX11_told_16 : decode cX11_told 16 = .ok (.iconst 1, 1) := dk_4 (dk_at dksX11_told_0 16 rfl rfl)
theorem dX11_told_17 : decode cX11_told 17 = .ok (.goto 4, 3) := dk_167 0 4 (dk_at dksX11_told_0 17 rfl rfl)
theorem dX11_told_20 : decode cX11_told 20 = .ok (.iconst 0, 1) := dk_3 (dk_at dksX11_told_0 20 rfl rfl)
theorem dX11_told_21 : decode cX11_told 21 = .ok (.iconst 1, 1) := dk_4 (dk_at dksX11_told_0 21 rfl rfl)
theorem dX11_told_22 : decode cX11_told 22 = .ok (.iconst 1, 1) := dk_4 (dk_at dksX11_told_0 22 rfl rfl)
theorem dX11_told_23 : decode cX11_told 23 = .ok (.invokevirtual 183, 3) := dk_182 0 183 (dk_at dksX11_told_1 0 rfl rfl)
theorem dX11_told_26 : decode cX11_told 26 = .ok (.ifCond .eq 5, 3) := dk_153 0 5 (dk_at dksX11_told_1 3 rfl rfl)
theorem dX11_told_29 : decode cX11_told 29 = .ok (.iconst 0, 1) := dk_3 (dk_at dksX11_told_1 6 rfl rfl)
theorem dX11_told_30 : decode cX11_told 30 = .ok (.ireturn, 1) := dk_172 (dk_at dksX11_told_1 7 rfl rfl)
theorem dX11_told_31 : decode cX11_told 31 = .ok (.iconst 0, 1) := dk_3 (dk_at dksX11_told_1 8 rfl rfl)
theorem dX11_told_32 : decode cX11_told 32 = .ok (.istore_n 2, 1) := dk_61 (dk_at dksX11_told_1 9 rfl rfl)
theorem dX11_told_33 : decode cX11_told 33 = .ok (.iconst 0, 1) := dk_3 (dk_at dksX11_told_1 10 rfl rfl)
theorem dX11_told_34 : decode cX11_told 34 = .ok (.istore_n 3, 1) := dk_62 (dk_at dksX11_told_1 11 rfl rfl)
theorem dX11_told_35 : decode cX11_told 35 = .ok (.iconst 0, 1) := dk_3 (dk_at dksX11_told_1 12 rfl rfl)
theorem dX11_told_36 : decode cX11_told 36 = .ok (.istore 4, 2) := dk_54 4 (dk_at dksX11_told_1 13 rfl rfl)
theorem dX11_told_38 : decode cX11_told 38 = .ok (.iconst 0, 1) := dk_3 (dk_at dksX11_told_1 15 rfl rfl)
theorem dX11_told_39 : decode cX11_told 39 = .ok (.istore 5, 2) := dk_54 5 (dk_at dksX11_told_1 16 rfl rfl)
theorem dX11_told_41 : decode cX11_told 41 = .ok (.iload 5, 2) := dk_21 5 (dk_at dksX11_told_1 18 rfl rfl)
theorem dX11_told_43 : decode cX11_told 43 = .ok (.aload_n 0, 1) := dk_42 (dk_at dksX11_told_1 20 rfl rfl)
theorem dX11_told_44 : decode cX11_told 44 = .ok (.getfield 23, 3) := dk_180 0 23 (dk_at dksX11_told_1 21 rfl rfl)
theorem dX11_told_47 : decode cX11_told 47 = .ok (.iconst 0, 1) := dk_3 (dk_at dksX11_told_2 0 rfl rfl)
theorem dX11_told_48 : decode cX11_told 48 = .ok (.iaload, 1) := dk_46 (dk_at dksX11_told_2 1 rfl rfl)
theorem dX11_told_49 : decode cX11_told 49 = .ok (.if_icmp .ge 32, 3) := dk_162 0 32 (dk_at dksX11_told_2 2 rfl rfl)
theorem dX11_told_52 : decode cX11_told 52 = .ok (.iload_n 2, 1) := dk_28 (dk_at dksX11_told_2 5 rfl rfl)
theorem dX11_told_53 : decode cX11_told 53 = .ok (.aload_n 0, 1) := dk_42 (dk_at dksX11_told_2 6 rfl rfl)
theorem dX11_told_54 : decode cX11_told 54 = .ok (.getfield 73, 3) := dk_180 0 73 (dk_at dksX11_told_2 7 rfl rfl)
theorem dX11_told_57 : decode cX11_told 57 = .ok (.iconst 0, 1) := dk_3 (dk_at dksX11_told_2 10 rfl rfl)
theorem dX11_told_58 : decode cX11_told 58 = .ok (.iload 5, 2) := dk_21 5 (dk_at dksX11_told_2 11 rfl rfl)
theorem dX11_told_60 : decode cX11_told 60 = .ok (.iadd, 1) := dk_96 (dk_at dksX11_told_2 13 rfl rfl)
theorem dX11_told_61 : decode cX11_told 61 = .ok (.iaload, 1) := dk_46 (dk_at dksX11_told_2 14 rfl rfl)
theorem dX11_told_62 : decode cX11_told 62 = .ok (.ifCond .ne 10, 3) := dk_154 0 10 (dk_at dksX11_told_2 15 rfl rfl)
theorem dX11_told_65 : decode cX11_told 65 = .ok (.iconst 1, 1) := dk_4 (dk_at dksX11_told_2 18 rfl rfl)
theorem dX11_told_66 : decode cX11_told 66 = .ok (.iload 5, 2) := dk_21 5 (dk_at dksX11_told_2 19 rfl rfl)
theorem dX11_told_68 : decode cX11_told 68 = .ok (.ishl, 1) := dk_120 (dk_at dksX11_told_2 21 rfl rfl)
theorem dX11_told_69 : decode cX11_told 69 = .ok (.goto 4, 3) := dk_167 0 4 (dk_at dksX11_told_3 0 rfl rfl)
theorem dX11_told_72 : decode cX11_told 72 = .ok (.iconst 0, 1) := dk_3 (dk_at dksX11_told_3 3 rfl rfl)
theorem dX11_told_73 : decode cX11_told 73 = .ok (.ior, 1) := dk_128 (dk_at dksX11_told_3 4 rfl rfl)
theorem dX11_told_74 : decode cX11_told 74 = .ok (.istore_n 2, 1) := dk_61 (dk_at dksX11_told_3 5 rfl rfl)
theorem dX11_told_75 : decode cX11_told 75 = .ok (.iinc 5 1, 3) := dk_132 5 1 (dk_at dksX11_told_3 6 rfl rfl)
theorem dX11_told_78 : decode cX11_told 78 = .ok (.goto (-37), 3) := dk_167 255 219 (dk_at dksX11_told_3 9 rfl rfl)
theorem dX11_told_81 : decode cX11_told 81 = .ok (.iconst 0, 1) := dk_3 (dk_at dksX11_told_3 12 rfl rfl)
theorem dX11_told_82 : decode cX11_told 82 = .ok (.istore 5, 2) := dk_54 5 (dk_at dksX11_told_3 13 rfl rfl)
theorem dX11_told_84 : decode cX11_told 84 = .ok (.iload 5, 2) := dk_21 5 (dk_at dksX11_told_3 15 rfl rfl)
theorem dX11_told_86 : decode cX11_told 86 = .ok (.aload_n 0, 1) := dk_42 (dk_at dksX11_told_3 17 rfl rfl)
theorem dX11_told_87 : decode cX11_told 87 = .ok (.getfield 23, 3) := dk_180 0 23 (dk_at dksX11_told_3 18 rfl rfl)
theorem dX11_told_90 : decode cX11_told 90 = .ok (.iconst 1, 1) := dk_4 (dk_at dksX11_told_3 21 rfl rfl)
theorem dX11_told_91 : decode cX11_told 91 = .ok (.iaload, 1) := dk_46 (dk_at dksX11_told_3 22 rfl rfl)
theorem dX11_told_92 : decode cX11_told 92 = .ok (.if_icmp .ge 59, 3) := dk_162 0 59 (dk_at dksX11_told_4 0 rfl rfl)
theorem dX11_told_95 : decode cX11_told 95 = .ok (.iload_n 3, 1) := dk_29 (dk_at dksX11_told_4 3 rfl rfl)
theorem dX11_told_96 : decode cX11_told 96 = .ok (.aload_n 0, 1) := dk_42 (dk_at dksX11_told_4 4 rfl rfl)
theorem dX11_told_97 : decode cX11_told 97 = .ok (.getfield 73, 3) := dk_180 0 73 (dk_at dksX11_told_4 5 rfl rfl)
theorem dX11_told_100 : decode cX11_told 100 = .ok (.iload 5, 2) := dk_21 5 (dk_at dksX11_told_4 8 rfl rfl)
theorem dX11_told_102 : decode cX11_told 102 = .ok (.invokestatic 267, 3) := dk_184 1 11 (dk_at dksX11_told_4 10 rfl rfl)
theorem dX11_told_105 : decode cX11_told 105 = .ok (.ifCond .eq 10, 3) := dk_153 0 10 (dk_at dksX11_told_4 13 rfl rfl)
theorem dX11_told_108 : decode cX11_told 108 = .ok (.iconst 1, 1) := dk_4 (dk_at dksX11_told_4 16 rfl rfl)
theorem dX11_told_109 : decode cX11_told 109 = .ok (.iload 5, 2) := dk_21 5 (dk_at dksX11_told_4 17 rfl rfl)
theorem dX11_told_111 : decode cX11_told 111 = .ok (.ishl, 1) := dk_120 (dk_at dksX11_told_4 19 rfl rfl)
theorem dX11_told_112 : decode cX11_told 112 = .ok (.goto 4, 3) := dk_167 0 4 (dk_at dksX11_told_4 20 rfl rfl)
theorem dX11_told_115 : decode cX11_told 115 = .ok (.iconst 0, 1) := dk_3 (dk_at dksX11_told_4 23 rfl rfl)
theorem dX11_told_116 : decode cX11_told 116 = .ok (.ior, 1) := dk_128 (dk_at dksX11_told_5 0 rfl rfl)
theorem dX11_told_117 : decode cX11_told 117 = .ok (.istore_n 3, 1) := dk_62 (dk_at dksX11_told_5 1 rfl rfl)
theorem dX11_told_118 : decode cX11_told 118 = .ok (.iload 4, 2) := dk_21 4 (dk_at dksX11_told_5 2 rfl rfl)
theorem dX11_told_120 : decode cX11_told 120 = .ok (.aload_n 0, 1) := dk_42 (dk_at dksX11_told_5 4 rfl rfl)
theorem dX11_told_121 : decode cX11_told 121 = .ok (.getfield 73, 3) := dk_180 0 73 (dk_at dksX11_told_5 5 rfl rfl)
theorem dX11_told_124 : decode cX11_told 124 = .ok (.bipush 26, 2) := dk_16 26 (dk_at dksX11_told_5 8 rfl rfl)
theorem dX11_told_126 : decode cX11_told 126 = .ok (.iload 5, 2) := dk_21 5 (dk_at dksX11_told_5 10 rfl rfl)
theorem dX11_told_128 : decode cX11_told 128 = .ok (.iadd, 1) := dk_96 (dk_at dksX11_told_5 12 rfl rfl)
theorem dX11_told_129 : decode cX11_told 129 = .ok (.iaload, 1) := dk_46 (dk_at dksX11_told_5 13 rfl rfl)
theorem dX11_told_130 : decode cX11_told 130 = .ok (.iconst 1, 1) := dk_4 (dk_at dksX11_told_5 14 rfl rfl)
theorem dX11_told_131 : decode cX11_told 131 = .ok (.if_icmp .ne 10, 3) := dk_160 0 10 (dk_at dksX11_told_5 15 rfl rfl)
theorem dX11_told_134 : decode cX11_told 134 = .ok (.iconst 1, 1) := dk_4 (dk_at dksX11_told_5 18 rfl rfl)
theorem dX11_told_135 : decode cX11_told 135 = .ok (.iload 5, 2) := dk_21 5 (dk_at dksX11_told_5 19 rfl rfl)
theorem dX11_told_137 : decode cX11_told 137 = .ok (.ishl, 1) := dk_120 (dk_at dksX11_told_5 21 rfl rfl)
theorem dX11_told_138 : decode cX11_told 138 = .ok (.goto 4, 3) := dk_167 0 4 (dk_at dksX11_told_6 0 rfl rfl)
theorem dX11_told_141 : decode cX11_told 141 = .ok (.iconst 0, 1) := dk_3 (dk_at dksX11_told_6 3 rfl rfl)
theorem dX11_told_142 : decode cX11_told 142 = .ok (.ior, 1) := dk_128 (dk_at dksX11_told_6 4 rfl rfl)
theorem dX11_told_143 : decode cX11_told 143 = .ok (.istore 4, 2) := dk_54 4 (dk_at dksX11_told_6 5 rfl rfl)
theorem dX11_told_145 : decode cX11_told 145 = .ok (.iinc 5 1, 3) := dk_132 5 1 (dk_at dksX11_told_6 7 rfl rfl)
theorem dX11_told_148 : decode cX11_told 148 = .ok (.goto (-64), 3) := dk_167 255 192 (dk_at dksX11_told_6 10 rfl rfl)
theorem dX11_told_151 : decode cX11_told 151 = .ok (.iload_n 1, 1) := dk_27 (dk_at dksX11_told_6 13 rfl rfl)
theorem dX11_told_152 : decode cX11_told 152 = .ok (.tableswitch 97 0 9 #[56, 56, 56, 63, 71, 73, 75, 84, 87, 92], 56) := by decide +kernel
theorem dX11_told_208 : decode cX11_told 208 = .ok (.aload_n 0, 1) := dk_42 (dk_at dksX11_told_8 0 rfl rfl)
theorem dX11_told_209 : decode cX11_told 209 = .ok (.getfield 23, 3) := dk_180 0 23 (dk_at dksX11_told_8 1 rfl rfl)
theorem dX11_told_212 : decode cX11_told 212 = .ok (.iload_n 1, 1) := dk_27 (dk_at dksX11_told_8 4 rfl rfl)
theorem dX11_told_213 : decode cX11_told 213 = .ok (.iaload, 1) := dk_46 (dk_at dksX11_told_8 5 rfl rfl)
theorem dX11_told_214 : decode cX11_told 214 = .ok (.ireturn, 1) := dk_172 (dk_at dksX11_told_8 6 rfl rfl)
theorem dX11_told_215 : decode cX11_told 215 = .ok (.aload_n 0, 1) := dk_42 (dk_at dksX11_told_8 7 rfl rfl)
theorem dX11_told_216 : decode cX11_told 216 = .ok (.getfield 73, 3) := dk_180 0 73 (dk_at dksX11_told_8 8 rfl rfl)
theorem dX11_told_219 : decode cX11_told 219 = .ok (.bipush 44, 2) := dk_16 44 (dk_at dksX11_told_8 11 rfl rfl)
theorem dX11_told_221 : decode cX11_told 221 = .ok (.iaload, 1) := dk_46 (dk_at dksX11_told_8 13 rfl rfl)
theorem dX11_told_222 : decode cX11_told 222 = .ok (.ireturn, 1) := dk_172 (dk_at dksX11_told_8 14 rfl rfl)
theorem dX11_told_223 : decode cX11_told 223 = .ok (.iload_n 2, 1) := dk_28 (dk_at dksX11_told_8 15 rfl rfl)
theorem dX11_told_224 : decode cX11_told 224 = .ok (.ireturn, 1) := dk_172 (dk_at dksX11_told_8 16 rfl rfl)
theorem dX11_told_225 : decode cX11_told 225 = .ok (.iload_n 3, 1) := dk_29 (dk_at dksX11_told_8 17 rfl rfl)
theorem dX11_told_226 : decode cX11_told 226 = .ok (.ireturn, 1) := dk_172 (dk_at dksX11_told_8 18 rfl rfl)
theorem dX11_told_227 : decode cX11_told 227 = .ok (.aload_n 0, 1) := dk_42 (dk_at dksX11_told_8 19 rfl rfl)
theorem dX11_told_228 : decode cX11_told 228 = .ok (.aload_n 0, 1) := dk_42 (dk_at dksX11_told_8 20 rfl rfl)
theorem dX11_told_229 : decode cX11_told 229 = .ok (.getfield 73, 3) := dk_180 0 73 (dk_at dksX11_told_8 21 rfl rfl)
theorem dX11_told_232 : decode cX11_told 232 = .ok (.invokevirtual 329, 3) := dk_182 1 73 (dk_at dksX11_told_9 0 rfl rfl)
theorem dX11_told_235 : decode cX11_told 235 = .ok (.ireturn, 1) := dk_172 (dk_at dksX11_told_9 3 rfl rfl)
theorem dX11_told_236 : decode cX11_told 236 = .ok (.iload 4, 2) := dk_21 4 (dk_at dksX11_told_9 4 rfl rfl)
theorem dX11_told_238 : decode cX11_told 238 = .ok (.ireturn, 1) := dk_172 (dk_at dksX11_told_9 6 rfl rfl)
theorem dX11_told_239 : decode cX11_told 239 = .ok (.aload_n 0, 1) := dk_42 (dk_at dksX11_told_9 7 rfl rfl)
theorem dX11_told_240 : decode cX11_told 240 = .ok (.getfield 203, 3) := dk_180 0 203 (dk_at dksX11_told_9 8 rfl rfl)
theorem dX11_told_243 : decode cX11_told 243 = .ok (.ireturn, 1) := dk_172 (dk_at dksX11_told_9 11 rfl rfl)
theorem dX11_told_244 : decode cX11_told 244 = .ok (.aload_n 0, 1) := dk_42 (dk_at dksX11_told_9 12 rfl rfl)
theorem dX11_told_245 : decode cX11_told 245 = .ok (.getfield 209, 3) := dk_180 0 209 (dk_at dksX11_told_9 13 rfl rfl)
theorem dX11_told_248 : decode cX11_told 248 = .ok (.ireturn, 1) := dk_172 (dk_at dksX11_told_9 16 rfl rfl)
theorem dX11_told_249 : decode cX11_told 249 = .ok (.aload_n 0, 1) := dk_42 (dk_at dksX11_told_9 17 rfl rfl)
theorem dX11_told_250 : decode cX11_told 250 = .ok (.aload_n 0, 1) := dk_42 (dk_at dksX11_told_9 18 rfl rfl)
theorem dX11_told_251 : decode cX11_told 251 = .ok (.getfield 73, 3) := dk_180 0 73 (dk_at dksX11_told_9 19 rfl rfl)
theorem dX11_told_254 : decode cX11_told 254 = .ok (.invokevirtual 333, 3) := dk_182 1 77 (dk_at dksX11_told_10 0 rfl rfl)
theorem dX11_told_257 : decode cX11_told 257 = .ok (.ireturn, 1) := dk_172 (dk_at dksX11_told_10 3 rfl rfl)
def dkwX11_curedIn_1 : List UInt8 := [160, 0, 7, 3, 167, 0, 6, 4, 29, 120, 128, 61, 132, 3, 1, 167, 255, 223, 28, 172]
abbrev dktX11_curedIn_1 : List UInt8 := dkwX11_curedIn_1 ++ []
def dkwX11_curedIn_0 : List UInt8 := [3, 61, 3, 62, 29, 42, 180, 0, 23, 5, 46, 162, 0, 29, 28, 43, 16, 36, 29, 96, 46, 2]
abbrev dktX11_curedIn_0 : List UInt8 := dkwX11_curedIn_0 ++ dktX11_curedIn_1
theorem dksX11_curedIn_0 : cX11_curedIn.data.toList.drop 0 = dktX11_curedIn_0 := by decide +kernel
theorem dksX11_curedIn_1 : cX11_curedIn.data.toList.drop 22 = dktX11_curedIn_1 := dk_seg dksX11_curedIn_0 22 rfl rfl
theorem dX11_curedIn_0 : decode cX11_curedIn 0 = .ok (.iconst 0, 1) := dk_3 (dk_at dksX11_curedIn_0 0 rfl rfl)
theorem dX11_curedIn_1 : decode cX11_curedIn 1 = .ok (.istore_n 2, 1) := dk_61 (dk_at dksX11_curedIn_0 1 rfl rfl)
theorem dX11_curedIn_2 : decode cX11_curedIn 2 = .ok (.iconst 0, 1) := dk_3 (dk_at dksX11_curedIn_0 2 rfl rfl)
theorem dX11_curedIn_3 : decode cX11_curedIn 3 = .ok (.istore_n 3, 1) := dk_62 (dk_at dksX11_curedIn_0 3 rfl rfl)
theorem dX11_curedIn_4 : decode cX11_curedIn 4 = .ok (.iload_n 3, 1) := dk_29 (dk_at dksX11_curedIn_0 4 rfl rfl)
theorem dX11_curedIn_5 : decode cX11_curedIn 5 = .ok (.aload_n 0, 1) := dk_42 (dk_at dksX11_curedIn_0 5 rfl rfl)
theorem dX11_curedIn_6 : decode cX11_curedIn 6 = .ok (.getfield 23, 3) := dk_180 0 23 (dk_at dksX11_curedIn_0 6 rfl rfl)
theorem dX11_curedIn_9 : decode cX11_curedIn 9 = .ok (.iconst 2, 1) := dk_5 (dk_at dksX11_curedIn_0 9 rfl rfl)
theorem dX11_curedIn_10 : decode cX11_curedIn 10 = .ok (.iaload, 1) := dk_46 (dk_at dksX11_curedIn_0 10 rfl rfl)
theorem dX11_curedIn_11 : decode cX11_curedIn 11 = .ok (.if_icmp .ge 29, 3) := dk_162 0 29 (dk_at dksX11_curedIn_0 11 rfl rfl)
theorem dX11_curedIn_14 : decode cX11_curedIn 14 = .ok (.iload_n 2, 1) := dk_28 (dk_at dksX11_curedIn_0 14 rfl rfl)
theorem dX11_curedIn_15 : decode cX11_curedIn 15 = .ok (.aload_n 1, 1) := dk_43 (dk_at dksX11_curedIn_0 15 rfl rfl)
theorem dX11_curedIn_16 : decode cX11_curedIn 16 = .ok (.bipush 36, 2) := dk_16 36 (dk_at dksX11_curedIn_0 16 rfl rfl)
theorem dX11_curedIn_18 : decode cX11_curedIn 18 = .ok (.iload_n 3, 1) := dk_29 (dk_at dksX11_curedIn_0 18 rfl rfl)
theorem dX11_curedIn_19 : decode cX11_curedIn 19 = .ok (.iadd, 1) := dk_96 (dk_at dksX11_curedIn_0 19 rfl rfl)
theorem dX11_curedIn_20 : decode cX11_curedIn 20 = .ok (.iaload, 1) := dk_46 (dk_at dksX11_curedIn_0 20 rfl rfl)
theorem dX11_curedIn_21 : decode cX11_curedIn 21 = .ok (.iconst (-1), 1) := dk_2 (dk_at dksX11_curedIn_0 21 rfl rfl)
theorem dX11_curedIn_22 : decode cX11_curedIn 22 = .ok (.if_icmp .ne 7, 3) := dk_160 0 7 (dk_at dksX11_curedIn_1 0 rfl rfl)
theorem dX11_curedIn_25 : decode cX11_curedIn 25 = .ok (.iconst 0, 1) := dk_3 (dk_at dksX11_curedIn_1 3 rfl rfl)
theorem dX11_curedIn_26 : decode cX11_curedIn 26 = .ok (.goto 6, 3) := dk_167 0 6 (dk_at dksX11_curedIn_1 4 rfl rfl)
theorem dX11_curedIn_29 : decode cX11_curedIn 29 = .ok (.iconst 1, 1) := dk_4 (dk_at dksX11_curedIn_1 7 rfl rfl)
theorem dX11_curedIn_30 : decode cX11_curedIn 30 = .ok (.iload_n 3, 1) := dk_29 (dk_at dksX11_curedIn_1 8 rfl rfl)
theorem dX11_curedIn_31 : decode cX11_curedIn 31 = .ok (.ishl, 1) := dk_120 (dk_at dksX11_curedIn_1 9 rfl rfl)
theorem dX11_curedIn_32 : decode cX11_curedIn 32 = .ok (.ior, 1) := dk_128 (dk_at dksX11_curedIn_1 10 rfl rfl)
theorem dX11_curedIn_33 : decode cX11_curedIn 33 = .ok (.istore_n 2, 1) := dk_61 (dk_at dksX11_curedIn_1 11 rfl rfl)
theorem dX11_curedIn_34 : decode cX11_curedIn 34 = .ok (.iinc 3 1, 3) := dk_132 3 1 (dk_at dksX11_curedIn_1 12 rfl rfl)
theorem dX11_curedIn_37 : decode cX11_curedIn 37 = .ok (.goto (-33), 3) := dk_167 255 223 (dk_at dksX11_curedIn_1 15 rfl rfl)
theorem dX11_curedIn_40 : decode cX11_curedIn 40 = .ok (.iload_n 2, 1) := dk_28 (dk_at dksX11_curedIn_1 18 rfl rfl)
theorem dX11_curedIn_41 : decode cX11_curedIn 41 = .ok (.ireturn, 1) := dk_172 (dk_at dksX11_curedIn_1 19 rfl rfl)
def dkwX11_powersIn_1 : List UInt8 := [132, 3, 1, 167, 255, 234, 28, 172]
abbrev dktX11_powersIn_1 : List UInt8 := dkwX11_powersIn_1 ++ []
def dkwX11_powersIn_0 : List UInt8 := [3, 61, 3, 62, 29, 42, 180, 0, 23, 4, 46, 162, 0, 18, 28, 42, 43, 29, 182, 1, 33, 96, 61]
abbrev dktX11_powersIn_0 : List UInt8 := dkwX11_powersIn_0 ++ dktX11_powersIn_1
theorem dksX11_powersIn_0 : cX11_powersIn.data.toList.drop 0 = dktX11_powersIn_0 := by decide +kernel
theorem dksX11_powersIn_1 : cX11_powersIn.data.toList.drop 23 = dktX11_powersIn_1 := dk_seg dksX11_powersIn_0 23 rfl rfl
theorem dX11_powersIn_0 : decode cX11_powersIn 0 = .ok (.iconst 0, 1) := dk_3 (dk_at dksX11_powersIn_0 0 rfl rfl)
theorem dX11_powersIn_1 : decode cX11_powersIn 1 = .ok (.istore_n 2, 1) := dk_61 (dk_at dksX11_powersIn_0 1 rfl rfl)
theorem dX11_powersIn_2 : decode cX11_powersIn 2 = .ok (.iconst 0, 1) := dk_3 (dk_at dksX11_powersIn_0 2 rfl rfl)
theorem dX11_powersIn_3 : decode cX11_powersIn 3 = .ok (.istore_n 3, 1) := dk_62 (dk_at dksX11_powersIn_0 3 rfl rfl)
theorem dX11_powersIn_4 : decode cX11_powersIn 4 = .ok (.iload_n 3, 1) := dk_29 (dk_at dksX11_powersIn_0 4 rfl rfl)
theorem dX11_powersIn_5 : decode cX11_powersIn 5 = .ok (.aload_n 0, 1) := dk_42 (dk_at dksX11_powersIn_0 5 rfl rfl)
theorem dX11_powersIn_6 : decode cX11_powersIn 6 = .ok (.getfield 23, 3) := dk_180 0 23 (dk_at dksX11_powersIn_0 6 rfl rfl)
theorem dX11_powersIn_9 : decode cX11_powersIn 9 = .ok (.iconst 1, 1) := dk_4 (dk_at dksX11_powersIn_0 9 rfl rfl)
theorem dX11_powersIn_10 : decode cX11_powersIn 10 = .ok (.iaload, 1) := dk_46 (dk_at dksX11_powersIn_0 10 rfl rfl)
theorem dX11_powersIn_11 : decode cX11_powersIn 11 = .ok (.if_icmp .ge 18, 3) := dk_162 0 18 (dk_at dksX11_powersIn_0 11 rfl rfl)
theorem dX11_powersIn_14 : decode cX11_powersIn 14 = .ok (.iload_n 2, 1) := dk_28 (dk_at dksX11_powersIn_0 14 rfl rfl)
theorem dX11_powersIn_15 : decode cX11_powersIn 15 = .ok (.aload_n 0, 1) := dk_42 (dk_at dksX11_powersIn_0 15 rfl rfl)
theorem dX11_powersIn_16 : decode cX11_powersIn 16 = .ok (.aload_n 1, 1) := dk_43 (dk_at dksX11_powersIn_0 16 rfl rfl)
theorem dX11_powersIn_17 : decode cX11_powersIn 17 = .ok (.iload_n 3, 1) := dk_29 (dk_at dksX11_powersIn_0 17 rfl rfl)
theorem dX11_powersIn_18 : decode cX11_powersIn 18 = .ok (.invokevirtual 289, 3) := dk_182 1 33 (dk_at dksX11_powersIn_0 18 rfl rfl)
theorem dX11_powersIn_21 : decode cX11_powersIn 21 = .ok (.iadd, 1) := dk_96 (dk_at dksX11_powersIn_0 21 rfl rfl)
theorem dX11_powersIn_22 : decode cX11_powersIn 22 = .ok (.istore_n 2, 1) := dk_61 (dk_at dksX11_powersIn_0 22 rfl rfl)
theorem dX11_powersIn_23 : decode cX11_powersIn 23 = .ok (.iinc 3 1, 3) := dk_132 3 1 (dk_at dksX11_powersIn_1 0 rfl rfl)
theorem dX11_powersIn_26 : decode cX11_powersIn 26 = .ok (.goto (-22), 3) := dk_167 255 234 (dk_at dksX11_powersIn_1 3 rfl rfl)
theorem dX11_powersIn_29 : decode cX11_powersIn 29 = .ok (.iload_n 2, 1) := dk_28 (dk_at dksX11_powersIn_1 6 rfl rfl)
theorem dX11_powersIn_30 : decode cX11_powersIn 30 = .ok (.ireturn, 1) := dk_172 (dk_at dksX11_powersIn_1 7 rfl rfl)
def dkwX11_sister_7 : List UInt8 := [27, 182, 1, 18, 172, 42, 180, 0, 35, 27, 46, 172]
abbrev dktX11_sister_7 : List UInt8 := dkwX11_sister_7 ++ []
def dkwX11_sister_6 : List UInt8 := [42, 180, 0, 29, 27, 46, 172, 42, 180, 0, 73, 16, 8, 27, 96, 46, 172, 29, 172, 42, 42, 180, 0, 73]
abbrev dktX11_sister_6 : List UInt8 := dkwX11_sister_6 ++ dktX11_sister_7
def dkwX11_sister_5 : List UInt8 := [170, 0, 0, 0, 58, 0, 0, 0, 0, 0, 0, 0, 3, 0, 0, 0, 29, 0, 0, 0, 36, 0, 0, 0, 46, 0, 0, 0, 48]
abbrev dktX11_sister_5 : List UInt8 := dkwX11_sister_5 ++ dktX11_sister_6
def dkwX11_sister_4 : List UInt8 := [132, 4, 1, 167, 255, 218, 28]
abbrev dktX11_sister_4 : List UInt8 := dkwX11_sister_4 ++ dktX11_sister_5
def dkwX11_sister_3 : List UInt8 := [180, 0, 43, 21, 4, 50, 3, 46, 27, 160, 0, 10, 4, 21, 4, 120, 167, 0, 4, 3, 128, 62]
abbrev dktX11_sister_3 : List UInt8 := dkwX11_sister_3 ++ dktX11_sister_4
def dkwX11_sister_2 : List UInt8 := [153, 0, 5, 3, 172, 3, 62, 3, 54, 4, 21, 4, 42, 180, 0, 23, 4, 46, 162, 0, 33, 29, 42]
abbrev dktX11_sister_2 : List UInt8 := dkwX11_sister_2 ++ dktX11_sister_3
def dkwX11_sister_1 : List UInt8 := [154, 0, 26, 42, 28, 3, 7, 184, 0, 137, 154, 0, 7, 4, 167, 0, 4, 3, 5, 4, 182, 0, 183]
abbrev dktX11_sister_1 : List UInt8 := dkwX11_sister_1 ++ dktX11_sister_2
def dkwX11_sister_0 : List UInt8 := [42, 3, 181, 0, 103, 42, 42, 27, 182, 1, 80, 154, 0, 7, 4, 167, 0, 4, 3, 4, 3, 182, 0, 183]
abbrev dktX11_sister_0 : List UInt8 := dkwX11_sister_0 ++ dktX11_sister_1
theorem dksX11_sister_0 : cX11_sister.data.toList.drop 0 = dktX11_sister_0 := by decide +kernel
theorem dksX11_sister_1 : cX11_sister.data.toList.drop 24 = dktX11_sister_1 := dk_seg dksX11_sister_0 24 rfl rfl
theorem dksX11_sister_2 : cX11_sister.data.toList.drop 47 = dktX11_sister_2 := dk_seg dksX11_sister_1 23 rfl rfl
theorem dksX11_sister_3 : cX11_sister.data.toList.drop 70 = dktX11_sister_3 := dk_seg dksX11_sister_2 23 rfl rfl
theorem dksX11_sister_4 : cX11_sister.data.toList.drop 92 = dktX11_sister_4 := dk_seg dksX11_sister_3 22 rfl rfl
theorem dksX11_sister_5 : cX11_sister.data.toList.drop 99 = dktX11_sister_5 := dk_seg dksX11_sister_4 7 rfl rfl
theorem dksX11_sister_6 : cX11_sister.data.toList.drop 128 = dktX11_sister_6 := dk_seg dksX11_sister_5 29 rfl rfl
theorem dksX11_sister_7 : cX11_sister.data.toList.drop 152 = dktX11_sister_7 := dk_seg dksX11_sister_6 24 rfl rfl
theorem dX11_sister_0 : decode cX11_sister 0 = .ok (.aload_n 0, 1) := dk_42 (dk_at dksX11_sister_0 0 rfl rfl)
theorem dX11_sister_1 : decode cX11_sister 1 = .ok (.iconst 0, 1) := dk_3 (dk_at dksX11_sister_0 1 rfl rfl)
theorem dX11_sister_2 : decode cX11_sister 2 = .ok (.putfield 103, 3) := dk_181 0 103 (dk_at dksX11_sister_0 2 rfl rfl)
theorem dX11_sister_5 : decode cX11_sister 5 = .ok (.aload_n 0, 1) := dk_42 (dk_at dksX11_sister_0 5 rfl rfl)
theorem dX11_sister_6 : decode cX11_sister 6 = .ok (.aload_n 0, 1) := dk_42 (dk_at dksX11_sister_0 6 rfl rfl)
theorem dX11_sister_7 : decode cX11_sister 7 = .ok (.iload_n 1, 1) := dk_27 (dk_at dksX11_sister_0 7 rfl rfl)
theorem dX11_sister_8 : decode cX11_sister 8 = .ok (.invokevirtual 336, 3) := dk_182 1 80 (dk_at dksX11_sister_0 8 rfl rfl)
theorem dX11_sister_11 : decode cX11_sister 11 = .ok (.ifCond .ne 7, 3) := dk_154 0 7 (dk_at dksX11_sister_0 11 rfl rfl)
theorem dX11_sister_14 : decode cX11_sister 14 = .ok (.iconst 1, 1) := dk_4 (dk_at dksX11_sister_0 14 rfl rfl)
theorem dX11_sister_15 : decode cX11_sister 15 = .ok (.goto 4, 3) := dk_167 0 4 (dk_at dksX11_sister_0 15 rfl rfl)
theorem dX11_sister_18 : decode cX11_sister 18 = .ok (.iconst 0, 1) := dk_3 (dk_at dksX11_sister_0 18 rfl rfl)
theorem dX11_sister_19 : decode cX11_sister 19 = .ok (.iconst 1, 1) := dk_4 (dk_at dksX11_sister_0 19 rfl rfl)
theorem dX11_sister_20 : decode cX11_sister 20 = .ok (.iconst 0, 1) := dk_3 (dk_at dksX11_sister_0 20 rfl rfl)
theorem dX11_sister_21 : decode cX11_sister 21 = .ok (.invokevirtual 183, 3) := dk_182 0 183 (dk_at dksX11_sister_0 21 rfl rfl)
theorem dX11_sister_24 : decode cX11_sister 24 = .ok (.ifCond .ne 26, 3) := dk_154 0 26 (dk_at dksX11_sister_1 0 rfl rfl)
theorem dX11_sister_27 : decode cX11_sister 27 = .ok (.aload_n 0, 1) := dk_42 (dk_at dksX11_sister_1 3 rfl rfl)
theorem dX11_sister_28 : decode cX11_sister 28 = .ok (.iload_n 2, 1) := dk_28 (dk_at dksX11_sister_1 4 rfl rfl)
theorem dX11_sister_29 : decode cX11_sister 29 = .ok (.iconst 0, 1) := dk_3 (dk_at dksX11_sister_1 5 rfl rfl)
theorem dX11_sister_30 : decode cX11_sister 30 = .ok (.iconst 4, 1) := dk_7 (dk_at dksX11_sister_1 6 rfl rfl)
theorem dX11_sister_31 : decode cX11_sister 31 = .ok (.invokestatic 137, 3) := dk_184 0 137 (dk_at dksX11_sister_1 7 rfl rfl)
theorem dX11_sister_34 : decode cX11_sister 34 = .ok (.ifCond .ne 7, 3) := dk_154 0 7 (dk_at dksX11_sister_1 10 rfl rfl)
theorem dX11_sister_37 : decode cX11_sister 37 = .ok (.iconst 1, 1) := dk_4 (dk_at dksX11_sister_1 13 rfl rfl)
theorem dX11_sister_38 : decode cX11_sister 38 = .ok (.goto 4, 3) := dk_167 0 4 (dk_at dksX11_sister_1 14 rfl rfl)
theorem dX11_sister_41 : decode cX11_sister 41 = .ok (.iconst 0, 1) := dk_3 (dk_at dksX11_sister_1 17 rfl rfl)
theorem dX11_sister_42 : decode cX11_sister 42 = .ok (.iconst 2, 1) := dk_5 (dk_at dksX11_sister_1 18 rfl rfl)
theorem dX11_sister_43 : decode cX11_sister 43 = .ok (.iconst 1, 1) := dk_4 (dk_at dksX11_sister_1 19 rfl rfl)
theorem dX11_sister_44 : decode cX11_sister 44 = .ok (.invokevirtual 183, 3) := dk_182 0 183 (dk_at dksX11_sister_1 20 rfl rfl)
theorem dX11_sister_47 : decode cX11_sister 47 = .ok (.ifCond .eq 5, 3) := dk_153 0 5 (dk_at dksX11_sister_2 0 rfl rfl)
theorem dX11_sister_50 : decode cX11_sister 50 = .ok (.iconst 0, 1) := dk_3 (dk_at dksX11_sister_2 3 rfl rfl)
theorem dX11_sister_51 : decode cX11_sister 51 = .ok (.ireturn, 1) := dk_172 (dk_at dksX11_sister_2 4 rfl rfl)
theorem dX11_sister_52 : decode cX11_sister 52 = .ok (.iconst 0, 1) := dk_3 (dk_at dksX11_sister_2 5 rfl rfl)
theorem dX11_sister_53 : decode cX11_sister 53 = .ok (.istore_n 3, 1) := dk_62 (dk_at dksX11_sister_2 6 rfl rfl)
theorem dX11_sister_54 : decode cX11_sister 54 = .ok (.iconst 0, 1) := dk_3 (dk_at dksX11_sister_2 7 rfl rfl)
theorem dX11_sister_55 : decode cX11_sister 55 = .ok (.istore 4, 2) := dk_54 4 (dk_at dksX11_sister_2 8 rfl rfl)
theorem dX11_sister_57 : decode cX11_sister 57 = .ok (.iload 4, 2) := dk_21 4 (dk_at dksX11_sister_2 10 rfl rfl)
theorem dX11_sister_59 : decode cX11_sister 59 = .ok (.aload_n 0, 1) := dk_42 (dk_at dksX11_sister_2 12 rfl rfl)
theorem dX11_sister_60 : decode cX11_sister 60 = .ok (.getfield 23, 3) := dk_180 0 23 (dk_at dksX11_sister_2 13 rfl rfl)
theorem dX11_sister_63 : decode cX11_sister 63 = .ok (.iconst 1, 1) := dk_4 (dk_at dksX11_sister_2 16 rfl rfl)
theorem dX11_sister_64 : decode cX11_sister 64 = .ok (.iaload, 1) := dk_46 (dk_at dksX11_sister_2 17 rfl rfl)
theorem dX11_sister_65 : decode cX11_sister 65 = .ok (.if_icmp .ge 33, 3) := dk_162 0 33 (dk_at dksX11_sister_2 18 rfl rfl)
theorem dX11_sister_68 : decode cX11_sister 68 = .ok (.iload_n 3, 1) := dk_29 (dk_at dksX11_sister_2 21 rfl rfl)
theorem dX11_sister_69 : decode cX11_sister 69 = .ok (.aload_n 0, 1) := dk_42 (dk_at dksX11_sister_2 22 rfl rfl)
theorem dX11_sister_70 : decode cX11_sister 70 = .ok (.getfield 43, 3) := dk_180 0 43 (dk_at dksX11_sister_3 0 rfl rfl)
theorem dX11_sister_73 : decode cX11_sister 73 = .ok (.iload 4, 2) := dk_21 4 (dk_at dksX11_sister_3 3 rfl rfl)
theorem dX11_sister_75 : decode cX11_sister 75 = .ok (.aaload, 1) := dk_50 (dk_at dksX11_sister_3 5 rfl rfl)
theorem dX11_sister_76 : decode cX11_sister 76 = .ok (.iconst 0, 1) := dk_3 (dk_at dksX11_sister_3 6 rfl rfl)
theorem dX11_sister_77 : decode cX11_sister 77 = .ok (.iaload, 1) := dk_46 (dk_at dksX11_sister_3 7 rfl rfl)
theorem dX11_sister_78 : decode cX11_sister 78 = .ok (.iload_n 1, 1) := dk_27 (dk_at dksX11_sister_3 8 rfl rfl)
theorem dX11_sister_79 : decode cX11_sister 79 = .ok (.if_icmp .ne 10, 3) := dk_160 0 10 (dk_at dksX11_sister_3 9 rfl rfl)
theorem dX11_sister_82 : decode cX11_sister 82 = .ok (.iconst 1, 1) := dk_4 (dk_at dksX11_sister_3 12 rfl rfl)
theorem dX11_sister_83 : decode cX11_sister 83 = .ok (.iload 4, 2) := dk_21 4 (dk_at dksX11_sister_3 13 rfl rfl)
theorem dX11_sister_85 : decode cX11_sister 85 = .ok (.ishl, 1) := dk_120 (dk_at dksX11_sister_3 15 rfl rfl)
theorem dX11_sister_86 : decode cX11_sister 86 = .ok (.goto 4, 3) := dk_167 0 4 (dk_at dksX11_sister_3 16 rfl rfl)
theorem dX11_sister_89 : decode cX11_sister 89 = .ok (.iconst 0, 1) := dk_3 (dk_at dksX11_sister_3 19 rfl rfl)
theorem dX11_sister_90 : decode cX11_sister 90 = .ok (.ior, 1) := dk_128 (dk_at dksX11_sister_3 20 rfl rfl)
theorem dX11_sister_91 : decode cX11_sister 91 = .ok (.istore_n 3, 1) := dk_62 (dk_at dksX11_sister_3 21 rfl rfl)
theorem dX11_sister_92 : decode cX11_sister 92 = .ok (.iinc 4 1, 3) := dk_132 4 1 (dk_at dksX11_sister_4 0 rfl rfl)
theorem dX11_sister_95 : decode cX11_sister 95 = .ok (.goto (-38), 3) := dk_167 255 218 (dk_at dksX11_sister_4 3 rfl rfl)
theorem dX11_sister_98 : decode cX11_sister 98 = .ok (.iload_n 2, 1) := dk_28 (dk_at dksX11_sister_4 6 rfl rfl)
theorem dX11_sister_99 : decode cX11_sister 99 = .ok (.tableswitch 58 0 3 #[29, 36, 46, 48], 29) := by decide +kernel
theorem dX11_sister_128 : decode cX11_sister 128 = .ok (.aload_n 0, 1) := dk_42 (dk_at dksX11_sister_6 0 rfl rfl)
theorem dX11_sister_129 : decode cX11_sister 129 = .ok (.getfield 29, 3) := dk_180 0 29 (dk_at dksX11_sister_6 1 rfl rfl)
theorem dX11_sister_132 : decode cX11_sister 132 = .ok (.iload_n 1, 1) := dk_27 (dk_at dksX11_sister_6 4 rfl rfl)
theorem dX11_sister_133 : decode cX11_sister 133 = .ok (.iaload, 1) := dk_46 (dk_at dksX11_sister_6 5 rfl rfl)
theorem dX11_sister_134 : decode cX11_sister 134 = .ok (.ireturn, 1) := dk_172 (dk_at dksX11_sister_6 6 rfl rfl)
theorem dX11_sister_135 : decode cX11_sister 135 = .ok (.aload_n 0, 1) := dk_42 (dk_at dksX11_sister_6 7 rfl rfl)
theorem dX11_sister_136 : decode cX11_sister 136 = .ok (.getfield 73, 3) := dk_180 0 73 (dk_at dksX11_sister_6 8 rfl rfl)
theorem dX11_sister_139 : decode cX11_sister 139 = .ok (.bipush 8, 2) := dk_16 8 (dk_at dksX11_sister_6 11 rfl rfl)
theorem dX11_sister_141 : decode cX11_sister 141 = .ok (.iload_n 1, 1) := dk_27 (dk_at dksX11_sister_6 13 rfl rfl)
theorem dX11_sister_142 : decode cX11_sister 142 = .ok (.iadd, 1) := dk_96 (dk_at dksX11_sister_6 14 rfl rfl)
theorem dX11_sister_143 : decode cX11_sister 143 = .ok (.iaload, 1) := dk_46 (dk_at dksX11_sister_6 15 rfl rfl)
theorem dX11_sister_144 : decode cX11_sister 144 = .ok (.ireturn, 1) := dk_172 (dk_at dksX11_sister_6 16 rfl rfl)
theorem dX11_sister_145 : decode cX11_sister 145 = .ok (.iload_n 3, 1) := dk_29 (dk_at dksX11_sister_6 17 rfl rfl)
theorem dX11_sister_146 : decode cX11_sister 146 = .ok (.ireturn, 1) := dk_172 (dk_at dksX11_sister_6 18 rfl rfl)
theorem dX11_sister_147 : decode cX11_sister 147 = .ok (.aload_n 0, 1) := dk_42 (dk_at dksX11_sister_6 19 rfl rfl)
theorem dX11_sister_148 : decode cX11_sister 148 = .ok (.aload_n 0, 1) := dk_42 (dk_at dksX11_sister_6 20 rfl rfl)
theorem dX11_sister_149 : decode cX11_sister 149 = .ok (.getfield 73, 3) := dk_180 0 73 (dk_at dksX11_sister_6 21 rfl rfl)
theorem dX11_sister_152 : decode cX11_sister 152 = .ok (.iload_n 1, 1) := dk_27 (dk_at dksX11_sister_7 0 rfl rfl)
theorem dX11_sister_153 : decode cX11_sister 153 = .ok (.invokevirtual 274, 3) := dk_182 1 18 (dk_at dksX11_sister_7 1 rfl rfl)
theorem dX11_sister_156 : decode cX11_sister 156 = .ok (.ireturn, 1) := dk_172 (dk_at dksX11_sister_7 4 rfl rfl)
theorem dX11_sister_157 : decode cX11_sister 157 = .ok (.aload_n 0, 1) := dk_42 (dk_at dksX11_sister_7 5 rfl rfl)
theorem dX11_sister_158 : decode cX11_sister 158 = .ok (.getfield 35, 3) := dk_180 0 35 (dk_at dksX11_sister_7 6 rfl rfl)
theorem dX11_sister_161 : decode cX11_sister 161 = .ok (.iload_n 1, 1) := dk_27 (dk_at dksX11_sister_7 9 rfl rfl)
theorem dX11_sister_162 : decode cX11_sister 162 = .ok (.iaload, 1) := dk_46 (dk_at dksX11_sister_7 10 rfl rfl)
theorem dX11_sister_163 : decode cX11_sister 163 = .ok (.ireturn, 1) := dk_172 (dk_at dksX11_sister_7 11 rfl rfl)
def dkwX11_isSister_0 : List UInt8 := [27, 3, 42, 180, 0, 23, 3, 46, 4, 100, 184, 0, 137, 172]
abbrev dktX11_isSister_0 : List UInt8 := dkwX11_isSister_0 ++ []
theorem dksX11_isSister_0 : cX11_isSister.data.toList.drop 0 = dktX11_isSister_0 := by decide +kernel
theorem dX11_isSister_0 : decode cX11_isSister 0 = .ok (.iload_n 1, 1) := dk_27 (dk_at dksX11_isSister_0 0 rfl rfl)
theorem dX11_isSister_1 : decode cX11_isSister 1 = .ok (.iconst 0, 1) := dk_3 (dk_at dksX11_isSister_0 1 rfl rfl)
theorem dX11_isSister_2 : decode cX11_isSister 2 = .ok (.aload_n 0, 1) := dk_42 (dk_at dksX11_isSister_0 2 rfl rfl)
theorem dX11_isSister_3 : decode cX11_isSister 3 = .ok (.getfield 23, 3) := dk_180 0 23 (dk_at dksX11_isSister_0 3 rfl rfl)
theorem dX11_isSister_6 : decode cX11_isSister 6 = .ok (.iconst 0, 1) := dk_3 (dk_at dksX11_isSister_0 6 rfl rfl)
theorem dX11_isSister_7 : decode cX11_isSister 7 = .ok (.iaload, 1) := dk_46 (dk_at dksX11_isSister_0 7 rfl rfl)
theorem dX11_isSister_8 : decode cX11_isSister 8 = .ok (.iconst 1, 1) := dk_4 (dk_at dksX11_isSister_0 8 rfl rfl)
theorem dX11_isSister_9 : decode cX11_isSister 9 = .ok (.isub, 1) := dk_100 (dk_at dksX11_isSister_0 9 rfl rfl)
theorem dX11_isSister_10 : decode cX11_isSister 10 = .ok (.invokestatic 137, 3) := dk_184 0 137 (dk_at dksX11_isSister_0 10 rfl rfl)
theorem dX11_isSister_13 : decode cX11_isSister 13 = .ok (.ireturn, 1) := dk_172 (dk_at dksX11_isSister_0 13 rfl rfl)
def dkwX11_relic_7 : List UInt8 := [180, 0, 43, 27, 50, 28, 46, 172]
abbrev dktX11_relic_7 : List UInt8 := dkwX11_relic_7 ++ []
def dkwX11_relic_6 : List UInt8 := [42, 180, 0, 73, 16, 16, 27, 96, 46, 172, 42, 42, 180, 0, 73, 27, 182, 1, 33, 172, 29, 172, 42]
abbrev dktX11_relic_6 : List UInt8 := dkwX11_relic_6 ++ dktX11_relic_7
def dkwX11_relic_5 : List UInt8 := [170, 0, 0, 0, 0, 48, 0, 0, 0, 3, 0, 0, 0, 5, 0, 0, 0, 26, 0, 0, 0, 36, 0, 0, 0, 46]
abbrev dktX11_relic_5 : List UInt8 := dkwX11_relic_5 ++ dktX11_relic_6
def dkwX11_relic_4 : List UInt8 := [153, 0, 10, 4, 21, 4, 120, 167, 0, 4, 3, 128, 62, 132, 4, 1, 167, 255, 203, 28]
abbrev dktX11_relic_4 : List UInt8 := dkwX11_relic_4 ++ dktX11_relic_5
def dkwX11_relic_3 : List UInt8 := [180, 0, 73, 16, 36, 21, 4, 96, 46, 2, 160, 0, 24, 42, 42, 180, 0, 73, 27, 21, 4, 182, 1, 36]
abbrev dktX11_relic_3 : List UInt8 := dkwX11_relic_3 ++ dktX11_relic_4
def dkwX11_relic_2 : List UInt8 := [153, 0, 5, 3, 172, 3, 62, 3, 54, 4, 21, 4, 42, 180, 0, 23, 5, 46, 162, 0, 48, 29, 42]
abbrev dktX11_relic_2 : List UInt8 := dkwX11_relic_2 ++ dktX11_relic_3
def dkwX11_relic_1 : List UInt8 := [154, 0, 26, 42, 28, 3, 8, 184, 0, 137, 154, 0, 7, 4, 167, 0, 4, 3, 5, 4, 182, 0, 183]
abbrev dktX11_relic_1 : List UInt8 := dkwX11_relic_1 ++ dktX11_relic_2
def dkwX11_relic_0 : List UInt8 := [42, 3, 181, 0, 103, 42, 42, 27, 182, 1, 83, 154, 0, 7, 4, 167, 0, 4, 3, 4, 3, 182, 0, 183]
abbrev dktX11_relic_0 : List UInt8 := dkwX11_relic_0 ++ dktX11_relic_1
theorem dksX11_relic_0 : cX11_relic.data.toList.drop 0 = dktX11_relic_0 := by decide +kernel
theorem dksX11_relic_1 : cX11_relic.data.toList.drop 24 = dktX11_relic_1 := dk_seg dksX11_relic_0 24 rfl rfl
theorem dksX11_relic_2 : cX11_relic.data.toList.drop 47 = dktX11_relic_2 := dk_seg dksX11_relic_1 23 rfl rfl
theorem dksX11_relic_3 : cX11_relic.data.toList.drop 70 = dktX11_relic_3 := dk_seg dksX11_relic_2 23 rfl rfl
theorem dksX11_relic_4 : cX11_relic.data.toList.drop 94 = dktX11_relic_4 := dk_seg dksX11_relic_3 24 rfl rfl
theorem dksX11_relic_5 : cX11_relic.data.toList.drop 114 = dktX11_relic_5 := dk_seg dksX11_relic_4 20 rfl rfl
theorem dksX11_relic_6 : cX11_relic.data.toList.drop 140 = dktX11_relic_6 := dk_seg dksX11_relic_5 26 rfl rfl
theorem dksX11_relic_7 : cX11_relic.data.toList.drop 163 = dktX11_relic_7 := dk_seg dksX11_relic_6 23 rfl rfl
theorem dX11_relic_0 : decode cX11_relic 0 = .ok (.aload_n 0, 1) := dk_42 (dk_at dksX11_relic_0 0 rfl rfl)
theorem dX11_relic_1 : decode cX11_relic 1 = .ok (.iconst 0, 1) := dk_3 (dk_at dksX11_relic_0 1 rfl rfl)
theorem dX11_relic_2 : decode cX11_relic 2 = .ok (.putfield 103, 3) := dk_181 0 103 (dk_at dksX11_relic_0 2 rfl rfl)
theorem dX11_relic_5 : decode cX11_relic 5 = .ok (.aload_n 0, 1) := dk_42 (dk_at dksX11_relic_0 5 rfl rfl)
theorem dX11_relic_6 : decode cX11_relic 6 = .ok (.aload_n 0, 1) := dk_42 (dk_at dksX11_relic_0 6 rfl rfl)
theorem dX11_relic_7 : decode cX11_relic 7 = .ok (.iload_n 1, 1) := dk_27 (dk_at dksX11_relic_0 7 rfl rfl)
theorem dX11_relic_8 : decode cX11_relic 8 = .ok (.invokevirtual 339, 3) := dk_182 1 83 (dk_at dksX11_relic_0 8 rfl rfl)
theorem dX11_relic_11 : decode cX11_relic 11 = .ok (.ifCond .ne 7, 3) := dk_154 0 7 (dk_at dksX11_relic_0 11 rfl rfl)
theorem dX11_relic_14 : decode cX11_relic 14 = .ok (.iconst 1, 1) := dk_4 (dk_at dksX11_relic_0 14 rfl rfl)
theorem dX11_relic_15 : decode cX11_relic 15 = .ok (.goto 4, 3) := dk_167 0 4 (dk_at dksX11_relic_0 15 rfl rfl)
theorem dX11_relic_18 : decode cX11_relic 18 = .ok (.iconst 0, 1) := dk_3 (dk_at dksX11_relic_0 18 rfl rfl)
theorem dX11_relic_19 : decode cX11_relic 19 = .ok (.iconst 1, 1) := dk_4 (dk_at dksX11_relic_0 19 rfl rfl)
theorem dX11_relic_20 : decode cX11_relic 20 = .ok (.iconst 0, 1) := dk_3 (dk_at dksX11_relic_0 20 rfl rfl)
theorem dX11_relic_21 : decode cX11_relic 21 = .ok (.invokevirtual 183, 3) := dk_182 0 183 (dk_at dksX11_relic_0 21 rfl rfl)
theorem dX11_relic_24 : decode cX11_relic 24 = .ok (.ifCond .ne 26, 3) := dk_154 0 26 (dk_at dksX11_relic_1 0 rfl rfl)
theorem dX11_relic_27 : decode cX11_relic 27 = .ok (.aload_n 0, 1) := dk_42 (dk_at dksX11_relic_1 3 rfl rfl)
theorem dX11_relic_28 : decode cX11_relic 28 = .ok (.iload_n 2, 1) := dk_28 (dk_at dksX11_relic_1 4 rfl rfl)
theorem dX11_relic_29 : decode cX11_relic 29 = .ok (.iconst 0, 1) := dk_3 (dk_at dksX11_relic_1 5 rfl rfl)
theorem dX11_relic_30 : decode cX11_relic 30 = .ok (.iconst 5, 1) := dk_8 (dk_at dksX11_relic_1 6 rfl rfl)
theorem dX11_relic_31 : decode cX11_relic 31 = .ok (.invokestatic 137, 3) := dk_184 0 137 (dk_at dksX11_relic_1 7 rfl rfl)
theorem dX11_relic_34 : decode cX11_relic 34 = .ok (.ifCond .ne 7, 3) := dk_154 0 7 (dk_at dksX11_relic_1 10 rfl rfl)
theorem dX11_relic_37 : decode cX11_relic 37 = .ok (.iconst 1, 1) := dk_4 (dk_at dksX11_relic_1 13 rfl rfl)
theorem dX11_relic_38 : decode cX11_relic 38 = .ok (.goto 4, 3) := dk_167 0 4 (dk_at dksX11_relic_1 14 rfl rfl)
theorem dX11_relic_41 : decode cX11_relic 41 = .ok (.iconst 0, 1) := dk_3 (dk_at dksX11_relic_1 17 rfl rfl)
theorem dX11_relic_42 : decode cX11_relic 42 = .ok (.iconst 2, 1) := dk_5 (dk_at dksX11_relic_1 18 rfl rfl)
theorem dX11_relic_43 : decode cX11_relic 43 = .ok (.iconst 1, 1) := dk_4 (dk_at dksX11_relic_1 19 rfl rfl)
theorem dX11_relic_44 : decode cX11_relic 44 = .ok (.invokevirtual 183, 3) := dk_182 0 183 (dk_at dksX11_relic_1 20 rfl rfl)
theorem dX11_relic_47 : decode cX11_relic 47 = .ok (.ifCond .eq 5, 3) := dk_153 0 5 (dk_at dksX11_relic_2 0 rfl rfl)
theorem dX11_relic_50 : decode cX11_relic 50 = .ok (.iconst 0, 1) := dk_3 (dk_at dksX11_relic_2 3 rfl rfl)
theorem dX11_relic_51 : decode cX11_relic 51 = .ok (.ireturn, 1) := dk_172 (dk_at dksX11_relic_2 4 rfl rfl)
theorem dX11_relic_52 : decode cX11_relic 52 = .ok (.iconst 0, 1) := dk_3 (dk_at dksX11_relic_2 5 rfl rfl)
theorem dX11_relic_53 : decode cX11_relic 53 = .ok (.istore_n 3, 1) := dk_62 (dk_at dksX11_relic_2 6 rfl rfl)
theorem dX11_relic_54 : decode cX11_relic 54 = .ok (.iconst 0, 1) := dk_3 (dk_at dksX11_relic_2 7 rfl rfl)
theorem dX11_relic_55 : decode cX11_relic 55 = .ok (.istore 4, 2) := dk_54 4 (dk_at dksX11_relic_2 8 rfl rfl)
theorem dX11_relic_57 : decode cX11_relic 57 = .ok (.iload 4, 2) := dk_21 4 (dk_at dksX11_relic_2 10 rfl rfl)
theorem dX11_relic_59 : decode cX11_relic 59 = .ok (.aload_n 0, 1) := dk_42 (dk_at dksX11_relic_2 12 rfl rfl)
theorem dX11_relic_60 : decode cX11_relic 60 = .ok (.getfield 23, 3) := dk_180 0 23 (dk_at dksX11_relic_2 13 rfl rfl)
theorem dX11_relic_63 : decode cX11_relic 63 = .ok (.iconst 2, 1) := dk_5 (dk_at dksX11_relic_2 16 rfl rfl)
theorem dX11_relic_64 : decode cX11_relic 64 = .ok (.iaload, 1) := dk_46 (dk_at dksX11_relic_2 17 rfl rfl)
theorem dX11_relic_65 : decode cX11_relic 65 = .ok (.if_icmp .ge 48, 3) := dk_162 0 48 (dk_at dksX11_relic_2 18 rfl rfl)
theorem dX11_relic_68 : decode cX11_relic 68 = .ok (.iload_n 3, 1) := dk_29 (dk_at dksX11_relic_2 21 rfl rfl)
theorem dX11_relic_69 : decode cX11_relic 69 = .ok (.aload_n 0, 1) := dk_42 (dk_at dksX11_relic_2 22 rfl rfl)
theorem dX11_relic_70 : decode cX11_relic 70 = .ok (.getfield 73, 3) := dk_180 0 73 (dk_at dksX11_relic_3 0 rfl rfl)
theorem dX11_relic_73 : decode cX11_relic 73 = .ok (.bipush 36, 2) := dk_16 36 (dk_at dksX11_relic_3 3 rfl rfl)
theorem dX11_relic_75 : decode cX11_relic 75 = .ok (.iload 4, 2) := dk_21 4 (dk_at dksX11_relic_3 5 rfl rfl)
theorem dX11_relic_77 : decode cX11_relic 77 = .ok (.iadd, 1) := dk_96 (dk_at dksX11_relic_3 7 rfl rfl)
theorem dX11_relic_78 : decode cX11_relic 78 = .ok (.iaload, 1) := dk_46 (dk_at dksX11_relic_3 8 rfl rfl)
theorem dX11_relic_79 : decode cX11_relic 79 = .ok (.iconst (-1), 1) := dk_2 (dk_at dksX11_relic_3 9 rfl rfl)
theorem dX11_relic_80 : decode cX11_relic 80 = .ok (.if_icmp .ne 24, 3) := dk_160 0 24 (dk_at dksX11_relic_3 10 rfl rfl)
theorem dX11_relic_83 : decode cX11_relic 83 = .ok (.aload_n 0, 1) := dk_42 (dk_at dksX11_relic_3 13 rfl rfl)
theorem dX11_relic_84 : decode cX11_relic 84 = .ok (.aload_n 0, 1) := dk_42 (dk_at dksX11_relic_3 14 rfl rfl)
theorem dX11_relic_85 : decode cX11_relic 85 = .ok (.getfield 73, 3) := dk_180 0 73 (dk_at dksX11_relic_3 15 rfl rfl)
theorem dX11_relic_88 : decode cX11_relic 88 = .ok (.iload_n 1, 1) := dk_27 (dk_at dksX11_relic_3 18 rfl rfl)
theorem dX11_relic_89 : decode cX11_relic 89 = .ok (.iload 4, 2) := dk_21 4 (dk_at dksX11_relic_3 19 rfl rfl)
theorem dX11_relic_91 : decode cX11_relic 91 = .ok (.invokevirtual 292, 3) := dk_182 1 36 (dk_at dksX11_relic_3 21 rfl rfl)
theorem dX11_relic_94 : decode cX11_relic 94 = .ok (.ifCond .eq 10, 3) := dk_153 0 10 (dk_at dksX11_relic_4 0 rfl rfl)
theorem dX11_relic_97 : decode cX11_relic 97 = .ok (.iconst 1, 1) := dk_4 (dk_at dksX11_relic_4 3 rfl rfl)
theorem dX11_relic_98 : decode cX11_relic 98 = .ok (.iload 4, 2) := dk_21 4 (dk_at dksX11_relic_4 4 rfl rfl)
theorem dX11_relic_100 : decode cX11_relic 100 = .ok (.ishl, 1) := dk_120 (dk_at dksX11_relic_4 6 rfl rfl)
theorem dX11_relic_101 : decode cX11_relic 101 = .ok (.goto 4, 3) := dk_167 0 4 (dk_at dksX11_relic_4 7 rfl rfl)
theorem dX11_relic_104 : decode cX11_relic 104 = .ok (.iconst 0, 1) := dk_3 (dk_at dksX11_relic_4 10 rfl rfl)
theorem dX11_relic_105 : decode cX11_relic 105 = .ok (.ior, 1) := dk_128 (dk_at dksX11_relic_4 11 rfl rfl)
theorem dX11_relic_106 : decode cX11_relic 106 = .ok (.istore_n 3, 1) := dk_62 (dk_at dksX11_relic_4 12 rfl rfl)
theorem dX11_relic_107 : decode cX11_relic 107 = .ok (.iinc 4 1, 3) := dk_132 4 1 (dk_at dksX11_relic_4 13 rfl rfl)
theorem dX11_relic_110 : decode cX11_relic 110 = .ok (.goto (-53), 3) := dk_167 255 203 (dk_at dksX11_relic_4 16 rfl rfl)
theorem dX11_relic_113 : decode cX11_relic 113 = .ok (.iload_n 2, 1) := dk_28 (dk_at dksX11_relic_4 19 rfl rfl)
theorem dX11_relic_114 : decode cX11_relic 114 = .ok (.tableswitch 48 3 5 #[26, 36, 46], 26) := by decide +kernel
theorem dX11_relic_140 : decode cX11_relic 140 = .ok (.aload_n 0, 1) := dk_42 (dk_at dksX11_relic_6 0 rfl rfl)
theorem dX11_relic_141 : decode cX11_relic 141 = .ok (.getfield 73, 3) := dk_180 0 73 (dk_at dksX11_relic_6 1 rfl rfl)
theorem dX11_relic_144 : decode cX11_relic 144 = .ok (.bipush 16, 2) := dk_16 16 (dk_at dksX11_relic_6 4 rfl rfl)
theorem dX11_relic_146 : decode cX11_relic 146 = .ok (.iload_n 1, 1) := dk_27 (dk_at dksX11_relic_6 6 rfl rfl)
theorem dX11_relic_147 : decode cX11_relic 147 = .ok (.iadd, 1) := dk_96 (dk_at dksX11_relic_6 7 rfl rfl)
theorem dX11_relic_148 : decode cX11_relic 148 = .ok (.iaload, 1) := dk_46 (dk_at dksX11_relic_6 8 rfl rfl)
theorem dX11_relic_149 : decode cX11_relic 149 = .ok (.ireturn, 1) := dk_172 (dk_at dksX11_relic_6 9 rfl rfl)
theorem dX11_relic_150 : decode cX11_relic 150 = .ok (.aload_n 0, 1) := dk_42 (dk_at dksX11_relic_6 10 rfl rfl)
theorem dX11_relic_151 : decode cX11_relic 151 = .ok (.aload_n 0, 1) := dk_42 (dk_at dksX11_relic_6 11 rfl rfl)
theorem dX11_relic_152 : decode cX11_relic 152 = .ok (.getfield 73, 3) := dk_180 0 73 (dk_at dksX11_relic_6 12 rfl rfl)
theorem dX11_relic_155 : decode cX11_relic 155 = .ok (.iload_n 1, 1) := dk_27 (dk_at dksX11_relic_6 15 rfl rfl)
theorem dX11_relic_156 : decode cX11_relic 156 = .ok (.invokevirtual 289, 3) := dk_182 1 33 (dk_at dksX11_relic_6 16 rfl rfl)
theorem dX11_relic_159 : decode cX11_relic 159 = .ok (.ireturn, 1) := dk_172 (dk_at dksX11_relic_6 19 rfl rfl)
theorem dX11_relic_160 : decode cX11_relic 160 = .ok (.iload_n 3, 1) := dk_29 (dk_at dksX11_relic_6 20 rfl rfl)
theorem dX11_relic_161 : decode cX11_relic 161 = .ok (.ireturn, 1) := dk_172 (dk_at dksX11_relic_6 21 rfl rfl)
theorem dX11_relic_162 : decode cX11_relic 162 = .ok (.aload_n 0, 1) := dk_42 (dk_at dksX11_relic_6 22 rfl rfl)
theorem dX11_relic_163 : decode cX11_relic 163 = .ok (.getfield 43, 3) := dk_180 0 43 (dk_at dksX11_relic_7 0 rfl rfl)
theorem dX11_relic_166 : decode cX11_relic 166 = .ok (.iload_n 1, 1) := dk_27 (dk_at dksX11_relic_7 3 rfl rfl)
theorem dX11_relic_167 : decode cX11_relic 167 = .ok (.aaload, 1) := dk_50 (dk_at dksX11_relic_7 4 rfl rfl)
theorem dX11_relic_168 : decode cX11_relic 168 = .ok (.iload_n 2, 1) := dk_28 (dk_at dksX11_relic_7 5 rfl rfl)
theorem dX11_relic_169 : decode cX11_relic 169 = .ok (.iaload, 1) := dk_46 (dk_at dksX11_relic_7 6 rfl rfl)
theorem dX11_relic_170 : decode cX11_relic 170 = .ok (.ireturn, 1) := dk_172 (dk_at dksX11_relic_7 7 rfl rfl)
def dkwX11_isRelic_0 : List UInt8 := [27, 3, 42, 180, 0, 23, 4, 46, 4, 100, 184, 0, 137, 172]
abbrev dktX11_isRelic_0 : List UInt8 := dkwX11_isRelic_0 ++ []
theorem dksX11_isRelic_0 : cX11_isRelic.data.toList.drop 0 = dktX11_isRelic_0 := by decide +kernel
theorem dX11_isRelic_0 : decode cX11_isRelic 0 = .ok (.iload_n 1, 1) := dk_27 (dk_at dksX11_isRelic_0 0 rfl rfl)
theorem dX11_isRelic_1 : decode cX11_isRelic 1 = .ok (.iconst 0, 1) := dk_3 (dk_at dksX11_isRelic_0 1 rfl rfl)
theorem dX11_isRelic_2 : decode cX11_isRelic 2 = .ok (.aload_n 0, 1) := dk_42 (dk_at dksX11_isRelic_0 2 rfl rfl)
theorem dX11_isRelic_3 : decode cX11_isRelic 3 = .ok (.getfield 23, 3) := dk_180 0 23 (dk_at dksX11_isRelic_0 3 rfl rfl)
theorem dX11_isRelic_6 : decode cX11_isRelic 6 = .ok (.iconst 1, 1) := dk_4 (dk_at dksX11_isRelic_0 6 rfl rfl)
theorem dX11_isRelic_7 : decode cX11_isRelic 7 = .ok (.iaload, 1) := dk_46 (dk_at dksX11_isRelic_0 7 rfl rfl)
theorem dX11_isRelic_8 : decode cX11_isRelic 8 = .ok (.iconst 1, 1) := dk_4 (dk_at dksX11_isRelic_0 8 rfl rfl)
theorem dX11_isRelic_9 : decode cX11_isRelic 9 = .ok (.isub, 1) := dk_100 (dk_at dksX11_isRelic_0 9 rfl rfl)
theorem dX11_isRelic_10 : decode cX11_isRelic 10 = .ok (.invokestatic 137, 3) := dk_184 0 137 (dk_at dksX11_isRelic_0 10 rfl rfl)
theorem dX11_isRelic_13 : decode cX11_isRelic 13 = .ok (.ireturn, 1) := dk_172 (dk_at dksX11_isRelic_0 13 rfl rfl)
def dkwX11_pilgrim_5 : List UInt8 := [160, 0, 15, 42, 180, 0, 73, 16, 36, 27, 96, 46, 167, 0, 4, 29, 172]
abbrev dktX11_pilgrim_5 : List UInt8 := dkwX11_pilgrim_5 ++ []
def dkwX11_pilgrim_4 : List UInt8 := [132, 4, 1, 167, 255, 217, 28, 5, 162, 0, 14, 42, 180, 0, 49, 27, 50, 28, 46, 167, 0, 21, 28, 5]
abbrev dktX11_pilgrim_4 : List UInt8 := dkwX11_pilgrim_4 ++ dktX11_pilgrim_5
def dkwX11_pilgrim_3 : List UInt8 := [180, 0, 73, 21, 4, 27, 182, 1, 36, 153, 0, 10, 4, 21, 4, 120, 167, 0, 4, 3, 128, 62]
abbrev dktX11_pilgrim_3 : List UInt8 := dkwX11_pilgrim_3 ++ dktX11_pilgrim_4
def dkwX11_pilgrim_2 : List UInt8 := [153, 0, 5, 3, 172, 3, 62, 3, 54, 4, 21, 4, 42, 180, 0, 23, 4, 46, 162, 0, 34, 29, 42, 42]
abbrev dktX11_pilgrim_2 : List UInt8 := dkwX11_pilgrim_2 ++ dktX11_pilgrim_3
def dkwX11_pilgrim_1 : List UInt8 := [154, 0, 26, 42, 28, 3, 6, 184, 0, 137, 154, 0, 7, 4, 167, 0, 4, 3, 5, 4, 182, 0, 183]
abbrev dktX11_pilgrim_1 : List UInt8 := dkwX11_pilgrim_1 ++ dktX11_pilgrim_2
def dkwX11_pilgrim_0 : List UInt8 := [42, 3, 181, 0, 103, 42, 42, 27, 182, 1, 86, 154, 0, 7, 4, 167, 0, 4, 3, 4, 3, 182, 0, 183]
abbrev dktX11_pilgrim_0 : List UInt8 := dkwX11_pilgrim_0 ++ dktX11_pilgrim_1
theorem dksX11_pilgrim_0 : cX11_pilgrim.data.toList.drop 0 = dktX11_pilgrim_0 := by decide +kernel
theorem dksX11_pilgrim_1 : cX11_pilgrim.data.toList.drop 24 = dktX11_pilgrim_1 := dk_seg dksX11_pilgrim_0 24 rfl rfl
theorem dksX11_pilgrim_2 : cX11_pilgrim.data.toList.drop 47 = dktX11_pilgrim_2 := dk_seg dksX11_pilgrim_1 23 rfl rfl
theorem dksX11_pilgrim_3 : cX11_pilgrim.data.toList.drop 71 = dktX11_pilgrim_3 := dk_seg dksX11_pilgrim_2 24 rfl rfl
theorem dksX11_pilgrim_4 : cX11_pilgrim.data.toList.drop 93 = dktX11_pilgrim_4 := dk_seg dksX11_pilgrim_3 22 rfl rfl
theorem dksX11_pilgrim_5 : cX11_pilgrim.data.toList.drop 117 = dktX11_pilgrim_5 := dk_seg dksX11_pilgrim_4 24 rfl rfl
theorem dX11_pilgrim_0 : decode cX11_pilgrim 0 = .ok (.aload_n 0, 1) := dk_42 (dk_at dksX11_pilgrim_0 0 rfl rfl)
theorem dX11_pilgrim_1 : decode cX11_pilgrim 1 = .ok (.iconst 0, 1) := dk_3 (dk_at dksX11_pilgrim_0 1 rfl rfl)
theorem dX11_pilgrim_2 : decode cX11_pilgrim 2 = .ok (.putfield 103, 3) := dk_181 0 103 (dk_at dksX11_pilgrim_0 2 rfl rfl)
theorem dX11_pilgrim_5 : decode cX11_pilgrim 5 = .ok (.aload_n 0, 1) := dk_42 (dk_at dksX11_pilgrim_0 5 rfl rfl)
theorem dX11_pilgrim_6 : decode cX11_pilgrim 6 = .ok (.aload_n 0, 1) := dk_42 (dk_at dksX11_pilgrim_0 6 rfl rfl)
theorem dX11_pilgrim_7 : decode cX11_pilgrim 7 = .ok (.iload_n 1, 1) := dk_27 (dk_at dksX11_pilgrim_0 7 rfl rfl)
theorem dX11_pilgrim_8 : decode cX11_pilgrim 8 = .ok (.invokevirtual 342, 3) := dk_182 1 86 (dk_at dksX11_pilgrim_0 8 rfl rfl)
theorem dX11_pilgrim_11 : decode cX11_pilgrim 11 = .ok (.ifCond .ne 7, 3) := dk_154 0 7 (dk_at dksX11_pilgrim_0 11 rfl rfl)
theorem dX11_pilgrim_14 : decode cX11_pilgrim 14 = .ok (.iconst 1, 1) := dk_4 (dk_at dksX11_pilgrim_0 14 rfl rfl)
theorem dX11_pilgrim_15 : decode cX11_pilgrim 15 = .ok (.goto 4, 3) := dk_167 0 4 (dk_at dksX11_pilgrim_0 15 rfl rfl)
theorem dX11_pilgrim_18 : decode cX11_pilgrim 18 = .ok (.iconst 0, 1) := dk_3 (dk_at dksX11_pilgrim_0 18 rfl rfl)
theorem dX11_pilgrim_19 : decode cX11_pilgrim 19 = .ok (.iconst 1, 1) := dk_4 (dk_at dksX11_pilgrim_0 19 rfl rfl)
theorem dX11_pilgrim_20 : decode cX11_pilgrim 20 = .ok (.iconst 0, 1) := dk_3 (dk_at dksX11_pilgrim_0 20 rfl rfl)
theorem dX11_pilgrim_21 : decode cX11_pilgrim 21 = .ok (.invokevirtual 183, 3) := dk_182 0 183 (dk_at dksX11_pilgrim_0 21 rfl rfl)
theorem dX11_pilgrim_24 : decode cX11_pilgrim 24 = .ok (.ifCond .ne 26, 3) := dk_154 0 26 (dk_at dksX11_pilgrim_1 0 rfl rfl)
theorem dX11_pilgrim_27 : decode cX11_pilgrim 27 = .ok (.aload_n 0, 1) := dk_42 (dk_at dksX11_pilgrim_1 3 rfl rfl)
theorem dX11_pilgrim_28 : decode cX11_pilgrim 28 = .ok (.iload_n 2, 1) := dk_28 (dk_at dksX11_pilgrim_1 4 rfl rfl)
theorem dX11_pilgrim_29 : decode cX11_pilgrim 29 = .ok (.iconst 0, 1) := dk_3 (dk_at dksX11_pilgrim_1 5 rfl rfl)
theorem dX11_pilgrim_30 : decode cX11_pilgrim 30 = .ok (.iconst 3, 1) := dk_6 (dk_at dksX11_pilgrim_1 6 rfl rfl)
theorem dX11_pilgrim_31 : decode cX11_pilgrim 31 = .ok (.invokestatic 137, 3) := dk_184 0 137 (dk_at dksX11_pilgrim_1 7 rfl rfl)
theorem dX11_pilgrim_34 : decode cX11_pilgrim 34 = .ok (.ifCond .ne 7, 3) := dk_154 0 7 (dk_at dksX11_pilgrim_1 10 rfl rfl)
theorem dX11_pilgrim_37 : decode cX11_pilgrim 37 = .ok (.iconst 1, 1) := dk_4 (dk_at dksX11_pilgrim_1 13 rfl rfl)
theorem dX11_pilgrim_38 : decode cX11_pilgrim 38 = .ok (.goto 4, 3) := dk_167 0 4 (dk_at dksX11_pilgrim_1 14 rfl rfl)
theorem dX11_pilgrim_41 : decode cX11_pilgrim 41 = .ok (.iconst 0, 1) := dk_3 (dk_at dksX11_pilgrim_1 17 rfl rfl)
theorem dX11_pilgrim_42 : decode cX11_pilgrim 42 = .ok (.iconst 2, 1) := dk_5 (dk_at dksX11_pilgrim_1 18 rfl rfl)
theorem dX11_pilgrim_43 : decode cX11_pilgrim 43 = .ok (.iconst 1, 1) := dk_4 (dk_at dksX11_pilgrim_1 19 rfl rfl)
theorem dX11_pilgrim_44 : decode cX11_pilgrim 44 = .ok (.invokevirtual 183, 3) := dk_182 0 183 (dk_at dksX11_pilgrim_1 20 rfl rfl)
theorem dX11_pilgrim_47 : decode cX11_pilgrim 47 = .ok (.ifCond .eq 5, 3) := dk_153 0 5 (dk_at dksX11_pilgrim_2 0 rfl rfl)
theorem dX11_pilgrim_50 : decode cX11_pilgrim 50 = .ok (.iconst 0, 1) := dk_3 (dk_at dksX11_pilgrim_2 3 rfl rfl)
theorem dX11_pilgrim_51 : decode cX11_pilgrim 51 = .ok (.ireturn, 1) := dk_172 (dk_at dksX11_pilgrim_2 4 rfl rfl)
theorem dX11_pilgrim_52 : decode cX11_pilgrim 52 = .ok (.iconst 0, 1) := dk_3 (dk_at dksX11_pilgrim_2 5 rfl rfl)
theorem dX11_pilgrim_53 : decode cX11_pilgrim 53 = .ok (.istore_n 3, 1) := dk_62 (dk_at dksX11_pilgrim_2 6 rfl rfl)
theorem dX11_pilgrim_54 : decode cX11_pilgrim 54 = .ok (.iconst 0, 1) := dk_3 (dk_at dksX11_pilgrim_2 7 rfl rfl)
theorem dX11_pilgrim_55 : decode cX11_pilgrim 55 = .ok (.istore 4, 2) := dk_54 4 (dk_at dksX11_pilgrim_2 8 rfl rfl)
theorem dX11_pilgrim_57 : decode cX11_pilgrim 57 = .ok (.iload 4, 2) := dk_21 4 (dk_at dksX11_pilgrim_2 10 rfl rfl)
theorem dX11_pilgrim_59 : decode cX11_pilgrim 59 = .ok (.aload_n 0, 1) := dk_42 (dk_at dksX11_pilgrim_2 12 rfl rfl)
theorem dX11_pilgrim_60 : decode cX11_pilgrim 60 = .ok (.getfield 23, 3) := dk_180 0 23 (dk_at dksX11_pilgrim_2 13 rfl rfl)
theorem dX11_pilgrim_63 : decode cX11_pilgrim 63 = .ok (.iconst 1, 1) := dk_4 (dk_at dksX11_pilgrim_2 16 rfl rfl)
theorem dX11_pilgrim_64 : decode cX11_pilgrim 64 = .ok (.iaload, 1) := dk_46 (dk_at dksX11_pilgrim_2 17 rfl rfl)
theorem dX11_pilgrim_65 : decode cX11_pilgrim 65 = .ok (.if_icmp .ge 34, 3) := dk_162 0 34 (dk_at dksX11_pilgrim_2 18 rfl rfl)
theorem dX11_pilgrim_68 : decode cX11_pilgrim 68 = .ok (.iload_n 3, 1) := dk_29 (dk_at dksX11_pilgrim_2 21 rfl rfl)
theorem dX11_pilgrim_69 : decode cX11_pilgrim 69 = .ok (.aload_n 0, 1) := dk_42 (dk_at dksX11_pilgrim_2 22 rfl rfl)
theorem dX11_pilgrim_70 : decode cX11_pilgrim 70 = .ok (.aload_n 0, 1) := dk_42 (dk_at dksX11_pilgrim_2 23 rfl rfl)
theorem dX11_pilgrim_71 : decode cX11_pilgrim 71 = .ok (.getfield 73, 3) := dk_180 0 73 (dk_at dksX11_pilgrim_3 0 rfl rfl)
theorem dX11_pilgrim_74 : decode cX11_pilgrim 74 = .ok (.iload 4, 2) := dk_21 4 (dk_at dksX11_pilgrim_3 3 rfl rfl)
theorem dX11_pilgrim_76 : decode cX11_pilgrim 76 = .ok (.iload_n 1, 1) := dk_27 (dk_at dksX11_pilgrim_3 5 rfl rfl)
theorem dX11_pilgrim_77 : decode cX11_pilgrim 77 = .ok (.invokevirtual 292, 3) := dk_182 1 36 (dk_at dksX11_pilgrim_3 6 rfl rfl)
theorem dX11_pilgrim_80 : decode cX11_pilgrim 80 = .ok (.ifCond .eq 10, 3) := dk_153 0 10 (dk_at dksX11_pilgrim_3 9 rfl rfl)
theorem dX11_pilgrim_83 : decode cX11_pilgrim 83 = .ok (.iconst 1, 1) := dk_4 (dk_at dksX11_pilgrim_3 12 rfl rfl)
theorem dX11_pilgrim_84 : decode cX11_pilgrim 84 = .ok (.iload 4, 2) := dk_21 4 (dk_at dksX11_pilgrim_3 13 rfl rfl)
theorem dX11_pilgrim_86 : decode cX11_pilgrim 86 = .ok (.ishl, 1) := dk_120 (dk_at dksX11_pilgrim_3 15 rfl rfl)
theorem dX11_pilgrim_87 : decode cX11_pilgrim 87 = .ok (.goto 4, 3) := dk_167 0 4 (dk_at dksX11_pilgrim_3 16 rfl rfl)
theorem dX11_pilgrim_90 : decode cX11_pilgrim 90 = .ok (.iconst 0, 1) := dk_3 (dk_at dksX11_pilgrim_3 19 rfl rfl)
theorem dX11_pilgrim_91 : decode cX11_pilgrim 91 = .ok (.ior, 1) := dk_128 (dk_at dksX11_pilgrim_3 20 rfl rfl)
theorem dX11_pilgrim_92 : decode cX11_pilgrim 92 = .ok (.istore_n 3, 1) := dk_62 (dk_at dksX11_pilgrim_3 21 rfl rfl)
theorem dX11_pilgrim_93 : decode cX11_pilgrim 93 = .ok (.iinc 4 1, 3) := dk_132 4 1 (dk_at dksX11_pilgrim_4 0 rfl rfl)
theorem dX11_pilgrim_96 : decode cX11_pilgrim 96 = .ok (.goto (-39), 3) := dk_167 255 217 (dk_at dksX11_pilgrim_4 3 rfl rfl)
theorem dX11_pilgrim_99 : decode cX11_pilgrim 99 = .ok (.iload_n 2, 1) := dk_28 (dk_at dksX11_pilgrim_4 6 rfl rfl)
theorem dX11_pilgrim_100 : decode cX11_pilgrim 100 = .ok (.iconst 2, 1) := dk_5 (dk_at dksX11_pilgrim_4 7 rfl rfl)
theorem dX11_pilgrim_101 : decode cX11_pilgrim 101 = .ok (.if_icmp .ge 14, 3) := dk_162 0 14 (dk_at dksX11_pilgrim_4 8 rfl rfl)
theorem dX11_pilgrim_104 : decode cX11_pilgrim 104 = .ok (.aload_n 0, 1) := dk_42 (dk_at dksX11_pilgrim_4 11 rfl rfl)
theorem dX11_pilgrim_105 : decode cX11_pilgrim 105 = .ok (.getfield 49, 3) := dk_180 0 49 (dk_at dksX11_pilgrim_4 12 rfl rfl)
theorem dX11_pilgrim_108 : decode cX11_pilgrim 108 = .ok (.iload_n 1, 1) := dk_27 (dk_at dksX11_pilgrim_4 15 rfl rfl)
theorem dX11_pilgrim_109 : decode cX11_pilgrim 109 = .ok (.aaload, 1) := dk_50 (dk_at dksX11_pilgrim_4 16 rfl rfl)
theorem dX11_pilgrim_110 : decode cX11_pilgrim 110 = .ok (.iload_n 2, 1) := dk_28 (dk_at dksX11_pilgrim_4 17 rfl rfl)
theorem dX11_pilgrim_111 : decode cX11_pilgrim 111 = .ok (.iaload, 1) := dk_46 (dk_at dksX11_pilgrim_4 18 rfl rfl)
theorem dX11_pilgrim_112 : decode cX11_pilgrim 112 = .ok (.goto 21, 3) := dk_167 0 21 (dk_at dksX11_pilgrim_4 19 rfl rfl)
theorem dX11_pilgrim_115 : decode cX11_pilgrim 115 = .ok (.iload_n 2, 1) := dk_28 (dk_at dksX11_pilgrim_4 22 rfl rfl)
theorem dX11_pilgrim_116 : decode cX11_pilgrim 116 = .ok (.iconst 2, 1) := dk_5 (dk_at dksX11_pilgrim_4 23 rfl rfl)
theorem dX11_pilgrim_117 : decode cX11_pilgrim 117 = .ok (.if_icmp .ne 15, 3) := dk_160 0 15 (dk_at dksX11_pilgrim_5 0 rfl rfl)
theorem dX11_pilgrim_120 : decode cX11_pilgrim 120 = .ok (.aload_n 0, 1) := dk_42 (dk_at dksX11_pilgrim_5 3 rfl rfl)
theorem dX11_pilgrim_121 : decode cX11_pilgrim 121 = .ok (.getfield 73, 3) := dk_180 0 73 (dk_at dksX11_pilgrim_5 4 rfl rfl)
theorem dX11_pilgrim_124 : decode cX11_pilgrim 124 = .ok (.bipush 36, 2) := dk_16 36 (dk_at dksX11_pilgrim_5 7 rfl rfl)
theorem dX11_pilgrim_126 : decode cX11_pilgrim 126 = .ok (.iload_n 1, 1) := dk_27 (dk_at dksX11_pilgrim_5 9 rfl rfl)
theorem dX11_pilgrim_127 : decode cX11_pilgrim 127 = .ok (.iadd, 1) := dk_96 (dk_at dksX11_pilgrim_5 10 rfl rfl)
theorem dX11_pilgrim_128 : decode cX11_pilgrim 128 = .ok (.iaload, 1) := dk_46 (dk_at dksX11_pilgrim_5 11 rfl rfl)
theorem dX11_pilgrim_129 : decode cX11_pilgrim 129 = .ok (.goto 4, 3) := dk_167 0 4 (dk_at dksX11_pilgrim_5 12 rfl rfl)
theorem dX11_pilgrim_132 : decode cX11_pilgrim 132 = .ok (.iload_n 3, 1) := dk_29 (dk_at dksX11_pilgrim_5 15 rfl rfl)
theorem dX11_pilgrim_133 : decode cX11_pilgrim 133 = .ok (.ireturn, 1) := dk_172 (dk_at dksX11_pilgrim_5 16 rfl rfl)
def dkwX11_isPerson_0 : List UInt8 := [27, 3, 42, 180, 0, 23, 5, 46, 4, 100, 184, 0, 137, 172]
abbrev dktX11_isPerson_0 : List UInt8 := dkwX11_isPerson_0 ++ []
theorem dksX11_isPerson_0 : cX11_isPerson.data.toList.drop 0 = dktX11_isPerson_0 := by decide +kernel
theorem dX11_isPerson_0 : decode cX11_isPerson 0 = .ok (.iload_n 1, 1) := dk_27 (dk_at dksX11_isPerson_0 0 rfl rfl)
theorem dX11_isPerson_1 : decode cX11_isPerson 1 = .ok (.iconst 0, 1) := dk_3 (dk_at dksX11_isPerson_0 1 rfl rfl)
theorem dX11_isPerson_2 : decode cX11_isPerson 2 = .ok (.aload_n 0, 1) := dk_42 (dk_at dksX11_isPerson_0 2 rfl rfl)
theorem dX11_isPerson_3 : decode cX11_isPerson 3 = .ok (.getfield 23, 3) := dk_180 0 23 (dk_at dksX11_isPerson_0 3 rfl rfl)
theorem dX11_isPerson_6 : decode cX11_isPerson 6 = .ok (.iconst 2, 1) := dk_5 (dk_at dksX11_isPerson_0 6 rfl rfl)
theorem dX11_isPerson_7 : decode cX11_isPerson 7 = .ok (.iaload, 1) := dk_46 (dk_at dksX11_isPerson_0 7 rfl rfl)
theorem dX11_isPerson_8 : decode cX11_isPerson 8 = .ok (.iconst 1, 1) := dk_4 (dk_at dksX11_isPerson_0 8 rfl rfl)
theorem dX11_isPerson_9 : decode cX11_isPerson 9 = .ok (.isub, 1) := dk_100 (dk_at dksX11_isPerson_0 9 rfl rfl)
theorem dX11_isPerson_10 : decode cX11_isPerson 10 = .ok (.invokestatic 137, 3) := dk_184 0 137 (dk_at dksX11_isPerson_0 10 rfl rfl)
theorem dX11_isPerson_13 : decode cX11_isPerson 13 = .ok (.ireturn, 1) := dk_172 (dk_at dksX11_isPerson_0 13 rfl rfl)
def dkwX11_would_5 : List UInt8 := [21, 7, 21, 8, 182, 1, 25, 172]
abbrev dktX11_would_5 : List UInt8 := dkwX11_would_5 ++ []
def dkwX11_would_4 : List UInt8 := [167, 0, 4, 3, 4, 4, 182, 0, 183, 153, 0, 5, 3, 172, 42, 27, 28, 29, 21, 4, 21, 5, 21, 6]
abbrev dktX11_would_4 : List UInt8 := dkwX11_would_4 ++ dktX11_would_5
def dkwX11_would_3 : List UInt8 := [21, 7, 3, 16, 7, 184, 0, 137, 153, 0, 15, 21, 8, 3, 17, 1, 244, 184, 0, 137, 154, 0, 7, 4]
abbrev dktX11_would_3 : List UInt8 := dkwX11_would_3 ++ dktX11_would_4
def dkwX11_would_2 : List UInt8 := [153, 0, 47, 21, 5, 3, 8, 184, 0, 137, 153, 0, 37, 21, 6, 3, 16, 9, 184, 0, 137, 153, 0, 26]
abbrev dktX11_would_2 : List UInt8 := dkwX11_would_2 ++ dktX11_would_3
def dkwX11_would_1 : List UInt8 := [153, 0, 69, 29, 3, 17, 3, 231, 184, 0, 137, 153, 0, 58, 21, 4, 3, 16, 15, 184, 0, 137]
abbrev dktX11_would_1 : List UInt8 := dkwX11_would_1 ++ dktX11_would_2
def dkwX11_would_0 : List UInt8 := [42, 3, 181, 0, 103, 42, 27, 4, 16, 30, 184, 0, 137, 153, 0, 80, 28, 3, 17, 3, 231, 184, 0, 137]
abbrev dktX11_would_0 : List UInt8 := dkwX11_would_0 ++ dktX11_would_1
theorem dksX11_would_0 : cX11_would.data.toList.drop 0 = dktX11_would_0 := by decide +kernel
theorem dksX11_would_1 : cX11_would.data.toList.drop 24 = dktX11_would_1 := dk_seg dksX11_would_0 24 rfl rfl
theorem dksX11_would_2 : cX11_would.data.toList.drop 46 = dktX11_would_2 := dk_seg dksX11_would_1 22 rfl rfl
theorem dksX11_would_3 : cX11_would.data.toList.drop 70 = dktX11_would_3 := dk_seg dksX11_would_2 24 rfl rfl
theorem dksX11_would_4 : cX11_would.data.toList.drop 94 = dktX11_would_4 := dk_seg dksX11_would_3 24 rfl rfl
theorem dksX11_would_5 : cX11_would.data.toList.drop 118 = dktX11_would_5 := dk_seg dksX11_would_4 24 rfl rfl
theorem dX11_would_0 : decode cX11_would 0 = .ok (.aload_n 0, 1) := dk_42 (dk_at dksX11_would_0 0 rfl rfl)
theorem dX11_would_1 : decode cX11_would 1 = .ok (.iconst 0, 1) := dk_3 (dk_at dksX11_would_0 1 rfl rfl)
theorem dX11_would_2 : decode cX11_would 2 = .ok (.putfield 103, 3) := dk_181 0 103 (dk_at dksX11_would_0 2 rfl rfl)
theorem dX11_would_5 : decode cX11_would 5 = .ok (.aload_n 0, 1) := dk_42 (dk_at dksX11_would_0 5 rfl rfl)
theorem dX11_would_6 : decode cX11_would 6 = .ok (.iload_n 1, 1) := dk_27 (dk_at dksX11_would_0 6 rfl rfl)
theorem dX11_would_7 : decode cX11_would 7 = .ok (.iconst 1, 1) := dk_4 (dk_at dksX11_would_0 7 rfl rfl)
theorem dX11_would_8 : decode cX11_would 8 = .ok (.bipush 30, 2) := dk_16 30 (dk_at dksX11_would_0 8 rfl rfl)
theorem dX11_would_10 : decode cX11_would 10 = .ok (.invokestatic 137, 3) := dk_184 0 137 (dk_at dksX11_would_0 10 rfl rfl)
theorem dX11_would_13 : decode cX11_would 13 = .ok (.ifCond .eq 80, 3) := dk_153 0 80 (dk_at dksX11_would_0 13 rfl rfl)
theorem dX11_would_16 : decode cX11_would 16 = .ok (.iload_n 2, 1) := dk_28 (dk_at dksX11_would_0 16 rfl rfl)
theorem dX11_would_17 : decode cX11_would 17 = .ok (.iconst 0, 1) := dk_3 (dk_at dksX11_would_0 17 rfl rfl)
theorem dX11_would_18 : decode cX11_would 18 = .ok (.sipush 999, 3) := dk_17 3 231 (dk_at dksX11_would_0 18 rfl rfl)
theorem dX11_would_21 : decode cX11_would 21 = .ok (.invokestatic 137, 3) := dk_184 0 137 (dk_at dksX11_would_0 21 rfl rfl)
theorem dX11_would_24 : decode cX11_would 24 = .ok (.ifCond .eq 69, 3) := dk_153 0 69 (dk_at dksX11_would_1 0 rfl rfl)
theorem dX11_would_27 : decode cX11_would 27 = .ok (.iload_n 3, 1) := dk_29 (dk_at dksX11_would_1 3 rfl rfl)
theorem dX11_would_28 : decode cX11_would 28 = .ok (.iconst 0, 1) := dk_3 (dk_at dksX11_would_1 4 rfl rfl)
theorem dX11_would_29 : decode cX11_would 29 = .ok (.sipush 999, 3) := dk_17 3 231 (dk_at dksX11_would_1 5 rfl rfl)
theorem dX11_would_32 : decode cX11_would 32 = .ok (.invokestatic 137, 3) := dk_184 0 137 (dk_at dksX11_would_1 8 rfl rfl)
theorem dX11_would_35 : decode cX11_would 35 = .ok (.ifCond .eq 58, 3) := dk_153 0 58 (dk_at dksX11_would_1 11 rfl rfl)
theorem dX11_would_38 : decode cX11_would 38 = .ok (.iload 4, 2) := dk_21 4 (dk_at dksX11_would_1 14 rfl rfl)
theorem dX11_would_40 : decode cX11_would 40 = .ok (.iconst 0, 1) := dk_3 (dk_at dksX11_would_1 16 rfl rfl)
theorem dX11_would_41 : decode cX11_would 41 = .ok (.bipush 15, 2) := dk_16 15 (dk_at dksX11_would_1 17 rfl rfl)
theorem dX11_would_43 : decode cX11_would 43 = .ok (.invokestatic 137, 3) := dk_184 0 137 (dk_at dksX11_would_1 19 rfl rfl)
theorem dX11_would_46 : decode cX11_would 46 = .ok (.ifCond .eq 47, 3) := dk_153 0 47 (dk_at dksX11_would_2 0 rfl rfl)
theorem dX11_would_49 : decode cX11_would 49 = .ok (.iload 5, 2) := dk_21 5 (dk_at dksX11_would_2 3 rfl rfl)
theorem dX11_would_51 : decode cX11_would 51 = .ok (.iconst 0, 1) := dk_3 (dk_at dksX11_would_2 5 rfl rfl)
theorem dX11_would_52 : decode cX11_would 52 = .ok (.iconst 5, 1) := dk_8 (dk_at dksX11_would_2 6 rfl rfl)
theorem dX11_would_53 : decode cX11_would 53 = .ok (.invokestatic 137, 3) := dk_184 0 137 (dk_at dksX11_would_2 7 rfl rfl)
theorem dX11_would_56 : decode cX11_would 56 = .ok (.ifCond .eq 37, 3) := dk_153 0 37 (dk_at dksX11_would_2 10 rfl rfl)
theorem dX11_would_59 : decode cX11_would 59 = .ok (.iload 6, 2) := dk_21 6 (dk_at dksX11_would_2 13 rfl rfl)
theorem dX11_would_61 : decode cX11_would 61 = .ok (.iconst 0, 1) := dk_3 (dk_at dksX11_would_2 15 rfl rfl)
theorem dX11_would_62 : decode cX11_would 62 = .ok (.bipush 9, 2) := dk_16 9 (dk_at dksX11_would_2 16 rfl rfl)
theorem dX11_would_64 : decode cX11_would 64 = .ok (.invokestatic 137, 3) := dk_184 0 137 (dk_at dksX11_would_2 18 rfl rfl)
theorem dX11_would_67 : decode cX11_would 67 = .ok (.ifCond .eq 26, 3) := dk_153 0 26 (dk_at dksX11_would_2 21 rfl rfl)
theorem dX11_would_70 : decode cX11_would 70 = .ok (.iload 7, 2) := dk_21 7 (dk_at dksX11_would_3 0 rfl rfl)
theorem dX11_would_72 : decode cX11_would 72 = .ok (.iconst 0, 1) := dk_3 (dk_at dksX11_would_3 2 rfl rfl)
theorem dX11_would_73 : decode cX11_would 73 = .ok (.bipush 7, 2) := dk_16 7 (dk_at dksX11_would_3 3 rfl rfl)
theorem dX11_would_75 : decode cX11_would 75 = .ok (.invokestatic 137, 3) := dk_184 0 137 (dk_at dksX11_would_3 5 rfl rfl)
theorem dX11_would_78 : decode cX11_would 78 = .ok (.ifCond .eq 15, 3) := dk_153 0 15 (dk_at dksX11_would_3 8 rfl rfl)
theorem dX11_would_81 : decode cX11_would 81 = .ok (.iload 8, 2) := dk_21 8 (dk_at dksX11_would_3 11 rfl rfl)
theorem dX11_would_83 : decode cX11_would 83 = .ok (.iconst 0, 1) := dk_3 (dk_at dksX11_would_3 13 rfl rfl)
theorem dX11_would_84 : decode cX11_would 84 = .ok (.sipush 500, 3) := dk_17 1 244 (dk_at dksX11_would_3 14 rfl rfl)
theorem dX11_would_87 : decode cX11_would 87 = .ok (.invokestatic 137, 3) := dk_184 0 137 (dk_at dksX11_would_3 17 rfl rfl)
theorem dX11_would_90 : decode cX11_would 90 = .ok (.ifCond .ne 7, 3) := dk_154 0 7 (dk_at dksX11_would_3 20 rfl rfl)
theorem dX11_would_93 : decode cX11_would 93 = .ok (.iconst 1, 1) := dk_4 (dk_at dksX11_would_3 23 rfl rfl)
theorem dX11_would_94 : decode cX11_would 94 = .ok (.goto 4, 3) := dk_167 0 4 (dk_at dksX11_would_4 0 rfl rfl)
theorem dX11_would_97 : decode cX11_would 97 = .ok (.iconst 0, 1) := dk_3 (dk_at dksX11_would_4 3 rfl rfl)
theorem dX11_would_98 : decode cX11_would 98 = .ok (.iconst 1, 1) := dk_4 (dk_at dksX11_would_4 4 rfl rfl)
theorem dX11_would_99 : decode cX11_would 99 = .ok (.iconst 1, 1) := dk_4 (dk_at dksX11_would_4 5 rfl rfl)
theorem dX11_would_100 : decode cX11_would 100 = .ok (.invokevirtual 183, 3) := dk_182 0 183 (dk_at dksX11_would_4 6 rfl rfl)
theorem dX11_would_103 : decode cX11_would 103 = .ok (.ifCond .eq 5, 3) := dk_153 0 5 (dk_at dksX11_would_4 9 rfl rfl)
theorem dX11_would_106 : decode cX11_would 106 = .ok (.iconst 0, 1) := dk_3 (dk_at dksX11_would_4 12 rfl rfl)
theorem dX11_would_107 : decode cX11_would 107 = .ok (.ireturn, 1) := dk_172 (dk_at dksX11_would_4 13 rfl rfl)
theorem dX11_would_108 : decode cX11_would 108 = .ok (.aload_n 0, 1) := dk_42 (dk_at dksX11_would_4 14 rfl rfl)
theorem dX11_would_109 : decode cX11_would 109 = .ok (.iload_n 1, 1) := dk_27 (dk_at dksX11_would_4 15 rfl rfl)
theorem dX11_would_110 : decode cX11_would 110 = .ok (.iload_n 2, 1) := dk_28 (dk_at dksX11_would_4 16 rfl rfl)
theorem dX11_would_111 : decode cX11_would 111 = .ok (.iload_n 3, 1) := dk_29 (dk_at dksX11_would_4 17 rfl rfl)
theorem dX11_would_112 : decode cX11_would 112 = .ok (.iload 4, 2) := dk_21 4 (dk_at dksX11_would_4 18 rfl rfl)
theorem dX11_would_114 : decode cX11_would 114 = .ok (.iload 5, 2) := dk_21 5 (dk_at dksX11_would_4 20 rfl rfl)
theorem dX11_would_116 : decode cX11_would 116 = .ok (.iload 6, 2) := dk_21 6 (dk_at dksX11_would_4 22 rfl rfl)
theorem dX11_would_118 : decode cX11_would 118 = .ok (.iload 7, 2) := dk_21 7 (dk_at dksX11_would_5 0 rfl rfl)
theorem dX11_would_120 : decode cX11_would 120 = .ok (.iload 8, 2) := dk_21 8 (dk_at dksX11_would_5 2 rfl rfl)
theorem dX11_would_122 : decode cX11_would 122 = .ok (.invokevirtual 281, 3) := dk_182 1 25 (dk_at dksX11_would_5 4 rfl rfl)
theorem dX11_would_125 : decode cX11_would 125 = .ok (.ireturn, 1) := dk_172 (dk_at dksX11_would_5 7 rfl rfl)
def dkwX11_can_2 : List UInt8 := [172]
abbrev dktX11_can_2 : List UInt8 := dkwX11_can_2 ++ []
def dkwX11_can_1 : List UInt8 := [167, 0, 4, 3, 4, 3, 182, 0, 183, 153, 0, 5, 3, 172, 42, 42, 180, 0, 73, 27, 28, 182, 1, 43]
abbrev dktX11_can_1 : List UInt8 := dkwX11_can_1 ++ dktX11_can_2
def dkwX11_can_0 : List UInt8 := [42, 3, 181, 0, 103, 42, 42, 27, 182, 1, 83, 153, 0, 11, 42, 28, 182, 1, 86, 154, 0, 7, 4]
abbrev dktX11_can_0 : List UInt8 := dkwX11_can_0 ++ dktX11_can_1
theorem dksX11_can_0 : cX11_can.data.toList.drop 0 = dktX11_can_0 := by decide +kernel
theorem dksX11_can_1 : cX11_can.data.toList.drop 23 = dktX11_can_1 := dk_seg dksX11_can_0 23 rfl rfl
theorem dksX11_can_2 : cX11_can.data.toList.drop 47 = dktX11_can_2 := dk_seg dksX11_can_1 24 rfl rfl
theorem dX11_can_0 : decode cX11_can 0 = .ok (.aload_n 0, 1) := dk_42 (dk_at dksX11_can_0 0 rfl rfl)
theorem dX11_can_1 : decode cX11_can 1 = .ok (.iconst 0, 1) := dk_3 (dk_at dksX11_can_0 1 rfl rfl)
theorem dX11_can_2 : decode cX11_can 2 = .ok (.putfield 103, 3) := dk_181 0 103 (dk_at dksX11_can_0 2 rfl rfl)
theorem dX11_can_5 : decode cX11_can 5 = .ok (.aload_n 0, 1) := dk_42 (dk_at dksX11_can_0 5 rfl rfl)
theorem dX11_can_6 : decode cX11_can 6 = .ok (.aload_n 0, 1) := dk_42 (dk_at dksX11_can_0 6 rfl rfl)
theorem dX11_can_7 : decode cX11_can 7 = .ok (.iload_n 1, 1) := dk_27 (dk_at dksX11_can_0 7 rfl rfl)
theorem dX11_can_8 : decode cX11_can 8 = .ok (.invokevirtual 339, 3) := dk_182 1 83 (dk_at dksX11_can_0 8 rfl rfl)
theorem dX11_can_11 : decode cX11_can 11 = .ok (.ifCond .eq 11, 3) := dk_153 0 11 (dk_at dksX11_can_0 11 rfl rfl)
theorem dX11_can_14 : decode cX11_can 14 = .ok (.aload_n 0, 1) := dk_42 (dk_at dksX11_can_0 14 rfl rfl)
theorem dX11_can_15 : decode cX11_can 15 = .ok (.iload_n 2, 1) := dk_28 (dk_at dksX11_can_0 15 rfl rfl)
theorem dX11_can_16 : decode cX11_can 16 = .ok (.invokevirtual 342, 3) := dk_182 1 86 (dk_at dksX11_can_0 16 rfl rfl)
theorem dX11_can_19 : decode cX11_can 19 = .ok (.ifCond .ne 7, 3) := dk_154 0 7 (dk_at dksX11_can_0 19 rfl rfl)
theorem dX11_can_22 : decode cX11_can 22 = .ok (.iconst 1, 1) := dk_4 (dk_at dksX11_can_0 22 rfl rfl)
theorem dX11_can_23 : decode cX11_can 23 = .ok (.goto 4, 3) := dk_167 0 4 (dk_at dksX11_can_1 0 rfl rfl)
theorem dX11_can_26 : decode cX11_can 26 = .ok (.iconst 0, 1) := dk_3 (dk_at dksX11_can_1 3 rfl rfl)
theorem dX11_can_27 : decode cX11_can 27 = .ok (.iconst 1, 1) := dk_4 (dk_at dksX11_can_1 4 rfl rfl)
theorem dX11_can_28 : decode cX11_can 28 = .ok (.iconst 0, 1) := dk_3 (dk_at dksX11_can_1 5 rfl rfl)
theorem dX11_can_29 : decode cX11_can 29 = .ok (.invokevirtual 183, 3) := dk_182 0 183 (dk_at dksX11_can_1 6 rfl rfl)
theorem dX11_can_32 : decode cX11_can 32 = .ok (.ifCond .eq 5, 3) := dk_153 0 5 (dk_at dksX11_can_1 9 rfl rfl)
theorem dX11_can_35 : decode cX11_can 35 = .ok (.iconst 0, 1) := dk_3 (dk_at dksX11_can_1 12 rfl rfl)
theorem dX11_can_36 : decode cX11_can 36 = .ok (.ireturn, 1) := dk_172 (dk_at dksX11_can_1 13 rfl rfl)
theorem dX11_can_37 : decode cX11_can 37 = .ok (.aload_n 0, 1) := dk_42 (dk_at dksX11_can_1 14 rfl rfl)
theorem dX11_can_38 : decode cX11_can 38 = .ok (.aload_n 0, 1) := dk_42 (dk_at dksX11_can_1 15 rfl rfl)
theorem dX11_can_39 : decode cX11_can 39 = .ok (.getfield 73, 3) := dk_180 0 73 (dk_at dksX11_can_1 16 rfl rfl)
theorem dX11_can_42 : decode cX11_can 42 = .ok (.iload_n 1, 1) := dk_27 (dk_at dksX11_can_1 19 rfl rfl)
theorem dX11_can_43 : decode cX11_can 43 = .ok (.iload_n 2, 1) := dk_28 (dk_at dksX11_can_1 20 rfl rfl)
theorem dX11_can_44 : decode cX11_can 44 = .ok (.invokevirtual 299, 3) := dk_182 1 43 (dk_at dksX11_can_1 21 rfl rfl)
theorem dX11_can_47 : decode cX11_can 47 = .ok (.ireturn, 1) := dk_172 (dk_at dksX11_can_2 0 rfl rfl)
def dkwX11_when_3 : List UInt8 := [153, 0, 5, 29, 172, 42, 42, 180, 0, 76, 182, 1, 52, 132, 3, 1, 167, 255, 223, 2, 172]
abbrev dktX11_when_3 : List UInt8 := dkwX11_when_3 ++ []
def dkwX11_when_2 : List UInt8 := [184, 1, 69, 3, 62, 29, 17, 0, 200, 163, 0, 32, 42, 42, 180, 0, 76, 27, 28, 182, 1, 36]
abbrev dktX11_when_2 : List UInt8 := dkwX11_when_2 ++ dktX11_when_3
def dkwX11_when_1 : List UInt8 := [167, 0, 4, 3, 4, 3, 182, 0, 183, 153, 0, 5, 3, 172, 42, 180, 0, 73, 42, 180, 0, 76]
abbrev dktX11_when_1 : List UInt8 := dkwX11_when_1 ++ dktX11_when_2
def dkwX11_when_0 : List UInt8 := [42, 3, 181, 0, 103, 42, 42, 27, 182, 1, 83, 153, 0, 11, 42, 28, 182, 1, 86, 154, 0, 7, 4]
abbrev dktX11_when_0 : List UInt8 := dkwX11_when_0 ++ dktX11_when_1
theorem dksX11_when_0 : cX11_when.data.toList.drop 0 = dktX11_when_0 := by decide +kernel
theorem dksX11_when_1 : cX11_when.data.toList.drop 23 = dktX11_when_1 := dk_seg dksX11_when_0 23 rfl rfl
theorem dksX11_when_2 : cX11_when.data.toList.drop 45 = dktX11_when_2 := dk_seg dksX11_when_1 22 rfl rfl
theorem dksX11_when_3 : cX11_when.data.toList.drop 67 = dktX11_when_3 := dk_seg dksX11_when_2 22 rfl rfl
theorem dX11_when_0 : decode cX11_when 0 = .ok (.aload_n 0, 1) := dk_42 (dk_at dksX11_when_0 0 rfl rfl)
theorem dX11_when_1 : decode cX11_when 1 = .ok (.iconst 0, 1) := dk_3 (dk_at dksX11_when_0 1 rfl rfl)
theorem dX11_when_2 : decode cX11_when 2 = .ok (.putfield 103, 3) := dk_181 0 103 (dk_at dksX11_when_0 2 rfl rfl)
theorem dX11_when_5 : decode cX11_when 5 = .ok (.aload_n 0, 1) := dk_42 (dk_at dksX11_when_0 5 rfl rfl)
theorem dX11_when_6 : decode cX11_when 6 = .ok (.aload_n 0, 1) := dk_42 (dk_at dksX11_when_0 6 rfl rfl)
theorem dX11_when_7 : decode cX11_when 7 = .ok (.iload_n 1, 1) := dk_27 (dk_at dksX11_when_0 7 rfl rfl)
theorem dX11_when_8 : decode cX11_when 8 = .ok (.invokevirtual 339, 3) := dk_182 1 83 (dk_at dksX11_when_0 8 rfl rfl)
theorem dX11_when_11 : decode cX11_when 11 = .ok (.ifCond .eq 11, 3) := dk_153 0 11 (dk_at dksX11_when_0 11 rfl rfl)
theorem dX11_when_14 : decode cX11_when 14 = .ok (.aload_n 0, 1) := dk_42 (dk_at dksX11_when_0 14 rfl rfl)
theorem dX11_when_15 : decode cX11_when 15 = .ok (.iload_n 2, 1) := dk_28 (dk_at dksX11_when_0 15 rfl rfl)
theorem dX11_when_16 : decode cX11_when 16 = .ok (.invokevirtual 342, 3) := dk_182 1 86 (dk_at dksX11_when_0 16 rfl rfl)
theorem dX11_when_19 : decode cX11_when 19 = .ok (.ifCond .ne 7, 3) := dk_154 0 7 (dk_at dksX11_when_0 19 rfl rfl)
theorem dX11_when_22 : decode cX11_when 22 = .ok (.iconst 1, 1) := dk_4 (dk_at dksX11_when_0 22 rfl rfl)
theorem dX11_when_23 : decode cX11_when 23 = .ok (.goto 4, 3) := dk_167 0 4 (dk_at dksX11_when_1 0 rfl rfl)
theorem dX11_when_26 : decode cX11_when 26 = .ok (.iconst 0, 1) := dk_3 (dk_at dksX11_when_1 3 rfl rfl)
theorem dX11_when_27 : decode cX11_when 27 = .ok (.iconst 1, 1) := dk_4 (dk_at dksX11_when_1 4 rfl rfl)
theorem dX11_when_28 : decode cX11_when 28 = .ok (.iconst 0, 1) := dk_3 (dk_at dksX11_when_1 5 rfl rfl)
theorem dX11_when_29 : decode cX11_when 29 = .ok (.invokevirtual 183, 3) := dk_182 0 183 (dk_at dksX11_when_1 6 rfl rfl)
theorem dX11_when_32 : decode cX11_when 32 = .ok (.ifCond .eq 5, 3) := dk_153 0 5 (dk_at dksX11_when_1 9 rfl rfl)
theorem dX11_when_35 : decode cX11_when 35 = .ok (.iconst 0, 1) := dk_3 (dk_at dksX11_when_1 12 rfl rfl)
theorem dX11_when_36 : decode cX11_when 36 = .ok (.ireturn, 1) := dk_172 (dk_at dksX11_when_1 13 rfl rfl)
theorem dX11_when_37 : decode cX11_when 37 = .ok (.aload_n 0, 1) := dk_42 (dk_at dksX11_when_1 14 rfl rfl)
theorem dX11_when_38 : decode cX11_when 38 = .ok (.getfield 73, 3) := dk_180 0 73 (dk_at dksX11_when_1 15 rfl rfl)
theorem dX11_when_41 : decode cX11_when 41 = .ok (.aload_n 0, 1) := dk_42 (dk_at dksX11_when_1 18 rfl rfl)
theorem dX11_when_42 : decode cX11_when 42 = .ok (.getfield 76, 3) := dk_180 0 76 (dk_at dksX11_when_1 19 rfl rfl)
theorem dX11_when_45 : decode cX11_when 45 = .ok (.invokestatic 325, 3) := dk_184 1 69 (dk_at dksX11_when_2 0 rfl rfl)
theorem dX11_when_48 : decode cX11_when 48 = .ok (.iconst 0, 1) := dk_3 (dk_at dksX11_when_2 3 rfl rfl)
theorem dX11_when_49 : decode cX11_when 49 = .ok (.istore_n 3, 1) := dk_62 (dk_at dksX11_when_2 4 rfl rfl)
theorem dX11_when_50 : decode cX11_when 50 = .ok (.iload_n 3, 1) := dk_29 (dk_at dksX11_when_2 5 rfl rfl)
theorem dX11_when_51 : decode cX11_when 51 = .ok (.sipush 200, 3) := dk_17 0 200 (dk_at dksX11_when_2 6 rfl rfl)
theorem dX11_when_54 : decode cX11_when 54 = .ok (.if_icmp .gt 32, 3) := dk_163 0 32 (dk_at dksX11_when_2 9 rfl rfl)
theorem dX11_when_57 : decode cX11_when 57 = .ok (.aload_n 0, 1) := dk_42 (dk_at dksX11_when_2 12 rfl rfl)
theorem dX11_when_58 : decode cX11_when 58 = .ok (.aload_n 0, 1) := dk_42 (dk_at dksX11_when_2 13 rfl rfl)
theorem dX11_when_59 : decode cX11_when 59 = .ok (.getfield 76, 3) := dk_180 0 76 (dk_at dksX11_when_2 14 rfl rfl)
theorem dX11_when_62 : decode cX11_when 62 = .ok (.iload_n 1, 1) := dk_27 (dk_at dksX11_when_2 17 rfl rfl)
theorem dX11_when_63 : decode cX11_when 63 = .ok (.iload_n 2, 1) := dk_28 (dk_at dksX11_when_2 18 rfl rfl)
theorem dX11_when_64 : decode cX11_when 64 = .ok (.invokevirtual 292, 3) := dk_182 1 36 (dk_at dksX11_when_2 19 rfl rfl)
theorem dX11_when_67 : decode cX11_when 67 = .ok (.ifCond .eq 5, 3) := dk_153 0 5 (dk_at dksX11_when_3 0 rfl rfl)
theorem dX11_when_70 : decode cX11_when 70 = .ok (.iload_n 3, 1) := dk_29 (dk_at dksX11_when_3 3 rfl rfl)
theorem dX11_when_71 : decode cX11_when 71 = .ok (.ireturn, 1) := dk_172 (dk_at dksX11_when_3 4 rfl rfl)
theorem dX11_when_72 : decode cX11_when 72 = .ok (.aload_n 0, 1) := dk_42 (dk_at dksX11_when_3 5 rfl rfl)
theorem dX11_when_73 : decode cX11_when 73 = .ok (.aload_n 0, 1) := dk_42 (dk_at dksX11_when_3 6 rfl rfl)
theorem dX11_when_74 : decode cX11_when 74 = .ok (.getfield 76, 3) := dk_180 0 76 (dk_at dksX11_when_3 7 rfl rfl)
theorem dX11_when_77 : decode cX11_when 77 = .ok (.invokevirtual 308, 3) := dk_182 1 52 (dk_at dksX11_when_3 10 rfl rfl)
theorem dX11_when_80 : decode cX11_when 80 = .ok (.iinc 3 1, 3) := dk_132 3 1 (dk_at dksX11_when_3 13 rfl rfl)
theorem dX11_when_83 : decode cX11_when 83 = .ok (.goto (-33), 3) := dk_167 255 223 (dk_at dksX11_when_3 16 rfl rfl)
theorem dX11_when_86 : decode cX11_when 86 = .ok (.iconst (-1), 1) := dk_2 (dk_at dksX11_when_3 19 rfl rfl)
theorem dX11_when_87 : decode cX11_when 87 = .ok (.ireturn, 1) := dk_172 (dk_at dksX11_when_3 20 rfl rfl)
def dkwX11_ahead_5 : List UInt8 := [42, 42, 180, 0, 76, 27, 182, 1, 33, 172]
abbrev dktX11_ahead_5 : List UInt8 := dkwX11_ahead_5 ++ []
def dkwX11_ahead_4 : List UInt8 := [87, 3, 54, 4, 21, 4, 28, 162, 0, 17, 42, 42, 180, 0, 76, 182, 1, 52, 132, 4, 1, 167, 255, 239]
abbrev dktX11_ahead_4 : List UInt8 := dkwX11_ahead_4 ++ dktX11_ahead_5
def dkwX11_ahead_3 : List UInt8 := [184, 1, 69, 29, 4, 160, 0, 20, 42, 42, 180, 0, 76, 42, 180, 0, 43, 27, 50, 3, 46, 182, 1, 46]
abbrev dktX11_ahead_3 : List UInt8 := dkwX11_ahead_3 ++ dktX11_ahead_4
def dkwX11_ahead_2 : List UInt8 := [167, 0, 4, 3, 5, 4, 182, 0, 183, 153, 0, 5, 3, 172, 42, 180, 0, 73, 42, 180, 0, 76]
abbrev dktX11_ahead_2 : List UInt8 := dkwX11_ahead_2 ++ dktX11_ahead_3
def dkwX11_ahead_1 : List UInt8 := [154, 0, 36, 42, 28, 3, 16, 99, 184, 0, 137, 153, 0, 12, 29, 3, 4, 184, 0, 137, 154, 0, 7, 4]
abbrev dktX11_ahead_1 : List UInt8 := dkwX11_ahead_1 ++ dktX11_ahead_2
def dkwX11_ahead_0 : List UInt8 := [42, 3, 181, 0, 103, 42, 42, 27, 182, 1, 83, 154, 0, 7, 4, 167, 0, 4, 3, 4, 3, 182, 0, 183]
abbrev dktX11_ahead_0 : List UInt8 := dkwX11_ahead_0 ++ dktX11_ahead_1
theorem dksX11_ahead_0 : cX11_ahead.data.toList.drop 0 = dktX11_ahead_0 := by decide +kernel
theorem dksX11_ahead_1 : cX11_ahead.data.toList.drop 24 = dktX11_ahead_1 := dk_seg dksX11_ahead_0 24 rfl rfl
theorem dksX11_ahead_2 : cX11_ahead.data.toList.drop 48 = dktX11_ahead_2 := dk_seg dksX11_ahead_1 24 rfl rfl
theorem dksX11_ahead_3 : cX11_ahead.data.toList.drop 70 = dktX11_ahead_3 := dk_seg dksX11_ahead_2 22 rfl rfl
theorem dksX11_ahead_4 : cX11_ahead.data.toList.drop 94 = dktX11_ahead_4 := dk_seg dksX11_ahead_3 24 rfl rfl
theorem dksX11_ahead_5 : cX11_ahead.data.toList.drop 118 = dktX11_ahead_5 := dk_seg dksX11_ahead_4 24 rfl rfl
theorem dX11_ahead_0 : decode cX11_ahead 0 = .ok (.aload_n 0, 1) := dk_42 (dk_at dksX11_ahead_0 0 rfl rfl)
theorem dX11_ahead_1 : decode cX11_ahead 1 = .ok (.iconst 0, 1) := dk_3 (dk_at dksX11_ahead_0 1 rfl rfl)
theorem dX11_ahead_2 : decode cX11_ahead 2 = .ok (.putfield 103, 3) := dk_181 0 103 (dk_at dksX11_ahead_0 2 rfl rfl)
theorem dX11_ahead_5 : decode cX11_ahead 5 = .ok (.aload_n 0, 1) := dk_42 (dk_at dksX11_ahead_0 5 rfl rfl)
theorem dX11_ahead_6 : decode cX11_ahead 6 = .ok (.aload_n 0, 1) := dk_42 (dk_at dksX11_ahead_0 6 rfl rfl)
theorem dX11_ahead_7 : decode cX11_ahead 7 = .ok (.iload_n 1, 1) := dk_27 (dk_at dksX11_ahead_0 7 rfl rfl)
theorem dX11_ahead_8 : decode cX11_ahead 8 = .ok (.invokevirtual 339, 3) := dk_182 1 83 (dk_at dksX11_ahead_0 8 rfl rfl)
theorem dX11_ahead_11 : decode cX11_ahead 11 = .ok (.ifCond .ne 7, 3) := dk_154 0 7 (dk_at dksX11_ahead_0 11 rfl rfl)
theorem dX11_ahead_14 : decode cX11_ahead 14 = .ok (.iconst 1, 1) := dk_4 (dk_at dksX11_ahead_0 14 rfl rfl)
theorem dX11_ahead_15 : decode cX11_ahead 15 = .ok (.goto 4, 3) := dk_167 0 4 (dk_at dksX11_ahead_0 15 rfl rfl)
theorem dX11_ahead_18 : decode cX11_ahead 18 = .ok (.iconst 0, 1) := dk_3 (dk_at dksX11_ahead_0 18 rfl rfl)
theorem dX11_ahead_19 : decode cX11_ahead 19 = .ok (.iconst 1, 1) := dk_4 (dk_at dksX11_ahead_0 19 rfl rfl)
theorem dX11_ahead_20 : decode cX11_ahead 20 = .ok (.iconst 0, 1) := dk_3 (dk_at dksX11_ahead_0 20 rfl rfl)
theorem dX11_ahead_21 : decode cX11_ahead 21 = .ok (.invokevirtual 183, 3) := dk_182 0 183 (dk_at dksX11_ahead_0 21 rfl rfl)
theorem dX11_ahead_24 : decode cX11_ahead 24 = .ok (.ifCond .ne 36, 3) := dk_154 0 36 (dk_at dksX11_ahead_1 0 rfl rfl)
theorem dX11_ahead_27 : decode cX11_ahead 27 = .ok (.aload_n 0, 1) := dk_42 (dk_at dksX11_ahead_1 3 rfl rfl)
theorem dX11_ahead_28 : decode cX11_ahead 28 = .ok (.iload_n 2, 1) := dk_28 (dk_at dksX11_ahead_1 4 rfl rfl)
theorem dX11_ahead_29 : decode cX11_ahead 29 = .ok (.iconst 0, 1) := dk_3 (dk_at dksX11_ahead_1 5 rfl rfl)
theorem dX11_ahead_30 : decode cX11_ahead 30 = .ok (.bipush 99, 2) := dk_16 99 (dk_at dksX11_ahead_1 6 rfl rfl)
theorem dX11_ahead_32 : decode cX11_ahead 32 = .ok (.invokestatic 137, 3) := dk_184 0 137 (dk_at dksX11_ahead_1 8 rfl rfl)
theorem dX11_ahead_35 : decode cX11_ahead 35 = .ok (.ifCond .eq 12, 3) := dk_153 0 12 (dk_at dksX11_ahead_1 11 rfl rfl)
theorem dX11_ahead_38 : decode cX11_ahead 38 = .ok (.iload_n 3, 1) := dk_29 (dk_at dksX11_ahead_1 14 rfl rfl)
theorem dX11_ahead_39 : decode cX11_ahead 39 = .ok (.iconst 0, 1) := dk_3 (dk_at dksX11_ahead_1 15 rfl rfl)
theorem dX11_ahead_40 : decode cX11_ahead 40 = .ok (.iconst 1, 1) := dk_4 (dk_at dksX11_ahead_1 16 rfl rfl)
theorem dX11_ahead_41 : decode cX11_ahead 41 = .ok (.invokestatic 137, 3) := dk_184 0 137 (dk_at dksX11_ahead_1 17 rfl rfl)
theorem dX11_ahead_44 : decode cX11_ahead 44 = .ok (.ifCond .ne 7, 3) := dk_154 0 7 (dk_at dksX11_ahead_1 20 rfl rfl)
theorem dX11_ahead_47 : decode cX11_ahead 47 = .ok (.iconst 1, 1) := dk_4 (dk_at dksX11_ahead_1 23 rfl rfl)
theorem dX11_ahead_48 : decode cX11_ahead 48 = .ok (.goto 4, 3) := dk_167 0 4 (dk_at dksX11_ahead_2 0 rfl rfl)
theorem dX11_ahead_51 : decode cX11_ahead 51 = .ok (.iconst 0, 1) := dk_3 (dk_at dksX11_ahead_2 3 rfl rfl)
theorem dX11_ahead_52 : decode cX11_ahead 52 = .ok (.iconst 2, 1) := dk_5 (dk_at dksX11_ahead_2 4 rfl rfl)
theorem dX11_ahead_53 : decode cX11_ahead 53 = .ok (.iconst 1, 1) := dk_4 (dk_at dksX11_ahead_2 5 rfl rfl)
theorem dX11_ahead_54 : decode cX11_ahead 54 = .ok (.invokevirtual 183, 3) := dk_182 0 183 (dk_at dksX11_ahead_2 6 rfl rfl)
theorem dX11_ahead_57 : decode cX11_ahead 57 = .ok (.ifCond .eq 5, 3) := dk_153 0 5 (dk_at dksX11_ahead_2 9 rfl rfl)
theorem dX11_ahead_60 : decode cX11_ahead 60 = .ok (.iconst 0, 1) := dk_3 (dk_at dksX11_ahead_2 12 rfl rfl)
theorem dX11_ahead_61 : decode cX11_ahead 61 = .ok (.ireturn, 1) := dk_172 (dk_at dksX11_ahead_2 13 rfl rfl)
theorem dX11_ahead_62 : decode cX11_ahead 62 = .ok (.aload_n 0, 1) := dk_42 (dk_at dksX11_ahead_2 14 rfl rfl)
theorem dX11_ahead_63 : decode cX11_ahead 63 = .ok (.getfield 73, 3) := dk_180 0 73 (dk_at dksX11_ahead_2 15 rfl rfl)
theorem dX11_ahead_66 : decode cX11_ahead 66 = .ok (.aload_n 0, 1) := dk_42 (dk_at dksX11_ahead_2 18 rfl rfl)
theorem dX11_ahead_67 : decode cX11_ahead 67 = .ok (.getfield 76, 3) := dk_180 0 76 (dk_at dksX11_ahead_2 19 rfl rfl)
theorem dX11_ahead_70 : decode cX11_ahead 70 = .ok (.invokestatic 325, 3) := dk_184 1 69 (dk_at dksX11_ahead_3 0 rfl rfl)
theorem dX11_ahead_73 : decode cX11_ahead 73 = .ok (.iload_n 3, 1) := dk_29 (dk_at dksX11_ahead_3 3 rfl rfl)
theorem dX11_ahead_74 : decode cX11_ahead 74 = .ok (.iconst 1, 1) := dk_4 (dk_at dksX11_ahead_3 4 rfl rfl)
theorem dX11_ahead_75 : decode cX11_ahead 75 = .ok (.if_icmp .ne 20, 3) := dk_160 0 20 (dk_at dksX11_ahead_3 5 rfl rfl)
theorem dX11_ahead_78 : decode cX11_ahead 78 = .ok (.aload_n 0, 1) := dk_42 (dk_at dksX11_ahead_3 8 rfl rfl)
theorem dX11_ahead_79 : decode cX11_ahead 79 = .ok (.aload_n 0, 1) := dk_42 (dk_at dksX11_ahead_3 9 rfl rfl)
theorem dX11_ahead_80 : decode cX11_ahead 80 = .ok (.getfield 76, 3) := dk_180 0 76 (dk_at dksX11_ahead_3 10 rfl rfl)
theorem dX11_ahead_83 : decode cX11_ahead 83 = .ok (.aload_n 0, 1) := dk_42 (dk_at dksX11_ahead_3 13 rfl rfl)
theorem dX11_ahead_84 : decode cX11_ahead 84 = .ok (.getfield 43, 3) := dk_180 0 43 (dk_at dksX11_ahead_3 14 rfl rfl)
theorem dX11_ahead_87 : decode cX11_ahead 87 = .ok (.iload_n 1, 1) := dk_27 (dk_at dksX11_ahead_3 17 rfl rfl)
theorem dX11_ahead_88 : decode cX11_ahead 88 = .ok (.aaload, 1) := dk_50 (dk_at dksX11_ahead_3 18 rfl rfl)
theorem dX11_ahead_89 : decode cX11_ahead 89 = .ok (.iconst 0, 1) := dk_3 (dk_at dksX11_ahead_3 19 rfl rfl)
theorem dX11_ahead_90 : decode cX11_ahead 90 = .ok (.iaload, 1) := dk_46 (dk_at dksX11_ahead_3 20 rfl rfl)
theorem dX11_ahead_91 : decode cX11_ahead 91 = .ok (.invokevirtual 302, 3) := dk_182 1 46 (dk_at dksX11_ahead_3 21 rfl rfl)
theorem dX11_ahead_94 : decode cX11_ahead 94 = .ok (.pop, 1) := dk_87 (dk_at dksX11_ahead_4 0 rfl rfl)
theorem dX11_ahead_95 : decode cX11_ahead 95 = .ok (.iconst 0, 1) := dk_3 (dk_at dksX11_ahead_4 1 rfl rfl)
theorem dX11_ahead_96 : decode cX11_ahead 96 = .ok (.istore 4, 2) := dk_54 4 (dk_at dksX11_ahead_4 2 rfl rfl)
theorem dX11_ahead_98 : decode cX11_ahead 98 = .ok (.iload 4, 2) := dk_21 4 (dk_at dksX11_ahead_4 4 rfl rfl)
theorem dX11_ahead_100 : decode cX11_ahead 100 = .ok (.iload_n 2, 1) := dk_28 (dk_at dksX11_ahead_4 6 rfl rfl)
theorem dX11_ahead_101 : decode cX11_ahead 101 = .ok (.if_icmp .ge 17, 3) := dk_162 0 17 (dk_at dksX11_ahead_4 7 rfl rfl)
theorem dX11_ahead_104 : decode cX11_ahead 104 = .ok (.aload_n 0, 1) := dk_42 (dk_at dksX11_ahead_4 10 rfl rfl)
theorem dX11_ahead_105 : decode cX11_ahead 105 = .ok (.aload_n 0, 1) := dk_42 (dk_at dksX11_ahead_4 11 rfl rfl)
theorem dX11_ahead_106 : decode cX11_ahead 106 = .ok (.getfield 76, 3) := dk_180 0 76 (dk_at dksX11_ahead_4 12 rfl rfl)
theorem dX11_ahead_109 : decode cX11_ahead 109 = .ok (.invokevirtual 308, 3) := dk_182 1 52 (dk_at dksX11_ahead_4 15 rfl rfl)
theorem dX11_ahead_112 : decode cX11_ahead 112 = .ok (.iinc 4 1, 3) := dk_132 4 1 (dk_at dksX11_ahead_4 18 rfl rfl)
theorem dX11_ahead_115 : decode cX11_ahead 115 = .ok (.goto (-17), 3) := dk_167 255 239 (dk_at dksX11_ahead_4 21 rfl rfl)
theorem dX11_ahead_118 : decode cX11_ahead 118 = .ok (.aload_n 0, 1) := dk_42 (dk_at dksX11_ahead_5 0 rfl rfl)
theorem dX11_ahead_119 : decode cX11_ahead 119 = .ok (.aload_n 0, 1) := dk_42 (dk_at dksX11_ahead_5 1 rfl rfl)
theorem dX11_ahead_120 : decode cX11_ahead 120 = .ok (.getfield 76, 3) := dk_180 0 76 (dk_at dksX11_ahead_5 2 rfl rfl)
theorem dX11_ahead_123 : decode cX11_ahead 123 = .ok (.iload_n 1, 1) := dk_27 (dk_at dksX11_ahead_5 5 rfl rfl)
theorem dX11_ahead_124 : decode cX11_ahead 124 = .ok (.invokevirtual 289, 3) := dk_182 1 33 (dk_at dksX11_ahead_5 6 rfl rfl)
theorem dX11_ahead_127 : decode cX11_ahead 127 = .ok (.ireturn, 1) := dk_172 (dk_at dksX11_ahead_5 9 rfl rfl)
def dkwX11_hopeless_6 : List UInt8 := [167, 255, 216, 132, 3, 1, 167, 255, 197, 28, 172]
abbrev dktX11_hopeless_6 : List UInt8 := dkwX11_hopeless_6 ++ []
def dkwX11_hopeless_5 : List UInt8 := [21, 4, 29, 182, 1, 36, 153, 0, 11, 4, 29, 120, 2, 130, 167, 0, 4, 28, 126, 61, 132, 4, 1]
abbrev dktX11_hopeless_5 : List UInt8 := dkwX11_hopeless_5 ++ dktX11_hopeless_6
def dkwX11_hopeless_4 : List UInt8 := [162, 0, 55, 3, 54, 4, 21, 4, 42, 180, 0, 23, 4, 46, 162, 0, 35, 28, 42, 42, 180, 0, 76]
abbrev dktX11_hopeless_4 : List UInt8 := dkwX11_hopeless_4 ++ dktX11_hopeless_5
def dkwX11_hopeless_3 : List UInt8 := [120, 4, 100, 42, 42, 180, 0, 73, 182, 1, 73, 100, 61, 3, 62, 29, 42, 180, 0, 23, 5, 46]
abbrev dktX11_hopeless_3 : List UInt8 := dkwX11_hopeless_3 ++ dktX11_hopeless_4
def dkwX11_hopeless_2 : List UInt8 := [162, 0, 17, 42, 42, 180, 0, 76, 182, 1, 52, 132, 2, 1, 167, 255, 240, 4, 42, 180, 0, 23, 5, 46]
abbrev dktX11_hopeless_2 : List UInt8 := dkwX11_hopeless_2 ++ dktX11_hopeless_3
def dkwX11_hopeless_1 : List UInt8 := [182, 0, 183, 153, 0, 5, 3, 172, 42, 180, 0, 73, 42, 180, 0, 76, 184, 1, 69, 3, 61, 28, 27]
abbrev dktX11_hopeless_1 : List UInt8 := dkwX11_hopeless_1 ++ dktX11_hopeless_2
def dkwX11_hopeless_0 : List UInt8 := [42, 3, 181, 0, 103, 42, 27, 3, 16, 99, 184, 0, 137, 154, 0, 7, 4, 167, 0, 4, 3, 4, 4]
abbrev dktX11_hopeless_0 : List UInt8 := dkwX11_hopeless_0 ++ dktX11_hopeless_1
theorem dksX11_hopeless_0 : cX11_hopeless.data.toList.drop 0 = dktX11_hopeless_0 := by decide +kernel
theorem dksX11_hopeless_1 : cX11_hopeless.data.toList.drop 23 = dktX11_hopeless_1 := dk_seg dksX11_hopeless_0 23 rfl rfl
theorem dksX11_hopeless_2 : cX11_hopeless.data.toList.drop 46 = dktX11_hopeless_2 := dk_seg dksX11_hopeless_1 23 rfl rfl
theorem dksX11_hopeless_3 : cX11_hopeless.data.toList.drop 70 = dktX11_hopeless_3 := dk_seg dksX11_hopeless_2 24 rfl rfl
theorem dksX11_hopeless_4 : cX11_hopeless.data.toList.drop 92 = dktX11_hopeless_4 := dk_seg dksX11_hopeless_3 22 rfl rfl
theorem dksX11_hopeless_5 : cX11_hopeless.data.toList.drop 115 = dktX11_hopeless_5 := dk_seg dksX11_hopeless_4 23 rfl rfl
theorem dksX11_hopeless_6 : cX11_hopeless.data.toList.drop 138 = dktX11_hopeless_6 := dk_seg dksX11_hopeless_5 23 rfl rfl
theorem dX11_hopeless_0 : decode cX11_hopeless 0 = .ok (.aload_n 0, 1) := dk_42 (dk_at dksX11_hopeless_0 0 rfl rfl)
theorem dX11_hopeless_1 : decode cX11_hopeless 1 = .ok (.iconst 0, 1) := dk_3 (dk_at dksX11_hopeless_0 1 rfl rfl)
theorem dX11_hopeless_2 : decode cX11_hopeless 2 = .ok (.putfield 103, 3) := dk_181 0 103 (dk_at dksX11_hopeless_0 2 rfl rfl)
theorem dX11_hopeless_5 : decode cX11_hopeless 5 = .ok (.aload_n 0, 1) := dk_42 (dk_at dksX11_hopeless_0 5 rfl rfl)
theorem dX11_hopeless_6 : decode cX11_hopeless 6 = .ok (.iload_n 1, 1) := dk_27 (dk_at dksX11_hopeless_0 6 rfl rfl)
theorem dX11_hopeless_7 : decode cX11_hopeless 7 = .ok (.iconst 0, 1) := dk_3 (dk_at dksX11_hopeless_0 7 rfl rfl)
theorem dX11_hopeless_8 : decode cX11_hopeless 8 = .ok (.bipush 99, 2) := dk_16 99 (dk_at dksX11_hopeless_0 8 rfl rfl)
theorem dX11_hopeless_10 : decode cX11_hopeless 10 = .ok (.invokestatic 137, 3) := dk_184 0 137 (dk_at dksX11_hopeless_0 10 rfl rfl)
theorem dX11_hopeless_13 : decode cX11_hopeless 13 = .ok (.ifCond .ne 7, 3) := dk_154 0 7 (dk_at dksX11_hopeless_0 13 rfl rfl)
theorem dX11_hopeless_16 : decode cX11_hopeless 16 = .ok (.iconst 1, 1) := dk_4 (dk_at dksX11_hopeless_0 16 rfl rfl)
theorem dX11_hopeless_17 : decode cX11_hopeless 17 = .ok (.goto 4, 3) := dk_167 0 4 (dk_at dksX11_hopeless_0 17 rfl rfl)
theorem dX11_hopeless_20 : decode cX11_hopeless 20 = .ok (.iconst 0, 1) := dk_3 (dk_at dksX11_hopeless_0 20 rfl rfl)
theorem dX11_hopeless_21 : decode cX11_hopeless 21 = .ok (.iconst 1, 1) := dk_4 (dk_at dksX11_hopeless_0 21 rfl rfl)
theorem dX11_hopeless_22 : decode cX11_hopeless 22 = .ok (.iconst 1, 1) := dk_4 (dk_at dksX11_hopeless_0 22 rfl rfl)
theorem dX11_hopeless_23 : decode cX11_hopeless 23 = .ok (.invokevirtual 183, 3) := dk_182 0 183 (dk_at dksX11_hopeless_1 0 rfl rfl)
theorem dX11_hopeless_26 : decode cX11_hopeless 26 = .ok (.ifCond .eq 5, 3) := dk_153 0 5 (dk_at dksX11_hopeless_1 3 rfl rfl)
theorem dX11_hopeless_29 : decode cX11_hopeless 29 = .ok (.iconst 0, 1) := dk_3 (dk_at dksX11_hopeless_1 6 rfl rfl)
theorem dX11_hopeless_30 : decode cX11_hopeless 30 = .ok (.ireturn, 1) := dk_172 (dk_at dksX11_hopeless_1 7 rfl rfl)
theorem dX11_hopeless_31 : decode cX11_hopeless 31 = .ok (.aload_n 0, 1) := dk_42 (dk_at dksX11_hopeless_1 8 rfl rfl)
theorem dX11_hopeless_32 : decode cX11_hopeless 32 = .ok (.getfield 73, 3) := dk_180 0 73 (dk_at dksX11_hopeless_1 9 rfl rfl)
theorem dX11_hopeless_35 : decode cX11_hopeless 35 = .ok (.aload_n 0, 1) := dk_42 (dk_at dksX11_hopeless_1 12 rfl rfl)
theorem dX11_hopeless_36 : decode cX11_hopeless 36 = .ok (.getfield 76, 3) := dk_180 0 76 (dk_at dksX11_hopeless_1 13 rfl rfl)
theorem dX11_hopeless_39 : decode cX11_hopeless 39 = .ok (.invokestatic 325, 3) := dk_184 1 69 (dk_at dksX11_hopeless_1 16 rfl rfl)
theorem dX11_hopeless_42 : decode cX11_hopeless 42 = .ok (.iconst 0, 1) := dk_3 (dk_at dksX11_hopeless_1 19 rfl rfl)
theorem dX11_hopeless_43 : decode cX11_hopeless 43 = .ok (.istore_n 2, 1) := dk_61 (dk_at dksX11_hopeless_1 20 rfl rfl)
theorem dX11_hopeless_44 : decode cX11_hopeless 44 = .ok (.iload_n 2, 1) := dk_28 (dk_at dksX11_hopeless_1 21 rfl rfl)
theorem dX11_hopeless_45 : decode cX11_hopeless 45 = .ok (.iload_n 1, 1) := dk_27 (dk_at dksX11_hopeless_1 22 rfl rfl)
theorem dX11_hopeless_46 : decode cX11_hopeless 46 = .ok (.if_icmp .ge 17, 3) := dk_162 0 17 (dk_at dksX11_hopeless_2 0 rfl rfl)
theorem dX11_hopeless_49 : decode cX11_hopeless 49 = .ok (.aload_n 0, 1) := dk_42 (dk_at dksX11_hopeless_2 3 rfl rfl)
theorem dX11_hopeless_50 : decode cX11_hopeless 50 = .ok (.aload_n 0, 1) := dk_42 (dk_at dksX11_hopeless_2 4 rfl rfl)
theorem dX11_hopeless_51 : decode cX11_hopeless 51 = .ok (.getfield 76, 3) := dk_180 0 76 (dk_at dksX11_hopeless_2 5 rfl rfl)
theorem dX11_hopeless_54 : decode cX11_hopeless 54 = .ok (.invokevirtual 308, 3) := dk_182 1 52 (dk_at dksX11_hopeless_2 8 rfl rfl)
theorem dX11_hopeless_57 : decode cX11_hopeless 57 = .ok (.iinc 2 1, 3) := dk_132 2 1 (dk_at dksX11_hopeless_2 11 rfl rfl)
theorem dX11_hopeless_60 : decode cX11_hopeless 60 = .ok (.goto (-16), 3) := dk_167 255 240 (dk_at dksX11_hopeless_2 14 rfl rfl)
theorem dX11_hopeless_63 : decode cX11_hopeless 63 = .ok (.iconst 1, 1) := dk_4 (dk_at dksX11_hopeless_2 17 rfl rfl)
theorem dX11_hopeless_64 : decode cX11_hopeless 64 = .ok (.aload_n 0, 1) := dk_42 (dk_at dksX11_hopeless_2 18 rfl rfl)
theorem dX11_hopeless_65 : decode cX11_hopeless 65 = .ok (.getfield 23, 3) := dk_180 0 23 (dk_at dksX11_hopeless_2 19 rfl rfl)
theorem dX11_hopeless_68 : decode cX11_hopeless 68 = .ok (.iconst 2, 1) := dk_5 (dk_at dksX11_hopeless_2 22 rfl rfl)
theorem dX11_hopeless_69 : decode cX11_hopeless 69 = .ok (.iaload, 1) := dk_46 (dk_at dksX11_hopeless_2 23 rfl rfl)
theorem dX11_hopeless_70 : decode cX11_hopeless 70 = .ok (.ishl, 1) := dk_120 (dk_at dksX11_hopeless_3 0 rfl rfl)
theorem dX11_hopeless_71 : decode cX11_hopeless 71 = .ok (.iconst 1, 1) := dk_4 (dk_at dksX11_hopeless_3 1 rfl rfl)
theorem dX11_hopeless_72 : decode cX11_hopeless 72 = .ok (.isub, 1) := dk_100 (dk_at dksX11_hopeless_3 2 rfl rfl)
theorem dX11_hopeless_73 : decode cX11_hopeless 73 = .ok (.aload_n 0, 1) := dk_42 (dk_at dksX11_hopeless_3 3 rfl rfl)
theorem dX11_hopeless_74 : decode cX11_hopeless 74 = .ok (.aload_n 0, 1) := dk_42 (dk_at dksX11_hopeless_3 4 rfl rfl)
theorem dX11_hopeless_75 : decode cX11_hopeless 75 = .ok (.getfield 73, 3) := dk_180 0 73 (dk_at dksX11_hopeless_3 5 rfl rfl)
theorem dX11_hopeless_78 : decode cX11_hopeless 78 = .ok (.invokevirtual 329, 3) := dk_182 1 73 (dk_at dksX11_hopeless_3 8 rfl rfl)
theorem dX11_hopeless_81 : decode cX11_hopeless 81 = .ok (.isub, 1) := dk_100 (dk_at dksX11_hopeless_3 11 rfl rfl)
theorem dX11_hopeless_82 : decode cX11_hopeless 82 = .ok (.istore_n 2, 1) := dk_61 (dk_at dksX11_hopeless_3 12 rfl rfl)
theorem dX11_hopeless_83 : decode cX11_hopeless 83 = .ok (.iconst 0, 1) := dk_3 (dk_at dksX11_hopeless_3 13 rfl rfl)
theorem dX11_hopeless_84 : decode cX11_hopeless 84 = .ok (.istore_n 3, 1) := dk_62 (dk_at dksX11_hopeless_3 14 rfl rfl)
theorem dX11_hopeless_85 : decode cX11_hopeless 85 = .ok (.iload_n 3, 1) := dk_29 (dk_at dksX11_hopeless_3 15 rfl rfl)
theorem dX11_hopeless_86 : decode cX11_hopeless 86 = .ok (.aload_n 0, 1) := dk_42 (dk_at dksX11_hopeless_3 16 rfl rfl)
theorem dX11_hopeless_87 : decode cX11_hopeless 87 = .ok (.getfield 23, 3) := dk_180 0 23 (dk_at dksX11_hopeless_3 17 rfl rfl)
theorem dX11_hopeless_90 : decode cX11_hopeless 90 = .ok (.iconst 2, 1) := dk_5 (dk_at dksX11_hopeless_3 20 rfl rfl)
theorem dX11_hopeless_91 : decode cX11_hopeless 91 = .ok (.iaload, 1) := dk_46 (dk_at dksX11_hopeless_3 21 rfl rfl)
theorem dX11_hopeless_92 : decode cX11_hopeless 92 = .ok (.if_icmp .ge 55, 3) := dk_162 0 55 (dk_at dksX11_hopeless_4 0 rfl rfl)
theorem dX11_hopeless_95 : decode cX11_hopeless 95 = .ok (.iconst 0, 1) := dk_3 (dk_at dksX11_hopeless_4 3 rfl rfl)
theorem dX11_hopeless_96 : decode cX11_hopeless 96 = .ok (.istore 4, 2) := dk_54 4 (dk_at dksX11_hopeless_4 4 rfl rfl)
theorem dX11_hopeless_98 : decode cX11_hopeless 98 = .ok (.iload 4, 2) := dk_21 4 (dk_at dksX11_hopeless_4 6 rfl rfl)
theorem dX11_hopeless_100 : decode cX11_hopeless 100 = .ok (.aload_n 0, 1) := dk_42 (dk_at dksX11_hopeless_4 8 rfl rfl)
theorem dX11_hopeless_101 : decode cX11_hopeless 101 = .ok (.getfield 23, 3) := dk_180 0 23 (dk_at dksX11_hopeless_4 9 rfl rfl)
theorem dX11_hopeless_104 : decode cX11_hopeless 104 = .ok (.iconst 1, 1) := dk_4 (dk_at dksX11_hopeless_4 12 rfl rfl)
theorem dX11_hopeless_105 : decode cX11_hopeless 105 = .ok (.iaload, 1) := dk_46 (dk_at dksX11_hopeless_4 13 rfl rfl)
theorem dX11_hopeless_106 : decode cX11_hopeless 106 = .ok (.if_icmp .ge 35, 3) := dk_162 0 35 (dk_at dksX11_hopeless_4 14 rfl rfl)
theorem dX11_hopeless_109 : decode cX11_hopeless 109 = .ok (.iload_n 2, 1) := dk_28 (dk_at dksX11_hopeless_4 17 rfl rfl)
theorem dX11_hopeless_110 : decode cX11_hopeless 110 = .ok (.aload_n 0, 1) := dk_42 (dk_at dksX11_hopeless_4 18 rfl rfl)
theorem dX11_hopeless_111 : decode cX11_hopeless 111 = .ok (.aload_n 0, 1) := dk_42 (dk_at dksX11_hopeless_4 19 rfl rfl)
theorem dX11_hopeless_112 : decode cX11_hopeless 112 = .ok (.getfield 76, 3) := dk_180 0 76 (dk_at dksX11_hopeless_4 20 rfl rfl)
theorem dX11_hopeless_115 : decode cX11_hopeless 115 = .ok (.iload 4, 2) := dk_21 4 (dk_at dksX11_hopeless_5 0 rfl rfl)
theorem dX11_hopeless_117 : decode cX11_hopeless 117 = .ok (.iload_n 3, 1) := dk_29 (dk_at dksX11_hopeless_5 2 rfl rfl)
theorem dX11_hopeless_118 : decode cX11_hopeless 118 = .ok (.invokevirtual 292, 3) := dk_182 1 36 (dk_at dksX11_hopeless_5 3 rfl rfl)
theorem dX11_hopeless_121 : decode cX11_hopeless 121 = .ok (.ifCond .eq 11, 3) := dk_153 0 11 (dk_at dksX11_hopeless_5 6 rfl rfl)
theorem dX11_hopeless_124 : decode cX11_hopeless 124 = .ok (.iconst 1, 1) := dk_4 (dk_at dksX11_hopeless_5 9 rfl rfl)
theorem dX11_hopeless_125 : decode cX11_hopeless 125 = .ok (.iload_n 3, 1) := dk_29 (dk_at dksX11_hopeless_5 10 rfl rfl)
theorem dX11_hopeless_126 : decode cX11_hopeless 126 = .ok (.ishl, 1) := dk_120 (dk_at dksX11_hopeless_5 11 rfl rfl)
theorem dX11_hopeless_127 : decode cX11_hopeless 127 = .ok (.iconst (-1), 1) := dk_2 (dk_at dksX11_hopeless_5 12 rfl rfl)
theorem dX11_hopeless_128 : decode cX11_hopeless 128 = .ok (.ixor, 1) := dk_130 (dk_at dksX11_hopeless_5 13 rfl rfl)
theorem dX11_hopeless_129 : decode cX11_hopeless 129 = .ok (.goto 4, 3) := dk_167 0 4 (dk_at dksX11_hopeless_5 14 rfl rfl)
theorem dX11_hopeless_132 : decode cX11_hopeless 132 = .ok (.iload_n 2, 1) := dk_28 (dk_at dksX11_hopeless_5 17 rfl rfl)
theorem dX11_hopeless_133 : decode cX11_hopeless 133 = .ok (.iand, 1) := dk_126 (dk_at dksX11_hopeless_5 18 rfl rfl)
theorem dX11_hopeless_134 : decode cX11_hopeless 134 = .ok (.istore_n 2, 1) := dk_61 (dk_at dksX11_hopeless_5 19 rfl rfl)
theorem dX11_hopeless_135 : decode cX11_hopeless 135 = .ok (.iinc 4 1, 3) := dk_132 4 1 (dk_at dksX11_hopeless_5 20 rfl rfl)
theorem dX11_hopeless_138 : decode cX11_hopeless 138 = .ok (.goto (-40), 3) := dk_167 255 216 (dk_at dksX11_hopeless_6 0 rfl rfl)
theorem dX11_hopeless_141 : decode cX11_hopeless 141 = .ok (.iinc 3 1, 3) := dk_132 3 1 (dk_at dksX11_hopeless_6 3 rfl rfl)
theorem dX11_hopeless_144 : decode cX11_hopeless 144 = .ok (.goto (-59), 3) := dk_167 255 197 (dk_at dksX11_hopeless_6 6 rfl rfl)
theorem dX11_hopeless_147 : decode cX11_hopeless 147 = .ok (.iload_n 2, 1) := dk_28 (dk_at dksX11_hopeless_6 9 rfl rfl)
theorem dX11_hopeless_148 : decode cX11_hopeless 148 = .ok (.ireturn, 1) := dk_172 (dk_at dksX11_hopeless_6 10 rfl rfl)
def dkwX11_match_0 : List UInt8 := [42, 3, 181, 0, 103, 42, 182, 1, 96, 42, 180, 1, 89, 172]
abbrev dktX11_match_0 : List UInt8 := dkwX11_match_0 ++ []
theorem dksX11_match_0 : cX11_match.data.toList.drop 0 = dktX11_match_0 := by decide +kernel
theorem dX11_match_0 : decode cX11_match 0 = .ok (.aload_n 0, 1) := dk_42 (dk_at dksX11_match_0 0 rfl rfl)
theorem dX11_match_1 : decode cX11_match 1 = .ok (.iconst 0, 1) := dk_3 (dk_at dksX11_match_0 1 rfl rfl)
theorem dX11_match_2 : decode cX11_match 2 = .ok (.putfield 103, 3) := dk_181 0 103 (dk_at dksX11_match_0 2 rfl rfl)
theorem dX11_match_5 : decode cX11_match 5 = .ok (.aload_n 0, 1) := dk_42 (dk_at dksX11_match_0 5 rfl rfl)
theorem dX11_match_6 : decode cX11_match 6 = .ok (.invokevirtual 352, 3) := dk_182 1 96 (dk_at dksX11_match_0 6 rfl rfl)
theorem dX11_match_9 : decode cX11_match 9 = .ok (.aload_n 0, 1) := dk_42 (dk_at dksX11_match_0 9 rfl rfl)
theorem dX11_match_10 : decode cX11_match 10 = .ok (.getfield 345, 3) := dk_180 1 89 (dk_at dksX11_match_0 10 rfl rfl)
theorem dX11_match_13 : decode cX11_match 13 = .ok (.ireturn, 1) := dk_172 (dk_at dksX11_match_0 13 rfl rfl)
def dkwX11_matches_5 : List UInt8 := [2, 181, 1, 89, 42, 3, 3, 3, 182, 1, 92, 177]
abbrev dktX11_matches_5 : List UInt8 := dkwX11_matches_5 ++ []
def dkwX11_matches_4 : List UInt8 := [46, 42, 180, 0, 91, 27, 46, 154, 0, 7, 3, 167, 0, 4, 4, 96, 79, 132, 1, 255, 167, 255, 166, 42]
abbrev dktX11_matches_4 : List UInt8 := dkwX11_matches_4 ++ dktX11_matches_5
def dkwX11_matches_3 : List UInt8 := [167, 0, 4, 3, 128, 79, 132, 2, 1, 167, 255, 214, 42, 180, 0, 94, 27, 42, 180, 0, 94, 27, 4, 96]
abbrev dktX11_matches_3 : List UInt8 := dkwX11_matches_3 ++ dktX11_matches_4
def dkwX11_matches_2 : List UInt8 := [180, 0, 91, 27, 92, 46, 42, 42, 180, 0, 73, 28, 27, 182, 1, 43, 153, 0, 9, 4, 28, 120]
abbrev dktX11_matches_2 : List UInt8 := dkwX11_matches_2 ++ dktX11_matches_3
def dkwX11_matches_1 : List UInt8 := [155, 0, 92, 42, 180, 0, 91, 27, 3, 79, 3, 61, 28, 42, 180, 0, 23, 4, 46, 162, 0, 38, 42]
abbrev dktX11_matches_1 : List UInt8 := dkwX11_matches_1 ++ dktX11_matches_2
def dkwX11_matches_0 : List UInt8 := [42, 180, 0, 94, 42, 180, 0, 23, 5, 46, 3, 79, 42, 180, 0, 23, 5, 46, 4, 100, 60, 27]
abbrev dktX11_matches_0 : List UInt8 := dkwX11_matches_0 ++ dktX11_matches_1
theorem dksX11_matches_0 : cX11_matches.data.toList.drop 0 = dktX11_matches_0 := by decide +kernel
theorem dksX11_matches_1 : cX11_matches.data.toList.drop 22 = dktX11_matches_1 := dk_seg dksX11_matches_0 22 rfl rfl
theorem dksX11_matches_2 : cX11_matches.data.toList.drop 45 = dktX11_matches_2 := dk_seg dksX11_matches_1 23 rfl rfl
theorem dksX11_matches_3 : cX11_matches.data.toList.drop 67 = dktX11_matches_3 := dk_seg dksX11_matches_2 22 rfl rfl
theorem dksX11_matches_4 : cX11_matches.data.toList.drop 91 = dktX11_matches_4 := dk_seg dksX11_matches_3 24 rfl rfl
theorem dksX11_matches_5 : cX11_matches.data.toList.drop 115 = dktX11_matches_5 := dk_seg dksX11_matches_4 24 rfl rfl
theorem dX11_matches_0 : decode cX11_matches 0 = .ok (.aload_n 0, 1) := dk_42 (dk_at dksX11_matches_0 0 rfl rfl)
theorem dX11_matches_1 : decode cX11_matches 1 = .ok (.getfield 94, 3) := dk_180 0 94 (dk_at dksX11_matches_0 1 rfl rfl)
theorem dX11_matches_4 : decode cX11_matches 4 = .ok (.aload_n 0, 1) := dk_42 (dk_at dksX11_matches_0 4 rfl rfl)
theorem dX11_matches_5 : decode cX11_matches 5 = .ok (.getfield 23, 3) := dk_180 0 23 (dk_at dksX11_matches_0 5 rfl rfl)
theorem dX11_matches_8 : decode cX11_matches 8 = .ok (.iconst 2, 1) := dk_5 (dk_at dksX11_matches_0 8 rfl rfl)
theorem dX11_matches_9 : decode cX11_matches 9 = .ok (.iaload, 1) := dk_46 (dk_at dksX11_matches_0 9 rfl rfl)
theorem dX11_matches_10 : decode cX11_matches 10 = .ok (.iconst 0, 1) := dk_3 (dk_at dksX11_matches_0 10 rfl rfl)
theorem dX11_matches_11 : decode cX11_matches 11 = .ok (.iastore, 1) := dk_79 (dk_at dksX11_matches_0 11 rfl rfl)
theorem dX11_matches_12 : decode cX11_matches 12 = .ok (.aload_n 0, 1) := dk_42 (dk_at dksX11_matches_0 12 rfl rfl)
theorem dX11_matches_13 : decode cX11_matches 13 = .ok (.getfield 23, 3) := dk_180 0 23 (dk_at dksX11_matches_0 13 rfl rfl)
theorem dX11_matches_16 : decode cX11_matches 16 = .ok (.iconst 2, 1) := dk_5 (dk_at dksX11_matches_0 16 rfl rfl)
theorem dX11_matches_17 : decode cX11_matches 17 = .ok (.iaload, 1) := dk_46 (dk_at dksX11_matches_0 17 rfl rfl)
theorem dX11_matches_18 : decode cX11_matches 18 = .ok (.iconst 1, 1) := dk_4 (dk_at dksX11_matches_0 18 rfl rfl)
theorem dX11_matches_19 : decode cX11_matches 19 = .ok (.isub, 1) := dk_100 (dk_at dksX11_matches_0 19 rfl rfl)
theorem dX11_matches_20 : decode cX11_matches 20 = .ok (.istore_n 1, 1) := dk_60 (dk_at dksX11_matches_0 20 rfl rfl)
theorem dX11_matches_21 : decode cX11_matches 21 = .ok (.iload_n 1, 1) := dk_27 (dk_at dksX11_matches_0 21 rfl rfl)
theorem dX11_matches_22 : decode cX11_matches 22 = .ok (.ifCond .lt 92, 3) := dk_155 0 92 (dk_at dksX11_matches_1 0 rfl rfl)
theorem dX11_matches_25 : decode cX11_matches 25 = .ok (.aload_n 0, 1) := dk_42 (dk_at dksX11_matches_1 3 rfl rfl)
theorem dX11_matches_26 : decode cX11_matches 26 = .ok (.getfield 91, 3) := dk_180 0 91 (dk_at dksX11_matches_1 4 rfl rfl)
theorem dX11_matches_29 : decode cX11_matches 29 = .ok (.iload_n 1, 1) := dk_27 (dk_at dksX11_matches_1 7 rfl rfl)
theorem dX11_matches_30 : decode cX11_matches 30 = .ok (.iconst 0, 1) := dk_3 (dk_at dksX11_matches_1 8 rfl rfl)
theorem dX11_matches_31 : decode cX11_matches 31 = .ok (.iastore, 1) := dk_79 (dk_at dksX11_matches_1 9 rfl rfl)
theorem dX11_matches_32 : decode cX11_matches 32 = .ok (.iconst 0, 1) := dk_3 (dk_at dksX11_matches_1 10 rfl rfl)
theorem dX11_matches_33 : decode cX11_matches 33 = .ok (.istore_n 2, 1) := dk_61 (dk_at dksX11_matches_1 11 rfl rfl)
theorem dX11_matches_34 : decode cX11_matches 34 = .ok (.iload_n 2, 1) := dk_28 (dk_at dksX11_matches_1 12 rfl rfl)
theorem dX11_matches_35 : decode cX11_matches 35 = .ok (.aload_n 0, 1) := dk_42 (dk_at dksX11_matches_1 13 rfl rfl)
theorem dX11_matches_36 : decode cX11_matches 36 = .ok (.getfield 23, 3) := dk_180 0 23 (dk_at dksX11_matches_1 14 rfl rfl)
theorem dX11_matches_39 : decode cX11_matches 39 = .ok (.iconst 1, 1) := dk_4 (dk_at dksX11_matches_1 17 rfl rfl)
theorem dX11_matches_40 : decode cX11_matches 40 = .ok (.iaload, 1) := dk_46 (dk_at dksX11_matches_1 18 rfl rfl)
theorem dX11_matches_41 : decode cX11_matches 41 = .ok (.if_icmp .ge 38, 3) := dk_162 0 38 (dk_at dksX11_matches_1 19 rfl rfl)
theorem dX11_matches_44 : decode cX11_matches 44 = .ok (.aload_n 0, 1) := dk_42 (dk_at dksX11_matches_1 22 rfl rfl)
theorem dX11_matches_45 : decode cX11_matches 45 = .ok (.getfield 91, 3) := dk_180 0 91 (dk_at dksX11_matches_2 0 rfl rfl)
theorem dX11_matches_48 : decode cX11_matches 48 = .ok (.iload_n 1, 1) := dk_27 (dk_at dksX11_matches_2 3 rfl rfl)
theorem dX11_matches_49 : decode cX11_matches 49 = .ok (.dup2, 1) := dk_92 (dk_at dksX11_matches_2 4 rfl rfl)
theorem dX11_matches_50 : decode cX11_matches 50 = .ok (.iaload, 1) := dk_46 (dk_at dksX11_matches_2 5 rfl rfl)
theorem dX11_matches_51 : decode cX11_matches 51 = .ok (.aload_n 0, 1) := dk_42 (dk_at dksX11_matches_2 6 rfl rfl)
theorem dX11_matches_52 : decode cX11_matches 52 = .ok (.aload_n 0, 1) := dk_42 (dk_at dksX11_matches_2 7 rfl rfl)
theorem dX11_matches_53 : decode cX11_matches 53 = .ok (.getfield 73, 3) := dk_180 0 73 (dk_at dksX11_matches_2 8 rfl rfl)
theorem dX11_matches_56 : decode cX11_matches 56 = .ok (.iload_n 2, 1) := dk_28 (dk_at dksX11_matches_2 11 rfl rfl)
theorem dX11_matches_57 : decode cX11_matches 57 = .ok (.iload_n 1, 1) := dk_27 (dk_at dksX11_matches_2 12 rfl rfl)
theorem dX11_matches_58 : decode cX11_matches 58 = .ok (.invokevirtual 299, 3) := dk_182 1 43 (dk_at dksX11_matches_2 13 rfl rfl)
theorem dX11_matches_61 : decode cX11_matches 61 = .ok (.ifCond .eq 9, 3) := dk_153 0 9 (dk_at dksX11_matches_2 16 rfl rfl)
theorem dX11_matches_64 : decode cX11_matches 64 = .ok (.iconst 1, 1) := dk_4 (dk_at dksX11_matches_2 19 rfl rfl)
theorem dX11_matches_65 : decode cX11_matches 65 = .ok (.iload_n 2, 1) := dk_28 (dk_at dksX11_matches_2 20 rfl rfl)
theorem dX11_matches_66 : decode cX11_matches 66 = .ok (.ishl, 1) := dk_120 (dk_at dksX11_matches_2 21 rfl rfl)
theorem dX11_matches_67 : decode cX11_matches 67 = .ok (.goto 4, 3) := dk_167 0 4 (dk_at dksX11_matches_3 0 rfl rfl)
theorem dX11_matches_70 : decode cX11_matches 70 = .ok (.iconst 0, 1) := dk_3 (dk_at dksX11_matches_3 3 rfl rfl)
theorem dX11_matches_71 : decode cX11_matches 71 = .ok (.ior, 1) := dk_128 (dk_at dksX11_matches_3 4 rfl rfl)
theorem dX11_matches_72 : decode cX11_matches 72 = .ok (.iastore, 1) := dk_79 (dk_at dksX11_matches_3 5 rfl rfl)
theorem dX11_matches_73 : decode cX11_matches 73 = .ok (.iinc 2 1, 3) := dk_132 2 1 (dk_at dksX11_matches_3 6 rfl rfl)
theorem dX11_matches_76 : decode cX11_matches 76 = .ok (.goto (-42), 3) := dk_167 255 214 (dk_at dksX11_matches_3 9 rfl rfl)
theorem dX11_matches_79 : decode cX11_matches 79 = .ok (.aload_n 0, 1) := dk_42 (dk_at dksX11_matches_3 12 rfl rfl)
theorem dX11_matches_80 : decode cX11_matches 80 = .ok (.getfield 94, 3) := dk_180 0 94 (dk_at dksX11_matches_3 13 rfl rfl)
theorem dX11_matches_83 : decode cX11_matches 83 = .ok (.iload_n 1, 1) := dk_27 (dk_at dksX11_matches_3 16 rfl rfl)
theorem dX11_matches_84 : decode cX11_matches 84 = .ok (.aload_n 0, 1) := dk_42 (dk_at dksX11_matches_3 17 rfl rfl)
theorem dX11_matches_85 : decode cX11_matches 85 = .ok (.getfield 94, 3) := dk_180 0 94 (dk_at dksX11_matches_3 18 rfl rfl)
theorem dX11_matches_88 : decode cX11_matches 88 = .ok (.iload_n 1, 1) := dk_27 (dk_at dksX11_matches_3 21 rfl rfl)
theorem dX11_matches_89 : decode cX11_matches 89 = .ok (.iconst 1, 1) := dk_4 (dk_at dksX11_matches_3 22 rfl rfl)
theorem dX11_matches_90 : decode cX11_matches 90 = .ok (.iadd, 1) := dk_96 (dk_at dksX11_matches_3 23 rfl rfl)
theorem dX11_matches_91 : decode cX11_matches 91 = .ok (.iaload, 1) := dk_46 (dk_at dksX11_matches_4 0 rfl rfl)
theorem dX11_matches_92 : decode cX11_matches 92 = .ok (.aload_n 0, 1) := dk_42 (dk_at dksX11_matches_4 1 rfl rfl)
theorem dX11_matches_93 : decode cX11_matches 93 = .ok (.getfield 91, 3) := dk_180 0 91 (dk_at dksX11_matches_4 2 rfl rfl)
theorem dX11_matches_96 : decode cX11_matches 96 = .ok (.iload_n 1, 1) := dk_27 (dk_at dksX11_matches_4 5 rfl rfl)
theorem dX11_matches_97 : decode cX11_matches 97 = .ok (.iaload, 1) := dk_46 (dk_at dksX11_matches_4 6 rfl rfl)
theorem dX11_matches_98 : decode cX11_matches 98 = .ok (.ifCond .ne 7, 3) := dk_154 0 7 (dk_at dksX11_matches_4 7 rfl rfl)
theorem dX11_matches_101 : decode cX11_matches 101 = .ok (.iconst 0, 1) := dk_3 (dk_at dksX11_matches_4 10 rfl rfl)
theorem dX11_matches_102 : decode cX11_matches 102 = .ok (.goto 4, 3) := dk_167 0 4 (dk_at dksX11_matches_4 11 rfl rfl)
theorem dX11_matches_105 : decode cX11_matches 105 = .ok (.iconst 1, 1) := dk_4 (dk_at dksX11_matches_4 14 rfl rfl)
theorem dX11_matches_106 : decode cX11_matches 106 = .ok (.iadd, 1) := dk_96 (dk_at dksX11_matches_4 15 rfl rfl)
theorem dX11_matches_107 : decode cX11_matches 107 = .ok (.iastore, 1) := dk_79 (dk_at dksX11_matches_4 16 rfl rfl)
theorem dX11_matches_108 : decode cX11_matches 108 = .ok (.iinc 1 (-1), 3) := dk_132 1 255 (dk_at dksX11_matches_4 17 rfl rfl)
theorem dX11_matches_111 : decode cX11_matches 111 = .ok (.goto (-90), 3) := dk_167 255 166 (dk_at dksX11_matches_4 20 rfl rfl)
theorem dX11_matches_114 : decode cX11_matches 114 = .ok (.aload_n 0, 1) := dk_42 (dk_at dksX11_matches_4 23 rfl rfl)
theorem dX11_matches_115 : decode cX11_matches 115 = .ok (.iconst (-1), 1) := dk_2 (dk_at dksX11_matches_5 0 rfl rfl)
theorem dX11_matches_116 : decode cX11_matches 116 = .ok (.putfield 345, 3) := dk_181 1 89 (dk_at dksX11_matches_5 1 rfl rfl)
theorem dX11_matches_119 : decode cX11_matches 119 = .ok (.aload_n 0, 1) := dk_42 (dk_at dksX11_matches_5 4 rfl rfl)
theorem dX11_matches_120 : decode cX11_matches 120 = .ok (.iconst 0, 1) := dk_3 (dk_at dksX11_matches_5 5 rfl rfl)
theorem dX11_matches_121 : decode cX11_matches 121 = .ok (.iconst 0, 1) := dk_3 (dk_at dksX11_matches_5 6 rfl rfl)
theorem dX11_matches_122 : decode cX11_matches 122 = .ok (.iconst 0, 1) := dk_3 (dk_at dksX11_matches_5 7 rfl rfl)
theorem dX11_matches_123 : decode cX11_matches 123 = .ok (.invokevirtual 348, 3) := dk_182 1 92 (dk_at dksX11_matches_5 8 rfl rfl)
theorem dX11_matches_126 : decode cX11_matches 126 = .ok (.return_, 1) := dk_177 (dk_at dksX11_matches_5 11 rfl rfl)
def dkwX11_matchesFrom_6 : List UInt8 := [29, 182, 1, 92, 177]
abbrev dktX11_matchesFrom_6 : List UInt8 := dkwX11_matchesFrom_6 ++ []
def dkwX11_matchesFrom_5 : List UInt8 := [29, 4, 96, 182, 1, 92, 132, 4, 1, 167, 255, 192, 42, 180, 0, 85, 27, 2, 79, 42, 27, 4, 96, 28]
abbrev dktX11_matchesFrom_5 : List UInt8 := dkwX11_matchesFrom_5 ++ dktX11_matchesFrom_6
def dkwX11_matchesFrom_4 : List UInt8 := [154, 0, 6, 167, 0, 27, 42, 180, 0, 85, 27, 21, 4, 79, 42, 27, 4, 96, 28, 4, 21, 4, 120, 128]
abbrev dktX11_matchesFrom_4 : List UInt8 := dkwX11_matchesFrom_4 ++ dktX11_matchesFrom_5
def dkwX11_matchesFrom_3 : List UInt8 := [46, 162, 0, 59, 28, 21, 4, 184, 1, 7, 154, 0, 44, 42, 180, 0, 91, 27, 46, 21, 4, 184, 1, 7]
abbrev dktX11_matchesFrom_3 : List UInt8 := dkwX11_matchesFrom_3 ++ dktX11_matchesFrom_4
def dkwX11_matchesFrom_2 : List UInt8 := [180, 0, 85, 21, 4, 46, 79, 132, 4, 1, 167, 255, 233, 177, 3, 54, 4, 21, 4, 42, 180, 0, 23, 4]
abbrev dktX11_matchesFrom_2 : List UInt8 := dkwX11_matchesFrom_2 ++ dktX11_matchesFrom_3
def dkwX11_matchesFrom_1 : List UInt8 := [160, 0, 38, 42, 29, 181, 1, 89, 3, 54, 4, 21, 4, 27, 162, 0, 23, 42, 180, 0, 88, 21, 4, 42]
abbrev dktX11_matchesFrom_1 : List UInt8 := dkwX11_matchesFrom_1 ++ dktX11_matchesFrom_2
def dkwX11_matchesFrom_0 : List UInt8 := [29, 42, 180, 0, 94, 27, 46, 96, 42, 180, 1, 89, 163, 0, 4, 177, 27, 42, 180, 0, 23, 5, 46]
abbrev dktX11_matchesFrom_0 : List UInt8 := dkwX11_matchesFrom_0 ++ dktX11_matchesFrom_1
theorem dksX11_matchesFrom_0 : cX11_matchesFrom.data.toList.drop 0 = dktX11_matchesFrom_0 := by decide +kernel
theorem dksX11_matchesFrom_1 : cX11_matchesFrom.data.toList.drop 23 = dktX11_matchesFrom_1 := dk_seg dksX11_matchesFrom_0 23 rfl rfl
theorem dksX11_matchesFrom_2 : cX11_matchesFrom.data.toList.drop 47 = dktX11_matchesFrom_2 := dk_seg dksX11_matchesFrom_1 24 rfl rfl
theorem dksX11_matchesFrom_3 : cX11_matchesFrom.data.toList.drop 71 = dktX11_matchesFrom_3 := dk_seg dksX11_matchesFrom_2 24 rfl rfl
theorem dksX11_matchesFrom_4 : cX11_matchesFrom.data.toList.drop 95 = dktX11_matchesFrom_4 := dk_seg dksX11_matchesFrom_3 24 rfl rfl
theorem dksX11_matchesFrom_5 : cX11_matchesFrom.data.toList.drop 119 = dktX11_matchesFrom_5 := dk_seg dksX11_matchesFrom_4 24 rfl rfl
theorem dksX11_matchesFrom_6 : cX11_matchesFrom.data.toList.drop 143 = dktX11_matchesFrom_6 := dk_seg dksX11_matchesFrom_5 24 rfl rfl
theorem dX11_matchesFrom_0 : decode cX11_matchesFrom 0 = .ok (.iload_n 3, 1) := dk_29 (dk_at dksX11_matchesFrom_0 0 rfl rfl)
theorem dX11_matchesFrom_1 : decode cX11_matchesFrom 1 = .ok (.aload_n 0, 1) := dk_42 (dk_at dksX11_matchesFrom_0 1 rfl rfl)
theorem dX11_matchesFrom_2 : decode cX11_matchesFrom 2 = .ok (.getfield 94, 3) := dk_180 0 94 (dk_at dksX11_matchesFrom_0 2 rfl rfl)
theorem dX11_matchesFrom_5 : decode cX11_matchesFrom 5 = .ok (.iload_n 1, 1) := dk_27 (dk_at dksX11_matchesFrom_0 5 rfl rfl)
theorem dX11_matchesFrom_6 : decode cX11_matchesFrom 6 = .ok (.iaload, 1) := dk_46 (dk_at dksX11_matchesFrom_0 6 rfl rfl)
theorem dX11_matchesFrom_7 : decode cX11_matchesFrom 7 = .ok (.iadd, 1) := dk_96 (dk_at dksX11_matchesFrom_0 7 rfl rfl)
theorem dX11_matchesFrom_8 : decode cX11_matchesFrom 8 = .ok (.aload_n 0, 1) := dk_42 (dk_at dksX11_matchesFrom_0 8 rfl rfl)
theorem dX11_matchesFrom_9 : decode cX11_matchesFrom 9 = .ok (.getfield 345, 3) := dk_180 1 89 (dk_at dksX11_matchesFrom_0 9 rfl rfl)
theorem dX11_matchesFrom_12 : decode cX11_matchesFrom 12 = .ok (.if_icmp .gt 4, 3) := dk_163 0 4 (dk_at dksX11_matchesFrom_0 12 rfl rfl)
theorem dX11_matchesFrom_15 : decode cX11_matchesFrom 15 = .ok (.return_, 1) := dk_177 (dk_at dksX11_matchesFrom_0 15 rfl rfl)
theorem dX11_matchesFrom_16 : decode cX11_matchesFrom 16 = .ok (.iload_n 1, 1) := dk_27 (dk_at dksX11_matchesFrom_0 16 rfl rfl)
theorem dX11_matchesFrom_17 : decode cX11_matchesFrom 17 = .ok (.aload_n 0, 1) := dk_42 (dk_at dksX11_matchesFrom_0 17 rfl rfl)
theorem dX11_matchesFrom_18 : decode cX11_matchesFrom 18 = .ok (.getfield 23, 3) := dk_180 0 23 (dk_at dksX11_matchesFrom_0 18 rfl rfl)
theorem dX11_matchesFrom_21 : decode cX11_matchesFrom 21 = .ok (.iconst 2, 1) := dk_5 (dk_at dksX11_matchesFrom_0 21 rfl rfl)
theorem dX11_matchesFrom_22 : decode cX11_matchesFrom 22 = .ok (.iaload, 1) := dk_46 (dk_at dksX11_matchesFrom_0 22 rfl rfl)
theorem dX11_matchesFrom_23 : decode cX11_matchesFrom 23 = .ok (.if_icmp .ne 38, 3) := dk_160 0 38 (dk_at dksX11_matchesFrom_1 0 rfl rfl)
theorem dX11_matchesFrom_26 : decode cX11_matchesFrom 26 = .ok (.aload_n 0, 1) := dk_42 (dk_at dksX11_matchesFrom_1 3 rfl rfl)
theorem dX11_matchesFrom_27 : decode cX11_matchesFrom 27 = .ok (.iload_n 3, 1) := dk_29 (dk_at dksX11_matchesFrom_1 4 rfl rfl)
theorem dX11_matchesFrom_28 : decode cX11_matchesFrom 28 = .ok (.putfield 345, 3) := dk_181 1 89 (dk_at dksX11_matchesFrom_1 5 rfl rfl)
theorem dX11_matchesFrom_31 : decode cX11_matchesFrom 31 = .ok (.iconst 0, 1) := dk_3 (dk_at dksX11_matchesFrom_1 8 rfl rfl)
theorem dX11_matchesFrom_32 : decode cX11_matchesFrom 32 = .ok (.istore 4, 2) := dk_54 4 (dk_at dksX11_matchesFrom_1 9 rfl rfl)
theorem dX11_matchesFrom_34 : decode cX11_matchesFrom 34 = .ok (.iload 4, 2) := dk_21 4 (dk_at dksX11_matchesFrom_1 11 rfl rfl)
theorem dX11_matchesFrom_36 : decode cX11_matchesFrom 36 = .ok (.iload_n 1, 1) := dk_27 (dk_at dksX11_matchesFrom_1 13 rfl rfl)
theorem dX11_matchesFrom_37 : decode cX11_matchesFrom 37 = .ok (.if_icmp .ge 23, 3) := dk_162 0 23 (dk_at dksX11_matchesFrom_1 14 rfl rfl)
theorem dX11_matchesFrom_40 : decode cX11_matchesFrom 40 = .ok (.aload_n 0, 1) := dk_42 (dk_at dksX11_matchesFrom_1 17 rfl rfl)
theorem dX11_matchesFrom_41 : decode cX11_matchesFrom 41 = .ok (.getfield 88, 3) := dk_180 0 88 (dk_at dksX11_matchesFrom_1 18 rfl rfl)
theorem dX11_matchesFrom_44 : decode cX11_matchesFrom 44 = .ok (.iload 4, 2) := dk_21 4 (dk_at dksX11_matchesFrom_1 21 rfl rfl)
theorem dX11_matchesFrom_46 : decode cX11_matchesFrom 46 = .ok (.aload_n 0, 1) := dk_42 (dk_at dksX11_matchesFrom_1 23 rfl rfl)
theorem dX11_matchesFrom_47 : decode cX11_matchesFrom 47 = .ok (.getfield 85, 3) := dk_180 0 85 (dk_at dksX11_matchesFrom_2 0 rfl rfl)
theorem dX11_matchesFrom_50 : decode cX11_matchesFrom 50 = .ok (.iload 4, 2) := dk_21 4 (dk_at dksX11_matchesFrom_2 3 rfl rfl)
theorem dX11_matchesFrom_52 : decode cX11_matchesFrom 52 = .ok (.iaload, 1) := dk_46 (dk_at dksX11_matchesFrom_2 5 rfl rfl)
theorem dX11_matchesFrom_53 : decode cX11_matchesFrom 53 = .ok (.iastore, 1) := dk_79 (dk_at dksX11_matchesFrom_2 6 rfl rfl)
theorem dX11_matchesFrom_54 : decode cX11_matchesFrom 54 = .ok (.iinc 4 1, 3) := dk_132 4 1 (dk_at dksX11_matchesFrom_2 7 rfl rfl)
theorem dX11_matchesFrom_57 : decode cX11_matchesFrom 57 = .ok (.goto (-23), 3) := dk_167 255 233 (dk_at dksX11_matchesFrom_2 10 rfl rfl)
theorem dX11_matchesFrom_60 : decode cX11_matchesFrom 60 = .ok (.return_, 1) := dk_177 (dk_at dksX11_matchesFrom_2 13 rfl rfl)
theorem dX11_matchesFrom_61 : decode cX11_matchesFrom 61 = .ok (.iconst 0, 1) := dk_3 (dk_at dksX11_matchesFrom_2 14 rfl rfl)
theorem dX11_matchesFrom_62 : decode cX11_matchesFrom 62 = .ok (.istore 4, 2) := dk_54 4 (dk_at dksX11_matchesFrom_2 15 rfl rfl)
theorem dX11_matchesFrom_64 : decode cX11_matchesFrom 64 = .ok (.iload 4, 2) := dk_21 4 (dk_at dksX11_matchesFrom_2 17 rfl rfl)
theorem dX11_matchesFrom_66 : decode cX11_matchesFrom 66 = .ok (.aload_n 0, 1) := dk_42 (dk_at dksX11_matchesFrom_2 19 rfl rfl)
theorem dX11_matchesFrom_67 : decode cX11_matchesFrom 67 = .ok (.getfield 23, 3) := dk_180 0 23 (dk_at dksX11_matchesFrom_2 20 rfl rfl)
theorem dX11_matchesFrom_70 : decode cX11_matchesFrom 70 = .ok (.iconst 1, 1) := dk_4 (dk_at dksX11_matchesFrom_2 23 rfl rfl)
theorem dX11_matchesFrom_71 : decode cX11_matchesFrom 71 = .ok (.iaload, 1) := dk_46 (dk_at dksX11_matchesFrom_3 0 rfl rfl)
theorem dX11_matchesFrom_72 : decode cX11_matchesFrom 72 = .ok (.if_icmp .ge 59, 3) := dk_162 0 59 (dk_at dksX11_matchesFrom_3 1 rfl rfl)
theorem dX11_matchesFrom_75 : decode cX11_matchesFrom 75 = .ok (.iload_n 2, 1) := dk_28 (dk_at dksX11_matchesFrom_3 4 rfl rfl)
theorem dX11_matchesFrom_76 : decode cX11_matchesFrom 76 = .ok (.iload 4, 2) := dk_21 4 (dk_at dksX11_matchesFrom_3 5 rfl rfl)
theorem dX11_matchesFrom_78 : decode cX11_matchesFrom 78 = .ok (.invokestatic 263, 3) := dk_184 1 7 (dk_at dksX11_matchesFrom_3 7 rfl rfl)
theorem dX11_matchesFrom_81 : decode cX11_matchesFrom 81 = .ok (.ifCond .ne 44, 3) := dk_154 0 44 (dk_at dksX11_matchesFrom_3 10 rfl rfl)
theorem dX11_matchesFrom_84 : decode cX11_matchesFrom 84 = .ok (.aload_n 0, 1) := dk_42 (dk_at dksX11_matchesFrom_3 13 rfl rfl)
theorem dX11_matchesFrom_85 : decode cX11_matchesFrom 85 = .ok (.getfield 91, 3) := dk_180 0 91 (dk_at dksX11_matchesFrom_3 14 rfl rfl)
theorem dX11_matchesFrom_88 : decode cX11_matchesFrom 88 = .ok (.iload_n 1, 1) := dk_27 (dk_at dksX11_matchesFrom_3 17 rfl rfl)
theorem dX11_matchesFrom_89 : decode cX11_matchesFrom 89 = .ok (.iaload, 1) := dk_46 (dk_at dksX11_matchesFrom_3 18 rfl rfl)
theorem dX11_matchesFrom_90 : decode cX11_matchesFrom 90 = .ok (.iload 4, 2) := dk_21 4 (dk_at dksX11_matchesFrom_3 19 rfl rfl)
theorem dX11_matchesFrom_92 : decode cX11_matchesFrom 92 = .ok (.invokestatic 263, 3) := dk_184 1 7 (dk_at dksX11_matchesFrom_3 21 rfl rfl)
theorem dX11_matchesFrom_95 : decode cX11_matchesFrom 95 = .ok (.ifCond .ne 6, 3) := dk_154 0 6 (dk_at dksX11_matchesFrom_4 0 rfl rfl)
theorem dX11_matchesFrom_98 : decode cX11_matchesFrom 98 = .ok (.goto 27, 3) := dk_167 0 27 (dk_at dksX11_matchesFrom_4 3 rfl rfl)
theorem dX11_matchesFrom_101 : decode cX11_matchesFrom 101 = .ok (.aload_n 0, 1) := dk_42 (dk_at dksX11_matchesFrom_4 6 rfl rfl)
theorem dX11_matchesFrom_102 : decode cX11_matchesFrom 102 = .ok (.getfield 85, 3) := dk_180 0 85 (dk_at dksX11_matchesFrom_4 7 rfl rfl)
theorem dX11_matchesFrom_105 : decode cX11_matchesFrom 105 = .ok (.iload_n 1, 1) := dk_27 (dk_at dksX11_matchesFrom_4 10 rfl rfl)
theorem dX11_matchesFrom_106 : decode cX11_matchesFrom 106 = .ok (.iload 4, 2) := dk_21 4 (dk_at dksX11_matchesFrom_4 11 rfl rfl)
theorem dX11_matchesFrom_108 : decode cX11_matchesFrom 108 = .ok (.iastore, 1) := dk_79 (dk_at dksX11_matchesFrom_4 13 rfl rfl)
theorem dX11_matchesFrom_109 : decode cX11_matchesFrom 109 = .ok (.aload_n 0, 1) := dk_42 (dk_at dksX11_matchesFrom_4 14 rfl rfl)
theorem dX11_matchesFrom_110 : decode cX11_matchesFrom 110 = .ok (.iload_n 1, 1) := dk_27 (dk_at dksX11_matchesFrom_4 15 rfl rfl)
theorem dX11_matchesFrom_111 : decode cX11_matchesFrom 111 = .ok (.iconst 1, 1) := dk_4 (dk_at dksX11_matchesFrom_4 16 rfl rfl)
theorem dX11_matchesFrom_112 : decode cX11_matchesFrom 112 = .ok (.iadd, 1) := dk_96 (dk_at dksX11_matchesFrom_4 17 rfl rfl)
theorem dX11_matchesFrom_113 : decode cX11_matchesFrom 113 = .ok (.iload_n 2, 1) := dk_28 (dk_at dksX11_matchesFrom_4 18 rfl rfl)
theorem dX11_matchesFrom_114 : decode cX11_matchesFrom 114 = .ok (.iconst 1, 1) := dk_4 (dk_at dksX11_matchesFrom_4 19 rfl rfl)
theorem dX11_matchesFrom_115 : decode cX11_matchesFrom 115 = .ok (.iload 4, 2) := dk_21 4 (dk_at dksX11_matchesFrom_4 20 rfl rfl)
theorem dX11_matchesFrom_117 : decode cX11_matchesFrom 117 = .ok (.ishl, 1) := dk_120 (dk_at dksX11_matchesFrom_4 22 rfl rfl)
theorem dX11_matchesFrom_118 : decode cX11_matchesFrom 118 = .ok (.ior, 1) := dk_128 (dk_at dksX11_matchesFrom_4 23 rfl rfl)
theorem dX11_matchesFrom_119 : decode cX11_matchesFrom 119 = .ok (.iload_n 3, 1) := dk_29 (dk_at dksX11_matchesFrom_5 0 rfl rfl)
theorem dX11_matchesFrom_120 : decode cX11_matchesFrom 120 = .ok (.iconst 1, 1) := dk_4 (dk_at dksX11_matchesFrom_5 1 rfl rfl)
theorem dX11_matchesFrom_121 : decode cX11_matchesFrom 121 = .ok (.iadd, 1) := dk_96 (dk_at dksX11_matchesFrom_5 2 rfl rfl)
theorem dX11_matchesFrom_122 : decode cX11_matchesFrom 122 = .ok (.invokevirtual 348, 3) := dk_182 1 92 (dk_at dksX11_matchesFrom_5 3 rfl rfl)
theorem dX11_matchesFrom_125 : decode cX11_matchesFrom 125 = .ok (.iinc 4 1, 3) := dk_132 4 1 (dk_at dksX11_matchesFrom_5 6 rfl rfl)
theorem dX11_matchesFrom_128 : decode cX11_matchesFrom 128 = .ok (.goto (-64), 3) := dk_167 255 192 (dk_at dksX11_matchesFrom_5 9 rfl rfl)
theorem dX11_matchesFrom_131 : decode cX11_matchesFrom 131 = .ok (.aload_n 0, 1) := dk_42 (dk_at dksX11_matchesFrom_5 12 rfl rfl)
theorem dX11_matchesFrom_132 : decode cX11_matchesFrom 132 = .ok (.getfield 85, 3) := dk_180 0 85 (dk_at dksX11_matchesFrom_5 13 rfl rfl)
theorem dX11_matchesFrom_135 : decode cX11_matchesFrom 135 = .ok (.iload_n 1, 1) := dk_27 (dk_at dksX11_matchesFrom_5 16 rfl rfl)
theorem dX11_matchesFrom_136 : decode cX11_matchesFrom 136 = .ok (.iconst (-1), 1) := dk_2 (dk_at dksX11_matchesFrom_5 17 rfl rfl)
theorem dX11_matchesFrom_137 : decode cX11_matchesFrom 137 = .ok (.iastore, 1) := dk_79 (dk_at dksX11_matchesFrom_5 18 rfl rfl)
theorem dX11_matchesFrom_138 : decode cX11_matchesFrom 138 = .ok (.aload_n 0, 1) := dk_42 (dk_at dksX11_matchesFrom_5 19 rfl rfl)
theorem dX11_matchesFrom_139 : decode cX11_matchesFrom 139 = .ok (.iload_n 1, 1) := dk_27 (dk_at dksX11_matchesFrom_5 20 rfl rfl)
theorem dX11_matchesFrom_140 : decode cX11_matchesFrom 140 = .ok (.iconst 1, 1) := dk_4 (dk_at dksX11_matchesFrom_5 21 rfl rfl)
theorem dX11_matchesFrom_141 : decode cX11_matchesFrom 141 = .ok (.iadd, 1) := dk_96 (dk_at dksX11_matchesFrom_5 22 rfl rfl)
theorem dX11_matchesFrom_142 : decode cX11_matchesFrom 142 = .ok (.iload_n 2, 1) := dk_28 (dk_at dksX11_matchesFrom_5 23 rfl rfl)
theorem dX11_matchesFrom_143 : decode cX11_matchesFrom 143 = .ok (.iload_n 3, 1) := dk_29 (dk_at dksX11_matchesFrom_6 0 rfl rfl)
theorem dX11_matchesFrom_144 : decode cX11_matchesFrom 144 = .ok (.invokevirtual 348, 3) := dk_182 1 92 (dk_at dksX11_matchesFrom_6 1 rfl rfl)
theorem dX11_matchesFrom_147 : decode cX11_matchesFrom 147 = .ok (.return_, 1) := dk_177 (dk_at dksX11_matchesFrom_6 4 rfl rfl)
def dkwX11_matched_1 : List UInt8 := [153, 0, 5, 3, 172, 42, 182, 1, 96, 42, 180, 0, 88, 27, 46, 172]
abbrev dktX11_matched_1 : List UInt8 := dkwX11_matched_1 ++ []
def dkwX11_matched_0 : List UInt8 := [42, 3, 181, 0, 103, 42, 42, 27, 182, 1, 86, 154, 0, 7, 4, 167, 0, 4, 3, 4, 3, 182, 0, 183]
abbrev dktX11_matched_0 : List UInt8 := dkwX11_matched_0 ++ dktX11_matched_1
theorem dksX11_matched_0 : cX11_matched.data.toList.drop 0 = dktX11_matched_0 := by decide +kernel
theorem dksX11_matched_1 : cX11_matched.data.toList.drop 24 = dktX11_matched_1 := dk_seg dksX11_matched_0 24 rfl rfl
theorem dX11_matched_0 : decode cX11_matched 0 = .ok (.aload_n 0, 1) := dk_42 (dk_at dksX11_matched_0 0 rfl rfl)
theorem dX11_matched_1 : decode cX11_matched 1 = .ok (.iconst 0, 1) := dk_3 (dk_at dksX11_matched_0 1 rfl rfl)
theorem dX11_matched_2 : decode cX11_matched 2 = .ok (.putfield 103, 3) := dk_181 0 103 (dk_at dksX11_matched_0 2 rfl rfl)
theorem dX11_matched_5 : decode cX11_matched 5 = .ok (.aload_n 0, 1) := dk_42 (dk_at dksX11_matched_0 5 rfl rfl)
theorem dX11_matched_6 : decode cX11_matched 6 = .ok (.aload_n 0, 1) := dk_42 (dk_at dksX11_matched_0 6 rfl rfl)
theorem dX11_matched_7 : decode cX11_matched 7 = .ok (.iload_n 1, 1) := dk_27 (dk_at dksX11_matched_0 7 rfl rfl)
theorem dX11_matched_8 : decode cX11_matched 8 = .ok (.invokevirtual 342, 3) := dk_182 1 86 (dk_at dksX11_matched_0 8 rfl rfl)
theorem dX11_matched_11 : decode cX11_matched 11 = .ok (.ifCond .ne 7, 3) := dk_154 0 7 (dk_at dksX11_matched_0 11 rfl rfl)
theorem dX11_matched_14 : decode cX11_matched 14 = .ok (.iconst 1, 1) := dk_4 (dk_at dksX11_matched_0 14 rfl rfl)
theorem dX11_matched_15 : decode cX11_matched 15 = .ok (.goto 4, 3) := dk_167 0 4 (dk_at dksX11_matched_0 15 rfl rfl)
theorem dX11_matched_18 : decode cX11_matched 18 = .ok (.iconst 0, 1) := dk_3 (dk_at dksX11_matched_0 18 rfl rfl)
theorem dX11_matched_19 : decode cX11_matched 19 = .ok (.iconst 1, 1) := dk_4 (dk_at dksX11_matched_0 19 rfl rfl)
theorem dX11_matched_20 : decode cX11_matched 20 = .ok (.iconst 0, 1) := dk_3 (dk_at dksX11_matched_0 20 rfl rfl)
theorem dX11_matched_21 : decode cX11_matched 21 = .ok (.invokevirtual 183, 3) := dk_182 0 183 (dk_at dksX11_matched_0 21 rfl rfl)
theorem dX11_matched_24 : decode cX11_matched 24 = .ok (.ifCond .eq 5, 3) := dk_153 0 5 (dk_at dksX11_matched_1 0 rfl rfl)
theorem dX11_matched_27 : decode cX11_matched 27 = .ok (.iconst 0, 1) := dk_3 (dk_at dksX11_matched_1 3 rfl rfl)
theorem dX11_matched_28 : decode cX11_matched 28 = .ok (.ireturn, 1) := dk_172 (dk_at dksX11_matched_1 4 rfl rfl)
theorem dX11_matched_29 : decode cX11_matched 29 = .ok (.aload_n 0, 1) := dk_42 (dk_at dksX11_matched_1 5 rfl rfl)
theorem dX11_matched_30 : decode cX11_matched 30 = .ok (.invokevirtual 352, 3) := dk_182 1 96 (dk_at dksX11_matched_1 6 rfl rfl)
theorem dX11_matched_33 : decode cX11_matched 33 = .ok (.aload_n 0, 1) := dk_42 (dk_at dksX11_matched_1 9 rfl rfl)
theorem dX11_matched_34 : decode cX11_matched 34 = .ok (.getfield 88, 3) := dk_180 0 88 (dk_at dksX11_matched_1 10 rfl rfl)
theorem dX11_matched_37 : decode cX11_matched 37 = .ok (.iload_n 1, 1) := dk_27 (dk_at dksX11_matched_1 13 rfl rfl)
theorem dX11_matched_38 : decode cX11_matched 38 = .ok (.iaload, 1) := dk_46 (dk_at dksX11_matched_1 14 rfl rfl)
theorem dX11_matched_39 : decode cX11_matched 39 = .ok (.ireturn, 1) := dk_172 (dk_at dksX11_matched_1 15 rfl rfl)
def dkwX11_lapsed_5 : List UInt8 := [167, 0, 13, 28, 154, 0, 7, 3, 167, 0, 5, 21, 4, 172]
abbrev dktX11_lapsed_5 : List UInt8 := dkwX11_lapsed_5 ++ []
def dkwX11_lapsed_4 : List UInt8 := [132, 2, 1, 132, 5, 1, 167, 255, 207, 27, 154, 0, 7, 28, 167, 0, 22, 27, 4, 160, 0, 7, 29]
abbrev dktX11_lapsed_4 : List UInt8 := dkwX11_lapsed_4 ++ dktX11_lapsed_5
def dkwX11_lapsed_3 : List UInt8 := [154, 0, 6, 167, 0, 24, 28, 154, 0, 8, 21, 5, 167, 0, 4, 29, 62, 21, 4, 21, 5, 126, 54, 4]
abbrev dktX11_lapsed_3 : List UInt8 := dkwX11_lapsed_3 ++ dktX11_lapsed_4
def dkwX11_lapsed_2 : List UInt8 := [3, 54, 5, 21, 5, 4, 42, 180, 0, 23, 3, 46, 120, 162, 0, 42, 42, 21, 5, 182, 1, 103]
abbrev dktX11_lapsed_2 : List UInt8 := dkwX11_lapsed_2 ++ dktX11_lapsed_3
def dkwX11_lapsed_1 : List UInt8 := [182, 0, 183, 153, 0, 5, 3, 172, 3, 61, 2, 62, 4, 42, 180, 0, 23, 3, 46, 120, 4, 100, 54, 4]
abbrev dktX11_lapsed_1 : List UInt8 := dkwX11_lapsed_1 ++ dktX11_lapsed_2
def dkwX11_lapsed_0 : List UInt8 := [42, 3, 181, 0, 103, 42, 27, 3, 5, 184, 0, 137, 154, 0, 7, 4, 167, 0, 4, 3, 4, 4]
abbrev dktX11_lapsed_0 : List UInt8 := dkwX11_lapsed_0 ++ dktX11_lapsed_1
theorem dksX11_lapsed_0 : cX11_lapsed.data.toList.drop 0 = dktX11_lapsed_0 := by decide +kernel
theorem dksX11_lapsed_1 : cX11_lapsed.data.toList.drop 22 = dktX11_lapsed_1 := dk_seg dksX11_lapsed_0 22 rfl rfl
theorem dksX11_lapsed_2 : cX11_lapsed.data.toList.drop 46 = dktX11_lapsed_2 := dk_seg dksX11_lapsed_1 24 rfl rfl
theorem dksX11_lapsed_3 : cX11_lapsed.data.toList.drop 68 = dktX11_lapsed_3 := dk_seg dksX11_lapsed_2 22 rfl rfl
theorem dksX11_lapsed_4 : cX11_lapsed.data.toList.drop 92 = dktX11_lapsed_4 := dk_seg dksX11_lapsed_3 24 rfl rfl
theorem dksX11_lapsed_5 : cX11_lapsed.data.toList.drop 115 = dktX11_lapsed_5 := dk_seg dksX11_lapsed_4 23 rfl rfl
theorem dX11_lapsed_0 : decode cX11_lapsed 0 = .ok (.aload_n 0, 1) := dk_42 (dk_at dksX11_lapsed_0 0 rfl rfl)
theorem dX11_lapsed_1 : decode cX11_lapsed 1 = .ok (.iconst 0, 1) := dk_3 (dk_at dksX11_lapsed_0 1 rfl rfl)
theorem dX11_lapsed_2 : decode cX11_lapsed 2 = .ok (.putfield 103, 3) := dk_181 0 103 (dk_at dksX11_lapsed_0 2 rfl rfl)
theorem dX11_lapsed_5 : decode cX11_lapsed 5 = .ok (.aload_n 0, 1) := dk_42 (dk_at dksX11_lapsed_0 5 rfl rfl)
theorem dX11_lapsed_6 : decode cX11_lapsed 6 = .ok (.iload_n 1, 1) := dk_27 (dk_at dksX11_lapsed_0 6 rfl rfl)
theorem dX11_lapsed_7 : decode cX11_lapsed 7 = .ok (.iconst 0, 1) := dk_3 (dk_at dksX11_lapsed_0 7 rfl rfl)
theorem dX11_lapsed_8 : decode cX11_lapsed 8 = .ok (.iconst 2, 1) := dk_5 (dk_at dksX11_lapsed_0 8 rfl rfl)
theorem dX11_lapsed_9 : decode cX11_lapsed 9 = .ok (.invokestatic 137, 3) := dk_184 0 137 (dk_at dksX11_lapsed_0 9 rfl rfl)
theorem dX11_lapsed_12 : decode cX11_lapsed 12 = .ok (.ifCond .ne 7, 3) := dk_154 0 7 (dk_at dksX11_lapsed_0 12 rfl rfl)
theorem dX11_lapsed_15 : decode cX11_lapsed 15 = .ok (.iconst 1, 1) := dk_4 (dk_at dksX11_lapsed_0 15 rfl rfl)
theorem dX11_lapsed_16 : decode cX11_lapsed 16 = .ok (.goto 4, 3) := dk_167 0 4 (dk_at dksX11_lapsed_0 16 rfl rfl)
theorem dX11_lapsed_19 : decode cX11_lapsed 19 = .ok (.iconst 0, 1) := dk_3 (dk_at dksX11_lapsed_0 19 rfl rfl)
theorem dX11_lapsed_20 : decode cX11_lapsed 20 = .ok (.iconst 1, 1) := dk_4 (dk_at dksX11_lapsed_0 20 rfl rfl)
theorem dX11_lapsed_21 : decode cX11_lapsed 21 = .ok (.iconst 1, 1) := dk_4 (dk_at dksX11_lapsed_0 21 rfl rfl)
theorem dX11_lapsed_22 : decode cX11_lapsed 22 = .ok (.invokevirtual 183, 3) := dk_182 0 183 (dk_at dksX11_lapsed_1 0 rfl rfl)
theorem dX11_lapsed_25 : decode cX11_lapsed 25 = .ok (.ifCond .eq 5, 3) := dk_153 0 5 (dk_at dksX11_lapsed_1 3 rfl rfl)
theorem dX11_lapsed_28 : decode cX11_lapsed 28 = .ok (.iconst 0, 1) := dk_3 (dk_at dksX11_lapsed_1 6 rfl rfl)
theorem dX11_lapsed_29 : decode cX11_lapsed 29 = .ok (.ireturn, 1) := dk_172 (dk_at dksX11_lapsed_1 7 rfl rfl)
theorem dX11_lapsed_30 : decode cX11_lapsed 30 = .ok (.iconst 0, 1) := dk_3 (dk_at dksX11_lapsed_1 8 rfl rfl)
theorem dX11_lapsed_31 : decode cX11_lapsed 31 = .ok (.istore_n 2, 1) := dk_61 (dk_at dksX11_lapsed_1 9 rfl rfl)
theorem dX11_lapsed_32 : decode cX11_lapsed 32 = .ok (.iconst (-1), 1) := dk_2 (dk_at dksX11_lapsed_1 10 rfl rfl)
theorem dX11_lapsed_33 : decode cX11_lapsed 33 = .ok (.istore_n 3, 1) := dk_62 (dk_at dksX11_lapsed_1 11 rfl rfl)
theorem dX11_lapsed_34 : decode cX11_lapsed 34 = .ok (.iconst 1, 1) := dk_4 (dk_at dksX11_lapsed_1 12 rfl rfl)
theorem dX11_lapsed_35 : decode cX11_lapsed 35 = .ok (.aload_n 0, 1) := dk_42 (dk_at dksX11_lapsed_1 13 rfl rfl)
theorem dX11_lapsed_36 : decode cX11_lapsed 36 = .ok (.getfield 23, 3) := dk_180 0 23 (dk_at dksX11_lapsed_1 14 rfl rfl)
theorem dX11_lapsed_39 : decode cX11_lapsed 39 = .ok (.iconst 0, 1) := dk_3 (dk_at dksX11_lapsed_1 17 rfl rfl)
theorem dX11_lapsed_40 : decode cX11_lapsed 40 = .ok (.iaload, 1) := dk_46 (dk_at dksX11_lapsed_1 18 rfl rfl)
theorem dX11_lapsed_41 : decode cX11_lapsed 41 = .ok (.ishl, 1) := dk_120 (dk_at dksX11_lapsed_1 19 rfl rfl)
theorem dX11_lapsed_42 : decode cX11_lapsed 42 = .ok (.iconst 1, 1) := dk_4 (dk_at dksX11_lapsed_1 20 rfl rfl)
theorem dX11_lapsed_43 : decode cX11_lapsed 43 = .ok (.isub, 1) := dk_100 (dk_at dksX11_lapsed_1 21 rfl rfl)
theorem dX11_lapsed_44 : decode cX11_lapsed 44 = .ok (.istore 4, 2) := dk_54 4 (dk_at dksX11_lapsed_1 22 rfl rfl)
theorem dX11_lapsed_46 : decode cX11_lapsed 46 = .ok (.iconst 0, 1) := dk_3 (dk_at dksX11_lapsed_2 0 rfl rfl)
theorem dX11_lapsed_47 : decode cX11_lapsed 47 = .ok (.istore 5, 2) := dk_54 5 (dk_at dksX11_lapsed_2 1 rfl rfl)
theorem dX11_lapsed_49 : decode cX11_lapsed 49 = .ok (.iload 5, 2) := dk_21 5 (dk_at dksX11_lapsed_2 3 rfl rfl)
theorem dX11_lapsed_51 : decode cX11_lapsed 51 = .ok (.iconst 1, 1) := dk_4 (dk_at dksX11_lapsed_2 5 rfl rfl)
theorem dX11_lapsed_52 : decode cX11_lapsed 52 = .ok (.aload_n 0, 1) := dk_42 (dk_at dksX11_lapsed_2 6 rfl rfl)
theorem dX11_lapsed_53 : decode cX11_lapsed 53 = .ok (.getfield 23, 3) := dk_180 0 23 (dk_at dksX11_lapsed_2 7 rfl rfl)
theorem dX11_lapsed_56 : decode cX11_lapsed 56 = .ok (.iconst 0, 1) := dk_3 (dk_at dksX11_lapsed_2 10 rfl rfl)
theorem dX11_lapsed_57 : decode cX11_lapsed 57 = .ok (.iaload, 1) := dk_46 (dk_at dksX11_lapsed_2 11 rfl rfl)
theorem dX11_lapsed_58 : decode cX11_lapsed 58 = .ok (.ishl, 1) := dk_120 (dk_at dksX11_lapsed_2 12 rfl rfl)
theorem dX11_lapsed_59 : decode cX11_lapsed 59 = .ok (.if_icmp .ge 42, 3) := dk_162 0 42 (dk_at dksX11_lapsed_2 13 rfl rfl)
theorem dX11_lapsed_62 : decode cX11_lapsed 62 = .ok (.aload_n 0, 1) := dk_42 (dk_at dksX11_lapsed_2 16 rfl rfl)
theorem dX11_lapsed_63 : decode cX11_lapsed 63 = .ok (.iload 5, 2) := dk_21 5 (dk_at dksX11_lapsed_2 17 rfl rfl)
theorem dX11_lapsed_65 : decode cX11_lapsed 65 = .ok (.invokevirtual 359, 3) := dk_182 1 103 (dk_at dksX11_lapsed_2 19 rfl rfl)
theorem dX11_lapsed_68 : decode cX11_lapsed 68 = .ok (.ifCond .ne 6, 3) := dk_154 0 6 (dk_at dksX11_lapsed_3 0 rfl rfl)
theorem dX11_lapsed_71 : decode cX11_lapsed 71 = .ok (.goto 24, 3) := dk_167 0 24 (dk_at dksX11_lapsed_3 3 rfl rfl)
theorem dX11_lapsed_74 : decode cX11_lapsed 74 = .ok (.iload_n 2, 1) := dk_28 (dk_at dksX11_lapsed_3 6 rfl rfl)
theorem dX11_lapsed_75 : decode cX11_lapsed 75 = .ok (.ifCond .ne 8, 3) := dk_154 0 8 (dk_at dksX11_lapsed_3 7 rfl rfl)
theorem dX11_lapsed_78 : decode cX11_lapsed 78 = .ok (.iload 5, 2) := dk_21 5 (dk_at dksX11_lapsed_3 10 rfl rfl)
theorem dX11_lapsed_80 : decode cX11_lapsed 80 = .ok (.goto 4, 3) := dk_167 0 4 (dk_at dksX11_lapsed_3 12 rfl rfl)
theorem dX11_lapsed_83 : decode cX11_lapsed 83 = .ok (.iload_n 3, 1) := dk_29 (dk_at dksX11_lapsed_3 15 rfl rfl)
theorem dX11_lapsed_84 : decode cX11_lapsed 84 = .ok (.istore_n 3, 1) := dk_62 (dk_at dksX11_lapsed_3 16 rfl rfl)
theorem dX11_lapsed_85 : decode cX11_lapsed 85 = .ok (.iload 4, 2) := dk_21 4 (dk_at dksX11_lapsed_3 17 rfl rfl)
theorem dX11_lapsed_87 : decode cX11_lapsed 87 = .ok (.iload 5, 2) := dk_21 5 (dk_at dksX11_lapsed_3 19 rfl rfl)
theorem dX11_lapsed_89 : decode cX11_lapsed 89 = .ok (.iand, 1) := dk_126 (dk_at dksX11_lapsed_3 21 rfl rfl)
theorem dX11_lapsed_90 : decode cX11_lapsed 90 = .ok (.istore 4, 2) := dk_54 4 (dk_at dksX11_lapsed_3 22 rfl rfl)
theorem dX11_lapsed_92 : decode cX11_lapsed 92 = .ok (.iinc 2 1, 3) := dk_132 2 1 (dk_at dksX11_lapsed_4 0 rfl rfl)
theorem dX11_lapsed_95 : decode cX11_lapsed 95 = .ok (.iinc 5 1, 3) := dk_132 5 1 (dk_at dksX11_lapsed_4 3 rfl rfl)
theorem dX11_lapsed_98 : decode cX11_lapsed 98 = .ok (.goto (-49), 3) := dk_167 255 207 (dk_at dksX11_lapsed_4 6 rfl rfl)
theorem dX11_lapsed_101 : decode cX11_lapsed 101 = .ok (.iload_n 1, 1) := dk_27 (dk_at dksX11_lapsed_4 9 rfl rfl)
theorem dX11_lapsed_102 : decode cX11_lapsed 102 = .ok (.ifCond .ne 7, 3) := dk_154 0 7 (dk_at dksX11_lapsed_4 10 rfl rfl)
theorem dX11_lapsed_105 : decode cX11_lapsed 105 = .ok (.iload_n 2, 1) := dk_28 (dk_at dksX11_lapsed_4 13 rfl rfl)
theorem dX11_lapsed_106 : decode cX11_lapsed 106 = .ok (.goto 22, 3) := dk_167 0 22 (dk_at dksX11_lapsed_4 14 rfl rfl)
theorem dX11_lapsed_109 : decode cX11_lapsed 109 = .ok (.iload_n 1, 1) := dk_27 (dk_at dksX11_lapsed_4 17 rfl rfl)
theorem dX11_lapsed_110 : decode cX11_lapsed 110 = .ok (.iconst 1, 1) := dk_4 (dk_at dksX11_lapsed_4 18 rfl rfl)
theorem dX11_lapsed_111 : decode cX11_lapsed 111 = .ok (.if_icmp .ne 7, 3) := dk_160 0 7 (dk_at dksX11_lapsed_4 19 rfl rfl)
theorem dX11_lapsed_114 : decode cX11_lapsed 114 = .ok (.iload_n 3, 1) := dk_29 (dk_at dksX11_lapsed_4 22 rfl rfl)
theorem dX11_lapsed_115 : decode cX11_lapsed 115 = .ok (.goto 13, 3) := dk_167 0 13 (dk_at dksX11_lapsed_5 0 rfl rfl)
theorem dX11_lapsed_118 : decode cX11_lapsed 118 = .ok (.iload_n 2, 1) := dk_28 (dk_at dksX11_lapsed_5 3 rfl rfl)
theorem dX11_lapsed_119 : decode cX11_lapsed 119 = .ok (.ifCond .ne 7, 3) := dk_154 0 7 (dk_at dksX11_lapsed_5 4 rfl rfl)
theorem dX11_lapsed_122 : decode cX11_lapsed 122 = .ok (.iconst 0, 1) := dk_3 (dk_at dksX11_lapsed_5 7 rfl rfl)
theorem dX11_lapsed_123 : decode cX11_lapsed 123 = .ok (.goto 5, 3) := dk_167 0 5 (dk_at dksX11_lapsed_5 8 rfl rfl)
theorem dX11_lapsed_126 : decode cX11_lapsed 126 = .ok (.iload 4, 2) := dk_21 4 (dk_at dksX11_lapsed_5 11 rfl rfl)
theorem dX11_lapsed_128 : decode cX11_lapsed 128 = .ok (.ireturn, 1) := dk_172 (dk_at dksX11_lapsed_5 13 rfl rfl)
def dkwX11_isLapsed_4 : List UInt8 := [3, 172, 132, 2, 1, 167, 255, 201, 4, 172]
abbrev dktX11_isLapsed_4 : List UInt8 := dkwX11_isLapsed_4 ++ []
def dkwX11_isLapsed_3 : List UInt8 := [28, 50, 3, 46, 50, 3, 46, 184, 1, 7, 182, 1, 99, 42, 180, 0, 58, 28, 50, 4, 46, 159, 0, 5]
abbrev dktX11_isLapsed_3 : List UInt8 := dkwX11_isLapsed_3 ++ dktX11_isLapsed_4
def dkwX11_isLapsed_2 : List UInt8 := [180, 0, 203, 162, 0, 53, 42, 42, 180, 0, 58, 28, 50, 3, 46, 27, 42, 180, 0, 43, 42, 180, 0, 58]
abbrev dktX11_isLapsed_2 : List UInt8 := dkwX11_isLapsed_2 ++ dktX11_isLapsed_3
def dkwX11_isLapsed_1 : List UInt8 := [180, 0, 73, 28, 182, 1, 40, 154, 0, 5, 3, 172, 132, 2, 1, 167, 255, 221, 3, 61, 28, 42]
abbrev dktX11_isLapsed_1 : List UInt8 := dkwX11_isLapsed_1 ++ dktX11_isLapsed_2
def dkwX11_isLapsed_0 : List UInt8 := [3, 61, 28, 42, 180, 0, 23, 3, 46, 162, 0, 31, 27, 28, 184, 1, 7, 153, 0, 17, 42, 42]
abbrev dktX11_isLapsed_0 : List UInt8 := dkwX11_isLapsed_0 ++ dktX11_isLapsed_1
theorem dksX11_isLapsed_0 : cX11_isLapsed.data.toList.drop 0 = dktX11_isLapsed_0 := by decide +kernel
theorem dksX11_isLapsed_1 : cX11_isLapsed.data.toList.drop 22 = dktX11_isLapsed_1 := dk_seg dksX11_isLapsed_0 22 rfl rfl
theorem dksX11_isLapsed_2 : cX11_isLapsed.data.toList.drop 44 = dktX11_isLapsed_2 := dk_seg dksX11_isLapsed_1 22 rfl rfl
theorem dksX11_isLapsed_3 : cX11_isLapsed.data.toList.drop 68 = dktX11_isLapsed_3 := dk_seg dksX11_isLapsed_2 24 rfl rfl
theorem dksX11_isLapsed_4 : cX11_isLapsed.data.toList.drop 92 = dktX11_isLapsed_4 := dk_seg dksX11_isLapsed_3 24 rfl rfl
theorem dX11_isLapsed_0 : decode cX11_isLapsed 0 = .ok (.iconst 0, 1) := dk_3 (dk_at dksX11_isLapsed_0 0 rfl rfl)
theorem dX11_isLapsed_1 : decode cX11_isLapsed 1 = .ok (.istore_n 2, 1) := dk_61 (dk_at dksX11_isLapsed_0 1 rfl rfl)
theorem dX11_isLapsed_2 : decode cX11_isLapsed 2 = .ok (.iload_n 2, 1) := dk_28 (dk_at dksX11_isLapsed_0 2 rfl rfl)
theorem dX11_isLapsed_3 : decode cX11_isLapsed 3 = .ok (.aload_n 0, 1) := dk_42 (dk_at dksX11_isLapsed_0 3 rfl rfl)
theorem dX11_isLapsed_4 : decode cX11_isLapsed 4 = .ok (.getfield 23, 3) := dk_180 0 23 (dk_at dksX11_isLapsed_0 4 rfl rfl)
theorem dX11_isLapsed_7 : decode cX11_isLapsed 7 = .ok (.iconst 0, 1) := dk_3 (dk_at dksX11_isLapsed_0 7 rfl rfl)
theorem dX11_isLapsed_8 : decode cX11_isLapsed 8 = .ok (.iaload, 1) := dk_46 (dk_at dksX11_isLapsed_0 8 rfl rfl)
theorem dX11_isLapsed_9 : decode cX11_isLapsed 9 = .ok (.if_icmp .ge 31, 3) := dk_162 0 31 (dk_at dksX11_isLapsed_0 9 rfl rfl)
theorem dX11_isLapsed_12 : decode cX11_isLapsed 12 = .ok (.iload_n 1, 1) := dk_27 (dk_at dksX11_isLapsed_0 12 rfl rfl)
theorem dX11_isLapsed_13 : decode cX11_isLapsed 13 = .ok (.iload_n 2, 1) := dk_28 (dk_at dksX11_isLapsed_0 13 rfl rfl)
theorem dX11_isLapsed_14 : decode cX11_isLapsed 14 = .ok (.invokestatic 263, 3) := dk_184 1 7 (dk_at dksX11_isLapsed_0 14 rfl rfl)
theorem dX11_isLapsed_17 : decode cX11_isLapsed 17 = .ok (.ifCond .eq 17, 3) := dk_153 0 17 (dk_at dksX11_isLapsed_0 17 rfl rfl)
theorem dX11_isLapsed_20 : decode cX11_isLapsed 20 = .ok (.aload_n 0, 1) := dk_42 (dk_at dksX11_isLapsed_0 20 rfl rfl)
theorem dX11_isLapsed_21 : decode cX11_isLapsed 21 = .ok (.aload_n 0, 1) := dk_42 (dk_at dksX11_isLapsed_0 21 rfl rfl)
theorem dX11_isLapsed_22 : decode cX11_isLapsed 22 = .ok (.getfield 73, 3) := dk_180 0 73 (dk_at dksX11_isLapsed_1 0 rfl rfl)
theorem dX11_isLapsed_25 : decode cX11_isLapsed 25 = .ok (.iload_n 2, 1) := dk_28 (dk_at dksX11_isLapsed_1 3 rfl rfl)
theorem dX11_isLapsed_26 : decode cX11_isLapsed 26 = .ok (.invokevirtual 296, 3) := dk_182 1 40 (dk_at dksX11_isLapsed_1 4 rfl rfl)
theorem dX11_isLapsed_29 : decode cX11_isLapsed 29 = .ok (.ifCond .ne 5, 3) := dk_154 0 5 (dk_at dksX11_isLapsed_1 7 rfl rfl)
theorem dX11_isLapsed_32 : decode cX11_isLapsed 32 = .ok (.iconst 0, 1) := dk_3 (dk_at dksX11_isLapsed_1 10 rfl rfl)
theorem dX11_isLapsed_33 : decode cX11_isLapsed 33 = .ok (.ireturn, 1) := dk_172 (dk_at dksX11_isLapsed_1 11 rfl rfl)
theorem dX11_isLapsed_34 : decode cX11_isLapsed 34 = .ok (.iinc 2 1, 3) := dk_132 2 1 (dk_at dksX11_isLapsed_1 12 rfl rfl)
theorem dX11_isLapsed_37 : decode cX11_isLapsed 37 = .ok (.goto (-35), 3) := dk_167 255 221 (dk_at dksX11_isLapsed_1 15 rfl rfl)
theorem dX11_isLapsed_40 : decode cX11_isLapsed 40 = .ok (.iconst 0, 1) := dk_3 (dk_at dksX11_isLapsed_1 18 rfl rfl)
theorem dX11_isLapsed_41 : decode cX11_isLapsed 41 = .ok (.istore_n 2, 1) := dk_61 (dk_at dksX11_isLapsed_1 19 rfl rfl)
theorem dX11_isLapsed_42 : decode cX11_isLapsed 42 = .ok (.iload_n 2, 1) := dk_28 (dk_at dksX11_isLapsed_1 20 rfl rfl)
theorem dX11_isLapsed_43 : decode cX11_isLapsed 43 = .ok (.aload_n 0, 1) := dk_42 (dk_at dksX11_isLapsed_1 21 rfl rfl)
theorem dX11_isLapsed_44 : decode cX11_isLapsed 44 = .ok (.getfield 203, 3) := dk_180 0 203 (dk_at dksX11_isLapsed_2 0 rfl rfl)
theorem dX11_isLapsed_47 : decode cX11_isLapsed 47 = .ok (.if_icmp .ge 53, 3) := dk_162 0 53 (dk_at dksX11_isLapsed_2 3 rfl rfl)
theorem dX11_isLapsed_50 : decode cX11_isLapsed 50 = .ok (.aload_n 0, 1) := dk_42 (dk_at dksX11_isLapsed_2 6 rfl rfl)
theorem dX11_isLapsed_51 : decode cX11_isLapsed 51 = .ok (.aload_n 0, 1) := dk_42 (dk_at dksX11_isLapsed_2 7 rfl rfl)
theorem dX11_isLapsed_52 : decode cX11_isLapsed 52 = .ok (.getfield 58, 3) := dk_180 0 58 (dk_at dksX11_isLapsed_2 8 rfl rfl)
theorem dX11_isLapsed_55 : decode cX11_isLapsed 55 = .ok (.iload_n 2, 1) := dk_28 (dk_at dksX11_isLapsed_2 11 rfl rfl)
theorem dX11_isLapsed_56 : decode cX11_isLapsed 56 = .ok (.aaload, 1) := dk_50 (dk_at dksX11_isLapsed_2 12 rfl rfl)
theorem dX11_isLapsed_57 : decode cX11_isLapsed 57 = .ok (.iconst 0, 1) := dk_3 (dk_at dksX11_isLapsed_2 13 rfl rfl)
theorem dX11_isLapsed_58 : decode cX11_isLapsed 58 = .ok (.iaload, 1) := dk_46 (dk_at dksX11_isLapsed_2 14 rfl rfl)
theorem dX11_isLapsed_59 : decode cX11_isLapsed 59 = .ok (.iload_n 1, 1) := dk_27 (dk_at dksX11_isLapsed_2 15 rfl rfl)
theorem dX11_isLapsed_60 : decode cX11_isLapsed 60 = .ok (.aload_n 0, 1) := dk_42 (dk_at dksX11_isLapsed_2 16 rfl rfl)
theorem dX11_isLapsed_61 : decode cX11_isLapsed 61 = .ok (.getfield 43, 3) := dk_180 0 43 (dk_at dksX11_isLapsed_2 17 rfl rfl)
theorem dX11_isLapsed_64 : decode cX11_isLapsed 64 = .ok (.aload_n 0, 1) := dk_42 (dk_at dksX11_isLapsed_2 20 rfl rfl)
theorem dX11_isLapsed_65 : decode cX11_isLapsed 65 = .ok (.getfield 58, 3) := dk_180 0 58 (dk_at dksX11_isLapsed_2 21 rfl rfl)
theorem dX11_isLapsed_68 : decode cX11_isLapsed 68 = .ok (.iload_n 2, 1) := dk_28 (dk_at dksX11_isLapsed_3 0 rfl rfl)
theorem dX11_isLapsed_69 : decode cX11_isLapsed 69 = .ok (.aaload, 1) := dk_50 (dk_at dksX11_isLapsed_3 1 rfl rfl)
theorem dX11_isLapsed_70 : decode cX11_isLapsed 70 = .ok (.iconst 0, 1) := dk_3 (dk_at dksX11_isLapsed_3 2 rfl rfl)
theorem dX11_isLapsed_71 : decode cX11_isLapsed 71 = .ok (.iaload, 1) := dk_46 (dk_at dksX11_isLapsed_3 3 rfl rfl)
theorem dX11_isLapsed_72 : decode cX11_isLapsed 72 = .ok (.aaload, 1) := dk_50 (dk_at dksX11_isLapsed_3 4 rfl rfl)
theorem dX11_isLapsed_73 : decode cX11_isLapsed 73 = .ok (.iconst 0, 1) := dk_3 (dk_at dksX11_isLapsed_3 5 rfl rfl)
theorem dX11_isLapsed_74 : decode cX11_isLapsed 74 = .ok (.iaload, 1) := dk_46 (dk_at dksX11_isLapsed_3 6 rfl rfl)
theorem dX11_isLapsed_75 : decode cX11_isLapsed 75 = .ok (.invokestatic 263, 3) := dk_184 1 7 (dk_at dksX11_isLapsed_3 7 rfl rfl)
theorem dX11_isLapsed_78 : decode cX11_isLapsed 78 = .ok (.invokevirtual 355, 3) := dk_182 1 99 (dk_at dksX11_isLapsed_3 10 rfl rfl)
theorem dX11_isLapsed_81 : decode cX11_isLapsed 81 = .ok (.aload_n 0, 1) := dk_42 (dk_at dksX11_isLapsed_3 13 rfl rfl)
theorem dX11_isLapsed_82 : decode cX11_isLapsed 82 = .ok (.getfield 58, 3) := dk_180 0 58 (dk_at dksX11_isLapsed_3 14 rfl rfl)
theorem dX11_isLapsed_85 : decode cX11_isLapsed 85 = .ok (.iload_n 2, 1) := dk_28 (dk_at dksX11_isLapsed_3 17 rfl rfl)
theorem dX11_isLapsed_86 : decode cX11_isLapsed 86 = .ok (.aaload, 1) := dk_50 (dk_at dksX11_isLapsed_3 18 rfl rfl)
theorem dX11_isLapsed_87 : decode cX11_isLapsed 87 = .ok (.iconst 1, 1) := dk_4 (dk_at dksX11_isLapsed_3 19 rfl rfl)
theorem dX11_isLapsed_88 : decode cX11_isLapsed 88 = .ok (.iaload, 1) := dk_46 (dk_at dksX11_isLapsed_3 20 rfl rfl)
theorem dX11_isLapsed_89 : decode cX11_isLapsed 89 = .ok (.if_icmp .eq 5, 3) := dk_159 0 5 (dk_at dksX11_isLapsed_3 21 rfl rfl)
theorem dX11_isLapsed_92 : decode cX11_isLapsed 92 = .ok (.iconst 0, 1) := dk_3 (dk_at dksX11_isLapsed_4 0 rfl rfl)
theorem dX11_isLapsed_93 : decode cX11_isLapsed 93 = .ok (.ireturn, 1) := dk_172 (dk_at dksX11_isLapsed_4 1 rfl rfl)
theorem dX11_isLapsed_94 : decode cX11_isLapsed 94 = .ok (.iinc 2 1, 3) := dk_132 2 1 (dk_at dksX11_isLapsed_4 2 rfl rfl)
theorem dX11_isLapsed_97 : decode cX11_isLapsed 97 = .ok (.goto (-55), 3) := dk_167 255 201 (dk_at dksX11_isLapsed_4 5 rfl rfl)
theorem dX11_isLapsed_100 : decode cX11_isLapsed 100 = .ok (.iconst 1, 1) := dk_4 (dk_at dksX11_isLapsed_4 8 rfl rfl)
theorem dX11_isLapsed_101 : decode cX11_isLapsed 101 = .ok (.ireturn, 1) := dk_172 (dk_at dksX11_isLapsed_4 9 rfl rfl)
def dkwX11_powerIf_3 : List UInt8 := [3, 172]
abbrev dktX11_powerIf_3 : List UInt8 := dkwX11_powerIf_3 ++ []
def dkwX11_powerIf_2 : List UInt8 := [180, 0, 43, 27, 50, 3, 46, 96, 46, 29, 96, 42, 180, 0, 73, 16, 44, 46, 182, 1, 29, 167, 0, 4]
abbrev dktX11_powerIf_2 : List UInt8 := dkwX11_powerIf_2 ++ dktX11_powerIf_3
def dkwX11_powerIf_1 : List UInt8 := [180, 0, 73, 27, 42, 180, 0, 73, 16, 16, 27, 96, 46, 4, 29, 96, 108, 42, 180, 0, 73, 16, 8, 42]
abbrev dktX11_powerIf_1 : List UInt8 := dkwX11_powerIf_1 ++ dktX11_powerIf_2
def dkwX11_powerIf_0 : List UInt8 := [28, 153, 0, 7, 4, 167, 0, 4, 3, 62, 42, 180, 0, 73, 27, 184, 1, 11, 153, 0, 53, 42, 42]
abbrev dktX11_powerIf_0 : List UInt8 := dkwX11_powerIf_0 ++ dktX11_powerIf_1
theorem dksX11_powerIf_0 : cX11_powerIf.data.toList.drop 0 = dktX11_powerIf_0 := by decide +kernel
theorem dksX11_powerIf_1 : cX11_powerIf.data.toList.drop 23 = dktX11_powerIf_1 := dk_seg dksX11_powerIf_0 23 rfl rfl
theorem dksX11_powerIf_2 : cX11_powerIf.data.toList.drop 47 = dktX11_powerIf_2 := dk_seg dksX11_powerIf_1 24 rfl rfl
theorem dksX11_powerIf_3 : cX11_powerIf.data.toList.drop 71 = dktX11_powerIf_3 := dk_seg dksX11_powerIf_2 24 rfl rfl
theorem dX11_powerIf_0 : decode cX11_powerIf 0 = .ok (.iload_n 2, 1) := dk_28 (dk_at dksX11_powerIf_0 0 rfl rfl)
theorem dX11_powerIf_1 : decode cX11_powerIf 1 = .ok (.ifCond .eq 7, 3) := dk_153 0 7 (dk_at dksX11_powerIf_0 1 rfl rfl)
theorem dX11_powerIf_4 : decode cX11_powerIf 4 = .ok (.iconst 1, 1) := dk_4 (dk_at dksX11_powerIf_0 4 rfl rfl)
theorem dX11_powerIf_5 : decode cX11_powerIf 5 = .ok (.goto 4, 3) := dk_167 0 4 (dk_at dksX11_powerIf_0 5 rfl rfl)
theorem dX11_powerIf_8 : decode cX11_powerIf 8 = .ok (.iconst 0, 1) := dk_3 (dk_at dksX11_powerIf_0 8 rfl rfl)
theorem dX11_powerIf_9 : decode cX11_powerIf 9 = .ok (.istore_n 3, 1) := dk_62 (dk_at dksX11_powerIf_0 9 rfl rfl)
theorem dX11_powerIf_10 : decode cX11_powerIf 10 = .ok (.aload_n 0, 1) := dk_42 (dk_at dksX11_powerIf_0 10 rfl rfl)
theorem dX11_powerIf_11 : decode cX11_powerIf 11 = .ok (.getfield 73, 3) := dk_180 0 73 (dk_at dksX11_powerIf_0 11 rfl rfl)
theorem dX11_powerIf_14 : decode cX11_powerIf 14 = .ok (.iload_n 1, 1) := dk_27 (dk_at dksX11_powerIf_0 14 rfl rfl)
theorem dX11_powerIf_15 : decode cX11_powerIf 15 = .ok (.invokestatic 267, 3) := dk_184 1 11 (dk_at dksX11_powerIf_0 15 rfl rfl)
theorem dX11_powerIf_18 : decode cX11_powerIf 18 = .ok (.ifCond .eq 53, 3) := dk_153 0 53 (dk_at dksX11_powerIf_0 18 rfl rfl)
theorem dX11_powerIf_21 : decode cX11_powerIf 21 = .ok (.aload_n 0, 1) := dk_42 (dk_at dksX11_powerIf_0 21 rfl rfl)
theorem dX11_powerIf_22 : decode cX11_powerIf 22 = .ok (.aload_n 0, 1) := dk_42 (dk_at dksX11_powerIf_0 22 rfl rfl)
theorem dX11_powerIf_23 : decode cX11_powerIf 23 = .ok (.getfield 73, 3) := dk_180 0 73 (dk_at dksX11_powerIf_1 0 rfl rfl)
theorem dX11_powerIf_26 : decode cX11_powerIf 26 = .ok (.iload_n 1, 1) := dk_27 (dk_at dksX11_powerIf_1 3 rfl rfl)
theorem dX11_powerIf_27 : decode cX11_powerIf 27 = .ok (.aload_n 0, 1) := dk_42 (dk_at dksX11_powerIf_1 4 rfl rfl)
theorem dX11_powerIf_28 : decode cX11_powerIf 28 = .ok (.getfield 73, 3) := dk_180 0 73 (dk_at dksX11_powerIf_1 5 rfl rfl)
theorem dX11_powerIf_31 : decode cX11_powerIf 31 = .ok (.bipush 16, 2) := dk_16 16 (dk_at dksX11_powerIf_1 8 rfl rfl)
theorem dX11_powerIf_33 : decode cX11_powerIf 33 = .ok (.iload_n 1, 1) := dk_27 (dk_at dksX11_powerIf_1 10 rfl rfl)
theorem dX11_powerIf_34 : decode cX11_powerIf 34 = .ok (.iadd, 1) := dk_96 (dk_at dksX11_powerIf_1 11 rfl rfl)
theorem dX11_powerIf_35 : decode cX11_powerIf 35 = .ok (.iaload, 1) := dk_46 (dk_at dksX11_powerIf_1 12 rfl rfl)
theorem dX11_powerIf_36 : decode cX11_powerIf 36 = .ok (.iconst 1, 1) := dk_4 (dk_at dksX11_powerIf_1 13 rfl rfl)
theorem dX11_powerIf_37 : decode cX11_powerIf 37 = .ok (.iload_n 3, 1) := dk_29 (dk_at dksX11_powerIf_1 14 rfl rfl)
theorem dX11_powerIf_38 : decode cX11_powerIf 38 = .ok (.iadd, 1) := dk_96 (dk_at dksX11_powerIf_1 15 rfl rfl)
theorem dX11_powerIf_39 : decode cX11_powerIf 39 = .ok (.idiv, 1) := dk_108 (dk_at dksX11_powerIf_1 16 rfl rfl)
theorem dX11_powerIf_40 : decode cX11_powerIf 40 = .ok (.aload_n 0, 1) := dk_42 (dk_at dksX11_powerIf_1 17 rfl rfl)
theorem dX11_powerIf_41 : decode cX11_powerIf 41 = .ok (.getfield 73, 3) := dk_180 0 73 (dk_at dksX11_powerIf_1 18 rfl rfl)
theorem dX11_powerIf_44 : decode cX11_powerIf 44 = .ok (.bipush 8, 2) := dk_16 8 (dk_at dksX11_powerIf_1 21 rfl rfl)
theorem dX11_powerIf_46 : decode cX11_powerIf 46 = .ok (.aload_n 0, 1) := dk_42 (dk_at dksX11_powerIf_1 23 rfl rfl)
theorem dX11_powerIf_47 : decode cX11_powerIf 47 = .ok (.getfield 43, 3) := dk_180 0 43 (dk_at dksX11_powerIf_2 0 rfl rfl)
theorem dX11_powerIf_50 : decode cX11_powerIf 50 = .ok (.iload_n 1, 1) := dk_27 (dk_at dksX11_powerIf_2 3 rfl rfl)
theorem dX11_powerIf_51 : decode cX11_powerIf 51 = .ok (.aaload, 1) := dk_50 (dk_at dksX11_powerIf_2 4 rfl rfl)
theorem dX11_powerIf_52 : decode cX11_powerIf 52 = .ok (.iconst 0, 1) := dk_3 (dk_at dksX11_powerIf_2 5 rfl rfl)
theorem dX11_powerIf_53 : decode cX11_powerIf 53 = .ok (.iaload, 1) := dk_46 (dk_at dksX11_powerIf_2 6 rfl rfl)
theorem dX11_powerIf_54 : decode cX11_powerIf 54 = .ok (.iadd, 1) := dk_96 (dk_at dksX11_powerIf_2 7 rfl rfl)
theorem dX11_powerIf_55 : decode cX11_powerIf 55 = .ok (.iaload, 1) := dk_46 (dk_at dksX11_powerIf_2 8 rfl rfl)
theorem dX11_powerIf_56 : decode cX11_powerIf 56 = .ok (.iload_n 3, 1) := dk_29 (dk_at dksX11_powerIf_2 9 rfl rfl)
theorem dX11_powerIf_57 : decode cX11_powerIf 57 = .ok (.iadd, 1) := dk_96 (dk_at dksX11_powerIf_2 10 rfl rfl)
theorem dX11_powerIf_58 : decode cX11_powerIf 58 = .ok (.aload_n 0, 1) := dk_42 (dk_at dksX11_powerIf_2 11 rfl rfl)
theorem dX11_powerIf_59 : decode cX11_powerIf 59 = .ok (.getfield 73, 3) := dk_180 0 73 (dk_at dksX11_powerIf_2 12 rfl rfl)
theorem dX11_powerIf_62 : decode cX11_powerIf 62 = .ok (.bipush 44, 2) := dk_16 44 (dk_at dksX11_powerIf_2 15 rfl rfl)
theorem dX11_powerIf_64 : decode cX11_powerIf 64 = .ok (.iaload, 1) := dk_46 (dk_at dksX11_powerIf_2 17 rfl rfl)
theorem dX11_powerIf_65 : decode cX11_powerIf 65 = .ok (.invokevirtual 285, 3) := dk_182 1 29 (dk_at dksX11_powerIf_2 18 rfl rfl)
theorem dX11_powerIf_68 : decode cX11_powerIf 68 = .ok (.goto 4, 3) := dk_167 0 4 (dk_at dksX11_powerIf_2 21 rfl rfl)
theorem dX11_powerIf_71 : decode cX11_powerIf 71 = .ok (.iconst 0, 1) := dk_3 (dk_at dksX11_powerIf_3 0 rfl rfl)
theorem dX11_powerIf_72 : decode cX11_powerIf 72 = .ok (.ireturn, 1) := dk_172 (dk_at dksX11_powerIf_3 1 rfl rfl)
def dkwX11_ask_8 : List UInt8 := [167, 255, 110, 27, 154, 0, 7, 28, 167, 0, 4, 29, 172]
abbrev dktX11_ask_8 : List UInt8 := dkwX11_ask_8 ++ []
def dkwX11_ask_7 : List UInt8 := [2, 159, 0, 12, 21, 7, 29, 161, 0, 6, 167, 0, 9, 21, 4, 61, 21, 7, 62, 132, 4, 1]
abbrev dktX11_ask_7 : List UInt8 := dkwX11_ask_7 ++ dktX11_ask_8
def dkwX11_ask_6 : List UInt8 := [182, 1, 99, 160, 0, 11, 21, 5, 21, 6, 96, 167, 0, 10, 21, 5, 21, 6, 184, 0, 248, 54, 7, 28]
abbrev dktX11_ask_6 : List UInt8 := dkwX11_ask_6 ++ dktX11_ask_7
def dkwX11_ask_5 : List UInt8 := [167, 0, 6, 132, 6, 1, 132, 7, 1, 167, 255, 202, 42, 21, 4, 4, 182, 1, 99, 42, 21, 4, 3]
abbrev dktX11_ask_5 : List UInt8 := dkwX11_ask_5 ++ dktX11_ask_6
def dkwX11_ask_4 : List UInt8 := [167, 0, 29, 21, 7, 42, 180, 0, 43, 21, 4, 50, 3, 46, 184, 1, 7, 153, 0, 9, 132, 5, 1]
abbrev dktX11_ask_4 : List UInt8 := dkwX11_ask_4 ++ dktX11_ask_5
def dkwX11_ask_3 : List UInt8 := [21, 7, 4, 42, 180, 0, 23, 3, 46, 120, 162, 0, 47, 42, 21, 7, 182, 1, 103, 154, 0, 6]
abbrev dktX11_ask_3 : List UInt8 := dkwX11_ask_3 ++ dktX11_ask_4
def dkwX11_ask_2 : List UInt8 := [162, 0, 141, 42, 21, 4, 182, 1, 106, 153, 0, 6, 167, 0, 123, 3, 54, 5, 3, 54, 6, 3, 54, 7]
abbrev dktX11_ask_2 : List UInt8 := dkwX11_ask_2 ++ dktX11_ask_3
def dkwX11_ask_1 : List UInt8 := [182, 0, 183, 153, 0, 5, 3, 172, 2, 61, 2, 62, 3, 54, 4, 21, 4, 42, 180, 0, 23, 4, 46]
abbrev dktX11_ask_1 : List UInt8 := dkwX11_ask_1 ++ dktX11_ask_2
def dkwX11_ask_0 : List UInt8 := [42, 3, 181, 0, 103, 42, 27, 3, 4, 184, 0, 137, 154, 0, 7, 4, 167, 0, 4, 3, 4, 4]
abbrev dktX11_ask_0 : List UInt8 := dkwX11_ask_0 ++ dktX11_ask_1
theorem dksX11_ask_0 : cX11_ask.data.toList.drop 0 = dktX11_ask_0 := by decide +kernel
theorem dksX11_ask_1 : cX11_ask.data.toList.drop 22 = dktX11_ask_1 := dk_seg dksX11_ask_0 22 rfl rfl
theorem dksX11_ask_2 : cX11_ask.data.toList.drop 45 = dktX11_ask_2 := dk_seg dksX11_ask_1 23 rfl rfl
theorem dksX11_ask_3 : cX11_ask.data.toList.drop 69 = dktX11_ask_3 := dk_seg dksX11_ask_2 24 rfl rfl
theorem dksX11_ask_4 : cX11_ask.data.toList.drop 91 = dktX11_ask_4 := dk_seg dksX11_ask_3 22 rfl rfl
theorem dksX11_ask_5 : cX11_ask.data.toList.drop 114 = dktX11_ask_5 := dk_seg dksX11_ask_4 23 rfl rfl
theorem dksX11_ask_6 : cX11_ask.data.toList.drop 137 = dktX11_ask_6 := dk_seg dksX11_ask_5 23 rfl rfl
theorem dksX11_ask_7 : cX11_ask.data.toList.drop 161 = dktX11_ask_7 := dk_seg dksX11_ask_6 24 rfl rfl
theorem dksX11_ask_8 : cX11_ask.data.toList.drop 183 = dktX11_ask_8 := dk_seg dksX11_ask_7 22 rfl rfl
theorem dX11_ask_0 : decode cX11_ask 0 = .ok (.aload_n 0, 1) := dk_42 (dk_at dksX11_ask_0 0 rfl rfl)
theorem dX11_ask_1 : decode cX11_ask 1 = .ok (.iconst 0, 1) := dk_3 (dk_at dksX11_ask_0 1 rfl rfl)
theorem dX11_ask_2 : decode cX11_ask 2 = .ok (.putfield 103, 3) := dk_181 0 103 (dk_at dksX11_ask_0 2 rfl rfl)
theorem dX11_ask_5 : decode cX11_ask 5 = .ok (.aload_n 0, 1) := dk_42 (dk_at dksX11_ask_0 5 rfl rfl)
theorem dX11_ask_6 : decode cX11_ask 6 = .ok (.iload_n 1, 1) := dk_27 (dk_at dksX11_ask_0 6 rfl rfl)
theorem dX11_ask_7 : decode cX11_ask 7 = .ok (.iconst 0, 1) := dk_3 (dk_at dksX11_ask_0 7 rfl rfl)
theorem dX11_ask_8 : decode cX11_ask 8 = .ok (.iconst 1, 1) := dk_4 (dk_at dksX11_ask_0 8 rfl rfl)
theorem dX11_ask_9 : decode cX11_ask 9 = .ok (.invokestatic 137, 3) := dk_184 0 137 (dk_at dksX11_ask_0 9 rfl rfl)
theorem dX11_ask_12 : decode cX11_ask 12 = .ok (.ifCond .ne 7, 3) := dk_154 0 7 (dk_at dksX11_ask_0 12 rfl rfl)
theorem dX11_ask_15 : decode cX11_ask 15 = .ok (.iconst 1, 1) := dk_4 (dk_at dksX11_ask_0 15 rfl rfl)
theorem dX11_ask_16 : decode cX11_ask 16 = .ok (.goto 4, 3) := dk_167 0 4 (dk_at dksX11_ask_0 16 rfl rfl)
theorem dX11_ask_19 : decode cX11_ask 19 = .ok (.iconst 0, 1) := dk_3 (dk_at dksX11_ask_0 19 rfl rfl)
theorem dX11_ask_20 : decode cX11_ask 20 = .ok (.iconst 1, 1) := dk_4 (dk_at dksX11_ask_0 20 rfl rfl)
theorem dX11_ask_21 : decode cX11_ask 21 = .ok (.iconst 1, 1) := dk_4 (dk_at dksX11_ask_0 21 rfl rfl)
theorem dX11_ask_22 : decode cX11_ask 22 = .ok (.invokevirtual 183, 3) := dk_182 0 183 (dk_at dksX11_ask_1 0 rfl rfl)
theorem dX11_ask_25 : decode cX11_ask 25 = .ok (.ifCond .eq 5, 3) := dk_153 0 5 (dk_at dksX11_ask_1 3 rfl rfl)
theorem dX11_ask_28 : decode cX11_ask 28 = .ok (.iconst 0, 1) := dk_3 (dk_at dksX11_ask_1 6 rfl rfl)
theorem dX11_ask_29 : decode cX11_ask 29 = .ok (.ireturn, 1) := dk_172 (dk_at dksX11_ask_1 7 rfl rfl)
theorem dX11_ask_30 : decode cX11_ask 30 = .ok (.iconst (-1), 1) := dk_2 (dk_at dksX11_ask_1 8 rfl rfl)
theorem dX11_ask_31 : decode cX11_ask 31 = .ok (.istore_n 2, 1) := dk_61 (dk_at dksX11_ask_1 9 rfl rfl)
theorem dX11_ask_32 : decode cX11_ask 32 = .ok (.iconst (-1), 1) := dk_2 (dk_at dksX11_ask_1 10 rfl rfl)
theorem dX11_ask_33 : decode cX11_ask 33 = .ok (.istore_n 3, 1) := dk_62 (dk_at dksX11_ask_1 11 rfl rfl)
theorem dX11_ask_34 : decode cX11_ask 34 = .ok (.iconst 0, 1) := dk_3 (dk_at dksX11_ask_1 12 rfl rfl)
theorem dX11_ask_35 : decode cX11_ask 35 = .ok (.istore 4, 2) := dk_54 4 (dk_at dksX11_ask_1 13 rfl rfl)
theorem dX11_ask_37 : decode cX11_ask 37 = .ok (.iload 4, 2) := dk_21 4 (dk_at dksX11_ask_1 15 rfl rfl)
theorem dX11_ask_39 : decode cX11_ask 39 = .ok (.aload_n 0, 1) := dk_42 (dk_at dksX11_ask_1 17 rfl rfl)
theorem dX11_ask_40 : decode cX11_ask 40 = .ok (.getfield 23, 3) := dk_180 0 23 (dk_at dksX11_ask_1 18 rfl rfl)
theorem dX11_ask_43 : decode cX11_ask 43 = .ok (.iconst 1, 1) := dk_4 (dk_at dksX11_ask_1 21 rfl rfl)
theorem dX11_ask_44 : decode cX11_ask 44 = .ok (.iaload, 1) := dk_46 (dk_at dksX11_ask_1 22 rfl rfl)
theorem dX11_ask_45 : decode cX11_ask 45 = .ok (.if_icmp .ge 141, 3) := dk_162 0 141 (dk_at dksX11_ask_2 0 rfl rfl)
theorem dX11_ask_48 : decode cX11_ask 48 = .ok (.aload_n 0, 1) := dk_42 (dk_at dksX11_ask_2 3 rfl rfl)
theorem dX11_ask_49 : decode cX11_ask 49 = .ok (.iload 4, 2) := dk_21 4 (dk_at dksX11_ask_2 4 rfl rfl)
theorem dX11_ask_51 : decode cX11_ask 51 = .ok (.invokevirtual 362, 3) := dk_182 1 106 (dk_at dksX11_ask_2 6 rfl rfl)
theorem dX11_ask_54 : decode cX11_ask 54 = .ok (.ifCond .eq 6, 3) := dk_153 0 6 (dk_at dksX11_ask_2 9 rfl rfl)
theorem dX11_ask_57 : decode cX11_ask 57 = .ok (.goto 123, 3) := dk_167 0 123 (dk_at dksX11_ask_2 12 rfl rfl)
theorem dX11_ask_60 : decode cX11_ask 60 = .ok (.iconst 0, 1) := dk_3 (dk_at dksX11_ask_2 15 rfl rfl)
theorem dX11_ask_61 : decode cX11_ask 61 = .ok (.istore 5, 2) := dk_54 5 (dk_at dksX11_ask_2 16 rfl rfl)
theorem dX11_ask_63 : decode cX11_ask 63 = .ok (.iconst 0, 1) := dk_3 (dk_at dksX11_ask_2 18 rfl rfl)
theorem dX11_ask_64 : decode cX11_ask 64 = .ok (.istore 6, 2) := dk_54 6 (dk_at dksX11_ask_2 19 rfl rfl)
theorem dX11_ask_66 : decode cX11_ask 66 = .ok (.iconst 0, 1) := dk_3 (dk_at dksX11_ask_2 21 rfl rfl)
theorem dX11_ask_67 : decode cX11_ask 67 = .ok (.istore 7, 2) := dk_54 7 (dk_at dksX11_ask_2 22 rfl rfl)
theorem dX11_ask_69 : decode cX11_ask 69 = .ok (.iload 7, 2) := dk_21 7 (dk_at dksX11_ask_3 0 rfl rfl)
theorem dX11_ask_71 : decode cX11_ask 71 = .ok (.iconst 1, 1) := dk_4 (dk_at dksX11_ask_3 2 rfl rfl)
theorem dX11_ask_72 : decode cX11_ask 72 = .ok (.aload_n 0, 1) := dk_42 (dk_at dksX11_ask_3 3 rfl rfl)
theorem dX11_ask_73 : decode cX11_ask 73 = .ok (.getfield 23, 3) := dk_180 0 23 (dk_at dksX11_ask_3 4 rfl rfl)
theorem dX11_ask_76 : decode cX11_ask 76 = .ok (.iconst 0, 1) := dk_3 (dk_at dksX11_ask_3 7 rfl rfl)
theorem dX11_ask_77 : decode cX11_ask 77 = .ok (.iaload, 1) := dk_46 (dk_at dksX11_ask_3 8 rfl rfl)
theorem dX11_ask_78 : decode cX11_ask 78 = .ok (.ishl, 1) := dk_120 (dk_at dksX11_ask_3 9 rfl rfl)
theorem dX11_ask_79 : decode cX11_ask 79 = .ok (.if_icmp .ge 47, 3) := dk_162 0 47 (dk_at dksX11_ask_3 10 rfl rfl)
theorem dX11_ask_82 : decode cX11_ask 82 = .ok (.aload_n 0, 1) := dk_42 (dk_at dksX11_ask_3 13 rfl rfl)
theorem dX11_ask_83 : decode cX11_ask 83 = .ok (.iload 7, 2) := dk_21 7 (dk_at dksX11_ask_3 14 rfl rfl)
theorem dX11_ask_85 : decode cX11_ask 85 = .ok (.invokevirtual 359, 3) := dk_182 1 103 (dk_at dksX11_ask_3 16 rfl rfl)
theorem dX11_ask_88 : decode cX11_ask 88 = .ok (.ifCond .ne 6, 3) := dk_154 0 6 (dk_at dksX11_ask_3 19 rfl rfl)
theorem dX11_ask_91 : decode cX11_ask 91 = .ok (.goto 29, 3) := dk_167 0 29 (dk_at dksX11_ask_4 0 rfl rfl)
theorem dX11_ask_94 : decode cX11_ask 94 = .ok (.iload 7, 2) := dk_21 7 (dk_at dksX11_ask_4 3 rfl rfl)
theorem dX11_ask_96 : decode cX11_ask 96 = .ok (.aload_n 0, 1) := dk_42 (dk_at dksX11_ask_4 5 rfl rfl)
theorem dX11_ask_97 : decode cX11_ask 97 = .ok (.getfield 43, 3) := dk_180 0 43 (dk_at dksX11_ask_4 6 rfl rfl)
theorem dX11_ask_100 : decode cX11_ask 100 = .ok (.iload 4, 2) := dk_21 4 (dk_at dksX11_ask_4 9 rfl rfl)
theorem dX11_ask_102 : decode cX11_ask 102 = .ok (.aaload, 1) := dk_50 (dk_at dksX11_ask_4 11 rfl rfl)
theorem dX11_ask_103 : decode cX11_ask 103 = .ok (.iconst 0, 1) := dk_3 (dk_at dksX11_ask_4 12 rfl rfl)
theorem dX11_ask_104 : decode cX11_ask 104 = .ok (.iaload, 1) := dk_46 (dk_at dksX11_ask_4 13 rfl rfl)
theorem dX11_ask_105 : decode cX11_ask 105 = .ok (.invokestatic 263, 3) := dk_184 1 7 (dk_at dksX11_ask_4 14 rfl rfl)
theorem dX11_ask_108 : decode cX11_ask 108 = .ok (.ifCond .eq 9, 3) := dk_153 0 9 (dk_at dksX11_ask_4 17 rfl rfl)
theorem dX11_ask_111 : decode cX11_ask 111 = .ok (.iinc 5 1, 3) := dk_132 5 1 (dk_at dksX11_ask_4 20 rfl rfl)
theorem dX11_ask_114 : decode cX11_ask 114 = .ok (.goto 6, 3) := dk_167 0 6 (dk_at dksX11_ask_5 0 rfl rfl)
theorem dX11_ask_117 : decode cX11_ask 117 = .ok (.iinc 6 1, 3) := dk_132 6 1 (dk_at dksX11_ask_5 3 rfl rfl)
theorem dX11_ask_120 : decode cX11_ask 120 = .ok (.iinc 7 1, 3) := dk_132 7 1 (dk_at dksX11_ask_5 6 rfl rfl)
theorem dX11_ask_123 : decode cX11_ask 123 = .ok (.goto (-54), 3) := dk_167 255 202 (dk_at dksX11_ask_5 9 rfl rfl)
theorem dX11_ask_126 : decode cX11_ask 126 = .ok (.aload_n 0, 1) := dk_42 (dk_at dksX11_ask_5 12 rfl rfl)
theorem dX11_ask_127 : decode cX11_ask 127 = .ok (.iload 4, 2) := dk_21 4 (dk_at dksX11_ask_5 13 rfl rfl)
theorem dX11_ask_129 : decode cX11_ask 129 = .ok (.iconst 1, 1) := dk_4 (dk_at dksX11_ask_5 15 rfl rfl)
theorem dX11_ask_130 : decode cX11_ask 130 = .ok (.invokevirtual 355, 3) := dk_182 1 99 (dk_at dksX11_ask_5 16 rfl rfl)
theorem dX11_ask_133 : decode cX11_ask 133 = .ok (.aload_n 0, 1) := dk_42 (dk_at dksX11_ask_5 19 rfl rfl)
theorem dX11_ask_134 : decode cX11_ask 134 = .ok (.iload 4, 2) := dk_21 4 (dk_at dksX11_ask_5 20 rfl rfl)
theorem dX11_ask_136 : decode cX11_ask 136 = .ok (.iconst 0, 1) := dk_3 (dk_at dksX11_ask_5 22 rfl rfl)
theorem dX11_ask_137 : decode cX11_ask 137 = .ok (.invokevirtual 355, 3) := dk_182 1 99 (dk_at dksX11_ask_6 0 rfl rfl)
theorem dX11_ask_140 : decode cX11_ask 140 = .ok (.if_icmp .ne 11, 3) := dk_160 0 11 (dk_at dksX11_ask_6 3 rfl rfl)
theorem dX11_ask_143 : decode cX11_ask 143 = .ok (.iload 5, 2) := dk_21 5 (dk_at dksX11_ask_6 6 rfl rfl)
theorem dX11_ask_145 : decode cX11_ask 145 = .ok (.iload 6, 2) := dk_21 6 (dk_at dksX11_ask_6 8 rfl rfl)
theorem dX11_ask_147 : decode cX11_ask 147 = .ok (.iadd, 1) := dk_96 (dk_at dksX11_ask_6 10 rfl rfl)
theorem dX11_ask_148 : decode cX11_ask 148 = .ok (.goto 10, 3) := dk_167 0 10 (dk_at dksX11_ask_6 11 rfl rfl)
theorem dX11_ask_151 : decode cX11_ask 151 = .ok (.iload 5, 2) := dk_21 5 (dk_at dksX11_ask_6 14 rfl rfl)
theorem dX11_ask_153 : decode cX11_ask 153 = .ok (.iload 6, 2) := dk_21 6 (dk_at dksX11_ask_6 16 rfl rfl)
theorem dX11_ask_155 : decode cX11_ask 155 = .ok (.invokestatic 248, 3) := dk_184 0 248 (dk_at dksX11_ask_6 18 rfl rfl)
theorem dX11_ask_158 : decode cX11_ask 158 = .ok (.istore 7, 2) := dk_54 7 (dk_at dksX11_ask_6 21 rfl rfl)
theorem dX11_ask_160 : decode cX11_ask 160 = .ok (.iload_n 2, 1) := dk_28 (dk_at dksX11_ask_6 23 rfl rfl)
theorem dX11_ask_161 : decode cX11_ask 161 = .ok (.iconst (-1), 1) := dk_2 (dk_at dksX11_ask_7 0 rfl rfl)
theorem dX11_ask_162 : decode cX11_ask 162 = .ok (.if_icmp .eq 12, 3) := dk_159 0 12 (dk_at dksX11_ask_7 1 rfl rfl)
theorem dX11_ask_165 : decode cX11_ask 165 = .ok (.iload 7, 2) := dk_21 7 (dk_at dksX11_ask_7 4 rfl rfl)
theorem dX11_ask_167 : decode cX11_ask 167 = .ok (.iload_n 3, 1) := dk_29 (dk_at dksX11_ask_7 6 rfl rfl)
theorem dX11_ask_168 : decode cX11_ask 168 = .ok (.if_icmp .lt 6, 3) := dk_161 0 6 (dk_at dksX11_ask_7 7 rfl rfl)
theorem dX11_ask_171 : decode cX11_ask 171 = .ok (.goto 9, 3) := dk_167 0 9 (dk_at dksX11_ask_7 10 rfl rfl)
theorem dX11_ask_174 : decode cX11_ask 174 = .ok (.iload 4, 2) := dk_21 4 (dk_at dksX11_ask_7 13 rfl rfl)
theorem dX11_ask_176 : decode cX11_ask 176 = .ok (.istore_n 2, 1) := dk_61 (dk_at dksX11_ask_7 15 rfl rfl)
theorem dX11_ask_177 : decode cX11_ask 177 = .ok (.iload 7, 2) := dk_21 7 (dk_at dksX11_ask_7 16 rfl rfl)
theorem dX11_ask_179 : decode cX11_ask 179 = .ok (.istore_n 3, 1) := dk_62 (dk_at dksX11_ask_7 18 rfl rfl)
theorem dX11_ask_180 : decode cX11_ask 180 = .ok (.iinc 4 1, 3) := dk_132 4 1 (dk_at dksX11_ask_7 19 rfl rfl)
theorem dX11_ask_183 : decode cX11_ask 183 = .ok (.goto (-146), 3) := dk_167 255 110 (dk_at dksX11_ask_8 0 rfl rfl)
theorem dX11_ask_186 : decode cX11_ask 186 = .ok (.iload_n 1, 1) := dk_27 (dk_at dksX11_ask_8 3 rfl rfl)
theorem dX11_ask_187 : decode cX11_ask 187 = .ok (.ifCond .ne 7, 3) := dk_154 0 7 (dk_at dksX11_ask_8 4 rfl rfl)
theorem dX11_ask_190 : decode cX11_ask 190 = .ok (.iload_n 2, 1) := dk_28 (dk_at dksX11_ask_8 7 rfl rfl)
theorem dX11_ask_191 : decode cX11_ask 191 = .ok (.goto 4, 3) := dk_167 0 4 (dk_at dksX11_ask_8 8 rfl rfl)
theorem dX11_ask_194 : decode cX11_ask 194 = .ok (.iload_n 3, 1) := dk_29 (dk_at dksX11_ask_8 11 rfl rfl)
theorem dX11_ask_195 : decode cX11_ask 195 = .ok (.ireturn, 1) := dk_172 (dk_at dksX11_ask_8 12 rfl rfl)
def dkwX11_isTold_1 : List UInt8 := [132, 2, 1, 167, 255, 231, 3, 172]
abbrev dktX11_isTold_1 : List UInt8 := dkwX11_isTold_1 ++ []
def dkwX11_isTold_0 : List UInt8 := [3, 61, 28, 42, 180, 0, 203, 162, 0, 23, 42, 180, 0, 58, 28, 50, 3, 46, 27, 160, 0, 5, 4, 172]
abbrev dktX11_isTold_0 : List UInt8 := dkwX11_isTold_0 ++ dktX11_isTold_1
theorem dksX11_isTold_0 : cX11_isTold.data.toList.drop 0 = dktX11_isTold_0 := by decide +kernel
theorem dksX11_isTold_1 : cX11_isTold.data.toList.drop 24 = dktX11_isTold_1 := dk_seg dksX11_isTold_0 24 rfl rfl
theorem dX11_isTold_0 : decode cX11_isTold 0 = .ok (.iconst 0, 1) := dk_3 (dk_at dksX11_isTold_0 0 rfl rfl)
theorem dX11_isTold_1 : decode cX11_isTold 1 = .ok (.istore_n 2, 1) := dk_61 (dk_at dksX11_isTold_0 1 rfl rfl)
theorem dX11_isTold_2 : decode cX11_isTold 2 = .ok (.iload_n 2, 1) := dk_28 (dk_at dksX11_isTold_0 2 rfl rfl)
theorem dX11_isTold_3 : decode cX11_isTold 3 = .ok (.aload_n 0, 1) := dk_42 (dk_at dksX11_isTold_0 3 rfl rfl)
theorem dX11_isTold_4 : decode cX11_isTold 4 = .ok (.getfield 203, 3) := dk_180 0 203 (dk_at dksX11_isTold_0 4 rfl rfl)
theorem dX11_isTold_7 : decode cX11_isTold 7 = .ok (.if_icmp .ge 23, 3) := dk_162 0 23 (dk_at dksX11_isTold_0 7 rfl rfl)
theorem dX11_isTold_10 : decode cX11_isTold 10 = .ok (.aload_n 0, 1) := dk_42 (dk_at dksX11_isTold_0 10 rfl rfl)
theorem dX11_isTold_11 : decode cX11_isTold 11 = .ok (.getfield 58, 3) := dk_180 0 58 (dk_at dksX11_isTold_0 11 rfl rfl)
theorem dX11_isTold_14 : decode cX11_isTold 14 = .ok (.iload_n 2, 1) := dk_28 (dk_at dksX11_isTold_0 14 rfl rfl)
theorem dX11_isTold_15 : decode cX11_isTold 15 = .ok (.aaload, 1) := dk_50 (dk_at dksX11_isTold_0 15 rfl rfl)
theorem dX11_isTold_16 : decode cX11_isTold 16 = .ok (.iconst 0, 1) := dk_3 (dk_at dksX11_isTold_0 16 rfl rfl)
theorem dX11_isTold_17 : decode cX11_isTold 17 = .ok (.iaload, 1) := dk_46 (dk_at dksX11_isTold_0 17 rfl rfl)
theorem dX11_isTold_18 : decode cX11_isTold 18 = .ok (.iload_n 1, 1) := dk_27 (dk_at dksX11_isTold_0 18 rfl rfl)
theorem dX11_isTold_19 : decode cX11_isTold 19 = .ok (.if_icmp .ne 5, 3) := dk_160 0 5 (dk_at dksX11_isTold_0 19 rfl rfl)
theorem dX11_isTold_22 : decode cX11_isTold 22 = .ok (.iconst 1, 1) := dk_4 (dk_at dksX11_isTold_0 22 rfl rfl)
theorem dX11_isTold_23 : decode cX11_isTold 23 = .ok (.ireturn, 1) := dk_172 (dk_at dksX11_isTold_0 23 rfl rfl)
theorem dX11_isTold_24 : decode cX11_isTold 24 = .ok (.iinc 2 1, 3) := dk_132 2 1 (dk_at dksX11_isTold_1 0 rfl rfl)
theorem dX11_isTold_27 : decode cX11_isTold 27 = .ok (.goto (-25), 3) := dk_167 255 231 (dk_at dksX11_isTold_1 3 rfl rfl)
theorem dX11_isTold_30 : decode cX11_isTold 30 = .ok (.iconst 0, 1) := dk_3 (dk_at dksX11_isTold_1 6 rfl rfl)
theorem dX11_isTold_31 : decode cX11_isTold 31 = .ok (.ireturn, 1) := dk_172 (dk_at dksX11_isTold_1 7 rfl rfl)
def dkwX11_best_5 : List UInt8 := [121, 29, 184, 1, 113, 173]
abbrev dktX11_best_5 : List UInt8 := dkwX11_best_5 ++ []
def dkwX11_best_4 : List UInt8 := [42, 180, 0, 43, 27, 50, 3, 46, 96, 46, 42, 180, 0, 73, 16, 44, 46, 182, 1, 109, 10, 7, 28, 104]
abbrev dktX11_best_4 : List UInt8 := dkwX11_best_4 ++ dktX11_best_5
def dkwX11_best_3 : List UInt8 := [154, 0, 6, 29, 133, 173, 42, 27, 28, 42, 180, 0, 73, 16, 16, 27, 96, 46, 42, 180, 0, 73, 16, 8]
abbrev dktX11_best_3 : List UInt8 := dkwX11_best_3 ++ dktX11_best_4
def dkwX11_best_2 : List UInt8 := [167, 0, 4, 3, 5, 4, 182, 0, 183, 153, 0, 5, 9, 173, 42, 180, 0, 73, 27, 184, 1, 11]
abbrev dktX11_best_2 : List UInt8 := dkwX11_best_2 ++ dktX11_best_3
def dkwX11_best_1 : List UInt8 := [154, 0, 36, 42, 28, 3, 16, 6, 184, 0, 137, 153, 0, 12, 29, 3, 4, 184, 0, 137, 154, 0, 7, 4]
abbrev dktX11_best_1 : List UInt8 := dkwX11_best_1 ++ dktX11_best_2
def dkwX11_best_0 : List UInt8 := [42, 3, 181, 0, 103, 42, 42, 27, 182, 1, 83, 154, 0, 7, 4, 167, 0, 4, 3, 4, 3, 182, 0, 183]
abbrev dktX11_best_0 : List UInt8 := dkwX11_best_0 ++ dktX11_best_1
theorem dksX11_best_0 : cX11_best.data.toList.drop 0 = dktX11_best_0 := by decide +kernel
theorem dksX11_best_1 : cX11_best.data.toList.drop 24 = dktX11_best_1 := dk_seg dksX11_best_0 24 rfl rfl
theorem dksX11_best_2 : cX11_best.data.toList.drop 48 = dktX11_best_2 := dk_seg dksX11_best_1 24 rfl rfl
theorem dksX11_best_3 : cX11_best.data.toList.drop 70 = dktX11_best_3 := dk_seg dksX11_best_2 22 rfl rfl
theorem dksX11_best_4 : cX11_best.data.toList.drop 94 = dktX11_best_4 := dk_seg dksX11_best_3 24 rfl rfl
theorem dksX11_best_5 : cX11_best.data.toList.drop 118 = dktX11_best_5 := dk_seg dksX11_best_4 24 rfl rfl
theorem dX11_best_0 : decode cX11_best 0 = .ok (.aload_n 0, 1) := dk_42 (dk_at dksX11_best_0 0 rfl rfl)
theorem dX11_best_1 : decode cX11_best 1 = .ok (.iconst 0, 1) := dk_3 (dk_at dksX11_best_0 1 rfl rfl)
theorem dX11_best_2 : decode cX11_best 2 = .ok (.putfield 103, 3) := dk_181 0 103 (dk_at dksX11_best_0 2 rfl rfl)
theorem dX11_best_5 : decode cX11_best 5 = .ok (.aload_n 0, 1) := dk_42 (dk_at dksX11_best_0 5 rfl rfl)
theorem dX11_best_6 : decode cX11_best 6 = .ok (.aload_n 0, 1) := dk_42 (dk_at dksX11_best_0 6 rfl rfl)
theorem dX11_best_7 : decode cX11_best 7 = .ok (.iload_n 1, 1) := dk_27 (dk_at dksX11_best_0 7 rfl rfl)
theorem dX11_best_8 : decode cX11_best 8 = .ok (.invokevirtual 339, 3) := dk_182 1 83 (dk_at dksX11_best_0 8 rfl rfl)
theorem dX11_best_11 : decode cX11_best 11 = .ok (.ifCond .ne 7, 3) := dk_154 0 7 (dk_at dksX11_best_0 11 rfl rfl)
theorem dX11_best_14 : decode cX11_best 14 = .ok (.iconst 1, 1) := dk_4 (dk_at dksX11_best_0 14 rfl rfl)
theorem dX11_best_15 : decode cX11_best 15 = .ok (.goto 4, 3) := dk_167 0 4 (dk_at dksX11_best_0 15 rfl rfl)
theorem dX11_best_18 : decode cX11_best 18 = .ok (.iconst 0, 1) := dk_3 (dk_at dksX11_best_0 18 rfl rfl)
theorem dX11_best_19 : decode cX11_best 19 = .ok (.iconst 1, 1) := dk_4 (dk_at dksX11_best_0 19 rfl rfl)
theorem dX11_best_20 : decode cX11_best 20 = .ok (.iconst 0, 1) := dk_3 (dk_at dksX11_best_0 20 rfl rfl)
theorem dX11_best_21 : decode cX11_best 21 = .ok (.invokevirtual 183, 3) := dk_182 0 183 (dk_at dksX11_best_0 21 rfl rfl)
theorem dX11_best_24 : decode cX11_best 24 = .ok (.ifCond .ne 36, 3) := dk_154 0 36 (dk_at dksX11_best_1 0 rfl rfl)
theorem dX11_best_27 : decode cX11_best 27 = .ok (.aload_n 0, 1) := dk_42 (dk_at dksX11_best_1 3 rfl rfl)
theorem dX11_best_28 : decode cX11_best 28 = .ok (.iload_n 2, 1) := dk_28 (dk_at dksX11_best_1 4 rfl rfl)
theorem dX11_best_29 : decode cX11_best 29 = .ok (.iconst 0, 1) := dk_3 (dk_at dksX11_best_1 5 rfl rfl)
theorem dX11_best_30 : decode cX11_best 30 = .ok (.bipush 6, 2) := dk_16 6 (dk_at dksX11_best_1 6 rfl rfl)
theorem dX11_best_32 : decode cX11_best 32 = .ok (.invokestatic 137, 3) := dk_184 0 137 (dk_at dksX11_best_1 8 rfl rfl)
theorem dX11_best_35 : decode cX11_best 35 = .ok (.ifCond .eq 12, 3) := dk_153 0 12 (dk_at dksX11_best_1 11 rfl rfl)
theorem dX11_best_38 : decode cX11_best 38 = .ok (.iload_n 3, 1) := dk_29 (dk_at dksX11_best_1 14 rfl rfl)
theorem dX11_best_39 : decode cX11_best 39 = .ok (.iconst 0, 1) := dk_3 (dk_at dksX11_best_1 15 rfl rfl)
theorem dX11_best_40 : decode cX11_best 40 = .ok (.iconst 1, 1) := dk_4 (dk_at dksX11_best_1 16 rfl rfl)
theorem dX11_best_41 : decode cX11_best 41 = .ok (.invokestatic 137, 3) := dk_184 0 137 (dk_at dksX11_best_1 17 rfl rfl)
theorem dX11_best_44 : decode cX11_best 44 = .ok (.ifCond .ne 7, 3) := dk_154 0 7 (dk_at dksX11_best_1 20 rfl rfl)
theorem dX11_best_47 : decode cX11_best 47 = .ok (.iconst 1, 1) := dk_4 (dk_at dksX11_best_1 23 rfl rfl)
theorem dX11_best_48 : decode cX11_best 48 = .ok (.goto 4, 3) := dk_167 0 4 (dk_at dksX11_best_2 0 rfl rfl)
theorem dX11_best_51 : decode cX11_best 51 = .ok (.iconst 0, 1) := dk_3 (dk_at dksX11_best_2 3 rfl rfl)
theorem dX11_best_52 : decode cX11_best 52 = .ok (.iconst 2, 1) := dk_5 (dk_at dksX11_best_2 4 rfl rfl)
theorem dX11_best_53 : decode cX11_best 53 = .ok (.iconst 1, 1) := dk_4 (dk_at dksX11_best_2 5 rfl rfl)
theorem dX11_best_54 : decode cX11_best 54 = .ok (.invokevirtual 183, 3) := dk_182 0 183 (dk_at dksX11_best_2 6 rfl rfl)
theorem dX11_best_57 : decode cX11_best 57 = .ok (.ifCond .eq 5, 3) := dk_153 0 5 (dk_at dksX11_best_2 9 rfl rfl)
theorem dX11_best_60 : decode cX11_best 60 = .ok (.lconst 0, 1) := dk_9 (dk_at dksX11_best_2 12 rfl rfl)
theorem dX11_best_61 : decode cX11_best 61 = .ok (.lreturn, 1) := dk_173 (dk_at dksX11_best_2 13 rfl rfl)
theorem dX11_best_62 : decode cX11_best 62 = .ok (.aload_n 0, 1) := dk_42 (dk_at dksX11_best_2 14 rfl rfl)
theorem dX11_best_63 : decode cX11_best 63 = .ok (.getfield 73, 3) := dk_180 0 73 (dk_at dksX11_best_2 15 rfl rfl)
theorem dX11_best_66 : decode cX11_best 66 = .ok (.iload_n 1, 1) := dk_27 (dk_at dksX11_best_2 18 rfl rfl)
theorem dX11_best_67 : decode cX11_best 67 = .ok (.invokestatic 267, 3) := dk_184 1 11 (dk_at dksX11_best_2 19 rfl rfl)
theorem dX11_best_70 : decode cX11_best 70 = .ok (.ifCond .ne 6, 3) := dk_154 0 6 (dk_at dksX11_best_3 0 rfl rfl)
theorem dX11_best_73 : decode cX11_best 73 = .ok (.iload_n 3, 1) := dk_29 (dk_at dksX11_best_3 3 rfl rfl)
theorem dX11_best_74 : decode cX11_best 74 = .ok (.i2l, 1) := dk_133 (dk_at dksX11_best_3 4 rfl rfl)
theorem dX11_best_75 : decode cX11_best 75 = .ok (.lreturn, 1) := dk_173 (dk_at dksX11_best_3 5 rfl rfl)
theorem dX11_best_76 : decode cX11_best 76 = .ok (.aload_n 0, 1) := dk_42 (dk_at dksX11_best_3 6 rfl rfl)
theorem dX11_best_77 : decode cX11_best 77 = .ok (.iload_n 1, 1) := dk_27 (dk_at dksX11_best_3 7 rfl rfl)
theorem dX11_best_78 : decode cX11_best 78 = .ok (.iload_n 2, 1) := dk_28 (dk_at dksX11_best_3 8 rfl rfl)
theorem dX11_best_79 : decode cX11_best 79 = .ok (.aload_n 0, 1) := dk_42 (dk_at dksX11_best_3 9 rfl rfl)
theorem dX11_best_80 : decode cX11_best 80 = .ok (.getfield 73, 3) := dk_180 0 73 (dk_at dksX11_best_3 10 rfl rfl)
theorem dX11_best_83 : decode cX11_best 83 = .ok (.bipush 16, 2) := dk_16 16 (dk_at dksX11_best_3 13 rfl rfl)
theorem dX11_best_85 : decode cX11_best 85 = .ok (.iload_n 1, 1) := dk_27 (dk_at dksX11_best_3 15 rfl rfl)
theorem dX11_best_86 : decode cX11_best 86 = .ok (.iadd, 1) := dk_96 (dk_at dksX11_best_3 16 rfl rfl)
theorem dX11_best_87 : decode cX11_best 87 = .ok (.iaload, 1) := dk_46 (dk_at dksX11_best_3 17 rfl rfl)
theorem dX11_best_88 : decode cX11_best 88 = .ok (.aload_n 0, 1) := dk_42 (dk_at dksX11_best_3 18 rfl rfl)
theorem dX11_best_89 : decode cX11_best 89 = .ok (.getfield 73, 3) := dk_180 0 73 (dk_at dksX11_best_3 19 rfl rfl)
theorem dX11_best_92 : decode cX11_best 92 = .ok (.bipush 8, 2) := dk_16 8 (dk_at dksX11_best_3 22 rfl rfl)
theorem dX11_best_94 : decode cX11_best 94 = .ok (.aload_n 0, 1) := dk_42 (dk_at dksX11_best_4 0 rfl rfl)
theorem dX11_best_95 : decode cX11_best 95 = .ok (.getfield 43, 3) := dk_180 0 43 (dk_at dksX11_best_4 1 rfl rfl)
theorem dX11_best_98 : decode cX11_best 98 = .ok (.iload_n 1, 1) := dk_27 (dk_at dksX11_best_4 4 rfl rfl)
theorem dX11_best_99 : decode cX11_best 99 = .ok (.aaload, 1) := dk_50 (dk_at dksX11_best_4 5 rfl rfl)
theorem dX11_best_100 : decode cX11_best 100 = .ok (.iconst 0, 1) := dk_3 (dk_at dksX11_best_4 6 rfl rfl)
theorem dX11_best_101 : decode cX11_best 101 = .ok (.iaload, 1) := dk_46 (dk_at dksX11_best_4 7 rfl rfl)
theorem dX11_best_102 : decode cX11_best 102 = .ok (.iadd, 1) := dk_96 (dk_at dksX11_best_4 8 rfl rfl)
theorem dX11_best_103 : decode cX11_best 103 = .ok (.iaload, 1) := dk_46 (dk_at dksX11_best_4 9 rfl rfl)
theorem dX11_best_104 : decode cX11_best 104 = .ok (.aload_n 0, 1) := dk_42 (dk_at dksX11_best_4 10 rfl rfl)
theorem dX11_best_105 : decode cX11_best 105 = .ok (.getfield 73, 3) := dk_180 0 73 (dk_at dksX11_best_4 11 rfl rfl)
theorem dX11_best_108 : decode cX11_best 108 = .ok (.bipush 44, 2) := dk_16 44 (dk_at dksX11_best_4 14 rfl rfl)
theorem dX11_best_110 : decode cX11_best 110 = .ok (.iaload, 1) := dk_46 (dk_at dksX11_best_4 16 rfl rfl)
theorem dX11_best_111 : decode cX11_best 111 = .ok (.invokevirtual 365, 3) := dk_182 1 109 (dk_at dksX11_best_4 17 rfl rfl)
theorem dX11_best_114 : decode cX11_best 114 = .ok (.lconst 1, 1) := dk_10 (dk_at dksX11_best_4 20 rfl rfl)
theorem dX11_best_115 : decode cX11_best 115 = .ok (.iconst 4, 1) := dk_7 (dk_at dksX11_best_4 21 rfl rfl)
theorem dX11_best_116 : decode cX11_best 116 = .ok (.iload_n 2, 1) := dk_28 (dk_at dksX11_best_4 22 rfl rfl)
theorem dX11_best_117 : decode cX11_best 117 = .ok (.imul, 1) := dk_104 (dk_at dksX11_best_4 23 rfl rfl)
theorem dX11_best_118 : decode cX11_best 118 = .ok (.lshl, 1) := dk_121 (dk_at dksX11_best_5 0 rfl rfl)
theorem dX11_best_119 : decode cX11_best 119 = .ok (.iload_n 3, 1) := dk_29 (dk_at dksX11_best_5 1 rfl rfl)
theorem dX11_best_120 : decode cX11_best 120 = .ok (.invokestatic 369, 3) := dk_184 1 113 (dk_at dksX11_best_5 2 rfl rfl)
theorem dX11_best_123 : decode cX11_best 123 = .ok (.lreturn, 1) := dk_173 (dk_at dksX11_best_5 5 rfl rfl)
def dkwX11_goesBest_4 : List UInt8 := [55, 9, 22, 6, 22, 9, 148, 158, 0, 8, 22, 6, 167, 0, 5, 22, 9, 173]
abbrev dktX11_goesBest_4 : List UInt8 := dkwX11_goesBest_4 ++ []
def dkwX11_goesBest_3 : List UInt8 := [21, 8, 100, 133, 42, 27, 28, 4, 100, 29, 4, 96, 21, 4, 21, 5, 4, 96, 182, 1, 109, 105, 97]
abbrev dktX11_goesBest_3 : List UInt8 := dkwX11_goesBest_3 ++ dktX11_goesBest_4
def dkwX11_goesBest_2 : List UInt8 := [42, 27, 28, 4, 100, 29, 5, 108, 4, 96, 21, 4, 4, 96, 21, 5, 4, 96, 182, 1, 109, 105, 16, 16]
abbrev dktX11_goesBest_2 : List UInt8 := dkwX11_goesBest_2 ++ dktX11_goesBest_3
def dkwX11_goesBest_1 : List UInt8 := [154, 0, 6, 22, 6, 173, 42, 180, 0, 29, 42, 180, 0, 43, 27, 50, 3, 46, 46, 54, 8, 21, 8, 133]
abbrev dktX11_goesBest_1 : List UInt8 := dkwX11_goesBest_1 ++ dktX11_goesBest_2
def dkwX11_goesBest_0 : List UInt8 := [42, 42, 180, 0, 73, 27, 29, 21, 4, 21, 5, 182, 1, 29, 133, 7, 28, 104, 121, 55, 6, 28]
abbrev dktX11_goesBest_0 : List UInt8 := dkwX11_goesBest_0 ++ dktX11_goesBest_1
theorem dksX11_goesBest_0 : cX11_goesBest.data.toList.drop 0 = dktX11_goesBest_0 := by decide +kernel
theorem dksX11_goesBest_1 : cX11_goesBest.data.toList.drop 22 = dktX11_goesBest_1 := dk_seg dksX11_goesBest_0 22 rfl rfl
theorem dksX11_goesBest_2 : cX11_goesBest.data.toList.drop 46 = dktX11_goesBest_2 := dk_seg dksX11_goesBest_1 24 rfl rfl
theorem dksX11_goesBest_3 : cX11_goesBest.data.toList.drop 70 = dktX11_goesBest_3 := dk_seg dksX11_goesBest_2 24 rfl rfl
theorem dksX11_goesBest_4 : cX11_goesBest.data.toList.drop 93 = dktX11_goesBest_4 := dk_seg dksX11_goesBest_3 23 rfl rfl
theorem dX11_goesBest_0 : decode cX11_goesBest 0 = .ok (.aload_n 0, 1) := dk_42 (dk_at dksX11_goesBest_0 0 rfl rfl)
theorem dX11_goesBest_1 : decode cX11_goesBest 1 = .ok (.aload_n 0, 1) := dk_42 (dk_at dksX11_goesBest_0 1 rfl rfl)
theorem dX11_goesBest_2 : decode cX11_goesBest 2 = .ok (.getfield 73, 3) := dk_180 0 73 (dk_at dksX11_goesBest_0 2 rfl rfl)
theorem dX11_goesBest_5 : decode cX11_goesBest 5 = .ok (.iload_n 1, 1) := dk_27 (dk_at dksX11_goesBest_0 5 rfl rfl)
theorem dX11_goesBest_6 : decode cX11_goesBest 6 = .ok (.iload_n 3, 1) := dk_29 (dk_at dksX11_goesBest_0 6 rfl rfl)
theorem dX11_goesBest_7 : decode cX11_goesBest 7 = .ok (.iload 4, 2) := dk_21 4 (dk_at dksX11_goesBest_0 7 rfl rfl)
theorem dX11_goesBest_9 : decode cX11_goesBest 9 = .ok (.iload 5, 2) := dk_21 5 (dk_at dksX11_goesBest_0 9 rfl rfl)
theorem dX11_goesBest_11 : decode cX11_goesBest 11 = .ok (.invokevirtual 285, 3) := dk_182 1 29 (dk_at dksX11_goesBest_0 11 rfl rfl)
theorem dX11_goesBest_14 : decode cX11_goesBest 14 = .ok (.i2l, 1) := dk_133 (dk_at dksX11_goesBest_0 14 rfl rfl)
theorem dX11_goesBest_15 : decode cX11_goesBest 15 = .ok (.iconst 4, 1) := dk_7 (dk_at dksX11_goesBest_0 15 rfl rfl)
theorem dX11_goesBest_16 : decode cX11_goesBest 16 = .ok (.iload_n 2, 1) := dk_28 (dk_at dksX11_goesBest_0 16 rfl rfl)
theorem dX11_goesBest_17 : decode cX11_goesBest 17 = .ok (.imul, 1) := dk_104 (dk_at dksX11_goesBest_0 17 rfl rfl)
theorem dX11_goesBest_18 : decode cX11_goesBest 18 = .ok (.lshl, 1) := dk_121 (dk_at dksX11_goesBest_0 18 rfl rfl)
theorem dX11_goesBest_19 : decode cX11_goesBest 19 = .ok (.lstore 6, 2) := dk_55 6 (dk_at dksX11_goesBest_0 19 rfl rfl)
theorem dX11_goesBest_21 : decode cX11_goesBest 21 = .ok (.iload_n 2, 1) := dk_28 (dk_at dksX11_goesBest_0 21 rfl rfl)
theorem dX11_goesBest_22 : decode cX11_goesBest 22 = .ok (.ifCond .ne 6, 3) := dk_154 0 6 (dk_at dksX11_goesBest_1 0 rfl rfl)
theorem dX11_goesBest_25 : decode cX11_goesBest 25 = .ok (.lload 6, 2) := dk_22 6 (dk_at dksX11_goesBest_1 3 rfl rfl)
theorem dX11_goesBest_27 : decode cX11_goesBest 27 = .ok (.lreturn, 1) := dk_173 (dk_at dksX11_goesBest_1 5 rfl rfl)
theorem dX11_goesBest_28 : decode cX11_goesBest 28 = .ok (.aload_n 0, 1) := dk_42 (dk_at dksX11_goesBest_1 6 rfl rfl)
theorem dX11_goesBest_29 : decode cX11_goesBest 29 = .ok (.getfield 29, 3) := dk_180 0 29 (dk_at dksX11_goesBest_1 7 rfl rfl)
theorem dX11_goesBest_32 : decode cX11_goesBest 32 = .ok (.aload_n 0, 1) := dk_42 (dk_at dksX11_goesBest_1 10 rfl rfl)
theorem dX11_goesBest_33 : decode cX11_goesBest 33 = .ok (.getfield 43, 3) := dk_180 0 43 (dk_at dksX11_goesBest_1 11 rfl rfl)
theorem dX11_goesBest_36 : decode cX11_goesBest 36 = .ok (.iload_n 1, 1) := dk_27 (dk_at dksX11_goesBest_1 14 rfl rfl)
theorem dX11_goesBest_37 : decode cX11_goesBest 37 = .ok (.aaload, 1) := dk_50 (dk_at dksX11_goesBest_1 15 rfl rfl)
theorem dX11_goesBest_38 : decode cX11_goesBest 38 = .ok (.iconst 0, 1) := dk_3 (dk_at dksX11_goesBest_1 16 rfl rfl)
theorem dX11_goesBest_39 : decode cX11_goesBest 39 = .ok (.iaload, 1) := dk_46 (dk_at dksX11_goesBest_1 17 rfl rfl)
theorem dX11_goesBest_40 : decode cX11_goesBest 40 = .ok (.iaload, 1) := dk_46 (dk_at dksX11_goesBest_1 18 rfl rfl)
theorem dX11_goesBest_41 : decode cX11_goesBest 41 = .ok (.istore 8, 2) := dk_54 8 (dk_at dksX11_goesBest_1 19 rfl rfl)
theorem dX11_goesBest_43 : decode cX11_goesBest 43 = .ok (.iload 8, 2) := dk_21 8 (dk_at dksX11_goesBest_1 21 rfl rfl)
theorem dX11_goesBest_45 : decode cX11_goesBest 45 = .ok (.i2l, 1) := dk_133 (dk_at dksX11_goesBest_1 23 rfl rfl)
theorem dX11_goesBest_46 : decode cX11_goesBest 46 = .ok (.aload_n 0, 1) := dk_42 (dk_at dksX11_goesBest_2 0 rfl rfl)
theorem dX11_goesBest_47 : decode cX11_goesBest 47 = .ok (.iload_n 1, 1) := dk_27 (dk_at dksX11_goesBest_2 1 rfl rfl)
theorem dX11_goesBest_48 : decode cX11_goesBest 48 = .ok (.iload_n 2, 1) := dk_28 (dk_at dksX11_goesBest_2 2 rfl rfl)
theorem dX11_goesBest_49 : decode cX11_goesBest 49 = .ok (.iconst 1, 1) := dk_4 (dk_at dksX11_goesBest_2 3 rfl rfl)
theorem dX11_goesBest_50 : decode cX11_goesBest 50 = .ok (.isub, 1) := dk_100 (dk_at dksX11_goesBest_2 4 rfl rfl)
theorem dX11_goesBest_51 : decode cX11_goesBest 51 = .ok (.iload_n 3, 1) := dk_29 (dk_at dksX11_goesBest_2 5 rfl rfl)
theorem dX11_goesBest_52 : decode cX11_goesBest 52 = .ok (.iconst 2, 1) := dk_5 (dk_at dksX11_goesBest_2 6 rfl rfl)
theorem dX11_goesBest_53 : decode cX11_goesBest 53 = .ok (.idiv, 1) := dk_108 (dk_at dksX11_goesBest_2 7 rfl rfl)
theorem dX11_goesBest_54 : decode cX11_goesBest 54 = .ok (.iconst 1, 1) := dk_4 (dk_at dksX11_goesBest_2 8 rfl rfl)
theorem dX11_goesBest_55 : decode cX11_goesBest 55 = .ok (.iadd, 1) := dk_96 (dk_at dksX11_goesBest_2 9 rfl rfl)
theorem dX11_goesBest_56 : decode cX11_goesBest 56 = .ok (.iload 4, 2) := dk_21 4 (dk_at dksX11_goesBest_2 10 rfl rfl)
theorem dX11_goesBest_58 : decode cX11_goesBest 58 = .ok (.iconst 1, 1) := dk_4 (dk_at dksX11_goesBest_2 12 rfl rfl)
theorem dX11_goesBest_59 : decode cX11_goesBest 59 = .ok (.iadd, 1) := dk_96 (dk_at dksX11_goesBest_2 13 rfl rfl)
theorem dX11_goesBest_60 : decode cX11_goesBest 60 = .ok (.iload 5, 2) := dk_21 5 (dk_at dksX11_goesBest_2 14 rfl rfl)
theorem dX11_goesBest_62 : decode cX11_goesBest 62 = .ok (.iconst 1, 1) := dk_4 (dk_at dksX11_goesBest_2 16 rfl rfl)
theorem dX11_goesBest_63 : decode cX11_goesBest 63 = .ok (.iadd, 1) := dk_96 (dk_at dksX11_goesBest_2 17 rfl rfl)
theorem dX11_goesBest_64 : decode cX11_goesBest 64 = .ok (.invokevirtual 365, 3) := dk_182 1 109 (dk_at dksX11_goesBest_2 18 rfl rfl)
theorem dX11_goesBest_67 : decode cX11_goesBest 67 = .ok (.lmul, 1) := dk_105 (dk_at dksX11_goesBest_2 21 rfl rfl)
theorem dX11_goesBest_68 : decode cX11_goesBest 68 = .ok (.bipush 16, 2) := dk_16 16 (dk_at dksX11_goesBest_2 22 rfl rfl)
theorem dX11_goesBest_70 : decode cX11_goesBest 70 = .ok (.iload 8, 2) := dk_21 8 (dk_at dksX11_goesBest_3 0 rfl rfl)
theorem dX11_goesBest_72 : decode cX11_goesBest 72 = .ok (.isub, 1) := dk_100 (dk_at dksX11_goesBest_3 2 rfl rfl)
theorem dX11_goesBest_73 : decode cX11_goesBest 73 = .ok (.i2l, 1) := dk_133 (dk_at dksX11_goesBest_3 3 rfl rfl)
theorem dX11_goesBest_74 : decode cX11_goesBest 74 = .ok (.aload_n 0, 1) := dk_42 (dk_at dksX11_goesBest_3 4 rfl rfl)
theorem dX11_goesBest_75 : decode cX11_goesBest 75 = .ok (.iload_n 1, 1) := dk_27 (dk_at dksX11_goesBest_3 5 rfl rfl)
theorem dX11_goesBest_76 : decode cX11_goesBest 76 = .ok (.iload_n 2, 1) := dk_28 (dk_at dksX11_goesBest_3 6 rfl rfl)
theorem dX11_goesBest_77 : decode cX11_goesBest 77 = .ok (.iconst 1, 1) := dk_4 (dk_at dksX11_goesBest_3 7 rfl rfl)
theorem dX11_goesBest_78 : decode cX11_goesBest 78 = .ok (.isub, 1) := dk_100 (dk_at dksX11_goesBest_3 8 rfl rfl)
theorem dX11_goesBest_79 : decode cX11_goesBest 79 = .ok (.iload_n 3, 1) := dk_29 (dk_at dksX11_goesBest_3 9 rfl rfl)
theorem dX11_goesBest_80 : decode cX11_goesBest 80 = .ok (.iconst 1, 1) := dk_4 (dk_at dksX11_goesBest_3 10 rfl rfl)
theorem dX11_goesBest_81 : decode cX11_goesBest 81 = .ok (.iadd, 1) := dk_96 (dk_at dksX11_goesBest_3 11 rfl rfl)
theorem dX11_goesBest_82 : decode cX11_goesBest 82 = .ok (.iload 4, 2) := dk_21 4 (dk_at dksX11_goesBest_3 12 rfl rfl)
theorem dX11_goesBest_84 : decode cX11_goesBest 84 = .ok (.iload 5, 2) := dk_21 5 (dk_at dksX11_goesBest_3 14 rfl rfl)
theorem dX11_goesBest_86 : decode cX11_goesBest 86 = .ok (.iconst 1, 1) := dk_4 (dk_at dksX11_goesBest_3 16 rfl rfl)
theorem dX11_goesBest_87 : decode cX11_goesBest 87 = .ok (.iadd, 1) := dk_96 (dk_at dksX11_goesBest_3 17 rfl rfl)
theorem dX11_goesBest_88 : decode cX11_goesBest 88 = .ok (.invokevirtual 365, 3) := dk_182 1 109 (dk_at dksX11_goesBest_3 18 rfl rfl)
theorem dX11_goesBest_91 : decode cX11_goesBest 91 = .ok (.lmul, 1) := dk_105 (dk_at dksX11_goesBest_3 21 rfl rfl)
theorem dX11_goesBest_92 : decode cX11_goesBest 92 = .ok (.ladd, 1) := dk_97 (dk_at dksX11_goesBest_3 22 rfl rfl)
theorem dX11_goesBest_93 : decode cX11_goesBest 93 = .ok (.lstore 9, 2) := dk_55 9 (dk_at dksX11_goesBest_4 0 rfl rfl)
theorem dX11_goesBest_95 : decode cX11_goesBest 95 = .ok (.lload 6, 2) := dk_22 6 (dk_at dksX11_goesBest_4 2 rfl rfl)
theorem dX11_goesBest_97 : decode cX11_goesBest 97 = .ok (.lload 9, 2) := dk_22 9 (dk_at dksX11_goesBest_4 4 rfl rfl)
theorem dX11_goesBest_99 : decode cX11_goesBest 99 = .ok (.lcmp, 1) := dk_148 (dk_at dksX11_goesBest_4 6 rfl rfl)
theorem dX11_goesBest_100 : decode cX11_goesBest 100 = .ok (.ifCond .le 8, 3) := dk_158 0 8 (dk_at dksX11_goesBest_4 7 rfl rfl)
theorem dX11_goesBest_103 : decode cX11_goesBest 103 = .ok (.lload 6, 2) := dk_22 6 (dk_at dksX11_goesBest_4 10 rfl rfl)
theorem dX11_goesBest_105 : decode cX11_goesBest 105 = .ok (.goto 5, 3) := dk_167 0 5 (dk_at dksX11_goesBest_4 12 rfl rfl)
theorem dX11_goesBest_108 : decode cX11_goesBest 108 = .ok (.lload 9, 2) := dk_22 9 (dk_at dksX11_goesBest_4 15 rfl rfl)
theorem dX11_goesBest_110 : decode cX11_goesBest 110 = .ok (.lreturn, 1) := dk_173 (dk_at dksX11_goesBest_4 17 rfl rfl)
def dkwX11_partOf_1 : List UInt8 := [22, 9, 55, 7, 167, 255, 234, 21, 4, 154, 0, 10, 30, 22, 5, 109, 167, 0, 7, 32, 22, 5, 109, 173]
abbrev dktX11_partOf_1 : List UInt8 := dkwX11_partOf_1 ++ []
def dkwX11_partOf_0 : List UInt8 := [32, 55, 5, 30, 55, 7, 22, 7, 9, 148, 153, 0, 21, 22, 5, 22, 7, 113, 55, 9, 22, 7, 55, 5]
abbrev dktX11_partOf_0 : List UInt8 := dkwX11_partOf_0 ++ dktX11_partOf_1
theorem dksX11_partOf_0 : cX11_partOf.data.toList.drop 0 = dktX11_partOf_0 := by decide +kernel
theorem dksX11_partOf_1 : cX11_partOf.data.toList.drop 24 = dktX11_partOf_1 := dk_seg dksX11_partOf_0 24 rfl rfl
theorem dX11_partOf_0 : decode cX11_partOf 0 = .ok (.lload_n 2, 1) := dk_32 (dk_at dksX11_partOf_0 0 rfl rfl)
theorem dX11_partOf_1 : decode cX11_partOf 1 = .ok (.lstore 5, 2) := dk_55 5 (dk_at dksX11_partOf_0 1 rfl rfl)
theorem dX11_partOf_3 : decode cX11_partOf 3 = .ok (.lload_n 0, 1) := dk_30 (dk_at dksX11_partOf_0 3 rfl rfl)
theorem dX11_partOf_4 : decode cX11_partOf 4 = .ok (.lstore 7, 2) := dk_55 7 (dk_at dksX11_partOf_0 4 rfl rfl)
theorem dX11_partOf_6 : decode cX11_partOf 6 = .ok (.lload 7, 2) := dk_22 7 (dk_at dksX11_partOf_0 6 rfl rfl)
theorem dX11_partOf_8 : decode cX11_partOf 8 = .ok (.lconst 0, 1) := dk_9 (dk_at dksX11_partOf_0 8 rfl rfl)
theorem dX11_partOf_9 : decode cX11_partOf 9 = .ok (.lcmp, 1) := dk_148 (dk_at dksX11_partOf_0 9 rfl rfl)
theorem dX11_partOf_10 : decode cX11_partOf 10 = .ok (.ifCond .eq 21, 3) := dk_153 0 21 (dk_at dksX11_partOf_0 10 rfl rfl)
theorem dX11_partOf_13 : decode cX11_partOf 13 = .ok (.lload 5, 2) := dk_22 5 (dk_at dksX11_partOf_0 13 rfl rfl)
theorem dX11_partOf_15 : decode cX11_partOf 15 = .ok (.lload 7, 2) := dk_22 7 (dk_at dksX11_partOf_0 15 rfl rfl)
theorem dX11_partOf_17 : decode cX11_partOf 17 = .ok (.lrem, 1) := dk_113 (dk_at dksX11_partOf_0 17 rfl rfl)
theorem dX11_partOf_18 : decode cX11_partOf 18 = .ok (.lstore 9, 2) := dk_55 9 (dk_at dksX11_partOf_0 18 rfl rfl)
theorem dX11_partOf_20 : decode cX11_partOf 20 = .ok (.lload 7, 2) := dk_22 7 (dk_at dksX11_partOf_0 20 rfl rfl)
theorem dX11_partOf_22 : decode cX11_partOf 22 = .ok (.lstore 5, 2) := dk_55 5 (dk_at dksX11_partOf_0 22 rfl rfl)
theorem dX11_partOf_24 : decode cX11_partOf 24 = .ok (.lload 9, 2) := dk_22 9 (dk_at dksX11_partOf_1 0 rfl rfl)
theorem dX11_partOf_26 : decode cX11_partOf 26 = .ok (.lstore 7, 2) := dk_55 7 (dk_at dksX11_partOf_1 2 rfl rfl)
theorem dX11_partOf_28 : decode cX11_partOf 28 = .ok (.goto (-22), 3) := dk_167 255 234 (dk_at dksX11_partOf_1 4 rfl rfl)
theorem dX11_partOf_31 : decode cX11_partOf 31 = .ok (.iload 4, 2) := dk_21 4 (dk_at dksX11_partOf_1 7 rfl rfl)
theorem dX11_partOf_33 : decode cX11_partOf 33 = .ok (.ifCond .ne 10, 3) := dk_154 0 10 (dk_at dksX11_partOf_1 9 rfl rfl)
theorem dX11_partOf_36 : decode cX11_partOf 36 = .ok (.lload_n 0, 1) := dk_30 (dk_at dksX11_partOf_1 12 rfl rfl)
theorem dX11_partOf_37 : decode cX11_partOf 37 = .ok (.lload 5, 2) := dk_22 5 (dk_at dksX11_partOf_1 13 rfl rfl)
theorem dX11_partOf_39 : decode cX11_partOf 39 = .ok (.ldiv, 1) := dk_109 (dk_at dksX11_partOf_1 15 rfl rfl)
theorem dX11_partOf_40 : decode cX11_partOf 40 = .ok (.goto 7, 3) := dk_167 0 7 (dk_at dksX11_partOf_1 16 rfl rfl)
theorem dX11_partOf_43 : decode cX11_partOf 43 = .ok (.lload_n 2, 1) := dk_32 (dk_at dksX11_partOf_1 19 rfl rfl)
theorem dX11_partOf_44 : decode cX11_partOf 44 = .ok (.lload 5, 2) := dk_22 5 (dk_at dksX11_partOf_1 20 rfl rfl)
theorem dX11_partOf_46 : decode cX11_partOf 46 = .ok (.ldiv, 1) := dk_109 (dk_at dksX11_partOf_1 22 rfl rfl)
theorem dX11_partOf_47 : decode cX11_partOf 47 = .ok (.lreturn, 1) := dk_173 (dk_at dksX11_partOf_1 23 rfl rfl)
def dkwX11_without_4 : List UInt8 := [22, 4, 10, 7, 28, 104, 121, 29, 184, 1, 113, 173]
abbrev dktX11_without_4 : List UInt8 := dkwX11_without_4 ++ []
def dkwX11_without_3 : List UInt8 := [162, 0, 24, 22, 4, 16, 16, 42, 180, 0, 29, 27, 46, 100, 133, 105, 55, 4, 132, 6, 1, 167, 255, 232]
abbrev dktX11_without_3 : List UInt8 := dkwX11_without_3 ++ dktX11_without_4
def dkwX11_without_2 : List UInt8 := [167, 0, 4, 3, 5, 4, 182, 0, 183, 153, 0, 5, 9, 173, 10, 55, 4, 3, 54, 6, 21, 6, 28]
abbrev dktX11_without_2 : List UInt8 := dkwX11_without_2 ++ dktX11_without_3
def dkwX11_without_1 : List UInt8 := [154, 0, 36, 42, 28, 3, 16, 12, 184, 0, 137, 153, 0, 12, 29, 3, 4, 184, 0, 137, 154, 0, 7, 4]
abbrev dktX11_without_1 : List UInt8 := dkwX11_without_1 ++ dktX11_without_2
def dkwX11_without_0 : List UInt8 := [42, 3, 181, 0, 103, 42, 42, 27, 182, 1, 80, 154, 0, 7, 4, 167, 0, 4, 3, 4, 3, 182, 0, 183]
abbrev dktX11_without_0 : List UInt8 := dkwX11_without_0 ++ dktX11_without_1
theorem dksX11_without_0 : cX11_without.data.toList.drop 0 = dktX11_without_0 := by decide +kernel
theorem dksX11_without_1 : cX11_without.data.toList.drop 24 = dktX11_without_1 := dk_seg dksX11_without_0 24 rfl rfl
theorem dksX11_without_2 : cX11_without.data.toList.drop 48 = dktX11_without_2 := dk_seg dksX11_without_1 24 rfl rfl
theorem dksX11_without_3 : cX11_without.data.toList.drop 71 = dktX11_without_3 := dk_seg dksX11_without_2 23 rfl rfl
theorem dksX11_without_4 : cX11_without.data.toList.drop 95 = dktX11_without_4 := dk_seg dksX11_without_3 24 rfl rfl
theorem dX11_without_0 : decode cX11_without 0 = .ok (.aload_n 0, 1) := dk_42 (dk_at dksX11_without_0 0 rfl rfl)
theorem dX11_without_1 : decode cX11_without 1 = .ok (.iconst 0, 1) := dk_3 (dk_at dksX11_without_0 1 rfl rfl)
theorem dX11_without_2 : decode cX11_without 2 = .ok (.putfield 103, 3) := dk_181 0 103 (dk_at dksX11_without_0 2 rfl rfl)
theorem dX11_without_5 : decode cX11_without 5 = .ok (.aload_n 0, 1) := dk_42 (dk_at dksX11_without_0 5 rfl rfl)
theorem dX11_without_6 : decode cX11_without 6 = .ok (.aload_n 0, 1) := dk_42 (dk_at dksX11_without_0 6 rfl rfl)
theorem dX11_without_7 : decode cX11_without 7 = .ok (.iload_n 1, 1) := dk_27 (dk_at dksX11_without_0 7 rfl rfl)
theorem dX11_without_8 : decode cX11_without 8 = .ok (.invokevirtual 336, 3) := dk_182 1 80 (dk_at dksX11_without_0 8 rfl rfl)
theorem dX11_without_11 : decode cX11_without 11 = .ok (.ifCond .ne 7, 3) := dk_154 0 7 (dk_at dksX11_without_0 11 rfl rfl)
theorem dX11_without_14 : decode cX11_without 14 = .ok (.iconst 1, 1) := dk_4 (dk_at dksX11_without_0 14 rfl rfl)
theorem dX11_without_15 : decode cX11_without 15 = .ok (.goto 4, 3) := dk_167 0 4 (dk_at dksX11_without_0 15 rfl rfl)
theorem dX11_without_18 : decode cX11_without 18 = .ok (.iconst 0, 1) := dk_3 (dk_at dksX11_without_0 18 rfl rfl)
theorem dX11_without_19 : decode cX11_without 19 = .ok (.iconst 1, 1) := dk_4 (dk_at dksX11_without_0 19 rfl rfl)
theorem dX11_without_20 : decode cX11_without 20 = .ok (.iconst 0, 1) := dk_3 (dk_at dksX11_without_0 20 rfl rfl)
theorem dX11_without_21 : decode cX11_without 21 = .ok (.invokevirtual 183, 3) := dk_182 0 183 (dk_at dksX11_without_0 21 rfl rfl)
theorem dX11_without_24 : decode cX11_without 24 = .ok (.ifCond .ne 36, 3) := dk_154 0 36 (dk_at dksX11_without_1 0 rfl rfl)
theorem dX11_without_27 : decode cX11_without 27 = .ok (.aload_n 0, 1) := dk_42 (dk_at dksX11_without_1 3 rfl rfl)
theorem dX11_without_28 : decode cX11_without 28 = .ok (.iload_n 2, 1) := dk_28 (dk_at dksX11_without_1 4 rfl rfl)
theorem dX11_without_29 : decode cX11_without 29 = .ok (.iconst 0, 1) := dk_3 (dk_at dksX11_without_1 5 rfl rfl)
theorem dX11_without_30 : decode cX11_without 30 = .ok (.bipush 12, 2) := dk_16 12 (dk_at dksX11_without_1 6 rfl rfl)
theorem dX11_without_32 : decode cX11_without 32 = .ok (.invokestatic 137, 3) := dk_184 0 137 (dk_at dksX11_without_1 8 rfl rfl)
theorem dX11_without_35 : decode cX11_without 35 = .ok (.ifCond .eq 12, 3) := dk_153 0 12 (dk_at dksX11_without_1 11 rfl rfl)
theorem dX11_without_38 : decode cX11_without 38 = .ok (.iload_n 3, 1) := dk_29 (dk_at dksX11_without_1 14 rfl rfl)
theorem dX11_without_39 : decode cX11_without 39 = .ok (.iconst 0, 1) := dk_3 (dk_at dksX11_without_1 15 rfl rfl)
theorem dX11_without_40 : decode cX11_without 40 = .ok (.iconst 1, 1) := dk_4 (dk_at dksX11_without_1 16 rfl rfl)
theorem dX11_without_41 : decode cX11_without 41 = .ok (.invokestatic 137, 3) := dk_184 0 137 (dk_at dksX11_without_1 17 rfl rfl)
theorem dX11_without_44 : decode cX11_without 44 = .ok (.ifCond .ne 7, 3) := dk_154 0 7 (dk_at dksX11_without_1 20 rfl rfl)
theorem dX11_without_47 : decode cX11_without 47 = .ok (.iconst 1, 1) := dk_4 (dk_at dksX11_without_1 23 rfl rfl)
theorem dX11_without_48 : decode cX11_without 48 = .ok (.goto 4, 3) := dk_167 0 4 (dk_at dksX11_without_2 0 rfl rfl)
theorem dX11_without_51 : decode cX11_without 51 = .ok (.iconst 0, 1) := dk_3 (dk_at dksX11_without_2 3 rfl rfl)
theorem dX11_without_52 : decode cX11_without 52 = .ok (.iconst 2, 1) := dk_5 (dk_at dksX11_without_2 4 rfl rfl)
theorem dX11_without_53 : decode cX11_without 53 = .ok (.iconst 1, 1) := dk_4 (dk_at dksX11_without_2 5 rfl rfl)
theorem dX11_without_54 : decode cX11_without 54 = .ok (.invokevirtual 183, 3) := dk_182 0 183 (dk_at dksX11_without_2 6 rfl rfl)
theorem dX11_without_57 : decode cX11_without 57 = .ok (.ifCond .eq 5, 3) := dk_153 0 5 (dk_at dksX11_without_2 9 rfl rfl)
theorem dX11_without_60 : decode cX11_without 60 = .ok (.lconst 0, 1) := dk_9 (dk_at dksX11_without_2 12 rfl rfl)
theorem dX11_without_61 : decode cX11_without 61 = .ok (.lreturn, 1) := dk_173 (dk_at dksX11_without_2 13 rfl rfl)
theorem dX11_without_62 : decode cX11_without 62 = .ok (.lconst 1, 1) := dk_10 (dk_at dksX11_without_2 14 rfl rfl)
theorem dX11_without_63 : decode cX11_without 63 = .ok (.lstore 4, 2) := dk_55 4 (dk_at dksX11_without_2 15 rfl rfl)
theorem dX11_without_65 : decode cX11_without 65 = .ok (.iconst 0, 1) := dk_3 (dk_at dksX11_without_2 17 rfl rfl)
theorem dX11_without_66 : decode cX11_without 66 = .ok (.istore 6, 2) := dk_54 6 (dk_at dksX11_without_2 18 rfl rfl)
theorem dX11_without_68 : decode cX11_without 68 = .ok (.iload 6, 2) := dk_21 6 (dk_at dksX11_without_2 20 rfl rfl)
theorem dX11_without_70 : decode cX11_without 70 = .ok (.iload_n 2, 1) := dk_28 (dk_at dksX11_without_2 22 rfl rfl)
theorem dX11_without_71 : decode cX11_without 71 = .ok (.if_icmp .ge 24, 3) := dk_162 0 24 (dk_at dksX11_without_3 0 rfl rfl)
theorem dX11_without_74 : decode cX11_without 74 = .ok (.lload 4, 2) := dk_22 4 (dk_at dksX11_without_3 3 rfl rfl)
theorem dX11_without_76 : decode cX11_without 76 = .ok (.bipush 16, 2) := dk_16 16 (dk_at dksX11_without_3 5 rfl rfl)
theorem dX11_without_78 : decode cX11_without 78 = .ok (.aload_n 0, 1) := dk_42 (dk_at dksX11_without_3 7 rfl rfl)
theorem dX11_without_79 : decode cX11_without 79 = .ok (.getfield 29, 3) := dk_180 0 29 (dk_at dksX11_without_3 8 rfl rfl)
theorem dX11_without_82 : decode cX11_without 82 = .ok (.iload_n 1, 1) := dk_27 (dk_at dksX11_without_3 11 rfl rfl)
theorem dX11_without_83 : decode cX11_without 83 = .ok (.iaload, 1) := dk_46 (dk_at dksX11_without_3 12 rfl rfl)
theorem dX11_without_84 : decode cX11_without 84 = .ok (.isub, 1) := dk_100 (dk_at dksX11_without_3 13 rfl rfl)
theorem dX11_without_85 : decode cX11_without 85 = .ok (.i2l, 1) := dk_133 (dk_at dksX11_without_3 14 rfl rfl)
theorem dX11_without_86 : decode cX11_without 86 = .ok (.lmul, 1) := dk_105 (dk_at dksX11_without_3 15 rfl rfl)
theorem dX11_without_87 : decode cX11_without 87 = .ok (.lstore 4, 2) := dk_55 4 (dk_at dksX11_without_3 16 rfl rfl)
theorem dX11_without_89 : decode cX11_without 89 = .ok (.iinc 6 1, 3) := dk_132 6 1 (dk_at dksX11_without_3 18 rfl rfl)
theorem dX11_without_92 : decode cX11_without 92 = .ok (.goto (-24), 3) := dk_167 255 232 (dk_at dksX11_without_3 21 rfl rfl)
theorem dX11_without_95 : decode cX11_without 95 = .ok (.lload 4, 2) := dk_22 4 (dk_at dksX11_without_4 0 rfl rfl)
theorem dX11_without_97 : decode cX11_without 97 = .ok (.lconst 1, 1) := dk_10 (dk_at dksX11_without_4 2 rfl rfl)
theorem dX11_without_98 : decode cX11_without 98 = .ok (.iconst 4, 1) := dk_7 (dk_at dksX11_without_4 3 rfl rfl)
theorem dX11_without_99 : decode cX11_without 99 = .ok (.iload_n 2, 1) := dk_28 (dk_at dksX11_without_4 4 rfl rfl)
theorem dX11_without_100 : decode cX11_without 100 = .ok (.imul, 1) := dk_104 (dk_at dksX11_without_4 5 rfl rfl)
theorem dX11_without_101 : decode cX11_without 101 = .ok (.lshl, 1) := dk_121 (dk_at dksX11_without_4 6 rfl rfl)
theorem dX11_without_102 : decode cX11_without 102 = .ok (.iload_n 3, 1) := dk_29 (dk_at dksX11_without_4 7 rfl rfl)
theorem dX11_without_103 : decode cX11_without 103 = .ok (.invokestatic 369, 3) := dk_184 1 113 (dk_at dksX11_without_4 8 rfl rfl)
theorem dX11_without_106 : decode cX11_without 106 = .ok (.lreturn, 1) := dk_173 (dk_at dksX11_without_4 11 rfl rfl)
def dkwX11_ring_1 : List UInt8 := [153, 0, 5, 3, 172, 42, 27, 182, 1, 117, 172]
abbrev dktX11_ring_1 : List UInt8 := dkwX11_ring_1 ++ []
def dkwX11_ring_0 : List UInt8 := [42, 3, 181, 0, 103, 42, 42, 27, 182, 1, 80, 154, 0, 7, 4, 167, 0, 4, 3, 4, 3, 182, 0, 183]
abbrev dktX11_ring_0 : List UInt8 := dkwX11_ring_0 ++ dktX11_ring_1
theorem dksX11_ring_0 : cX11_ring.data.toList.drop 0 = dktX11_ring_0 := by decide +kernel
theorem dksX11_ring_1 : cX11_ring.data.toList.drop 24 = dktX11_ring_1 := dk_seg dksX11_ring_0 24 rfl rfl
theorem dX11_ring_0 : decode cX11_ring 0 = .ok (.aload_n 0, 1) := dk_42 (dk_at dksX11_ring_0 0 rfl rfl)
theorem dX11_ring_1 : decode cX11_ring 1 = .ok (.iconst 0, 1) := dk_3 (dk_at dksX11_ring_0 1 rfl rfl)
theorem dX11_ring_2 : decode cX11_ring 2 = .ok (.putfield 103, 3) := dk_181 0 103 (dk_at dksX11_ring_0 2 rfl rfl)
theorem dX11_ring_5 : decode cX11_ring 5 = .ok (.aload_n 0, 1) := dk_42 (dk_at dksX11_ring_0 5 rfl rfl)
theorem dX11_ring_6 : decode cX11_ring 6 = .ok (.aload_n 0, 1) := dk_42 (dk_at dksX11_ring_0 6 rfl rfl)
theorem dX11_ring_7 : decode cX11_ring 7 = .ok (.iload_n 1, 1) := dk_27 (dk_at dksX11_ring_0 7 rfl rfl)
theorem dX11_ring_8 : decode cX11_ring 8 = .ok (.invokevirtual 336, 3) := dk_182 1 80 (dk_at dksX11_ring_0 8 rfl rfl)
theorem dX11_ring_11 : decode cX11_ring 11 = .ok (.ifCond .ne 7, 3) := dk_154 0 7 (dk_at dksX11_ring_0 11 rfl rfl)
theorem dX11_ring_14 : decode cX11_ring 14 = .ok (.iconst 1, 1) := dk_4 (dk_at dksX11_ring_0 14 rfl rfl)
theorem dX11_ring_15 : decode cX11_ring 15 = .ok (.goto 4, 3) := dk_167 0 4 (dk_at dksX11_ring_0 15 rfl rfl)
theorem dX11_ring_18 : decode cX11_ring 18 = .ok (.iconst 0, 1) := dk_3 (dk_at dksX11_ring_0 18 rfl rfl)
theorem dX11_ring_19 : decode cX11_ring 19 = .ok (.iconst 1, 1) := dk_4 (dk_at dksX11_ring_0 19 rfl rfl)
theorem dX11_ring_20 : decode cX11_ring 20 = .ok (.iconst 0, 1) := dk_3 (dk_at dksX11_ring_0 20 rfl rfl)
theorem dX11_ring_21 : decode cX11_ring 21 = .ok (.invokevirtual 183, 3) := dk_182 0 183 (dk_at dksX11_ring_0 21 rfl rfl)
theorem dX11_ring_24 : decode cX11_ring 24 = .ok (.ifCond .eq 5, 3) := dk_153 0 5 (dk_at dksX11_ring_1 0 rfl rfl)
theorem dX11_ring_27 : decode cX11_ring 27 = .ok (.iconst 0, 1) := dk_3 (dk_at dksX11_ring_1 3 rfl rfl)
theorem dX11_ring_28 : decode cX11_ring 28 = .ok (.ireturn, 1) := dk_172 (dk_at dksX11_ring_1 4 rfl rfl)
theorem dX11_ring_29 : decode cX11_ring 29 = .ok (.aload_n 0, 1) := dk_42 (dk_at dksX11_ring_1 5 rfl rfl)
theorem dX11_ring_30 : decode cX11_ring 30 = .ok (.iload_n 1, 1) := dk_27 (dk_at dksX11_ring_1 6 rfl rfl)
theorem dX11_ring_31 : decode cX11_ring 31 = .ok (.invokevirtual 373, 3) := dk_182 1 117 (dk_at dksX11_ring_1 7 rfl rfl)
theorem dX11_ring_34 : decode cX11_ring 34 = .ok (.ireturn, 1) := dk_172 (dk_at dksX11_ring_1 10 rfl rfl)
def dkwX11_ringOf_1 : List UInt8 := [28, 27, 160, 0, 5, 29, 172, 132, 3, 1, 167, 255, 226, 2, 172]
abbrev dktX11_ringOf_1 : List UInt8 := dkwX11_ringOf_1 ++ []
def dkwX11_ringOf_0 : List UInt8 := [27, 61, 4, 62, 29, 16, 8, 163, 0, 30, 42, 180, 0, 35, 28, 46, 61, 28, 2, 160, 0, 5, 2, 172]
abbrev dktX11_ringOf_0 : List UInt8 := dkwX11_ringOf_0 ++ dktX11_ringOf_1
theorem dksX11_ringOf_0 : cX11_ringOf.data.toList.drop 0 = dktX11_ringOf_0 := by decide +kernel
theorem dksX11_ringOf_1 : cX11_ringOf.data.toList.drop 24 = dktX11_ringOf_1 := dk_seg dksX11_ringOf_0 24 rfl rfl
theorem dX11_ringOf_0 : decode cX11_ringOf 0 = .ok (.iload_n 1, 1) := dk_27 (dk_at dksX11_ringOf_0 0 rfl rfl)
theorem dX11_ringOf_1 : decode cX11_ringOf 1 = .ok (.istore_n 2, 1) := dk_61 (dk_at dksX11_ringOf_0 1 rfl rfl)
theorem dX11_ringOf_2 : decode cX11_ringOf 2 = .ok (.iconst 1, 1) := dk_4 (dk_at dksX11_ringOf_0 2 rfl rfl)
theorem dX11_ringOf_3 : decode cX11_ringOf 3 = .ok (.istore_n 3, 1) := dk_62 (dk_at dksX11_ringOf_0 3 rfl rfl)
theorem dX11_ringOf_4 : decode cX11_ringOf 4 = .ok (.iload_n 3, 1) := dk_29 (dk_at dksX11_ringOf_0 4 rfl rfl)
theorem dX11_ringOf_5 : decode cX11_ringOf 5 = .ok (.bipush 8, 2) := dk_16 8 (dk_at dksX11_ringOf_0 5 rfl rfl)
theorem dX11_ringOf_7 : decode cX11_ringOf 7 = .ok (.if_icmp .gt 30, 3) := dk_163 0 30 (dk_at dksX11_ringOf_0 7 rfl rfl)
theorem dX11_ringOf_10 : decode cX11_ringOf 10 = .ok (.aload_n 0, 1) := dk_42 (dk_at dksX11_ringOf_0 10 rfl rfl)
theorem dX11_ringOf_11 : decode cX11_ringOf 11 = .ok (.getfield 35, 3) := dk_180 0 35 (dk_at dksX11_ringOf_0 11 rfl rfl)
theorem dX11_ringOf_14 : decode cX11_ringOf 14 = .ok (.iload_n 2, 1) := dk_28 (dk_at dksX11_ringOf_0 14 rfl rfl)
theorem dX11_ringOf_15 : decode cX11_ringOf 15 = .ok (.iaload, 1) := dk_46 (dk_at dksX11_ringOf_0 15 rfl rfl)
theorem dX11_ringOf_16 : decode cX11_ringOf 16 = .ok (.istore_n 2, 1) := dk_61 (dk_at dksX11_ringOf_0 16 rfl rfl)
theorem dX11_ringOf_17 : decode cX11_ringOf 17 = .ok (.iload_n 2, 1) := dk_28 (dk_at dksX11_ringOf_0 17 rfl rfl)
theorem dX11_ringOf_18 : decode cX11_ringOf 18 = .ok (.iconst (-1), 1) := dk_2 (dk_at dksX11_ringOf_0 18 rfl rfl)
theorem dX11_ringOf_19 : decode cX11_ringOf 19 = .ok (.if_icmp .ne 5, 3) := dk_160 0 5 (dk_at dksX11_ringOf_0 19 rfl rfl)
theorem dX11_ringOf_22 : decode cX11_ringOf 22 = .ok (.iconst (-1), 1) := dk_2 (dk_at dksX11_ringOf_0 22 rfl rfl)
theorem dX11_ringOf_23 : decode cX11_ringOf 23 = .ok (.ireturn, 1) := dk_172 (dk_at dksX11_ringOf_0 23 rfl rfl)
theorem dX11_ringOf_24 : decode cX11_ringOf 24 = .ok (.iload_n 2, 1) := dk_28 (dk_at dksX11_ringOf_1 0 rfl rfl)
theorem dX11_ringOf_25 : decode cX11_ringOf 25 = .ok (.iload_n 1, 1) := dk_27 (dk_at dksX11_ringOf_1 1 rfl rfl)
theorem dX11_ringOf_26 : decode cX11_ringOf 26 = .ok (.if_icmp .ne 5, 3) := dk_160 0 5 (dk_at dksX11_ringOf_1 2 rfl rfl)
theorem dX11_ringOf_29 : decode cX11_ringOf 29 = .ok (.iload_n 3, 1) := dk_29 (dk_at dksX11_ringOf_1 5 rfl rfl)
theorem dX11_ringOf_30 : decode cX11_ringOf 30 = .ok (.ireturn, 1) := dk_172 (dk_at dksX11_ringOf_1 6 rfl rfl)
theorem dX11_ringOf_31 : decode cX11_ringOf 31 = .ok (.iinc 3 1, 3) := dk_132 3 1 (dk_at dksX11_ringOf_1 7 rfl rfl)
theorem dX11_ringOf_34 : decode cX11_ringOf 34 = .ok (.goto (-30), 3) := dk_167 255 226 (dk_at dksX11_ringOf_1 10 rfl rfl)
theorem dX11_ringOf_37 : decode cX11_ringOf 37 = .ok (.iconst (-1), 1) := dk_2 (dk_at dksX11_ringOf_1 13 rfl rfl)
theorem dX11_ringOf_38 : decode cX11_ringOf 38 = .ok (.ireturn, 1) := dk_172 (dk_at dksX11_ringOf_1 14 rfl rfl)
def dkwX11_follows_4 : List UInt8 := [21, 4, 154, 0, 5, 29, 172, 42, 180, 0, 35, 29, 46, 62, 132, 4, 255, 167, 255, 204, 29, 172]
abbrev dktX11_follows_4 : List UInt8 := dkwX11_follows_4 ++ []
def dkwX11_follows_3 : List UInt8 := [29, 182, 1, 117, 54, 5, 21, 5, 2, 160, 0, 8, 21, 4, 167, 0, 8, 21, 4, 21, 5, 112, 54, 4]
abbrev dktX11_follows_3 : List UInt8 := dkwX11_follows_3 ++ dktX11_follows_4
def dkwX11_follows_2 : List UInt8 := [182, 0, 183, 153, 0, 5, 3, 172, 27, 62, 28, 54, 4, 21, 4, 158, 0, 53, 29, 2, 159, 0, 48, 42]
abbrev dktX11_follows_2 : List UInt8 := dkwX11_follows_2 ++ dktX11_follows_3
def dkwX11_follows_1 : List UInt8 := [154, 0, 28, 42, 28, 3, 19, 1, 120, 184, 0, 137, 154, 0, 7, 4, 167, 0, 4, 3, 5, 4]
abbrev dktX11_follows_1 : List UInt8 := dkwX11_follows_1 ++ dktX11_follows_2
def dkwX11_follows_0 : List UInt8 := [42, 3, 181, 0, 103, 42, 42, 27, 182, 1, 80, 154, 0, 7, 4, 167, 0, 4, 3, 4, 3, 182, 0, 183]
abbrev dktX11_follows_0 : List UInt8 := dkwX11_follows_0 ++ dktX11_follows_1
theorem dksX11_follows_0 : cX11_follows.data.toList.drop 0 = dktX11_follows_0 := by decide +kernel
theorem dksX11_follows_1 : cX11_follows.data.toList.drop 24 = dktX11_follows_1 := dk_seg dksX11_follows_0 24 rfl rfl
theorem dksX11_follows_2 : cX11_follows.data.toList.drop 46 = dktX11_follows_2 := dk_seg dksX11_follows_1 22 rfl rfl
theorem dksX11_follows_3 : cX11_follows.data.toList.drop 70 = dktX11_follows_3 := dk_seg dksX11_follows_2 24 rfl rfl
theorem dksX11_follows_4 : cX11_follows.data.toList.drop 94 = dktX11_follows_4 := dk_seg dksX11_follows_3 24 rfl rfl
theorem dX11_follows_0 : decode cX11_follows 0 = .ok (.aload_n 0, 1) := dk_42 (dk_at dksX11_follows_0 0 rfl rfl)
theorem dX11_follows_1 : decode cX11_follows 1 = .ok (.iconst 0, 1) := dk_3 (dk_at dksX11_follows_0 1 rfl rfl)
theorem dX11_follows_2 : decode cX11_follows 2 = .ok (.putfield 103, 3) := dk_181 0 103 (dk_at dksX11_follows_0 2 rfl rfl)
theorem dX11_follows_5 : decode cX11_follows 5 = .ok (.aload_n 0, 1) := dk_42 (dk_at dksX11_follows_0 5 rfl rfl)
theorem dX11_follows_6 : decode cX11_follows 6 = .ok (.aload_n 0, 1) := dk_42 (dk_at dksX11_follows_0 6 rfl rfl)
theorem dX11_follows_7 : decode cX11_follows 7 = .ok (.iload_n 1, 1) := dk_27 (dk_at dksX11_follows_0 7 rfl rfl)
theorem dX11_follows_8 : decode cX11_follows 8 = .ok (.invokevirtual 336, 3) := dk_182 1 80 (dk_at dksX11_follows_0 8 rfl rfl)
theorem dX11_follows_11 : decode cX11_follows 11 = .ok (.ifCond .ne 7, 3) := dk_154 0 7 (dk_at dksX11_follows_0 11 rfl rfl)
theorem dX11_follows_14 : decode cX11_follows 14 = .ok (.iconst 1, 1) := dk_4 (dk_at dksX11_follows_0 14 rfl rfl)
theorem dX11_follows_15 : decode cX11_follows 15 = .ok (.goto 4, 3) := dk_167 0 4 (dk_at dksX11_follows_0 15 rfl rfl)
theorem dX11_follows_18 : decode cX11_follows 18 = .ok (.iconst 0, 1) := dk_3 (dk_at dksX11_follows_0 18 rfl rfl)
theorem dX11_follows_19 : decode cX11_follows 19 = .ok (.iconst 1, 1) := dk_4 (dk_at dksX11_follows_0 19 rfl rfl)
theorem dX11_follows_20 : decode cX11_follows 20 = .ok (.iconst 0, 1) := dk_3 (dk_at dksX11_follows_0 20 rfl rfl)
theorem dX11_follows_21 : decode cX11_follows 21 = .ok (.invokevirtual 183, 3) := dk_182 0 183 (dk_at dksX11_follows_0 21 rfl rfl)
theorem dX11_follows_24 : decode cX11_follows 24 = .ok (.ifCond .ne 28, 3) := dk_154 0 28 (dk_at dksX11_follows_1 0 rfl rfl)
theorem dX11_follows_27 : decode cX11_follows 27 = .ok (.aload_n 0, 1) := dk_42 (dk_at dksX11_follows_1 3 rfl rfl)
theorem dX11_follows_28 : decode cX11_follows 28 = .ok (.iload_n 2, 1) := dk_28 (dk_at dksX11_follows_1 4 rfl rfl)
theorem dX11_follows_29 : decode cX11_follows 29 = .ok (.iconst 0, 1) := dk_3 (dk_at dksX11_follows_1 5 rfl rfl)
theorem dX11_follows_30 : decode cX11_follows 30 = .ok (.ldc_w 376, 3) := dk_19 1 120 (dk_at dksX11_follows_1 6 rfl rfl)
theorem dX11_follows_33 : decode cX11_follows 33 = .ok (.invokestatic 137, 3) := dk_184 0 137 (dk_at dksX11_follows_1 9 rfl rfl)
theorem dX11_follows_36 : decode cX11_follows 36 = .ok (.ifCond .ne 7, 3) := dk_154 0 7 (dk_at dksX11_follows_1 12 rfl rfl)
theorem dX11_follows_39 : decode cX11_follows 39 = .ok (.iconst 1, 1) := dk_4 (dk_at dksX11_follows_1 15 rfl rfl)
theorem dX11_follows_40 : decode cX11_follows 40 = .ok (.goto 4, 3) := dk_167 0 4 (dk_at dksX11_follows_1 16 rfl rfl)
theorem dX11_follows_43 : decode cX11_follows 43 = .ok (.iconst 0, 1) := dk_3 (dk_at dksX11_follows_1 19 rfl rfl)
theorem dX11_follows_44 : decode cX11_follows 44 = .ok (.iconst 2, 1) := dk_5 (dk_at dksX11_follows_1 20 rfl rfl)
theorem dX11_follows_45 : decode cX11_follows 45 = .ok (.iconst 1, 1) := dk_4 (dk_at dksX11_follows_1 21 rfl rfl)
theorem dX11_follows_46 : decode cX11_follows 46 = .ok (.invokevirtual 183, 3) := dk_182 0 183 (dk_at dksX11_follows_2 0 rfl rfl)
theorem dX11_follows_49 : decode cX11_follows 49 = .ok (.ifCond .eq 5, 3) := dk_153 0 5 (dk_at dksX11_follows_2 3 rfl rfl)
theorem dX11_follows_52 : decode cX11_follows 52 = .ok (.iconst 0, 1) := dk_3 (dk_at dksX11_follows_2 6 rfl rfl)
theorem dX11_follows_53 : decode cX11_follows 53 = .ok (.ireturn, 1) := dk_172 (dk_at dksX11_follows_2 7 rfl rfl)
theorem dX11_follows_54 : decode cX11_follows 54 = .ok (.iload_n 1, 1) := dk_27 (dk_at dksX11_follows_2 8 rfl rfl)
theorem dX11_follows_55 : decode cX11_follows 55 = .ok (.istore_n 3, 1) := dk_62 (dk_at dksX11_follows_2 9 rfl rfl)
theorem dX11_follows_56 : decode cX11_follows 56 = .ok (.iload_n 2, 1) := dk_28 (dk_at dksX11_follows_2 10 rfl rfl)
theorem dX11_follows_57 : decode cX11_follows 57 = .ok (.istore 4, 2) := dk_54 4 (dk_at dksX11_follows_2 11 rfl rfl)
theorem dX11_follows_59 : decode cX11_follows 59 = .ok (.iload 4, 2) := dk_21 4 (dk_at dksX11_follows_2 13 rfl rfl)
theorem dX11_follows_61 : decode cX11_follows 61 = .ok (.ifCond .le 53, 3) := dk_158 0 53 (dk_at dksX11_follows_2 15 rfl rfl)
theorem dX11_follows_64 : decode cX11_follows 64 = .ok (.iload_n 3, 1) := dk_29 (dk_at dksX11_follows_2 18 rfl rfl)
theorem dX11_follows_65 : decode cX11_follows 65 = .ok (.iconst (-1), 1) := dk_2 (dk_at dksX11_follows_2 19 rfl rfl)
theorem dX11_follows_66 : decode cX11_follows 66 = .ok (.if_icmp .eq 48, 3) := dk_159 0 48 (dk_at dksX11_follows_2 20 rfl rfl)
theorem dX11_follows_69 : decode cX11_follows 69 = .ok (.aload_n 0, 1) := dk_42 (dk_at dksX11_follows_2 23 rfl rfl)
theorem dX11_follows_70 : decode cX11_follows 70 = .ok (.iload_n 3, 1) := dk_29 (dk_at dksX11_follows_3 0 rfl rfl)
theorem dX11_follows_71 : decode cX11_follows 71 = .ok (.invokevirtual 373, 3) := dk_182 1 117 (dk_at dksX11_follows_3 1 rfl rfl)
theorem dX11_follows_74 : decode cX11_follows 74 = .ok (.istore 5, 2) := dk_54 5 (dk_at dksX11_follows_3 4 rfl rfl)
theorem dX11_follows_76 : decode cX11_follows 76 = .ok (.iload 5, 2) := dk_21 5 (dk_at dksX11_follows_3 6 rfl rfl)
theorem dX11_follows_78 : decode cX11_follows 78 = .ok (.iconst (-1), 1) := dk_2 (dk_at dksX11_follows_3 8 rfl rfl)
theorem dX11_follows_79 : decode cX11_follows 79 = .ok (.if_icmp .ne 8, 3) := dk_160 0 8 (dk_at dksX11_follows_3 9 rfl rfl)
theorem dX11_follows_82 : decode cX11_follows 82 = .ok (.iload 4, 2) := dk_21 4 (dk_at dksX11_follows_3 12 rfl rfl)
theorem dX11_follows_84 : decode cX11_follows 84 = .ok (.goto 8, 3) := dk_167 0 8 (dk_at dksX11_follows_3 14 rfl rfl)
theorem dX11_follows_87 : decode cX11_follows 87 = .ok (.iload 4, 2) := dk_21 4 (dk_at dksX11_follows_3 17 rfl rfl)
theorem dX11_follows_89 : decode cX11_follows 89 = .ok (.iload 5, 2) := dk_21 5 (dk_at dksX11_follows_3 19 rfl rfl)
theorem dX11_follows_91 : decode cX11_follows 91 = .ok (.irem, 1) := dk_112 (dk_at dksX11_follows_3 21 rfl rfl)
theorem dX11_follows_92 : decode cX11_follows 92 = .ok (.istore 4, 2) := dk_54 4 (dk_at dksX11_follows_3 22 rfl rfl)
theorem dX11_follows_94 : decode cX11_follows 94 = .ok (.iload 4, 2) := dk_21 4 (dk_at dksX11_follows_4 0 rfl rfl)
theorem dX11_follows_96 : decode cX11_follows 96 = .ok (.ifCond .ne 5, 3) := dk_154 0 5 (dk_at dksX11_follows_4 2 rfl rfl)
theorem dX11_follows_99 : decode cX11_follows 99 = .ok (.iload_n 3, 1) := dk_29 (dk_at dksX11_follows_4 5 rfl rfl)
theorem dX11_follows_100 : decode cX11_follows 100 = .ok (.ireturn, 1) := dk_172 (dk_at dksX11_follows_4 6 rfl rfl)
theorem dX11_follows_101 : decode cX11_follows 101 = .ok (.aload_n 0, 1) := dk_42 (dk_at dksX11_follows_4 7 rfl rfl)
theorem dX11_follows_102 : decode cX11_follows 102 = .ok (.getfield 35, 3) := dk_180 0 35 (dk_at dksX11_follows_4 8 rfl rfl)
theorem dX11_follows_105 : decode cX11_follows 105 = .ok (.iload_n 3, 1) := dk_29 (dk_at dksX11_follows_4 11 rfl rfl)
theorem dX11_follows_106 : decode cX11_follows 106 = .ok (.iaload, 1) := dk_46 (dk_at dksX11_follows_4 12 rfl rfl)
theorem dX11_follows_107 : decode cX11_follows 107 = .ok (.istore_n 3, 1) := dk_62 (dk_at dksX11_follows_4 13 rfl rfl)
theorem dX11_follows_108 : decode cX11_follows 108 = .ok (.iinc 4 (-1), 3) := dk_132 4 255 (dk_at dksX11_follows_4 14 rfl rfl)
theorem dX11_follows_111 : decode cX11_follows 111 = .ok (.goto (-52), 3) := dk_167 255 204 (dk_at dksX11_follows_4 17 rfl rfl)
theorem dX11_follows_114 : decode cX11_follows 114 = .ok (.iload_n 3, 1) := dk_29 (dk_at dksX11_follows_4 20 rfl rfl)
theorem dX11_follows_115 : decode cX11_follows 115 = .ok (.ireturn, 1) := dk_172 (dk_at dksX11_follows_4 21 rfl rfl)
def dkwX11_tempted_8 : List UInt8 := [21, 5, 167, 0, 5, 21, 6, 172]
abbrev dktX11_tempted_8 : List UInt8 := dkwX11_tempted_8 ++ []
def dkwX11_tempted_7 : List UInt8 := [167, 255, 166, 132, 7, 1, 167, 255, 151, 29, 154, 0, 8, 21, 4, 167, 0, 15, 29, 4, 160, 0, 8]
abbrev dktX11_tempted_7 : List UInt8 := dkwX11_tempted_7 ++ dktX11_tempted_8
def dkwX11_tempted_6 : List UInt8 := [154, 0, 14, 16, 10, 21, 7, 104, 21, 8, 96, 167, 0, 5, 21, 5, 54, 5, 132, 4, 1, 132, 8, 1]
abbrev dktX11_tempted_6 : List UInt8 := dkwX11_tempted_6 ++ dktX11_tempted_7
def dkwX11_tempted_5 : List UInt8 := [184, 1, 121, 21, 8, 21, 7, 27, 28, 184, 1, 121, 96, 167, 0, 5, 21, 6, 54, 6, 21, 4]
abbrev dktX11_tempted_5 : List UInt8 := dkwX11_tempted_5 ++ dktX11_tempted_6
def dkwX11_tempted_4 : List UInt8 := [27, 28, 184, 1, 125, 154, 0, 6, 167, 0, 57, 21, 4, 154, 0, 25, 21, 7, 21, 8, 27, 28]
abbrev dktX11_tempted_4 : List UInt8 := dkwX11_tempted_4 ++ dktX11_tempted_5
def dkwX11_tempted_3 : List UInt8 := [54, 8, 21, 8, 5, 162, 0, 90, 21, 7, 21, 8, 27, 28, 184, 1, 125, 153, 0, 72, 21, 8, 21, 7]
abbrev dktX11_tempted_3 : List UInt8 := dkwX11_tempted_3 ++ dktX11_tempted_4
def dkwX11_tempted_2 : List UInt8 := [153, 0, 5, 3, 172, 3, 54, 4, 2, 54, 5, 3, 54, 6, 3, 54, 7, 21, 7, 5, 162, 0, 105, 3]
abbrev dktX11_tempted_2 : List UInt8 := dkwX11_tempted_2 ++ dktX11_tempted_3
def dkwX11_tempted_1 : List UInt8 := [153, 0, 12, 29, 3, 5, 184, 0, 137, 154, 0, 7, 4, 167, 0, 4, 3, 4, 4, 182, 0, 183]
abbrev dktX11_tempted_1 : List UInt8 := dkwX11_tempted_1 ++ dktX11_tempted_2
def dkwX11_tempted_0 : List UInt8 := [42, 3, 181, 0, 103, 42, 27, 3, 16, 99, 184, 0, 137, 153, 0, 22, 28, 3, 16, 99, 184, 0, 137]
abbrev dktX11_tempted_0 : List UInt8 := dkwX11_tempted_0 ++ dktX11_tempted_1
theorem dksX11_tempted_0 : cX11_tempted.data.toList.drop 0 = dktX11_tempted_0 := by decide +kernel
theorem dksX11_tempted_1 : cX11_tempted.data.toList.drop 23 = dktX11_tempted_1 := dk_seg dksX11_tempted_0 23 rfl rfl
theorem dksX11_tempted_2 : cX11_tempted.data.toList.drop 45 = dktX11_tempted_2 := dk_seg dksX11_tempted_1 22 rfl rfl
theorem dksX11_tempted_3 : cX11_tempted.data.toList.drop 69 = dktX11_tempted_3 := dk_seg dksX11_tempted_2 24 rfl rfl
theorem dksX11_tempted_4 : cX11_tempted.data.toList.drop 93 = dktX11_tempted_4 := dk_seg dksX11_tempted_3 24 rfl rfl
theorem dksX11_tempted_5 : cX11_tempted.data.toList.drop 115 = dktX11_tempted_5 := dk_seg dksX11_tempted_4 22 rfl rfl
theorem dksX11_tempted_6 : cX11_tempted.data.toList.drop 137 = dktX11_tempted_6 := dk_seg dksX11_tempted_5 22 rfl rfl
theorem dksX11_tempted_7 : cX11_tempted.data.toList.drop 161 = dktX11_tempted_7 := dk_seg dksX11_tempted_6 24 rfl rfl
theorem dksX11_tempted_8 : cX11_tempted.data.toList.drop 184 = dktX11_tempted_8 := dk_seg dksX11_tempted_7 23 rfl rfl
theorem dX11_tempted_0 : decode cX11_tempted 0 = .ok (.aload_n 0, 1) := dk_42 (dk_at dksX11_tempted_0 0 rfl rfl)
theorem dX11_tempted_1 : decode cX11_tempted 1 = .ok (.iconst 0, 1) := dk_3 (dk_at dksX11_tempted_0 1 rfl rfl)
theorem dX11_tempted_2 : decode cX11_tempted 2 = .ok (.putfield 103, 3) := dk_181 0 103 (dk_at dksX11_tempted_0 2 rfl rfl)
theorem dX11_tempted_5 : decode cX11_tempted 5 = .ok (.aload_n 0, 1) := dk_42 (dk_at dksX11_tempted_0 5 rfl rfl)
theorem dX11_tempted_6 : decode cX11_tempted 6 = .ok (.iload_n 1, 1) := dk_27 (dk_at dksX11_tempted_0 6 rfl rfl)
theorem dX11_tempted_7 : decode cX11_tempted 7 = .ok (.iconst 0, 1) := dk_3 (dk_at dksX11_tempted_0 7 rfl rfl)
theorem dX11_tempted_8 : decode cX11_tempted 8 = .ok (.bipush 99, 2) := dk_16 99 (dk_at dksX11_tempted_0 8 rfl rfl)
theorem dX11_tempted_10 : decode cX11_tempted 10 = .ok (.invokestatic 137, 3) := dk_184 0 137 (dk_at dksX11_tempted_0 10 rfl rfl)
theorem dX11_tempted_13 : decode cX11_tempted 13 = .ok (.ifCond .eq 22, 3) := dk_153 0 22 (dk_at dksX11_tempted_0 13 rfl rfl)
theorem dX11_tempted_16 : decode cX11_tempted 16 = .ok (.iload_n 2, 1) := dk_28 (dk_at dksX11_tempted_0 16 rfl rfl)
theorem dX11_tempted_17 : decode cX11_tempted 17 = .ok (.iconst 0, 1) := dk_3 (dk_at dksX11_tempted_0 17 rfl rfl)
theorem dX11_tempted_18 : decode cX11_tempted 18 = .ok (.bipush 99, 2) := dk_16 99 (dk_at dksX11_tempted_0 18 rfl rfl)
theorem dX11_tempted_20 : decode cX11_tempted 20 = .ok (.invokestatic 137, 3) := dk_184 0 137 (dk_at dksX11_tempted_0 20 rfl rfl)
theorem dX11_tempted_23 : decode cX11_tempted 23 = .ok (.ifCond .eq 12, 3) := dk_153 0 12 (dk_at dksX11_tempted_1 0 rfl rfl)
theorem dX11_tempted_26 : decode cX11_tempted 26 = .ok (.iload_n 3, 1) := dk_29 (dk_at dksX11_tempted_1 3 rfl rfl)
theorem dX11_tempted_27 : decode cX11_tempted 27 = .ok (.iconst 0, 1) := dk_3 (dk_at dksX11_tempted_1 4 rfl rfl)
theorem dX11_tempted_28 : decode cX11_tempted 28 = .ok (.iconst 2, 1) := dk_5 (dk_at dksX11_tempted_1 5 rfl rfl)
theorem dX11_tempted_29 : decode cX11_tempted 29 = .ok (.invokestatic 137, 3) := dk_184 0 137 (dk_at dksX11_tempted_1 6 rfl rfl)
theorem dX11_tempted_32 : decode cX11_tempted 32 = .ok (.ifCond .ne 7, 3) := dk_154 0 7 (dk_at dksX11_tempted_1 9 rfl rfl)
theorem dX11_tempted_35 : decode cX11_tempted 35 = .ok (.iconst 1, 1) := dk_4 (dk_at dksX11_tempted_1 12 rfl rfl)
theorem dX11_tempted_36 : decode cX11_tempted 36 = .ok (.goto 4, 3) := dk_167 0 4 (dk_at dksX11_tempted_1 13 rfl rfl)
theorem dX11_tempted_39 : decode cX11_tempted 39 = .ok (.iconst 0, 1) := dk_3 (dk_at dksX11_tempted_1 16 rfl rfl)
theorem dX11_tempted_40 : decode cX11_tempted 40 = .ok (.iconst 1, 1) := dk_4 (dk_at dksX11_tempted_1 17 rfl rfl)
theorem dX11_tempted_41 : decode cX11_tempted 41 = .ok (.iconst 1, 1) := dk_4 (dk_at dksX11_tempted_1 18 rfl rfl)
theorem dX11_tempted_42 : decode cX11_tempted 42 = .ok (.invokevirtual 183, 3) := dk_182 0 183 (dk_at dksX11_tempted_1 19 rfl rfl)
theorem dX11_tempted_45 : decode cX11_tempted 45 = .ok (.ifCond .eq 5, 3) := dk_153 0 5 (dk_at dksX11_tempted_2 0 rfl rfl)
theorem dX11_tempted_48 : decode cX11_tempted 48 = .ok (.iconst 0, 1) := dk_3 (dk_at dksX11_tempted_2 3 rfl rfl)
theorem dX11_tempted_49 : decode cX11_tempted 49 = .ok (.ireturn, 1) := dk_172 (dk_at dksX11_tempted_2 4 rfl rfl)
theorem dX11_tempted_50 : decode cX11_tempted 50 = .ok (.iconst 0, 1) := dk_3 (dk_at dksX11_tempted_2 5 rfl rfl)
theorem dX11_tempted_51 : decode cX11_tempted 51 = .ok (.istore 4, 2) := dk_54 4 (dk_at dksX11_tempted_2 6 rfl rfl)
theorem dX11_tempted_53 : decode cX11_tempted 53 = .ok (.iconst (-1), 1) := dk_2 (dk_at dksX11_tempted_2 8 rfl rfl)
theorem dX11_tempted_54 : decode cX11_tempted 54 = .ok (.istore 5, 2) := dk_54 5 (dk_at dksX11_tempted_2 9 rfl rfl)
theorem dX11_tempted_56 : decode cX11_tempted 56 = .ok (.iconst 0, 1) := dk_3 (dk_at dksX11_tempted_2 11 rfl rfl)
theorem dX11_tempted_57 : decode cX11_tempted 57 = .ok (.istore 6, 2) := dk_54 6 (dk_at dksX11_tempted_2 12 rfl rfl)
theorem dX11_tempted_59 : decode cX11_tempted 59 = .ok (.iconst 0, 1) := dk_3 (dk_at dksX11_tempted_2 14 rfl rfl)
theorem dX11_tempted_60 : decode cX11_tempted 60 = .ok (.istore 7, 2) := dk_54 7 (dk_at dksX11_tempted_2 15 rfl rfl)
theorem dX11_tempted_62 : decode cX11_tempted 62 = .ok (.iload 7, 2) := dk_21 7 (dk_at dksX11_tempted_2 17 rfl rfl)
theorem dX11_tempted_64 : decode cX11_tempted 64 = .ok (.iconst 2, 1) := dk_5 (dk_at dksX11_tempted_2 19 rfl rfl)
theorem dX11_tempted_65 : decode cX11_tempted 65 = .ok (.if_icmp .ge 105, 3) := dk_162 0 105 (dk_at dksX11_tempted_2 20 rfl rfl)
theorem dX11_tempted_68 : decode cX11_tempted 68 = .ok (.iconst 0, 1) := dk_3 (dk_at dksX11_tempted_2 23 rfl rfl)
theorem dX11_tempted_69 : decode cX11_tempted 69 = .ok (.istore 8, 2) := dk_54 8 (dk_at dksX11_tempted_3 0 rfl rfl)
theorem dX11_tempted_71 : decode cX11_tempted 71 = .ok (.iload 8, 2) := dk_21 8 (dk_at dksX11_tempted_3 2 rfl rfl)
theorem dX11_tempted_73 : decode cX11_tempted 73 = .ok (.iconst 2, 1) := dk_5 (dk_at dksX11_tempted_3 4 rfl rfl)
theorem dX11_tempted_74 : decode cX11_tempted 74 = .ok (.if_icmp .ge 90, 3) := dk_162 0 90 (dk_at dksX11_tempted_3 5 rfl rfl)
theorem dX11_tempted_77 : decode cX11_tempted 77 = .ok (.iload 7, 2) := dk_21 7 (dk_at dksX11_tempted_3 8 rfl rfl)
theorem dX11_tempted_79 : decode cX11_tempted 79 = .ok (.iload 8, 2) := dk_21 8 (dk_at dksX11_tempted_3 10 rfl rfl)
theorem dX11_tempted_81 : decode cX11_tempted 81 = .ok (.iload_n 1, 1) := dk_27 (dk_at dksX11_tempted_3 12 rfl rfl)
theorem dX11_tempted_82 : decode cX11_tempted 82 = .ok (.iload_n 2, 1) := dk_28 (dk_at dksX11_tempted_3 13 rfl rfl)
theorem dX11_tempted_83 : decode cX11_tempted 83 = .ok (.invokestatic 381, 3) := dk_184 1 125 (dk_at dksX11_tempted_3 14 rfl rfl)
theorem dX11_tempted_86 : decode cX11_tempted 86 = .ok (.ifCond .eq 72, 3) := dk_153 0 72 (dk_at dksX11_tempted_3 17 rfl rfl)
theorem dX11_tempted_89 : decode cX11_tempted 89 = .ok (.iload 8, 2) := dk_21 8 (dk_at dksX11_tempted_3 20 rfl rfl)
theorem dX11_tempted_91 : decode cX11_tempted 91 = .ok (.iload 7, 2) := dk_21 7 (dk_at dksX11_tempted_3 22 rfl rfl)
theorem dX11_tempted_93 : decode cX11_tempted 93 = .ok (.iload_n 1, 1) := dk_27 (dk_at dksX11_tempted_4 0 rfl rfl)
theorem dX11_tempted_94 : decode cX11_tempted 94 = .ok (.iload_n 2, 1) := dk_28 (dk_at dksX11_tempted_4 1 rfl rfl)
theorem dX11_tempted_95 : decode cX11_tempted 95 = .ok (.invokestatic 381, 3) := dk_184 1 125 (dk_at dksX11_tempted_4 2 rfl rfl)
theorem dX11_tempted_98 : decode cX11_tempted 98 = .ok (.ifCond .ne 6, 3) := dk_154 0 6 (dk_at dksX11_tempted_4 5 rfl rfl)
theorem dX11_tempted_101 : decode cX11_tempted 101 = .ok (.goto 57, 3) := dk_167 0 57 (dk_at dksX11_tempted_4 8 rfl rfl)
theorem dX11_tempted_104 : decode cX11_tempted 104 = .ok (.iload 4, 2) := dk_21 4 (dk_at dksX11_tempted_4 11 rfl rfl)
theorem dX11_tempted_106 : decode cX11_tempted 106 = .ok (.ifCond .ne 25, 3) := dk_154 0 25 (dk_at dksX11_tempted_4 13 rfl rfl)
theorem dX11_tempted_109 : decode cX11_tempted 109 = .ok (.iload 7, 2) := dk_21 7 (dk_at dksX11_tempted_4 16 rfl rfl)
theorem dX11_tempted_111 : decode cX11_tempted 111 = .ok (.iload 8, 2) := dk_21 8 (dk_at dksX11_tempted_4 18 rfl rfl)
theorem dX11_tempted_113 : decode cX11_tempted 113 = .ok (.iload_n 1, 1) := dk_27 (dk_at dksX11_tempted_4 20 rfl rfl)
theorem dX11_tempted_114 : decode cX11_tempted 114 = .ok (.iload_n 2, 1) := dk_28 (dk_at dksX11_tempted_4 21 rfl rfl)
theorem dX11_tempted_115 : decode cX11_tempted 115 = .ok (.invokestatic 377, 3) := dk_184 1 121 (dk_at dksX11_tempted_5 0 rfl rfl)
theorem dX11_tempted_118 : decode cX11_tempted 118 = .ok (.iload 8, 2) := dk_21 8 (dk_at dksX11_tempted_5 3 rfl rfl)
theorem dX11_tempted_120 : decode cX11_tempted 120 = .ok (.iload 7, 2) := dk_21 7 (dk_at dksX11_tempted_5 5 rfl rfl)
theorem dX11_tempted_122 : decode cX11_tempted 122 = .ok (.iload_n 1, 1) := dk_27 (dk_at dksX11_tempted_5 7 rfl rfl)
theorem dX11_tempted_123 : decode cX11_tempted 123 = .ok (.iload_n 2, 1) := dk_28 (dk_at dksX11_tempted_5 8 rfl rfl)
theorem dX11_tempted_124 : decode cX11_tempted 124 = .ok (.invokestatic 377, 3) := dk_184 1 121 (dk_at dksX11_tempted_5 9 rfl rfl)
theorem dX11_tempted_127 : decode cX11_tempted 127 = .ok (.iadd, 1) := dk_96 (dk_at dksX11_tempted_5 12 rfl rfl)
theorem dX11_tempted_128 : decode cX11_tempted 128 = .ok (.goto 5, 3) := dk_167 0 5 (dk_at dksX11_tempted_5 13 rfl rfl)
theorem dX11_tempted_131 : decode cX11_tempted 131 = .ok (.iload 6, 2) := dk_21 6 (dk_at dksX11_tempted_5 16 rfl rfl)
theorem dX11_tempted_133 : decode cX11_tempted 133 = .ok (.istore 6, 2) := dk_54 6 (dk_at dksX11_tempted_5 18 rfl rfl)
theorem dX11_tempted_135 : decode cX11_tempted 135 = .ok (.iload 4, 2) := dk_21 4 (dk_at dksX11_tempted_5 20 rfl rfl)
theorem dX11_tempted_137 : decode cX11_tempted 137 = .ok (.ifCond .ne 14, 3) := dk_154 0 14 (dk_at dksX11_tempted_6 0 rfl rfl)
theorem dX11_tempted_140 : decode cX11_tempted 140 = .ok (.bipush 10, 2) := dk_16 10 (dk_at dksX11_tempted_6 3 rfl rfl)
theorem dX11_tempted_142 : decode cX11_tempted 142 = .ok (.iload 7, 2) := dk_21 7 (dk_at dksX11_tempted_6 5 rfl rfl)
theorem dX11_tempted_144 : decode cX11_tempted 144 = .ok (.imul, 1) := dk_104 (dk_at dksX11_tempted_6 7 rfl rfl)
theorem dX11_tempted_145 : decode cX11_tempted 145 = .ok (.iload 8, 2) := dk_21 8 (dk_at dksX11_tempted_6 8 rfl rfl)
theorem dX11_tempted_147 : decode cX11_tempted 147 = .ok (.iadd, 1) := dk_96 (dk_at dksX11_tempted_6 10 rfl rfl)
theorem dX11_tempted_148 : decode cX11_tempted 148 = .ok (.goto 5, 3) := dk_167 0 5 (dk_at dksX11_tempted_6 11 rfl rfl)
theorem dX11_tempted_151 : decode cX11_tempted 151 = .ok (.iload 5, 2) := dk_21 5 (dk_at dksX11_tempted_6 14 rfl rfl)
theorem dX11_tempted_153 : decode cX11_tempted 153 = .ok (.istore 5, 2) := dk_54 5 (dk_at dksX11_tempted_6 16 rfl rfl)
theorem dX11_tempted_155 : decode cX11_tempted 155 = .ok (.iinc 4 1, 3) := dk_132 4 1 (dk_at dksX11_tempted_6 18 rfl rfl)
theorem dX11_tempted_158 : decode cX11_tempted 158 = .ok (.iinc 8 1, 3) := dk_132 8 1 (dk_at dksX11_tempted_6 21 rfl rfl)
theorem dX11_tempted_161 : decode cX11_tempted 161 = .ok (.goto (-90), 3) := dk_167 255 166 (dk_at dksX11_tempted_7 0 rfl rfl)
theorem dX11_tempted_164 : decode cX11_tempted 164 = .ok (.iinc 7 1, 3) := dk_132 7 1 (dk_at dksX11_tempted_7 3 rfl rfl)
theorem dX11_tempted_167 : decode cX11_tempted 167 = .ok (.goto (-105), 3) := dk_167 255 151 (dk_at dksX11_tempted_7 6 rfl rfl)
theorem dX11_tempted_170 : decode cX11_tempted 170 = .ok (.iload_n 3, 1) := dk_29 (dk_at dksX11_tempted_7 9 rfl rfl)
theorem dX11_tempted_171 : decode cX11_tempted 171 = .ok (.ifCond .ne 8, 3) := dk_154 0 8 (dk_at dksX11_tempted_7 10 rfl rfl)
theorem dX11_tempted_174 : decode cX11_tempted 174 = .ok (.iload 4, 2) := dk_21 4 (dk_at dksX11_tempted_7 13 rfl rfl)
theorem dX11_tempted_176 : decode cX11_tempted 176 = .ok (.goto 15, 3) := dk_167 0 15 (dk_at dksX11_tempted_7 15 rfl rfl)
theorem dX11_tempted_179 : decode cX11_tempted 179 = .ok (.iload_n 3, 1) := dk_29 (dk_at dksX11_tempted_7 18 rfl rfl)
theorem dX11_tempted_180 : decode cX11_tempted 180 = .ok (.iconst 1, 1) := dk_4 (dk_at dksX11_tempted_7 19 rfl rfl)
theorem dX11_tempted_181 : decode cX11_tempted 181 = .ok (.if_icmp .ne 8, 3) := dk_160 0 8 (dk_at dksX11_tempted_7 20 rfl rfl)
theorem dX11_tempted_184 : decode cX11_tempted 184 = .ok (.iload 5, 2) := dk_21 5 (dk_at dksX11_tempted_8 0 rfl rfl)
theorem dX11_tempted_186 : decode cX11_tempted 186 = .ok (.goto 5, 3) := dk_167 0 5 (dk_at dksX11_tempted_8 2 rfl rfl)
theorem dX11_tempted_189 : decode cX11_tempted 189 = .ok (.iload 6, 2) := dk_21 6 (dk_at dksX11_tempted_8 5 rfl rfl)
theorem dX11_tempted_191 : decode cX11_tempted 191 = .ok (.ireturn, 1) := dk_172 (dk_at dksX11_tempted_8 7 rfl rfl)
def dkwX11_isBest_1 : List UInt8 := [172]
abbrev dktX11_isBest_1 : List UInt8 := dkwX11_isBest_1 ++ []
def dkwX11_isBest_0 : List UInt8 := [26, 27, 28, 29, 184, 1, 121, 4, 26, 100, 27, 28, 29, 184, 1, 121, 161, 0, 7, 4, 167, 0, 4, 3]
abbrev dktX11_isBest_0 : List UInt8 := dkwX11_isBest_0 ++ dktX11_isBest_1
theorem dksX11_isBest_0 : cX11_isBest.data.toList.drop 0 = dktX11_isBest_0 := by decide +kernel
theorem dksX11_isBest_1 : cX11_isBest.data.toList.drop 24 = dktX11_isBest_1 := dk_seg dksX11_isBest_0 24 rfl rfl
theorem dX11_isBest_0 : decode cX11_isBest 0 = .ok (.iload_n 0, 1) := dk_26 (dk_at dksX11_isBest_0 0 rfl rfl)
theorem dX11_isBest_1 : decode cX11_isBest 1 = .ok (.iload_n 1, 1) := dk_27 (dk_at dksX11_isBest_0 1 rfl rfl)
theorem dX11_isBest_2 : decode cX11_isBest 2 = .ok (.iload_n 2, 1) := dk_28 (dk_at dksX11_isBest_0 2 rfl rfl)
theorem dX11_isBest_3 : decode cX11_isBest 3 = .ok (.iload_n 3, 1) := dk_29 (dk_at dksX11_isBest_0 3 rfl rfl)
theorem dX11_isBest_4 : decode cX11_isBest 4 = .ok (.invokestatic 377, 3) := dk_184 1 121 (dk_at dksX11_isBest_0 4 rfl rfl)
theorem dX11_isBest_7 : decode cX11_isBest 7 = .ok (.iconst 1, 1) := dk_4 (dk_at dksX11_isBest_0 7 rfl rfl)
theorem dX11_isBest_8 : decode cX11_isBest 8 = .ok (.iload_n 0, 1) := dk_26 (dk_at dksX11_isBest_0 8 rfl rfl)
theorem dX11_isBest_9 : decode cX11_isBest 9 = .ok (.isub, 1) := dk_100 (dk_at dksX11_isBest_0 9 rfl rfl)
theorem dX11_isBest_10 : decode cX11_isBest 10 = .ok (.iload_n 1, 1) := dk_27 (dk_at dksX11_isBest_0 10 rfl rfl)
theorem dX11_isBest_11 : decode cX11_isBest 11 = .ok (.iload_n 2, 1) := dk_28 (dk_at dksX11_isBest_0 11 rfl rfl)
theorem dX11_isBest_12 : decode cX11_isBest 12 = .ok (.iload_n 3, 1) := dk_29 (dk_at dksX11_isBest_0 12 rfl rfl)
theorem dX11_isBest_13 : decode cX11_isBest 13 = .ok (.invokestatic 377, 3) := dk_184 1 121 (dk_at dksX11_isBest_0 13 rfl rfl)
theorem dX11_isBest_16 : decode cX11_isBest 16 = .ok (.if_icmp .lt 7, 3) := dk_161 0 7 (dk_at dksX11_isBest_0 16 rfl rfl)
theorem dX11_isBest_19 : decode cX11_isBest 19 = .ok (.iconst 1, 1) := dk_4 (dk_at dksX11_isBest_0 19 rfl rfl)
theorem dX11_isBest_20 : decode cX11_isBest 20 = .ok (.goto 4, 3) := dk_167 0 4 (dk_at dksX11_isBest_0 20 rfl rfl)
theorem dX11_isBest_23 : decode cX11_isBest 23 = .ok (.iconst 0, 1) := dk_3 (dk_at dksX11_isBest_0 23 rfl rfl)
theorem dX11_isBest_24 : decode cX11_isBest 24 = .ok (.ireturn, 1) := dk_172 (dk_at dksX11_isBest_1 0 rfl rfl)
def dkwX11_hasBy_1 : List UInt8 := [3, 172]
abbrev dktX11_hasBy_1 : List UInt8 := dkwX11_hasBy_1 ++ []
def dkwX11_hasBy_0 : List UInt8 := [26, 154, 0, 15, 27, 154, 0, 7, 28, 167, 0, 16, 2, 167, 0, 12, 27, 154, 0, 7, 29, 167, 0, 4]
abbrev dktX11_hasBy_0 : List UInt8 := dkwX11_hasBy_0 ++ dktX11_hasBy_1
theorem dksX11_hasBy_0 : cX11_hasBy.data.toList.drop 0 = dktX11_hasBy_0 := by decide +kernel
theorem dksX11_hasBy_1 : cX11_hasBy.data.toList.drop 24 = dktX11_hasBy_1 := dk_seg dksX11_hasBy_0 24 rfl rfl
theorem dX11_hasBy_0 : decode cX11_hasBy 0 = .ok (.iload_n 0, 1) := dk_26 (dk_at dksX11_hasBy_0 0 rfl rfl)
theorem dX11_hasBy_1 : decode cX11_hasBy 1 = .ok (.ifCond .ne 15, 3) := dk_154 0 15 (dk_at dksX11_hasBy_0 1 rfl rfl)
theorem dX11_hasBy_4 : decode cX11_hasBy 4 = .ok (.iload_n 1, 1) := dk_27 (dk_at dksX11_hasBy_0 4 rfl rfl)
theorem dX11_hasBy_5 : decode cX11_hasBy 5 = .ok (.ifCond .ne 7, 3) := dk_154 0 7 (dk_at dksX11_hasBy_0 5 rfl rfl)
theorem dX11_hasBy_8 : decode cX11_hasBy 8 = .ok (.iload_n 2, 1) := dk_28 (dk_at dksX11_hasBy_0 8 rfl rfl)
theorem dX11_hasBy_9 : decode cX11_hasBy 9 = .ok (.goto 16, 3) := dk_167 0 16 (dk_at dksX11_hasBy_0 9 rfl rfl)
theorem dX11_hasBy_12 : decode cX11_hasBy 12 = .ok (.iconst (-1), 1) := dk_2 (dk_at dksX11_hasBy_0 12 rfl rfl)
theorem dX11_hasBy_13 : decode cX11_hasBy 13 = .ok (.goto 12, 3) := dk_167 0 12 (dk_at dksX11_hasBy_0 13 rfl rfl)
theorem dX11_hasBy_16 : decode cX11_hasBy 16 = .ok (.iload_n 1, 1) := dk_27 (dk_at dksX11_hasBy_0 16 rfl rfl)
theorem dX11_hasBy_17 : decode cX11_hasBy 17 = .ok (.ifCond .ne 7, 3) := dk_154 0 7 (dk_at dksX11_hasBy_0 17 rfl rfl)
theorem dX11_hasBy_20 : decode cX11_hasBy 20 = .ok (.iload_n 3, 1) := dk_29 (dk_at dksX11_hasBy_0 20 rfl rfl)
theorem dX11_hasBy_21 : decode cX11_hasBy 21 = .ok (.goto 4, 3) := dk_167 0 4 (dk_at dksX11_hasBy_0 21 rfl rfl)
theorem dX11_hasBy_24 : decode cX11_hasBy 24 = .ok (.iconst 0, 1) := dk_3 (dk_at dksX11_hasBy_1 0 rfl rfl)
theorem dX11_hasBy_25 : decode cX11_hasBy 25 = .ok (.ireturn, 1) := dk_172 (dk_at dksX11_hasBy_1 1 rfl rfl)
def dkwX11_alms_5 : List UInt8 := [184, 0, 245, 167, 0, 4, 3, 172]
abbrev dktX11_alms_5 : List UInt8 := dkwX11_alms_5 ++ []
def dkwX11_alms_4 : List UInt8 := [132, 4, 1, 167, 255, 233, 28, 27, 184, 1, 7, 153, 0, 19, 21, 4, 42, 180, 0, 49, 27, 50, 4, 46]
abbrev dktX11_alms_4 : List UInt8 := dkwX11_alms_4 ++ dktX11_alms_5
def dkwX11_alms_3 : List UInt8 := [3, 54, 4, 21, 4, 16, 99, 162, 0, 22, 42, 28, 21, 4, 4, 96, 182, 1, 129, 29, 163, 0, 9]
abbrev dktX11_alms_3 : List UInt8 := dkwX11_alms_3 ++ dktX11_alms_4
def dkwX11_alms_2 : List UInt8 := [17, 3, 231, 184, 0, 137, 154, 0, 7, 4, 167, 0, 4, 3, 5, 4, 182, 0, 183, 153, 0, 5, 3, 172]
abbrev dktX11_alms_2 : List UInt8 := dkwX11_alms_2 ++ dktX11_alms_3
def dkwX11_alms_1 : List UInt8 := [154, 0, 46, 42, 28, 3, 4, 42, 180, 0, 23, 5, 46, 120, 4, 100, 184, 0, 137, 153, 0, 14, 29, 3]
abbrev dktX11_alms_1 : List UInt8 := dkwX11_alms_1 ++ dktX11_alms_2
def dkwX11_alms_0 : List UInt8 := [42, 3, 181, 0, 103, 42, 42, 27, 182, 1, 86, 154, 0, 7, 4, 167, 0, 4, 3, 4, 3, 182, 0, 183]
abbrev dktX11_alms_0 : List UInt8 := dkwX11_alms_0 ++ dktX11_alms_1
theorem dksX11_alms_0 : cX11_alms.data.toList.drop 0 = dktX11_alms_0 := by decide +kernel
theorem dksX11_alms_1 : cX11_alms.data.toList.drop 24 = dktX11_alms_1 := dk_seg dksX11_alms_0 24 rfl rfl
theorem dksX11_alms_2 : cX11_alms.data.toList.drop 48 = dktX11_alms_2 := dk_seg dksX11_alms_1 24 rfl rfl
theorem dksX11_alms_3 : cX11_alms.data.toList.drop 72 = dktX11_alms_3 := dk_seg dksX11_alms_2 24 rfl rfl
theorem dksX11_alms_4 : cX11_alms.data.toList.drop 95 = dktX11_alms_4 := dk_seg dksX11_alms_3 23 rfl rfl
theorem dksX11_alms_5 : cX11_alms.data.toList.drop 119 = dktX11_alms_5 := dk_seg dksX11_alms_4 24 rfl rfl
theorem dX11_alms_0 : decode cX11_alms 0 = .ok (.aload_n 0, 1) := dk_42 (dk_at dksX11_alms_0 0 rfl rfl)
theorem dX11_alms_1 : decode cX11_alms 1 = .ok (.iconst 0, 1) := dk_3 (dk_at dksX11_alms_0 1 rfl rfl)
theorem dX11_alms_2 : decode cX11_alms 2 = .ok (.putfield 103, 3) := dk_181 0 103 (dk_at dksX11_alms_0 2 rfl rfl)
theorem dX11_alms_5 : decode cX11_alms 5 = .ok (.aload_n 0, 1) := dk_42 (dk_at dksX11_alms_0 5 rfl rfl)
theorem dX11_alms_6 : decode cX11_alms 6 = .ok (.aload_n 0, 1) := dk_42 (dk_at dksX11_alms_0 6 rfl rfl)
theorem dX11_alms_7 : decode cX11_alms 7 = .ok (.iload_n 1, 1) := dk_27 (dk_at dksX11_alms_0 7 rfl rfl)
theorem dX11_alms_8 : decode cX11_alms 8 = .ok (.invokevirtual 342, 3) := dk_182 1 86 (dk_at dksX11_alms_0 8 rfl rfl)
theorem dX11_alms_11 : decode cX11_alms 11 = .ok (.ifCond .ne 7, 3) := dk_154 0 7 (dk_at dksX11_alms_0 11 rfl rfl)
theorem dX11_alms_14 : decode cX11_alms 14 = .ok (.iconst 1, 1) := dk_4 (dk_at dksX11_alms_0 14 rfl rfl)
theorem dX11_alms_15 : decode cX11_alms 15 = .ok (.goto 4, 3) := dk_167 0 4 (dk_at dksX11_alms_0 15 rfl rfl)
theorem dX11_alms_18 : decode cX11_alms 18 = .ok (.iconst 0, 1) := dk_3 (dk_at dksX11_alms_0 18 rfl rfl)
theorem dX11_alms_19 : decode cX11_alms 19 = .ok (.iconst 1, 1) := dk_4 (dk_at dksX11_alms_0 19 rfl rfl)
theorem dX11_alms_20 : decode cX11_alms 20 = .ok (.iconst 0, 1) := dk_3 (dk_at dksX11_alms_0 20 rfl rfl)
theorem dX11_alms_21 : decode cX11_alms 21 = .ok (.invokevirtual 183, 3) := dk_182 0 183 (dk_at dksX11_alms_0 21 rfl rfl)
theorem dX11_alms_24 : decode cX11_alms 24 = .ok (.ifCond .ne 46, 3) := dk_154 0 46 (dk_at dksX11_alms_1 0 rfl rfl)
theorem dX11_alms_27 : decode cX11_alms 27 = .ok (.aload_n 0, 1) := dk_42 (dk_at dksX11_alms_1 3 rfl rfl)
theorem dX11_alms_28 : decode cX11_alms 28 = .ok (.iload_n 2, 1) := dk_28 (dk_at dksX11_alms_1 4 rfl rfl)
theorem dX11_alms_29 : decode cX11_alms 29 = .ok (.iconst 0, 1) := dk_3 (dk_at dksX11_alms_1 5 rfl rfl)
theorem dX11_alms_30 : decode cX11_alms 30 = .ok (.iconst 1, 1) := dk_4 (dk_at dksX11_alms_1 6 rfl rfl)
theorem dX11_alms_31 : decode cX11_alms 31 = .ok (.aload_n 0, 1) := dk_42 (dk_at dksX11_alms_1 7 rfl rfl)
theorem dX11_alms_32 : decode cX11_alms 32 = .ok (.getfield 23, 3) := dk_180 0 23 (dk_at dksX11_alms_1 8 rfl rfl)
theorem dX11_alms_35 : decode cX11_alms 35 = .ok (.iconst 2, 1) := dk_5 (dk_at dksX11_alms_1 11 rfl rfl)
theorem dX11_alms_36 : decode cX11_alms 36 = .ok (.iaload, 1) := dk_46 (dk_at dksX11_alms_1 12 rfl rfl)
theorem dX11_alms_37 : decode cX11_alms 37 = .ok (.ishl, 1) := dk_120 (dk_at dksX11_alms_1 13 rfl rfl)
theorem dX11_alms_38 : decode cX11_alms 38 = .ok (.iconst 1, 1) := dk_4 (dk_at dksX11_alms_1 14 rfl rfl)
theorem dX11_alms_39 : decode cX11_alms 39 = .ok (.isub, 1) := dk_100 (dk_at dksX11_alms_1 15 rfl rfl)
theorem dX11_alms_40 : decode cX11_alms 40 = .ok (.invokestatic 137, 3) := dk_184 0 137 (dk_at dksX11_alms_1 16 rfl rfl)
theorem dX11_alms_43 : decode cX11_alms 43 = .ok (.ifCond .eq 14, 3) := dk_153 0 14 (dk_at dksX11_alms_1 19 rfl rfl)
theorem dX11_alms_46 : decode cX11_alms 46 = .ok (.iload_n 3, 1) := dk_29 (dk_at dksX11_alms_1 22 rfl rfl)
theorem dX11_alms_47 : decode cX11_alms 47 = .ok (.iconst 0, 1) := dk_3 (dk_at dksX11_alms_1 23 rfl rfl)
theorem dX11_alms_48 : decode cX11_alms 48 = .ok (.sipush 999, 3) := dk_17 3 231 (dk_at dksX11_alms_2 0 rfl rfl)
theorem dX11_alms_51 : decode cX11_alms 51 = .ok (.invokestatic 137, 3) := dk_184 0 137 (dk_at dksX11_alms_2 3 rfl rfl)
theorem dX11_alms_54 : decode cX11_alms 54 = .ok (.ifCond .ne 7, 3) := dk_154 0 7 (dk_at dksX11_alms_2 6 rfl rfl)
theorem dX11_alms_57 : decode cX11_alms 57 = .ok (.iconst 1, 1) := dk_4 (dk_at dksX11_alms_2 9 rfl rfl)
theorem dX11_alms_58 : decode cX11_alms 58 = .ok (.goto 4, 3) := dk_167 0 4 (dk_at dksX11_alms_2 10 rfl rfl)
theorem dX11_alms_61 : decode cX11_alms 61 = .ok (.iconst 0, 1) := dk_3 (dk_at dksX11_alms_2 13 rfl rfl)
theorem dX11_alms_62 : decode cX11_alms 62 = .ok (.iconst 2, 1) := dk_5 (dk_at dksX11_alms_2 14 rfl rfl)
theorem dX11_alms_63 : decode cX11_alms 63 = .ok (.iconst 1, 1) := dk_4 (dk_at dksX11_alms_2 15 rfl rfl)
theorem dX11_alms_64 : decode cX11_alms 64 = .ok (.invokevirtual 183, 3) := dk_182 0 183 (dk_at dksX11_alms_2 16 rfl rfl)
theorem dX11_alms_67 : decode cX11_alms 67 = .ok (.ifCond .eq 5, 3) := dk_153 0 5 (dk_at dksX11_alms_2 19 rfl rfl)
theorem dX11_alms_70 : decode cX11_alms 70 = .ok (.iconst 0, 1) := dk_3 (dk_at dksX11_alms_2 22 rfl rfl)
theorem dX11_alms_71 : decode cX11_alms 71 = .ok (.ireturn, 1) := dk_172 (dk_at dksX11_alms_2 23 rfl rfl)
theorem dX11_alms_72 : decode cX11_alms 72 = .ok (.iconst 0, 1) := dk_3 (dk_at dksX11_alms_3 0 rfl rfl)
theorem dX11_alms_73 : decode cX11_alms 73 = .ok (.istore 4, 2) := dk_54 4 (dk_at dksX11_alms_3 1 rfl rfl)
theorem dX11_alms_75 : decode cX11_alms 75 = .ok (.iload 4, 2) := dk_21 4 (dk_at dksX11_alms_3 3 rfl rfl)
theorem dX11_alms_77 : decode cX11_alms 77 = .ok (.bipush 99, 2) := dk_16 99 (dk_at dksX11_alms_3 5 rfl rfl)
theorem dX11_alms_79 : decode cX11_alms 79 = .ok (.if_icmp .ge 22, 3) := dk_162 0 22 (dk_at dksX11_alms_3 7 rfl rfl)
theorem dX11_alms_82 : decode cX11_alms 82 = .ok (.aload_n 0, 1) := dk_42 (dk_at dksX11_alms_3 10 rfl rfl)
theorem dX11_alms_83 : decode cX11_alms 83 = .ok (.iload_n 2, 1) := dk_28 (dk_at dksX11_alms_3 11 rfl rfl)
theorem dX11_alms_84 : decode cX11_alms 84 = .ok (.iload 4, 2) := dk_21 4 (dk_at dksX11_alms_3 12 rfl rfl)
theorem dX11_alms_86 : decode cX11_alms 86 = .ok (.iconst 1, 1) := dk_4 (dk_at dksX11_alms_3 14 rfl rfl)
theorem dX11_alms_87 : decode cX11_alms 87 = .ok (.iadd, 1) := dk_96 (dk_at dksX11_alms_3 15 rfl rfl)
theorem dX11_alms_88 : decode cX11_alms 88 = .ok (.invokevirtual 385, 3) := dk_182 1 129 (dk_at dksX11_alms_3 16 rfl rfl)
theorem dX11_alms_91 : decode cX11_alms 91 = .ok (.iload_n 3, 1) := dk_29 (dk_at dksX11_alms_3 19 rfl rfl)
theorem dX11_alms_92 : decode cX11_alms 92 = .ok (.if_icmp .gt 9, 3) := dk_163 0 9 (dk_at dksX11_alms_3 20 rfl rfl)
theorem dX11_alms_95 : decode cX11_alms 95 = .ok (.iinc 4 1, 3) := dk_132 4 1 (dk_at dksX11_alms_4 0 rfl rfl)
theorem dX11_alms_98 : decode cX11_alms 98 = .ok (.goto (-23), 3) := dk_167 255 233 (dk_at dksX11_alms_4 3 rfl rfl)
theorem dX11_alms_101 : decode cX11_alms 101 = .ok (.iload_n 2, 1) := dk_28 (dk_at dksX11_alms_4 6 rfl rfl)
theorem dX11_alms_102 : decode cX11_alms 102 = .ok (.iload_n 1, 1) := dk_27 (dk_at dksX11_alms_4 7 rfl rfl)
theorem dX11_alms_103 : decode cX11_alms 103 = .ok (.invokestatic 263, 3) := dk_184 1 7 (dk_at dksX11_alms_4 8 rfl rfl)
theorem dX11_alms_106 : decode cX11_alms 106 = .ok (.ifCond .eq 19, 3) := dk_153 0 19 (dk_at dksX11_alms_4 11 rfl rfl)
theorem dX11_alms_109 : decode cX11_alms 109 = .ok (.iload 4, 2) := dk_21 4 (dk_at dksX11_alms_4 14 rfl rfl)
theorem dX11_alms_111 : decode cX11_alms 111 = .ok (.aload_n 0, 1) := dk_42 (dk_at dksX11_alms_4 16 rfl rfl)
theorem dX11_alms_112 : decode cX11_alms 112 = .ok (.getfield 49, 3) := dk_180 0 49 (dk_at dksX11_alms_4 17 rfl rfl)
theorem dX11_alms_115 : decode cX11_alms 115 = .ok (.iload_n 1, 1) := dk_27 (dk_at dksX11_alms_4 20 rfl rfl)
theorem dX11_alms_116 : decode cX11_alms 116 = .ok (.aaload, 1) := dk_50 (dk_at dksX11_alms_4 21 rfl rfl)
theorem dX11_alms_117 : decode cX11_alms 117 = .ok (.iconst 1, 1) := dk_4 (dk_at dksX11_alms_4 22 rfl rfl)
theorem dX11_alms_118 : decode cX11_alms 118 = .ok (.iaload, 1) := dk_46 (dk_at dksX11_alms_4 23 rfl rfl)
theorem dX11_alms_119 : decode cX11_alms 119 = .ok (.invokestatic 245, 3) := dk_184 0 245 (dk_at dksX11_alms_5 0 rfl rfl)
theorem dX11_alms_122 : decode cX11_alms 122 = .ok (.goto 4, 3) := dk_167 0 4 (dk_at dksX11_alms_5 3 rfl rfl)
theorem dX11_alms_125 : decode cX11_alms 125 = .ok (.iconst 0, 1) := dk_3 (dk_at dksX11_alms_5 6 rfl rfl)
theorem dX11_alms_126 : decode cX11_alms 126 = .ok (.ireturn, 1) := dk_172 (dk_at dksX11_alms_5 7 rfl rfl)
def dkwX11_givenBy_2 : List UInt8 := [132, 4, 1, 167, 255, 213, 29, 172]
abbrev dktX11_givenBy_2 : List UInt8 := dkwX11_givenBy_2 ++ []
def dkwX11_givenBy_1 : List UInt8 := [153, 0, 19, 28, 42, 180, 0, 49, 21, 4, 50, 4, 46, 184, 0, 245, 167, 0, 4, 3, 96, 62]
abbrev dktX11_givenBy_1 : List UInt8 := dkwX11_givenBy_1 ++ dktX11_givenBy_2
def dkwX11_givenBy_0 : List UInt8 := [3, 62, 3, 54, 4, 21, 4, 42, 180, 0, 23, 5, 46, 162, 0, 38, 29, 27, 21, 4, 184, 1, 7]
abbrev dktX11_givenBy_0 : List UInt8 := dkwX11_givenBy_0 ++ dktX11_givenBy_1
theorem dksX11_givenBy_0 : cX11_givenBy.data.toList.drop 0 = dktX11_givenBy_0 := by decide +kernel
theorem dksX11_givenBy_1 : cX11_givenBy.data.toList.drop 23 = dktX11_givenBy_1 := dk_seg dksX11_givenBy_0 23 rfl rfl
theorem dksX11_givenBy_2 : cX11_givenBy.data.toList.drop 45 = dktX11_givenBy_2 := dk_seg dksX11_givenBy_1 22 rfl rfl
theorem dX11_givenBy_0 : decode cX11_givenBy 0 = .ok (.iconst 0, 1) := dk_3 (dk_at dksX11_givenBy_0 0 rfl rfl)
theorem dX11_givenBy_1 : decode cX11_givenBy 1 = .ok (.istore_n 3, 1) := dk_62 (dk_at dksX11_givenBy_0 1 rfl rfl)
theorem dX11_givenBy_2 : decode cX11_givenBy 2 = .ok (.iconst 0, 1) := dk_3 (dk_at dksX11_givenBy_0 2 rfl rfl)
theorem dX11_givenBy_3 : decode cX11_givenBy 3 = .ok (.istore 4, 2) := dk_54 4 (dk_at dksX11_givenBy_0 3 rfl rfl)
theorem dX11_givenBy_5 : decode cX11_givenBy 5 = .ok (.iload 4, 2) := dk_21 4 (dk_at dksX11_givenBy_0 5 rfl rfl)
theorem dX11_givenBy_7 : decode cX11_givenBy 7 = .ok (.aload_n 0, 1) := dk_42 (dk_at dksX11_givenBy_0 7 rfl rfl)
theorem dX11_givenBy_8 : decode cX11_givenBy 8 = .ok (.getfield 23, 3) := dk_180 0 23 (dk_at dksX11_givenBy_0 8 rfl rfl)
theorem dX11_givenBy_11 : decode cX11_givenBy 11 = .ok (.iconst 2, 1) := dk_5 (dk_at dksX11_givenBy_0 11 rfl rfl)
theorem dX11_givenBy_12 : decode cX11_givenBy 12 = .ok (.iaload, 1) := dk_46 (dk_at dksX11_givenBy_0 12 rfl rfl)
theorem dX11_givenBy_13 : decode cX11_givenBy 13 = .ok (.if_icmp .ge 38, 3) := dk_162 0 38 (dk_at dksX11_givenBy_0 13 rfl rfl)
theorem dX11_givenBy_16 : decode cX11_givenBy 16 = .ok (.iload_n 3, 1) := dk_29 (dk_at dksX11_givenBy_0 16 rfl rfl)
theorem dX11_givenBy_17 : decode cX11_givenBy 17 = .ok (.iload_n 1, 1) := dk_27 (dk_at dksX11_givenBy_0 17 rfl rfl)
theorem dX11_givenBy_18 : decode cX11_givenBy 18 = .ok (.iload 4, 2) := dk_21 4 (dk_at dksX11_givenBy_0 18 rfl rfl)
theorem dX11_givenBy_20 : decode cX11_givenBy 20 = .ok (.invokestatic 263, 3) := dk_184 1 7 (dk_at dksX11_givenBy_0 20 rfl rfl)
theorem dX11_givenBy_23 : decode cX11_givenBy 23 = .ok (.ifCond .eq 19, 3) := dk_153 0 19 (dk_at dksX11_givenBy_1 0 rfl rfl)
theorem dX11_givenBy_26 : decode cX11_givenBy 26 = .ok (.iload_n 2, 1) := dk_28 (dk_at dksX11_givenBy_1 3 rfl rfl)
theorem dX11_givenBy_27 : decode cX11_givenBy 27 = .ok (.aload_n 0, 1) := dk_42 (dk_at dksX11_givenBy_1 4 rfl rfl)
theorem dX11_givenBy_28 : decode cX11_givenBy 28 = .ok (.getfield 49, 3) := dk_180 0 49 (dk_at dksX11_givenBy_1 5 rfl rfl)
theorem dX11_givenBy_31 : decode cX11_givenBy 31 = .ok (.iload 4, 2) := dk_21 4 (dk_at dksX11_givenBy_1 8 rfl rfl)
theorem dX11_givenBy_33 : decode cX11_givenBy 33 = .ok (.aaload, 1) := dk_50 (dk_at dksX11_givenBy_1 10 rfl rfl)
theorem dX11_givenBy_34 : decode cX11_givenBy 34 = .ok (.iconst 1, 1) := dk_4 (dk_at dksX11_givenBy_1 11 rfl rfl)
theorem dX11_givenBy_35 : decode cX11_givenBy 35 = .ok (.iaload, 1) := dk_46 (dk_at dksX11_givenBy_1 12 rfl rfl)
theorem dX11_givenBy_36 : decode cX11_givenBy 36 = .ok (.invokestatic 245, 3) := dk_184 0 245 (dk_at dksX11_givenBy_1 13 rfl rfl)
theorem dX11_givenBy_39 : decode cX11_givenBy 39 = .ok (.goto 4, 3) := dk_167 0 4 (dk_at dksX11_givenBy_1 16 rfl rfl)
theorem dX11_givenBy_42 : decode cX11_givenBy 42 = .ok (.iconst 0, 1) := dk_3 (dk_at dksX11_givenBy_1 19 rfl rfl)
theorem dX11_givenBy_43 : decode cX11_givenBy 43 = .ok (.iadd, 1) := dk_96 (dk_at dksX11_givenBy_1 20 rfl rfl)
theorem dX11_givenBy_44 : decode cX11_givenBy 44 = .ok (.istore_n 3, 1) := dk_62 (dk_at dksX11_givenBy_1 21 rfl rfl)
theorem dX11_givenBy_45 : decode cX11_givenBy 45 = .ok (.iinc 4 1, 3) := dk_132 4 1 (dk_at dksX11_givenBy_2 0 rfl rfl)
theorem dX11_givenBy_48 : decode cX11_givenBy 48 = .ok (.goto (-43), 3) := dk_167 255 213 (dk_at dksX11_givenBy_2 3 rfl rfl)
theorem dX11_givenBy_51 : decode cX11_givenBy 51 = .ok (.iload_n 3, 1) := dk_29 (dk_at dksX11_givenBy_2 6 rfl rfl)
theorem dX11_givenBy_52 : decode cX11_givenBy 52 = .ok (.ireturn, 1) := dk_172 (dk_at dksX11_givenBy_2 7 rfl rfl)
def dkwX11_strongest_4 : List UInt8 := [132, 4, 1, 167, 255, 199, 27, 154, 0, 7, 28, 167, 0, 4, 29, 172]
abbrev dktX11_strongest_4 : List UInt8 := dkwX11_strongest_4 ++ []
def dkwX11_strongest_3 : List UInt8 := [182, 1, 33, 29, 163, 0, 6, 167, 0, 17, 21, 4, 61, 42, 42, 180, 0, 73, 21, 4, 182, 1, 33, 62]
abbrev dktX11_strongest_3 : List UInt8 := dkwX11_strongest_3 ++ dktX11_strongest_4
def dkwX11_strongest_2 : List UInt8 := [162, 0, 52, 42, 180, 0, 73, 21, 4, 184, 1, 11, 153, 0, 34, 42, 42, 180, 0, 73, 21, 4]
abbrev dktX11_strongest_2 : List UInt8 := dkwX11_strongest_2 ++ dktX11_strongest_3
def dkwX11_strongest_1 : List UInt8 := [182, 0, 183, 153, 0, 5, 3, 172, 2, 61, 2, 62, 3, 54, 4, 21, 4, 42, 180, 0, 23, 4, 46]
abbrev dktX11_strongest_1 : List UInt8 := dkwX11_strongest_1 ++ dktX11_strongest_2
def dkwX11_strongest_0 : List UInt8 := [42, 3, 181, 0, 103, 42, 27, 3, 4, 184, 0, 137, 154, 0, 7, 4, 167, 0, 4, 3, 4, 4]
abbrev dktX11_strongest_0 : List UInt8 := dkwX11_strongest_0 ++ dktX11_strongest_1
theorem dksX11_strongest_0 : cX11_strongest.data.toList.drop 0 = dktX11_strongest_0 := by decide +kernel
theorem dksX11_strongest_1 : cX11_strongest.data.toList.drop 22 = dktX11_strongest_1 := dk_seg dksX11_strongest_0 22 rfl rfl
theorem dksX11_strongest_2 : cX11_strongest.data.toList.drop 45 = dktX11_strongest_2 := dk_seg dksX11_strongest_1 23 rfl rfl
theorem dksX11_strongest_3 : cX11_strongest.data.toList.drop 67 = dktX11_strongest_3 := dk_seg dksX11_strongest_2 22 rfl rfl
theorem dksX11_strongest_4 : cX11_strongest.data.toList.drop 91 = dktX11_strongest_4 := dk_seg dksX11_strongest_3 24 rfl rfl
theorem dX11_strongest_0 : decode cX11_strongest 0 = .ok (.aload_n 0, 1) := dk_42 (dk_at dksX11_strongest_0 0 rfl rfl)
theorem dX11_strongest_1 : decode cX11_strongest 1 = .ok (.iconst 0, 1) := dk_3 (dk_at dksX11_strongest_0 1 rfl rfl)
theorem dX11_strongest_2 : decode cX11_strongest 2 = .ok (.putfield 103, 3) := dk_181 0 103 (dk_at dksX11_strongest_0 2 rfl rfl)
theorem dX11_strongest_5 : decode cX11_strongest 5 = .ok (.aload_n 0, 1) := dk_42 (dk_at dksX11_strongest_0 5 rfl rfl)
theorem dX11_strongest_6 : decode cX11_strongest 6 = .ok (.iload_n 1, 1) := dk_27 (dk_at dksX11_strongest_0 6 rfl rfl)
theorem dX11_strongest_7 : decode cX11_strongest 7 = .ok (.iconst 0, 1) := dk_3 (dk_at dksX11_strongest_0 7 rfl rfl)
theorem dX11_strongest_8 : decode cX11_strongest 8 = .ok (.iconst 1, 1) := dk_4 (dk_at dksX11_strongest_0 8 rfl rfl)
theorem dX11_strongest_9 : decode cX11_strongest 9 = .ok (.invokestatic 137, 3) := dk_184 0 137 (dk_at dksX11_strongest_0 9 rfl rfl)
theorem dX11_strongest_12 : decode cX11_strongest 12 = .ok (.ifCond .ne 7, 3) := dk_154 0 7 (dk_at dksX11_strongest_0 12 rfl rfl)
theorem dX11_strongest_15 : decode cX11_strongest 15 = .ok (.iconst 1, 1) := dk_4 (dk_at dksX11_strongest_0 15 rfl rfl)
theorem dX11_strongest_16 : decode cX11_strongest 16 = .ok (.goto 4, 3) := dk_167 0 4 (dk_at dksX11_strongest_0 16 rfl rfl)
theorem dX11_strongest_19 : decode cX11_strongest 19 = .ok (.iconst 0, 1) := dk_3 (dk_at dksX11_strongest_0 19 rfl rfl)
theorem dX11_strongest_20 : decode cX11_strongest 20 = .ok (.iconst 1, 1) := dk_4 (dk_at dksX11_strongest_0 20 rfl rfl)
theorem dX11_strongest_21 : decode cX11_strongest 21 = .ok (.iconst 1, 1) := dk_4 (dk_at dksX11_strongest_0 21 rfl rfl)
theorem dX11_strongest_22 : decode cX11_strongest 22 = .ok (.invokevirtual 183, 3) := dk_182 0 183 (dk_at dksX11_strongest_1 0 rfl rfl)
theorem dX11_strongest_25 : decode cX11_strongest 25 = .ok (.ifCond .eq 5, 3) := dk_153 0 5 (dk_at dksX11_strongest_1 3 rfl rfl)
theorem dX11_strongest_28 : decode cX11_strongest 28 = .ok (.iconst 0, 1) := dk_3 (dk_at dksX11_strongest_1 6 rfl rfl)
theorem dX11_strongest_29 : decode cX11_strongest 29 = .ok (.ireturn, 1) := dk_172 (dk_at dksX11_strongest_1 7 rfl rfl)
theorem dX11_strongest_30 : decode cX11_strongest 30 = .ok (.iconst (-1), 1) := dk_2 (dk_at dksX11_strongest_1 8 rfl rfl)
theorem dX11_strongest_31 : decode cX11_strongest 31 = .ok (.istore_n 2, 1) := dk_61 (dk_at dksX11_strongest_1 9 rfl rfl)
theorem dX11_strongest_32 : decode cX11_strongest 32 = .ok (.iconst (-1), 1) := dk_2 (dk_at dksX11_strongest_1 10 rfl rfl)
theorem dX11_strongest_33 : decode cX11_strongest 33 = .ok (.istore_n 3, 1) := dk_62 (dk_at dksX11_strongest_1 11 rfl rfl)
theorem dX11_strongest_34 : decode cX11_strongest 34 = .ok (.iconst 0, 1) := dk_3 (dk_at dksX11_strongest_1 12 rfl rfl)
theorem dX11_strongest_35 : decode cX11_strongest 35 = .ok (.istore 4, 2) := dk_54 4 (dk_at dksX11_strongest_1 13 rfl rfl)
theorem dX11_strongest_37 : decode cX11_strongest 37 = .ok (.iload 4, 2) := dk_21 4 (dk_at dksX11_strongest_1 15 rfl rfl)
theorem dX11_strongest_39 : decode cX11_strongest 39 = .ok (.aload_n 0, 1) := dk_42 (dk_at dksX11_strongest_1 17 rfl rfl)
theorem dX11_strongest_40 : decode cX11_strongest 40 = .ok (.getfield 23, 3) := dk_180 0 23 (dk_at dksX11_strongest_1 18 rfl rfl)
theorem dX11_strongest_43 : decode cX11_strongest 43 = .ok (.iconst 1, 1) := dk_4 (dk_at dksX11_strongest_1 21 rfl rfl)
theorem dX11_strongest_44 : decode cX11_strongest 44 = .ok (.iaload, 1) := dk_46 (dk_at dksX11_strongest_1 22 rfl rfl)
theorem dX11_strongest_45 : decode cX11_strongest 45 = .ok (.if_icmp .ge 52, 3) := dk_162 0 52 (dk_at dksX11_strongest_2 0 rfl rfl)
theorem dX11_strongest_48 : decode cX11_strongest 48 = .ok (.aload_n 0, 1) := dk_42 (dk_at dksX11_strongest_2 3 rfl rfl)
theorem dX11_strongest_49 : decode cX11_strongest 49 = .ok (.getfield 73, 3) := dk_180 0 73 (dk_at dksX11_strongest_2 4 rfl rfl)
theorem dX11_strongest_52 : decode cX11_strongest 52 = .ok (.iload 4, 2) := dk_21 4 (dk_at dksX11_strongest_2 7 rfl rfl)
theorem dX11_strongest_54 : decode cX11_strongest 54 = .ok (.invokestatic 267, 3) := dk_184 1 11 (dk_at dksX11_strongest_2 9 rfl rfl)
theorem dX11_strongest_57 : decode cX11_strongest 57 = .ok (.ifCond .eq 34, 3) := dk_153 0 34 (dk_at dksX11_strongest_2 12 rfl rfl)
theorem dX11_strongest_60 : decode cX11_strongest 60 = .ok (.aload_n 0, 1) := dk_42 (dk_at dksX11_strongest_2 15 rfl rfl)
theorem dX11_strongest_61 : decode cX11_strongest 61 = .ok (.aload_n 0, 1) := dk_42 (dk_at dksX11_strongest_2 16 rfl rfl)
theorem dX11_strongest_62 : decode cX11_strongest 62 = .ok (.getfield 73, 3) := dk_180 0 73 (dk_at dksX11_strongest_2 17 rfl rfl)
theorem dX11_strongest_65 : decode cX11_strongest 65 = .ok (.iload 4, 2) := dk_21 4 (dk_at dksX11_strongest_2 20 rfl rfl)
theorem dX11_strongest_67 : decode cX11_strongest 67 = .ok (.invokevirtual 289, 3) := dk_182 1 33 (dk_at dksX11_strongest_3 0 rfl rfl)
theorem dX11_strongest_70 : decode cX11_strongest 70 = .ok (.iload_n 3, 1) := dk_29 (dk_at dksX11_strongest_3 3 rfl rfl)
theorem dX11_strongest_71 : decode cX11_strongest 71 = .ok (.if_icmp .gt 6, 3) := dk_163 0 6 (dk_at dksX11_strongest_3 4 rfl rfl)
theorem dX11_strongest_74 : decode cX11_strongest 74 = .ok (.goto 17, 3) := dk_167 0 17 (dk_at dksX11_strongest_3 7 rfl rfl)
theorem dX11_strongest_77 : decode cX11_strongest 77 = .ok (.iload 4, 2) := dk_21 4 (dk_at dksX11_strongest_3 10 rfl rfl)
theorem dX11_strongest_79 : decode cX11_strongest 79 = .ok (.istore_n 2, 1) := dk_61 (dk_at dksX11_strongest_3 12 rfl rfl)
theorem dX11_strongest_80 : decode cX11_strongest 80 = .ok (.aload_n 0, 1) := dk_42 (dk_at dksX11_strongest_3 13 rfl rfl)
theorem dX11_strongest_81 : decode cX11_strongest 81 = .ok (.aload_n 0, 1) := dk_42 (dk_at dksX11_strongest_3 14 rfl rfl)
theorem dX11_strongest_82 : decode cX11_strongest 82 = .ok (.getfield 73, 3) := dk_180 0 73 (dk_at dksX11_strongest_3 15 rfl rfl)
theorem dX11_strongest_85 : decode cX11_strongest 85 = .ok (.iload 4, 2) := dk_21 4 (dk_at dksX11_strongest_3 18 rfl rfl)
theorem dX11_strongest_87 : decode cX11_strongest 87 = .ok (.invokevirtual 289, 3) := dk_182 1 33 (dk_at dksX11_strongest_3 20 rfl rfl)
theorem dX11_strongest_90 : decode cX11_strongest 90 = .ok (.istore_n 3, 1) := dk_62 (dk_at dksX11_strongest_3 23 rfl rfl)
theorem dX11_strongest_91 : decode cX11_strongest 91 = .ok (.iinc 4 1, 3) := dk_132 4 1 (dk_at dksX11_strongest_4 0 rfl rfl)
theorem dX11_strongest_94 : decode cX11_strongest 94 = .ok (.goto (-57), 3) := dk_167 255 199 (dk_at dksX11_strongest_4 3 rfl rfl)
theorem dX11_strongest_97 : decode cX11_strongest 97 = .ok (.iload_n 1, 1) := dk_27 (dk_at dksX11_strongest_4 6 rfl rfl)
theorem dX11_strongest_98 : decode cX11_strongest 98 = .ok (.ifCond .ne 7, 3) := dk_154 0 7 (dk_at dksX11_strongest_4 7 rfl rfl)
theorem dX11_strongest_101 : decode cX11_strongest 101 = .ok (.iload_n 2, 1) := dk_28 (dk_at dksX11_strongest_4 10 rfl rfl)
theorem dX11_strongest_102 : decode cX11_strongest 102 = .ok (.goto 4, 3) := dk_167 0 4 (dk_at dksX11_strongest_4 11 rfl rfl)
theorem dX11_strongest_105 : decode cX11_strongest 105 = .ok (.iload_n 3, 1) := dk_29 (dk_at dksX11_strongest_4 14 rfl rfl)
theorem dX11_strongest_106 : decode cX11_strongest 106 = .ok (.ireturn, 1) := dk_172 (dk_at dksX11_strongest_4 15 rfl rfl)
def dkwX11_eldest_4 : List UInt8 := [29, 172]
abbrev dktX11_eldest_4 : List UInt8 := dkwX11_eldest_4 ++ []
def dkwX11_eldest_3 : List UInt8 := [180, 0, 73, 16, 16, 21, 4, 96, 46, 62, 132, 4, 1, 167, 255, 211, 27, 154, 0, 7, 28, 167, 0, 4]
abbrev dktX11_eldest_3 : List UInt8 := dkwX11_eldest_3 ++ dktX11_eldest_4
def dkwX11_eldest_2 : List UInt8 := [162, 0, 40, 42, 180, 0, 73, 16, 16, 21, 4, 96, 46, 29, 163, 0, 6, 167, 0, 17, 21, 4, 61, 42]
abbrev dktX11_eldest_2 : List UInt8 := dkwX11_eldest_2 ++ dktX11_eldest_3
def dkwX11_eldest_1 : List UInt8 := [182, 0, 183, 153, 0, 5, 3, 172, 2, 61, 2, 62, 3, 54, 4, 21, 4, 42, 180, 0, 23, 4, 46]
abbrev dktX11_eldest_1 : List UInt8 := dkwX11_eldest_1 ++ dktX11_eldest_2
def dkwX11_eldest_0 : List UInt8 := [42, 3, 181, 0, 103, 42, 27, 3, 4, 184, 0, 137, 154, 0, 7, 4, 167, 0, 4, 3, 4, 4]
abbrev dktX11_eldest_0 : List UInt8 := dkwX11_eldest_0 ++ dktX11_eldest_1
theorem dksX11_eldest_0 : cX11_eldest.data.toList.drop 0 = dktX11_eldest_0 := by decide +kernel
theorem dksX11_eldest_1 : cX11_eldest.data.toList.drop 22 = dktX11_eldest_1 := dk_seg dksX11_eldest_0 22 rfl rfl
theorem dksX11_eldest_2 : cX11_eldest.data.toList.drop 45 = dktX11_eldest_2 := dk_seg dksX11_eldest_1 23 rfl rfl
theorem dksX11_eldest_3 : cX11_eldest.data.toList.drop 69 = dktX11_eldest_3 := dk_seg dksX11_eldest_2 24 rfl rfl
theorem dksX11_eldest_4 : cX11_eldest.data.toList.drop 93 = dktX11_eldest_4 := dk_seg dksX11_eldest_3 24 rfl rfl
theorem dX11_eldest_0 : decode cX11_eldest 0 = .ok (.aload_n 0, 1) := dk_42 (dk_at dksX11_eldest_0 0 rfl rfl)
theorem dX11_eldest_1 : decode cX11_eldest 1 = .ok (.iconst 0, 1) := dk_3 (dk_at dksX11_eldest_0 1 rfl rfl)
theorem dX11_eldest_2 : decode cX11_eldest 2 = .ok (.putfield 103, 3) := dk_181 0 103 (dk_at dksX11_eldest_0 2 rfl rfl)
theorem dX11_eldest_5 : decode cX11_eldest 5 = .ok (.aload_n 0, 1) := dk_42 (dk_at dksX11_eldest_0 5 rfl rfl)
theorem dX11_eldest_6 : decode cX11_eldest 6 = .ok (.iload_n 1, 1) := dk_27 (dk_at dksX11_eldest_0 6 rfl rfl)
theorem dX11_eldest_7 : decode cX11_eldest 7 = .ok (.iconst 0, 1) := dk_3 (dk_at dksX11_eldest_0 7 rfl rfl)
theorem dX11_eldest_8 : decode cX11_eldest 8 = .ok (.iconst 1, 1) := dk_4 (dk_at dksX11_eldest_0 8 rfl rfl)
theorem dX11_eldest_9 : decode cX11_eldest 9 = .ok (.invokestatic 137, 3) := dk_184 0 137 (dk_at dksX11_eldest_0 9 rfl rfl)
theorem dX11_eldest_12 : decode cX11_eldest 12 = .ok (.ifCond .ne 7, 3) := dk_154 0 7 (dk_at dksX11_eldest_0 12 rfl rfl)
theorem dX11_eldest_15 : decode cX11_eldest 15 = .ok (.iconst 1, 1) := dk_4 (dk_at dksX11_eldest_0 15 rfl rfl)
theorem dX11_eldest_16 : decode cX11_eldest 16 = .ok (.goto 4, 3) := dk_167 0 4 (dk_at dksX11_eldest_0 16 rfl rfl)
theorem dX11_eldest_19 : decode cX11_eldest 19 = .ok (.iconst 0, 1) := dk_3 (dk_at dksX11_eldest_0 19 rfl rfl)
theorem dX11_eldest_20 : decode cX11_eldest 20 = .ok (.iconst 1, 1) := dk_4 (dk_at dksX11_eldest_0 20 rfl rfl)
theorem dX11_eldest_21 : decode cX11_eldest 21 = .ok (.iconst 1, 1) := dk_4 (dk_at dksX11_eldest_0 21 rfl rfl)
theorem dX11_eldest_22 : decode cX11_eldest 22 = .ok (.invokevirtual 183, 3) := dk_182 0 183 (dk_at dksX11_eldest_1 0 rfl rfl)
theorem dX11_eldest_25 : decode cX11_eldest 25 = .ok (.ifCond .eq 5, 3) := dk_153 0 5 (dk_at dksX11_eldest_1 3 rfl rfl)
theorem dX11_eldest_28 : decode cX11_eldest 28 = .ok (.iconst 0, 1) := dk_3 (dk_at dksX11_eldest_1 6 rfl rfl)
theorem dX11_eldest_29 : decode cX11_eldest 29 = .ok (.ireturn, 1) := dk_172 (dk_at dksX11_eldest_1 7 rfl rfl)
theorem dX11_eldest_30 : decode cX11_eldest 30 = .ok (.iconst (-1), 1) := dk_2 (dk_at dksX11_eldest_1 8 rfl rfl)
theorem dX11_eldest_31 : decode cX11_eldest 31 = .ok (.istore_n 2, 1) := dk_61 (dk_at dksX11_eldest_1 9 rfl rfl)
theorem dX11_eldest_32 : decode cX11_eldest 32 = .ok (.iconst (-1), 1) := dk_2 (dk_at dksX11_eldest_1 10 rfl rfl)
theorem dX11_eldest_33 : decode cX11_eldest 33 = .ok (.istore_n 3, 1) := dk_62 (dk_at dksX11_eldest_1 11 rfl rfl)
theorem dX11_eldest_34 : decode cX11_eldest 34 = .ok (.iconst 0, 1) := dk_3 (dk_at dksX11_eldest_1 12 rfl rfl)
theorem dX11_eldest_35 : decode cX11_eldest 35 = .ok (.istore 4, 2) := dk_54 4 (dk_at dksX11_eldest_1 13 rfl rfl)
theorem dX11_eldest_37 : decode cX11_eldest 37 = .ok (.iload 4, 2) := dk_21 4 (dk_at dksX11_eldest_1 15 rfl rfl)
theorem dX11_eldest_39 : decode cX11_eldest 39 = .ok (.aload_n 0, 1) := dk_42 (dk_at dksX11_eldest_1 17 rfl rfl)
theorem dX11_eldest_40 : decode cX11_eldest 40 = .ok (.getfield 23, 3) := dk_180 0 23 (dk_at dksX11_eldest_1 18 rfl rfl)
theorem dX11_eldest_43 : decode cX11_eldest 43 = .ok (.iconst 1, 1) := dk_4 (dk_at dksX11_eldest_1 21 rfl rfl)
theorem dX11_eldest_44 : decode cX11_eldest 44 = .ok (.iaload, 1) := dk_46 (dk_at dksX11_eldest_1 22 rfl rfl)
theorem dX11_eldest_45 : decode cX11_eldest 45 = .ok (.if_icmp .ge 40, 3) := dk_162 0 40 (dk_at dksX11_eldest_2 0 rfl rfl)
theorem dX11_eldest_48 : decode cX11_eldest 48 = .ok (.aload_n 0, 1) := dk_42 (dk_at dksX11_eldest_2 3 rfl rfl)
theorem dX11_eldest_49 : decode cX11_eldest 49 = .ok (.getfield 73, 3) := dk_180 0 73 (dk_at dksX11_eldest_2 4 rfl rfl)
theorem dX11_eldest_52 : decode cX11_eldest 52 = .ok (.bipush 16, 2) := dk_16 16 (dk_at dksX11_eldest_2 7 rfl rfl)
theorem dX11_eldest_54 : decode cX11_eldest 54 = .ok (.iload 4, 2) := dk_21 4 (dk_at dksX11_eldest_2 9 rfl rfl)
theorem dX11_eldest_56 : decode cX11_eldest 56 = .ok (.iadd, 1) := dk_96 (dk_at dksX11_eldest_2 11 rfl rfl)
theorem dX11_eldest_57 : decode cX11_eldest 57 = .ok (.iaload, 1) := dk_46 (dk_at dksX11_eldest_2 12 rfl rfl)
theorem dX11_eldest_58 : decode cX11_eldest 58 = .ok (.iload_n 3, 1) := dk_29 (dk_at dksX11_eldest_2 13 rfl rfl)
theorem dX11_eldest_59 : decode cX11_eldest 59 = .ok (.if_icmp .gt 6, 3) := dk_163 0 6 (dk_at dksX11_eldest_2 14 rfl rfl)
theorem dX11_eldest_62 : decode cX11_eldest 62 = .ok (.goto 17, 3) := dk_167 0 17 (dk_at dksX11_eldest_2 17 rfl rfl)
theorem dX11_eldest_65 : decode cX11_eldest 65 = .ok (.iload 4, 2) := dk_21 4 (dk_at dksX11_eldest_2 20 rfl rfl)
theorem dX11_eldest_67 : decode cX11_eldest 67 = .ok (.istore_n 2, 1) := dk_61 (dk_at dksX11_eldest_2 22 rfl rfl)
theorem dX11_eldest_68 : decode cX11_eldest 68 = .ok (.aload_n 0, 1) := dk_42 (dk_at dksX11_eldest_2 23 rfl rfl)
theorem dX11_eldest_69 : decode cX11_eldest 69 = .ok (.getfield 73, 3) := dk_180 0 73 (dk_at dksX11_eldest_3 0 rfl rfl)
theorem dX11_eldest_72 : decode cX11_eldest 72 = .ok (.bipush 16, 2) := dk_16 16 (dk_at dksX11_eldest_3 3 rfl rfl)
theorem dX11_eldest_74 : decode cX11_eldest 74 = .ok (.iload 4, 2) := dk_21 4 (dk_at dksX11_eldest_3 5 rfl rfl)
theorem dX11_eldest_76 : decode cX11_eldest 76 = .ok (.iadd, 1) := dk_96 (dk_at dksX11_eldest_3 7 rfl rfl)
theorem dX11_eldest_77 : decode cX11_eldest 77 = .ok (.iaload, 1) := dk_46 (dk_at dksX11_eldest_3 8 rfl rfl)
theorem dX11_eldest_78 : decode cX11_eldest 78 = .ok (.istore_n 3, 1) := dk_62 (dk_at dksX11_eldest_3 9 rfl rfl)
theorem dX11_eldest_79 : decode cX11_eldest 79 = .ok (.iinc 4 1, 3) := dk_132 4 1 (dk_at dksX11_eldest_3 10 rfl rfl)
theorem dX11_eldest_82 : decode cX11_eldest 82 = .ok (.goto (-45), 3) := dk_167 255 211 (dk_at dksX11_eldest_3 13 rfl rfl)
theorem dX11_eldest_85 : decode cX11_eldest 85 = .ok (.iload_n 1, 1) := dk_27 (dk_at dksX11_eldest_3 16 rfl rfl)
theorem dX11_eldest_86 : decode cX11_eldest 86 = .ok (.ifCond .ne 7, 3) := dk_154 0 7 (dk_at dksX11_eldest_3 17 rfl rfl)
theorem dX11_eldest_89 : decode cX11_eldest 89 = .ok (.iload_n 2, 1) := dk_28 (dk_at dksX11_eldest_3 20 rfl rfl)
theorem dX11_eldest_90 : decode cX11_eldest 90 = .ok (.goto 4, 3) := dk_167 0 4 (dk_at dksX11_eldest_3 21 rfl rfl)
theorem dX11_eldest_93 : decode cX11_eldest 93 = .ok (.iload_n 3, 1) := dk_29 (dk_at dksX11_eldest_4 0 rfl rfl)
theorem dX11_eldest_94 : decode cX11_eldest 94 = .ok (.ireturn, 1) := dk_172 (dk_at dksX11_eldest_4 1 rfl rfl)
def dkwX11_idle_2 : List UInt8 := [167, 0, 4, 3, 128, 60, 132, 2, 1, 167, 255, 210, 27, 172]
abbrev dktX11_idle_2 : List UInt8 := dkwX11_idle_2 ++ []
def dkwX11_idle_1 : List UInt8 := [3, 28, 96, 46, 154, 0, 21, 42, 42, 180, 0, 73, 28, 182, 1, 18, 154, 0, 9, 4, 28, 120]
abbrev dktX11_idle_1 : List UInt8 := dkwX11_idle_1 ++ dktX11_idle_2
def dkwX11_idle_0 : List UInt8 := [42, 3, 181, 0, 103, 3, 60, 3, 61, 28, 42, 180, 0, 23, 3, 46, 162, 0, 42, 27, 42, 180, 0, 73]
abbrev dktX11_idle_0 : List UInt8 := dkwX11_idle_0 ++ dktX11_idle_1
theorem dksX11_idle_0 : cX11_idle.data.toList.drop 0 = dktX11_idle_0 := by decide +kernel
theorem dksX11_idle_1 : cX11_idle.data.toList.drop 24 = dktX11_idle_1 := dk_seg dksX11_idle_0 24 rfl rfl
theorem dksX11_idle_2 : cX11_idle.data.toList.drop 46 = dktX11_idle_2 := dk_seg dksX11_idle_1 22 rfl rfl
theorem dX11_idle_0 : decode cX11_idle 0 = .ok (.aload_n 0, 1) := dk_42 (dk_at dksX11_idle_0 0 rfl rfl)
theorem dX11_idle_1 : decode cX11_idle 1 = .ok (.iconst 0, 1) := dk_3 (dk_at dksX11_idle_0 1 rfl rfl)
theorem dX11_idle_2 : decode cX11_idle 2 = .ok (.putfield 103, 3) := dk_181 0 103 (dk_at dksX11_idle_0 2 rfl rfl)
theorem dX11_idle_5 : decode cX11_idle 5 = .ok (.iconst 0, 1) := dk_3 (dk_at dksX11_idle_0 5 rfl rfl)
theorem dX11_idle_6 : decode cX11_idle 6 = .ok (.istore_n 1, 1) := dk_60 (dk_at dksX11_idle_0 6 rfl rfl)
theorem dX11_idle_7 : decode cX11_idle 7 = .ok (.iconst 0, 1) := dk_3 (dk_at dksX11_idle_0 7 rfl rfl)
theorem dX11_idle_8 : decode cX11_idle 8 = .ok (.istore_n 2, 1) := dk_61 (dk_at dksX11_idle_0 8 rfl rfl)
theorem dX11_idle_9 : decode cX11_idle 9 = .ok (.iload_n 2, 1) := dk_28 (dk_at dksX11_idle_0 9 rfl rfl)
theorem dX11_idle_10 : decode cX11_idle 10 = .ok (.aload_n 0, 1) := dk_42 (dk_at dksX11_idle_0 10 rfl rfl)
theorem dX11_idle_11 : decode cX11_idle 11 = .ok (.getfield 23, 3) := dk_180 0 23 (dk_at dksX11_idle_0 11 rfl rfl)
theorem dX11_idle_14 : decode cX11_idle 14 = .ok (.iconst 0, 1) := dk_3 (dk_at dksX11_idle_0 14 rfl rfl)
theorem dX11_idle_15 : decode cX11_idle 15 = .ok (.iaload, 1) := dk_46 (dk_at dksX11_idle_0 15 rfl rfl)
theorem dX11_idle_16 : decode cX11_idle 16 = .ok (.if_icmp .ge 42, 3) := dk_162 0 42 (dk_at dksX11_idle_0 16 rfl rfl)
theorem dX11_idle_19 : decode cX11_idle 19 = .ok (.iload_n 1, 1) := dk_27 (dk_at dksX11_idle_0 19 rfl rfl)
theorem dX11_idle_20 : decode cX11_idle 20 = .ok (.aload_n 0, 1) := dk_42 (dk_at dksX11_idle_0 20 rfl rfl)
theorem dX11_idle_21 : decode cX11_idle 21 = .ok (.getfield 73, 3) := dk_180 0 73 (dk_at dksX11_idle_0 21 rfl rfl)
theorem dX11_idle_24 : decode cX11_idle 24 = .ok (.iconst 0, 1) := dk_3 (dk_at dksX11_idle_1 0 rfl rfl)
theorem dX11_idle_25 : decode cX11_idle 25 = .ok (.iload_n 2, 1) := dk_28 (dk_at dksX11_idle_1 1 rfl rfl)
theorem dX11_idle_26 : decode cX11_idle 26 = .ok (.iadd, 1) := dk_96 (dk_at dksX11_idle_1 2 rfl rfl)
theorem dX11_idle_27 : decode cX11_idle 27 = .ok (.iaload, 1) := dk_46 (dk_at dksX11_idle_1 3 rfl rfl)
theorem dX11_idle_28 : decode cX11_idle 28 = .ok (.ifCond .ne 21, 3) := dk_154 0 21 (dk_at dksX11_idle_1 4 rfl rfl)
theorem dX11_idle_31 : decode cX11_idle 31 = .ok (.aload_n 0, 1) := dk_42 (dk_at dksX11_idle_1 7 rfl rfl)
theorem dX11_idle_32 : decode cX11_idle 32 = .ok (.aload_n 0, 1) := dk_42 (dk_at dksX11_idle_1 8 rfl rfl)
theorem dX11_idle_33 : decode cX11_idle 33 = .ok (.getfield 73, 3) := dk_180 0 73 (dk_at dksX11_idle_1 9 rfl rfl)
theorem dX11_idle_36 : decode cX11_idle 36 = .ok (.iload_n 2, 1) := dk_28 (dk_at dksX11_idle_1 12 rfl rfl)
theorem dX11_idle_37 : decode cX11_idle 37 = .ok (.invokevirtual 274, 3) := dk_182 1 18 (dk_at dksX11_idle_1 13 rfl rfl)
theorem dX11_idle_40 : decode cX11_idle 40 = .ok (.ifCond .ne 9, 3) := dk_154 0 9 (dk_at dksX11_idle_1 16 rfl rfl)
theorem dX11_idle_43 : decode cX11_idle 43 = .ok (.iconst 1, 1) := dk_4 (dk_at dksX11_idle_1 19 rfl rfl)
theorem dX11_idle_44 : decode cX11_idle 44 = .ok (.iload_n 2, 1) := dk_28 (dk_at dksX11_idle_1 20 rfl rfl)
theorem dX11_idle_45 : decode cX11_idle 45 = .ok (.ishl, 1) := dk_120 (dk_at dksX11_idle_1 21 rfl rfl)
theorem dX11_idle_46 : decode cX11_idle 46 = .ok (.goto 4, 3) := dk_167 0 4 (dk_at dksX11_idle_2 0 rfl rfl)
theorem dX11_idle_49 : decode cX11_idle 49 = .ok (.iconst 0, 1) := dk_3 (dk_at dksX11_idle_2 3 rfl rfl)
theorem dX11_idle_50 : decode cX11_idle 50 = .ok (.ior, 1) := dk_128 (dk_at dksX11_idle_2 4 rfl rfl)
theorem dX11_idle_51 : decode cX11_idle 51 = .ok (.istore_n 1, 1) := dk_60 (dk_at dksX11_idle_2 5 rfl rfl)
theorem dX11_idle_52 : decode cX11_idle 52 = .ok (.iinc 2 1, 3) := dk_132 2 1 (dk_at dksX11_idle_2 6 rfl rfl)
theorem dX11_idle_55 : decode cX11_idle 55 = .ok (.goto (-46), 3) := dk_167 255 210 (dk_at dksX11_idle_2 9 rfl rfl)
theorem dX11_idle_58 : decode cX11_idle 58 = .ok (.iload_n 1, 1) := dk_27 (dk_at dksX11_idle_2 12 rfl rfl)
theorem dX11_idle_59 : decode cX11_idle 59 = .ok (.ireturn, 1) := dk_172 (dk_at dksX11_idle_2 13 rfl rfl)
def dkwX11_needs_3 : List UInt8 := [42, 180, 0, 49, 29, 50, 4, 46, 167, 0, 4, 3, 96, 61, 132, 3, 1, 167, 255, 203, 28, 172]
abbrev dktX11_needs_3 : List UInt8 := dkwX11_needs_3 ++ []
def dkwX11_needs_2 : List UInt8 := [180, 0, 49, 29, 50, 3, 46, 27, 160, 0, 27, 42, 180, 0, 73, 16, 36, 29, 96, 46, 2, 160, 0, 14]
abbrev dktX11_needs_2 : List UInt8 := dkwX11_needs_2 ++ dktX11_needs_3
def dkwX11_needs_1 : List UInt8 := [182, 0, 183, 153, 0, 5, 3, 172, 3, 61, 3, 62, 29, 42, 180, 0, 23, 5, 46, 162, 0, 49, 28, 42]
abbrev dktX11_needs_1 : List UInt8 := dkwX11_needs_1 ++ dktX11_needs_2
def dkwX11_needs_0 : List UInt8 := [42, 3, 181, 0, 103, 42, 27, 3, 8, 184, 0, 137, 154, 0, 7, 4, 167, 0, 4, 3, 4, 4]
abbrev dktX11_needs_0 : List UInt8 := dkwX11_needs_0 ++ dktX11_needs_1
theorem dksX11_needs_0 : cX11_needs.data.toList.drop 0 = dktX11_needs_0 := by decide +kernel
theorem dksX11_needs_1 : cX11_needs.data.toList.drop 22 = dktX11_needs_1 := dk_seg dksX11_needs_0 22 rfl rfl
theorem dksX11_needs_2 : cX11_needs.data.toList.drop 46 = dktX11_needs_2 := dk_seg dksX11_needs_1 24 rfl rfl
theorem dksX11_needs_3 : cX11_needs.data.toList.drop 70 = dktX11_needs_3 := dk_seg dksX11_needs_2 24 rfl rfl
theorem dX11_needs_0 : decode cX11_needs 0 = .ok (.aload_n 0, 1) := dk_42 (dk_at dksX11_needs_0 0 rfl rfl)
theorem dX11_needs_1 : decode cX11_needs 1 = .ok (.iconst 0, 1) := dk_3 (dk_at dksX11_needs_0 1 rfl rfl)
theorem dX11_needs_2 : decode cX11_needs 2 = .ok (.putfield 103, 3) := dk_181 0 103 (dk_at dksX11_needs_0 2 rfl rfl)
theorem dX11_needs_5 : decode cX11_needs 5 = .ok (.aload_n 0, 1) := dk_42 (dk_at dksX11_needs_0 5 rfl rfl)
theorem dX11_needs_6 : decode cX11_needs 6 = .ok (.iload_n 1, 1) := dk_27 (dk_at dksX11_needs_0 6 rfl rfl)
theorem dX11_needs_7 : decode cX11_needs 7 = .ok (.iconst 0, 1) := dk_3 (dk_at dksX11_needs_0 7 rfl rfl)
theorem dX11_needs_8 : decode cX11_needs 8 = .ok (.iconst 5, 1) := dk_8 (dk_at dksX11_needs_0 8 rfl rfl)
theorem dX11_needs_9 : decode cX11_needs 9 = .ok (.invokestatic 137, 3) := dk_184 0 137 (dk_at dksX11_needs_0 9 rfl rfl)
theorem dX11_needs_12 : decode cX11_needs 12 = .ok (.ifCond .ne 7, 3) := dk_154 0 7 (dk_at dksX11_needs_0 12 rfl rfl)
theorem dX11_needs_15 : decode cX11_needs 15 = .ok (.iconst 1, 1) := dk_4 (dk_at dksX11_needs_0 15 rfl rfl)
theorem dX11_needs_16 : decode cX11_needs 16 = .ok (.goto 4, 3) := dk_167 0 4 (dk_at dksX11_needs_0 16 rfl rfl)
theorem dX11_needs_19 : decode cX11_needs 19 = .ok (.iconst 0, 1) := dk_3 (dk_at dksX11_needs_0 19 rfl rfl)
theorem dX11_needs_20 : decode cX11_needs 20 = .ok (.iconst 1, 1) := dk_4 (dk_at dksX11_needs_0 20 rfl rfl)
theorem dX11_needs_21 : decode cX11_needs 21 = .ok (.iconst 1, 1) := dk_4 (dk_at dksX11_needs_0 21 rfl rfl)
theorem dX11_needs_22 : decode cX11_needs 22 = .ok (.invokevirtual 183, 3) := dk_182 0 183 (dk_at dksX11_needs_1 0 rfl rfl)
theorem dX11_needs_25 : decode cX11_needs 25 = .ok (.ifCond .eq 5, 3) := dk_153 0 5 (dk_at dksX11_needs_1 3 rfl rfl)
theorem dX11_needs_28 : decode cX11_needs 28 = .ok (.iconst 0, 1) := dk_3 (dk_at dksX11_needs_1 6 rfl rfl)
theorem dX11_needs_29 : decode cX11_needs 29 = .ok (.ireturn, 1) := dk_172 (dk_at dksX11_needs_1 7 rfl rfl)
theorem dX11_needs_30 : decode cX11_needs 30 = .ok (.iconst 0, 1) := dk_3 (dk_at dksX11_needs_1 8 rfl rfl)
theorem dX11_needs_31 : decode cX11_needs 31 = .ok (.istore_n 2, 1) := dk_61 (dk_at dksX11_needs_1 9 rfl rfl)
theorem dX11_needs_32 : decode cX11_needs 32 = .ok (.iconst 0, 1) := dk_3 (dk_at dksX11_needs_1 10 rfl rfl)
theorem dX11_needs_33 : decode cX11_needs 33 = .ok (.istore_n 3, 1) := dk_62 (dk_at dksX11_needs_1 11 rfl rfl)
theorem dX11_needs_34 : decode cX11_needs 34 = .ok (.iload_n 3, 1) := dk_29 (dk_at dksX11_needs_1 12 rfl rfl)
theorem dX11_needs_35 : decode cX11_needs 35 = .ok (.aload_n 0, 1) := dk_42 (dk_at dksX11_needs_1 13 rfl rfl)
theorem dX11_needs_36 : decode cX11_needs 36 = .ok (.getfield 23, 3) := dk_180 0 23 (dk_at dksX11_needs_1 14 rfl rfl)
theorem dX11_needs_39 : decode cX11_needs 39 = .ok (.iconst 2, 1) := dk_5 (dk_at dksX11_needs_1 17 rfl rfl)
theorem dX11_needs_40 : decode cX11_needs 40 = .ok (.iaload, 1) := dk_46 (dk_at dksX11_needs_1 18 rfl rfl)
theorem dX11_needs_41 : decode cX11_needs 41 = .ok (.if_icmp .ge 49, 3) := dk_162 0 49 (dk_at dksX11_needs_1 19 rfl rfl)
theorem dX11_needs_44 : decode cX11_needs 44 = .ok (.iload_n 2, 1) := dk_28 (dk_at dksX11_needs_1 22 rfl rfl)
theorem dX11_needs_45 : decode cX11_needs 45 = .ok (.aload_n 0, 1) := dk_42 (dk_at dksX11_needs_1 23 rfl rfl)
theorem dX11_needs_46 : decode cX11_needs 46 = .ok (.getfield 49, 3) := dk_180 0 49 (dk_at dksX11_needs_2 0 rfl rfl)
theorem dX11_needs_49 : decode cX11_needs 49 = .ok (.iload_n 3, 1) := dk_29 (dk_at dksX11_needs_2 3 rfl rfl)
theorem dX11_needs_50 : decode cX11_needs 50 = .ok (.aaload, 1) := dk_50 (dk_at dksX11_needs_2 4 rfl rfl)
theorem dX11_needs_51 : decode cX11_needs 51 = .ok (.iconst 0, 1) := dk_3 (dk_at dksX11_needs_2 5 rfl rfl)
theorem dX11_needs_52 : decode cX11_needs 52 = .ok (.iaload, 1) := dk_46 (dk_at dksX11_needs_2 6 rfl rfl)
theorem dX11_needs_53 : decode cX11_needs 53 = .ok (.iload_n 1, 1) := dk_27 (dk_at dksX11_needs_2 7 rfl rfl)
theorem dX11_needs_54 : decode cX11_needs 54 = .ok (.if_icmp .ne 27, 3) := dk_160 0 27 (dk_at dksX11_needs_2 8 rfl rfl)
theorem dX11_needs_57 : decode cX11_needs 57 = .ok (.aload_n 0, 1) := dk_42 (dk_at dksX11_needs_2 11 rfl rfl)
theorem dX11_needs_58 : decode cX11_needs 58 = .ok (.getfield 73, 3) := dk_180 0 73 (dk_at dksX11_needs_2 12 rfl rfl)
theorem dX11_needs_61 : decode cX11_needs 61 = .ok (.bipush 36, 2) := dk_16 36 (dk_at dksX11_needs_2 15 rfl rfl)
theorem dX11_needs_63 : decode cX11_needs 63 = .ok (.iload_n 3, 1) := dk_29 (dk_at dksX11_needs_2 17 rfl rfl)
theorem dX11_needs_64 : decode cX11_needs 64 = .ok (.iadd, 1) := dk_96 (dk_at dksX11_needs_2 18 rfl rfl)
theorem dX11_needs_65 : decode cX11_needs 65 = .ok (.iaload, 1) := dk_46 (dk_at dksX11_needs_2 19 rfl rfl)
theorem dX11_needs_66 : decode cX11_needs 66 = .ok (.iconst (-1), 1) := dk_2 (dk_at dksX11_needs_2 20 rfl rfl)
theorem dX11_needs_67 : decode cX11_needs 67 = .ok (.if_icmp .ne 14, 3) := dk_160 0 14 (dk_at dksX11_needs_2 21 rfl rfl)
theorem dX11_needs_70 : decode cX11_needs 70 = .ok (.aload_n 0, 1) := dk_42 (dk_at dksX11_needs_3 0 rfl rfl)
theorem dX11_needs_71 : decode cX11_needs 71 = .ok (.getfield 49, 3) := dk_180 0 49 (dk_at dksX11_needs_3 1 rfl rfl)
theorem dX11_needs_74 : decode cX11_needs 74 = .ok (.iload_n 3, 1) := dk_29 (dk_at dksX11_needs_3 4 rfl rfl)
theorem dX11_needs_75 : decode cX11_needs 75 = .ok (.aaload, 1) := dk_50 (dk_at dksX11_needs_3 5 rfl rfl)
theorem dX11_needs_76 : decode cX11_needs 76 = .ok (.iconst 1, 1) := dk_4 (dk_at dksX11_needs_3 6 rfl rfl)
theorem dX11_needs_77 : decode cX11_needs 77 = .ok (.iaload, 1) := dk_46 (dk_at dksX11_needs_3 7 rfl rfl)
theorem dX11_needs_78 : decode cX11_needs 78 = .ok (.goto 4, 3) := dk_167 0 4 (dk_at dksX11_needs_3 8 rfl rfl)
theorem dX11_needs_81 : decode cX11_needs 81 = .ok (.iconst 0, 1) := dk_3 (dk_at dksX11_needs_3 11 rfl rfl)
theorem dX11_needs_82 : decode cX11_needs 82 = .ok (.iadd, 1) := dk_96 (dk_at dksX11_needs_3 12 rfl rfl)
theorem dX11_needs_83 : decode cX11_needs 83 = .ok (.istore_n 2, 1) := dk_61 (dk_at dksX11_needs_3 13 rfl rfl)
theorem dX11_needs_84 : decode cX11_needs 84 = .ok (.iinc 3 1, 3) := dk_132 3 1 (dk_at dksX11_needs_3 14 rfl rfl)
theorem dX11_needs_87 : decode cX11_needs 87 = .ok (.goto (-53), 3) := dk_167 255 203 (dk_at dksX11_needs_3 17 rfl rfl)
theorem dX11_needs_90 : decode cX11_needs 90 = .ok (.iload_n 2, 1) := dk_28 (dk_at dksX11_needs_3 20 rfl rfl)
theorem dX11_needs_91 : decode cX11_needs 91 = .ok (.ireturn, 1) := dk_172 (dk_at dksX11_needs_3 21 rfl rfl)
def dkwX11_strength_3 : List UInt8 := [132, 3, 1, 167, 255, 215, 28, 172]
abbrev dktX11_strength_3 : List UInt8 := dkwX11_strength_3 ++ []
def dkwX11_strength_2 : List UInt8 := [29, 50, 3, 46, 27, 160, 0, 15, 42, 42, 180, 0, 73, 29, 182, 1, 33, 167, 0, 4, 3, 96, 61]
abbrev dktX11_strength_2 : List UInt8 := dkwX11_strength_2 ++ dktX11_strength_3
def dkwX11_strength_1 : List UInt8 := [153, 0, 5, 3, 172, 3, 61, 3, 62, 29, 42, 180, 0, 23, 4, 46, 162, 0, 37, 28, 42, 180, 0, 43]
abbrev dktX11_strength_1 : List UInt8 := dkwX11_strength_1 ++ dktX11_strength_2
def dkwX11_strength_0 : List UInt8 := [42, 3, 181, 0, 103, 42, 42, 27, 182, 1, 80, 154, 0, 7, 4, 167, 0, 4, 3, 4, 3, 182, 0, 183]
abbrev dktX11_strength_0 : List UInt8 := dkwX11_strength_0 ++ dktX11_strength_1
theorem dksX11_strength_0 : cX11_strength.data.toList.drop 0 = dktX11_strength_0 := by decide +kernel
theorem dksX11_strength_1 : cX11_strength.data.toList.drop 24 = dktX11_strength_1 := dk_seg dksX11_strength_0 24 rfl rfl
theorem dksX11_strength_2 : cX11_strength.data.toList.drop 48 = dktX11_strength_2 := dk_seg dksX11_strength_1 24 rfl rfl
theorem dksX11_strength_3 : cX11_strength.data.toList.drop 71 = dktX11_strength_3 := dk_seg dksX11_strength_2 23 rfl rfl
theorem dX11_strength_0 : decode cX11_strength 0 = .ok (.aload_n 0, 1) := dk_42 (dk_at dksX11_strength_0 0 rfl rfl)
theorem dX11_strength_1 : decode cX11_strength 1 = .ok (.iconst 0, 1) := dk_3 (dk_at dksX11_strength_0 1 rfl rfl)
theorem dX11_strength_2 : decode cX11_strength 2 = .ok (.putfield 103, 3) := dk_181 0 103 (dk_at dksX11_strength_0 2 rfl rfl)
theorem dX11_strength_5 : decode cX11_strength 5 = .ok (.aload_n 0, 1) := dk_42 (dk_at dksX11_strength_0 5 rfl rfl)
theorem dX11_strength_6 : decode cX11_strength 6 = .ok (.aload_n 0, 1) := dk_42 (dk_at dksX11_strength_0 6 rfl rfl)
theorem dX11_strength_7 : decode cX11_strength 7 = .ok (.iload_n 1, 1) := dk_27 (dk_at dksX11_strength_0 7 rfl rfl)
theorem dX11_strength_8 : decode cX11_strength 8 = .ok (.invokevirtual 336, 3) := dk_182 1 80 (dk_at dksX11_strength_0 8 rfl rfl)
theorem dX11_strength_11 : decode cX11_strength 11 = .ok (.ifCond .ne 7, 3) := dk_154 0 7 (dk_at dksX11_strength_0 11 rfl rfl)
theorem dX11_strength_14 : decode cX11_strength 14 = .ok (.iconst 1, 1) := dk_4 (dk_at dksX11_strength_0 14 rfl rfl)
theorem dX11_strength_15 : decode cX11_strength 15 = .ok (.goto 4, 3) := dk_167 0 4 (dk_at dksX11_strength_0 15 rfl rfl)
theorem dX11_strength_18 : decode cX11_strength 18 = .ok (.iconst 0, 1) := dk_3 (dk_at dksX11_strength_0 18 rfl rfl)
theorem dX11_strength_19 : decode cX11_strength 19 = .ok (.iconst 1, 1) := dk_4 (dk_at dksX11_strength_0 19 rfl rfl)
theorem dX11_strength_20 : decode cX11_strength 20 = .ok (.iconst 0, 1) := dk_3 (dk_at dksX11_strength_0 20 rfl rfl)
theorem dX11_strength_21 : decode cX11_strength 21 = .ok (.invokevirtual 183, 3) := dk_182 0 183 (dk_at dksX11_strength_0 21 rfl rfl)
theorem dX11_strength_24 : decode cX11_strength 24 = .ok (.ifCond .eq 5, 3) := dk_153 0 5 (dk_at dksX11_strength_1 0 rfl rfl)
theorem dX11_strength_27 : decode cX11_strength 27 = .ok (.iconst 0, 1) := dk_3 (dk_at dksX11_strength_1 3 rfl rfl)
theorem dX11_strength_28 : decode cX11_strength 28 = .ok (.ireturn, 1) := dk_172 (dk_at dksX11_strength_1 4 rfl rfl)
theorem dX11_strength_29 : decode cX11_strength 29 = .ok (.iconst 0, 1) := dk_3 (dk_at dksX11_strength_1 5 rfl rfl)
theorem dX11_strength_30 : decode cX11_strength 30 = .ok (.istore_n 2, 1) := dk_61 (dk_at dksX11_strength_1 6 rfl rfl)
theorem dX11_strength_31 : decode cX11_strength 31 = .ok (.iconst 0, 1) := dk_3 (dk_at dksX11_strength_1 7 rfl rfl)
theorem dX11_strength_32 : decode cX11_strength 32 = .ok (.istore_n 3, 1) := dk_62 (dk_at dksX11_strength_1 8 rfl rfl)
theorem dX11_strength_33 : decode cX11_strength 33 = .ok (.iload_n 3, 1) := dk_29 (dk_at dksX11_strength_1 9 rfl rfl)
theorem dX11_strength_34 : decode cX11_strength 34 = .ok (.aload_n 0, 1) := dk_42 (dk_at dksX11_strength_1 10 rfl rfl)
theorem dX11_strength_35 : decode cX11_strength 35 = .ok (.getfield 23, 3) := dk_180 0 23 (dk_at dksX11_strength_1 11 rfl rfl)
theorem dX11_strength_38 : decode cX11_strength 38 = .ok (.iconst 1, 1) := dk_4 (dk_at dksX11_strength_1 14 rfl rfl)
theorem dX11_strength_39 : decode cX11_strength 39 = .ok (.iaload, 1) := dk_46 (dk_at dksX11_strength_1 15 rfl rfl)
theorem dX11_strength_40 : decode cX11_strength 40 = .ok (.if_icmp .ge 37, 3) := dk_162 0 37 (dk_at dksX11_strength_1 16 rfl rfl)
theorem dX11_strength_43 : decode cX11_strength 43 = .ok (.iload_n 2, 1) := dk_28 (dk_at dksX11_strength_1 19 rfl rfl)
theorem dX11_strength_44 : decode cX11_strength 44 = .ok (.aload_n 0, 1) := dk_42 (dk_at dksX11_strength_1 20 rfl rfl)
theorem dX11_strength_45 : decode cX11_strength 45 = .ok (.getfield 43, 3) := dk_180 0 43 (dk_at dksX11_strength_1 21 rfl rfl)
theorem dX11_strength_48 : decode cX11_strength 48 = .ok (.iload_n 3, 1) := dk_29 (dk_at dksX11_strength_2 0 rfl rfl)
theorem dX11_strength_49 : decode cX11_strength 49 = .ok (.aaload, 1) := dk_50 (dk_at dksX11_strength_2 1 rfl rfl)
theorem dX11_strength_50 : decode cX11_strength 50 = .ok (.iconst 0, 1) := dk_3 (dk_at dksX11_strength_2 2 rfl rfl)
theorem dX11_strength_51 : decode cX11_strength 51 = .ok (.iaload, 1) := dk_46 (dk_at dksX11_strength_2 3 rfl rfl)
theorem dX11_strength_52 : decode cX11_strength 52 = .ok (.iload_n 1, 1) := dk_27 (dk_at dksX11_strength_2 4 rfl rfl)
theorem dX11_strength_53 : decode cX11_strength 53 = .ok (.if_icmp .ne 15, 3) := dk_160 0 15 (dk_at dksX11_strength_2 5 rfl rfl)
theorem dX11_strength_56 : decode cX11_strength 56 = .ok (.aload_n 0, 1) := dk_42 (dk_at dksX11_strength_2 8 rfl rfl)
theorem dX11_strength_57 : decode cX11_strength 57 = .ok (.aload_n 0, 1) := dk_42 (dk_at dksX11_strength_2 9 rfl rfl)
theorem dX11_strength_58 : decode cX11_strength 58 = .ok (.getfield 73, 3) := dk_180 0 73 (dk_at dksX11_strength_2 10 rfl rfl)
theorem dX11_strength_61 : decode cX11_strength 61 = .ok (.iload_n 3, 1) := dk_29 (dk_at dksX11_strength_2 13 rfl rfl)
theorem dX11_strength_62 : decode cX11_strength 62 = .ok (.invokevirtual 289, 3) := dk_182 1 33 (dk_at dksX11_strength_2 14 rfl rfl)
theorem dX11_strength_65 : decode cX11_strength 65 = .ok (.goto 4, 3) := dk_167 0 4 (dk_at dksX11_strength_2 17 rfl rfl)
theorem dX11_strength_68 : decode cX11_strength 68 = .ok (.iconst 0, 1) := dk_3 (dk_at dksX11_strength_2 20 rfl rfl)
theorem dX11_strength_69 : decode cX11_strength 69 = .ok (.iadd, 1) := dk_96 (dk_at dksX11_strength_2 21 rfl rfl)
theorem dX11_strength_70 : decode cX11_strength 70 = .ok (.istore_n 2, 1) := dk_61 (dk_at dksX11_strength_2 22 rfl rfl)
theorem dX11_strength_71 : decode cX11_strength 71 = .ok (.iinc 3 1, 3) := dk_132 3 1 (dk_at dksX11_strength_3 0 rfl rfl)
theorem dX11_strength_74 : decode cX11_strength 74 = .ok (.goto (-41), 3) := dk_167 255 215 (dk_at dksX11_strength_3 3 rfl rfl)
theorem dX11_strength_77 : decode cX11_strength 77 = .ok (.iload_n 2, 1) := dk_28 (dk_at dksX11_strength_3 6 rfl rfl)
theorem dX11_strength_78 : decode cX11_strength 78 = .ok (.ireturn, 1) := dk_172 (dk_at dksX11_strength_3 7 rfl rfl)
def dkwX11_weakest_4 : List UInt8 := [160, 0, 7, 28, 167, 0, 4, 29, 172]
abbrev dktX11_weakest_4 : List UInt8 := dkwX11_weakest_4 ++ []
def dkwX11_weakest_3 : List UInt8 := [180, 0, 73, 16, 8, 21, 4, 96, 46, 62, 132, 4, 1, 167, 255, 211, 27, 153, 0, 8, 28, 2]
abbrev dktX11_weakest_3 : List UInt8 := dkwX11_weakest_3 ++ dktX11_weakest_4
def dkwX11_weakest_2 : List UInt8 := [162, 0, 40, 42, 180, 0, 73, 16, 8, 21, 4, 96, 46, 29, 163, 0, 6, 167, 0, 17, 21, 4, 61, 42]
abbrev dktX11_weakest_2 : List UInt8 := dkwX11_weakest_2 ++ dktX11_weakest_3
def dkwX11_weakest_1 : List UInt8 := [182, 0, 183, 153, 0, 5, 3, 172, 2, 61, 3, 62, 3, 54, 4, 21, 4, 42, 180, 0, 23, 3, 46]
abbrev dktX11_weakest_1 : List UInt8 := dkwX11_weakest_1 ++ dktX11_weakest_2
def dkwX11_weakest_0 : List UInt8 := [42, 3, 181, 0, 103, 42, 27, 3, 4, 184, 0, 137, 154, 0, 7, 4, 167, 0, 4, 3, 4, 4]
abbrev dktX11_weakest_0 : List UInt8 := dkwX11_weakest_0 ++ dktX11_weakest_1
theorem dksX11_weakest_0 : cX11_weakest.data.toList.drop 0 = dktX11_weakest_0 := by decide +kernel
theorem dksX11_weakest_1 : cX11_weakest.data.toList.drop 22 = dktX11_weakest_1 := dk_seg dksX11_weakest_0 22 rfl rfl
theorem dksX11_weakest_2 : cX11_weakest.data.toList.drop 45 = dktX11_weakest_2 := dk_seg dksX11_weakest_1 23 rfl rfl
theorem dksX11_weakest_3 : cX11_weakest.data.toList.drop 69 = dktX11_weakest_3 := dk_seg dksX11_weakest_2 24 rfl rfl
theorem dksX11_weakest_4 : cX11_weakest.data.toList.drop 91 = dktX11_weakest_4 := dk_seg dksX11_weakest_3 22 rfl rfl
theorem dX11_weakest_0 : decode cX11_weakest 0 = .ok (.aload_n 0, 1) := dk_42 (dk_at dksX11_weakest_0 0 rfl rfl)
theorem dX11_weakest_1 : decode cX11_weakest 1 = .ok (.iconst 0, 1) := dk_3 (dk_at dksX11_weakest_0 1 rfl rfl)
theorem dX11_weakest_2 : decode cX11_weakest 2 = .ok (.putfield 103, 3) := dk_181 0 103 (dk_at dksX11_weakest_0 2 rfl rfl)
theorem dX11_weakest_5 : decode cX11_weakest 5 = .ok (.aload_n 0, 1) := dk_42 (dk_at dksX11_weakest_0 5 rfl rfl)
theorem dX11_weakest_6 : decode cX11_weakest 6 = .ok (.iload_n 1, 1) := dk_27 (dk_at dksX11_weakest_0 6 rfl rfl)
theorem dX11_weakest_7 : decode cX11_weakest 7 = .ok (.iconst 0, 1) := dk_3 (dk_at dksX11_weakest_0 7 rfl rfl)
theorem dX11_weakest_8 : decode cX11_weakest 8 = .ok (.iconst 1, 1) := dk_4 (dk_at dksX11_weakest_0 8 rfl rfl)
theorem dX11_weakest_9 : decode cX11_weakest 9 = .ok (.invokestatic 137, 3) := dk_184 0 137 (dk_at dksX11_weakest_0 9 rfl rfl)
theorem dX11_weakest_12 : decode cX11_weakest 12 = .ok (.ifCond .ne 7, 3) := dk_154 0 7 (dk_at dksX11_weakest_0 12 rfl rfl)
theorem dX11_weakest_15 : decode cX11_weakest 15 = .ok (.iconst 1, 1) := dk_4 (dk_at dksX11_weakest_0 15 rfl rfl)
theorem dX11_weakest_16 : decode cX11_weakest 16 = .ok (.goto 4, 3) := dk_167 0 4 (dk_at dksX11_weakest_0 16 rfl rfl)
theorem dX11_weakest_19 : decode cX11_weakest 19 = .ok (.iconst 0, 1) := dk_3 (dk_at dksX11_weakest_0 19 rfl rfl)
theorem dX11_weakest_20 : decode cX11_weakest 20 = .ok (.iconst 1, 1) := dk_4 (dk_at dksX11_weakest_0 20 rfl rfl)
theorem dX11_weakest_21 : decode cX11_weakest 21 = .ok (.iconst 1, 1) := dk_4 (dk_at dksX11_weakest_0 21 rfl rfl)
theorem dX11_weakest_22 : decode cX11_weakest 22 = .ok (.invokevirtual 183, 3) := dk_182 0 183 (dk_at dksX11_weakest_1 0 rfl rfl)
theorem dX11_weakest_25 : decode cX11_weakest 25 = .ok (.ifCond .eq 5, 3) := dk_153 0 5 (dk_at dksX11_weakest_1 3 rfl rfl)
theorem dX11_weakest_28 : decode cX11_weakest 28 = .ok (.iconst 0, 1) := dk_3 (dk_at dksX11_weakest_1 6 rfl rfl)
theorem dX11_weakest_29 : decode cX11_weakest 29 = .ok (.ireturn, 1) := dk_172 (dk_at dksX11_weakest_1 7 rfl rfl)
theorem dX11_weakest_30 : decode cX11_weakest 30 = .ok (.iconst (-1), 1) := dk_2 (dk_at dksX11_weakest_1 8 rfl rfl)
theorem dX11_weakest_31 : decode cX11_weakest 31 = .ok (.istore_n 2, 1) := dk_61 (dk_at dksX11_weakest_1 9 rfl rfl)
theorem dX11_weakest_32 : decode cX11_weakest 32 = .ok (.iconst 0, 1) := dk_3 (dk_at dksX11_weakest_1 10 rfl rfl)
theorem dX11_weakest_33 : decode cX11_weakest 33 = .ok (.istore_n 3, 1) := dk_62 (dk_at dksX11_weakest_1 11 rfl rfl)
theorem dX11_weakest_34 : decode cX11_weakest 34 = .ok (.iconst 0, 1) := dk_3 (dk_at dksX11_weakest_1 12 rfl rfl)
theorem dX11_weakest_35 : decode cX11_weakest 35 = .ok (.istore 4, 2) := dk_54 4 (dk_at dksX11_weakest_1 13 rfl rfl)
theorem dX11_weakest_37 : decode cX11_weakest 37 = .ok (.iload 4, 2) := dk_21 4 (dk_at dksX11_weakest_1 15 rfl rfl)
theorem dX11_weakest_39 : decode cX11_weakest 39 = .ok (.aload_n 0, 1) := dk_42 (dk_at dksX11_weakest_1 17 rfl rfl)
theorem dX11_weakest_40 : decode cX11_weakest 40 = .ok (.getfield 23, 3) := dk_180 0 23 (dk_at dksX11_weakest_1 18 rfl rfl)
theorem dX11_weakest_43 : decode cX11_weakest 43 = .ok (.iconst 0, 1) := dk_3 (dk_at dksX11_weakest_1 21 rfl rfl)
theorem dX11_weakest_44 : decode cX11_weakest 44 = .ok (.iaload, 1) := dk_46 (dk_at dksX11_weakest_1 22 rfl rfl)
theorem dX11_weakest_45 : decode cX11_weakest 45 = .ok (.if_icmp .ge 40, 3) := dk_162 0 40 (dk_at dksX11_weakest_2 0 rfl rfl)
theorem dX11_weakest_48 : decode cX11_weakest 48 = .ok (.aload_n 0, 1) := dk_42 (dk_at dksX11_weakest_2 3 rfl rfl)
theorem dX11_weakest_49 : decode cX11_weakest 49 = .ok (.getfield 73, 3) := dk_180 0 73 (dk_at dksX11_weakest_2 4 rfl rfl)
theorem dX11_weakest_52 : decode cX11_weakest 52 = .ok (.bipush 8, 2) := dk_16 8 (dk_at dksX11_weakest_2 7 rfl rfl)
theorem dX11_weakest_54 : decode cX11_weakest 54 = .ok (.iload 4, 2) := dk_21 4 (dk_at dksX11_weakest_2 9 rfl rfl)
theorem dX11_weakest_56 : decode cX11_weakest 56 = .ok (.iadd, 1) := dk_96 (dk_at dksX11_weakest_2 11 rfl rfl)
theorem dX11_weakest_57 : decode cX11_weakest 57 = .ok (.iaload, 1) := dk_46 (dk_at dksX11_weakest_2 12 rfl rfl)
theorem dX11_weakest_58 : decode cX11_weakest 58 = .ok (.iload_n 3, 1) := dk_29 (dk_at dksX11_weakest_2 13 rfl rfl)
theorem dX11_weakest_59 : decode cX11_weakest 59 = .ok (.if_icmp .gt 6, 3) := dk_163 0 6 (dk_at dksX11_weakest_2 14 rfl rfl)
theorem dX11_weakest_62 : decode cX11_weakest 62 = .ok (.goto 17, 3) := dk_167 0 17 (dk_at dksX11_weakest_2 17 rfl rfl)
theorem dX11_weakest_65 : decode cX11_weakest 65 = .ok (.iload 4, 2) := dk_21 4 (dk_at dksX11_weakest_2 20 rfl rfl)
theorem dX11_weakest_67 : decode cX11_weakest 67 = .ok (.istore_n 2, 1) := dk_61 (dk_at dksX11_weakest_2 22 rfl rfl)
theorem dX11_weakest_68 : decode cX11_weakest 68 = .ok (.aload_n 0, 1) := dk_42 (dk_at dksX11_weakest_2 23 rfl rfl)
theorem dX11_weakest_69 : decode cX11_weakest 69 = .ok (.getfield 73, 3) := dk_180 0 73 (dk_at dksX11_weakest_3 0 rfl rfl)
theorem dX11_weakest_72 : decode cX11_weakest 72 = .ok (.bipush 8, 2) := dk_16 8 (dk_at dksX11_weakest_3 3 rfl rfl)
theorem dX11_weakest_74 : decode cX11_weakest 74 = .ok (.iload 4, 2) := dk_21 4 (dk_at dksX11_weakest_3 5 rfl rfl)
theorem dX11_weakest_76 : decode cX11_weakest 76 = .ok (.iadd, 1) := dk_96 (dk_at dksX11_weakest_3 7 rfl rfl)
theorem dX11_weakest_77 : decode cX11_weakest 77 = .ok (.iaload, 1) := dk_46 (dk_at dksX11_weakest_3 8 rfl rfl)
theorem dX11_weakest_78 : decode cX11_weakest 78 = .ok (.istore_n 3, 1) := dk_62 (dk_at dksX11_weakest_3 9 rfl rfl)
theorem dX11_weakest_79 : decode cX11_weakest 79 = .ok (.iinc 4 1, 3) := dk_132 4 1 (dk_at dksX11_weakest_3 10 rfl rfl)
theorem dX11_weakest_82 : decode cX11_weakest 82 = .ok (.goto (-45), 3) := dk_167 255 211 (dk_at dksX11_weakest_3 13 rfl rfl)
theorem dX11_weakest_85 : decode cX11_weakest 85 = .ok (.iload_n 1, 1) := dk_27 (dk_at dksX11_weakest_3 16 rfl rfl)
theorem dX11_weakest_86 : decode cX11_weakest 86 = .ok (.ifCond .eq 8, 3) := dk_153 0 8 (dk_at dksX11_weakest_3 17 rfl rfl)
theorem dX11_weakest_89 : decode cX11_weakest 89 = .ok (.iload_n 2, 1) := dk_28 (dk_at dksX11_weakest_3 20 rfl rfl)
theorem dX11_weakest_90 : decode cX11_weakest 90 = .ok (.iconst (-1), 1) := dk_2 (dk_at dksX11_weakest_3 21 rfl rfl)
theorem dX11_weakest_91 : decode cX11_weakest 91 = .ok (.if_icmp .ne 7, 3) := dk_160 0 7 (dk_at dksX11_weakest_4 0 rfl rfl)
theorem dX11_weakest_94 : decode cX11_weakest 94 = .ok (.iload_n 2, 1) := dk_28 (dk_at dksX11_weakest_4 3 rfl rfl)
theorem dX11_weakest_95 : decode cX11_weakest 95 = .ok (.goto 4, 3) := dk_167 0 4 (dk_at dksX11_weakest_4 4 rfl rfl)
theorem dX11_weakest_98 : decode cX11_weakest 98 = .ok (.iload_n 3, 1) := dk_29 (dk_at dksX11_weakest_4 7 rfl rfl)
theorem dX11_weakest_99 : decode cX11_weakest 99 = .ok (.ireturn, 1) := dk_172 (dk_at dksX11_weakest_4 8 rfl rfl)
def dkwX11_bare_2 : List UInt8 := [167, 0, 4, 27, 126, 60, 132, 2, 1, 167, 255, 213, 27, 172]
abbrev dktX11_bare_2 : List UInt8 := dkwX11_bare_2 ++ []
def dkwX11_bare_1 : List UInt8 := [180, 0, 73, 28, 184, 1, 11, 153, 0, 18, 4, 42, 180, 0, 43, 28, 50, 4, 46, 120, 2, 130]
abbrev dktX11_bare_1 : List UInt8 := dkwX11_bare_1 ++ dktX11_bare_2
def dkwX11_bare_0 : List UInt8 := [42, 3, 181, 0, 103, 16, 63, 60, 3, 61, 28, 42, 180, 0, 23, 4, 46, 162, 0, 39, 27, 42]
abbrev dktX11_bare_0 : List UInt8 := dkwX11_bare_0 ++ dktX11_bare_1
theorem dksX11_bare_0 : cX11_bare.data.toList.drop 0 = dktX11_bare_0 := by decide +kernel
theorem dksX11_bare_1 : cX11_bare.data.toList.drop 22 = dktX11_bare_1 := dk_seg dksX11_bare_0 22 rfl rfl
theorem dksX11_bare_2 : cX11_bare.data.toList.drop 44 = dktX11_bare_2 := dk_seg dksX11_bare_1 22 rfl rfl
theorem dX11_bare_0 : decode cX11_bare 0 = .ok (.aload_n 0, 1) := dk_42 (dk_at dksX11_bare_0 0 rfl rfl)
theorem dX11_bare_1 : decode cX11_bare 1 = .ok (.iconst 0, 1) := dk_3 (dk_at dksX11_bare_0 1 rfl rfl)
theorem dX11_bare_2 : decode cX11_bare 2 = .ok (.putfield 103, 3) := dk_181 0 103 (dk_at dksX11_bare_0 2 rfl rfl)
theorem dX11_bare_5 : decode cX11_bare 5 = .ok (.bipush 63, 2) := dk_16 63 (dk_at dksX11_bare_0 5 rfl rfl)
theorem dX11_bare_7 : decode cX11_bare 7 = .ok (.istore_n 1, 1) := dk_60 (dk_at dksX11_bare_0 7 rfl rfl)
theorem dX11_bare_8 : decode cX11_bare 8 = .ok (.iconst 0, 1) := dk_3 (dk_at dksX11_bare_0 8 rfl rfl)
theorem dX11_bare_9 : decode cX11_bare 9 = .ok (.istore_n 2, 1) := dk_61 (dk_at dksX11_bare_0 9 rfl rfl)
theorem dX11_bare_10 : decode cX11_bare 10 = .ok (.iload_n 2, 1) := dk_28 (dk_at dksX11_bare_0 10 rfl rfl)
theorem dX11_bare_11 : decode cX11_bare 11 = .ok (.aload_n 0, 1) := dk_42 (dk_at dksX11_bare_0 11 rfl rfl)
theorem dX11_bare_12 : decode cX11_bare 12 = .ok (.getfield 23, 3) := dk_180 0 23 (dk_at dksX11_bare_0 12 rfl rfl)
theorem dX11_bare_15 : decode cX11_bare 15 = .ok (.iconst 1, 1) := dk_4 (dk_at dksX11_bare_0 15 rfl rfl)
theorem dX11_bare_16 : decode cX11_bare 16 = .ok (.iaload, 1) := dk_46 (dk_at dksX11_bare_0 16 rfl rfl)
theorem dX11_bare_17 : decode cX11_bare 17 = .ok (.if_icmp .ge 39, 3) := dk_162 0 39 (dk_at dksX11_bare_0 17 rfl rfl)
theorem dX11_bare_20 : decode cX11_bare 20 = .ok (.iload_n 1, 1) := dk_27 (dk_at dksX11_bare_0 20 rfl rfl)
theorem dX11_bare_21 : decode cX11_bare 21 = .ok (.aload_n 0, 1) := dk_42 (dk_at dksX11_bare_0 21 rfl rfl)
theorem dX11_bare_22 : decode cX11_bare 22 = .ok (.getfield 73, 3) := dk_180 0 73 (dk_at dksX11_bare_1 0 rfl rfl)
theorem dX11_bare_25 : decode cX11_bare 25 = .ok (.iload_n 2, 1) := dk_28 (dk_at dksX11_bare_1 3 rfl rfl)
theorem dX11_bare_26 : decode cX11_bare 26 = .ok (.invokestatic 267, 3) := dk_184 1 11 (dk_at dksX11_bare_1 4 rfl rfl)
theorem dX11_bare_29 : decode cX11_bare 29 = .ok (.ifCond .eq 18, 3) := dk_153 0 18 (dk_at dksX11_bare_1 7 rfl rfl)
theorem dX11_bare_32 : decode cX11_bare 32 = .ok (.iconst 1, 1) := dk_4 (dk_at dksX11_bare_1 10 rfl rfl)
theorem dX11_bare_33 : decode cX11_bare 33 = .ok (.aload_n 0, 1) := dk_42 (dk_at dksX11_bare_1 11 rfl rfl)
theorem dX11_bare_34 : decode cX11_bare 34 = .ok (.getfield 43, 3) := dk_180 0 43 (dk_at dksX11_bare_1 12 rfl rfl)
theorem dX11_bare_37 : decode cX11_bare 37 = .ok (.iload_n 2, 1) := dk_28 (dk_at dksX11_bare_1 15 rfl rfl)
theorem dX11_bare_38 : decode cX11_bare 38 = .ok (.aaload, 1) := dk_50 (dk_at dksX11_bare_1 16 rfl rfl)
theorem dX11_bare_39 : decode cX11_bare 39 = .ok (.iconst 1, 1) := dk_4 (dk_at dksX11_bare_1 17 rfl rfl)
theorem dX11_bare_40 : decode cX11_bare 40 = .ok (.iaload, 1) := dk_46 (dk_at dksX11_bare_1 18 rfl rfl)
theorem dX11_bare_41 : decode cX11_bare 41 = .ok (.ishl, 1) := dk_120 (dk_at dksX11_bare_1 19 rfl rfl)
theorem dX11_bare_42 : decode cX11_bare 42 = .ok (.iconst (-1), 1) := dk_2 (dk_at dksX11_bare_1 20 rfl rfl)
theorem dX11_bare_43 : decode cX11_bare 43 = .ok (.ixor, 1) := dk_130 (dk_at dksX11_bare_1 21 rfl rfl)
theorem dX11_bare_44 : decode cX11_bare 44 = .ok (.goto 4, 3) := dk_167 0 4 (dk_at dksX11_bare_2 0 rfl rfl)
theorem dX11_bare_47 : decode cX11_bare 47 = .ok (.iload_n 1, 1) := dk_27 (dk_at dksX11_bare_2 3 rfl rfl)
theorem dX11_bare_48 : decode cX11_bare 48 = .ok (.iand, 1) := dk_126 (dk_at dksX11_bare_2 4 rfl rfl)
theorem dX11_bare_49 : decode cX11_bare 49 = .ok (.istore_n 1, 1) := dk_60 (dk_at dksX11_bare_2 5 rfl rfl)
theorem dX11_bare_50 : decode cX11_bare 50 = .ok (.iinc 2 1, 3) := dk_132 2 1 (dk_at dksX11_bare_2 6 rfl rfl)
theorem dX11_bare_53 : decode cX11_bare 53 = .ok (.goto (-43), 3) := dk_167 255 213 (dk_at dksX11_bare_2 9 rfl rfl)
theorem dX11_bare_56 : decode cX11_bare 56 = .ok (.iload_n 1, 1) := dk_27 (dk_at dksX11_bare_2 12 rfl rfl)
theorem dX11_bare_57 : decode cX11_bare 57 = .ok (.ireturn, 1) := dk_172 (dk_at dksX11_bare_2 13 rfl rfl)
def dkwX11_year_5 : List UInt8 := [182, 1, 73, 172]
abbrev dktX11_year_5 : List UInt8 := dkwX11_year_5 ++ []
def dkwX11_year_4 : List UInt8 := [42, 182, 1, 145, 172, 42, 180, 1, 136, 172, 42, 42, 180, 0, 76, 182, 1, 77, 172, 42, 42, 180, 0, 76]
abbrev dktX11_year_4 : List UInt8 := dkwX11_year_4 ++ dktX11_year_5
def dkwX11_year_3 : List UInt8 := [170, 0, 0, 0, 44, 0, 0, 0, 0, 0, 0, 0, 2, 0, 0, 0, 25, 0, 0, 0, 30, 0, 0, 0, 35]
abbrev dktX11_year_3 : List UInt8 := dkwX11_year_3 ++ dktX11_year_4
def dkwX11_year_2 : List UInt8 := [29]
abbrev dktX11_year_2 : List UInt8 := dkwX11_year_2 ++ dktX11_year_3
def dkwX11_year_1 : List UInt8 := [154, 0, 7, 4, 167, 0, 4, 3, 4, 4, 182, 0, 183, 153, 0, 5, 3, 172, 42, 27, 28, 182, 1, 142]
abbrev dktX11_year_1 : List UInt8 := dkwX11_year_1 ++ dktX11_year_2
def dkwX11_year_0 : List UInt8 := [42, 3, 181, 0, 103, 42, 28, 4, 16, 96, 184, 0, 137, 153, 0, 12, 29, 3, 6, 184, 0, 137]
abbrev dktX11_year_0 : List UInt8 := dkwX11_year_0 ++ dktX11_year_1
theorem dksX11_year_0 : cX11_year.data.toList.drop 0 = dktX11_year_0 := by decide +kernel
theorem dksX11_year_1 : cX11_year.data.toList.drop 22 = dktX11_year_1 := dk_seg dksX11_year_0 22 rfl rfl
theorem dksX11_year_2 : cX11_year.data.toList.drop 46 = dktX11_year_2 := dk_seg dksX11_year_1 24 rfl rfl
theorem dksX11_year_3 : cX11_year.data.toList.drop 47 = dktX11_year_3 := dk_seg dksX11_year_2 1 rfl rfl
theorem dksX11_year_4 : cX11_year.data.toList.drop 72 = dktX11_year_4 := dk_seg dksX11_year_3 25 rfl rfl
theorem dksX11_year_5 : cX11_year.data.toList.drop 96 = dktX11_year_5 := dk_seg dksX11_year_4 24 rfl rfl
theorem dX11_year_0 : decode cX11_year 0 = .ok (.aload_n 0, 1) := dk_42 (dk_at dksX11_year_0 0 rfl rfl)
theorem dX11_year_1 : decode cX11_year 1 = .ok (.iconst 0, 1) := dk_3 (dk_at dksX11_year_0 1 rfl rfl)
theorem dX11_year_2 : decode cX11_year 2 = .ok (.putfield 103, 3) := dk_181 0 103 (dk_at dksX11_year_0 2 rfl rfl)
theorem dX11_year_5 : decode cX11_year 5 = .ok (.aload_n 0, 1) := dk_42 (dk_at dksX11_year_0 5 rfl rfl)
theorem dX11_year_6 : decode cX11_year 6 = .ok (.iload_n 2, 1) := dk_28 (dk_at dksX11_year_0 6 rfl rfl)
theorem dX11_year_7 : decode cX11_year 7 = .ok (.iconst 1, 1) := dk_4 (dk_at dksX11_year_0 7 rfl rfl)
theorem dX11_year_8 : decode cX11_year 8 = .ok (.bipush 96, 2) := dk_16 96 (dk_at dksX11_year_0 8 rfl rfl)
theorem dX11_year_10 : decode cX11_year 10 = .ok (.invokestatic 137, 3) := dk_184 0 137 (dk_at dksX11_year_0 10 rfl rfl)
theorem dX11_year_13 : decode cX11_year 13 = .ok (.ifCond .eq 12, 3) := dk_153 0 12 (dk_at dksX11_year_0 13 rfl rfl)
theorem dX11_year_16 : decode cX11_year 16 = .ok (.iload_n 3, 1) := dk_29 (dk_at dksX11_year_0 16 rfl rfl)
theorem dX11_year_17 : decode cX11_year 17 = .ok (.iconst 0, 1) := dk_3 (dk_at dksX11_year_0 17 rfl rfl)
theorem dX11_year_18 : decode cX11_year 18 = .ok (.iconst 3, 1) := dk_6 (dk_at dksX11_year_0 18 rfl rfl)
theorem dX11_year_19 : decode cX11_year 19 = .ok (.invokestatic 137, 3) := dk_184 0 137 (dk_at dksX11_year_0 19 rfl rfl)
theorem dX11_year_22 : decode cX11_year 22 = .ok (.ifCond .ne 7, 3) := dk_154 0 7 (dk_at dksX11_year_1 0 rfl rfl)
theorem dX11_year_25 : decode cX11_year 25 = .ok (.iconst 1, 1) := dk_4 (dk_at dksX11_year_1 3 rfl rfl)
theorem dX11_year_26 : decode cX11_year 26 = .ok (.goto 4, 3) := dk_167 0 4 (dk_at dksX11_year_1 4 rfl rfl)
theorem dX11_year_29 : decode cX11_year 29 = .ok (.iconst 0, 1) := dk_3 (dk_at dksX11_year_1 7 rfl rfl)
theorem dX11_year_30 : decode cX11_year 30 = .ok (.iconst 1, 1) := dk_4 (dk_at dksX11_year_1 8 rfl rfl)
theorem dX11_year_31 : decode cX11_year 31 = .ok (.iconst 1, 1) := dk_4 (dk_at dksX11_year_1 9 rfl rfl)
theorem dX11_year_32 : decode cX11_year 32 = .ok (.invokevirtual 183, 3) := dk_182 0 183 (dk_at dksX11_year_1 10 rfl rfl)
theorem dX11_year_35 : decode cX11_year 35 = .ok (.ifCond .eq 5, 3) := dk_153 0 5 (dk_at dksX11_year_1 13 rfl rfl)
theorem dX11_year_38 : decode cX11_year 38 = .ok (.iconst 0, 1) := dk_3 (dk_at dksX11_year_1 16 rfl rfl)
theorem dX11_year_39 : decode cX11_year 39 = .ok (.ireturn, 1) := dk_172 (dk_at dksX11_year_1 17 rfl rfl)
theorem dX11_year_40 : decode cX11_year 40 = .ok (.aload_n 0, 1) := dk_42 (dk_at dksX11_year_1 18 rfl rfl)
theorem dX11_year_41 : decode cX11_year 41 = .ok (.iload_n 1, 1) := dk_27 (dk_at dksX11_year_1 19 rfl rfl)
theorem dX11_year_42 : decode cX11_year 42 = .ok (.iload_n 2, 1) := dk_28 (dk_at dksX11_year_1 20 rfl rfl)
theorem dX11_year_43 : decode cX11_year 43 = .ok (.invokevirtual 398, 3) := dk_182 1 142 (dk_at dksX11_year_1 21 rfl rfl)
theorem dX11_year_46 : decode cX11_year 46 = .ok (.iload_n 3, 1) := dk_29 (dk_at dksX11_year_2 0 rfl rfl)
theorem dX11_year_47 : decode cX11_year 47 = .ok (.tableswitch 44 0 2 #[25, 30, 35], 25) := by decide +kernel
theorem dX11_year_72 : decode cX11_year 72 = .ok (.aload_n 0, 1) := dk_42 (dk_at dksX11_year_4 0 rfl rfl)
theorem dX11_year_73 : decode cX11_year 73 = .ok (.invokevirtual 401, 3) := dk_182 1 145 (dk_at dksX11_year_4 1 rfl rfl)
theorem dX11_year_76 : decode cX11_year 76 = .ok (.ireturn, 1) := dk_172 (dk_at dksX11_year_4 4 rfl rfl)
theorem dX11_year_77 : decode cX11_year 77 = .ok (.aload_n 0, 1) := dk_42 (dk_at dksX11_year_4 5 rfl rfl)
theorem dX11_year_78 : decode cX11_year 78 = .ok (.getfield 392, 3) := dk_180 1 136 (dk_at dksX11_year_4 6 rfl rfl)
theorem dX11_year_81 : decode cX11_year 81 = .ok (.ireturn, 1) := dk_172 (dk_at dksX11_year_4 9 rfl rfl)
theorem dX11_year_82 : decode cX11_year 82 = .ok (.aload_n 0, 1) := dk_42 (dk_at dksX11_year_4 10 rfl rfl)
theorem dX11_year_83 : decode cX11_year 83 = .ok (.aload_n 0, 1) := dk_42 (dk_at dksX11_year_4 11 rfl rfl)
theorem dX11_year_84 : decode cX11_year 84 = .ok (.getfield 76, 3) := dk_180 0 76 (dk_at dksX11_year_4 12 rfl rfl)
theorem dX11_year_87 : decode cX11_year 87 = .ok (.invokevirtual 333, 3) := dk_182 1 77 (dk_at dksX11_year_4 15 rfl rfl)
theorem dX11_year_90 : decode cX11_year 90 = .ok (.ireturn, 1) := dk_172 (dk_at dksX11_year_4 18 rfl rfl)
theorem dX11_year_91 : decode cX11_year 91 = .ok (.aload_n 0, 1) := dk_42 (dk_at dksX11_year_4 19 rfl rfl)
theorem dX11_year_92 : decode cX11_year 92 = .ok (.aload_n 0, 1) := dk_42 (dk_at dksX11_year_4 20 rfl rfl)
theorem dX11_year_93 : decode cX11_year 93 = .ok (.getfield 76, 3) := dk_180 0 76 (dk_at dksX11_year_4 21 rfl rfl)
theorem dX11_year_96 : decode cX11_year 96 = .ok (.invokevirtual 329, 3) := dk_182 1 73 (dk_at dksX11_year_5 0 rfl rfl)
theorem dX11_year_99 : decode cX11_year 99 = .ok (.ireturn, 1) := dk_172 (dk_at dksX11_year_5 3 rfl rfl)
def dkwX11_yearBy_7 : List UInt8 := [167, 255, 113, 177]
abbrev dktX11_yearBy_7 : List UInt8 := dkwX11_yearBy_7 ++ []
def dkwX11_yearBy_6 : List UInt8 := [180, 0, 23, 5, 46, 182, 1, 139, 182, 1, 49, 87, 42, 42, 180, 0, 76, 182, 1, 52, 132, 3, 1]
abbrev dktX11_yearBy_6 : List UInt8 := dkwX11_yearBy_6 ++ dktX11_yearBy_7
def dkwX11_yearBy_5 : List UInt8 := [158, 0, 36, 42, 42, 180, 0, 23, 4, 46, 182, 1, 139, 54, 4, 42, 42, 180, 0, 76, 21, 4, 42, 42]
abbrev dktX11_yearBy_5 : List UInt8 := dkwX11_yearBy_5 ++ dktX11_yearBy_6
def dkwX11_yearBy_4 : List UInt8 := [181, 1, 136, 132, 4, 1, 167, 255, 186, 42, 180, 0, 23, 4, 46, 158, 0, 45, 42, 180, 0, 23, 5, 46]
abbrev dktX11_yearBy_4 : List UInt8 := dkwX11_yearBy_4 ++ dktX11_yearBy_5
def dkwX11_yearBy_3 : List UInt8 := [42, 89, 180, 1, 136, 42, 42, 180, 0, 76, 21, 4, 182, 1, 46, 153, 0, 7, 4, 167, 0, 4, 3, 96]
abbrev dktX11_yearBy_3 : List UInt8 := dkwX11_yearBy_3 ++ dktX11_yearBy_4
def dkwX11_yearBy_2 : List UInt8 := [21, 4, 182, 1, 40, 153, 0, 46, 42, 16, 16, 182, 1, 139, 42, 180, 0, 29, 21, 4, 46, 162, 0, 30]
abbrev dktX11_yearBy_2 : List UInt8 := dkwX11_yearBy_2 ++ dktX11_yearBy_3
def dkwX11_yearBy_1 : List UInt8 := [28, 162, 0, 144, 3, 54, 4, 21, 4, 42, 180, 0, 23, 3, 46, 162, 0, 65, 42, 42, 180, 0, 76]
abbrev dktX11_yearBy_1 : List UInt8 := dkwX11_yearBy_1 ++ dktX11_yearBy_2
def dkwX11_yearBy_0 : List UInt8 := [42, 180, 0, 73, 42, 180, 0, 76, 184, 1, 69, 42, 27, 181, 1, 132, 42, 3, 181, 1, 136, 3, 62, 29]
abbrev dktX11_yearBy_0 : List UInt8 := dkwX11_yearBy_0 ++ dktX11_yearBy_1
theorem dksX11_yearBy_0 : cX11_yearBy.data.toList.drop 0 = dktX11_yearBy_0 := by decide +kernel
theorem dksX11_yearBy_1 : cX11_yearBy.data.toList.drop 24 = dktX11_yearBy_1 := dk_seg dksX11_yearBy_0 24 rfl rfl
theorem dksX11_yearBy_2 : cX11_yearBy.data.toList.drop 47 = dktX11_yearBy_2 := dk_seg dksX11_yearBy_1 23 rfl rfl
theorem dksX11_yearBy_3 : cX11_yearBy.data.toList.drop 71 = dktX11_yearBy_3 := dk_seg dksX11_yearBy_2 24 rfl rfl
theorem dksX11_yearBy_4 : cX11_yearBy.data.toList.drop 95 = dktX11_yearBy_4 := dk_seg dksX11_yearBy_3 24 rfl rfl
theorem dksX11_yearBy_5 : cX11_yearBy.data.toList.drop 119 = dktX11_yearBy_5 := dk_seg dksX11_yearBy_4 24 rfl rfl
theorem dksX11_yearBy_6 : cX11_yearBy.data.toList.drop 143 = dktX11_yearBy_6 := dk_seg dksX11_yearBy_5 24 rfl rfl
theorem dksX11_yearBy_7 : cX11_yearBy.data.toList.drop 166 = dktX11_yearBy_7 := dk_seg dksX11_yearBy_6 23 rfl rfl
theorem dX11_yearBy_0 : decode cX11_yearBy 0 = .ok (.aload_n 0, 1) := dk_42 (dk_at dksX11_yearBy_0 0 rfl rfl)
theorem dX11_yearBy_1 : decode cX11_yearBy 1 = .ok (.getfield 73, 3) := dk_180 0 73 (dk_at dksX11_yearBy_0 1 rfl rfl)
theorem dX11_yearBy_4 : decode cX11_yearBy 4 = .ok (.aload_n 0, 1) := dk_42 (dk_at dksX11_yearBy_0 4 rfl rfl)
theorem dX11_yearBy_5 : decode cX11_yearBy 5 = .ok (.getfield 76, 3) := dk_180 0 76 (dk_at dksX11_yearBy_0 5 rfl rfl)
theorem dX11_yearBy_8 : decode cX11_yearBy 8 = .ok (.invokestatic 325, 3) := dk_184 1 69 (dk_at dksX11_yearBy_0 8 rfl rfl)
theorem dX11_yearBy_11 : decode cX11_yearBy 11 = .ok (.aload_n 0, 1) := dk_42 (dk_at dksX11_yearBy_0 11 rfl rfl)
theorem dX11_yearBy_12 : decode cX11_yearBy 12 = .ok (.iload_n 1, 1) := dk_27 (dk_at dksX11_yearBy_0 12 rfl rfl)
theorem dX11_yearBy_13 : decode cX11_yearBy 13 = .ok (.putfield 388, 3) := dk_181 1 132 (dk_at dksX11_yearBy_0 13 rfl rfl)
theorem dX11_yearBy_16 : decode cX11_yearBy 16 = .ok (.aload_n 0, 1) := dk_42 (dk_at dksX11_yearBy_0 16 rfl rfl)
theorem dX11_yearBy_17 : decode cX11_yearBy 17 = .ok (.iconst 0, 1) := dk_3 (dk_at dksX11_yearBy_0 17 rfl rfl)
theorem dX11_yearBy_18 : decode cX11_yearBy 18 = .ok (.putfield 392, 3) := dk_181 1 136 (dk_at dksX11_yearBy_0 18 rfl rfl)
theorem dX11_yearBy_21 : decode cX11_yearBy 21 = .ok (.iconst 0, 1) := dk_3 (dk_at dksX11_yearBy_0 21 rfl rfl)
theorem dX11_yearBy_22 : decode cX11_yearBy 22 = .ok (.istore_n 3, 1) := dk_62 (dk_at dksX11_yearBy_0 22 rfl rfl)
theorem dX11_yearBy_23 : decode cX11_yearBy 23 = .ok (.iload_n 3, 1) := dk_29 (dk_at dksX11_yearBy_0 23 rfl rfl)
theorem dX11_yearBy_24 : decode cX11_yearBy 24 = .ok (.iload_n 2, 1) := dk_28 (dk_at dksX11_yearBy_1 0 rfl rfl)
theorem dX11_yearBy_25 : decode cX11_yearBy 25 = .ok (.if_icmp .ge 144, 3) := dk_162 0 144 (dk_at dksX11_yearBy_1 1 rfl rfl)
theorem dX11_yearBy_28 : decode cX11_yearBy 28 = .ok (.iconst 0, 1) := dk_3 (dk_at dksX11_yearBy_1 4 rfl rfl)
theorem dX11_yearBy_29 : decode cX11_yearBy 29 = .ok (.istore 4, 2) := dk_54 4 (dk_at dksX11_yearBy_1 5 rfl rfl)
theorem dX11_yearBy_31 : decode cX11_yearBy 31 = .ok (.iload 4, 2) := dk_21 4 (dk_at dksX11_yearBy_1 7 rfl rfl)
theorem dX11_yearBy_33 : decode cX11_yearBy 33 = .ok (.aload_n 0, 1) := dk_42 (dk_at dksX11_yearBy_1 9 rfl rfl)
theorem dX11_yearBy_34 : decode cX11_yearBy 34 = .ok (.getfield 23, 3) := dk_180 0 23 (dk_at dksX11_yearBy_1 10 rfl rfl)
theorem dX11_yearBy_37 : decode cX11_yearBy 37 = .ok (.iconst 0, 1) := dk_3 (dk_at dksX11_yearBy_1 13 rfl rfl)
theorem dX11_yearBy_38 : decode cX11_yearBy 38 = .ok (.iaload, 1) := dk_46 (dk_at dksX11_yearBy_1 14 rfl rfl)
theorem dX11_yearBy_39 : decode cX11_yearBy 39 = .ok (.if_icmp .ge 65, 3) := dk_162 0 65 (dk_at dksX11_yearBy_1 15 rfl rfl)
theorem dX11_yearBy_42 : decode cX11_yearBy 42 = .ok (.aload_n 0, 1) := dk_42 (dk_at dksX11_yearBy_1 18 rfl rfl)
theorem dX11_yearBy_43 : decode cX11_yearBy 43 = .ok (.aload_n 0, 1) := dk_42 (dk_at dksX11_yearBy_1 19 rfl rfl)
theorem dX11_yearBy_44 : decode cX11_yearBy 44 = .ok (.getfield 76, 3) := dk_180 0 76 (dk_at dksX11_yearBy_1 20 rfl rfl)
theorem dX11_yearBy_47 : decode cX11_yearBy 47 = .ok (.iload 4, 2) := dk_21 4 (dk_at dksX11_yearBy_2 0 rfl rfl)
theorem dX11_yearBy_49 : decode cX11_yearBy 49 = .ok (.invokevirtual 296, 3) := dk_182 1 40 (dk_at dksX11_yearBy_2 2 rfl rfl)
theorem dX11_yearBy_52 : decode cX11_yearBy 52 = .ok (.ifCond .eq 46, 3) := dk_153 0 46 (dk_at dksX11_yearBy_2 5 rfl rfl)
theorem dX11_yearBy_55 : decode cX11_yearBy 55 = .ok (.aload_n 0, 1) := dk_42 (dk_at dksX11_yearBy_2 8 rfl rfl)
theorem dX11_yearBy_56 : decode cX11_yearBy 56 = .ok (.bipush 16, 2) := dk_16 16 (dk_at dksX11_yearBy_2 9 rfl rfl)
theorem dX11_yearBy_58 : decode cX11_yearBy 58 = .ok (.invokevirtual 395, 3) := dk_182 1 139 (dk_at dksX11_yearBy_2 11 rfl rfl)
theorem dX11_yearBy_61 : decode cX11_yearBy 61 = .ok (.aload_n 0, 1) := dk_42 (dk_at dksX11_yearBy_2 14 rfl rfl)
theorem dX11_yearBy_62 : decode cX11_yearBy 62 = .ok (.getfield 29, 3) := dk_180 0 29 (dk_at dksX11_yearBy_2 15 rfl rfl)
theorem dX11_yearBy_65 : decode cX11_yearBy 65 = .ok (.iload 4, 2) := dk_21 4 (dk_at dksX11_yearBy_2 18 rfl rfl)
theorem dX11_yearBy_67 : decode cX11_yearBy 67 = .ok (.iaload, 1) := dk_46 (dk_at dksX11_yearBy_2 20 rfl rfl)
theorem dX11_yearBy_68 : decode cX11_yearBy 68 = .ok (.if_icmp .ge 30, 3) := dk_162 0 30 (dk_at dksX11_yearBy_2 21 rfl rfl)
theorem dX11_yearBy_71 : decode cX11_yearBy 71 = .ok (.aload_n 0, 1) := dk_42 (dk_at dksX11_yearBy_3 0 rfl rfl)
theorem dX11_yearBy_72 : decode cX11_yearBy 72 = .ok (.dup, 1) := dk_89 (dk_at dksX11_yearBy_3 1 rfl rfl)
theorem dX11_yearBy_73 : decode cX11_yearBy 73 = .ok (.getfield 392, 3) := dk_180 1 136 (dk_at dksX11_yearBy_3 2 rfl rfl)
theorem dX11_yearBy_76 : decode cX11_yearBy 76 = .ok (.aload_n 0, 1) := dk_42 (dk_at dksX11_yearBy_3 5 rfl rfl)
theorem dX11_yearBy_77 : decode cX11_yearBy 77 = .ok (.aload_n 0, 1) := dk_42 (dk_at dksX11_yearBy_3 6 rfl rfl)
theorem dX11_yearBy_78 : decode cX11_yearBy 78 = .ok (.getfield 76, 3) := dk_180 0 76 (dk_at dksX11_yearBy_3 7 rfl rfl)
theorem dX11_yearBy_81 : decode cX11_yearBy 81 = .ok (.iload 4, 2) := dk_21 4 (dk_at dksX11_yearBy_3 10 rfl rfl)
theorem dX11_yearBy_83 : decode cX11_yearBy 83 = .ok (.invokevirtual 302, 3) := dk_182 1 46 (dk_at dksX11_yearBy_3 12 rfl rfl)
theorem dX11_yearBy_86 : decode cX11_yearBy 86 = .ok (.ifCond .eq 7, 3) := dk_153 0 7 (dk_at dksX11_yearBy_3 15 rfl rfl)
theorem dX11_yearBy_89 : decode cX11_yearBy 89 = .ok (.iconst 1, 1) := dk_4 (dk_at dksX11_yearBy_3 18 rfl rfl)
theorem dX11_yearBy_90 : decode cX11_yearBy 90 = .ok (.goto 4, 3) := dk_167 0 4 (dk_at dksX11_yearBy_3 19 rfl rfl)
theorem dX11_yearBy_93 : decode cX11_yearBy 93 = .ok (.iconst 0, 1) := dk_3 (dk_at dksX11_yearBy_3 22 rfl rfl)
theorem dX11_yearBy_94 : decode cX11_yearBy 94 = .ok (.iadd, 1) := dk_96 (dk_at dksX11_yearBy_3 23 rfl rfl)
theorem dX11_yearBy_95 : decode cX11_yearBy 95 = .ok (.putfield 392, 3) := dk_181 1 136 (dk_at dksX11_yearBy_4 0 rfl rfl)
theorem dX11_yearBy_98 : decode cX11_yearBy 98 = .ok (.iinc 4 1, 3) := dk_132 4 1 (dk_at dksX11_yearBy_4 3 rfl rfl)
theorem dX11_yearBy_101 : decode cX11_yearBy 101 = .ok (.goto (-70), 3) := dk_167 255 186 (dk_at dksX11_yearBy_4 6 rfl rfl)
theorem dX11_yearBy_104 : decode cX11_yearBy 104 = .ok (.aload_n 0, 1) := dk_42 (dk_at dksX11_yearBy_4 9 rfl rfl)
theorem dX11_yearBy_105 : decode cX11_yearBy 105 = .ok (.getfield 23, 3) := dk_180 0 23 (dk_at dksX11_yearBy_4 10 rfl rfl)
theorem dX11_yearBy_108 : decode cX11_yearBy 108 = .ok (.iconst 1, 1) := dk_4 (dk_at dksX11_yearBy_4 13 rfl rfl)
theorem dX11_yearBy_109 : decode cX11_yearBy 109 = .ok (.iaload, 1) := dk_46 (dk_at dksX11_yearBy_4 14 rfl rfl)
theorem dX11_yearBy_110 : decode cX11_yearBy 110 = .ok (.ifCond .le 45, 3) := dk_158 0 45 (dk_at dksX11_yearBy_4 15 rfl rfl)
theorem dX11_yearBy_113 : decode cX11_yearBy 113 = .ok (.aload_n 0, 1) := dk_42 (dk_at dksX11_yearBy_4 18 rfl rfl)
theorem dX11_yearBy_114 : decode cX11_yearBy 114 = .ok (.getfield 23, 3) := dk_180 0 23 (dk_at dksX11_yearBy_4 19 rfl rfl)
theorem dX11_yearBy_117 : decode cX11_yearBy 117 = .ok (.iconst 2, 1) := dk_5 (dk_at dksX11_yearBy_4 22 rfl rfl)
theorem dX11_yearBy_118 : decode cX11_yearBy 118 = .ok (.iaload, 1) := dk_46 (dk_at dksX11_yearBy_4 23 rfl rfl)
theorem dX11_yearBy_119 : decode cX11_yearBy 119 = .ok (.ifCond .le 36, 3) := dk_158 0 36 (dk_at dksX11_yearBy_5 0 rfl rfl)
theorem dX11_yearBy_122 : decode cX11_yearBy 122 = .ok (.aload_n 0, 1) := dk_42 (dk_at dksX11_yearBy_5 3 rfl rfl)
theorem dX11_yearBy_123 : decode cX11_yearBy 123 = .ok (.aload_n 0, 1) := dk_42 (dk_at dksX11_yearBy_5 4 rfl rfl)
theorem dX11_yearBy_124 : decode cX11_yearBy 124 = .ok (.getfield 23, 3) := dk_180 0 23 (dk_at dksX11_yearBy_5 5 rfl rfl)
theorem dX11_yearBy_127 : decode cX11_yearBy 127 = .ok (.iconst 1, 1) := dk_4 (dk_at dksX11_yearBy_5 8 rfl rfl)
theorem dX11_yearBy_128 : decode cX11_yearBy 128 = .ok (.iaload, 1) := dk_46 (dk_at dksX11_yearBy_5 9 rfl rfl)
theorem dX11_yearBy_129 : decode cX11_yearBy 129 = .ok (.invokevirtual 395, 3) := dk_182 1 139 (dk_at dksX11_yearBy_5 10 rfl rfl)
theorem dX11_yearBy_132 : decode cX11_yearBy 132 = .ok (.istore 4, 2) := dk_54 4 (dk_at dksX11_yearBy_5 13 rfl rfl)
theorem dX11_yearBy_134 : decode cX11_yearBy 134 = .ok (.aload_n 0, 1) := dk_42 (dk_at dksX11_yearBy_5 15 rfl rfl)
theorem dX11_yearBy_135 : decode cX11_yearBy 135 = .ok (.aload_n 0, 1) := dk_42 (dk_at dksX11_yearBy_5 16 rfl rfl)
theorem dX11_yearBy_136 : decode cX11_yearBy 136 = .ok (.getfield 76, 3) := dk_180 0 76 (dk_at dksX11_yearBy_5 17 rfl rfl)
theorem dX11_yearBy_139 : decode cX11_yearBy 139 = .ok (.iload 4, 2) := dk_21 4 (dk_at dksX11_yearBy_5 20 rfl rfl)
theorem dX11_yearBy_141 : decode cX11_yearBy 141 = .ok (.aload_n 0, 1) := dk_42 (dk_at dksX11_yearBy_5 22 rfl rfl)
theorem dX11_yearBy_142 : decode cX11_yearBy 142 = .ok (.aload_n 0, 1) := dk_42 (dk_at dksX11_yearBy_5 23 rfl rfl)
theorem dX11_yearBy_143 : decode cX11_yearBy 143 = .ok (.getfield 23, 3) := dk_180 0 23 (dk_at dksX11_yearBy_6 0 rfl rfl)
theorem dX11_yearBy_146 : decode cX11_yearBy 146 = .ok (.iconst 2, 1) := dk_5 (dk_at dksX11_yearBy_6 3 rfl rfl)
theorem dX11_yearBy_147 : decode cX11_yearBy 147 = .ok (.iaload, 1) := dk_46 (dk_at dksX11_yearBy_6 4 rfl rfl)
theorem dX11_yearBy_148 : decode cX11_yearBy 148 = .ok (.invokevirtual 395, 3) := dk_182 1 139 (dk_at dksX11_yearBy_6 5 rfl rfl)
theorem dX11_yearBy_151 : decode cX11_yearBy 151 = .ok (.invokevirtual 305, 3) := dk_182 1 49 (dk_at dksX11_yearBy_6 8 rfl rfl)
theorem dX11_yearBy_154 : decode cX11_yearBy 154 = .ok (.pop, 1) := dk_87 (dk_at dksX11_yearBy_6 11 rfl rfl)
theorem dX11_yearBy_155 : decode cX11_yearBy 155 = .ok (.aload_n 0, 1) := dk_42 (dk_at dksX11_yearBy_6 12 rfl rfl)
theorem dX11_yearBy_156 : decode cX11_yearBy 156 = .ok (.aload_n 0, 1) := dk_42 (dk_at dksX11_yearBy_6 13 rfl rfl)
theorem dX11_yearBy_157 : decode cX11_yearBy 157 = .ok (.getfield 76, 3) := dk_180 0 76 (dk_at dksX11_yearBy_6 14 rfl rfl)
theorem dX11_yearBy_160 : decode cX11_yearBy 160 = .ok (.invokevirtual 308, 3) := dk_182 1 52 (dk_at dksX11_yearBy_6 17 rfl rfl)
theorem dX11_yearBy_163 : decode cX11_yearBy 163 = .ok (.iinc 3 1, 3) := dk_132 3 1 (dk_at dksX11_yearBy_6 20 rfl rfl)
theorem dX11_yearBy_166 : decode cX11_yearBy 166 = .ok (.goto (-143), 3) := dk_167 255 113 (dk_at dksX11_yearBy_7 0 rfl rfl)
theorem dX11_yearBy_169 : decode cX11_yearBy 169 = .ok (.return_, 1) := dk_177 (dk_at dksX11_yearBy_7 3 rfl rfl)
def dkwX11_draw_1 : List UInt8 := [17, 127, 255, 126, 27, 112, 172]
abbrev dktX11_draw_1 : List UInt8 := dkwX11_draw_1 ++ []
def dkwX11_draw_0 : List UInt8 := [42, 42, 180, 1, 132, 19, 1, 135, 104, 17, 48, 57, 96, 181, 1, 132, 42, 180, 1, 132, 16, 16, 122]
abbrev dktX11_draw_0 : List UInt8 := dkwX11_draw_0 ++ dktX11_draw_1
theorem dksX11_draw_0 : cX11_draw.data.toList.drop 0 = dktX11_draw_0 := by decide +kernel
theorem dksX11_draw_1 : cX11_draw.data.toList.drop 23 = dktX11_draw_1 := dk_seg dksX11_draw_0 23 rfl rfl
theorem dX11_draw_0 : decode cX11_draw 0 = .ok (.aload_n 0, 1) := dk_42 (dk_at dksX11_draw_0 0 rfl rfl)
theorem dX11_draw_1 : decode cX11_draw 1 = .ok (.aload_n 0, 1) := dk_42 (dk_at dksX11_draw_0 1 rfl rfl)
theorem dX11_draw_2 : decode cX11_draw 2 = .ok (.getfield 388, 3) := dk_180 1 132 (dk_at dksX11_draw_0 2 rfl rfl)
theorem dX11_draw_5 : decode cX11_draw 5 = .ok (.ldc_w 391, 3) := dk_19 1 135 (dk_at dksX11_draw_0 5 rfl rfl)
theorem dX11_draw_8 : decode cX11_draw 8 = .ok (.imul, 1) := dk_104 (dk_at dksX11_draw_0 8 rfl rfl)
theorem dX11_draw_9 : decode cX11_draw 9 = .ok (.sipush 12345, 3) := dk_17 48 57 (dk_at dksX11_draw_0 9 rfl rfl)
theorem dX11_draw_12 : decode cX11_draw 12 = .ok (.iadd, 1) := dk_96 (dk_at dksX11_draw_0 12 rfl rfl)
theorem dX11_draw_13 : decode cX11_draw 13 = .ok (.putfield 388, 3) := dk_181 1 132 (dk_at dksX11_draw_0 13 rfl rfl)
theorem dX11_draw_16 : decode cX11_draw 16 = .ok (.aload_n 0, 1) := dk_42 (dk_at dksX11_draw_0 16 rfl rfl)
theorem dX11_draw_17 : decode cX11_draw 17 = .ok (.getfield 388, 3) := dk_180 1 132 (dk_at dksX11_draw_0 17 rfl rfl)
theorem dX11_draw_20 : decode cX11_draw 20 = .ok (.bipush 16, 2) := dk_16 16 (dk_at dksX11_draw_0 20 rfl rfl)
theorem dX11_draw_22 : decode cX11_draw 22 = .ok (.ishr, 1) := dk_122 (dk_at dksX11_draw_0 22 rfl rfl)
theorem dX11_draw_23 : decode cX11_draw 23 = .ok (.sipush 32767, 3) := dk_17 127 255 (dk_at dksX11_draw_1 0 rfl rfl)
theorem dX11_draw_26 : decode cX11_draw 26 = .ok (.iand, 1) := dk_126 (dk_at dksX11_draw_1 3 rfl rfl)
theorem dX11_draw_27 : decode cX11_draw 27 = .ok (.iload_n 1, 1) := dk_27 (dk_at dksX11_draw_1 4 rfl rfl)
theorem dX11_draw_28 : decode cX11_draw 28 = .ok (.irem, 1) := dk_112 (dk_at dksX11_draw_1 5 rfl rfl)
theorem dX11_draw_29 : decode cX11_draw 29 = .ok (.ireturn, 1) := dk_172 (dk_at dksX11_draw_1 6 rfl rfl)
def dkwX11_curedMore_0 : List UInt8 := [42, 42, 180, 0, 76, 182, 1, 73, 184, 1, 22, 42, 42, 180, 0, 73, 182, 1, 73, 184, 1, 22, 100, 172]
abbrev dktX11_curedMore_0 : List UInt8 := dkwX11_curedMore_0 ++ []
theorem dksX11_curedMore_0 : cX11_curedMore.data.toList.drop 0 = dktX11_curedMore_0 := by decide +kernel
theorem dX11_curedMore_0 : decode cX11_curedMore 0 = .ok (.aload_n 0, 1) := dk_42 (dk_at dksX11_curedMore_0 0 rfl rfl)
theorem dX11_curedMore_1 : decode cX11_curedMore 1 = .ok (.aload_n 0, 1) := dk_42 (dk_at dksX11_curedMore_0 1 rfl rfl)
theorem dX11_curedMore_2 : decode cX11_curedMore 2 = .ok (.getfield 76, 3) := dk_180 0 76 (dk_at dksX11_curedMore_0 2 rfl rfl)
theorem dX11_curedMore_5 : decode cX11_curedMore 5 = .ok (.invokevirtual 329, 3) := dk_182 1 73 (dk_at dksX11_curedMore_0 5 rfl rfl)
theorem dX11_curedMore_8 : decode cX11_curedMore 8 = .ok (.invokestatic 278, 3) := dk_184 1 22 (dk_at dksX11_curedMore_0 8 rfl rfl)
theorem dX11_curedMore_11 : decode cX11_curedMore 11 = .ok (.aload_n 0, 1) := dk_42 (dk_at dksX11_curedMore_0 11 rfl rfl)
theorem dX11_curedMore_12 : decode cX11_curedMore 12 = .ok (.aload_n 0, 1) := dk_42 (dk_at dksX11_curedMore_0 12 rfl rfl)
theorem dX11_curedMore_13 : decode cX11_curedMore 13 = .ok (.getfield 73, 3) := dk_180 0 73 (dk_at dksX11_curedMore_0 13 rfl rfl)
theorem dX11_curedMore_16 : decode cX11_curedMore 16 = .ok (.invokevirtual 329, 3) := dk_182 1 73 (dk_at dksX11_curedMore_0 16 rfl rfl)
theorem dX11_curedMore_19 : decode cX11_curedMore 19 = .ok (.invokestatic 278, 3) := dk_184 1 22 (dk_at dksX11_curedMore_0 19 rfl rfl)
theorem dX11_curedMore_22 : decode cX11_curedMore 22 = .ok (.isub, 1) := dk_100 (dk_at dksX11_curedMore_0 22 rfl rfl)
theorem dX11_curedMore_23 : decode cX11_curedMore 23 = .ok (.ireturn, 1) := dk_172 (dk_at dksX11_curedMore_0 23 rfl rfl)
def dkwX11_span_7 : List UInt8 := [21, 4, 4, 160, 0, 8, 21, 7, 167, 0, 5, 21, 8, 172]
abbrev dktX11_span_7 : List UInt8 := dkwX11_span_7 ++ []
def dkwX11_span_6 : List UInt8 := [167, 0, 4, 3, 96, 54, 8, 132, 9, 1, 167, 255, 177, 21, 4, 154, 0, 8, 21, 6, 167, 0, 16]
abbrev dktX11_span_6 : List UInt8 := dkwX11_span_6 ++ dktX11_span_7
def dkwX11_span_5 : List UInt8 := [184, 0, 248, 54, 7, 21, 8, 42, 42, 180, 0, 76, 182, 1, 73, 21, 5, 184, 1, 7, 153, 0, 7, 4]
abbrev dktX11_span_5 : List UInt8 := dkwX11_span_5 ++ dktX11_span_6
def dkwX11_span_4 : List UInt8 := [21, 6, 2, 160, 0, 8, 21, 10, 167, 0, 10, 21, 6, 21, 10, 184, 0, 245, 54, 6, 21, 7, 21, 10]
abbrev dktX11_span_4 : List UInt8 := dkwX11_span_4 ++ dktX11_span_5
def dkwX11_span_3 : List UInt8 := [54, 9, 21, 9, 28, 162, 0, 79, 42, 27, 21, 9, 96, 29, 182, 1, 142, 42, 182, 1, 145, 54, 10]
abbrev dktX11_span_3 : List UInt8 := dkwX11_span_3 ++ dktX11_span_4
def dkwX11_span_2 : List UInt8 := [167, 0, 4, 3, 4, 4, 182, 0, 183, 153, 0, 5, 3, 172, 2, 54, 6, 3, 54, 7, 3, 54, 8, 3]
abbrev dktX11_span_2 : List UInt8 := dkwX11_span_2 ++ dktX11_span_3
def dkwX11_span_1 : List UInt8 := [153, 0, 22, 21, 4, 3, 5, 184, 0, 137, 153, 0, 12, 42, 21, 5, 182, 1, 86, 154, 0, 7, 4]
abbrev dktX11_span_1 : List UInt8 := dkwX11_span_1 ++ dktX11_span_2
def dkwX11_span_0 : List UInt8 := [42, 3, 181, 0, 103, 42, 28, 4, 16, 20, 184, 0, 137, 153, 0, 32, 29, 4, 16, 96, 184, 0, 137]
abbrev dktX11_span_0 : List UInt8 := dkwX11_span_0 ++ dktX11_span_1
theorem dksX11_span_0 : cX11_span.data.toList.drop 0 = dktX11_span_0 := by decide +kernel
theorem dksX11_span_1 : cX11_span.data.toList.drop 23 = dktX11_span_1 := dk_seg dksX11_span_0 23 rfl rfl
theorem dksX11_span_2 : cX11_span.data.toList.drop 46 = dktX11_span_2 := dk_seg dksX11_span_1 23 rfl rfl
theorem dksX11_span_3 : cX11_span.data.toList.drop 70 = dktX11_span_3 := dk_seg dksX11_span_2 24 rfl rfl
theorem dksX11_span_4 : cX11_span.data.toList.drop 93 = dktX11_span_4 := dk_seg dksX11_span_3 23 rfl rfl
theorem dksX11_span_5 : cX11_span.data.toList.drop 117 = dktX11_span_5 := dk_seg dksX11_span_4 24 rfl rfl
theorem dksX11_span_6 : cX11_span.data.toList.drop 141 = dktX11_span_6 := dk_seg dksX11_span_5 24 rfl rfl
theorem dksX11_span_7 : cX11_span.data.toList.drop 164 = dktX11_span_7 := dk_seg dksX11_span_6 23 rfl rfl
theorem dX11_span_0 : decode cX11_span 0 = .ok (.aload_n 0, 1) := dk_42 (dk_at dksX11_span_0 0 rfl rfl)
theorem dX11_span_1 : decode cX11_span 1 = .ok (.iconst 0, 1) := dk_3 (dk_at dksX11_span_0 1 rfl rfl)
theorem dX11_span_2 : decode cX11_span 2 = .ok (.putfield 103, 3) := dk_181 0 103 (dk_at dksX11_span_0 2 rfl rfl)
theorem dX11_span_5 : decode cX11_span 5 = .ok (.aload_n 0, 1) := dk_42 (dk_at dksX11_span_0 5 rfl rfl)
theorem dX11_span_6 : decode cX11_span 6 = .ok (.iload_n 2, 1) := dk_28 (dk_at dksX11_span_0 6 rfl rfl)
theorem dX11_span_7 : decode cX11_span 7 = .ok (.iconst 1, 1) := dk_4 (dk_at dksX11_span_0 7 rfl rfl)
theorem dX11_span_8 : decode cX11_span 8 = .ok (.bipush 20, 2) := dk_16 20 (dk_at dksX11_span_0 8 rfl rfl)
theorem dX11_span_10 : decode cX11_span 10 = .ok (.invokestatic 137, 3) := dk_184 0 137 (dk_at dksX11_span_0 10 rfl rfl)
theorem dX11_span_13 : decode cX11_span 13 = .ok (.ifCond .eq 32, 3) := dk_153 0 32 (dk_at dksX11_span_0 13 rfl rfl)
theorem dX11_span_16 : decode cX11_span 16 = .ok (.iload_n 3, 1) := dk_29 (dk_at dksX11_span_0 16 rfl rfl)
theorem dX11_span_17 : decode cX11_span 17 = .ok (.iconst 1, 1) := dk_4 (dk_at dksX11_span_0 17 rfl rfl)
theorem dX11_span_18 : decode cX11_span 18 = .ok (.bipush 96, 2) := dk_16 96 (dk_at dksX11_span_0 18 rfl rfl)
theorem dX11_span_20 : decode cX11_span 20 = .ok (.invokestatic 137, 3) := dk_184 0 137 (dk_at dksX11_span_0 20 rfl rfl)
theorem dX11_span_23 : decode cX11_span 23 = .ok (.ifCond .eq 22, 3) := dk_153 0 22 (dk_at dksX11_span_1 0 rfl rfl)
theorem dX11_span_26 : decode cX11_span 26 = .ok (.iload 4, 2) := dk_21 4 (dk_at dksX11_span_1 3 rfl rfl)
theorem dX11_span_28 : decode cX11_span 28 = .ok (.iconst 0, 1) := dk_3 (dk_at dksX11_span_1 5 rfl rfl)
theorem dX11_span_29 : decode cX11_span 29 = .ok (.iconst 2, 1) := dk_5 (dk_at dksX11_span_1 6 rfl rfl)
theorem dX11_span_30 : decode cX11_span 30 = .ok (.invokestatic 137, 3) := dk_184 0 137 (dk_at dksX11_span_1 7 rfl rfl)
theorem dX11_span_33 : decode cX11_span 33 = .ok (.ifCond .eq 12, 3) := dk_153 0 12 (dk_at dksX11_span_1 10 rfl rfl)
theorem dX11_span_36 : decode cX11_span 36 = .ok (.aload_n 0, 1) := dk_42 (dk_at dksX11_span_1 13 rfl rfl)
theorem dX11_span_37 : decode cX11_span 37 = .ok (.iload 5, 2) := dk_21 5 (dk_at dksX11_span_1 14 rfl rfl)
theorem dX11_span_39 : decode cX11_span 39 = .ok (.invokevirtual 342, 3) := dk_182 1 86 (dk_at dksX11_span_1 16 rfl rfl)
theorem dX11_span_42 : decode cX11_span 42 = .ok (.ifCond .ne 7, 3) := dk_154 0 7 (dk_at dksX11_span_1 19 rfl rfl)
theorem dX11_span_45 : decode cX11_span 45 = .ok (.iconst 1, 1) := dk_4 (dk_at dksX11_span_1 22 rfl rfl)
theorem dX11_span_46 : decode cX11_span 46 = .ok (.goto 4, 3) := dk_167 0 4 (dk_at dksX11_span_2 0 rfl rfl)
theorem dX11_span_49 : decode cX11_span 49 = .ok (.iconst 0, 1) := dk_3 (dk_at dksX11_span_2 3 rfl rfl)
theorem dX11_span_50 : decode cX11_span 50 = .ok (.iconst 1, 1) := dk_4 (dk_at dksX11_span_2 4 rfl rfl)
theorem dX11_span_51 : decode cX11_span 51 = .ok (.iconst 1, 1) := dk_4 (dk_at dksX11_span_2 5 rfl rfl)
theorem dX11_span_52 : decode cX11_span 52 = .ok (.invokevirtual 183, 3) := dk_182 0 183 (dk_at dksX11_span_2 6 rfl rfl)
theorem dX11_span_55 : decode cX11_span 55 = .ok (.ifCond .eq 5, 3) := dk_153 0 5 (dk_at dksX11_span_2 9 rfl rfl)
theorem dX11_span_58 : decode cX11_span 58 = .ok (.iconst 0, 1) := dk_3 (dk_at dksX11_span_2 12 rfl rfl)
theorem dX11_span_59 : decode cX11_span 59 = .ok (.ireturn, 1) := dk_172 (dk_at dksX11_span_2 13 rfl rfl)
theorem dX11_span_60 : decode cX11_span 60 = .ok (.iconst (-1), 1) := dk_2 (dk_at dksX11_span_2 14 rfl rfl)
theorem dX11_span_61 : decode cX11_span 61 = .ok (.istore 6, 2) := dk_54 6 (dk_at dksX11_span_2 15 rfl rfl)
theorem dX11_span_63 : decode cX11_span 63 = .ok (.iconst 0, 1) := dk_3 (dk_at dksX11_span_2 17 rfl rfl)
theorem dX11_span_64 : decode cX11_span 64 = .ok (.istore 7, 2) := dk_54 7 (dk_at dksX11_span_2 18 rfl rfl)
theorem dX11_span_66 : decode cX11_span 66 = .ok (.iconst 0, 1) := dk_3 (dk_at dksX11_span_2 20 rfl rfl)
theorem dX11_span_67 : decode cX11_span 67 = .ok (.istore 8, 2) := dk_54 8 (dk_at dksX11_span_2 21 rfl rfl)
theorem dX11_span_69 : decode cX11_span 69 = .ok (.iconst 0, 1) := dk_3 (dk_at dksX11_span_2 23 rfl rfl)
theorem dX11_span_70 : decode cX11_span 70 = .ok (.istore 9, 2) := dk_54 9 (dk_at dksX11_span_3 0 rfl rfl)
theorem dX11_span_72 : decode cX11_span 72 = .ok (.iload 9, 2) := dk_21 9 (dk_at dksX11_span_3 2 rfl rfl)
theorem dX11_span_74 : decode cX11_span 74 = .ok (.iload_n 2, 1) := dk_28 (dk_at dksX11_span_3 4 rfl rfl)
theorem dX11_span_75 : decode cX11_span 75 = .ok (.if_icmp .ge 79, 3) := dk_162 0 79 (dk_at dksX11_span_3 5 rfl rfl)
theorem dX11_span_78 : decode cX11_span 78 = .ok (.aload_n 0, 1) := dk_42 (dk_at dksX11_span_3 8 rfl rfl)
theorem dX11_span_79 : decode cX11_span 79 = .ok (.iload_n 1, 1) := dk_27 (dk_at dksX11_span_3 9 rfl rfl)
theorem dX11_span_80 : decode cX11_span 80 = .ok (.iload 9, 2) := dk_21 9 (dk_at dksX11_span_3 10 rfl rfl)
theorem dX11_span_82 : decode cX11_span 82 = .ok (.iadd, 1) := dk_96 (dk_at dksX11_span_3 12 rfl rfl)
theorem dX11_span_83 : decode cX11_span 83 = .ok (.iload_n 3, 1) := dk_29 (dk_at dksX11_span_3 13 rfl rfl)
theorem dX11_span_84 : decode cX11_span 84 = .ok (.invokevirtual 398, 3) := dk_182 1 142 (dk_at dksX11_span_3 14 rfl rfl)
theorem dX11_span_87 : decode cX11_span 87 = .ok (.aload_n 0, 1) := dk_42 (dk_at dksX11_span_3 17 rfl rfl)
theorem dX11_span_88 : decode cX11_span 88 = .ok (.invokevirtual 401, 3) := dk_182 1 145 (dk_at dksX11_span_3 18 rfl rfl)
theorem dX11_span_91 : decode cX11_span 91 = .ok (.istore 10, 2) := dk_54 10 (dk_at dksX11_span_3 21 rfl rfl)
theorem dX11_span_93 : decode cX11_span 93 = .ok (.iload 6, 2) := dk_21 6 (dk_at dksX11_span_4 0 rfl rfl)
theorem dX11_span_95 : decode cX11_span 95 = .ok (.iconst (-1), 1) := dk_2 (dk_at dksX11_span_4 2 rfl rfl)
theorem dX11_span_96 : decode cX11_span 96 = .ok (.if_icmp .ne 8, 3) := dk_160 0 8 (dk_at dksX11_span_4 3 rfl rfl)
theorem dX11_span_99 : decode cX11_span 99 = .ok (.iload 10, 2) := dk_21 10 (dk_at dksX11_span_4 6 rfl rfl)
theorem dX11_span_101 : decode cX11_span 101 = .ok (.goto 10, 3) := dk_167 0 10 (dk_at dksX11_span_4 8 rfl rfl)
theorem dX11_span_104 : decode cX11_span 104 = .ok (.iload 6, 2) := dk_21 6 (dk_at dksX11_span_4 11 rfl rfl)
theorem dX11_span_106 : decode cX11_span 106 = .ok (.iload 10, 2) := dk_21 10 (dk_at dksX11_span_4 13 rfl rfl)
theorem dX11_span_108 : decode cX11_span 108 = .ok (.invokestatic 245, 3) := dk_184 0 245 (dk_at dksX11_span_4 15 rfl rfl)
theorem dX11_span_111 : decode cX11_span 111 = .ok (.istore 6, 2) := dk_54 6 (dk_at dksX11_span_4 18 rfl rfl)
theorem dX11_span_113 : decode cX11_span 113 = .ok (.iload 7, 2) := dk_21 7 (dk_at dksX11_span_4 20 rfl rfl)
theorem dX11_span_115 : decode cX11_span 115 = .ok (.iload 10, 2) := dk_21 10 (dk_at dksX11_span_4 22 rfl rfl)
theorem dX11_span_117 : decode cX11_span 117 = .ok (.invokestatic 248, 3) := dk_184 0 248 (dk_at dksX11_span_5 0 rfl rfl)
theorem dX11_span_120 : decode cX11_span 120 = .ok (.istore 7, 2) := dk_54 7 (dk_at dksX11_span_5 3 rfl rfl)
theorem dX11_span_122 : decode cX11_span 122 = .ok (.iload 8, 2) := dk_21 8 (dk_at dksX11_span_5 5 rfl rfl)
theorem dX11_span_124 : decode cX11_span 124 = .ok (.aload_n 0, 1) := dk_42 (dk_at dksX11_span_5 7 rfl rfl)
theorem dX11_span_125 : decode cX11_span 125 = .ok (.aload_n 0, 1) := dk_42 (dk_at dksX11_span_5 8 rfl rfl)
theorem dX11_span_126 : decode cX11_span 126 = .ok (.getfield 76, 3) := dk_180 0 76 (dk_at dksX11_span_5 9 rfl rfl)
theorem dX11_span_129 : decode cX11_span 129 = .ok (.invokevirtual 329, 3) := dk_182 1 73 (dk_at dksX11_span_5 12 rfl rfl)
theorem dX11_span_132 : decode cX11_span 132 = .ok (.iload 5, 2) := dk_21 5 (dk_at dksX11_span_5 15 rfl rfl)
theorem dX11_span_134 : decode cX11_span 134 = .ok (.invokestatic 263, 3) := dk_184 1 7 (dk_at dksX11_span_5 17 rfl rfl)
theorem dX11_span_137 : decode cX11_span 137 = .ok (.ifCond .eq 7, 3) := dk_153 0 7 (dk_at dksX11_span_5 20 rfl rfl)
theorem dX11_span_140 : decode cX11_span 140 = .ok (.iconst 1, 1) := dk_4 (dk_at dksX11_span_5 23 rfl rfl)
theorem dX11_span_141 : decode cX11_span 141 = .ok (.goto 4, 3) := dk_167 0 4 (dk_at dksX11_span_6 0 rfl rfl)
theorem dX11_span_144 : decode cX11_span 144 = .ok (.iconst 0, 1) := dk_3 (dk_at dksX11_span_6 3 rfl rfl)
theorem dX11_span_145 : decode cX11_span 145 = .ok (.iadd, 1) := dk_96 (dk_at dksX11_span_6 4 rfl rfl)
theorem dX11_span_146 : decode cX11_span 146 = .ok (.istore 8, 2) := dk_54 8 (dk_at dksX11_span_6 5 rfl rfl)
theorem dX11_span_148 : decode cX11_span 148 = .ok (.iinc 9 1, 3) := dk_132 9 1 (dk_at dksX11_span_6 7 rfl rfl)
theorem dX11_span_151 : decode cX11_span 151 = .ok (.goto (-79), 3) := dk_167 255 177 (dk_at dksX11_span_6 10 rfl rfl)
theorem dX11_span_154 : decode cX11_span 154 = .ok (.iload 4, 2) := dk_21 4 (dk_at dksX11_span_6 13 rfl rfl)
theorem dX11_span_156 : decode cX11_span 156 = .ok (.ifCond .ne 8, 3) := dk_154 0 8 (dk_at dksX11_span_6 15 rfl rfl)
theorem dX11_span_159 : decode cX11_span 159 = .ok (.iload 6, 2) := dk_21 6 (dk_at dksX11_span_6 18 rfl rfl)
theorem dX11_span_161 : decode cX11_span 161 = .ok (.goto 16, 3) := dk_167 0 16 (dk_at dksX11_span_6 20 rfl rfl)
theorem dX11_span_164 : decode cX11_span 164 = .ok (.iload 4, 2) := dk_21 4 (dk_at dksX11_span_7 0 rfl rfl)
theorem dX11_span_166 : decode cX11_span 166 = .ok (.iconst 1, 1) := dk_4 (dk_at dksX11_span_7 2 rfl rfl)
theorem dX11_span_167 : decode cX11_span 167 = .ok (.if_icmp .ne 8, 3) := dk_160 0 8 (dk_at dksX11_span_7 3 rfl rfl)
theorem dX11_span_170 : decode cX11_span 170 = .ok (.iload 7, 2) := dk_21 7 (dk_at dksX11_span_7 6 rfl rfl)
theorem dX11_span_172 : decode cX11_span 172 = .ok (.goto 5, 3) := dk_167 0 5 (dk_at dksX11_span_7 8 rfl rfl)
theorem dX11_span_175 : decode cX11_span 175 = .ok (.iload 8, 2) := dk_21 8 (dk_at dksX11_span_7 11 rfl rfl)
theorem dX11_span_177 : decode cX11_span 177 = .ok (.ireturn, 1) := dk_172 (dk_at dksX11_span_7 13 rfl rfl)
def dkwX11_image_1 : List UInt8 := [50, 3, 182, 1, 155, 42, 89, 180, 0, 212, 4, 96, 181, 0, 212, 42, 180, 0, 212, 172]
abbrev dktX11_image_1 : List UInt8 := dkwX11_image_1 ++ []
def dkwX11_image_0 : List UInt8 := [42, 3, 181, 0, 103, 42, 180, 0, 212, 6, 160, 0, 5, 2, 172, 42, 42, 180, 0, 82, 42, 180, 0, 212]
abbrev dktX11_image_0 : List UInt8 := dkwX11_image_0 ++ dktX11_image_1
theorem dksX11_image_0 : cX11_image.data.toList.drop 0 = dktX11_image_0 := by decide +kernel
theorem dksX11_image_1 : cX11_image.data.toList.drop 24 = dktX11_image_1 := dk_seg dksX11_image_0 24 rfl rfl
theorem dX11_image_0 : decode cX11_image 0 = .ok (.aload_n 0, 1) := dk_42 (dk_at dksX11_image_0 0 rfl rfl)
theorem dX11_image_1 : decode cX11_image 1 = .ok (.iconst 0, 1) := dk_3 (dk_at dksX11_image_0 1 rfl rfl)
theorem dX11_image_2 : decode cX11_image 2 = .ok (.putfield 103, 3) := dk_181 0 103 (dk_at dksX11_image_0 2 rfl rfl)
theorem dX11_image_5 : decode cX11_image 5 = .ok (.aload_n 0, 1) := dk_42 (dk_at dksX11_image_0 5 rfl rfl)
theorem dX11_image_6 : decode cX11_image 6 = .ok (.getfield 212, 3) := dk_180 0 212 (dk_at dksX11_image_0 6 rfl rfl)
theorem dX11_image_9 : decode cX11_image 9 = .ok (.iconst 3, 1) := dk_6 (dk_at dksX11_image_0 9 rfl rfl)
theorem dX11_image_10 : decode cX11_image 10 = .ok (.if_icmp .ne 5, 3) := dk_160 0 5 (dk_at dksX11_image_0 10 rfl rfl)
theorem dX11_image_13 : decode cX11_image 13 = .ok (.iconst (-1), 1) := dk_2 (dk_at dksX11_image_0 13 rfl rfl)
theorem dX11_image_14 : decode cX11_image 14 = .ok (.ireturn, 1) := dk_172 (dk_at dksX11_image_0 14 rfl rfl)
theorem dX11_image_15 : decode cX11_image 15 = .ok (.aload_n 0, 1) := dk_42 (dk_at dksX11_image_0 15 rfl rfl)
theorem dX11_image_16 : decode cX11_image 16 = .ok (.aload_n 0, 1) := dk_42 (dk_at dksX11_image_0 16 rfl rfl)
theorem dX11_image_17 : decode cX11_image 17 = .ok (.getfield 82, 3) := dk_180 0 82 (dk_at dksX11_image_0 17 rfl rfl)
theorem dX11_image_20 : decode cX11_image 20 = .ok (.aload_n 0, 1) := dk_42 (dk_at dksX11_image_0 20 rfl rfl)
theorem dX11_image_21 : decode cX11_image 21 = .ok (.getfield 212, 3) := dk_180 0 212 (dk_at dksX11_image_0 21 rfl rfl)
theorem dX11_image_24 : decode cX11_image 24 = .ok (.aaload, 1) := dk_50 (dk_at dksX11_image_1 0 rfl rfl)
theorem dX11_image_25 : decode cX11_image 25 = .ok (.iconst 0, 1) := dk_3 (dk_at dksX11_image_1 1 rfl rfl)
theorem dX11_image_26 : decode cX11_image 26 = .ok (.invokevirtual 411, 3) := dk_182 1 155 (dk_at dksX11_image_1 2 rfl rfl)
theorem dX11_image_29 : decode cX11_image 29 = .ok (.aload_n 0, 1) := dk_42 (dk_at dksX11_image_1 5 rfl rfl)
theorem dX11_image_30 : decode cX11_image 30 = .ok (.dup, 1) := dk_89 (dk_at dksX11_image_1 6 rfl rfl)
theorem dX11_image_31 : decode cX11_image 31 = .ok (.getfield 212, 3) := dk_180 0 212 (dk_at dksX11_image_1 7 rfl rfl)
theorem dX11_image_34 : decode cX11_image 34 = .ok (.iconst 1, 1) := dk_4 (dk_at dksX11_image_1 10 rfl rfl)
theorem dX11_image_35 : decode cX11_image 35 = .ok (.iadd, 1) := dk_96 (dk_at dksX11_image_1 11 rfl rfl)
theorem dX11_image_36 : decode cX11_image 36 = .ok (.putfield 212, 3) := dk_181 0 212 (dk_at dksX11_image_1 12 rfl rfl)
theorem dX11_image_39 : decode cX11_image 39 = .ok (.aload_n 0, 1) := dk_42 (dk_at dksX11_image_1 15 rfl rfl)
theorem dX11_image_40 : decode cX11_image 40 = .ok (.getfield 212, 3) := dk_180 0 212 (dk_at dksX11_image_1 16 rfl rfl)
theorem dX11_image_43 : decode cX11_image 43 = .ok (.ireturn, 1) := dk_172 (dk_at dksX11_image_1 19 rfl rfl)
def dkwX11_putsAll_4 : List UInt8 := [132, 4, 1, 167, 255, 222, 132, 3, 1, 167, 255, 207, 177]
abbrev dktX11_putsAll_4 : List UInt8 := dkwX11_putsAll_4 ++ []
def dkwX11_putsAll_3 : List UInt8 := [180, 0, 79, 29, 50, 21, 4, 42, 43, 42, 180, 0, 79, 29, 50, 21, 4, 46, 28, 182, 1, 151, 79]
abbrev dktX11_putsAll_3 : List UInt8 := dkwX11_putsAll_3 ++ dktX11_putsAll_4
def dkwX11_putsAll_2 : List UInt8 := [167, 255, 229, 3, 62, 29, 16, 16, 162, 0, 49, 3, 54, 4, 21, 4, 16, 45, 162, 0, 33, 42]
abbrev dktX11_putsAll_2 : List UInt8 := dkwX11_putsAll_2 ++ dktX11_putsAll_3
def dkwX11_putsAll_1 : List UInt8 := [162, 0, 27, 42, 180, 0, 73, 29, 42, 43, 42, 180, 0, 73, 29, 46, 28, 182, 1, 151, 79, 132, 3, 1]
abbrev dktX11_putsAll_1 : List UInt8 := dkwX11_putsAll_1 ++ dktX11_putsAll_2
def dkwX11_putsAll_0 : List UInt8 := [42, 3, 181, 1, 148, 42, 42, 43, 42, 180, 0, 206, 28, 182, 1, 151, 181, 0, 206, 3, 62, 29, 16, 45]
abbrev dktX11_putsAll_0 : List UInt8 := dkwX11_putsAll_0 ++ dktX11_putsAll_1
theorem dksX11_putsAll_0 : cX11_putsAll.data.toList.drop 0 = dktX11_putsAll_0 := by decide +kernel
theorem dksX11_putsAll_1 : cX11_putsAll.data.toList.drop 24 = dktX11_putsAll_1 := dk_seg dksX11_putsAll_0 24 rfl rfl
theorem dksX11_putsAll_2 : cX11_putsAll.data.toList.drop 48 = dktX11_putsAll_2 := dk_seg dksX11_putsAll_1 24 rfl rfl
theorem dksX11_putsAll_3 : cX11_putsAll.data.toList.drop 70 = dktX11_putsAll_3 := dk_seg dksX11_putsAll_2 22 rfl rfl
theorem dksX11_putsAll_4 : cX11_putsAll.data.toList.drop 93 = dktX11_putsAll_4 := dk_seg dksX11_putsAll_3 23 rfl rfl
theorem dX11_putsAll_0 : decode cX11_putsAll 0 = .ok (.aload_n 0, 1) := dk_42 (dk_at dksX11_putsAll_0 0 rfl rfl)
theorem dX11_putsAll_1 : decode cX11_putsAll 1 = .ok (.iconst 0, 1) := dk_3 (dk_at dksX11_putsAll_0 1 rfl rfl)
theorem dX11_putsAll_2 : decode cX11_putsAll 2 = .ok (.putfield 404, 3) := dk_181 1 148 (dk_at dksX11_putsAll_0 2 rfl rfl)
theorem dX11_putsAll_5 : decode cX11_putsAll 5 = .ok (.aload_n 0, 1) := dk_42 (dk_at dksX11_putsAll_0 5 rfl rfl)
theorem dX11_putsAll_6 : decode cX11_putsAll 6 = .ok (.aload_n 0, 1) := dk_42 (dk_at dksX11_putsAll_0 6 rfl rfl)
theorem dX11_putsAll_7 : decode cX11_putsAll 7 = .ok (.aload_n 1, 1) := dk_43 (dk_at dksX11_putsAll_0 7 rfl rfl)
theorem dX11_putsAll_8 : decode cX11_putsAll 8 = .ok (.aload_n 0, 1) := dk_42 (dk_at dksX11_putsAll_0 8 rfl rfl)
theorem dX11_putsAll_9 : decode cX11_putsAll 9 = .ok (.getfield 206, 3) := dk_180 0 206 (dk_at dksX11_putsAll_0 9 rfl rfl)
theorem dX11_putsAll_12 : decode cX11_putsAll 12 = .ok (.iload_n 2, 1) := dk_28 (dk_at dksX11_putsAll_0 12 rfl rfl)
theorem dX11_putsAll_13 : decode cX11_putsAll 13 = .ok (.invokevirtual 407, 3) := dk_182 1 151 (dk_at dksX11_putsAll_0 13 rfl rfl)
theorem dX11_putsAll_16 : decode cX11_putsAll 16 = .ok (.putfield 206, 3) := dk_181 0 206 (dk_at dksX11_putsAll_0 16 rfl rfl)
theorem dX11_putsAll_19 : decode cX11_putsAll 19 = .ok (.iconst 0, 1) := dk_3 (dk_at dksX11_putsAll_0 19 rfl rfl)
theorem dX11_putsAll_20 : decode cX11_putsAll 20 = .ok (.istore_n 3, 1) := dk_62 (dk_at dksX11_putsAll_0 20 rfl rfl)
theorem dX11_putsAll_21 : decode cX11_putsAll 21 = .ok (.iload_n 3, 1) := dk_29 (dk_at dksX11_putsAll_0 21 rfl rfl)
theorem dX11_putsAll_22 : decode cX11_putsAll 22 = .ok (.bipush 45, 2) := dk_16 45 (dk_at dksX11_putsAll_0 22 rfl rfl)
theorem dX11_putsAll_24 : decode cX11_putsAll 24 = .ok (.if_icmp .ge 27, 3) := dk_162 0 27 (dk_at dksX11_putsAll_1 0 rfl rfl)
theorem dX11_putsAll_27 : decode cX11_putsAll 27 = .ok (.aload_n 0, 1) := dk_42 (dk_at dksX11_putsAll_1 3 rfl rfl)
theorem dX11_putsAll_28 : decode cX11_putsAll 28 = .ok (.getfield 73, 3) := dk_180 0 73 (dk_at dksX11_putsAll_1 4 rfl rfl)
theorem dX11_putsAll_31 : decode cX11_putsAll 31 = .ok (.iload_n 3, 1) := dk_29 (dk_at dksX11_putsAll_1 7 rfl rfl)
theorem dX11_putsAll_32 : decode cX11_putsAll 32 = .ok (.aload_n 0, 1) := dk_42 (dk_at dksX11_putsAll_1 8 rfl rfl)
theorem dX11_putsAll_33 : decode cX11_putsAll 33 = .ok (.aload_n 1, 1) := dk_43 (dk_at dksX11_putsAll_1 9 rfl rfl)
theorem dX11_putsAll_34 : decode cX11_putsAll 34 = .ok (.aload_n 0, 1) := dk_42 (dk_at dksX11_putsAll_1 10 rfl rfl)
theorem dX11_putsAll_35 : decode cX11_putsAll 35 = .ok (.getfield 73, 3) := dk_180 0 73 (dk_at dksX11_putsAll_1 11 rfl rfl)
theorem dX11_putsAll_38 : decode cX11_putsAll 38 = .ok (.iload_n 3, 1) := dk_29 (dk_at dksX11_putsAll_1 14 rfl rfl)
theorem dX11_putsAll_39 : decode cX11_putsAll 39 = .ok (.iaload, 1) := dk_46 (dk_at dksX11_putsAll_1 15 rfl rfl)
theorem dX11_putsAll_40 : decode cX11_putsAll 40 = .ok (.iload_n 2, 1) := dk_28 (dk_at dksX11_putsAll_1 16 rfl rfl)
theorem dX11_putsAll_41 : decode cX11_putsAll 41 = .ok (.invokevirtual 407, 3) := dk_182 1 151 (dk_at dksX11_putsAll_1 17 rfl rfl)
theorem dX11_putsAll_44 : decode cX11_putsAll 44 = .ok (.iastore, 1) := dk_79 (dk_at dksX11_putsAll_1 20 rfl rfl)
theorem dX11_putsAll_45 : decode cX11_putsAll 45 = .ok (.iinc 3 1, 3) := dk_132 3 1 (dk_at dksX11_putsAll_1 21 rfl rfl)
theorem dX11_putsAll_48 : decode cX11_putsAll 48 = .ok (.goto (-27), 3) := dk_167 255 229 (dk_at dksX11_putsAll_2 0 rfl rfl)
theorem dX11_putsAll_51 : decode cX11_putsAll 51 = .ok (.iconst 0, 1) := dk_3 (dk_at dksX11_putsAll_2 3 rfl rfl)
theorem dX11_putsAll_52 : decode cX11_putsAll 52 = .ok (.istore_n 3, 1) := dk_62 (dk_at dksX11_putsAll_2 4 rfl rfl)
theorem dX11_putsAll_53 : decode cX11_putsAll 53 = .ok (.iload_n 3, 1) := dk_29 (dk_at dksX11_putsAll_2 5 rfl rfl)
theorem dX11_putsAll_54 : decode cX11_putsAll 54 = .ok (.bipush 16, 2) := dk_16 16 (dk_at dksX11_putsAll_2 6 rfl rfl)
theorem dX11_putsAll_56 : decode cX11_putsAll 56 = .ok (.if_icmp .ge 49, 3) := dk_162 0 49 (dk_at dksX11_putsAll_2 8 rfl rfl)
theorem dX11_putsAll_59 : decode cX11_putsAll 59 = .ok (.iconst 0, 1) := dk_3 (dk_at dksX11_putsAll_2 11 rfl rfl)
theorem dX11_putsAll_60 : decode cX11_putsAll 60 = .ok (.istore 4, 2) := dk_54 4 (dk_at dksX11_putsAll_2 12 rfl rfl)
theorem dX11_putsAll_62 : decode cX11_putsAll 62 = .ok (.iload 4, 2) := dk_21 4 (dk_at dksX11_putsAll_2 14 rfl rfl)
theorem dX11_putsAll_64 : decode cX11_putsAll 64 = .ok (.bipush 45, 2) := dk_16 45 (dk_at dksX11_putsAll_2 16 rfl rfl)
theorem dX11_putsAll_66 : decode cX11_putsAll 66 = .ok (.if_icmp .ge 33, 3) := dk_162 0 33 (dk_at dksX11_putsAll_2 18 rfl rfl)
theorem dX11_putsAll_69 : decode cX11_putsAll 69 = .ok (.aload_n 0, 1) := dk_42 (dk_at dksX11_putsAll_2 21 rfl rfl)
theorem dX11_putsAll_70 : decode cX11_putsAll 70 = .ok (.getfield 79, 3) := dk_180 0 79 (dk_at dksX11_putsAll_3 0 rfl rfl)
theorem dX11_putsAll_73 : decode cX11_putsAll 73 = .ok (.iload_n 3, 1) := dk_29 (dk_at dksX11_putsAll_3 3 rfl rfl)
theorem dX11_putsAll_74 : decode cX11_putsAll 74 = .ok (.aaload, 1) := dk_50 (dk_at dksX11_putsAll_3 4 rfl rfl)
theorem dX11_putsAll_75 : decode cX11_putsAll 75 = .ok (.iload 4, 2) := dk_21 4 (dk_at dksX11_putsAll_3 5 rfl rfl)
theorem dX11_putsAll_77 : decode cX11_putsAll 77 = .ok (.aload_n 0, 1) := dk_42 (dk_at dksX11_putsAll_3 7 rfl rfl)
theorem dX11_putsAll_78 : decode cX11_putsAll 78 = .ok (.aload_n 1, 1) := dk_43 (dk_at dksX11_putsAll_3 8 rfl rfl)
theorem dX11_putsAll_79 : decode cX11_putsAll 79 = .ok (.aload_n 0, 1) := dk_42 (dk_at dksX11_putsAll_3 9 rfl rfl)
theorem dX11_putsAll_80 : decode cX11_putsAll 80 = .ok (.getfield 79, 3) := dk_180 0 79 (dk_at dksX11_putsAll_3 10 rfl rfl)
theorem dX11_putsAll_83 : decode cX11_putsAll 83 = .ok (.iload_n 3, 1) := dk_29 (dk_at dksX11_putsAll_3 13 rfl rfl)
theorem dX11_putsAll_84 : decode cX11_putsAll 84 = .ok (.aaload, 1) := dk_50 (dk_at dksX11_putsAll_3 14 rfl rfl)
theorem dX11_putsAll_85 : decode cX11_putsAll 85 = .ok (.iload 4, 2) := dk_21 4 (dk_at dksX11_putsAll_3 15 rfl rfl)
theorem dX11_putsAll_87 : decode cX11_putsAll 87 = .ok (.iaload, 1) := dk_46 (dk_at dksX11_putsAll_3 17 rfl rfl)
theorem dX11_putsAll_88 : decode cX11_putsAll 88 = .ok (.iload_n 2, 1) := dk_28 (dk_at dksX11_putsAll_3 18 rfl rfl)
theorem dX11_putsAll_89 : decode cX11_putsAll 89 = .ok (.invokevirtual 407, 3) := dk_182 1 151 (dk_at dksX11_putsAll_3 19 rfl rfl)
theorem dX11_putsAll_92 : decode cX11_putsAll 92 = .ok (.iastore, 1) := dk_79 (dk_at dksX11_putsAll_3 22 rfl rfl)
theorem dX11_putsAll_93 : decode cX11_putsAll 93 = .ok (.iinc 4 1, 3) := dk_132 4 1 (dk_at dksX11_putsAll_4 0 rfl rfl)
theorem dX11_putsAll_96 : decode cX11_putsAll 96 = .ok (.goto (-34), 3) := dk_167 255 222 (dk_at dksX11_putsAll_4 3 rfl rfl)
theorem dX11_putsAll_99 : decode cX11_putsAll 99 = .ok (.iinc 3 1, 3) := dk_132 3 1 (dk_at dksX11_putsAll_4 6 rfl rfl)
theorem dX11_putsAll_102 : decode cX11_putsAll 102 = .ok (.goto (-49), 3) := dk_167 255 207 (dk_at dksX11_putsAll_4 9 rfl rfl)
theorem dX11_putsAll_105 : decode cX11_putsAll 105 = .ok (.return_, 1) := dk_177 (dk_at dksX11_putsAll_4 12 rfl rfl)
def dkwX11_puts_1 : List UInt8 := [180, 1, 148, 4, 100, 46, 172]
abbrev dktX11_puts_1 : List UInt8 := dkwX11_puts_1 ++ []
def dkwX11_puts_0 : List UInt8 := [29, 154, 0, 10, 43, 42, 180, 1, 148, 28, 79, 42, 89, 180, 1, 148, 4, 96, 181, 1, 148, 43, 42]
abbrev dktX11_puts_0 : List UInt8 := dkwX11_puts_0 ++ dktX11_puts_1
theorem dksX11_puts_0 : cX11_puts.data.toList.drop 0 = dktX11_puts_0 := by decide +kernel
theorem dksX11_puts_1 : cX11_puts.data.toList.drop 23 = dktX11_puts_1 := dk_seg dksX11_puts_0 23 rfl rfl
theorem dX11_puts_0 : decode cX11_puts 0 = .ok (.iload_n 3, 1) := dk_29 (dk_at dksX11_puts_0 0 rfl rfl)
theorem dX11_puts_1 : decode cX11_puts 1 = .ok (.ifCond .ne 10, 3) := dk_154 0 10 (dk_at dksX11_puts_0 1 rfl rfl)
theorem dX11_puts_4 : decode cX11_puts 4 = .ok (.aload_n 1, 1) := dk_43 (dk_at dksX11_puts_0 4 rfl rfl)
theorem dX11_puts_5 : decode cX11_puts 5 = .ok (.aload_n 0, 1) := dk_42 (dk_at dksX11_puts_0 5 rfl rfl)
theorem dX11_puts_6 : decode cX11_puts 6 = .ok (.getfield 404, 3) := dk_180 1 148 (dk_at dksX11_puts_0 6 rfl rfl)
theorem dX11_puts_9 : decode cX11_puts 9 = .ok (.iload_n 2, 1) := dk_28 (dk_at dksX11_puts_0 9 rfl rfl)
theorem dX11_puts_10 : decode cX11_puts 10 = .ok (.iastore, 1) := dk_79 (dk_at dksX11_puts_0 10 rfl rfl)
theorem dX11_puts_11 : decode cX11_puts 11 = .ok (.aload_n 0, 1) := dk_42 (dk_at dksX11_puts_0 11 rfl rfl)
theorem dX11_puts_12 : decode cX11_puts 12 = .ok (.dup, 1) := dk_89 (dk_at dksX11_puts_0 12 rfl rfl)
theorem dX11_puts_13 : decode cX11_puts 13 = .ok (.getfield 404, 3) := dk_180 1 148 (dk_at dksX11_puts_0 13 rfl rfl)
theorem dX11_puts_16 : decode cX11_puts 16 = .ok (.iconst 1, 1) := dk_4 (dk_at dksX11_puts_0 16 rfl rfl)
theorem dX11_puts_17 : decode cX11_puts 17 = .ok (.iadd, 1) := dk_96 (dk_at dksX11_puts_0 17 rfl rfl)
theorem dX11_puts_18 : decode cX11_puts 18 = .ok (.putfield 404, 3) := dk_181 1 148 (dk_at dksX11_puts_0 18 rfl rfl)
theorem dX11_puts_21 : decode cX11_puts 21 = .ok (.aload_n 1, 1) := dk_43 (dk_at dksX11_puts_0 21 rfl rfl)
theorem dX11_puts_22 : decode cX11_puts 22 = .ok (.aload_n 0, 1) := dk_42 (dk_at dksX11_puts_0 22 rfl rfl)
theorem dX11_puts_23 : decode cX11_puts 23 = .ok (.getfield 404, 3) := dk_180 1 148 (dk_at dksX11_puts_1 0 rfl rfl)
theorem dX11_puts_26 : decode cX11_puts 26 = .ok (.iconst 1, 1) := dk_4 (dk_at dksX11_puts_1 3 rfl rfl)
theorem dX11_puts_27 : decode cX11_puts 27 = .ok (.isub, 1) := dk_100 (dk_at dksX11_puts_1 4 rfl rfl)
theorem dX11_puts_28 : decode cX11_puts 28 = .ok (.iaload, 1) := dk_46 (dk_at dksX11_puts_1 5 rfl rfl)
theorem dX11_puts_29 : decode cX11_puts 29 = .ok (.ireturn, 1) := dk_172 (dk_at dksX11_puts_1 6 rfl rfl)
def dkwX11_restore_1 : List UInt8 := [42, 42, 180, 0, 82, 42, 180, 0, 212, 50, 4, 182, 1, 155, 42, 3, 181, 0, 209, 42, 180, 0, 212, 172]
abbrev dktX11_restore_1 : List UInt8 := dkwX11_restore_1 ++ []
def dkwX11_restore_0 : List UInt8 := [42, 3, 181, 0, 103, 42, 180, 0, 212, 154, 0, 5, 2, 172, 42, 89, 180, 0, 212, 4, 100, 181, 0, 212]
abbrev dktX11_restore_0 : List UInt8 := dkwX11_restore_0 ++ dktX11_restore_1
theorem dksX11_restore_0 : cX11_restore.data.toList.drop 0 = dktX11_restore_0 := by decide +kernel
theorem dksX11_restore_1 : cX11_restore.data.toList.drop 24 = dktX11_restore_1 := dk_seg dksX11_restore_0 24 rfl rfl
theorem dX11_restore_0 : decode cX11_restore 0 = .ok (.aload_n 0, 1) := dk_42 (dk_at dksX11_restore_0 0 rfl rfl)
theorem dX11_restore_1 : decode cX11_restore 1 = .ok (.iconst 0, 1) := dk_3 (dk_at dksX11_restore_0 1 rfl rfl)
theorem dX11_restore_2 : decode cX11_restore 2 = .ok (.putfield 103, 3) := dk_181 0 103 (dk_at dksX11_restore_0 2 rfl rfl)
theorem dX11_restore_5 : decode cX11_restore 5 = .ok (.aload_n 0, 1) := dk_42 (dk_at dksX11_restore_0 5 rfl rfl)
theorem dX11_restore_6 : decode cX11_restore 6 = .ok (.getfield 212, 3) := dk_180 0 212 (dk_at dksX11_restore_0 6 rfl rfl)
theorem dX11_restore_9 : decode cX11_restore 9 = .ok (.ifCond .ne 5, 3) := dk_154 0 5 (dk_at dksX11_restore_0 9 rfl rfl)
theorem dX11_restore_12 : decode cX11_restore 12 = .ok (.iconst (-1), 1) := dk_2 (dk_at dksX11_restore_0 12 rfl rfl)
theorem dX11_restore_13 : decode cX11_restore 13 = .ok (.ireturn, 1) := dk_172 (dk_at dksX11_restore_0 13 rfl rfl)
theorem dX11_restore_14 : decode cX11_restore 14 = .ok (.aload_n 0, 1) := dk_42 (dk_at dksX11_restore_0 14 rfl rfl)
theorem dX11_restore_15 : decode cX11_restore 15 = .ok (.dup, 1) := dk_89 (dk_at dksX11_restore_0 15 rfl rfl)
theorem dX11_restore_16 : decode cX11_restore 16 = .ok (.getfield 212, 3) := dk_180 0 212 (dk_at dksX11_restore_0 16 rfl rfl)
theorem dX11_restore_19 : decode cX11_restore 19 = .ok (.iconst 1, 1) := dk_4 (dk_at dksX11_restore_0 19 rfl rfl)
theorem dX11_restore_20 : decode cX11_restore 20 = .ok (.isub, 1) := dk_100 (dk_at dksX11_restore_0 20 rfl rfl)
theorem dX11_restore_21 : decode cX11_restore 21 = .ok (.putfield 212, 3) := dk_181 0 212 (dk_at dksX11_restore_0 21 rfl rfl)
theorem dX11_restore_24 : decode cX11_restore 24 = .ok (.aload_n 0, 1) := dk_42 (dk_at dksX11_restore_1 0 rfl rfl)
theorem dX11_restore_25 : decode cX11_restore 25 = .ok (.aload_n 0, 1) := dk_42 (dk_at dksX11_restore_1 1 rfl rfl)
theorem dX11_restore_26 : decode cX11_restore 26 = .ok (.getfield 82, 3) := dk_180 0 82 (dk_at dksX11_restore_1 2 rfl rfl)
theorem dX11_restore_29 : decode cX11_restore 29 = .ok (.aload_n 0, 1) := dk_42 (dk_at dksX11_restore_1 5 rfl rfl)
theorem dX11_restore_30 : decode cX11_restore 30 = .ok (.getfield 212, 3) := dk_180 0 212 (dk_at dksX11_restore_1 6 rfl rfl)
theorem dX11_restore_33 : decode cX11_restore 33 = .ok (.aaload, 1) := dk_50 (dk_at dksX11_restore_1 9 rfl rfl)
theorem dX11_restore_34 : decode cX11_restore 34 = .ok (.iconst 1, 1) := dk_4 (dk_at dksX11_restore_1 10 rfl rfl)
theorem dX11_restore_35 : decode cX11_restore 35 = .ok (.invokevirtual 411, 3) := dk_182 1 155 (dk_at dksX11_restore_1 11 rfl rfl)
theorem dX11_restore_38 : decode cX11_restore 38 = .ok (.aload_n 0, 1) := dk_42 (dk_at dksX11_restore_1 14 rfl rfl)
theorem dX11_restore_39 : decode cX11_restore 39 = .ok (.iconst 0, 1) := dk_3 (dk_at dksX11_restore_1 15 rfl rfl)
theorem dX11_restore_40 : decode cX11_restore 40 = .ok (.putfield 209, 3) := dk_181 0 209 (dk_at dksX11_restore_1 16 rfl rfl)
theorem dX11_restore_43 : decode cX11_restore 43 = .ok (.aload_n 0, 1) := dk_42 (dk_at dksX11_restore_1 19 rfl rfl)
theorem dX11_restore_44 : decode cX11_restore 44 = .ok (.getfield 212, 3) := dk_180 0 212 (dk_at dksX11_restore_1 20 rfl rfl)
theorem dX11_restore_47 : decode cX11_restore 47 = .ok (.ireturn, 1) := dk_172 (dk_at dksX11_restore_1 23 rfl rfl)
def dkwX11_status_1 : List UInt8 := [172]
abbrev dktX11_status_1 : List UInt8 := dkwX11_status_1 ++ []
def dkwX11_status_0 : List UInt8 := [42, 3, 181, 0, 103, 27, 3, 4, 184, 0, 137, 153, 0, 12, 42, 180, 0, 17, 27, 46, 167, 0, 4, 2]
abbrev dktX11_status_0 : List UInt8 := dkwX11_status_0 ++ dktX11_status_1
theorem dksX11_status_0 : cX11_status.data.toList.drop 0 = dktX11_status_0 := by decide +kernel
theorem dksX11_status_1 : cX11_status.data.toList.drop 24 = dktX11_status_1 := dk_seg dksX11_status_0 24 rfl rfl
theorem dX11_status_0 : decode cX11_status 0 = .ok (.aload_n 0, 1) := dk_42 (dk_at dksX11_status_0 0 rfl rfl)
theorem dX11_status_1 : decode cX11_status 1 = .ok (.iconst 0, 1) := dk_3 (dk_at dksX11_status_0 1 rfl rfl)
theorem dX11_status_2 : decode cX11_status 2 = .ok (.putfield 103, 3) := dk_181 0 103 (dk_at dksX11_status_0 2 rfl rfl)
theorem dX11_status_5 : decode cX11_status 5 = .ok (.iload_n 1, 1) := dk_27 (dk_at dksX11_status_0 5 rfl rfl)
theorem dX11_status_6 : decode cX11_status 6 = .ok (.iconst 0, 1) := dk_3 (dk_at dksX11_status_0 6 rfl rfl)
theorem dX11_status_7 : decode cX11_status 7 = .ok (.iconst 1, 1) := dk_4 (dk_at dksX11_status_0 7 rfl rfl)
theorem dX11_status_8 : decode cX11_status 8 = .ok (.invokestatic 137, 3) := dk_184 0 137 (dk_at dksX11_status_0 8 rfl rfl)
theorem dX11_status_11 : decode cX11_status 11 = .ok (.ifCond .eq 12, 3) := dk_153 0 12 (dk_at dksX11_status_0 11 rfl rfl)
theorem dX11_status_14 : decode cX11_status 14 = .ok (.aload_n 0, 1) := dk_42 (dk_at dksX11_status_0 14 rfl rfl)
theorem dX11_status_15 : decode cX11_status 15 = .ok (.getfield 17, 3) := dk_180 0 17 (dk_at dksX11_status_0 15 rfl rfl)
theorem dX11_status_18 : decode cX11_status 18 = .ok (.iload_n 1, 1) := dk_27 (dk_at dksX11_status_0 18 rfl rfl)
theorem dX11_status_19 : decode cX11_status 19 = .ok (.iaload, 1) := dk_46 (dk_at dksX11_status_0 19 rfl rfl)
theorem dX11_status_20 : decode cX11_status 20 = .ok (.goto 4, 3) := dk_167 0 4 (dk_at dksX11_status_0 20 rfl rfl)
theorem dX11_status_23 : decode cX11_status 23 = .ok (.iconst (-1), 1) := dk_2 (dk_at dksX11_status_0 23 rfl rfl)
theorem dX11_status_24 : decode cX11_status 24 = .ok (.ireturn, 1) := dk_172 (dk_at dksX11_status_1 0 rfl rfl)
def dkwX11_count_1 : List UInt8 := [180, 0, 106, 167, 0, 16, 27, 5, 160, 0, 10, 42, 180, 0, 206, 167, 0, 4, 2, 172]
abbrev dktX11_count_1 : List UInt8 := dkwX11_count_1 ++ []
def dkwX11_count_0 : List UInt8 := [42, 3, 181, 0, 103, 27, 154, 0, 10, 42, 180, 0, 212, 167, 0, 28, 27, 4, 160, 0, 10, 42]
abbrev dktX11_count_0 : List UInt8 := dkwX11_count_0 ++ dktX11_count_1
theorem dksX11_count_0 : cX11_count.data.toList.drop 0 = dktX11_count_0 := by decide +kernel
theorem dksX11_count_1 : cX11_count.data.toList.drop 22 = dktX11_count_1 := dk_seg dksX11_count_0 22 rfl rfl
theorem dX11_count_0 : decode cX11_count 0 = .ok (.aload_n 0, 1) := dk_42 (dk_at dksX11_count_0 0 rfl rfl)
theorem dX11_count_1 : decode cX11_count 1 = .ok (.iconst 0, 1) := dk_3 (dk_at dksX11_count_0 1 rfl rfl)
theorem dX11_count_2 : decode cX11_count 2 = .ok (.putfield 103, 3) := dk_181 0 103 (dk_at dksX11_count_0 2 rfl rfl)
theorem dX11_count_5 : decode cX11_count 5 = .ok (.iload_n 1, 1) := dk_27 (dk_at dksX11_count_0 5 rfl rfl)
theorem dX11_count_6 : decode cX11_count 6 = .ok (.ifCond .ne 10, 3) := dk_154 0 10 (dk_at dksX11_count_0 6 rfl rfl)
theorem dX11_count_9 : decode cX11_count 9 = .ok (.aload_n 0, 1) := dk_42 (dk_at dksX11_count_0 9 rfl rfl)
theorem dX11_count_10 : decode cX11_count 10 = .ok (.getfield 212, 3) := dk_180 0 212 (dk_at dksX11_count_0 10 rfl rfl)
theorem dX11_count_13 : decode cX11_count 13 = .ok (.goto 28, 3) := dk_167 0 28 (dk_at dksX11_count_0 13 rfl rfl)
theorem dX11_count_16 : decode cX11_count 16 = .ok (.iload_n 1, 1) := dk_27 (dk_at dksX11_count_0 16 rfl rfl)
theorem dX11_count_17 : decode cX11_count 17 = .ok (.iconst 1, 1) := dk_4 (dk_at dksX11_count_0 17 rfl rfl)
theorem dX11_count_18 : decode cX11_count 18 = .ok (.if_icmp .ne 10, 3) := dk_160 0 10 (dk_at dksX11_count_0 18 rfl rfl)
theorem dX11_count_21 : decode cX11_count 21 = .ok (.aload_n 0, 1) := dk_42 (dk_at dksX11_count_0 21 rfl rfl)
theorem dX11_count_22 : decode cX11_count 22 = .ok (.getfield 106, 3) := dk_180 0 106 (dk_at dksX11_count_1 0 rfl rfl)
theorem dX11_count_25 : decode cX11_count 25 = .ok (.goto 16, 3) := dk_167 0 16 (dk_at dksX11_count_1 3 rfl rfl)
theorem dX11_count_28 : decode cX11_count 28 = .ok (.iload_n 1, 1) := dk_27 (dk_at dksX11_count_1 6 rfl rfl)
theorem dX11_count_29 : decode cX11_count 29 = .ok (.iconst 2, 1) := dk_5 (dk_at dksX11_count_1 7 rfl rfl)
theorem dX11_count_30 : decode cX11_count 30 = .ok (.if_icmp .ne 10, 3) := dk_160 0 10 (dk_at dksX11_count_1 8 rfl rfl)
theorem dX11_count_33 : decode cX11_count 33 = .ok (.aload_n 0, 1) := dk_42 (dk_at dksX11_count_1 11 rfl rfl)
theorem dX11_count_34 : decode cX11_count 34 = .ok (.getfield 206, 3) := dk_180 0 206 (dk_at dksX11_count_1 12 rfl rfl)
theorem dX11_count_37 : decode cX11_count 37 = .ok (.goto 4, 3) := dk_167 0 4 (dk_at dksX11_count_1 15 rfl rfl)
theorem dX11_count_40 : decode cX11_count 40 = .ok (.iconst (-1), 1) := dk_2 (dk_at dksX11_count_1 18 rfl rfl)
theorem dX11_count_41 : decode cX11_count 41 = .ok (.ireturn, 1) := dk_172 (dk_at dksX11_count_1 19 rfl rfl)
