set_option maxRecDepth 100000
abbrev cX0_init : ByteArray := prog_1_method_1_code
def yX0_init : MethodName := ⟨RX0, "<init>", "()V"⟩
def dkwX0_init_9 : List UInt8 := [89, 183, 0, 83, 83, 181, 0, 84, 177]
abbrev dktX0_init_9 : List UInt8 := dkwX0_init_9 ++ []
def dkwX0_init_8 : List UInt8 := [4, 187, 0, 81, 89, 183, 0, 83, 83, 89, 5, 187, 0, 81, 89, 183, 0, 83, 83, 89, 6, 187, 0, 81]
abbrev dktX0_init_8 : List UInt8 := dkwX0_init_8 ++ dktX0_init_9
def dkwX0_init_7 : List UInt8 := [5, 197, 0, 50, 2, 181, 0, 78, 42, 7, 189, 0, 81, 89, 3, 187, 0, 81, 89, 183, 0, 83, 83, 89]
abbrev dktX0_init_7 : List UInt8 := dkwX0_init_7 ++ dktX0_init_8
def dkwX0_init_6 : List UInt8 := [42, 16, 10, 16, 24, 197, 0, 50, 2, 181, 0, 71, 42, 16, 8, 189, 0, 74, 181, 0, 75, 42, 16, 8]
abbrev dktX0_init_6 : List UInt8 := dkwX0_init_6 ++ dktX0_init_7
def dkwX0_init_5 : List UInt8 := [181, 0, 58, 42, 2, 181, 0, 61, 42, 2, 181, 0, 65, 42, 187, 0, 27, 89, 183, 0, 29, 181, 0, 68]
abbrev dktX0_init_5 : List UInt8 := dkwX0_init_5 ++ dktX0_init_6
def dkwX0_init_4 : List UInt8 := [181, 0, 52, 42, 16, 24, 16, 8, 197, 0, 50, 2, 181, 0, 55, 42, 16, 24, 16, 10, 197, 0, 50, 2]
abbrev dktX0_init_4 : List UInt8 := dkwX0_init_4 ++ dktX0_init_5
def dkwX0_init_3 : List UInt8 := [16, 8, 188, 10, 181, 0, 44, 42, 16, 10, 188, 10, 181, 0, 47, 42, 16, 24, 16, 8, 197, 0, 50, 2]
abbrev dktX0_init_3 : List UInt8 := dkwX0_init_3 ++ dktX0_init_4
def dkwX0_init_2 : List UInt8 := [181, 0, 34, 42, 187, 0, 27, 89, 183, 0, 29, 181, 0, 37, 42, 16, 8, 188, 10, 181, 0, 40, 42]
abbrev dktX0_init_2 : List UInt8 := dkwX0_init_2 ++ dktX0_init_3
def dkwX0_init_1 : List UInt8 := [181, 0, 23, 42, 187, 0, 27, 89, 183, 0, 29, 181, 0, 30, 42, 187, 0, 27, 89, 183, 0, 29]
abbrev dktX0_init_1 : List UInt8 := dkwX0_init_1 ++ dktX0_init_2
def dkwX0_init_0 : List UInt8 := [42, 183, 0, 5, 42, 187, 0, 11, 89, 183, 0, 13, 181, 0, 14, 42, 187, 0, 20, 89, 183, 0, 22]
abbrev dktX0_init_0 : List UInt8 := dkwX0_init_0 ++ dktX0_init_1
theorem dksX0_init_0 : cX0_init.data.toList.drop 0 = dktX0_init_0 := by decide +kernel
theorem dksX0_init_1 : cX0_init.data.toList.drop 23 = dktX0_init_1 := dk_seg dksX0_init_0 23 rfl rfl
theorem dksX0_init_2 : cX0_init.data.toList.drop 45 = dktX0_init_2 := dk_seg dksX0_init_1 22 rfl rfl
theorem dksX0_init_3 : cX0_init.data.toList.drop 68 = dktX0_init_3 := dk_seg dksX0_init_2 23 rfl rfl
theorem dksX0_init_4 : cX0_init.data.toList.drop 92 = dktX0_init_4 := dk_seg dksX0_init_3 24 rfl rfl
theorem dksX0_init_5 : cX0_init.data.toList.drop 116 = dktX0_init_5 := dk_seg dksX0_init_4 24 rfl rfl
theorem dksX0_init_6 : cX0_init.data.toList.drop 140 = dktX0_init_6 := dk_seg dksX0_init_5 24 rfl rfl
theorem dksX0_init_7 : cX0_init.data.toList.drop 164 = dktX0_init_7 := dk_seg dksX0_init_6 24 rfl rfl
theorem dksX0_init_8 : cX0_init.data.toList.drop 188 = dktX0_init_8 := dk_seg dksX0_init_7 24 rfl rfl
theorem dksX0_init_9 : cX0_init.data.toList.drop 212 = dktX0_init_9 := dk_seg dksX0_init_8 24 rfl rfl
theorem dX0_init_0 : decode cX0_init 0 = .ok (.aload_n 0, 1) := dk_42 (dk_at dksX0_init_0 0 rfl rfl)
theorem dX0_init_1 : decode cX0_init 1 = .ok (.invokespecial 5, 3) := dk_183 0 5 (dk_at dksX0_init_0 1 rfl rfl)
theorem dX0_init_4 : decode cX0_init 4 = .ok (.aload_n 0, 1) := dk_42 (dk_at dksX0_init_0 4 rfl rfl)
theorem dX0_init_5 : decode cX0_init 5 = .ok (.new 11, 3) := dk_187 0 11 (dk_at dksX0_init_0 5 rfl rfl)
theorem dX0_init_8 : decode cX0_init 8 = .ok (.dup, 1) := dk_89 (dk_at dksX0_init_0 8 rfl rfl)
theorem dX0_init_9 : decode cX0_init 9 = .ok (.invokespecial 13, 3) := dk_183 0 13 (dk_at dksX0_init_0 9 rfl rfl)
theorem dX0_init_12 : decode cX0_init 12 = .ok (.putfield 14, 3) := dk_181 0 14 (dk_at dksX0_init_0 12 rfl rfl)
theorem dX0_init_15 : decode cX0_init 15 = .ok (.aload_n 0, 1) := dk_42 (dk_at dksX0_init_0 15 rfl rfl)
theorem dX0_init_16 : decode cX0_init 16 = .ok (.new 20, 3) := dk_187 0 20 (dk_at dksX0_init_0 16 rfl rfl)
theorem dX0_init_19 : decode cX0_init 19 = .ok (.dup, 1) := dk_89 (dk_at dksX0_init_0 19 rfl rfl)
theorem dX0_init_20 : decode cX0_init 20 = .ok (.invokespecial 22, 3) := dk_183 0 22 (dk_at dksX0_init_0 20 rfl rfl)
theorem dX0_init_23 : decode cX0_init 23 = .ok (.putfield 23, 3) := dk_181 0 23 (dk_at dksX0_init_1 0 rfl rfl)
theorem dX0_init_26 : decode cX0_init 26 = .ok (.aload_n 0, 1) := dk_42 (dk_at dksX0_init_1 3 rfl rfl)
theorem dX0_init_27 : decode cX0_init 27 = .ok (.new 27, 3) := dk_187 0 27 (dk_at dksX0_init_1 4 rfl rfl)
theorem dX0_init_30 : decode cX0_init 30 = .ok (.dup, 1) := dk_89 (dk_at dksX0_init_1 7 rfl rfl)
theorem dX0_init_31 : decode cX0_init 31 = .ok (.invokespecial 29, 3) := dk_183 0 29 (dk_at dksX0_init_1 8 rfl rfl)
theorem dX0_init_34 : decode cX0_init 34 = .ok (.putfield 30, 3) := dk_181 0 30 (dk_at dksX0_init_1 11 rfl rfl)
theorem dX0_init_37 : decode cX0_init 37 = .ok (.aload_n 0, 1) := dk_42 (dk_at dksX0_init_1 14 rfl rfl)
theorem dX0_init_38 : decode cX0_init 38 = .ok (.new 27, 3) := dk_187 0 27 (dk_at dksX0_init_1 15 rfl rfl)
theorem dX0_init_41 : decode cX0_init 41 = .ok (.dup, 1) := dk_89 (dk_at dksX0_init_1 18 rfl rfl)
theorem dX0_init_42 : decode cX0_init 42 = .ok (.invokespecial 29, 3) := dk_183 0 29 (dk_at dksX0_init_1 19 rfl rfl)
theorem dX0_init_45 : decode cX0_init 45 = .ok (.putfield 34, 3) := dk_181 0 34 (dk_at dksX0_init_2 0 rfl rfl)
theorem dX0_init_48 : decode cX0_init 48 = .ok (.aload_n 0, 1) := dk_42 (dk_at dksX0_init_2 3 rfl rfl)
theorem dX0_init_49 : decode cX0_init 49 = .ok (.new 27, 3) := dk_187 0 27 (dk_at dksX0_init_2 4 rfl rfl)
theorem dX0_init_52 : decode cX0_init 52 = .ok (.dup, 1) := dk_89 (dk_at dksX0_init_2 7 rfl rfl)
theorem dX0_init_53 : decode cX0_init 53 = .ok (.invokespecial 29, 3) := dk_183 0 29 (dk_at dksX0_init_2 8 rfl rfl)
theorem dX0_init_56 : decode cX0_init 56 = .ok (.putfield 37, 3) := dk_181 0 37 (dk_at dksX0_init_2 11 rfl rfl)
theorem dX0_init_59 : decode cX0_init 59 = .ok (.aload_n 0, 1) := dk_42 (dk_at dksX0_init_2 14 rfl rfl)
theorem dX0_init_60 : decode cX0_init 60 = .ok (.bipush 8, 2) := dk_16 8 (dk_at dksX0_init_2 15 rfl rfl)
theorem dX0_init_62 : decode cX0_init 62 = .ok (.newarray .int, 2) := dk_188_10 (dk_at dksX0_init_2 17 rfl rfl)
theorem dX0_init_64 : decode cX0_init 64 = .ok (.putfield 40, 3) := dk_181 0 40 (dk_at dksX0_init_2 19 rfl rfl)
theorem dX0_init_67 : decode cX0_init 67 = .ok (.aload_n 0, 1) := dk_42 (dk_at dksX0_init_2 22 rfl rfl)
theorem dX0_init_68 : decode cX0_init 68 = .ok (.bipush 8, 2) := dk_16 8 (dk_at dksX0_init_3 0 rfl rfl)
theorem dX0_init_70 : decode cX0_init 70 = .ok (.newarray .int, 2) := dk_188_10 (dk_at dksX0_init_3 2 rfl rfl)
theorem dX0_init_72 : decode cX0_init 72 = .ok (.putfield 44, 3) := dk_181 0 44 (dk_at dksX0_init_3 4 rfl rfl)
theorem dX0_init_75 : decode cX0_init 75 = .ok (.aload_n 0, 1) := dk_42 (dk_at dksX0_init_3 7 rfl rfl)
theorem dX0_init_76 : decode cX0_init 76 = .ok (.bipush 10, 2) := dk_16 10 (dk_at dksX0_init_3 8 rfl rfl)
theorem dX0_init_78 : decode cX0_init 78 = .ok (.newarray .int, 2) := dk_188_10 (dk_at dksX0_init_3 10 rfl rfl)
theorem dX0_init_80 : decode cX0_init 80 = .ok (.putfield 47, 3) := dk_181 0 47 (dk_at dksX0_init_3 12 rfl rfl)
theorem dX0_init_83 : decode cX0_init 83 = .ok (.aload_n 0, 1) := dk_42 (dk_at dksX0_init_3 15 rfl rfl)
theorem dX0_init_84 : decode cX0_init 84 = .ok (.bipush 24, 2) := dk_16 24 (dk_at dksX0_init_3 16 rfl rfl)
theorem dX0_init_86 : decode cX0_init 86 = .ok (.bipush 8, 2) := dk_16 8 (dk_at dksX0_init_3 18 rfl rfl)
theorem dX0_init_88 : decode cX0_init 88 = .ok (.multianewarray 50 2, 4) := by decide +kernel
theorem dX0_init_92 : decode cX0_init 92 = .ok (.putfield 52, 3) := dk_181 0 52 (dk_at dksX0_init_4 0 rfl rfl)
theorem dX0_init_95 : decode cX0_init 95 = .ok (.aload_n 0, 1) := dk_42 (dk_at dksX0_init_4 3 rfl rfl)
theorem dX0_init_96 : decode cX0_init 96 = .ok (.bipush 24, 2) := dk_16 24 (dk_at dksX0_init_4 4 rfl rfl)
theorem dX0_init_98 : decode cX0_init 98 = .ok (.bipush 8, 2) := dk_16 8 (dk_at dksX0_init_4 6 rfl rfl)
theorem dX0_init_100 : decode cX0_init 100 = .ok (.multianewarray 50 2, 4) := by decide +kernel
theorem dX0_init_104 : decode cX0_init 104 = .ok (.putfield 55, 3) := dk_181 0 55 (dk_at dksX0_init_4 12 rfl rfl)
theorem dX0_init_107 : decode cX0_init 107 = .ok (.aload_n 0, 1) := dk_42 (dk_at dksX0_init_4 15 rfl rfl)
theorem dX0_init_108 : decode cX0_init 108 = .ok (.bipush 24, 2) := dk_16 24 (dk_at dksX0_init_4 16 rfl rfl)
theorem dX0_init_110 : decode cX0_init 110 = .ok (.bipush 10, 2) := dk_16 10 (dk_at dksX0_init_4 18 rfl rfl)
theorem dX0_init_112 : decode cX0_init 112 = .ok (.multianewarray 50 2, 4) := by decide +kernel
theorem dX0_init_116 : decode cX0_init 116 = .ok (.putfield 58, 3) := dk_181 0 58 (dk_at dksX0_init_5 0 rfl rfl)
theorem dX0_init_119 : decode cX0_init 119 = .ok (.aload_n 0, 1) := dk_42 (dk_at dksX0_init_5 3 rfl rfl)
theorem dX0_init_120 : decode cX0_init 120 = .ok (.iconst (-1), 1) := dk_2 (dk_at dksX0_init_5 4 rfl rfl)
theorem dX0_init_121 : decode cX0_init 121 = .ok (.putfield 61, 3) := dk_181 0 61 (dk_at dksX0_init_5 5 rfl rfl)
theorem dX0_init_124 : decode cX0_init 124 = .ok (.aload_n 0, 1) := dk_42 (dk_at dksX0_init_5 8 rfl rfl)
theorem dX0_init_125 : decode cX0_init 125 = .ok (.iconst (-1), 1) := dk_2 (dk_at dksX0_init_5 9 rfl rfl)
theorem dX0_init_126 : decode cX0_init 126 = .ok (.putfield 65, 3) := dk_181 0 65 (dk_at dksX0_init_5 10 rfl rfl)
theorem dX0_init_129 : decode cX0_init 129 = .ok (.aload_n 0, 1) := dk_42 (dk_at dksX0_init_5 13 rfl rfl)
theorem dX0_init_130 : decode cX0_init 130 = .ok (.new 27, 3) := dk_187 0 27 (dk_at dksX0_init_5 14 rfl rfl)
theorem dX0_init_133 : decode cX0_init 133 = .ok (.dup, 1) := dk_89 (dk_at dksX0_init_5 17 rfl rfl)
theorem dX0_init_134 : decode cX0_init 134 = .ok (.invokespecial 29, 3) := dk_183 0 29 (dk_at dksX0_init_5 18 rfl rfl)
theorem dX0_init_137 : decode cX0_init 137 = .ok (.putfield 68, 3) := dk_181 0 68 (dk_at dksX0_init_5 21 rfl rfl)
theorem dX0_init_140 : decode cX0_init 140 = .ok (.aload_n 0, 1) := dk_42 (dk_at dksX0_init_6 0 rfl rfl)
theorem dX0_init_141 : decode cX0_init 141 = .ok (.bipush 10, 2) := dk_16 10 (dk_at dksX0_init_6 1 rfl rfl)
theorem dX0_init_143 : decode cX0_init 143 = .ok (.bipush 24, 2) := dk_16 24 (dk_at dksX0_init_6 3 rfl rfl)
theorem dX0_init_145 : decode cX0_init 145 = .ok (.multianewarray 50 2, 4) := by decide +kernel
theorem dX0_init_149 : decode cX0_init 149 = .ok (.putfield 71, 3) := dk_181 0 71 (dk_at dksX0_init_6 9 rfl rfl)
theorem dX0_init_152 : decode cX0_init 152 = .ok (.aload_n 0, 1) := dk_42 (dk_at dksX0_init_6 12 rfl rfl)
theorem dX0_init_153 : decode cX0_init 153 = .ok (.bipush 8, 2) := dk_16 8 (dk_at dksX0_init_6 13 rfl rfl)
theorem dX0_init_155 : decode cX0_init 155 = .ok (.anewarray 74, 3) := dk_189 0 74 (dk_at dksX0_init_6 15 rfl rfl)
theorem dX0_init_158 : decode cX0_init 158 = .ok (.putfield 75, 3) := dk_181 0 75 (dk_at dksX0_init_6 18 rfl rfl)
theorem dX0_init_161 : decode cX0_init 161 = .ok (.aload_n 0, 1) := dk_42 (dk_at dksX0_init_6 21 rfl rfl)
theorem dX0_init_162 : decode cX0_init 162 = .ok (.bipush 8, 2) := dk_16 8 (dk_at dksX0_init_6 22 rfl rfl)
theorem dX0_init_164 : decode cX0_init 164 = .ok (.iconst 2, 1) := dk_5 (dk_at dksX0_init_7 0 rfl rfl)
theorem dX0_init_165 : decode cX0_init 165 = .ok (.multianewarray 50 2, 4) := by decide +kernel
theorem dX0_init_169 : decode cX0_init 169 = .ok (.putfield 78, 3) := dk_181 0 78 (dk_at dksX0_init_7 5 rfl rfl)
theorem dX0_init_172 : decode cX0_init 172 = .ok (.aload_n 0, 1) := dk_42 (dk_at dksX0_init_7 8 rfl rfl)
theorem dX0_init_173 : decode cX0_init 173 = .ok (.iconst 4, 1) := dk_7 (dk_at dksX0_init_7 9 rfl rfl)
theorem dX0_init_174 : decode cX0_init 174 = .ok (.anewarray 81, 3) := dk_189 0 81 (dk_at dksX0_init_7 10 rfl rfl)
theorem dX0_init_177 : decode cX0_init 177 = .ok (.dup, 1) := dk_89 (dk_at dksX0_init_7 13 rfl rfl)
theorem dX0_init_178 : decode cX0_init 178 = .ok (.iconst 0, 1) := dk_3 (dk_at dksX0_init_7 14 rfl rfl)
theorem dX0_init_179 : decode cX0_init 179 = .ok (.new 81, 3) := dk_187 0 81 (dk_at dksX0_init_7 15 rfl rfl)
theorem dX0_init_182 : decode cX0_init 182 = .ok (.dup, 1) := dk_89 (dk_at dksX0_init_7 18 rfl rfl)
theorem dX0_init_183 : decode cX0_init 183 = .ok (.invokespecial 83, 3) := dk_183 0 83 (dk_at dksX0_init_7 19 rfl rfl)
theorem dX0_init_186 : decode cX0_init 186 = .ok (.aastore, 1) := dk_83 (dk_at dksX0_init_7 22 rfl rfl)
theorem dX0_init_187 : decode cX0_init 187 = .ok (.dup, 1) := dk_89 (dk_at dksX0_init_7 23 rfl rfl)
theorem dX0_init_188 : decode cX0_init 188 = .ok (.iconst 1, 1) := dk_4 (dk_at dksX0_init_8 0 rfl rfl)
theorem dX0_init_189 : decode cX0_init 189 = .ok (.new 81, 3) := dk_187 0 81 (dk_at dksX0_init_8 1 rfl rfl)
theorem dX0_init_192 : decode cX0_init 192 = .ok (.dup, 1) := dk_89 (dk_at dksX0_init_8 4 rfl rfl)
theorem dX0_init_193 : decode cX0_init 193 = .ok (.invokespecial 83, 3) := dk_183 0 83 (dk_at dksX0_init_8 5 rfl rfl)
theorem dX0_init_196 : decode cX0_init 196 = .ok (.aastore, 1) := dk_83 (dk_at dksX0_init_8 8 rfl rfl)
theorem dX0_init_197 : decode cX0_init 197 = .ok (.dup, 1) := dk_89 (dk_at dksX0_init_8 9 rfl rfl)
theorem dX0_init_198 : decode cX0_init 198 = .ok (.iconst 2, 1) := dk_5 (dk_at dksX0_init_8 10 rfl rfl)
theorem dX0_init_199 : decode cX0_init 199 = .ok (.new 81, 3) := dk_187 0 81 (dk_at dksX0_init_8 11 rfl rfl)
theorem dX0_init_202 : decode cX0_init 202 = .ok (.dup, 1) := dk_89 (dk_at dksX0_init_8 14 rfl rfl)
theorem dX0_init_203 : decode cX0_init 203 = .ok (.invokespecial 83, 3) := dk_183 0 83 (dk_at dksX0_init_8 15 rfl rfl)
theorem dX0_init_206 : decode cX0_init 206 = .ok (.aastore, 1) := dk_83 (dk_at dksX0_init_8 18 rfl rfl)
theorem dX0_init_207 : decode cX0_init 207 = .ok (.dup, 1) := dk_89 (dk_at dksX0_init_8 19 rfl rfl)
theorem dX0_init_208 : decode cX0_init 208 = .ok (.iconst 3, 1) := dk_6 (dk_at dksX0_init_8 20 rfl rfl)
theorem dX0_init_209 : decode cX0_init 209 = .ok (.new 81, 3) := dk_187 0 81 (dk_at dksX0_init_8 21 rfl rfl)
theorem dX0_init_212 : decode cX0_init 212 = .ok (.dup, 1) := dk_89 (dk_at dksX0_init_9 0 rfl rfl)
theorem dX0_init_213 : decode cX0_init 213 = .ok (.invokespecial 83, 3) := dk_183 0 83 (dk_at dksX0_init_9 1 rfl rfl)
theorem dX0_init_216 : decode cX0_init 216 = .ok (.aastore, 1) := dk_83 (dk_at dksX0_init_9 4 rfl rfl)
theorem dX0_init_217 : decode cX0_init 217 = .ok (.putfield 84, 3) := dk_181 0 84 (dk_at dksX0_init_9 5 rfl rfl)
theorem dX0_init_220 : decode cX0_init 220 = .ok (.return_, 1) := dk_177 (dk_at dksX0_init_9 8 rfl rfl)
abbrev cX0_type : ByteArray := prog_1_method_10_code
def yX0_type : MethodName := ⟨RX0, "type", "(II)I"⟩
def dkwX0_type_1 : List UInt8 := [28, 182, 0, 110, 167, 0, 5, 16, 254, 172]
abbrev dktX0_type_1 : List UInt8 := dkwX0_type_1 ++ []
def dkwX0_type_0 : List UInt8 := [27, 184, 0, 100, 153, 0, 27, 28, 133, 9, 20, 0, 104, 184, 0, 94, 153, 0, 15, 42, 27, 182, 0, 106]
abbrev dktX0_type_0 : List UInt8 := dkwX0_type_0 ++ dktX0_type_1
theorem dksX0_type_0 : cX0_type.data.toList.drop 0 = dktX0_type_0 := by decide +kernel
theorem dksX0_type_1 : cX0_type.data.toList.drop 24 = dktX0_type_1 := dk_seg dksX0_type_0 24 rfl rfl
theorem dX0_type_0 : decode cX0_type 0 = .ok (.iload_n 1, 1) := dk_27 (dk_at dksX0_type_0 0 rfl rfl)
theorem dX0_type_1 : decode cX0_type 1 = .ok (.invokestatic 100, 3) := dk_184 0 100 (dk_at dksX0_type_0 1 rfl rfl)
theorem dX0_type_4 : decode cX0_type 4 = .ok (.ifCond .eq 27, 3) := dk_153 0 27 (dk_at dksX0_type_0 4 rfl rfl)
theorem dX0_type_7 : decode cX0_type 7 = .ok (.iload_n 2, 1) := dk_28 (dk_at dksX0_type_0 7 rfl rfl)
theorem dX0_type_8 : decode cX0_type 8 = .ok (.i2l, 1) := dk_133 (dk_at dksX0_type_0 8 rfl rfl)
theorem dX0_type_9 : decode cX0_type 9 = .ok (.lconst 0, 1) := dk_9 (dk_at dksX0_type_0 9 rfl rfl)
theorem dX0_type_10 : decode cX0_type 10 = .ok (.ldc2_w 104, 3) := dk_20 0 104 (dk_at dksX0_type_0 10 rfl rfl)
theorem dX0_type_13 : decode cX0_type 13 = .ok (.invokestatic 94, 3) := dk_184 0 94 (dk_at dksX0_type_0 13 rfl rfl)
theorem dX0_type_16 : decode cX0_type 16 = .ok (.ifCond .eq 15, 3) := dk_153 0 15 (dk_at dksX0_type_0 16 rfl rfl)
theorem dX0_type_19 : decode cX0_type 19 = .ok (.aload_n 0, 1) := dk_42 (dk_at dksX0_type_0 19 rfl rfl)
theorem dX0_type_20 : decode cX0_type 20 = .ok (.iload_n 1, 1) := dk_27 (dk_at dksX0_type_0 20 rfl rfl)
theorem dX0_type_21 : decode cX0_type 21 = .ok (.invokevirtual 106, 3) := dk_182 0 106 (dk_at dksX0_type_0 21 rfl rfl)
theorem dX0_type_24 : decode cX0_type 24 = .ok (.iload_n 2, 1) := dk_28 (dk_at dksX0_type_1 0 rfl rfl)
theorem dX0_type_25 : decode cX0_type 25 = .ok (.invokevirtual 110, 3) := dk_182 0 110 (dk_at dksX0_type_1 1 rfl rfl)
theorem dX0_type_28 : decode cX0_type 28 = .ok (.goto 5, 3) := dk_167 0 5 (dk_at dksX0_type_1 4 rfl rfl)
theorem dX0_type_31 : decode cX0_type 31 = .ok (.bipush (-2), 2) := dk_16 254 (dk_at dksX0_type_1 7 rfl rfl)
theorem dX0_type_33 : decode cX0_type 33 = .ok (.ireturn, 1) := dk_172 (dk_at dksX0_type_1 9 rfl rfl)
abbrev cX0_isTwo : ByteArray := prog_1_method_6_code
def yX0_isTwo : MethodName := ⟨RX0, "isTwo", "(I)Z"⟩
def dkwX0_isTwo_0 : List UInt8 := [26, 133, 9, 10, 184, 0, 94, 172]
abbrev dktX0_isTwo_0 : List UInt8 := dkwX0_isTwo_0 ++ []
theorem dksX0_isTwo_0 : cX0_isTwo.data.toList.drop 0 = dktX0_isTwo_0 := by decide +kernel
theorem dX0_isTwo_0 : decode cX0_isTwo 0 = .ok (.iload_n 0, 1) := dk_26 (dk_at dksX0_isTwo_0 0 rfl rfl)
theorem dX0_isTwo_1 : decode cX0_isTwo 1 = .ok (.i2l, 1) := dk_133 (dk_at dksX0_isTwo_0 1 rfl rfl)
theorem dX0_isTwo_2 : decode cX0_isTwo 2 = .ok (.lconst 0, 1) := dk_9 (dk_at dksX0_isTwo_0 2 rfl rfl)
theorem dX0_isTwo_3 : decode cX0_isTwo 3 = .ok (.lconst 1, 1) := dk_10 (dk_at dksX0_isTwo_0 3 rfl rfl)
theorem dX0_isTwo_4 : decode cX0_isTwo 4 = .ok (.invokestatic 94, 3) := dk_184 0 94 (dk_at dksX0_isTwo_0 4 rfl rfl)
theorem dX0_isTwo_7 : decode cX0_isTwo 7 = .ok (.ireturn, 1) := dk_172 (dk_at dksX0_isTwo_0 7 rfl rfl)
abbrev cX0_in : ByteArray := prog_1_method_2_code
def yX0_in : MethodName := ⟨RX0, "in", "(JJJ)Z"⟩
def dkwX0_in_0 : List UInt8 := [30, 32, 148, 155, 0, 14, 30, 22, 4, 148, 157, 0, 7, 4, 167, 0, 4, 3, 172]
abbrev dktX0_in_0 : List UInt8 := dkwX0_in_0 ++ []
theorem dksX0_in_0 : cX0_in.data.toList.drop 0 = dktX0_in_0 := by decide +kernel
theorem dX0_in_0 : decode cX0_in 0 = .ok (.lload_n 0, 1) := dk_30 (dk_at dksX0_in_0 0 rfl rfl)
theorem dX0_in_1 : decode cX0_in 1 = .ok (.lload_n 2, 1) := dk_32 (dk_at dksX0_in_0 1 rfl rfl)
theorem dX0_in_2 : decode cX0_in 2 = .ok (.lcmp, 1) := dk_148 (dk_at dksX0_in_0 2 rfl rfl)
theorem dX0_in_3 : decode cX0_in 3 = .ok (.ifCond .lt 14, 3) := dk_155 0 14 (dk_at dksX0_in_0 3 rfl rfl)
theorem dX0_in_6 : decode cX0_in 6 = .ok (.lload_n 0, 1) := dk_30 (dk_at dksX0_in_0 6 rfl rfl)
theorem dX0_in_7 : decode cX0_in 7 = .ok (.lload 4, 2) := dk_22 4 (dk_at dksX0_in_0 7 rfl rfl)
theorem dX0_in_9 : decode cX0_in 9 = .ok (.lcmp, 1) := dk_148 (dk_at dksX0_in_0 9 rfl rfl)
theorem dX0_in_10 : decode cX0_in 10 = .ok (.ifCond .gt 7, 3) := dk_157 0 7 (dk_at dksX0_in_0 10 rfl rfl)
theorem dX0_in_13 : decode cX0_in 13 = .ok (.iconst 1, 1) := dk_4 (dk_at dksX0_in_0 13 rfl rfl)
theorem dX0_in_14 : decode cX0_in 14 = .ok (.goto 4, 3) := dk_167 0 4 (dk_at dksX0_in_0 14 rfl rfl)
theorem dX0_in_17 : decode cX0_in 17 = .ok (.iconst 0, 1) := dk_3 (dk_at dksX0_in_0 17 rfl rfl)
theorem dX0_in_18 : decode cX0_in 18 = .ok (.ireturn, 1) := dk_172 (dk_at dksX0_in_0 18 rfl rfl)
abbrev cX0_text : ByteArray := prog_1_method_9_code
def yX0_text : MethodName := ⟨RX0, "text", "(I)LPromiseTailor$Text;"⟩
def dkwX0_text_0 : List UInt8 := [27, 154, 0, 10, 42, 180, 0, 14, 167, 0, 7, 42, 180, 0, 23, 176]
abbrev dktX0_text_0 : List UInt8 := dkwX0_text_0 ++ []
theorem dksX0_text_0 : cX0_text.data.toList.drop 0 = dktX0_text_0 := by decide +kernel
theorem dX0_text_0 : decode cX0_text 0 = .ok (.iload_n 1, 1) := dk_27 (dk_at dksX0_text_0 0 rfl rfl)
theorem dX0_text_1 : decode cX0_text 1 = .ok (.ifCond .ne 10, 3) := dk_154 0 10 (dk_at dksX0_text_0 1 rfl rfl)
theorem dX0_text_4 : decode cX0_text 4 = .ok (.aload_n 0, 1) := dk_42 (dk_at dksX0_text_0 4 rfl rfl)
theorem dX0_text_5 : decode cX0_text 5 = .ok (.getfield 14, 3) := dk_180 0 14 (dk_at dksX0_text_0 5 rfl rfl)
theorem dX0_text_8 : decode cX0_text 8 = .ok (.goto 7, 3) := dk_167 0 7 (dk_at dksX0_text_0 8 rfl rfl)
theorem dX0_text_11 : decode cX0_text 11 = .ok (.aload_n 0, 1) := dk_42 (dk_at dksX0_text_0 11 rfl rfl)
theorem dX0_text_12 : decode cX0_text 12 = .ok (.getfield 23, 3) := dk_180 0 23 (dk_at dksX0_text_0 12 rfl rfl)
theorem dX0_text_15 : decode cX0_text 15 = .ok (.areturn, 1) := dk_176 (dk_at dksX0_text_0 15 rfl rfl)
abbrev cX0_wipe : ByteArray := prog_1_method_11_code
def yX0_wipe : MethodName := ⟨RX0, "wipe", "(I)I"⟩
def dkwX0_wipe_0 : List UInt8 := [27, 184, 0, 100, 153, 0, 14, 42, 27, 182, 0, 106, 182, 0, 116, 167, 0, 5, 16, 254, 172]
abbrev dktX0_wipe_0 : List UInt8 := dkwX0_wipe_0 ++ []
theorem dksX0_wipe_0 : cX0_wipe.data.toList.drop 0 = dktX0_wipe_0 := by decide +kernel
theorem dX0_wipe_0 : decode cX0_wipe 0 = .ok (.iload_n 1, 1) := dk_27 (dk_at dksX0_wipe_0 0 rfl rfl)
theorem dX0_wipe_1 : decode cX0_wipe 1 = .ok (.invokestatic 100, 3) := dk_184 0 100 (dk_at dksX0_wipe_0 1 rfl rfl)
theorem dX0_wipe_4 : decode cX0_wipe 4 = .ok (.ifCond .eq 14, 3) := dk_153 0 14 (dk_at dksX0_wipe_0 4 rfl rfl)
theorem dX0_wipe_7 : decode cX0_wipe 7 = .ok (.aload_n 0, 1) := dk_42 (dk_at dksX0_wipe_0 7 rfl rfl)
theorem dX0_wipe_8 : decode cX0_wipe 8 = .ok (.iload_n 1, 1) := dk_27 (dk_at dksX0_wipe_0 8 rfl rfl)
theorem dX0_wipe_9 : decode cX0_wipe 9 = .ok (.invokevirtual 106, 3) := dk_182 0 106 (dk_at dksX0_wipe_0 9 rfl rfl)
theorem dX0_wipe_12 : decode cX0_wipe 12 = .ok (.invokevirtual 116, 3) := dk_182 0 116 (dk_at dksX0_wipe_0 12 rfl rfl)
theorem dX0_wipe_15 : decode cX0_wipe 15 = .ok (.goto 5, 3) := dk_167 0 5 (dk_at dksX0_wipe_0 15 rfl rfl)
theorem dX0_wipe_18 : decode cX0_wipe 18 = .ok (.bipush (-2), 2) := dk_16 254 (dk_at dksX0_wipe_0 18 rfl rfl)
theorem dX0_wipe_20 : decode cX0_wipe 20 = .ok (.ireturn, 1) := dk_172 (dk_at dksX0_wipe_0 20 rfl rfl)
abbrev cX0_undo : ByteArray := prog_1_method_12_code
def yX0_undo : MethodName := ⟨RX0, "undo", "(I)I"⟩
def dkwX0_undo_0 : List UInt8 := [27, 184, 0, 100, 153, 0, 14, 42, 27, 182, 0, 106, 182, 0, 120, 167, 0, 5, 16, 254, 172]
abbrev dktX0_undo_0 : List UInt8 := dkwX0_undo_0 ++ []
theorem dksX0_undo_0 : cX0_undo.data.toList.drop 0 = dktX0_undo_0 := by decide +kernel
theorem dX0_undo_0 : decode cX0_undo 0 = .ok (.iload_n 1, 1) := dk_27 (dk_at dksX0_undo_0 0 rfl rfl)
theorem dX0_undo_1 : decode cX0_undo 1 = .ok (.invokestatic 100, 3) := dk_184 0 100 (dk_at dksX0_undo_0 1 rfl rfl)
theorem dX0_undo_4 : decode cX0_undo 4 = .ok (.ifCond .eq 14, 3) := dk_153 0 14 (dk_at dksX0_undo_0 4 rfl rfl)
theorem dX0_undo_7 : decode cX0_undo 7 = .ok (.aload_n 0, 1) := dk_42 (dk_at dksX0_undo_0 7 rfl rfl)
theorem dX0_undo_8 : decode cX0_undo 8 = .ok (.iload_n 1, 1) := dk_27 (dk_at dksX0_undo_0 8 rfl rfl)
theorem dX0_undo_9 : decode cX0_undo 9 = .ok (.invokevirtual 106, 3) := dk_182 0 106 (dk_at dksX0_undo_0 9 rfl rfl)
theorem dX0_undo_12 : decode cX0_undo 12 = .ok (.invokevirtual 120, 3) := dk_182 0 120 (dk_at dksX0_undo_0 12 rfl rfl)
theorem dX0_undo_15 : decode cX0_undo 15 = .ok (.goto 5, 3) := dk_167 0 5 (dk_at dksX0_undo_0 15 rfl rfl)
theorem dX0_undo_18 : decode cX0_undo 18 = .ok (.bipush (-2), 2) := dk_16 254 (dk_at dksX0_undo_0 18 rfl rfl)
theorem dX0_undo_20 : decode cX0_undo 20 = .ok (.ireturn, 1) := dk_172 (dk_at dksX0_undo_0 20 rfl rfl)
abbrev cX0_fault : ByteArray := prog_1_method_13_code
def yX0_fault : MethodName := ⟨RX0, "fault", "(I)I"⟩
def dkwX0_fault_0 : List UInt8 := [27, 184, 0, 100, 153, 0, 14, 42, 27, 182, 0, 106, 182, 0, 123, 167, 0, 5, 16, 254, 172]
abbrev dktX0_fault_0 : List UInt8 := dkwX0_fault_0 ++ []
theorem dksX0_fault_0 : cX0_fault.data.toList.drop 0 = dktX0_fault_0 := by decide +kernel
theorem dX0_fault_0 : decode cX0_fault 0 = .ok (.iload_n 1, 1) := dk_27 (dk_at dksX0_fault_0 0 rfl rfl)
theorem dX0_fault_1 : decode cX0_fault 1 = .ok (.invokestatic 100, 3) := dk_184 0 100 (dk_at dksX0_fault_0 1 rfl rfl)
theorem dX0_fault_4 : decode cX0_fault 4 = .ok (.ifCond .eq 14, 3) := dk_153 0 14 (dk_at dksX0_fault_0 4 rfl rfl)
theorem dX0_fault_7 : decode cX0_fault 7 = .ok (.aload_n 0, 1) := dk_42 (dk_at dksX0_fault_0 7 rfl rfl)
theorem dX0_fault_8 : decode cX0_fault 8 = .ok (.iload_n 1, 1) := dk_27 (dk_at dksX0_fault_0 8 rfl rfl)
theorem dX0_fault_9 : decode cX0_fault 9 = .ok (.invokevirtual 106, 3) := dk_182 0 106 (dk_at dksX0_fault_0 9 rfl rfl)
theorem dX0_fault_12 : decode cX0_fault 12 = .ok (.invokevirtual 123, 3) := dk_182 0 123 (dk_at dksX0_fault_0 12 rfl rfl)
theorem dX0_fault_15 : decode cX0_fault 15 = .ok (.goto 5, 3) := dk_167 0 5 (dk_at dksX0_fault_0 15 rfl rfl)
theorem dX0_fault_18 : decode cX0_fault 18 = .ok (.bipush (-2), 2) := dk_16 254 (dk_at dksX0_fault_0 18 rfl rfl)
theorem dX0_fault_20 : decode cX0_fault 20 = .ok (.ireturn, 1) := dk_172 (dk_at dksX0_fault_0 20 rfl rfl)
abbrev cX0_person : ByteArray := prog_1_method_16_code
def yX0_person : MethodName := ⟨RX0, "person", "(II)I"⟩
def dkwX0_person_1 : List UInt8 := [182, 0, 136, 192, 0, 140, 28, 182, 0, 142, 167, 0, 5, 16, 254, 172]
abbrev dktX0_person_1 : List UInt8 := dkwX0_person_1 ++ []
def dkwX0_person_0 : List UInt8 := [42, 27, 182, 0, 130, 153, 0, 31, 28, 184, 0, 100, 153, 0, 24, 42, 180, 0, 14, 180, 0, 133, 27]
abbrev dktX0_person_0 : List UInt8 := dkwX0_person_0 ++ dktX0_person_1
theorem dksX0_person_0 : cX0_person.data.toList.drop 0 = dktX0_person_0 := by decide +kernel
theorem dksX0_person_1 : cX0_person.data.toList.drop 23 = dktX0_person_1 := dk_seg dksX0_person_0 23 rfl rfl
theorem dX0_person_0 : decode cX0_person 0 = .ok (.aload_n 0, 1) := dk_42 (dk_at dksX0_person_0 0 rfl rfl)
theorem dX0_person_1 : decode cX0_person 1 = .ok (.iload_n 1, 1) := dk_27 (dk_at dksX0_person_0 1 rfl rfl)
theorem dX0_person_2 : decode cX0_person 2 = .ok (.invokevirtual 130, 3) := dk_182 0 130 (dk_at dksX0_person_0 2 rfl rfl)
theorem dX0_person_5 : decode cX0_person 5 = .ok (.ifCond .eq 31, 3) := dk_153 0 31 (dk_at dksX0_person_0 5 rfl rfl)
theorem dX0_person_8 : decode cX0_person 8 = .ok (.iload_n 2, 1) := dk_28 (dk_at dksX0_person_0 8 rfl rfl)
theorem dX0_person_9 : decode cX0_person 9 = .ok (.invokestatic 100, 3) := dk_184 0 100 (dk_at dksX0_person_0 9 rfl rfl)
theorem dX0_person_12 : decode cX0_person 12 = .ok (.ifCond .eq 24, 3) := dk_153 0 24 (dk_at dksX0_person_0 12 rfl rfl)
theorem dX0_person_15 : decode cX0_person 15 = .ok (.aload_n 0, 1) := dk_42 (dk_at dksX0_person_0 15 rfl rfl)
theorem dX0_person_16 : decode cX0_person 16 = .ok (.getfield 14, 3) := dk_180 0 14 (dk_at dksX0_person_0 16 rfl rfl)
theorem dX0_person_19 : decode cX0_person 19 = .ok (.getfield 133, 3) := dk_180 0 133 (dk_at dksX0_person_0 19 rfl rfl)
theorem dX0_person_22 : decode cX0_person 22 = .ok (.iload_n 1, 1) := dk_27 (dk_at dksX0_person_0 22 rfl rfl)
theorem dX0_person_23 : decode cX0_person 23 = .ok (.invokevirtual 136, 3) := dk_182 0 136 (dk_at dksX0_person_1 0 rfl rfl)
theorem dX0_person_26 : decode cX0_person 26 = .ok (.checkcast 140, 3) := dk_192 0 140 (dk_at dksX0_person_1 3 rfl rfl)
theorem dX0_person_29 : decode cX0_person 29 = .ok (.iload_n 2, 1) := dk_28 (dk_at dksX0_person_1 6 rfl rfl)
theorem dX0_person_30 : decode cX0_person 30 = .ok (.invokevirtual 142, 3) := dk_182 0 142 (dk_at dksX0_person_1 7 rfl rfl)
theorem dX0_person_33 : decode cX0_person 33 = .ok (.goto 5, 3) := dk_167 0 5 (dk_at dksX0_person_1 10 rfl rfl)
theorem dX0_person_36 : decode cX0_person 36 = .ok (.bipush (-2), 2) := dk_16 254 (dk_at dksX0_person_1 13 rfl rfl)
theorem dX0_person_38 : decode cX0_person 38 = .ok (.ireturn, 1) := dk_172 (dk_at dksX0_person_1 15 rfl rfl)
abbrev cX0_isPerson : ByteArray := prog_1_method_14_code
def yX0_isPerson : MethodName := ⟨RX0, "isPerson", "(I)Z"⟩
def dkwX0_isPerson_0 : List UInt8 := [27, 133, 9, 42, 180, 0, 14, 182, 0, 126, 4, 100, 133, 184, 0, 94, 172]
abbrev dktX0_isPerson_0 : List UInt8 := dkwX0_isPerson_0 ++ []
theorem dksX0_isPerson_0 : cX0_isPerson.data.toList.drop 0 = dktX0_isPerson_0 := by decide +kernel
theorem dX0_isPerson_0 : decode cX0_isPerson 0 = .ok (.iload_n 1, 1) := dk_27 (dk_at dksX0_isPerson_0 0 rfl rfl)
theorem dX0_isPerson_1 : decode cX0_isPerson 1 = .ok (.i2l, 1) := dk_133 (dk_at dksX0_isPerson_0 1 rfl rfl)
theorem dX0_isPerson_2 : decode cX0_isPerson 2 = .ok (.lconst 0, 1) := dk_9 (dk_at dksX0_isPerson_0 2 rfl rfl)
theorem dX0_isPerson_3 : decode cX0_isPerson 3 = .ok (.aload_n 0, 1) := dk_42 (dk_at dksX0_isPerson_0 3 rfl rfl)
theorem dX0_isPerson_4 : decode cX0_isPerson 4 = .ok (.getfield 14, 3) := dk_180 0 14 (dk_at dksX0_isPerson_0 4 rfl rfl)
theorem dX0_isPerson_7 : decode cX0_isPerson 7 = .ok (.invokevirtual 126, 3) := dk_182 0 126 (dk_at dksX0_isPerson_0 7 rfl rfl)
theorem dX0_isPerson_10 : decode cX0_isPerson 10 = .ok (.iconst 1, 1) := dk_4 (dk_at dksX0_isPerson_0 10 rfl rfl)
theorem dX0_isPerson_11 : decode cX0_isPerson 11 = .ok (.isub, 1) := dk_100 (dk_at dksX0_isPerson_0 11 rfl rfl)
theorem dX0_isPerson_12 : decode cX0_isPerson 12 = .ok (.i2l, 1) := dk_133 (dk_at dksX0_isPerson_0 12 rfl rfl)
theorem dX0_isPerson_13 : decode cX0_isPerson 13 = .ok (.invokestatic 94, 3) := dk_184 0 94 (dk_at dksX0_isPerson_0 13 rfl rfl)
theorem dX0_isPerson_16 : decode cX0_isPerson 16 = .ok (.ireturn, 1) := dk_172 (dk_at dksX0_isPerson_0 16 rfl rfl)
abbrev cX0_promise : ByteArray := prog_1_method_17_code
def yX0_promise : MethodName := ⟨RX0, "promise", "(II)I"⟩
def dkwX0_promise_1 : List UInt8 := [180, 0, 150, 27, 182, 0, 136, 192, 0, 151, 28, 182, 0, 153, 167, 0, 5, 16, 254, 172]
abbrev dktX0_promise_1 : List UInt8 := dkwX0_promise_1 ++ []
def dkwX0_promise_0 : List UInt8 := [42, 27, 182, 0, 145, 153, 0, 36, 28, 133, 9, 20, 0, 148, 184, 0, 94, 153, 0, 24, 42, 180, 0, 23]
abbrev dktX0_promise_0 : List UInt8 := dkwX0_promise_0 ++ dktX0_promise_1
theorem dksX0_promise_0 : cX0_promise.data.toList.drop 0 = dktX0_promise_0 := by decide +kernel
theorem dksX0_promise_1 : cX0_promise.data.toList.drop 24 = dktX0_promise_1 := dk_seg dksX0_promise_0 24 rfl rfl
theorem dX0_promise_0 : decode cX0_promise 0 = .ok (.aload_n 0, 1) := dk_42 (dk_at dksX0_promise_0 0 rfl rfl)
theorem dX0_promise_1 : decode cX0_promise 1 = .ok (.iload_n 1, 1) := dk_27 (dk_at dksX0_promise_0 1 rfl rfl)
theorem dX0_promise_2 : decode cX0_promise 2 = .ok (.invokevirtual 145, 3) := dk_182 0 145 (dk_at dksX0_promise_0 2 rfl rfl)
theorem dX0_promise_5 : decode cX0_promise 5 = .ok (.ifCond .eq 36, 3) := dk_153 0 36 (dk_at dksX0_promise_0 5 rfl rfl)
theorem dX0_promise_8 : decode cX0_promise 8 = .ok (.iload_n 2, 1) := dk_28 (dk_at dksX0_promise_0 8 rfl rfl)
theorem dX0_promise_9 : decode cX0_promise 9 = .ok (.i2l, 1) := dk_133 (dk_at dksX0_promise_0 9 rfl rfl)
theorem dX0_promise_10 : decode cX0_promise 10 = .ok (.lconst 0, 1) := dk_9 (dk_at dksX0_promise_0 10 rfl rfl)
theorem dX0_promise_11 : decode cX0_promise 11 = .ok (.ldc2_w 148, 3) := dk_20 0 148 (dk_at dksX0_promise_0 11 rfl rfl)
theorem dX0_promise_14 : decode cX0_promise 14 = .ok (.invokestatic 94, 3) := dk_184 0 94 (dk_at dksX0_promise_0 14 rfl rfl)
theorem dX0_promise_17 : decode cX0_promise 17 = .ok (.ifCond .eq 24, 3) := dk_153 0 24 (dk_at dksX0_promise_0 17 rfl rfl)
theorem dX0_promise_20 : decode cX0_promise 20 = .ok (.aload_n 0, 1) := dk_42 (dk_at dksX0_promise_0 20 rfl rfl)
theorem dX0_promise_21 : decode cX0_promise 21 = .ok (.getfield 23, 3) := dk_180 0 23 (dk_at dksX0_promise_0 21 rfl rfl)
theorem dX0_promise_24 : decode cX0_promise 24 = .ok (.getfield 150, 3) := dk_180 0 150 (dk_at dksX0_promise_1 0 rfl rfl)
theorem dX0_promise_27 : decode cX0_promise 27 = .ok (.iload_n 1, 1) := dk_27 (dk_at dksX0_promise_1 3 rfl rfl)
theorem dX0_promise_28 : decode cX0_promise 28 = .ok (.invokevirtual 136, 3) := dk_182 0 136 (dk_at dksX0_promise_1 4 rfl rfl)
theorem dX0_promise_31 : decode cX0_promise 31 = .ok (.checkcast 151, 3) := dk_192 0 151 (dk_at dksX0_promise_1 7 rfl rfl)
theorem dX0_promise_34 : decode cX0_promise 34 = .ok (.iload_n 2, 1) := dk_28 (dk_at dksX0_promise_1 10 rfl rfl)
theorem dX0_promise_35 : decode cX0_promise 35 = .ok (.invokevirtual 153, 3) := dk_182 0 153 (dk_at dksX0_promise_1 11 rfl rfl)
theorem dX0_promise_38 : decode cX0_promise 38 = .ok (.goto 5, 3) := dk_167 0 5 (dk_at dksX0_promise_1 14 rfl rfl)
theorem dX0_promise_41 : decode cX0_promise 41 = .ok (.bipush (-2), 2) := dk_16 254 (dk_at dksX0_promise_1 17 rfl rfl)
theorem dX0_promise_43 : decode cX0_promise 43 = .ok (.ireturn, 1) := dk_172 (dk_at dksX0_promise_1 19 rfl rfl)
abbrev cX0_isPromise : ByteArray := prog_1_method_15_code
def yX0_isPromise : MethodName := ⟨RX0, "isPromise", "(I)Z"⟩
def dkwX0_isPromise_0 : List UInt8 := [27, 133, 9, 42, 180, 0, 23, 182, 0, 129, 4, 100, 133, 184, 0, 94, 172]
abbrev dktX0_isPromise_0 : List UInt8 := dkwX0_isPromise_0 ++ []
theorem dksX0_isPromise_0 : cX0_isPromise.data.toList.drop 0 = dktX0_isPromise_0 := by decide +kernel
theorem dX0_isPromise_0 : decode cX0_isPromise 0 = .ok (.iload_n 1, 1) := dk_27 (dk_at dksX0_isPromise_0 0 rfl rfl)
theorem dX0_isPromise_1 : decode cX0_isPromise 1 = .ok (.i2l, 1) := dk_133 (dk_at dksX0_isPromise_0 1 rfl rfl)
theorem dX0_isPromise_2 : decode cX0_isPromise 2 = .ok (.lconst 0, 1) := dk_9 (dk_at dksX0_isPromise_0 2 rfl rfl)
theorem dX0_isPromise_3 : decode cX0_isPromise 3 = .ok (.aload_n 0, 1) := dk_42 (dk_at dksX0_isPromise_0 3 rfl rfl)
theorem dX0_isPromise_4 : decode cX0_isPromise 4 = .ok (.getfield 23, 3) := dk_180 0 23 (dk_at dksX0_isPromise_0 4 rfl rfl)
theorem dX0_isPromise_7 : decode cX0_isPromise 7 = .ok (.invokevirtual 129, 3) := dk_182 0 129 (dk_at dksX0_isPromise_0 7 rfl rfl)
theorem dX0_isPromise_10 : decode cX0_isPromise 10 = .ok (.iconst 1, 1) := dk_4 (dk_at dksX0_isPromise_0 10 rfl rfl)
theorem dX0_isPromise_11 : decode cX0_isPromise 11 = .ok (.isub, 1) := dk_100 (dk_at dksX0_isPromise_0 11 rfl rfl)
theorem dX0_isPromise_12 : decode cX0_isPromise 12 = .ok (.i2l, 1) := dk_133 (dk_at dksX0_isPromise_0 12 rfl rfl)
theorem dX0_isPromise_13 : decode cX0_isPromise 13 = .ok (.invokestatic 94, 3) := dk_184 0 94 (dk_at dksX0_isPromise_0 13 rfl rfl)
theorem dX0_isPromise_16 : decode cX0_isPromise 16 = .ok (.ireturn, 1) := dk_172 (dk_at dksX0_isPromise_0 16 rfl rfl)
abbrev cX0_keeping : ByteArray := prog_1_method_18_code
def yX0_keeping : MethodName := ⟨RX0, "keeping", "(II)I"⟩
def dkwX0_keeping_2 : List UInt8 := [79, 89, 4, 28, 79, 182, 0, 162, 87, 42, 180, 0, 30, 182, 0, 159, 172]
abbrev dktX0_keeping_2 : List UInt8 := dkwX0_keeping_2 ++ []
def dkwX0_keeping_1 : List UInt8 := [180, 0, 30, 182, 0, 159, 16, 8, 160, 0, 6, 16, 252, 172, 42, 180, 0, 30, 5, 188, 10, 89, 3, 27]
abbrev dktX0_keeping_1 : List UInt8 := dkwX0_keeping_1 ++ dktX0_keeping_2
def dkwX0_keeping_0 : List UInt8 := [27, 184, 0, 154, 153, 0, 15, 28, 133, 9, 20, 0, 157, 184, 0, 94, 154, 0, 6, 16, 254, 172, 42]
abbrev dktX0_keeping_0 : List UInt8 := dkwX0_keeping_0 ++ dktX0_keeping_1
theorem dksX0_keeping_0 : cX0_keeping.data.toList.drop 0 = dktX0_keeping_0 := by decide +kernel
theorem dksX0_keeping_1 : cX0_keeping.data.toList.drop 23 = dktX0_keeping_1 := dk_seg dksX0_keeping_0 23 rfl rfl
theorem dksX0_keeping_2 : cX0_keeping.data.toList.drop 47 = dktX0_keeping_2 := dk_seg dksX0_keeping_1 24 rfl rfl
theorem dX0_keeping_0 : decode cX0_keeping 0 = .ok (.iload_n 1, 1) := dk_27 (dk_at dksX0_keeping_0 0 rfl rfl)
theorem dX0_keeping_1 : decode cX0_keeping 1 = .ok (.invokestatic 154, 3) := dk_184 0 154 (dk_at dksX0_keeping_0 1 rfl rfl)
theorem dX0_keeping_4 : decode cX0_keeping 4 = .ok (.ifCond .eq 15, 3) := dk_153 0 15 (dk_at dksX0_keeping_0 4 rfl rfl)
theorem dX0_keeping_7 : decode cX0_keeping 7 = .ok (.iload_n 2, 1) := dk_28 (dk_at dksX0_keeping_0 7 rfl rfl)
theorem dX0_keeping_8 : decode cX0_keeping 8 = .ok (.i2l, 1) := dk_133 (dk_at dksX0_keeping_0 8 rfl rfl)
theorem dX0_keeping_9 : decode cX0_keeping 9 = .ok (.lconst 0, 1) := dk_9 (dk_at dksX0_keeping_0 9 rfl rfl)
theorem dX0_keeping_10 : decode cX0_keeping 10 = .ok (.ldc2_w 157, 3) := dk_20 0 157 (dk_at dksX0_keeping_0 10 rfl rfl)
theorem dX0_keeping_13 : decode cX0_keeping 13 = .ok (.invokestatic 94, 3) := dk_184 0 94 (dk_at dksX0_keeping_0 13 rfl rfl)
theorem dX0_keeping_16 : decode cX0_keeping 16 = .ok (.ifCond .ne 6, 3) := dk_154 0 6 (dk_at dksX0_keeping_0 16 rfl rfl)
theorem dX0_keeping_19 : decode cX0_keeping 19 = .ok (.bipush (-2), 2) := dk_16 254 (dk_at dksX0_keeping_0 19 rfl rfl)
theorem dX0_keeping_21 : decode cX0_keeping 21 = .ok (.ireturn, 1) := dk_172 (dk_at dksX0_keeping_0 21 rfl rfl)
theorem dX0_keeping_22 : decode cX0_keeping 22 = .ok (.aload_n 0, 1) := dk_42 (dk_at dksX0_keeping_0 22 rfl rfl)
theorem dX0_keeping_23 : decode cX0_keeping 23 = .ok (.getfield 30, 3) := dk_180 0 30 (dk_at dksX0_keeping_1 0 rfl rfl)
theorem dX0_keeping_26 : decode cX0_keeping 26 = .ok (.invokevirtual 159, 3) := dk_182 0 159 (dk_at dksX0_keeping_1 3 rfl rfl)
theorem dX0_keeping_29 : decode cX0_keeping 29 = .ok (.bipush 8, 2) := dk_16 8 (dk_at dksX0_keeping_1 6 rfl rfl)
theorem dX0_keeping_31 : decode cX0_keeping 31 = .ok (.if_icmp .ne 6, 3) := dk_160 0 6 (dk_at dksX0_keeping_1 8 rfl rfl)
theorem dX0_keeping_34 : decode cX0_keeping 34 = .ok (.bipush (-4), 2) := dk_16 252 (dk_at dksX0_keeping_1 11 rfl rfl)
theorem dX0_keeping_36 : decode cX0_keeping 36 = .ok (.ireturn, 1) := dk_172 (dk_at dksX0_keeping_1 13 rfl rfl)
theorem dX0_keeping_37 : decode cX0_keeping 37 = .ok (.aload_n 0, 1) := dk_42 (dk_at dksX0_keeping_1 14 rfl rfl)
theorem dX0_keeping_38 : decode cX0_keeping 38 = .ok (.getfield 30, 3) := dk_180 0 30 (dk_at dksX0_keeping_1 15 rfl rfl)
theorem dX0_keeping_41 : decode cX0_keeping 41 = .ok (.iconst 2, 1) := dk_5 (dk_at dksX0_keeping_1 18 rfl rfl)
theorem dX0_keeping_42 : decode cX0_keeping 42 = .ok (.newarray .int, 2) := dk_188_10 (dk_at dksX0_keeping_1 19 rfl rfl)
theorem dX0_keeping_44 : decode cX0_keeping 44 = .ok (.dup, 1) := dk_89 (dk_at dksX0_keeping_1 21 rfl rfl)
theorem dX0_keeping_45 : decode cX0_keeping 45 = .ok (.iconst 0, 1) := dk_3 (dk_at dksX0_keeping_1 22 rfl rfl)
theorem dX0_keeping_46 : decode cX0_keeping 46 = .ok (.iload_n 1, 1) := dk_27 (dk_at dksX0_keeping_1 23 rfl rfl)
theorem dX0_keeping_47 : decode cX0_keeping 47 = .ok (.iastore, 1) := dk_79 (dk_at dksX0_keeping_2 0 rfl rfl)
theorem dX0_keeping_48 : decode cX0_keeping 48 = .ok (.dup, 1) := dk_89 (dk_at dksX0_keeping_2 1 rfl rfl)
theorem dX0_keeping_49 : decode cX0_keeping 49 = .ok (.iconst 1, 1) := dk_4 (dk_at dksX0_keeping_2 2 rfl rfl)
theorem dX0_keeping_50 : decode cX0_keeping 50 = .ok (.iload_n 2, 1) := dk_28 (dk_at dksX0_keeping_2 3 rfl rfl)
theorem dX0_keeping_51 : decode cX0_keeping 51 = .ok (.iastore, 1) := dk_79 (dk_at dksX0_keeping_2 4 rfl rfl)
theorem dX0_keeping_52 : decode cX0_keeping 52 = .ok (.invokevirtual 162, 3) := dk_182 0 162 (dk_at dksX0_keeping_2 5 rfl rfl)
theorem dX0_keeping_55 : decode cX0_keeping 55 = .ok (.pop, 1) := dk_87 (dk_at dksX0_keeping_2 8 rfl rfl)
theorem dX0_keeping_56 : decode cX0_keeping 56 = .ok (.aload_n 0, 1) := dk_42 (dk_at dksX0_keeping_2 9 rfl rfl)
theorem dX0_keeping_57 : decode cX0_keeping 57 = .ok (.getfield 30, 3) := dk_180 0 30 (dk_at dksX0_keeping_2 10 rfl rfl)
theorem dX0_keeping_60 : decode cX0_keeping 60 = .ok (.invokevirtual 159, 3) := dk_182 0 159 (dk_at dksX0_keeping_2 13 rfl rfl)
theorem dX0_keeping_63 : decode cX0_keeping 63 = .ok (.ireturn, 1) := dk_172 (dk_at dksX0_keeping_2 16 rfl rfl)
abbrev cX0_isDay : ByteArray := prog_1_method_8_code
def yX0_isDay : MethodName := ⟨RX0, "isDay", "(I)Z"⟩
def dkwX0_isDay_0 : List UInt8 := [26, 133, 9, 20, 0, 98, 184, 0, 94, 172]
abbrev dktX0_isDay_0 : List UInt8 := dkwX0_isDay_0 ++ []
theorem dksX0_isDay_0 : cX0_isDay.data.toList.drop 0 = dktX0_isDay_0 := by decide +kernel
theorem dX0_isDay_0 : decode cX0_isDay 0 = .ok (.iload_n 0, 1) := dk_26 (dk_at dksX0_isDay_0 0 rfl rfl)
theorem dX0_isDay_1 : decode cX0_isDay 1 = .ok (.i2l, 1) := dk_133 (dk_at dksX0_isDay_0 1 rfl rfl)
theorem dX0_isDay_2 : decode cX0_isDay 2 = .ok (.lconst 0, 1) := dk_9 (dk_at dksX0_isDay_0 2 rfl rfl)
theorem dX0_isDay_3 : decode cX0_isDay 3 = .ok (.ldc2_w 98, 3) := dk_20 0 98 (dk_at dksX0_isDay_0 3 rfl rfl)
theorem dX0_isDay_6 : decode cX0_isDay 6 = .ok (.invokestatic 94, 3) := dk_184 0 94 (dk_at dksX0_isDay_0 6 rfl rfl)
theorem dX0_isDay_9 : decode cX0_isDay 9 = .ok (.ireturn, 1) := dk_172 (dk_at dksX0_isDay_0 9 rfl rfl)
abbrev cX0_lie : ByteArray := prog_1_method_20_code
def yX0_lie : MethodName := ⟨RX0, "lie", "(III)I"⟩
def dkwX0_lie_0 : List UInt8 := [42, 180, 0, 34, 16, 6, 27, 28, 29, 184, 0, 168, 172]
abbrev dktX0_lie_0 : List UInt8 := dkwX0_lie_0 ++ []
theorem dksX0_lie_0 : cX0_lie.data.toList.drop 0 = dktX0_lie_0 := by decide +kernel
theorem dX0_lie_0 : decode cX0_lie 0 = .ok (.aload_n 0, 1) := dk_42 (dk_at dksX0_lie_0 0 rfl rfl)
theorem dX0_lie_1 : decode cX0_lie 1 = .ok (.getfield 34, 3) := dk_180 0 34 (dk_at dksX0_lie_0 1 rfl rfl)
theorem dX0_lie_4 : decode cX0_lie 4 = .ok (.bipush 6, 2) := dk_16 6 (dk_at dksX0_lie_0 4 rfl rfl)
theorem dX0_lie_6 : decode cX0_lie 6 = .ok (.iload_n 1, 1) := dk_27 (dk_at dksX0_lie_0 6 rfl rfl)
theorem dX0_lie_7 : decode cX0_lie 7 = .ok (.iload_n 2, 1) := dk_28 (dk_at dksX0_lie_0 7 rfl rfl)
theorem dX0_lie_8 : decode cX0_lie 8 = .ok (.iload_n 3, 1) := dk_29 (dk_at dksX0_lie_0 8 rfl rfl)
theorem dX0_lie_9 : decode cX0_lie 9 = .ok (.invokestatic 168, 3) := dk_184 0 168 (dk_at dksX0_lie_0 9 rfl rfl)
theorem dX0_lie_12 : decode cX0_lie 12 = .ok (.ireturn, 1) := dk_172 (dk_at dksX0_lie_0 12 rfl rfl)
abbrev cX0_more : ByteArray := prog_1_method_19_code
def yX0_more : MethodName := ⟨RX0, "more", "(Ljava/util/ArrayList;IIII)I"⟩
def dkwX0_more_3 : List UInt8 := [172]
abbrev dktX0_more_3 : List UInt8 := dkwX0_more_3 ++ []
def dkwX0_more_2 : List UInt8 := [6, 188, 10, 89, 3, 28, 79, 89, 4, 29, 79, 89, 5, 21, 4, 79, 182, 0, 162, 87, 42, 182, 0, 159]
abbrev dktX0_more_2 : List UInt8 := dkwX0_more_2 ++ dktX0_more_3
def dkwX0_more_1 : List UInt8 := [20, 0, 157, 184, 0, 94, 154, 0, 6, 16, 254, 172, 42, 182, 0, 159, 27, 160, 0, 6, 16, 252, 172, 42]
abbrev dktX0_more_1 : List UInt8 := dkwX0_more_1 ++ dktX0_more_2
def dkwX0_more_0 : List UInt8 := [28, 184, 0, 154, 153, 0, 28, 29, 133, 9, 20, 0, 166, 184, 0, 94, 153, 0, 16, 21, 4, 133, 10]
abbrev dktX0_more_0 : List UInt8 := dkwX0_more_0 ++ dktX0_more_1
theorem dksX0_more_0 : cX0_more.data.toList.drop 0 = dktX0_more_0 := by decide +kernel
theorem dksX0_more_1 : cX0_more.data.toList.drop 23 = dktX0_more_1 := dk_seg dksX0_more_0 23 rfl rfl
theorem dksX0_more_2 : cX0_more.data.toList.drop 47 = dktX0_more_2 := dk_seg dksX0_more_1 24 rfl rfl
theorem dksX0_more_3 : cX0_more.data.toList.drop 71 = dktX0_more_3 := dk_seg dksX0_more_2 24 rfl rfl
theorem dX0_more_0 : decode cX0_more 0 = .ok (.iload_n 2, 1) := dk_28 (dk_at dksX0_more_0 0 rfl rfl)
theorem dX0_more_1 : decode cX0_more 1 = .ok (.invokestatic 154, 3) := dk_184 0 154 (dk_at dksX0_more_0 1 rfl rfl)
theorem dX0_more_4 : decode cX0_more 4 = .ok (.ifCond .eq 28, 3) := dk_153 0 28 (dk_at dksX0_more_0 4 rfl rfl)
theorem dX0_more_7 : decode cX0_more 7 = .ok (.iload_n 3, 1) := dk_29 (dk_at dksX0_more_0 7 rfl rfl)
theorem dX0_more_8 : decode cX0_more 8 = .ok (.i2l, 1) := dk_133 (dk_at dksX0_more_0 8 rfl rfl)
theorem dX0_more_9 : decode cX0_more 9 = .ok (.lconst 0, 1) := dk_9 (dk_at dksX0_more_0 9 rfl rfl)
theorem dX0_more_10 : decode cX0_more 10 = .ok (.ldc2_w 166, 3) := dk_20 0 166 (dk_at dksX0_more_0 10 rfl rfl)
theorem dX0_more_13 : decode cX0_more 13 = .ok (.invokestatic 94, 3) := dk_184 0 94 (dk_at dksX0_more_0 13 rfl rfl)
theorem dX0_more_16 : decode cX0_more 16 = .ok (.ifCond .eq 16, 3) := dk_153 0 16 (dk_at dksX0_more_0 16 rfl rfl)
theorem dX0_more_19 : decode cX0_more 19 = .ok (.iload 4, 2) := dk_21 4 (dk_at dksX0_more_0 19 rfl rfl)
theorem dX0_more_21 : decode cX0_more 21 = .ok (.i2l, 1) := dk_133 (dk_at dksX0_more_0 21 rfl rfl)
theorem dX0_more_22 : decode cX0_more 22 = .ok (.lconst 1, 1) := dk_10 (dk_at dksX0_more_0 22 rfl rfl)
theorem dX0_more_23 : decode cX0_more 23 = .ok (.ldc2_w 157, 3) := dk_20 0 157 (dk_at dksX0_more_1 0 rfl rfl)
theorem dX0_more_26 : decode cX0_more 26 = .ok (.invokestatic 94, 3) := dk_184 0 94 (dk_at dksX0_more_1 3 rfl rfl)
theorem dX0_more_29 : decode cX0_more 29 = .ok (.ifCond .ne 6, 3) := dk_154 0 6 (dk_at dksX0_more_1 6 rfl rfl)
theorem dX0_more_32 : decode cX0_more 32 = .ok (.bipush (-2), 2) := dk_16 254 (dk_at dksX0_more_1 9 rfl rfl)
theorem dX0_more_34 : decode cX0_more 34 = .ok (.ireturn, 1) := dk_172 (dk_at dksX0_more_1 11 rfl rfl)
theorem dX0_more_35 : decode cX0_more 35 = .ok (.aload_n 0, 1) := dk_42 (dk_at dksX0_more_1 12 rfl rfl)
theorem dX0_more_36 : decode cX0_more 36 = .ok (.invokevirtual 159, 3) := dk_182 0 159 (dk_at dksX0_more_1 13 rfl rfl)
theorem dX0_more_39 : decode cX0_more 39 = .ok (.iload_n 1, 1) := dk_27 (dk_at dksX0_more_1 16 rfl rfl)
theorem dX0_more_40 : decode cX0_more 40 = .ok (.if_icmp .ne 6, 3) := dk_160 0 6 (dk_at dksX0_more_1 17 rfl rfl)
theorem dX0_more_43 : decode cX0_more 43 = .ok (.bipush (-4), 2) := dk_16 252 (dk_at dksX0_more_1 20 rfl rfl)
theorem dX0_more_45 : decode cX0_more 45 = .ok (.ireturn, 1) := dk_172 (dk_at dksX0_more_1 22 rfl rfl)
theorem dX0_more_46 : decode cX0_more 46 = .ok (.aload_n 0, 1) := dk_42 (dk_at dksX0_more_1 23 rfl rfl)
theorem dX0_more_47 : decode cX0_more 47 = .ok (.iconst 3, 1) := dk_6 (dk_at dksX0_more_2 0 rfl rfl)
theorem dX0_more_48 : decode cX0_more 48 = .ok (.newarray .int, 2) := dk_188_10 (dk_at dksX0_more_2 1 rfl rfl)
theorem dX0_more_50 : decode cX0_more 50 = .ok (.dup, 1) := dk_89 (dk_at dksX0_more_2 3 rfl rfl)
theorem dX0_more_51 : decode cX0_more 51 = .ok (.iconst 0, 1) := dk_3 (dk_at dksX0_more_2 4 rfl rfl)
theorem dX0_more_52 : decode cX0_more 52 = .ok (.iload_n 2, 1) := dk_28 (dk_at dksX0_more_2 5 rfl rfl)
theorem dX0_more_53 : decode cX0_more 53 = .ok (.iastore, 1) := dk_79 (dk_at dksX0_more_2 6 rfl rfl)
theorem dX0_more_54 : decode cX0_more 54 = .ok (.dup, 1) := dk_89 (dk_at dksX0_more_2 7 rfl rfl)
theorem dX0_more_55 : decode cX0_more 55 = .ok (.iconst 1, 1) := dk_4 (dk_at dksX0_more_2 8 rfl rfl)
theorem dX0_more_56 : decode cX0_more 56 = .ok (.iload_n 3, 1) := dk_29 (dk_at dksX0_more_2 9 rfl rfl)
theorem dX0_more_57 : decode cX0_more 57 = .ok (.iastore, 1) := dk_79 (dk_at dksX0_more_2 10 rfl rfl)
theorem dX0_more_58 : decode cX0_more 58 = .ok (.dup, 1) := dk_89 (dk_at dksX0_more_2 11 rfl rfl)
theorem dX0_more_59 : decode cX0_more 59 = .ok (.iconst 2, 1) := dk_5 (dk_at dksX0_more_2 12 rfl rfl)
theorem dX0_more_60 : decode cX0_more 60 = .ok (.iload 4, 2) := dk_21 4 (dk_at dksX0_more_2 13 rfl rfl)
theorem dX0_more_62 : decode cX0_more 62 = .ok (.iastore, 1) := dk_79 (dk_at dksX0_more_2 15 rfl rfl)
theorem dX0_more_63 : decode cX0_more 63 = .ok (.invokevirtual 162, 3) := dk_182 0 162 (dk_at dksX0_more_2 16 rfl rfl)
theorem dX0_more_66 : decode cX0_more 66 = .ok (.pop, 1) := dk_87 (dk_at dksX0_more_2 19 rfl rfl)
theorem dX0_more_67 : decode cX0_more 67 = .ok (.aload_n 0, 1) := dk_42 (dk_at dksX0_more_2 20 rfl rfl)
theorem dX0_more_68 : decode cX0_more 68 = .ok (.invokevirtual 159, 3) := dk_182 0 159 (dk_at dksX0_more_2 21 rfl rfl)
theorem dX0_more_71 : decode cX0_more 71 = .ok (.ireturn, 1) := dk_172 (dk_at dksX0_more_3 0 rfl rfl)
abbrev cX0_letting : ByteArray := prog_1_method_21_code
def yX0_letting : MethodName := ⟨RX0, "letting", "(III)I"⟩
def dkwX0_letting_0 : List UInt8 := [42, 180, 0, 37, 16, 6, 27, 28, 29, 184, 0, 168, 172]
abbrev dktX0_letting_0 : List UInt8 := dkwX0_letting_0 ++ []
theorem dksX0_letting_0 : cX0_letting.data.toList.drop 0 = dktX0_letting_0 := by decide +kernel
theorem dX0_letting_0 : decode cX0_letting 0 = .ok (.aload_n 0, 1) := dk_42 (dk_at dksX0_letting_0 0 rfl rfl)
theorem dX0_letting_1 : decode cX0_letting 1 = .ok (.getfield 37, 3) := dk_180 0 37 (dk_at dksX0_letting_0 1 rfl rfl)
theorem dX0_letting_4 : decode cX0_letting 4 = .ok (.bipush 6, 2) := dk_16 6 (dk_at dksX0_letting_0 4 rfl rfl)
theorem dX0_letting_6 : decode cX0_letting 6 = .ok (.iload_n 1, 1) := dk_27 (dk_at dksX0_letting_0 6 rfl rfl)
theorem dX0_letting_7 : decode cX0_letting 7 = .ok (.iload_n 2, 1) := dk_28 (dk_at dksX0_letting_0 7 rfl rfl)
theorem dX0_letting_8 : decode cX0_letting 8 = .ok (.iload_n 3, 1) := dk_29 (dk_at dksX0_letting_0 8 rfl rfl)
theorem dX0_letting_9 : decode cX0_letting 9 = .ok (.invokestatic 168, 3) := dk_184 0 168 (dk_at dksX0_letting_0 9 rfl rfl)
theorem dX0_letting_12 : decode cX0_letting 12 = .ok (.ireturn, 1) := dk_172 (dk_at dksX0_letting_0 12 rfl rfl)
abbrev cX0_back : ByteArray := prog_1_method_22_code
def yX0_back : MethodName := ⟨RX0, "back", "(I)I"⟩
def dkwX0_back_2 : List UInt8 := [153, 0, 6, 16, 253, 172, 44, 44, 182, 0, 159, 4, 100, 182, 0, 178, 87, 44, 182, 0, 159, 172]
abbrev dktX0_back_2 : List UInt8 := dkwX0_back_2 ++ []
def dkwX0_back_1 : List UInt8 := [167, 0, 19, 27, 4, 160, 0, 10, 42, 180, 0, 34, 167, 0, 7, 42, 180, 0, 37, 77, 44, 182, 0, 174]
abbrev dktX0_back_1 : List UInt8 := dkwX0_back_1 ++ dktX0_back_2
def dkwX0_back_0 : List UInt8 := [27, 133, 9, 20, 0, 172, 184, 0, 94, 154, 0, 6, 16, 254, 172, 27, 154, 0, 10, 42, 180, 0, 30]
abbrev dktX0_back_0 : List UInt8 := dkwX0_back_0 ++ dktX0_back_1
theorem dksX0_back_0 : cX0_back.data.toList.drop 0 = dktX0_back_0 := by decide +kernel
theorem dksX0_back_1 : cX0_back.data.toList.drop 23 = dktX0_back_1 := dk_seg dksX0_back_0 23 rfl rfl
theorem dksX0_back_2 : cX0_back.data.toList.drop 47 = dktX0_back_2 := dk_seg dksX0_back_1 24 rfl rfl
theorem dX0_back_0 : decode cX0_back 0 = .ok (.iload_n 1, 1) := dk_27 (dk_at dksX0_back_0 0 rfl rfl)
theorem dX0_back_1 : decode cX0_back 1 = .ok (.i2l, 1) := dk_133 (dk_at dksX0_back_0 1 rfl rfl)
theorem dX0_back_2 : decode cX0_back 2 = .ok (.lconst 0, 1) := dk_9 (dk_at dksX0_back_0 2 rfl rfl)
theorem dX0_back_3 : decode cX0_back 3 = .ok (.ldc2_w 172, 3) := dk_20 0 172 (dk_at dksX0_back_0 3 rfl rfl)
theorem dX0_back_6 : decode cX0_back 6 = .ok (.invokestatic 94, 3) := dk_184 0 94 (dk_at dksX0_back_0 6 rfl rfl)
theorem dX0_back_9 : decode cX0_back 9 = .ok (.ifCond .ne 6, 3) := dk_154 0 6 (dk_at dksX0_back_0 9 rfl rfl)
theorem dX0_back_12 : decode cX0_back 12 = .ok (.bipush (-2), 2) := dk_16 254 (dk_at dksX0_back_0 12 rfl rfl)
theorem dX0_back_14 : decode cX0_back 14 = .ok (.ireturn, 1) := dk_172 (dk_at dksX0_back_0 14 rfl rfl)
theorem dX0_back_15 : decode cX0_back 15 = .ok (.iload_n 1, 1) := dk_27 (dk_at dksX0_back_0 15 rfl rfl)
theorem dX0_back_16 : decode cX0_back 16 = .ok (.ifCond .ne 10, 3) := dk_154 0 10 (dk_at dksX0_back_0 16 rfl rfl)
theorem dX0_back_19 : decode cX0_back 19 = .ok (.aload_n 0, 1) := dk_42 (dk_at dksX0_back_0 19 rfl rfl)
theorem dX0_back_20 : decode cX0_back 20 = .ok (.getfield 30, 3) := dk_180 0 30 (dk_at dksX0_back_0 20 rfl rfl)
theorem dX0_back_23 : decode cX0_back 23 = .ok (.goto 19, 3) := dk_167 0 19 (dk_at dksX0_back_1 0 rfl rfl)
theorem dX0_back_26 : decode cX0_back 26 = .ok (.iload_n 1, 1) := dk_27 (dk_at dksX0_back_1 3 rfl rfl)
theorem dX0_back_27 : decode cX0_back 27 = .ok (.iconst 1, 1) := dk_4 (dk_at dksX0_back_1 4 rfl rfl)
theorem dX0_back_28 : decode cX0_back 28 = .ok (.if_icmp .ne 10, 3) := dk_160 0 10 (dk_at dksX0_back_1 5 rfl rfl)
theorem dX0_back_31 : decode cX0_back 31 = .ok (.aload_n 0, 1) := dk_42 (dk_at dksX0_back_1 8 rfl rfl)
theorem dX0_back_32 : decode cX0_back 32 = .ok (.getfield 34, 3) := dk_180 0 34 (dk_at dksX0_back_1 9 rfl rfl)
theorem dX0_back_35 : decode cX0_back 35 = .ok (.goto 7, 3) := dk_167 0 7 (dk_at dksX0_back_1 12 rfl rfl)
theorem dX0_back_38 : decode cX0_back 38 = .ok (.aload_n 0, 1) := dk_42 (dk_at dksX0_back_1 15 rfl rfl)
theorem dX0_back_39 : decode cX0_back 39 = .ok (.getfield 37, 3) := dk_180 0 37 (dk_at dksX0_back_1 16 rfl rfl)
theorem dX0_back_42 : decode cX0_back 42 = .ok (.astore_n 2, 1) := dk_77 (dk_at dksX0_back_1 19 rfl rfl)
theorem dX0_back_43 : decode cX0_back 43 = .ok (.aload_n 2, 1) := dk_44 (dk_at dksX0_back_1 20 rfl rfl)
theorem dX0_back_44 : decode cX0_back 44 = .ok (.invokevirtual 174, 3) := dk_182 0 174 (dk_at dksX0_back_1 21 rfl rfl)
theorem dX0_back_47 : decode cX0_back 47 = .ok (.ifCond .eq 6, 3) := dk_153 0 6 (dk_at dksX0_back_2 0 rfl rfl)
theorem dX0_back_50 : decode cX0_back 50 = .ok (.bipush (-3), 2) := dk_16 253 (dk_at dksX0_back_2 3 rfl rfl)
theorem dX0_back_52 : decode cX0_back 52 = .ok (.ireturn, 1) := dk_172 (dk_at dksX0_back_2 5 rfl rfl)
theorem dX0_back_53 : decode cX0_back 53 = .ok (.aload_n 2, 1) := dk_44 (dk_at dksX0_back_2 6 rfl rfl)
theorem dX0_back_54 : decode cX0_back 54 = .ok (.aload_n 2, 1) := dk_44 (dk_at dksX0_back_2 7 rfl rfl)
theorem dX0_back_55 : decode cX0_back 55 = .ok (.invokevirtual 159, 3) := dk_182 0 159 (dk_at dksX0_back_2 8 rfl rfl)
theorem dX0_back_58 : decode cX0_back 58 = .ok (.iconst 1, 1) := dk_4 (dk_at dksX0_back_2 11 rfl rfl)
theorem dX0_back_59 : decode cX0_back 59 = .ok (.isub, 1) := dk_100 (dk_at dksX0_back_2 12 rfl rfl)
theorem dX0_back_60 : decode cX0_back 60 = .ok (.invokevirtual 178, 3) := dk_182 0 178 (dk_at dksX0_back_2 13 rfl rfl)
theorem dX0_back_63 : decode cX0_back 63 = .ok (.pop, 1) := dk_87 (dk_at dksX0_back_2 16 rfl rfl)
theorem dX0_back_64 : decode cX0_back 64 = .ok (.aload_n 2, 1) := dk_44 (dk_at dksX0_back_2 17 rfl rfl)
theorem dX0_back_65 : decode cX0_back 65 = .ok (.invokevirtual 159, 3) := dk_182 0 159 (dk_at dksX0_back_2 18 rfl rfl)
theorem dX0_back_68 : decode cX0_back 68 = .ok (.ireturn, 1) := dk_172 (dk_at dksX0_back_2 21 rfl rfl)
abbrev cX0_read : ByteArray := prog_1_method_23_code
def yX0_read : MethodName := ⟨RX0, "read", "(I)I"⟩
def dkwX0_read_3 : List UInt8 := [182, 0, 198, 155, 0, 9, 132, 3, 1, 167, 255, 210, 29, 172]
abbrev dktX0_read_3 : List UInt8 := dkwX0_read_3 ++ []
def dkwX0_read_2 : List UInt8 := [182, 0, 192, 5, 29, 104, 182, 0, 194, 44, 44, 182, 0, 192, 5, 29, 104, 4, 96, 182, 0, 194]
abbrev dktX0_read_2 : List UInt8 := dkwX0_read_2 ++ dktX0_read_3
def dkwX0_read_1 : List UInt8 := [42, 4, 182, 0, 188, 172, 3, 62, 5, 29, 104, 5, 96, 44, 182, 0, 191, 163, 0, 40, 42, 44, 44]
abbrev dktX0_read_1 : List UInt8 := dkwX0_read_1 ++ dktX0_read_2
def dkwX0_read_0 : List UInt8 := [27, 184, 0, 181, 154, 0, 6, 16, 254, 172, 42, 180, 0, 84, 27, 50, 77, 44, 180, 0, 184, 199, 0, 9]
abbrev dktX0_read_0 : List UInt8 := dkwX0_read_0 ++ dktX0_read_1
theorem dksX0_read_0 : cX0_read.data.toList.drop 0 = dktX0_read_0 := by decide +kernel
theorem dksX0_read_1 : cX0_read.data.toList.drop 24 = dktX0_read_1 := dk_seg dksX0_read_0 24 rfl rfl
theorem dksX0_read_2 : cX0_read.data.toList.drop 47 = dktX0_read_2 := dk_seg dksX0_read_1 23 rfl rfl
theorem dksX0_read_3 : cX0_read.data.toList.drop 69 = dktX0_read_3 := dk_seg dksX0_read_2 22 rfl rfl
theorem dX0_read_0 : decode cX0_read 0 = .ok (.iload_n 1, 1) := dk_27 (dk_at dksX0_read_0 0 rfl rfl)
theorem dX0_read_1 : decode cX0_read 1 = .ok (.invokestatic 181, 3) := dk_184 0 181 (dk_at dksX0_read_0 1 rfl rfl)
theorem dX0_read_4 : decode cX0_read 4 = .ok (.ifCond .ne 6, 3) := dk_154 0 6 (dk_at dksX0_read_0 4 rfl rfl)
theorem dX0_read_7 : decode cX0_read 7 = .ok (.bipush (-2), 2) := dk_16 254 (dk_at dksX0_read_0 7 rfl rfl)
theorem dX0_read_9 : decode cX0_read 9 = .ok (.ireturn, 1) := dk_172 (dk_at dksX0_read_0 9 rfl rfl)
theorem dX0_read_10 : decode cX0_read 10 = .ok (.aload_n 0, 1) := dk_42 (dk_at dksX0_read_0 10 rfl rfl)
theorem dX0_read_11 : decode cX0_read 11 = .ok (.getfield 84, 3) := dk_180 0 84 (dk_at dksX0_read_0 11 rfl rfl)
theorem dX0_read_14 : decode cX0_read 14 = .ok (.iload_n 1, 1) := dk_27 (dk_at dksX0_read_0 14 rfl rfl)
theorem dX0_read_15 : decode cX0_read 15 = .ok (.aaload, 1) := dk_50 (dk_at dksX0_read_0 15 rfl rfl)
theorem dX0_read_16 : decode cX0_read 16 = .ok (.astore_n 2, 1) := dk_77 (dk_at dksX0_read_0 16 rfl rfl)
theorem dX0_read_17 : decode cX0_read 17 = .ok (.aload_n 2, 1) := dk_44 (dk_at dksX0_read_0 17 rfl rfl)
theorem dX0_read_18 : decode cX0_read 18 = .ok (.getfield 184, 3) := dk_180 0 184 (dk_at dksX0_read_0 18 rfl rfl)
theorem dX0_read_21 : decode cX0_read 21 = .ok (.ifnonnull 9, 3) := dk_199 0 9 (dk_at dksX0_read_0 21 rfl rfl)
theorem dX0_read_24 : decode cX0_read 24 = .ok (.aload_n 0, 1) := dk_42 (dk_at dksX0_read_1 0 rfl rfl)
theorem dX0_read_25 : decode cX0_read 25 = .ok (.iconst 1, 1) := dk_4 (dk_at dksX0_read_1 1 rfl rfl)
theorem dX0_read_26 : decode cX0_read 26 = .ok (.invokevirtual 188, 3) := dk_182 0 188 (dk_at dksX0_read_1 2 rfl rfl)
theorem dX0_read_29 : decode cX0_read 29 = .ok (.ireturn, 1) := dk_172 (dk_at dksX0_read_1 5 rfl rfl)
theorem dX0_read_30 : decode cX0_read 30 = .ok (.iconst 0, 1) := dk_3 (dk_at dksX0_read_1 6 rfl rfl)
theorem dX0_read_31 : decode cX0_read 31 = .ok (.istore_n 3, 1) := dk_62 (dk_at dksX0_read_1 7 rfl rfl)
theorem dX0_read_32 : decode cX0_read 32 = .ok (.iconst 2, 1) := dk_5 (dk_at dksX0_read_1 8 rfl rfl)
theorem dX0_read_33 : decode cX0_read 33 = .ok (.iload_n 3, 1) := dk_29 (dk_at dksX0_read_1 9 rfl rfl)
theorem dX0_read_34 : decode cX0_read 34 = .ok (.imul, 1) := dk_104 (dk_at dksX0_read_1 10 rfl rfl)
theorem dX0_read_35 : decode cX0_read 35 = .ok (.iconst 2, 1) := dk_5 (dk_at dksX0_read_1 11 rfl rfl)
theorem dX0_read_36 : decode cX0_read 36 = .ok (.iadd, 1) := dk_96 (dk_at dksX0_read_1 12 rfl rfl)
theorem dX0_read_37 : decode cX0_read 37 = .ok (.aload_n 2, 1) := dk_44 (dk_at dksX0_read_1 13 rfl rfl)
theorem dX0_read_38 : decode cX0_read 38 = .ok (.invokevirtual 191, 3) := dk_182 0 191 (dk_at dksX0_read_1 14 rfl rfl)
theorem dX0_read_41 : decode cX0_read 41 = .ok (.if_icmp .gt 40, 3) := dk_163 0 40 (dk_at dksX0_read_1 17 rfl rfl)
theorem dX0_read_44 : decode cX0_read 44 = .ok (.aload_n 0, 1) := dk_42 (dk_at dksX0_read_1 20 rfl rfl)
theorem dX0_read_45 : decode cX0_read 45 = .ok (.aload_n 2, 1) := dk_44 (dk_at dksX0_read_1 21 rfl rfl)
theorem dX0_read_46 : decode cX0_read 46 = .ok (.aload_n 2, 1) := dk_44 (dk_at dksX0_read_1 22 rfl rfl)
theorem dX0_read_47 : decode cX0_read 47 = .ok (.invokevirtual 192, 3) := dk_182 0 192 (dk_at dksX0_read_2 0 rfl rfl)
theorem dX0_read_50 : decode cX0_read 50 = .ok (.iconst 2, 1) := dk_5 (dk_at dksX0_read_2 3 rfl rfl)
theorem dX0_read_51 : decode cX0_read 51 = .ok (.iload_n 3, 1) := dk_29 (dk_at dksX0_read_2 4 rfl rfl)
theorem dX0_read_52 : decode cX0_read 52 = .ok (.imul, 1) := dk_104 (dk_at dksX0_read_2 5 rfl rfl)
theorem dX0_read_53 : decode cX0_read 53 = .ok (.invokevirtual 194, 3) := dk_182 0 194 (dk_at dksX0_read_2 6 rfl rfl)
theorem dX0_read_56 : decode cX0_read 56 = .ok (.aload_n 2, 1) := dk_44 (dk_at dksX0_read_2 9 rfl rfl)
theorem dX0_read_57 : decode cX0_read 57 = .ok (.aload_n 2, 1) := dk_44 (dk_at dksX0_read_2 10 rfl rfl)
theorem dX0_read_58 : decode cX0_read 58 = .ok (.invokevirtual 192, 3) := dk_182 0 192 (dk_at dksX0_read_2 11 rfl rfl)
theorem dX0_read_61 : decode cX0_read 61 = .ok (.iconst 2, 1) := dk_5 (dk_at dksX0_read_2 14 rfl rfl)
theorem dX0_read_62 : decode cX0_read 62 = .ok (.iload_n 3, 1) := dk_29 (dk_at dksX0_read_2 15 rfl rfl)
theorem dX0_read_63 : decode cX0_read 63 = .ok (.imul, 1) := dk_104 (dk_at dksX0_read_2 16 rfl rfl)
theorem dX0_read_64 : decode cX0_read 64 = .ok (.iconst 1, 1) := dk_4 (dk_at dksX0_read_2 17 rfl rfl)
theorem dX0_read_65 : decode cX0_read 65 = .ok (.iadd, 1) := dk_96 (dk_at dksX0_read_2 18 rfl rfl)
theorem dX0_read_66 : decode cX0_read 66 = .ok (.invokevirtual 194, 3) := dk_182 0 194 (dk_at dksX0_read_2 19 rfl rfl)
theorem dX0_read_69 : decode cX0_read 69 = .ok (.invokevirtual 198, 3) := dk_182 0 198 (dk_at dksX0_read_3 0 rfl rfl)
theorem dX0_read_72 : decode cX0_read 72 = .ok (.ifCond .lt 9, 3) := dk_155 0 9 (dk_at dksX0_read_3 3 rfl rfl)
theorem dX0_read_75 : decode cX0_read 75 = .ok (.iinc 3 1, 3) := dk_132 3 1 (dk_at dksX0_read_3 6 rfl rfl)
theorem dX0_read_78 : decode cX0_read 78 = .ok (.goto (-46), 3) := dk_167 255 210 (dk_at dksX0_read_3 9 rfl rfl)
theorem dX0_read_81 : decode cX0_read 81 = .ok (.iload_n 3, 1) := dk_29 (dk_at dksX0_read_3 12 rfl rfl)
theorem dX0_read_82 : decode cX0_read 82 = .ok (.ireturn, 1) := dk_172 (dk_at dksX0_read_3 13 rfl rfl)
abbrev cX0_isSheet : ByteArray := prog_1_method_74_code
def yX0_isSheet : MethodName := ⟨RX0, "isSheet", "(I)Z"⟩
def dkwX0_isSheet_0 : List UInt8 := [26, 133, 9, 20, 0, 148, 184, 0, 94, 172]
abbrev dktX0_isSheet_0 : List UInt8 := dkwX0_isSheet_0 ++ []
theorem dksX0_isSheet_0 : cX0_isSheet.data.toList.drop 0 = dktX0_isSheet_0 := by decide +kernel
theorem dX0_isSheet_0 : decode cX0_isSheet 0 = .ok (.iload_n 0, 1) := dk_26 (dk_at dksX0_isSheet_0 0 rfl rfl)
theorem dX0_isSheet_1 : decode cX0_isSheet 1 = .ok (.i2l, 1) := dk_133 (dk_at dksX0_isSheet_0 1 rfl rfl)
theorem dX0_isSheet_2 : decode cX0_isSheet 2 = .ok (.lconst 0, 1) := dk_9 (dk_at dksX0_isSheet_0 2 rfl rfl)
theorem dX0_isSheet_3 : decode cX0_isSheet 3 = .ok (.ldc2_w 148, 3) := dk_20 0 148 (dk_at dksX0_isSheet_0 3 rfl rfl)
theorem dX0_isSheet_6 : decode cX0_isSheet 6 = .ok (.invokestatic 94, 3) := dk_184 0 94 (dk_at dksX0_isSheet_0 6 rfl rfl)
theorem dX0_isSheet_9 : decode cX0_isSheet 9 = .ok (.ireturn, 1) := dk_172 (dk_at dksX0_isSheet_0 9 rfl rfl)
abbrev cX0_met : ByteArray := prog_1_method_4_code
def yX0_met : MethodName := ⟨RX0, "met", "(I)I"⟩
def dkwX0_met_0 : List UInt8 := [42, 27, 181, 0, 90, 16, 246, 27, 100, 172]
abbrev dktX0_met_0 : List UInt8 := dkwX0_met_0 ++ []
theorem dksX0_met_0 : cX0_met.data.toList.drop 0 = dktX0_met_0 := by decide +kernel
theorem dX0_met_0 : decode cX0_met 0 = .ok (.aload_n 0, 1) := dk_42 (dk_at dksX0_met_0 0 rfl rfl)
theorem dX0_met_1 : decode cX0_met 1 = .ok (.iload_n 1, 1) := dk_27 (dk_at dksX0_met_0 1 rfl rfl)
theorem dX0_met_2 : decode cX0_met 2 = .ok (.putfield 90, 3) := dk_181 0 90 (dk_at dksX0_met_0 2 rfl rfl)
theorem dX0_met_5 : decode cX0_met 5 = .ok (.bipush (-10), 2) := dk_16 246 (dk_at dksX0_met_0 5 rfl rfl)
theorem dX0_met_7 : decode cX0_met 7 = .ok (.iload_n 1, 1) := dk_27 (dk_at dksX0_met_0 7 rfl rfl)
theorem dX0_met_8 : decode cX0_met 8 = .ok (.isub, 1) := dk_100 (dk_at dksX0_met_0 8 rfl rfl)
theorem dX0_met_9 : decode cX0_met 9 = .ok (.ireturn, 1) := dk_172 (dk_at dksX0_met_0 9 rfl rfl)
abbrev cX0_coat : ByteArray := prog_1_method_32_code
def yX0_coat : MethodName := ⟨RX0, "coat", "(III)I"⟩
def dkwX0_coat_1 : List UInt8 := [20, 0, 172, 184, 0, 94, 153, 0, 13, 42, 27, 28, 29, 182, 1, 24, 167, 0, 5, 16, 254, 172]
abbrev dktX0_coat_1 : List UInt8 := dkwX0_coat_1 ++ []
def dkwX0_coat_0 : List UInt8 := [42, 182, 1, 21, 27, 184, 0, 154, 153, 0, 33, 42, 28, 182, 0, 130, 153, 0, 25, 29, 133, 9]
abbrev dktX0_coat_0 : List UInt8 := dkwX0_coat_0 ++ dktX0_coat_1
theorem dksX0_coat_0 : cX0_coat.data.toList.drop 0 = dktX0_coat_0 := by decide +kernel
theorem dksX0_coat_1 : cX0_coat.data.toList.drop 22 = dktX0_coat_1 := dk_seg dksX0_coat_0 22 rfl rfl
theorem dX0_coat_0 : decode cX0_coat 0 = .ok (.aload_n 0, 1) := dk_42 (dk_at dksX0_coat_0 0 rfl rfl)
theorem dX0_coat_1 : decode cX0_coat 1 = .ok (.invokevirtual 277, 3) := dk_182 1 21 (dk_at dksX0_coat_0 1 rfl rfl)
theorem dX0_coat_4 : decode cX0_coat 4 = .ok (.iload_n 1, 1) := dk_27 (dk_at dksX0_coat_0 4 rfl rfl)
theorem dX0_coat_5 : decode cX0_coat 5 = .ok (.invokestatic 154, 3) := dk_184 0 154 (dk_at dksX0_coat_0 5 rfl rfl)
theorem dX0_coat_8 : decode cX0_coat 8 = .ok (.ifCond .eq 33, 3) := dk_153 0 33 (dk_at dksX0_coat_0 8 rfl rfl)
theorem dX0_coat_11 : decode cX0_coat 11 = .ok (.aload_n 0, 1) := dk_42 (dk_at dksX0_coat_0 11 rfl rfl)
theorem dX0_coat_12 : decode cX0_coat 12 = .ok (.iload_n 2, 1) := dk_28 (dk_at dksX0_coat_0 12 rfl rfl)
theorem dX0_coat_13 : decode cX0_coat 13 = .ok (.invokevirtual 130, 3) := dk_182 0 130 (dk_at dksX0_coat_0 13 rfl rfl)
theorem dX0_coat_16 : decode cX0_coat 16 = .ok (.ifCond .eq 25, 3) := dk_153 0 25 (dk_at dksX0_coat_0 16 rfl rfl)
theorem dX0_coat_19 : decode cX0_coat 19 = .ok (.iload_n 3, 1) := dk_29 (dk_at dksX0_coat_0 19 rfl rfl)
theorem dX0_coat_20 : decode cX0_coat 20 = .ok (.i2l, 1) := dk_133 (dk_at dksX0_coat_0 20 rfl rfl)
theorem dX0_coat_21 : decode cX0_coat 21 = .ok (.lconst 0, 1) := dk_9 (dk_at dksX0_coat_0 21 rfl rfl)
theorem dX0_coat_22 : decode cX0_coat 22 = .ok (.ldc2_w 172, 3) := dk_20 0 172 (dk_at dksX0_coat_1 0 rfl rfl)
theorem dX0_coat_25 : decode cX0_coat 25 = .ok (.invokestatic 94, 3) := dk_184 0 94 (dk_at dksX0_coat_1 3 rfl rfl)
theorem dX0_coat_28 : decode cX0_coat 28 = .ok (.ifCond .eq 13, 3) := dk_153 0 13 (dk_at dksX0_coat_1 6 rfl rfl)
theorem dX0_coat_31 : decode cX0_coat 31 = .ok (.aload_n 0, 1) := dk_42 (dk_at dksX0_coat_1 9 rfl rfl)
theorem dX0_coat_32 : decode cX0_coat 32 = .ok (.iload_n 1, 1) := dk_27 (dk_at dksX0_coat_1 10 rfl rfl)
theorem dX0_coat_33 : decode cX0_coat 33 = .ok (.iload_n 2, 1) := dk_28 (dk_at dksX0_coat_1 11 rfl rfl)
theorem dX0_coat_34 : decode cX0_coat 34 = .ok (.iload_n 3, 1) := dk_29 (dk_at dksX0_coat_1 12 rfl rfl)
theorem dX0_coat_35 : decode cX0_coat 35 = .ok (.invokevirtual 280, 3) := dk_182 1 24 (dk_at dksX0_coat_1 13 rfl rfl)
theorem dX0_coat_38 : decode cX0_coat 38 = .ok (.goto 5, 3) := dk_167 0 5 (dk_at dksX0_coat_1 16 rfl rfl)
theorem dX0_coat_41 : decode cX0_coat 41 = .ok (.bipush (-2), 2) := dk_16 254 (dk_at dksX0_coat_1 19 rfl rfl)
theorem dX0_coat_43 : decode cX0_coat 43 = .ok (.ireturn, 1) := dk_172 (dk_at dksX0_coat_1 21 rfl rfl)
abbrev cX0_find : ByteArray := prog_1_method_29_code
def yX0_find : MethodName := ⟨RX0, "find", "()V"⟩
def dkwX0_find_4 : List UInt8 := [167, 255, 242, 177]
abbrev dktX0_find_4 : List UInt8 := dkwX0_find_4 ++ []
def dkwX0_find_3 : List UInt8 := [132, 1, 1, 167, 255, 235, 3, 60, 27, 16, 24, 162, 0, 14, 42, 27, 182, 1, 15, 132, 1, 1]
abbrev dktX0_find_3 : List UInt8 := dkwX0_find_3 ++ dktX0_find_4
def dkwX0_find_2 : List UInt8 := [167, 255, 212, 3, 60, 27, 42, 180, 0, 23, 182, 0, 129, 162, 0, 16, 42, 180, 0, 47, 27, 3, 79]
abbrev dktX0_find_2 : List UInt8 := dkwX0_find_2 ++ dktX0_find_3
def dkwX0_find_1 : List UInt8 := [180, 0, 133, 27, 182, 0, 136, 192, 0, 140, 180, 0, 234, 79, 42, 180, 0, 44, 27, 3, 79, 132, 1, 1]
abbrev dktX0_find_1 : List UInt8 := dkwX0_find_1 ++ dktX0_find_2
def dkwX0_find_0 : List UInt8 := [3, 60, 27, 42, 180, 0, 14, 182, 0, 126, 162, 0, 39, 42, 180, 0, 40, 27, 42, 180, 0, 14]
abbrev dktX0_find_0 : List UInt8 := dkwX0_find_0 ++ dktX0_find_1
theorem dksX0_find_0 : cX0_find.data.toList.drop 0 = dktX0_find_0 := by decide +kernel
theorem dksX0_find_1 : cX0_find.data.toList.drop 22 = dktX0_find_1 := dk_seg dksX0_find_0 22 rfl rfl
theorem dksX0_find_2 : cX0_find.data.toList.drop 46 = dktX0_find_2 := dk_seg dksX0_find_1 24 rfl rfl
theorem dksX0_find_3 : cX0_find.data.toList.drop 69 = dktX0_find_3 := dk_seg dksX0_find_2 23 rfl rfl
theorem dksX0_find_4 : cX0_find.data.toList.drop 91 = dktX0_find_4 := dk_seg dksX0_find_3 22 rfl rfl
theorem dX0_find_0 : decode cX0_find 0 = .ok (.iconst 0, 1) := dk_3 (dk_at dksX0_find_0 0 rfl rfl)
theorem dX0_find_1 : decode cX0_find 1 = .ok (.istore_n 1, 1) := dk_60 (dk_at dksX0_find_0 1 rfl rfl)
theorem dX0_find_2 : decode cX0_find 2 = .ok (.iload_n 1, 1) := dk_27 (dk_at dksX0_find_0 2 rfl rfl)
theorem dX0_find_3 : decode cX0_find 3 = .ok (.aload_n 0, 1) := dk_42 (dk_at dksX0_find_0 3 rfl rfl)
theorem dX0_find_4 : decode cX0_find 4 = .ok (.getfield 14, 3) := dk_180 0 14 (dk_at dksX0_find_0 4 rfl rfl)
theorem dX0_find_7 : decode cX0_find 7 = .ok (.invokevirtual 126, 3) := dk_182 0 126 (dk_at dksX0_find_0 7 rfl rfl)
theorem dX0_find_10 : decode cX0_find 10 = .ok (.if_icmp .ge 39, 3) := dk_162 0 39 (dk_at dksX0_find_0 10 rfl rfl)
theorem dX0_find_13 : decode cX0_find 13 = .ok (.aload_n 0, 1) := dk_42 (dk_at dksX0_find_0 13 rfl rfl)
theorem dX0_find_14 : decode cX0_find 14 = .ok (.getfield 40, 3) := dk_180 0 40 (dk_at dksX0_find_0 14 rfl rfl)
theorem dX0_find_17 : decode cX0_find 17 = .ok (.iload_n 1, 1) := dk_27 (dk_at dksX0_find_0 17 rfl rfl)
theorem dX0_find_18 : decode cX0_find 18 = .ok (.aload_n 0, 1) := dk_42 (dk_at dksX0_find_0 18 rfl rfl)
theorem dX0_find_19 : decode cX0_find 19 = .ok (.getfield 14, 3) := dk_180 0 14 (dk_at dksX0_find_0 19 rfl rfl)
theorem dX0_find_22 : decode cX0_find 22 = .ok (.getfield 133, 3) := dk_180 0 133 (dk_at dksX0_find_1 0 rfl rfl)
theorem dX0_find_25 : decode cX0_find 25 = .ok (.iload_n 1, 1) := dk_27 (dk_at dksX0_find_1 3 rfl rfl)
theorem dX0_find_26 : decode cX0_find 26 = .ok (.invokevirtual 136, 3) := dk_182 0 136 (dk_at dksX0_find_1 4 rfl rfl)
theorem dX0_find_29 : decode cX0_find 29 = .ok (.checkcast 140, 3) := dk_192 0 140 (dk_at dksX0_find_1 7 rfl rfl)
theorem dX0_find_32 : decode cX0_find 32 = .ok (.getfield 234, 3) := dk_180 0 234 (dk_at dksX0_find_1 10 rfl rfl)
theorem dX0_find_35 : decode cX0_find 35 = .ok (.iastore, 1) := dk_79 (dk_at dksX0_find_1 13 rfl rfl)
theorem dX0_find_36 : decode cX0_find 36 = .ok (.aload_n 0, 1) := dk_42 (dk_at dksX0_find_1 14 rfl rfl)
theorem dX0_find_37 : decode cX0_find 37 = .ok (.getfield 44, 3) := dk_180 0 44 (dk_at dksX0_find_1 15 rfl rfl)
theorem dX0_find_40 : decode cX0_find 40 = .ok (.iload_n 1, 1) := dk_27 (dk_at dksX0_find_1 18 rfl rfl)
theorem dX0_find_41 : decode cX0_find 41 = .ok (.iconst 0, 1) := dk_3 (dk_at dksX0_find_1 19 rfl rfl)
theorem dX0_find_42 : decode cX0_find 42 = .ok (.iastore, 1) := dk_79 (dk_at dksX0_find_1 20 rfl rfl)
theorem dX0_find_43 : decode cX0_find 43 = .ok (.iinc 1 1, 3) := dk_132 1 1 (dk_at dksX0_find_1 21 rfl rfl)
theorem dX0_find_46 : decode cX0_find 46 = .ok (.goto (-44), 3) := dk_167 255 212 (dk_at dksX0_find_2 0 rfl rfl)
theorem dX0_find_49 : decode cX0_find 49 = .ok (.iconst 0, 1) := dk_3 (dk_at dksX0_find_2 3 rfl rfl)
theorem dX0_find_50 : decode cX0_find 50 = .ok (.istore_n 1, 1) := dk_60 (dk_at dksX0_find_2 4 rfl rfl)
theorem dX0_find_51 : decode cX0_find 51 = .ok (.iload_n 1, 1) := dk_27 (dk_at dksX0_find_2 5 rfl rfl)
theorem dX0_find_52 : decode cX0_find 52 = .ok (.aload_n 0, 1) := dk_42 (dk_at dksX0_find_2 6 rfl rfl)
theorem dX0_find_53 : decode cX0_find 53 = .ok (.getfield 23, 3) := dk_180 0 23 (dk_at dksX0_find_2 7 rfl rfl)
theorem dX0_find_56 : decode cX0_find 56 = .ok (.invokevirtual 129, 3) := dk_182 0 129 (dk_at dksX0_find_2 10 rfl rfl)
theorem dX0_find_59 : decode cX0_find 59 = .ok (.if_icmp .ge 16, 3) := dk_162 0 16 (dk_at dksX0_find_2 13 rfl rfl)
theorem dX0_find_62 : decode cX0_find 62 = .ok (.aload_n 0, 1) := dk_42 (dk_at dksX0_find_2 16 rfl rfl)
theorem dX0_find_63 : decode cX0_find 63 = .ok (.getfield 47, 3) := dk_180 0 47 (dk_at dksX0_find_2 17 rfl rfl)
theorem dX0_find_66 : decode cX0_find 66 = .ok (.iload_n 1, 1) := dk_27 (dk_at dksX0_find_2 20 rfl rfl)
theorem dX0_find_67 : decode cX0_find 67 = .ok (.iconst 0, 1) := dk_3 (dk_at dksX0_find_2 21 rfl rfl)
theorem dX0_find_68 : decode cX0_find 68 = .ok (.iastore, 1) := dk_79 (dk_at dksX0_find_2 22 rfl rfl)
theorem dX0_find_69 : decode cX0_find 69 = .ok (.iinc 1 1, 3) := dk_132 1 1 (dk_at dksX0_find_3 0 rfl rfl)
theorem dX0_find_72 : decode cX0_find 72 = .ok (.goto (-21), 3) := dk_167 255 235 (dk_at dksX0_find_3 3 rfl rfl)
theorem dX0_find_75 : decode cX0_find 75 = .ok (.iconst 0, 1) := dk_3 (dk_at dksX0_find_3 6 rfl rfl)
theorem dX0_find_76 : decode cX0_find 76 = .ok (.istore_n 1, 1) := dk_60 (dk_at dksX0_find_3 7 rfl rfl)
theorem dX0_find_77 : decode cX0_find 77 = .ok (.iload_n 1, 1) := dk_27 (dk_at dksX0_find_3 8 rfl rfl)
theorem dX0_find_78 : decode cX0_find 78 = .ok (.bipush 24, 2) := dk_16 24 (dk_at dksX0_find_3 9 rfl rfl)
theorem dX0_find_80 : decode cX0_find 80 = .ok (.if_icmp .ge 14, 3) := dk_162 0 14 (dk_at dksX0_find_3 11 rfl rfl)
theorem dX0_find_83 : decode cX0_find 83 = .ok (.aload_n 0, 1) := dk_42 (dk_at dksX0_find_3 14 rfl rfl)
theorem dX0_find_84 : decode cX0_find 84 = .ok (.iload_n 1, 1) := dk_27 (dk_at dksX0_find_3 15 rfl rfl)
theorem dX0_find_85 : decode cX0_find 85 = .ok (.invokevirtual 271, 3) := dk_182 1 15 (dk_at dksX0_find_3 16 rfl rfl)
theorem dX0_find_88 : decode cX0_find 88 = .ok (.iinc 1 1, 3) := dk_132 1 1 (dk_at dksX0_find_3 19 rfl rfl)
theorem dX0_find_91 : decode cX0_find 91 = .ok (.goto (-14), 3) := dk_167 255 242 (dk_at dksX0_find_4 0 rfl rfl)
theorem dX0_find_94 : decode cX0_find 94 = .ok (.return_, 1) := dk_177 (dk_at dksX0_find_4 3 rfl rfl)
abbrev cX0_passes : ByteArray := prog_1_method_28_code
def yX0_passes : MethodName := ⟨RX0, "passes", "(I)V"⟩
def dkwX0_passes_11 : List UInt8 := [180, 0, 58, 27, 50, 3, 16, 10, 184, 1, 9, 177]
abbrev dktX0_passes_11 : List UInt8 := dkwX0_passes_11 ++ []
def dkwX0_passes_10 : List UInt8 := [180, 0, 44, 3, 42, 180, 0, 55, 27, 50, 3, 16, 8, 184, 1, 9, 42, 180, 0, 47, 3, 42]
abbrev dktX0_passes_10 : List UInt8 := dkwX0_passes_10 ++ dktX0_passes_11
def dkwX0_passes_9 : List UInt8 := [132, 2, 1, 167, 255, 203, 42, 180, 0, 40, 3, 42, 180, 0, 52, 27, 50, 3, 16, 8, 184, 1, 9, 42]
abbrev dktX0_passes_9 : List UInt8 := dkwX0_passes_9 ++ dktX0_passes_10
def dkwX0_passes_8 : List UInt8 := [27, 160, 0, 23, 42, 45, 4, 46, 182, 0, 130, 153, 0, 13, 42, 45, 4, 46, 45, 5, 46, 182, 0, 227]
abbrev dktX0_passes_8 : List UInt8 := dkwX0_passes_8 ++ dktX0_passes_9
def dkwX0_passes_7 : List UInt8 := [180, 0, 37, 182, 0, 159, 162, 0, 48, 42, 180, 0, 37, 28, 182, 0, 136, 192, 0, 74, 78, 45, 3, 46]
abbrev dktX0_passes_7 : List UInt8 := dkwX0_passes_7 ++ dktX0_passes_8
def dkwX0_passes_6 : List UInt8 := [154, 0, 14, 42, 45, 4, 46, 45, 5, 46, 116, 182, 0, 227, 132, 2, 1, 167, 255, 191, 3, 61, 28, 42]
abbrev dktX0_passes_6 : List UInt8 := dkwX0_passes_6 ++ dktX0_passes_7
def dkwX0_passes_5 : List UInt8 := [27, 160, 0, 35, 42, 45, 4, 46, 182, 0, 130, 153, 0, 25, 42, 180, 1, 6, 28, 184, 0, 249]
abbrev dktX0_passes_5 : List UInt8 := dkwX0_passes_5 ++ dktX0_passes_6
def dkwX0_passes_4 : List UInt8 := [180, 0, 34, 182, 0, 159, 162, 0, 60, 42, 180, 0, 34, 28, 182, 0, 136, 192, 0, 74, 78, 45, 3, 46]
abbrev dktX0_passes_4 : List UInt8 := dkwX0_passes_4 ++ dktX0_passes_5
def dkwX0_passes_3 : List UInt8 := [180, 0, 61, 27, 160, 0, 11, 42, 42, 180, 1, 0, 182, 0, 253, 42, 27, 182, 1, 3, 3, 61, 28, 42]
abbrev dktX0_passes_3 : List UInt8 := dkwX0_passes_3 ++ dktX0_passes_4
def dkwX0_passes_2 : List UInt8 := [42, 180, 0, 30, 28, 182, 0, 136, 192, 0, 74, 4, 46, 182, 0, 253, 132, 2, 1, 167, 255, 197, 42]
abbrev dktX0_passes_2 : List UInt8 := dkwX0_passes_2 ++ dktX0_passes_3
def dkwX0_passes_1 : List UInt8 := [182, 0, 136, 192, 0, 74, 3, 46, 27, 160, 0, 31, 42, 180, 0, 246, 28, 184, 0, 249, 154, 0, 20, 42]
abbrev dktX0_passes_1 : List UInt8 := dkwX0_passes_1 ++ dktX0_passes_2
def dkwX0_passes_0 : List UInt8 := [42, 27, 182, 0, 242, 3, 61, 28, 42, 180, 0, 30, 182, 0, 159, 162, 0, 54, 42, 180, 0, 30, 28]
abbrev dktX0_passes_0 : List UInt8 := dkwX0_passes_0 ++ dktX0_passes_1
theorem dksX0_passes_0 : cX0_passes.data.toList.drop 0 = dktX0_passes_0 := by decide +kernel
theorem dksX0_passes_1 : cX0_passes.data.toList.drop 23 = dktX0_passes_1 := dk_seg dksX0_passes_0 23 rfl rfl
theorem dksX0_passes_2 : cX0_passes.data.toList.drop 47 = dktX0_passes_2 := dk_seg dksX0_passes_1 24 rfl rfl
theorem dksX0_passes_3 : cX0_passes.data.toList.drop 70 = dktX0_passes_3 := dk_seg dksX0_passes_2 23 rfl rfl
theorem dksX0_passes_4 : cX0_passes.data.toList.drop 94 = dktX0_passes_4 := dk_seg dksX0_passes_3 24 rfl rfl
theorem dksX0_passes_5 : cX0_passes.data.toList.drop 118 = dktX0_passes_5 := dk_seg dksX0_passes_4 24 rfl rfl
theorem dksX0_passes_6 : cX0_passes.data.toList.drop 140 = dktX0_passes_6 := dk_seg dksX0_passes_5 22 rfl rfl
theorem dksX0_passes_7 : cX0_passes.data.toList.drop 164 = dktX0_passes_7 := dk_seg dksX0_passes_6 24 rfl rfl
theorem dksX0_passes_8 : cX0_passes.data.toList.drop 188 = dktX0_passes_8 := dk_seg dksX0_passes_7 24 rfl rfl
theorem dksX0_passes_9 : cX0_passes.data.toList.drop 212 = dktX0_passes_9 := dk_seg dksX0_passes_8 24 rfl rfl
theorem dksX0_passes_10 : cX0_passes.data.toList.drop 236 = dktX0_passes_10 := dk_seg dksX0_passes_9 24 rfl rfl
theorem dksX0_passes_11 : cX0_passes.data.toList.drop 258 = dktX0_passes_11 := dk_seg dksX0_passes_10 22 rfl rfl
theorem dX0_passes_0 : decode cX0_passes 0 = .ok (.aload_n 0, 1) := dk_42 (dk_at dksX0_passes_0 0 rfl rfl)
theorem dX0_passes_1 : decode cX0_passes 1 = .ok (.iload_n 1, 1) := dk_27 (dk_at dksX0_passes_0 1 rfl rfl)
theorem dX0_passes_2 : decode cX0_passes 2 = .ok (.invokevirtual 242, 3) := dk_182 0 242 (dk_at dksX0_passes_0 2 rfl rfl)
theorem dX0_passes_5 : decode cX0_passes 5 = .ok (.iconst 0, 1) := dk_3 (dk_at dksX0_passes_0 5 rfl rfl)
theorem dX0_passes_6 : decode cX0_passes 6 = .ok (.istore_n 2, 1) := dk_61 (dk_at dksX0_passes_0 6 rfl rfl)
theorem dX0_passes_7 : decode cX0_passes 7 = .ok (.iload_n 2, 1) := dk_28 (dk_at dksX0_passes_0 7 rfl rfl)
theorem dX0_passes_8 : decode cX0_passes 8 = .ok (.aload_n 0, 1) := dk_42 (dk_at dksX0_passes_0 8 rfl rfl)
theorem dX0_passes_9 : decode cX0_passes 9 = .ok (.getfield 30, 3) := dk_180 0 30 (dk_at dksX0_passes_0 9 rfl rfl)
theorem dX0_passes_12 : decode cX0_passes 12 = .ok (.invokevirtual 159, 3) := dk_182 0 159 (dk_at dksX0_passes_0 12 rfl rfl)
theorem dX0_passes_15 : decode cX0_passes 15 = .ok (.if_icmp .ge 54, 3) := dk_162 0 54 (dk_at dksX0_passes_0 15 rfl rfl)
theorem dX0_passes_18 : decode cX0_passes 18 = .ok (.aload_n 0, 1) := dk_42 (dk_at dksX0_passes_0 18 rfl rfl)
theorem dX0_passes_19 : decode cX0_passes 19 = .ok (.getfield 30, 3) := dk_180 0 30 (dk_at dksX0_passes_0 19 rfl rfl)
theorem dX0_passes_22 : decode cX0_passes 22 = .ok (.iload_n 2, 1) := dk_28 (dk_at dksX0_passes_0 22 rfl rfl)
theorem dX0_passes_23 : decode cX0_passes 23 = .ok (.invokevirtual 136, 3) := dk_182 0 136 (dk_at dksX0_passes_1 0 rfl rfl)
theorem dX0_passes_26 : decode cX0_passes 26 = .ok (.checkcast 74, 3) := dk_192 0 74 (dk_at dksX0_passes_1 3 rfl rfl)
theorem dX0_passes_29 : decode cX0_passes 29 = .ok (.iconst 0, 1) := dk_3 (dk_at dksX0_passes_1 6 rfl rfl)
theorem dX0_passes_30 : decode cX0_passes 30 = .ok (.iaload, 1) := dk_46 (dk_at dksX0_passes_1 7 rfl rfl)
theorem dX0_passes_31 : decode cX0_passes 31 = .ok (.iload_n 1, 1) := dk_27 (dk_at dksX0_passes_1 8 rfl rfl)
theorem dX0_passes_32 : decode cX0_passes 32 = .ok (.if_icmp .ne 31, 3) := dk_160 0 31 (dk_at dksX0_passes_1 9 rfl rfl)
theorem dX0_passes_35 : decode cX0_passes 35 = .ok (.aload_n 0, 1) := dk_42 (dk_at dksX0_passes_1 12 rfl rfl)
theorem dX0_passes_36 : decode cX0_passes 36 = .ok (.getfield 246, 3) := dk_180 0 246 (dk_at dksX0_passes_1 13 rfl rfl)
theorem dX0_passes_39 : decode cX0_passes 39 = .ok (.iload_n 2, 1) := dk_28 (dk_at dksX0_passes_1 16 rfl rfl)
theorem dX0_passes_40 : decode cX0_passes 40 = .ok (.invokestatic 249, 3) := dk_184 0 249 (dk_at dksX0_passes_1 17 rfl rfl)
theorem dX0_passes_43 : decode cX0_passes 43 = .ok (.ifCond .ne 20, 3) := dk_154 0 20 (dk_at dksX0_passes_1 20 rfl rfl)
theorem dX0_passes_46 : decode cX0_passes 46 = .ok (.aload_n 0, 1) := dk_42 (dk_at dksX0_passes_1 23 rfl rfl)
theorem dX0_passes_47 : decode cX0_passes 47 = .ok (.aload_n 0, 1) := dk_42 (dk_at dksX0_passes_2 0 rfl rfl)
theorem dX0_passes_48 : decode cX0_passes 48 = .ok (.getfield 30, 3) := dk_180 0 30 (dk_at dksX0_passes_2 1 rfl rfl)
theorem dX0_passes_51 : decode cX0_passes 51 = .ok (.iload_n 2, 1) := dk_28 (dk_at dksX0_passes_2 4 rfl rfl)
theorem dX0_passes_52 : decode cX0_passes 52 = .ok (.invokevirtual 136, 3) := dk_182 0 136 (dk_at dksX0_passes_2 5 rfl rfl)
theorem dX0_passes_55 : decode cX0_passes 55 = .ok (.checkcast 74, 3) := dk_192 0 74 (dk_at dksX0_passes_2 8 rfl rfl)
theorem dX0_passes_58 : decode cX0_passes 58 = .ok (.iconst 1, 1) := dk_4 (dk_at dksX0_passes_2 11 rfl rfl)
theorem dX0_passes_59 : decode cX0_passes 59 = .ok (.iaload, 1) := dk_46 (dk_at dksX0_passes_2 12 rfl rfl)
theorem dX0_passes_60 : decode cX0_passes 60 = .ok (.invokevirtual 253, 3) := dk_182 0 253 (dk_at dksX0_passes_2 13 rfl rfl)
theorem dX0_passes_63 : decode cX0_passes 63 = .ok (.iinc 2 1, 3) := dk_132 2 1 (dk_at dksX0_passes_2 16 rfl rfl)
theorem dX0_passes_66 : decode cX0_passes 66 = .ok (.goto (-59), 3) := dk_167 255 197 (dk_at dksX0_passes_2 19 rfl rfl)
theorem dX0_passes_69 : decode cX0_passes 69 = .ok (.aload_n 0, 1) := dk_42 (dk_at dksX0_passes_2 22 rfl rfl)
theorem dX0_passes_70 : decode cX0_passes 70 = .ok (.getfield 61, 3) := dk_180 0 61 (dk_at dksX0_passes_3 0 rfl rfl)
theorem dX0_passes_73 : decode cX0_passes 73 = .ok (.iload_n 1, 1) := dk_27 (dk_at dksX0_passes_3 3 rfl rfl)
theorem dX0_passes_74 : decode cX0_passes 74 = .ok (.if_icmp .ne 11, 3) := dk_160 0 11 (dk_at dksX0_passes_3 4 rfl rfl)
theorem dX0_passes_77 : decode cX0_passes 77 = .ok (.aload_n 0, 1) := dk_42 (dk_at dksX0_passes_3 7 rfl rfl)
theorem dX0_passes_78 : decode cX0_passes 78 = .ok (.aload_n 0, 1) := dk_42 (dk_at dksX0_passes_3 8 rfl rfl)
theorem dX0_passes_79 : decode cX0_passes 79 = .ok (.getfield 256, 3) := dk_180 1 0 (dk_at dksX0_passes_3 9 rfl rfl)
theorem dX0_passes_82 : decode cX0_passes 82 = .ok (.invokevirtual 253, 3) := dk_182 0 253 (dk_at dksX0_passes_3 12 rfl rfl)
theorem dX0_passes_85 : decode cX0_passes 85 = .ok (.aload_n 0, 1) := dk_42 (dk_at dksX0_passes_3 15 rfl rfl)
theorem dX0_passes_86 : decode cX0_passes 86 = .ok (.iload_n 1, 1) := dk_27 (dk_at dksX0_passes_3 16 rfl rfl)
theorem dX0_passes_87 : decode cX0_passes 87 = .ok (.invokevirtual 259, 3) := dk_182 1 3 (dk_at dksX0_passes_3 17 rfl rfl)
theorem dX0_passes_90 : decode cX0_passes 90 = .ok (.iconst 0, 1) := dk_3 (dk_at dksX0_passes_3 20 rfl rfl)
theorem dX0_passes_91 : decode cX0_passes 91 = .ok (.istore_n 2, 1) := dk_61 (dk_at dksX0_passes_3 21 rfl rfl)
theorem dX0_passes_92 : decode cX0_passes 92 = .ok (.iload_n 2, 1) := dk_28 (dk_at dksX0_passes_3 22 rfl rfl)
theorem dX0_passes_93 : decode cX0_passes 93 = .ok (.aload_n 0, 1) := dk_42 (dk_at dksX0_passes_3 23 rfl rfl)
theorem dX0_passes_94 : decode cX0_passes 94 = .ok (.getfield 34, 3) := dk_180 0 34 (dk_at dksX0_passes_4 0 rfl rfl)
theorem dX0_passes_97 : decode cX0_passes 97 = .ok (.invokevirtual 159, 3) := dk_182 0 159 (dk_at dksX0_passes_4 3 rfl rfl)
theorem dX0_passes_100 : decode cX0_passes 100 = .ok (.if_icmp .ge 60, 3) := dk_162 0 60 (dk_at dksX0_passes_4 6 rfl rfl)
theorem dX0_passes_103 : decode cX0_passes 103 = .ok (.aload_n 0, 1) := dk_42 (dk_at dksX0_passes_4 9 rfl rfl)
theorem dX0_passes_104 : decode cX0_passes 104 = .ok (.getfield 34, 3) := dk_180 0 34 (dk_at dksX0_passes_4 10 rfl rfl)
theorem dX0_passes_107 : decode cX0_passes 107 = .ok (.iload_n 2, 1) := dk_28 (dk_at dksX0_passes_4 13 rfl rfl)
theorem dX0_passes_108 : decode cX0_passes 108 = .ok (.invokevirtual 136, 3) := dk_182 0 136 (dk_at dksX0_passes_4 14 rfl rfl)
theorem dX0_passes_111 : decode cX0_passes 111 = .ok (.checkcast 74, 3) := dk_192 0 74 (dk_at dksX0_passes_4 17 rfl rfl)
theorem dX0_passes_114 : decode cX0_passes 114 = .ok (.astore_n 3, 1) := dk_78 (dk_at dksX0_passes_4 20 rfl rfl)
theorem dX0_passes_115 : decode cX0_passes 115 = .ok (.aload_n 3, 1) := dk_45 (dk_at dksX0_passes_4 21 rfl rfl)
theorem dX0_passes_116 : decode cX0_passes 116 = .ok (.iconst 0, 1) := dk_3 (dk_at dksX0_passes_4 22 rfl rfl)
theorem dX0_passes_117 : decode cX0_passes 117 = .ok (.iaload, 1) := dk_46 (dk_at dksX0_passes_4 23 rfl rfl)
theorem dX0_passes_118 : decode cX0_passes 118 = .ok (.iload_n 1, 1) := dk_27 (dk_at dksX0_passes_5 0 rfl rfl)
theorem dX0_passes_119 : decode cX0_passes 119 = .ok (.if_icmp .ne 35, 3) := dk_160 0 35 (dk_at dksX0_passes_5 1 rfl rfl)
theorem dX0_passes_122 : decode cX0_passes 122 = .ok (.aload_n 0, 1) := dk_42 (dk_at dksX0_passes_5 4 rfl rfl)
theorem dX0_passes_123 : decode cX0_passes 123 = .ok (.aload_n 3, 1) := dk_45 (dk_at dksX0_passes_5 5 rfl rfl)
theorem dX0_passes_124 : decode cX0_passes 124 = .ok (.iconst 1, 1) := dk_4 (dk_at dksX0_passes_5 6 rfl rfl)
theorem dX0_passes_125 : decode cX0_passes 125 = .ok (.iaload, 1) := dk_46 (dk_at dksX0_passes_5 7 rfl rfl)
theorem dX0_passes_126 : decode cX0_passes 126 = .ok (.invokevirtual 130, 3) := dk_182 0 130 (dk_at dksX0_passes_5 8 rfl rfl)
theorem dX0_passes_129 : decode cX0_passes 129 = .ok (.ifCond .eq 25, 3) := dk_153 0 25 (dk_at dksX0_passes_5 11 rfl rfl)
theorem dX0_passes_132 : decode cX0_passes 132 = .ok (.aload_n 0, 1) := dk_42 (dk_at dksX0_passes_5 14 rfl rfl)
theorem dX0_passes_133 : decode cX0_passes 133 = .ok (.getfield 262, 3) := dk_180 1 6 (dk_at dksX0_passes_5 15 rfl rfl)
theorem dX0_passes_136 : decode cX0_passes 136 = .ok (.iload_n 2, 1) := dk_28 (dk_at dksX0_passes_5 18 rfl rfl)
theorem dX0_passes_137 : decode cX0_passes 137 = .ok (.invokestatic 249, 3) := dk_184 0 249 (dk_at dksX0_passes_5 19 rfl rfl)
theorem dX0_passes_140 : decode cX0_passes 140 = .ok (.ifCond .ne 14, 3) := dk_154 0 14 (dk_at dksX0_passes_6 0 rfl rfl)
theorem dX0_passes_143 : decode cX0_passes 143 = .ok (.aload_n 0, 1) := dk_42 (dk_at dksX0_passes_6 3 rfl rfl)
theorem dX0_passes_144 : decode cX0_passes 144 = .ok (.aload_n 3, 1) := dk_45 (dk_at dksX0_passes_6 4 rfl rfl)
theorem dX0_passes_145 : decode cX0_passes 145 = .ok (.iconst 1, 1) := dk_4 (dk_at dksX0_passes_6 5 rfl rfl)
theorem dX0_passes_146 : decode cX0_passes 146 = .ok (.iaload, 1) := dk_46 (dk_at dksX0_passes_6 6 rfl rfl)
theorem dX0_passes_147 : decode cX0_passes 147 = .ok (.aload_n 3, 1) := dk_45 (dk_at dksX0_passes_6 7 rfl rfl)
theorem dX0_passes_148 : decode cX0_passes 148 = .ok (.iconst 2, 1) := dk_5 (dk_at dksX0_passes_6 8 rfl rfl)
theorem dX0_passes_149 : decode cX0_passes 149 = .ok (.iaload, 1) := dk_46 (dk_at dksX0_passes_6 9 rfl rfl)
theorem dX0_passes_150 : decode cX0_passes 150 = .ok (.ineg, 1) := dk_116 (dk_at dksX0_passes_6 10 rfl rfl)
theorem dX0_passes_151 : decode cX0_passes 151 = .ok (.invokevirtual 227, 3) := dk_182 0 227 (dk_at dksX0_passes_6 11 rfl rfl)
theorem dX0_passes_154 : decode cX0_passes 154 = .ok (.iinc 2 1, 3) := dk_132 2 1 (dk_at dksX0_passes_6 14 rfl rfl)
theorem dX0_passes_157 : decode cX0_passes 157 = .ok (.goto (-65), 3) := dk_167 255 191 (dk_at dksX0_passes_6 17 rfl rfl)
theorem dX0_passes_160 : decode cX0_passes 160 = .ok (.iconst 0, 1) := dk_3 (dk_at dksX0_passes_6 20 rfl rfl)
theorem dX0_passes_161 : decode cX0_passes 161 = .ok (.istore_n 2, 1) := dk_61 (dk_at dksX0_passes_6 21 rfl rfl)
theorem dX0_passes_162 : decode cX0_passes 162 = .ok (.iload_n 2, 1) := dk_28 (dk_at dksX0_passes_6 22 rfl rfl)
theorem dX0_passes_163 : decode cX0_passes 163 = .ok (.aload_n 0, 1) := dk_42 (dk_at dksX0_passes_6 23 rfl rfl)
theorem dX0_passes_164 : decode cX0_passes 164 = .ok (.getfield 37, 3) := dk_180 0 37 (dk_at dksX0_passes_7 0 rfl rfl)
theorem dX0_passes_167 : decode cX0_passes 167 = .ok (.invokevirtual 159, 3) := dk_182 0 159 (dk_at dksX0_passes_7 3 rfl rfl)
theorem dX0_passes_170 : decode cX0_passes 170 = .ok (.if_icmp .ge 48, 3) := dk_162 0 48 (dk_at dksX0_passes_7 6 rfl rfl)
theorem dX0_passes_173 : decode cX0_passes 173 = .ok (.aload_n 0, 1) := dk_42 (dk_at dksX0_passes_7 9 rfl rfl)
theorem dX0_passes_174 : decode cX0_passes 174 = .ok (.getfield 37, 3) := dk_180 0 37 (dk_at dksX0_passes_7 10 rfl rfl)
theorem dX0_passes_177 : decode cX0_passes 177 = .ok (.iload_n 2, 1) := dk_28 (dk_at dksX0_passes_7 13 rfl rfl)
theorem dX0_passes_178 : decode cX0_passes 178 = .ok (.invokevirtual 136, 3) := dk_182 0 136 (dk_at dksX0_passes_7 14 rfl rfl)
theorem dX0_passes_181 : decode cX0_passes 181 = .ok (.checkcast 74, 3) := dk_192 0 74 (dk_at dksX0_passes_7 17 rfl rfl)
theorem dX0_passes_184 : decode cX0_passes 184 = .ok (.astore_n 3, 1) := dk_78 (dk_at dksX0_passes_7 20 rfl rfl)
theorem dX0_passes_185 : decode cX0_passes 185 = .ok (.aload_n 3, 1) := dk_45 (dk_at dksX0_passes_7 21 rfl rfl)
theorem dX0_passes_186 : decode cX0_passes 186 = .ok (.iconst 0, 1) := dk_3 (dk_at dksX0_passes_7 22 rfl rfl)
theorem dX0_passes_187 : decode cX0_passes 187 = .ok (.iaload, 1) := dk_46 (dk_at dksX0_passes_7 23 rfl rfl)
theorem dX0_passes_188 : decode cX0_passes 188 = .ok (.iload_n 1, 1) := dk_27 (dk_at dksX0_passes_8 0 rfl rfl)
theorem dX0_passes_189 : decode cX0_passes 189 = .ok (.if_icmp .ne 23, 3) := dk_160 0 23 (dk_at dksX0_passes_8 1 rfl rfl)
theorem dX0_passes_192 : decode cX0_passes 192 = .ok (.aload_n 0, 1) := dk_42 (dk_at dksX0_passes_8 4 rfl rfl)
theorem dX0_passes_193 : decode cX0_passes 193 = .ok (.aload_n 3, 1) := dk_45 (dk_at dksX0_passes_8 5 rfl rfl)
theorem dX0_passes_194 : decode cX0_passes 194 = .ok (.iconst 1, 1) := dk_4 (dk_at dksX0_passes_8 6 rfl rfl)
theorem dX0_passes_195 : decode cX0_passes 195 = .ok (.iaload, 1) := dk_46 (dk_at dksX0_passes_8 7 rfl rfl)
theorem dX0_passes_196 : decode cX0_passes 196 = .ok (.invokevirtual 130, 3) := dk_182 0 130 (dk_at dksX0_passes_8 8 rfl rfl)
theorem dX0_passes_199 : decode cX0_passes 199 = .ok (.ifCond .eq 13, 3) := dk_153 0 13 (dk_at dksX0_passes_8 11 rfl rfl)
theorem dX0_passes_202 : decode cX0_passes 202 = .ok (.aload_n 0, 1) := dk_42 (dk_at dksX0_passes_8 14 rfl rfl)
theorem dX0_passes_203 : decode cX0_passes 203 = .ok (.aload_n 3, 1) := dk_45 (dk_at dksX0_passes_8 15 rfl rfl)
theorem dX0_passes_204 : decode cX0_passes 204 = .ok (.iconst 1, 1) := dk_4 (dk_at dksX0_passes_8 16 rfl rfl)
theorem dX0_passes_205 : decode cX0_passes 205 = .ok (.iaload, 1) := dk_46 (dk_at dksX0_passes_8 17 rfl rfl)
theorem dX0_passes_206 : decode cX0_passes 206 = .ok (.aload_n 3, 1) := dk_45 (dk_at dksX0_passes_8 18 rfl rfl)
theorem dX0_passes_207 : decode cX0_passes 207 = .ok (.iconst 2, 1) := dk_5 (dk_at dksX0_passes_8 19 rfl rfl)
theorem dX0_passes_208 : decode cX0_passes 208 = .ok (.iaload, 1) := dk_46 (dk_at dksX0_passes_8 20 rfl rfl)
theorem dX0_passes_209 : decode cX0_passes 209 = .ok (.invokevirtual 227, 3) := dk_182 0 227 (dk_at dksX0_passes_8 21 rfl rfl)
theorem dX0_passes_212 : decode cX0_passes 212 = .ok (.iinc 2 1, 3) := dk_132 2 1 (dk_at dksX0_passes_9 0 rfl rfl)
theorem dX0_passes_215 : decode cX0_passes 215 = .ok (.goto (-53), 3) := dk_167 255 203 (dk_at dksX0_passes_9 3 rfl rfl)
theorem dX0_passes_218 : decode cX0_passes 218 = .ok (.aload_n 0, 1) := dk_42 (dk_at dksX0_passes_9 6 rfl rfl)
theorem dX0_passes_219 : decode cX0_passes 219 = .ok (.getfield 40, 3) := dk_180 0 40 (dk_at dksX0_passes_9 7 rfl rfl)
theorem dX0_passes_222 : decode cX0_passes 222 = .ok (.iconst 0, 1) := dk_3 (dk_at dksX0_passes_9 10 rfl rfl)
theorem dX0_passes_223 : decode cX0_passes 223 = .ok (.aload_n 0, 1) := dk_42 (dk_at dksX0_passes_9 11 rfl rfl)
theorem dX0_passes_224 : decode cX0_passes 224 = .ok (.getfield 52, 3) := dk_180 0 52 (dk_at dksX0_passes_9 12 rfl rfl)
theorem dX0_passes_227 : decode cX0_passes 227 = .ok (.iload_n 1, 1) := dk_27 (dk_at dksX0_passes_9 15 rfl rfl)
theorem dX0_passes_228 : decode cX0_passes 228 = .ok (.aaload, 1) := dk_50 (dk_at dksX0_passes_9 16 rfl rfl)
theorem dX0_passes_229 : decode cX0_passes 229 = .ok (.iconst 0, 1) := dk_3 (dk_at dksX0_passes_9 17 rfl rfl)
theorem dX0_passes_230 : decode cX0_passes 230 = .ok (.bipush 8, 2) := dk_16 8 (dk_at dksX0_passes_9 18 rfl rfl)
theorem dX0_passes_232 : decode cX0_passes 232 = .ok (.invokestatic 265, 3) := dk_184 1 9 (dk_at dksX0_passes_9 20 rfl rfl)
theorem dX0_passes_235 : decode cX0_passes 235 = .ok (.aload_n 0, 1) := dk_42 (dk_at dksX0_passes_9 23 rfl rfl)
theorem dX0_passes_236 : decode cX0_passes 236 = .ok (.getfield 44, 3) := dk_180 0 44 (dk_at dksX0_passes_10 0 rfl rfl)
theorem dX0_passes_239 : decode cX0_passes 239 = .ok (.iconst 0, 1) := dk_3 (dk_at dksX0_passes_10 3 rfl rfl)
theorem dX0_passes_240 : decode cX0_passes 240 = .ok (.aload_n 0, 1) := dk_42 (dk_at dksX0_passes_10 4 rfl rfl)
theorem dX0_passes_241 : decode cX0_passes 241 = .ok (.getfield 55, 3) := dk_180 0 55 (dk_at dksX0_passes_10 5 rfl rfl)
theorem dX0_passes_244 : decode cX0_passes 244 = .ok (.iload_n 1, 1) := dk_27 (dk_at dksX0_passes_10 8 rfl rfl)
theorem dX0_passes_245 : decode cX0_passes 245 = .ok (.aaload, 1) := dk_50 (dk_at dksX0_passes_10 9 rfl rfl)
theorem dX0_passes_246 : decode cX0_passes 246 = .ok (.iconst 0, 1) := dk_3 (dk_at dksX0_passes_10 10 rfl rfl)
theorem dX0_passes_247 : decode cX0_passes 247 = .ok (.bipush 8, 2) := dk_16 8 (dk_at dksX0_passes_10 11 rfl rfl)
theorem dX0_passes_249 : decode cX0_passes 249 = .ok (.invokestatic 265, 3) := dk_184 1 9 (dk_at dksX0_passes_10 13 rfl rfl)
theorem dX0_passes_252 : decode cX0_passes 252 = .ok (.aload_n 0, 1) := dk_42 (dk_at dksX0_passes_10 16 rfl rfl)
theorem dX0_passes_253 : decode cX0_passes 253 = .ok (.getfield 47, 3) := dk_180 0 47 (dk_at dksX0_passes_10 17 rfl rfl)
theorem dX0_passes_256 : decode cX0_passes 256 = .ok (.iconst 0, 1) := dk_3 (dk_at dksX0_passes_10 20 rfl rfl)
theorem dX0_passes_257 : decode cX0_passes 257 = .ok (.aload_n 0, 1) := dk_42 (dk_at dksX0_passes_10 21 rfl rfl)
theorem dX0_passes_258 : decode cX0_passes 258 = .ok (.getfield 58, 3) := dk_180 0 58 (dk_at dksX0_passes_11 0 rfl rfl)
theorem dX0_passes_261 : decode cX0_passes 261 = .ok (.iload_n 1, 1) := dk_27 (dk_at dksX0_passes_11 3 rfl rfl)
theorem dX0_passes_262 : decode cX0_passes 262 = .ok (.aaload, 1) := dk_50 (dk_at dksX0_passes_11 4 rfl rfl)
theorem dX0_passes_263 : decode cX0_passes 263 = .ok (.iconst 0, 1) := dk_3 (dk_at dksX0_passes_11 5 rfl rfl)
theorem dX0_passes_264 : decode cX0_passes 264 = .ok (.bipush 10, 2) := dk_16 10 (dk_at dksX0_passes_11 6 rfl rfl)
theorem dX0_passes_266 : decode cX0_passes 266 = .ok (.invokestatic 265, 3) := dk_184 1 9 (dk_at dksX0_passes_11 8 rfl rfl)
theorem dX0_passes_269 : decode cX0_passes 269 = .ok (.return_, 1) := dk_177 (dk_at dksX0_passes_11 11 rfl rfl)
abbrev cX0_makes : ByteArray := prog_1_method_25_code
def yX0_makes : MethodName := ⟨RX0, "makes", "(I)V"⟩
def dkwX0_makes_6 : List UInt8 := [180, 0, 231, 182, 0, 222, 182, 0, 227, 177]
abbrev dktX0_makes_6 : List UInt8 := dkwX0_makes_6 ++ []
def dkwX0_makes_5 : List UInt8 := [180, 0, 65, 42, 180, 0, 14, 180, 0, 133, 42, 180, 0, 65, 182, 0, 136, 192, 0, 140, 180, 0, 215, 42]
abbrev dktX0_makes_5 : List UInt8 := dkwX0_makes_5 ++ dktX0_makes_6
def dkwX0_makes_4 : List UInt8 := [182, 0, 227, 132, 2, 1, 167, 255, 160, 27, 154, 0, 46, 42, 180, 0, 65, 2, 159, 0, 38, 42, 42]
abbrev dktX0_makes_4 : List UInt8 := dkwX0_makes_4 ++ dktX0_makes_5
def dkwX0_makes_3 : List UInt8 := [180, 0, 133, 45, 180, 0, 212, 182, 0, 136, 192, 0, 140, 180, 0, 215, 45, 180, 0, 219, 182, 0, 222]
abbrev dktX0_makes_3 : List UInt8 := dkwX0_makes_3 ++ dktX0_makes_4
def dkwX0_makes_2 : List UInt8 := [154, 0, 6, 167, 0, 45, 42, 180, 0, 47, 28, 4, 79, 42, 45, 180, 0, 212, 42, 180, 0, 14]
abbrev dktX0_makes_2 : List UInt8 := dkwX0_makes_2 ++ dktX0_makes_3
def dkwX0_makes_1 : List UInt8 := [182, 0, 136, 192, 0, 151, 78, 45, 180, 0, 209, 27, 160, 0, 59, 42, 45, 180, 0, 212, 182, 0, 130]
abbrev dktX0_makes_1 : List UInt8 := dkwX0_makes_1 ++ dktX0_makes_2
def dkwX0_makes_0 : List UInt8 := [3, 61, 28, 42, 180, 0, 23, 180, 0, 150, 182, 0, 159, 162, 0, 88, 42, 180, 0, 23, 180, 0, 150, 28]
abbrev dktX0_makes_0 : List UInt8 := dkwX0_makes_0 ++ dktX0_makes_1
theorem dksX0_makes_0 : cX0_makes.data.toList.drop 0 = dktX0_makes_0 := by decide +kernel
theorem dksX0_makes_1 : cX0_makes.data.toList.drop 24 = dktX0_makes_1 := dk_seg dksX0_makes_0 24 rfl rfl
theorem dksX0_makes_2 : cX0_makes.data.toList.drop 47 = dktX0_makes_2 := dk_seg dksX0_makes_1 23 rfl rfl
theorem dksX0_makes_3 : cX0_makes.data.toList.drop 69 = dktX0_makes_3 := dk_seg dksX0_makes_2 22 rfl rfl
theorem dksX0_makes_4 : cX0_makes.data.toList.drop 92 = dktX0_makes_4 := dk_seg dksX0_makes_3 23 rfl rfl
theorem dksX0_makes_5 : cX0_makes.data.toList.drop 115 = dktX0_makes_5 := dk_seg dksX0_makes_4 23 rfl rfl
theorem dksX0_makes_6 : cX0_makes.data.toList.drop 139 = dktX0_makes_6 := dk_seg dksX0_makes_5 24 rfl rfl
theorem dX0_makes_0 : decode cX0_makes 0 = .ok (.iconst 0, 1) := dk_3 (dk_at dksX0_makes_0 0 rfl rfl)
theorem dX0_makes_1 : decode cX0_makes 1 = .ok (.istore_n 2, 1) := dk_61 (dk_at dksX0_makes_0 1 rfl rfl)
theorem dX0_makes_2 : decode cX0_makes 2 = .ok (.iload_n 2, 1) := dk_28 (dk_at dksX0_makes_0 2 rfl rfl)
theorem dX0_makes_3 : decode cX0_makes 3 = .ok (.aload_n 0, 1) := dk_42 (dk_at dksX0_makes_0 3 rfl rfl)
theorem dX0_makes_4 : decode cX0_makes 4 = .ok (.getfield 23, 3) := dk_180 0 23 (dk_at dksX0_makes_0 4 rfl rfl)
theorem dX0_makes_7 : decode cX0_makes 7 = .ok (.getfield 150, 3) := dk_180 0 150 (dk_at dksX0_makes_0 7 rfl rfl)
theorem dX0_makes_10 : decode cX0_makes 10 = .ok (.invokevirtual 159, 3) := dk_182 0 159 (dk_at dksX0_makes_0 10 rfl rfl)
theorem dX0_makes_13 : decode cX0_makes 13 = .ok (.if_icmp .ge 88, 3) := dk_162 0 88 (dk_at dksX0_makes_0 13 rfl rfl)
theorem dX0_makes_16 : decode cX0_makes 16 = .ok (.aload_n 0, 1) := dk_42 (dk_at dksX0_makes_0 16 rfl rfl)
theorem dX0_makes_17 : decode cX0_makes 17 = .ok (.getfield 23, 3) := dk_180 0 23 (dk_at dksX0_makes_0 17 rfl rfl)
theorem dX0_makes_20 : decode cX0_makes 20 = .ok (.getfield 150, 3) := dk_180 0 150 (dk_at dksX0_makes_0 20 rfl rfl)
theorem dX0_makes_23 : decode cX0_makes 23 = .ok (.iload_n 2, 1) := dk_28 (dk_at dksX0_makes_0 23 rfl rfl)
theorem dX0_makes_24 : decode cX0_makes 24 = .ok (.invokevirtual 136, 3) := dk_182 0 136 (dk_at dksX0_makes_1 0 rfl rfl)
theorem dX0_makes_27 : decode cX0_makes 27 = .ok (.checkcast 151, 3) := dk_192 0 151 (dk_at dksX0_makes_1 3 rfl rfl)
theorem dX0_makes_30 : decode cX0_makes 30 = .ok (.astore_n 3, 1) := dk_78 (dk_at dksX0_makes_1 6 rfl rfl)
theorem dX0_makes_31 : decode cX0_makes 31 = .ok (.aload_n 3, 1) := dk_45 (dk_at dksX0_makes_1 7 rfl rfl)
theorem dX0_makes_32 : decode cX0_makes 32 = .ok (.getfield 209, 3) := dk_180 0 209 (dk_at dksX0_makes_1 8 rfl rfl)
theorem dX0_makes_35 : decode cX0_makes 35 = .ok (.iload_n 1, 1) := dk_27 (dk_at dksX0_makes_1 11 rfl rfl)
theorem dX0_makes_36 : decode cX0_makes 36 = .ok (.if_icmp .ne 59, 3) := dk_160 0 59 (dk_at dksX0_makes_1 12 rfl rfl)
theorem dX0_makes_39 : decode cX0_makes 39 = .ok (.aload_n 0, 1) := dk_42 (dk_at dksX0_makes_1 15 rfl rfl)
theorem dX0_makes_40 : decode cX0_makes 40 = .ok (.aload_n 3, 1) := dk_45 (dk_at dksX0_makes_1 16 rfl rfl)
theorem dX0_makes_41 : decode cX0_makes 41 = .ok (.getfield 212, 3) := dk_180 0 212 (dk_at dksX0_makes_1 17 rfl rfl)
theorem dX0_makes_44 : decode cX0_makes 44 = .ok (.invokevirtual 130, 3) := dk_182 0 130 (dk_at dksX0_makes_1 20 rfl rfl)
theorem dX0_makes_47 : decode cX0_makes 47 = .ok (.ifCond .ne 6, 3) := dk_154 0 6 (dk_at dksX0_makes_2 0 rfl rfl)
theorem dX0_makes_50 : decode cX0_makes 50 = .ok (.goto 45, 3) := dk_167 0 45 (dk_at dksX0_makes_2 3 rfl rfl)
theorem dX0_makes_53 : decode cX0_makes 53 = .ok (.aload_n 0, 1) := dk_42 (dk_at dksX0_makes_2 6 rfl rfl)
theorem dX0_makes_54 : decode cX0_makes 54 = .ok (.getfield 47, 3) := dk_180 0 47 (dk_at dksX0_makes_2 7 rfl rfl)
theorem dX0_makes_57 : decode cX0_makes 57 = .ok (.iload_n 2, 1) := dk_28 (dk_at dksX0_makes_2 10 rfl rfl)
theorem dX0_makes_58 : decode cX0_makes 58 = .ok (.iconst 1, 1) := dk_4 (dk_at dksX0_makes_2 11 rfl rfl)
theorem dX0_makes_59 : decode cX0_makes 59 = .ok (.iastore, 1) := dk_79 (dk_at dksX0_makes_2 12 rfl rfl)
theorem dX0_makes_60 : decode cX0_makes 60 = .ok (.aload_n 0, 1) := dk_42 (dk_at dksX0_makes_2 13 rfl rfl)
theorem dX0_makes_61 : decode cX0_makes 61 = .ok (.aload_n 3, 1) := dk_45 (dk_at dksX0_makes_2 14 rfl rfl)
theorem dX0_makes_62 : decode cX0_makes 62 = .ok (.getfield 212, 3) := dk_180 0 212 (dk_at dksX0_makes_2 15 rfl rfl)
theorem dX0_makes_65 : decode cX0_makes 65 = .ok (.aload_n 0, 1) := dk_42 (dk_at dksX0_makes_2 18 rfl rfl)
theorem dX0_makes_66 : decode cX0_makes 66 = .ok (.getfield 14, 3) := dk_180 0 14 (dk_at dksX0_makes_2 19 rfl rfl)
theorem dX0_makes_69 : decode cX0_makes 69 = .ok (.getfield 133, 3) := dk_180 0 133 (dk_at dksX0_makes_3 0 rfl rfl)
theorem dX0_makes_72 : decode cX0_makes 72 = .ok (.aload_n 3, 1) := dk_45 (dk_at dksX0_makes_3 3 rfl rfl)
theorem dX0_makes_73 : decode cX0_makes 73 = .ok (.getfield 212, 3) := dk_180 0 212 (dk_at dksX0_makes_3 4 rfl rfl)
theorem dX0_makes_76 : decode cX0_makes 76 = .ok (.invokevirtual 136, 3) := dk_182 0 136 (dk_at dksX0_makes_3 7 rfl rfl)
theorem dX0_makes_79 : decode cX0_makes 79 = .ok (.checkcast 140, 3) := dk_192 0 140 (dk_at dksX0_makes_3 10 rfl rfl)
theorem dX0_makes_82 : decode cX0_makes 82 = .ok (.getfield 215, 3) := dk_180 0 215 (dk_at dksX0_makes_3 13 rfl rfl)
theorem dX0_makes_85 : decode cX0_makes 85 = .ok (.aload_n 3, 1) := dk_45 (dk_at dksX0_makes_3 16 rfl rfl)
theorem dX0_makes_86 : decode cX0_makes 86 = .ok (.getfield 219, 3) := dk_180 0 219 (dk_at dksX0_makes_3 17 rfl rfl)
theorem dX0_makes_89 : decode cX0_makes 89 = .ok (.invokevirtual 222, 3) := dk_182 0 222 (dk_at dksX0_makes_3 20 rfl rfl)
theorem dX0_makes_92 : decode cX0_makes 92 = .ok (.invokevirtual 227, 3) := dk_182 0 227 (dk_at dksX0_makes_4 0 rfl rfl)
theorem dX0_makes_95 : decode cX0_makes 95 = .ok (.iinc 2 1, 3) := dk_132 2 1 (dk_at dksX0_makes_4 3 rfl rfl)
theorem dX0_makes_98 : decode cX0_makes 98 = .ok (.goto (-96), 3) := dk_167 255 160 (dk_at dksX0_makes_4 6 rfl rfl)
theorem dX0_makes_101 : decode cX0_makes 101 = .ok (.iload_n 1, 1) := dk_27 (dk_at dksX0_makes_4 9 rfl rfl)
theorem dX0_makes_102 : decode cX0_makes 102 = .ok (.ifCond .ne 46, 3) := dk_154 0 46 (dk_at dksX0_makes_4 10 rfl rfl)
theorem dX0_makes_105 : decode cX0_makes 105 = .ok (.aload_n 0, 1) := dk_42 (dk_at dksX0_makes_4 13 rfl rfl)
theorem dX0_makes_106 : decode cX0_makes 106 = .ok (.getfield 65, 3) := dk_180 0 65 (dk_at dksX0_makes_4 14 rfl rfl)
theorem dX0_makes_109 : decode cX0_makes 109 = .ok (.iconst (-1), 1) := dk_2 (dk_at dksX0_makes_4 17 rfl rfl)
theorem dX0_makes_110 : decode cX0_makes 110 = .ok (.if_icmp .eq 38, 3) := dk_159 0 38 (dk_at dksX0_makes_4 18 rfl rfl)
theorem dX0_makes_113 : decode cX0_makes 113 = .ok (.aload_n 0, 1) := dk_42 (dk_at dksX0_makes_4 21 rfl rfl)
theorem dX0_makes_114 : decode cX0_makes 114 = .ok (.aload_n 0, 1) := dk_42 (dk_at dksX0_makes_4 22 rfl rfl)
theorem dX0_makes_115 : decode cX0_makes 115 = .ok (.getfield 65, 3) := dk_180 0 65 (dk_at dksX0_makes_5 0 rfl rfl)
theorem dX0_makes_118 : decode cX0_makes 118 = .ok (.aload_n 0, 1) := dk_42 (dk_at dksX0_makes_5 3 rfl rfl)
theorem dX0_makes_119 : decode cX0_makes 119 = .ok (.getfield 14, 3) := dk_180 0 14 (dk_at dksX0_makes_5 4 rfl rfl)
theorem dX0_makes_122 : decode cX0_makes 122 = .ok (.getfield 133, 3) := dk_180 0 133 (dk_at dksX0_makes_5 7 rfl rfl)
theorem dX0_makes_125 : decode cX0_makes 125 = .ok (.aload_n 0, 1) := dk_42 (dk_at dksX0_makes_5 10 rfl rfl)
theorem dX0_makes_126 : decode cX0_makes 126 = .ok (.getfield 65, 3) := dk_180 0 65 (dk_at dksX0_makes_5 11 rfl rfl)
theorem dX0_makes_129 : decode cX0_makes 129 = .ok (.invokevirtual 136, 3) := dk_182 0 136 (dk_at dksX0_makes_5 14 rfl rfl)
theorem dX0_makes_132 : decode cX0_makes 132 = .ok (.checkcast 140, 3) := dk_192 0 140 (dk_at dksX0_makes_5 17 rfl rfl)
theorem dX0_makes_135 : decode cX0_makes 135 = .ok (.getfield 215, 3) := dk_180 0 215 (dk_at dksX0_makes_5 20 rfl rfl)
theorem dX0_makes_138 : decode cX0_makes 138 = .ok (.aload_n 0, 1) := dk_42 (dk_at dksX0_makes_5 23 rfl rfl)
theorem dX0_makes_139 : decode cX0_makes 139 = .ok (.getfield 231, 3) := dk_180 0 231 (dk_at dksX0_makes_6 0 rfl rfl)
theorem dX0_makes_142 : decode cX0_makes 142 = .ok (.invokevirtual 222, 3) := dk_182 0 222 (dk_at dksX0_makes_6 3 rfl rfl)
theorem dX0_makes_145 : decode cX0_makes 145 = .ok (.invokevirtual 227, 3) := dk_182 0 227 (dk_at dksX0_makes_6 6 rfl rfl)
theorem dX0_makes_148 : decode cX0_makes 148 = .ok (.return_, 1) := dk_177 (dk_at dksX0_makes_6 9 rfl rfl)
abbrev cX0_cuts : ByteArray := prog_1_method_24_code
def yX0_cuts : MethodName := ⟨RX0, "cuts", "(II)V"⟩
def dkwX0_cuts_0 : List UInt8 := [42, 180, 0, 40, 27, 42, 180, 0, 40, 27, 46, 28, 96, 3, 184, 0, 201, 16, 99, 184, 0, 206, 79, 177]
abbrev dktX0_cuts_0 : List UInt8 := dkwX0_cuts_0 ++ []
theorem dksX0_cuts_0 : cX0_cuts.data.toList.drop 0 = dktX0_cuts_0 := by decide +kernel
theorem dX0_cuts_0 : decode cX0_cuts 0 = .ok (.aload_n 0, 1) := dk_42 (dk_at dksX0_cuts_0 0 rfl rfl)
theorem dX0_cuts_1 : decode cX0_cuts 1 = .ok (.getfield 40, 3) := dk_180 0 40 (dk_at dksX0_cuts_0 1 rfl rfl)
theorem dX0_cuts_4 : decode cX0_cuts 4 = .ok (.iload_n 1, 1) := dk_27 (dk_at dksX0_cuts_0 4 rfl rfl)
theorem dX0_cuts_5 : decode cX0_cuts 5 = .ok (.aload_n 0, 1) := dk_42 (dk_at dksX0_cuts_0 5 rfl rfl)
theorem dX0_cuts_6 : decode cX0_cuts 6 = .ok (.getfield 40, 3) := dk_180 0 40 (dk_at dksX0_cuts_0 6 rfl rfl)
theorem dX0_cuts_9 : decode cX0_cuts 9 = .ok (.iload_n 1, 1) := dk_27 (dk_at dksX0_cuts_0 9 rfl rfl)
theorem dX0_cuts_10 : decode cX0_cuts 10 = .ok (.iaload, 1) := dk_46 (dk_at dksX0_cuts_0 10 rfl rfl)
theorem dX0_cuts_11 : decode cX0_cuts 11 = .ok (.iload_n 2, 1) := dk_28 (dk_at dksX0_cuts_0 11 rfl rfl)
theorem dX0_cuts_12 : decode cX0_cuts 12 = .ok (.iadd, 1) := dk_96 (dk_at dksX0_cuts_0 12 rfl rfl)
theorem dX0_cuts_13 : decode cX0_cuts 13 = .ok (.iconst 0, 1) := dk_3 (dk_at dksX0_cuts_0 13 rfl rfl)
theorem dX0_cuts_14 : decode cX0_cuts 14 = .ok (.invokestatic 201, 3) := dk_184 0 201 (dk_at dksX0_cuts_0 14 rfl rfl)
theorem dX0_cuts_17 : decode cX0_cuts 17 = .ok (.bipush 99, 2) := dk_16 99 (dk_at dksX0_cuts_0 17 rfl rfl)
theorem dX0_cuts_19 : decode cX0_cuts 19 = .ok (.invokestatic 206, 3) := dk_184 0 206 (dk_at dksX0_cuts_0 19 rfl rfl)
theorem dX0_cuts_22 : decode cX0_cuts 22 = .ok (.iastore, 1) := dk_79 (dk_at dksX0_cuts_0 22 rfl rfl)
theorem dX0_cuts_23 : decode cX0_cuts 23 = .ok (.return_, 1) := dk_177 (dk_at dksX0_cuts_0 23 rfl rfl)
abbrev cX0_isIn : ByteArray := prog_1_method_7_code
def yX0_isIn : MethodName := ⟨RX0, "isIn", "(II)Z"⟩
def dkwX0_isIn_0 : List UInt8 := [26, 27, 122, 4, 126, 4, 160, 0, 7, 4, 167, 0, 4, 3, 172]
abbrev dktX0_isIn_0 : List UInt8 := dkwX0_isIn_0 ++ []
theorem dksX0_isIn_0 : cX0_isIn.data.toList.drop 0 = dktX0_isIn_0 := by decide +kernel
theorem dX0_isIn_0 : decode cX0_isIn 0 = .ok (.iload_n 0, 1) := dk_26 (dk_at dksX0_isIn_0 0 rfl rfl)
theorem dX0_isIn_1 : decode cX0_isIn 1 = .ok (.iload_n 1, 1) := dk_27 (dk_at dksX0_isIn_0 1 rfl rfl)
theorem dX0_isIn_2 : decode cX0_isIn 2 = .ok (.ishr, 1) := dk_122 (dk_at dksX0_isIn_0 2 rfl rfl)
theorem dX0_isIn_3 : decode cX0_isIn 3 = .ok (.iconst 1, 1) := dk_4 (dk_at dksX0_isIn_0 3 rfl rfl)
theorem dX0_isIn_4 : decode cX0_isIn 4 = .ok (.iand, 1) := dk_126 (dk_at dksX0_isIn_0 4 rfl rfl)
theorem dX0_isIn_5 : decode cX0_isIn 5 = .ok (.iconst 1, 1) := dk_4 (dk_at dksX0_isIn_0 5 rfl rfl)
theorem dX0_isIn_6 : decode cX0_isIn 6 = .ok (.if_icmp .ne 7, 3) := dk_160 0 7 (dk_at dksX0_isIn_0 6 rfl rfl)
theorem dX0_isIn_9 : decode cX0_isIn 9 = .ok (.iconst 1, 1) := dk_4 (dk_at dksX0_isIn_0 9 rfl rfl)
theorem dX0_isIn_10 : decode cX0_isIn 10 = .ok (.goto 4, 3) := dk_167 0 4 (dk_at dksX0_isIn_0 10 rfl rfl)
theorem dX0_isIn_13 : decode cX0_isIn 13 = .ok (.iconst 0, 1) := dk_3 (dk_at dksX0_isIn_0 13 rfl rfl)
theorem dX0_isIn_14 : decode cX0_isIn 14 = .ok (.ireturn, 1) := dk_172 (dk_at dksX0_isIn_0 14 rfl rfl)
abbrev cX0_keeps : ByteArray := prog_1_method_26_code
def yX0_keeps : MethodName := ⟨RX0, "keeps", "(I)V"⟩
def dkwX0_keeps_5 : List UInt8 := [180, 0, 219, 100, 29, 184, 0, 201, 79, 177]
abbrev dktX0_keeps_5 : List UInt8 := dkwX0_keeps_5 ++ []
def dkwX0_keeps_4 : List UInt8 := [46, 44, 180, 0, 219, 96, 29, 184, 0, 206, 167, 0, 21, 42, 180, 0, 40, 44, 180, 0, 212, 46, 44]
abbrev dktX0_keeps_4 : List UInt8 := dkwX0_keeps_4 ++ dktX0_keeps_5
def dkwX0_keeps_3 : List UInt8 := [180, 0, 212, 42, 180, 0, 40, 44, 180, 0, 212, 46, 29, 162, 0, 24, 42, 180, 0, 40, 44, 180, 0, 212]
abbrev dktX0_keeps_3 : List UInt8 := dkwX0_keeps_3 ++ dktX0_keeps_4
def dkwX0_keeps_2 : List UInt8 := [182, 0, 136, 192, 0, 140, 180, 0, 234, 62, 42, 180, 0, 47, 27, 5, 79, 42, 180, 0, 40, 44]
abbrev dktX0_keeps_2 : List UInt8 := dkwX0_keeps_2 ++ dktX0_keeps_3
def dkwX0_keeps_1 : List UInt8 := [180, 0, 150, 27, 182, 0, 136, 192, 0, 151, 77, 42, 180, 0, 14, 180, 0, 133, 44, 180, 0, 212]
abbrev dktX0_keeps_1 : List UInt8 := dkwX0_keeps_1 ++ dktX0_keeps_2
def dkwX0_keeps_0 : List UInt8 := [42, 27, 182, 0, 145, 153, 0, 13, 42, 180, 0, 47, 27, 46, 4, 159, 0, 4, 177, 42, 180, 0, 23]
abbrev dktX0_keeps_0 : List UInt8 := dkwX0_keeps_0 ++ dktX0_keeps_1
theorem dksX0_keeps_0 : cX0_keeps.data.toList.drop 0 = dktX0_keeps_0 := by decide +kernel
theorem dksX0_keeps_1 : cX0_keeps.data.toList.drop 23 = dktX0_keeps_1 := dk_seg dksX0_keeps_0 23 rfl rfl
theorem dksX0_keeps_2 : cX0_keeps.data.toList.drop 45 = dktX0_keeps_2 := dk_seg dksX0_keeps_1 22 rfl rfl
theorem dksX0_keeps_3 : cX0_keeps.data.toList.drop 67 = dktX0_keeps_3 := dk_seg dksX0_keeps_2 22 rfl rfl
theorem dksX0_keeps_4 : cX0_keeps.data.toList.drop 91 = dktX0_keeps_4 := dk_seg dksX0_keeps_3 24 rfl rfl
theorem dksX0_keeps_5 : cX0_keeps.data.toList.drop 114 = dktX0_keeps_5 := dk_seg dksX0_keeps_4 23 rfl rfl
theorem dX0_keeps_0 : decode cX0_keeps 0 = .ok (.aload_n 0, 1) := dk_42 (dk_at dksX0_keeps_0 0 rfl rfl)
theorem dX0_keeps_1 : decode cX0_keeps 1 = .ok (.iload_n 1, 1) := dk_27 (dk_at dksX0_keeps_0 1 rfl rfl)
theorem dX0_keeps_2 : decode cX0_keeps 2 = .ok (.invokevirtual 145, 3) := dk_182 0 145 (dk_at dksX0_keeps_0 2 rfl rfl)
theorem dX0_keeps_5 : decode cX0_keeps 5 = .ok (.ifCond .eq 13, 3) := dk_153 0 13 (dk_at dksX0_keeps_0 5 rfl rfl)
theorem dX0_keeps_8 : decode cX0_keeps 8 = .ok (.aload_n 0, 1) := dk_42 (dk_at dksX0_keeps_0 8 rfl rfl)
theorem dX0_keeps_9 : decode cX0_keeps 9 = .ok (.getfield 47, 3) := dk_180 0 47 (dk_at dksX0_keeps_0 9 rfl rfl)
theorem dX0_keeps_12 : decode cX0_keeps 12 = .ok (.iload_n 1, 1) := dk_27 (dk_at dksX0_keeps_0 12 rfl rfl)
theorem dX0_keeps_13 : decode cX0_keeps 13 = .ok (.iaload, 1) := dk_46 (dk_at dksX0_keeps_0 13 rfl rfl)
theorem dX0_keeps_14 : decode cX0_keeps 14 = .ok (.iconst 1, 1) := dk_4 (dk_at dksX0_keeps_0 14 rfl rfl)
theorem dX0_keeps_15 : decode cX0_keeps 15 = .ok (.if_icmp .eq 4, 3) := dk_159 0 4 (dk_at dksX0_keeps_0 15 rfl rfl)
theorem dX0_keeps_18 : decode cX0_keeps 18 = .ok (.return_, 1) := dk_177 (dk_at dksX0_keeps_0 18 rfl rfl)
theorem dX0_keeps_19 : decode cX0_keeps 19 = .ok (.aload_n 0, 1) := dk_42 (dk_at dksX0_keeps_0 19 rfl rfl)
theorem dX0_keeps_20 : decode cX0_keeps 20 = .ok (.getfield 23, 3) := dk_180 0 23 (dk_at dksX0_keeps_0 20 rfl rfl)
theorem dX0_keeps_23 : decode cX0_keeps 23 = .ok (.getfield 150, 3) := dk_180 0 150 (dk_at dksX0_keeps_1 0 rfl rfl)
theorem dX0_keeps_26 : decode cX0_keeps 26 = .ok (.iload_n 1, 1) := dk_27 (dk_at dksX0_keeps_1 3 rfl rfl)
theorem dX0_keeps_27 : decode cX0_keeps 27 = .ok (.invokevirtual 136, 3) := dk_182 0 136 (dk_at dksX0_keeps_1 4 rfl rfl)
theorem dX0_keeps_30 : decode cX0_keeps 30 = .ok (.checkcast 151, 3) := dk_192 0 151 (dk_at dksX0_keeps_1 7 rfl rfl)
theorem dX0_keeps_33 : decode cX0_keeps 33 = .ok (.astore_n 2, 1) := dk_77 (dk_at dksX0_keeps_1 10 rfl rfl)
theorem dX0_keeps_34 : decode cX0_keeps 34 = .ok (.aload_n 0, 1) := dk_42 (dk_at dksX0_keeps_1 11 rfl rfl)
theorem dX0_keeps_35 : decode cX0_keeps 35 = .ok (.getfield 14, 3) := dk_180 0 14 (dk_at dksX0_keeps_1 12 rfl rfl)
theorem dX0_keeps_38 : decode cX0_keeps 38 = .ok (.getfield 133, 3) := dk_180 0 133 (dk_at dksX0_keeps_1 15 rfl rfl)
theorem dX0_keeps_41 : decode cX0_keeps 41 = .ok (.aload_n 2, 1) := dk_44 (dk_at dksX0_keeps_1 18 rfl rfl)
theorem dX0_keeps_42 : decode cX0_keeps 42 = .ok (.getfield 212, 3) := dk_180 0 212 (dk_at dksX0_keeps_1 19 rfl rfl)
theorem dX0_keeps_45 : decode cX0_keeps 45 = .ok (.invokevirtual 136, 3) := dk_182 0 136 (dk_at dksX0_keeps_2 0 rfl rfl)
theorem dX0_keeps_48 : decode cX0_keeps 48 = .ok (.checkcast 140, 3) := dk_192 0 140 (dk_at dksX0_keeps_2 3 rfl rfl)
theorem dX0_keeps_51 : decode cX0_keeps 51 = .ok (.getfield 234, 3) := dk_180 0 234 (dk_at dksX0_keeps_2 6 rfl rfl)
theorem dX0_keeps_54 : decode cX0_keeps 54 = .ok (.istore_n 3, 1) := dk_62 (dk_at dksX0_keeps_2 9 rfl rfl)
theorem dX0_keeps_55 : decode cX0_keeps 55 = .ok (.aload_n 0, 1) := dk_42 (dk_at dksX0_keeps_2 10 rfl rfl)
theorem dX0_keeps_56 : decode cX0_keeps 56 = .ok (.getfield 47, 3) := dk_180 0 47 (dk_at dksX0_keeps_2 11 rfl rfl)
theorem dX0_keeps_59 : decode cX0_keeps 59 = .ok (.iload_n 1, 1) := dk_27 (dk_at dksX0_keeps_2 14 rfl rfl)
theorem dX0_keeps_60 : decode cX0_keeps 60 = .ok (.iconst 2, 1) := dk_5 (dk_at dksX0_keeps_2 15 rfl rfl)
theorem dX0_keeps_61 : decode cX0_keeps 61 = .ok (.iastore, 1) := dk_79 (dk_at dksX0_keeps_2 16 rfl rfl)
theorem dX0_keeps_62 : decode cX0_keeps 62 = .ok (.aload_n 0, 1) := dk_42 (dk_at dksX0_keeps_2 17 rfl rfl)
theorem dX0_keeps_63 : decode cX0_keeps 63 = .ok (.getfield 40, 3) := dk_180 0 40 (dk_at dksX0_keeps_2 18 rfl rfl)
theorem dX0_keeps_66 : decode cX0_keeps 66 = .ok (.aload_n 2, 1) := dk_44 (dk_at dksX0_keeps_2 21 rfl rfl)
theorem dX0_keeps_67 : decode cX0_keeps 67 = .ok (.getfield 212, 3) := dk_180 0 212 (dk_at dksX0_keeps_3 0 rfl rfl)
theorem dX0_keeps_70 : decode cX0_keeps 70 = .ok (.aload_n 0, 1) := dk_42 (dk_at dksX0_keeps_3 3 rfl rfl)
theorem dX0_keeps_71 : decode cX0_keeps 71 = .ok (.getfield 40, 3) := dk_180 0 40 (dk_at dksX0_keeps_3 4 rfl rfl)
theorem dX0_keeps_74 : decode cX0_keeps 74 = .ok (.aload_n 2, 1) := dk_44 (dk_at dksX0_keeps_3 7 rfl rfl)
theorem dX0_keeps_75 : decode cX0_keeps 75 = .ok (.getfield 212, 3) := dk_180 0 212 (dk_at dksX0_keeps_3 8 rfl rfl)
theorem dX0_keeps_78 : decode cX0_keeps 78 = .ok (.iaload, 1) := dk_46 (dk_at dksX0_keeps_3 11 rfl rfl)
theorem dX0_keeps_79 : decode cX0_keeps 79 = .ok (.iload_n 3, 1) := dk_29 (dk_at dksX0_keeps_3 12 rfl rfl)
theorem dX0_keeps_80 : decode cX0_keeps 80 = .ok (.if_icmp .ge 24, 3) := dk_162 0 24 (dk_at dksX0_keeps_3 13 rfl rfl)
theorem dX0_keeps_83 : decode cX0_keeps 83 = .ok (.aload_n 0, 1) := dk_42 (dk_at dksX0_keeps_3 16 rfl rfl)
theorem dX0_keeps_84 : decode cX0_keeps 84 = .ok (.getfield 40, 3) := dk_180 0 40 (dk_at dksX0_keeps_3 17 rfl rfl)
theorem dX0_keeps_87 : decode cX0_keeps 87 = .ok (.aload_n 2, 1) := dk_44 (dk_at dksX0_keeps_3 20 rfl rfl)
theorem dX0_keeps_88 : decode cX0_keeps 88 = .ok (.getfield 212, 3) := dk_180 0 212 (dk_at dksX0_keeps_3 21 rfl rfl)
theorem dX0_keeps_91 : decode cX0_keeps 91 = .ok (.iaload, 1) := dk_46 (dk_at dksX0_keeps_4 0 rfl rfl)
theorem dX0_keeps_92 : decode cX0_keeps 92 = .ok (.aload_n 2, 1) := dk_44 (dk_at dksX0_keeps_4 1 rfl rfl)
theorem dX0_keeps_93 : decode cX0_keeps 93 = .ok (.getfield 219, 3) := dk_180 0 219 (dk_at dksX0_keeps_4 2 rfl rfl)
theorem dX0_keeps_96 : decode cX0_keeps 96 = .ok (.iadd, 1) := dk_96 (dk_at dksX0_keeps_4 5 rfl rfl)
theorem dX0_keeps_97 : decode cX0_keeps 97 = .ok (.iload_n 3, 1) := dk_29 (dk_at dksX0_keeps_4 6 rfl rfl)
theorem dX0_keeps_98 : decode cX0_keeps 98 = .ok (.invokestatic 206, 3) := dk_184 0 206 (dk_at dksX0_keeps_4 7 rfl rfl)
theorem dX0_keeps_101 : decode cX0_keeps 101 = .ok (.goto 21, 3) := dk_167 0 21 (dk_at dksX0_keeps_4 10 rfl rfl)
theorem dX0_keeps_104 : decode cX0_keeps 104 = .ok (.aload_n 0, 1) := dk_42 (dk_at dksX0_keeps_4 13 rfl rfl)
theorem dX0_keeps_105 : decode cX0_keeps 105 = .ok (.getfield 40, 3) := dk_180 0 40 (dk_at dksX0_keeps_4 14 rfl rfl)
theorem dX0_keeps_108 : decode cX0_keeps 108 = .ok (.aload_n 2, 1) := dk_44 (dk_at dksX0_keeps_4 17 rfl rfl)
theorem dX0_keeps_109 : decode cX0_keeps 109 = .ok (.getfield 212, 3) := dk_180 0 212 (dk_at dksX0_keeps_4 18 rfl rfl)
theorem dX0_keeps_112 : decode cX0_keeps 112 = .ok (.iaload, 1) := dk_46 (dk_at dksX0_keeps_4 21 rfl rfl)
theorem dX0_keeps_113 : decode cX0_keeps 113 = .ok (.aload_n 2, 1) := dk_44 (dk_at dksX0_keeps_4 22 rfl rfl)
theorem dX0_keeps_114 : decode cX0_keeps 114 = .ok (.getfield 219, 3) := dk_180 0 219 (dk_at dksX0_keeps_5 0 rfl rfl)
theorem dX0_keeps_117 : decode cX0_keeps 117 = .ok (.isub, 1) := dk_100 (dk_at dksX0_keeps_5 3 rfl rfl)
theorem dX0_keeps_118 : decode cX0_keeps 118 = .ok (.iload_n 3, 1) := dk_29 (dk_at dksX0_keeps_5 4 rfl rfl)
theorem dX0_keeps_119 : decode cX0_keeps 119 = .ok (.invokestatic 201, 3) := dk_184 0 201 (dk_at dksX0_keeps_5 5 rfl rfl)
theorem dX0_keeps_122 : decode cX0_keeps 122 = .ok (.iastore, 1) := dk_79 (dk_at dksX0_keeps_5 8 rfl rfl)
theorem dX0_keeps_123 : decode cX0_keeps 123 = .ok (.return_, 1) := dk_177 (dk_at dksX0_keeps_5 9 rfl rfl)
abbrev cX0_breaks : ByteArray := prog_1_method_27_code
def yX0_breaks : MethodName := ⟨RX0, "breaks", "(I)V"⟩
def dkwX0_breaks_4 : List UInt8 := [180, 0, 215, 45, 180, 0, 219, 182, 0, 239, 116, 182, 0, 227, 132, 2, 1, 167, 255, 147, 177]
abbrev dktX0_breaks_4 : List UInt8 := dkwX0_breaks_4 ++ []
def dkwX0_breaks_3 : List UInt8 := [96, 79, 42, 45, 180, 0, 212, 42, 180, 0, 14, 180, 0, 133, 45, 180, 0, 212, 182, 0, 136, 192, 0, 140]
abbrev dktX0_breaks_3 : List UInt8 := dkwX0_breaks_3 ++ dktX0_breaks_4
def dkwX0_breaks_2 : List UInt8 := [159, 0, 6, 167, 0, 59, 42, 180, 0, 47, 28, 6, 79, 42, 180, 0, 44, 45, 180, 0, 212, 92, 46, 4]
abbrev dktX0_breaks_2 : List UInt8 := dkwX0_breaks_2 ++ dktX0_breaks_3
def dkwX0_breaks_1 : List UInt8 := [182, 0, 136, 192, 0, 151, 78, 45, 180, 0, 236, 27, 160, 0, 72, 42, 180, 0, 47, 28, 46, 4]
abbrev dktX0_breaks_1 : List UInt8 := dkwX0_breaks_1 ++ dktX0_breaks_2
def dkwX0_breaks_0 : List UInt8 := [3, 61, 28, 42, 180, 0, 23, 180, 0, 150, 182, 0, 159, 162, 0, 101, 42, 180, 0, 23, 180, 0, 150, 28]
abbrev dktX0_breaks_0 : List UInt8 := dkwX0_breaks_0 ++ dktX0_breaks_1
theorem dksX0_breaks_0 : cX0_breaks.data.toList.drop 0 = dktX0_breaks_0 := by decide +kernel
theorem dksX0_breaks_1 : cX0_breaks.data.toList.drop 24 = dktX0_breaks_1 := dk_seg dksX0_breaks_0 24 rfl rfl
theorem dksX0_breaks_2 : cX0_breaks.data.toList.drop 46 = dktX0_breaks_2 := dk_seg dksX0_breaks_1 22 rfl rfl
theorem dksX0_breaks_3 : cX0_breaks.data.toList.drop 70 = dktX0_breaks_3 := dk_seg dksX0_breaks_2 24 rfl rfl
theorem dksX0_breaks_4 : cX0_breaks.data.toList.drop 94 = dktX0_breaks_4 := dk_seg dksX0_breaks_3 24 rfl rfl
theorem dX0_breaks_0 : decode cX0_breaks 0 = .ok (.iconst 0, 1) := dk_3 (dk_at dksX0_breaks_0 0 rfl rfl)
theorem dX0_breaks_1 : decode cX0_breaks 1 = .ok (.istore_n 2, 1) := dk_61 (dk_at dksX0_breaks_0 1 rfl rfl)
theorem dX0_breaks_2 : decode cX0_breaks 2 = .ok (.iload_n 2, 1) := dk_28 (dk_at dksX0_breaks_0 2 rfl rfl)
theorem dX0_breaks_3 : decode cX0_breaks 3 = .ok (.aload_n 0, 1) := dk_42 (dk_at dksX0_breaks_0 3 rfl rfl)
theorem dX0_breaks_4 : decode cX0_breaks 4 = .ok (.getfield 23, 3) := dk_180 0 23 (dk_at dksX0_breaks_0 4 rfl rfl)
theorem dX0_breaks_7 : decode cX0_breaks 7 = .ok (.getfield 150, 3) := dk_180 0 150 (dk_at dksX0_breaks_0 7 rfl rfl)
theorem dX0_breaks_10 : decode cX0_breaks 10 = .ok (.invokevirtual 159, 3) := dk_182 0 159 (dk_at dksX0_breaks_0 10 rfl rfl)
theorem dX0_breaks_13 : decode cX0_breaks 13 = .ok (.if_icmp .ge 101, 3) := dk_162 0 101 (dk_at dksX0_breaks_0 13 rfl rfl)
theorem dX0_breaks_16 : decode cX0_breaks 16 = .ok (.aload_n 0, 1) := dk_42 (dk_at dksX0_breaks_0 16 rfl rfl)
theorem dX0_breaks_17 : decode cX0_breaks 17 = .ok (.getfield 23, 3) := dk_180 0 23 (dk_at dksX0_breaks_0 17 rfl rfl)
theorem dX0_breaks_20 : decode cX0_breaks 20 = .ok (.getfield 150, 3) := dk_180 0 150 (dk_at dksX0_breaks_0 20 rfl rfl)
theorem dX0_breaks_23 : decode cX0_breaks 23 = .ok (.iload_n 2, 1) := dk_28 (dk_at dksX0_breaks_0 23 rfl rfl)
theorem dX0_breaks_24 : decode cX0_breaks 24 = .ok (.invokevirtual 136, 3) := dk_182 0 136 (dk_at dksX0_breaks_1 0 rfl rfl)
theorem dX0_breaks_27 : decode cX0_breaks 27 = .ok (.checkcast 151, 3) := dk_192 0 151 (dk_at dksX0_breaks_1 3 rfl rfl)
theorem dX0_breaks_30 : decode cX0_breaks 30 = .ok (.astore_n 3, 1) := dk_78 (dk_at dksX0_breaks_1 6 rfl rfl)
theorem dX0_breaks_31 : decode cX0_breaks 31 = .ok (.aload_n 3, 1) := dk_45 (dk_at dksX0_breaks_1 7 rfl rfl)
theorem dX0_breaks_32 : decode cX0_breaks 32 = .ok (.getfield 236, 3) := dk_180 0 236 (dk_at dksX0_breaks_1 8 rfl rfl)
theorem dX0_breaks_35 : decode cX0_breaks 35 = .ok (.iload_n 1, 1) := dk_27 (dk_at dksX0_breaks_1 11 rfl rfl)
theorem dX0_breaks_36 : decode cX0_breaks 36 = .ok (.if_icmp .ne 72, 3) := dk_160 0 72 (dk_at dksX0_breaks_1 12 rfl rfl)
theorem dX0_breaks_39 : decode cX0_breaks 39 = .ok (.aload_n 0, 1) := dk_42 (dk_at dksX0_breaks_1 15 rfl rfl)
theorem dX0_breaks_40 : decode cX0_breaks 40 = .ok (.getfield 47, 3) := dk_180 0 47 (dk_at dksX0_breaks_1 16 rfl rfl)
theorem dX0_breaks_43 : decode cX0_breaks 43 = .ok (.iload_n 2, 1) := dk_28 (dk_at dksX0_breaks_1 19 rfl rfl)
theorem dX0_breaks_44 : decode cX0_breaks 44 = .ok (.iaload, 1) := dk_46 (dk_at dksX0_breaks_1 20 rfl rfl)
theorem dX0_breaks_45 : decode cX0_breaks 45 = .ok (.iconst 1, 1) := dk_4 (dk_at dksX0_breaks_1 21 rfl rfl)
theorem dX0_breaks_46 : decode cX0_breaks 46 = .ok (.if_icmp .eq 6, 3) := dk_159 0 6 (dk_at dksX0_breaks_2 0 rfl rfl)
theorem dX0_breaks_49 : decode cX0_breaks 49 = .ok (.goto 59, 3) := dk_167 0 59 (dk_at dksX0_breaks_2 3 rfl rfl)
theorem dX0_breaks_52 : decode cX0_breaks 52 = .ok (.aload_n 0, 1) := dk_42 (dk_at dksX0_breaks_2 6 rfl rfl)
theorem dX0_breaks_53 : decode cX0_breaks 53 = .ok (.getfield 47, 3) := dk_180 0 47 (dk_at dksX0_breaks_2 7 rfl rfl)
theorem dX0_breaks_56 : decode cX0_breaks 56 = .ok (.iload_n 2, 1) := dk_28 (dk_at dksX0_breaks_2 10 rfl rfl)
theorem dX0_breaks_57 : decode cX0_breaks 57 = .ok (.iconst 3, 1) := dk_6 (dk_at dksX0_breaks_2 11 rfl rfl)
theorem dX0_breaks_58 : decode cX0_breaks 58 = .ok (.iastore, 1) := dk_79 (dk_at dksX0_breaks_2 12 rfl rfl)
theorem dX0_breaks_59 : decode cX0_breaks 59 = .ok (.aload_n 0, 1) := dk_42 (dk_at dksX0_breaks_2 13 rfl rfl)
theorem dX0_breaks_60 : decode cX0_breaks 60 = .ok (.getfield 44, 3) := dk_180 0 44 (dk_at dksX0_breaks_2 14 rfl rfl)
theorem dX0_breaks_63 : decode cX0_breaks 63 = .ok (.aload_n 3, 1) := dk_45 (dk_at dksX0_breaks_2 17 rfl rfl)
theorem dX0_breaks_64 : decode cX0_breaks 64 = .ok (.getfield 212, 3) := dk_180 0 212 (dk_at dksX0_breaks_2 18 rfl rfl)
theorem dX0_breaks_67 : decode cX0_breaks 67 = .ok (.dup2, 1) := dk_92 (dk_at dksX0_breaks_2 21 rfl rfl)
theorem dX0_breaks_68 : decode cX0_breaks 68 = .ok (.iaload, 1) := dk_46 (dk_at dksX0_breaks_2 22 rfl rfl)
theorem dX0_breaks_69 : decode cX0_breaks 69 = .ok (.iconst 1, 1) := dk_4 (dk_at dksX0_breaks_2 23 rfl rfl)
theorem dX0_breaks_70 : decode cX0_breaks 70 = .ok (.iadd, 1) := dk_96 (dk_at dksX0_breaks_3 0 rfl rfl)
theorem dX0_breaks_71 : decode cX0_breaks 71 = .ok (.iastore, 1) := dk_79 (dk_at dksX0_breaks_3 1 rfl rfl)
theorem dX0_breaks_72 : decode cX0_breaks 72 = .ok (.aload_n 0, 1) := dk_42 (dk_at dksX0_breaks_3 2 rfl rfl)
theorem dX0_breaks_73 : decode cX0_breaks 73 = .ok (.aload_n 3, 1) := dk_45 (dk_at dksX0_breaks_3 3 rfl rfl)
theorem dX0_breaks_74 : decode cX0_breaks 74 = .ok (.getfield 212, 3) := dk_180 0 212 (dk_at dksX0_breaks_3 4 rfl rfl)
theorem dX0_breaks_77 : decode cX0_breaks 77 = .ok (.aload_n 0, 1) := dk_42 (dk_at dksX0_breaks_3 7 rfl rfl)
theorem dX0_breaks_78 : decode cX0_breaks 78 = .ok (.getfield 14, 3) := dk_180 0 14 (dk_at dksX0_breaks_3 8 rfl rfl)
theorem dX0_breaks_81 : decode cX0_breaks 81 = .ok (.getfield 133, 3) := dk_180 0 133 (dk_at dksX0_breaks_3 11 rfl rfl)
theorem dX0_breaks_84 : decode cX0_breaks 84 = .ok (.aload_n 3, 1) := dk_45 (dk_at dksX0_breaks_3 14 rfl rfl)
theorem dX0_breaks_85 : decode cX0_breaks 85 = .ok (.getfield 212, 3) := dk_180 0 212 (dk_at dksX0_breaks_3 15 rfl rfl)
theorem dX0_breaks_88 : decode cX0_breaks 88 = .ok (.invokevirtual 136, 3) := dk_182 0 136 (dk_at dksX0_breaks_3 18 rfl rfl)
theorem dX0_breaks_91 : decode cX0_breaks 91 = .ok (.checkcast 140, 3) := dk_192 0 140 (dk_at dksX0_breaks_3 21 rfl rfl)
theorem dX0_breaks_94 : decode cX0_breaks 94 = .ok (.getfield 215, 3) := dk_180 0 215 (dk_at dksX0_breaks_4 0 rfl rfl)
theorem dX0_breaks_97 : decode cX0_breaks 97 = .ok (.aload_n 3, 1) := dk_45 (dk_at dksX0_breaks_4 3 rfl rfl)
theorem dX0_breaks_98 : decode cX0_breaks 98 = .ok (.getfield 219, 3) := dk_180 0 219 (dk_at dksX0_breaks_4 4 rfl rfl)
theorem dX0_breaks_101 : decode cX0_breaks 101 = .ok (.invokevirtual 239, 3) := dk_182 0 239 (dk_at dksX0_breaks_4 7 rfl rfl)
theorem dX0_breaks_104 : decode cX0_breaks 104 = .ok (.ineg, 1) := dk_116 (dk_at dksX0_breaks_4 10 rfl rfl)
theorem dX0_breaks_105 : decode cX0_breaks 105 = .ok (.invokevirtual 227, 3) := dk_182 0 227 (dk_at dksX0_breaks_4 11 rfl rfl)
theorem dX0_breaks_108 : decode cX0_breaks 108 = .ok (.iinc 2 1, 3) := dk_132 2 1 (dk_at dksX0_breaks_4 14 rfl rfl)
theorem dX0_breaks_111 : decode cX0_breaks 111 = .ok (.goto (-109), 3) := dk_167 255 147 (dk_at dksX0_breaks_4 17 rfl rfl)
theorem dX0_breaks_114 : decode cX0_breaks 114 = .ok (.return_, 1) := dk_177 (dk_at dksX0_breaks_4 20 rfl rfl)
abbrev cX0_coatBy : ByteArray := prog_1_method_31_code
def yX0_coatBy : MethodName := ⟨RX0, "coatBy", "(III)I"⟩
def dkwX0_coatBy_1 : List UInt8 := [182, 1, 18, 153, 0, 7, 4, 167, 0, 15, 3, 167, 0, 11, 42, 180, 0, 55, 27, 50, 28, 46, 172]
abbrev dktX0_coatBy_1 : List UInt8 := dkwX0_coatBy_1 ++ []
def dkwX0_coatBy_0 : List UInt8 := [29, 154, 0, 14, 42, 180, 0, 52, 27, 50, 28, 46, 167, 0, 33, 29, 4, 160, 0, 20, 42, 27, 28]
abbrev dktX0_coatBy_0 : List UInt8 := dkwX0_coatBy_0 ++ dktX0_coatBy_1
theorem dksX0_coatBy_0 : cX0_coatBy.data.toList.drop 0 = dktX0_coatBy_0 := by decide +kernel
theorem dksX0_coatBy_1 : cX0_coatBy.data.toList.drop 23 = dktX0_coatBy_1 := dk_seg dksX0_coatBy_0 23 rfl rfl
theorem dX0_coatBy_0 : decode cX0_coatBy 0 = .ok (.iload_n 3, 1) := dk_29 (dk_at dksX0_coatBy_0 0 rfl rfl)
theorem dX0_coatBy_1 : decode cX0_coatBy 1 = .ok (.ifCond .ne 14, 3) := dk_154 0 14 (dk_at dksX0_coatBy_0 1 rfl rfl)
theorem dX0_coatBy_4 : decode cX0_coatBy 4 = .ok (.aload_n 0, 1) := dk_42 (dk_at dksX0_coatBy_0 4 rfl rfl)
theorem dX0_coatBy_5 : decode cX0_coatBy 5 = .ok (.getfield 52, 3) := dk_180 0 52 (dk_at dksX0_coatBy_0 5 rfl rfl)
theorem dX0_coatBy_8 : decode cX0_coatBy 8 = .ok (.iload_n 1, 1) := dk_27 (dk_at dksX0_coatBy_0 8 rfl rfl)
theorem dX0_coatBy_9 : decode cX0_coatBy 9 = .ok (.aaload, 1) := dk_50 (dk_at dksX0_coatBy_0 9 rfl rfl)
theorem dX0_coatBy_10 : decode cX0_coatBy 10 = .ok (.iload_n 2, 1) := dk_28 (dk_at dksX0_coatBy_0 10 rfl rfl)
theorem dX0_coatBy_11 : decode cX0_coatBy 11 = .ok (.iaload, 1) := dk_46 (dk_at dksX0_coatBy_0 11 rfl rfl)
theorem dX0_coatBy_12 : decode cX0_coatBy 12 = .ok (.goto 33, 3) := dk_167 0 33 (dk_at dksX0_coatBy_0 12 rfl rfl)
theorem dX0_coatBy_15 : decode cX0_coatBy 15 = .ok (.iload_n 3, 1) := dk_29 (dk_at dksX0_coatBy_0 15 rfl rfl)
theorem dX0_coatBy_16 : decode cX0_coatBy 16 = .ok (.iconst 1, 1) := dk_4 (dk_at dksX0_coatBy_0 16 rfl rfl)
theorem dX0_coatBy_17 : decode cX0_coatBy 17 = .ok (.if_icmp .ne 20, 3) := dk_160 0 20 (dk_at dksX0_coatBy_0 17 rfl rfl)
theorem dX0_coatBy_20 : decode cX0_coatBy 20 = .ok (.aload_n 0, 1) := dk_42 (dk_at dksX0_coatBy_0 20 rfl rfl)
theorem dX0_coatBy_21 : decode cX0_coatBy 21 = .ok (.iload_n 1, 1) := dk_27 (dk_at dksX0_coatBy_0 21 rfl rfl)
theorem dX0_coatBy_22 : decode cX0_coatBy 22 = .ok (.iload_n 2, 1) := dk_28 (dk_at dksX0_coatBy_0 22 rfl rfl)
theorem dX0_coatBy_23 : decode cX0_coatBy 23 = .ok (.invokevirtual 274, 3) := dk_182 1 18 (dk_at dksX0_coatBy_1 0 rfl rfl)
theorem dX0_coatBy_26 : decode cX0_coatBy 26 = .ok (.ifCond .eq 7, 3) := dk_153 0 7 (dk_at dksX0_coatBy_1 3 rfl rfl)
theorem dX0_coatBy_29 : decode cX0_coatBy 29 = .ok (.iconst 1, 1) := dk_4 (dk_at dksX0_coatBy_1 6 rfl rfl)
theorem dX0_coatBy_30 : decode cX0_coatBy 30 = .ok (.goto 15, 3) := dk_167 0 15 (dk_at dksX0_coatBy_1 7 rfl rfl)
theorem dX0_coatBy_33 : decode cX0_coatBy 33 = .ok (.iconst 0, 1) := dk_3 (dk_at dksX0_coatBy_1 10 rfl rfl)
theorem dX0_coatBy_34 : decode cX0_coatBy 34 = .ok (.goto 11, 3) := dk_167 0 11 (dk_at dksX0_coatBy_1 11 rfl rfl)
theorem dX0_coatBy_37 : decode cX0_coatBy 37 = .ok (.aload_n 0, 1) := dk_42 (dk_at dksX0_coatBy_1 14 rfl rfl)
theorem dX0_coatBy_38 : decode cX0_coatBy 38 = .ok (.getfield 55, 3) := dk_180 0 55 (dk_at dksX0_coatBy_1 15 rfl rfl)
theorem dX0_coatBy_41 : decode cX0_coatBy 41 = .ok (.iload_n 1, 1) := dk_27 (dk_at dksX0_coatBy_1 18 rfl rfl)
theorem dX0_coatBy_42 : decode cX0_coatBy 42 = .ok (.aaload, 1) := dk_50 (dk_at dksX0_coatBy_1 19 rfl rfl)
theorem dX0_coatBy_43 : decode cX0_coatBy 43 = .ok (.iload_n 2, 1) := dk_28 (dk_at dksX0_coatBy_1 20 rfl rfl)
theorem dX0_coatBy_44 : decode cX0_coatBy 44 = .ok (.iaload, 1) := dk_46 (dk_at dksX0_coatBy_1 21 rfl rfl)
theorem dX0_coatBy_45 : decode cX0_coatBy 45 = .ok (.ireturn, 1) := dk_172 (dk_at dksX0_coatBy_1 22 rfl rfl)
abbrev cX0_isFit : ByteArray := prog_1_method_30_code
def yX0_isFit : MethodName := ⟨RX0, "isFit", "(II)Z"⟩
def dkwX0_isFit_1 : List UInt8 := [180, 0, 234, 100, 133, 9, 10, 184, 0, 94, 172]
abbrev dktX0_isFit_1 : List UInt8 := dkwX0_isFit_1 ++ []
def dkwX0_isFit_0 : List UInt8 := [42, 180, 0, 52, 27, 50, 28, 46, 42, 180, 0, 14, 180, 0, 133, 28, 182, 0, 136, 192, 0, 140]
abbrev dktX0_isFit_0 : List UInt8 := dkwX0_isFit_0 ++ dktX0_isFit_1
theorem dksX0_isFit_0 : cX0_isFit.data.toList.drop 0 = dktX0_isFit_0 := by decide +kernel
theorem dksX0_isFit_1 : cX0_isFit.data.toList.drop 22 = dktX0_isFit_1 := dk_seg dksX0_isFit_0 22 rfl rfl
theorem dX0_isFit_0 : decode cX0_isFit 0 = .ok (.aload_n 0, 1) := dk_42 (dk_at dksX0_isFit_0 0 rfl rfl)
theorem dX0_isFit_1 : decode cX0_isFit 1 = .ok (.getfield 52, 3) := dk_180 0 52 (dk_at dksX0_isFit_0 1 rfl rfl)
theorem dX0_isFit_4 : decode cX0_isFit 4 = .ok (.iload_n 1, 1) := dk_27 (dk_at dksX0_isFit_0 4 rfl rfl)
theorem dX0_isFit_5 : decode cX0_isFit 5 = .ok (.aaload, 1) := dk_50 (dk_at dksX0_isFit_0 5 rfl rfl)
theorem dX0_isFit_6 : decode cX0_isFit 6 = .ok (.iload_n 2, 1) := dk_28 (dk_at dksX0_isFit_0 6 rfl rfl)
theorem dX0_isFit_7 : decode cX0_isFit 7 = .ok (.iaload, 1) := dk_46 (dk_at dksX0_isFit_0 7 rfl rfl)
theorem dX0_isFit_8 : decode cX0_isFit 8 = .ok (.aload_n 0, 1) := dk_42 (dk_at dksX0_isFit_0 8 rfl rfl)
theorem dX0_isFit_9 : decode cX0_isFit 9 = .ok (.getfield 14, 3) := dk_180 0 14 (dk_at dksX0_isFit_0 9 rfl rfl)
theorem dX0_isFit_12 : decode cX0_isFit 12 = .ok (.getfield 133, 3) := dk_180 0 133 (dk_at dksX0_isFit_0 12 rfl rfl)
theorem dX0_isFit_15 : decode cX0_isFit 15 = .ok (.iload_n 2, 1) := dk_28 (dk_at dksX0_isFit_0 15 rfl rfl)
theorem dX0_isFit_16 : decode cX0_isFit 16 = .ok (.invokevirtual 136, 3) := dk_182 0 136 (dk_at dksX0_isFit_0 16 rfl rfl)
theorem dX0_isFit_19 : decode cX0_isFit 19 = .ok (.checkcast 140, 3) := dk_192 0 140 (dk_at dksX0_isFit_0 19 rfl rfl)
theorem dX0_isFit_22 : decode cX0_isFit 22 = .ok (.getfield 234, 3) := dk_180 0 234 (dk_at dksX0_isFit_1 0 rfl rfl)
theorem dX0_isFit_25 : decode cX0_isFit 25 = .ok (.isub, 1) := dk_100 (dk_at dksX0_isFit_1 3 rfl rfl)
theorem dX0_isFit_26 : decode cX0_isFit 26 = .ok (.i2l, 1) := dk_133 (dk_at dksX0_isFit_1 4 rfl rfl)
theorem dX0_isFit_27 : decode cX0_isFit 27 = .ok (.lconst 0, 1) := dk_9 (dk_at dksX0_isFit_1 5 rfl rfl)
theorem dX0_isFit_28 : decode cX0_isFit 28 = .ok (.lconst 1, 1) := dk_10 (dk_at dksX0_isFit_1 6 rfl rfl)
theorem dX0_isFit_29 : decode cX0_isFit 29 = .ok (.invokestatic 94, 3) := dk_184 0 94 (dk_at dksX0_isFit_1 7 rfl rfl)
theorem dX0_isFit_32 : decode cX0_isFit 32 = .ok (.ireturn, 1) := dk_172 (dk_at dksX0_isFit_1 10 rfl rfl)
abbrev cX0_stands : ByteArray := prog_1_method_33_code
def yX0_stands : MethodName := ⟨RX0, "stands", "(II)I"⟩
def dkwX0_stands_1 : List UInt8 := [50, 28, 46, 167, 0, 5, 16, 254, 172]
abbrev dktX0_stands_1 : List UInt8 := dkwX0_stands_1 ++ []
def dkwX0_stands_0 : List UInt8 := [42, 182, 1, 21, 27, 184, 0, 154, 153, 0, 22, 42, 28, 182, 0, 145, 153, 0, 14, 42, 180, 0, 58, 27]
abbrev dktX0_stands_0 : List UInt8 := dkwX0_stands_0 ++ dktX0_stands_1
theorem dksX0_stands_0 : cX0_stands.data.toList.drop 0 = dktX0_stands_0 := by decide +kernel
theorem dksX0_stands_1 : cX0_stands.data.toList.drop 24 = dktX0_stands_1 := dk_seg dksX0_stands_0 24 rfl rfl
theorem dX0_stands_0 : decode cX0_stands 0 = .ok (.aload_n 0, 1) := dk_42 (dk_at dksX0_stands_0 0 rfl rfl)
theorem dX0_stands_1 : decode cX0_stands 1 = .ok (.invokevirtual 277, 3) := dk_182 1 21 (dk_at dksX0_stands_0 1 rfl rfl)
theorem dX0_stands_4 : decode cX0_stands 4 = .ok (.iload_n 1, 1) := dk_27 (dk_at dksX0_stands_0 4 rfl rfl)
theorem dX0_stands_5 : decode cX0_stands 5 = .ok (.invokestatic 154, 3) := dk_184 0 154 (dk_at dksX0_stands_0 5 rfl rfl)
theorem dX0_stands_8 : decode cX0_stands 8 = .ok (.ifCond .eq 22, 3) := dk_153 0 22 (dk_at dksX0_stands_0 8 rfl rfl)
theorem dX0_stands_11 : decode cX0_stands 11 = .ok (.aload_n 0, 1) := dk_42 (dk_at dksX0_stands_0 11 rfl rfl)
theorem dX0_stands_12 : decode cX0_stands 12 = .ok (.iload_n 2, 1) := dk_28 (dk_at dksX0_stands_0 12 rfl rfl)
theorem dX0_stands_13 : decode cX0_stands 13 = .ok (.invokevirtual 145, 3) := dk_182 0 145 (dk_at dksX0_stands_0 13 rfl rfl)
theorem dX0_stands_16 : decode cX0_stands 16 = .ok (.ifCond .eq 14, 3) := dk_153 0 14 (dk_at dksX0_stands_0 16 rfl rfl)
theorem dX0_stands_19 : decode cX0_stands 19 = .ok (.aload_n 0, 1) := dk_42 (dk_at dksX0_stands_0 19 rfl rfl)
theorem dX0_stands_20 : decode cX0_stands 20 = .ok (.getfield 58, 3) := dk_180 0 58 (dk_at dksX0_stands_0 20 rfl rfl)
theorem dX0_stands_23 : decode cX0_stands 23 = .ok (.iload_n 1, 1) := dk_27 (dk_at dksX0_stands_0 23 rfl rfl)
theorem dX0_stands_24 : decode cX0_stands 24 = .ok (.aaload, 1) := dk_50 (dk_at dksX0_stands_1 0 rfl rfl)
theorem dX0_stands_25 : decode cX0_stands 25 = .ok (.iload_n 2, 1) := dk_28 (dk_at dksX0_stands_1 1 rfl rfl)
theorem dX0_stands_26 : decode cX0_stands 26 = .ok (.iaload, 1) := dk_46 (dk_at dksX0_stands_1 2 rfl rfl)
theorem dX0_stands_27 : decode cX0_stands 27 = .ok (.goto 5, 3) := dk_167 0 5 (dk_at dksX0_stands_1 3 rfl rfl)
theorem dX0_stands_30 : decode cX0_stands 30 = .ok (.bipush (-2), 2) := dk_16 254 (dk_at dksX0_stands_1 6 rfl rfl)
theorem dX0_stands_32 : decode cX0_stands 32 = .ok (.ireturn, 1) := dk_172 (dk_at dksX0_stands_1 8 rfl rfl)
abbrev cX0_neat : ByteArray := prog_1_method_35_code
def yX0_neat : MethodName := ⟨RX0, "neat", "(I)I"⟩
def dkwX0_neat_0 : List UInt8 := [42, 182, 1, 21, 27, 184, 0, 154, 153, 0, 11, 42, 27, 182, 1, 28, 167, 0, 5, 16, 254, 172]
abbrev dktX0_neat_0 : List UInt8 := dkwX0_neat_0 ++ []
theorem dksX0_neat_0 : cX0_neat.data.toList.drop 0 = dktX0_neat_0 := by decide +kernel
theorem dX0_neat_0 : decode cX0_neat 0 = .ok (.aload_n 0, 1) := dk_42 (dk_at dksX0_neat_0 0 rfl rfl)
theorem dX0_neat_1 : decode cX0_neat 1 = .ok (.invokevirtual 277, 3) := dk_182 1 21 (dk_at dksX0_neat_0 1 rfl rfl)
theorem dX0_neat_4 : decode cX0_neat 4 = .ok (.iload_n 1, 1) := dk_27 (dk_at dksX0_neat_0 4 rfl rfl)
theorem dX0_neat_5 : decode cX0_neat 5 = .ok (.invokestatic 154, 3) := dk_184 0 154 (dk_at dksX0_neat_0 5 rfl rfl)
theorem dX0_neat_8 : decode cX0_neat 8 = .ok (.ifCond .eq 11, 3) := dk_153 0 11 (dk_at dksX0_neat_0 8 rfl rfl)
theorem dX0_neat_11 : decode cX0_neat 11 = .ok (.aload_n 0, 1) := dk_42 (dk_at dksX0_neat_0 11 rfl rfl)
theorem dX0_neat_12 : decode cX0_neat 12 = .ok (.iload_n 1, 1) := dk_27 (dk_at dksX0_neat_0 12 rfl rfl)
theorem dX0_neat_13 : decode cX0_neat 13 = .ok (.invokevirtual 284, 3) := dk_182 1 28 (dk_at dksX0_neat_0 13 rfl rfl)
theorem dX0_neat_16 : decode cX0_neat 16 = .ok (.goto 5, 3) := dk_167 0 5 (dk_at dksX0_neat_0 16 rfl rfl)
theorem dX0_neat_19 : decode cX0_neat 19 = .ok (.bipush (-2), 2) := dk_16 254 (dk_at dksX0_neat_0 19 rfl rfl)
theorem dX0_neat_21 : decode cX0_neat 21 = .ok (.ireturn, 1) := dk_172 (dk_at dksX0_neat_0 21 rfl rfl)
abbrev cX0_neatBy : ByteArray := prog_1_method_34_code
def yX0_neatBy : MethodName := ⟨RX0, "neatBy", "(I)I"⟩
def dkwX0_neatBy_1 : List UInt8 := [153, 0, 9, 4, 29, 120, 167, 0, 4, 3, 128, 61, 132, 3, 1, 167, 255, 223, 28, 172]
abbrev dktX0_neatBy_1 : List UInt8 := dkwX0_neatBy_1 ++ []
def dkwX0_neatBy_0 : List UInt8 := [3, 61, 3, 62, 29, 42, 180, 0, 14, 182, 0, 126, 162, 0, 28, 28, 42, 27, 29, 182, 1, 18]
abbrev dktX0_neatBy_0 : List UInt8 := dkwX0_neatBy_0 ++ dktX0_neatBy_1
theorem dksX0_neatBy_0 : cX0_neatBy.data.toList.drop 0 = dktX0_neatBy_0 := by decide +kernel
theorem dksX0_neatBy_1 : cX0_neatBy.data.toList.drop 22 = dktX0_neatBy_1 := dk_seg dksX0_neatBy_0 22 rfl rfl
theorem dX0_neatBy_0 : decode cX0_neatBy 0 = .ok (.iconst 0, 1) := dk_3 (dk_at dksX0_neatBy_0 0 rfl rfl)
theorem dX0_neatBy_1 : decode cX0_neatBy 1 = .ok (.istore_n 2, 1) := dk_61 (dk_at dksX0_neatBy_0 1 rfl rfl)
theorem dX0_neatBy_2 : decode cX0_neatBy 2 = .ok (.iconst 0, 1) := dk_3 (dk_at dksX0_neatBy_0 2 rfl rfl)
theorem dX0_neatBy_3 : decode cX0_neatBy 3 = .ok (.istore_n 3, 1) := dk_62 (dk_at dksX0_neatBy_0 3 rfl rfl)
theorem dX0_neatBy_4 : decode cX0_neatBy 4 = .ok (.iload_n 3, 1) := dk_29 (dk_at dksX0_neatBy_0 4 rfl rfl)
theorem dX0_neatBy_5 : decode cX0_neatBy 5 = .ok (.aload_n 0, 1) := dk_42 (dk_at dksX0_neatBy_0 5 rfl rfl)
theorem dX0_neatBy_6 : decode cX0_neatBy 6 = .ok (.getfield 14, 3) := dk_180 0 14 (dk_at dksX0_neatBy_0 6 rfl rfl)
theorem dX0_neatBy_9 : decode cX0_neatBy 9 = .ok (.invokevirtual 126, 3) := dk_182 0 126 (dk_at dksX0_neatBy_0 9 rfl rfl)
theorem dX0_neatBy_12 : decode cX0_neatBy 12 = .ok (.if_icmp .ge 28, 3) := dk_162 0 28 (dk_at dksX0_neatBy_0 12 rfl rfl)
theorem dX0_neatBy_15 : decode cX0_neatBy 15 = .ok (.iload_n 2, 1) := dk_28 (dk_at dksX0_neatBy_0 15 rfl rfl)
theorem dX0_neatBy_16 : decode cX0_neatBy 16 = .ok (.aload_n 0, 1) := dk_42 (dk_at dksX0_neatBy_0 16 rfl rfl)
theorem dX0_neatBy_17 : decode cX0_neatBy 17 = .ok (.iload_n 1, 1) := dk_27 (dk_at dksX0_neatBy_0 17 rfl rfl)
theorem dX0_neatBy_18 : decode cX0_neatBy 18 = .ok (.iload_n 3, 1) := dk_29 (dk_at dksX0_neatBy_0 18 rfl rfl)
theorem dX0_neatBy_19 : decode cX0_neatBy 19 = .ok (.invokevirtual 274, 3) := dk_182 1 18 (dk_at dksX0_neatBy_0 19 rfl rfl)
theorem dX0_neatBy_22 : decode cX0_neatBy 22 = .ok (.ifCond .eq 9, 3) := dk_153 0 9 (dk_at dksX0_neatBy_1 0 rfl rfl)
theorem dX0_neatBy_25 : decode cX0_neatBy 25 = .ok (.iconst 1, 1) := dk_4 (dk_at dksX0_neatBy_1 3 rfl rfl)
theorem dX0_neatBy_26 : decode cX0_neatBy 26 = .ok (.iload_n 3, 1) := dk_29 (dk_at dksX0_neatBy_1 4 rfl rfl)
theorem dX0_neatBy_27 : decode cX0_neatBy 27 = .ok (.ishl, 1) := dk_120 (dk_at dksX0_neatBy_1 5 rfl rfl)
theorem dX0_neatBy_28 : decode cX0_neatBy 28 = .ok (.goto 4, 3) := dk_167 0 4 (dk_at dksX0_neatBy_1 6 rfl rfl)
theorem dX0_neatBy_31 : decode cX0_neatBy 31 = .ok (.iconst 0, 1) := dk_3 (dk_at dksX0_neatBy_1 9 rfl rfl)
theorem dX0_neatBy_32 : decode cX0_neatBy 32 = .ok (.ior, 1) := dk_128 (dk_at dksX0_neatBy_1 10 rfl rfl)
theorem dX0_neatBy_33 : decode cX0_neatBy 33 = .ok (.istore_n 2, 1) := dk_61 (dk_at dksX0_neatBy_1 11 rfl rfl)
theorem dX0_neatBy_34 : decode cX0_neatBy 34 = .ok (.iinc 3 1, 3) := dk_132 3 1 (dk_at dksX0_neatBy_1 12 rfl rfl)
theorem dX0_neatBy_37 : decode cX0_neatBy 37 = .ok (.goto (-33), 3) := dk_167 255 223 (dk_at dksX0_neatBy_1 15 rfl rfl)
theorem dX0_neatBy_40 : decode cX0_neatBy 40 = .ok (.iload_n 2, 1) := dk_28 (dk_at dksX0_neatBy_1 18 rfl rfl)
theorem dX0_neatBy_41 : decode cX0_neatBy 41 = .ok (.ireturn, 1) := dk_172 (dk_at dksX0_neatBy_1 19 rfl rfl)
abbrev cX0_naked : ByteArray := prog_1_method_37_code
def yX0_naked : MethodName := ⟨RX0, "naked", "(I)I"⟩
def dkwX0_naked_0 : List UInt8 := [42, 182, 1, 21, 27, 184, 0, 154, 153, 0, 11, 42, 27, 182, 1, 31, 167, 0, 5, 16, 254, 172]
abbrev dktX0_naked_0 : List UInt8 := dkwX0_naked_0 ++ []
theorem dksX0_naked_0 : cX0_naked.data.toList.drop 0 = dktX0_naked_0 := by decide +kernel
theorem dX0_naked_0 : decode cX0_naked 0 = .ok (.aload_n 0, 1) := dk_42 (dk_at dksX0_naked_0 0 rfl rfl)
theorem dX0_naked_1 : decode cX0_naked 1 = .ok (.invokevirtual 277, 3) := dk_182 1 21 (dk_at dksX0_naked_0 1 rfl rfl)
theorem dX0_naked_4 : decode cX0_naked 4 = .ok (.iload_n 1, 1) := dk_27 (dk_at dksX0_naked_0 4 rfl rfl)
theorem dX0_naked_5 : decode cX0_naked 5 = .ok (.invokestatic 154, 3) := dk_184 0 154 (dk_at dksX0_naked_0 5 rfl rfl)
theorem dX0_naked_8 : decode cX0_naked 8 = .ok (.ifCond .eq 11, 3) := dk_153 0 11 (dk_at dksX0_naked_0 8 rfl rfl)
theorem dX0_naked_11 : decode cX0_naked 11 = .ok (.aload_n 0, 1) := dk_42 (dk_at dksX0_naked_0 11 rfl rfl)
theorem dX0_naked_12 : decode cX0_naked 12 = .ok (.iload_n 1, 1) := dk_27 (dk_at dksX0_naked_0 12 rfl rfl)
theorem dX0_naked_13 : decode cX0_naked 13 = .ok (.invokevirtual 287, 3) := dk_182 1 31 (dk_at dksX0_naked_0 13 rfl rfl)
theorem dX0_naked_16 : decode cX0_naked 16 = .ok (.goto 5, 3) := dk_167 0 5 (dk_at dksX0_naked_0 16 rfl rfl)
theorem dX0_naked_19 : decode cX0_naked 19 = .ok (.bipush (-2), 2) := dk_16 254 (dk_at dksX0_naked_0 19 rfl rfl)
theorem dX0_naked_21 : decode cX0_naked 21 = .ok (.ireturn, 1) := dk_172 (dk_at dksX0_naked_0 21 rfl rfl)
abbrev cX0_nakedBy : ByteArray := prog_1_method_36_code
def yX0_nakedBy : MethodName := ⟨RX0, "nakedBy", "(I)I"⟩
def dkwX0_nakedBy_1 : List UInt8 := [154, 0, 9, 4, 29, 120, 167, 0, 4, 3, 128, 61, 132, 3, 1, 167, 255, 221, 28, 172]
abbrev dktX0_nakedBy_1 : List UInt8 := dkwX0_nakedBy_1 ++ []
def dkwX0_nakedBy_0 : List UInt8 := [3, 61, 3, 62, 29, 42, 180, 0, 14, 182, 0, 126, 162, 0, 30, 28, 42, 180, 0, 52, 27, 50, 29, 46]
abbrev dktX0_nakedBy_0 : List UInt8 := dkwX0_nakedBy_0 ++ dktX0_nakedBy_1
theorem dksX0_nakedBy_0 : cX0_nakedBy.data.toList.drop 0 = dktX0_nakedBy_0 := by decide +kernel
theorem dksX0_nakedBy_1 : cX0_nakedBy.data.toList.drop 24 = dktX0_nakedBy_1 := dk_seg dksX0_nakedBy_0 24 rfl rfl
theorem dX0_nakedBy_0 : decode cX0_nakedBy 0 = .ok (.iconst 0, 1) := dk_3 (dk_at dksX0_nakedBy_0 0 rfl rfl)
theorem dX0_nakedBy_1 : decode cX0_nakedBy 1 = .ok (.istore_n 2, 1) := dk_61 (dk_at dksX0_nakedBy_0 1 rfl rfl)
theorem dX0_nakedBy_2 : decode cX0_nakedBy 2 = .ok (.iconst 0, 1) := dk_3 (dk_at dksX0_nakedBy_0 2 rfl rfl)
theorem dX0_nakedBy_3 : decode cX0_nakedBy 3 = .ok (.istore_n 3, 1) := dk_62 (dk_at dksX0_nakedBy_0 3 rfl rfl)
theorem dX0_nakedBy_4 : decode cX0_nakedBy 4 = .ok (.iload_n 3, 1) := dk_29 (dk_at dksX0_nakedBy_0 4 rfl rfl)
theorem dX0_nakedBy_5 : decode cX0_nakedBy 5 = .ok (.aload_n 0, 1) := dk_42 (dk_at dksX0_nakedBy_0 5 rfl rfl)
theorem dX0_nakedBy_6 : decode cX0_nakedBy 6 = .ok (.getfield 14, 3) := dk_180 0 14 (dk_at dksX0_nakedBy_0 6 rfl rfl)
theorem dX0_nakedBy_9 : decode cX0_nakedBy 9 = .ok (.invokevirtual 126, 3) := dk_182 0 126 (dk_at dksX0_nakedBy_0 9 rfl rfl)
theorem dX0_nakedBy_12 : decode cX0_nakedBy 12 = .ok (.if_icmp .ge 30, 3) := dk_162 0 30 (dk_at dksX0_nakedBy_0 12 rfl rfl)
theorem dX0_nakedBy_15 : decode cX0_nakedBy 15 = .ok (.iload_n 2, 1) := dk_28 (dk_at dksX0_nakedBy_0 15 rfl rfl)
theorem dX0_nakedBy_16 : decode cX0_nakedBy 16 = .ok (.aload_n 0, 1) := dk_42 (dk_at dksX0_nakedBy_0 16 rfl rfl)
theorem dX0_nakedBy_17 : decode cX0_nakedBy 17 = .ok (.getfield 52, 3) := dk_180 0 52 (dk_at dksX0_nakedBy_0 17 rfl rfl)
theorem dX0_nakedBy_20 : decode cX0_nakedBy 20 = .ok (.iload_n 1, 1) := dk_27 (dk_at dksX0_nakedBy_0 20 rfl rfl)
theorem dX0_nakedBy_21 : decode cX0_nakedBy 21 = .ok (.aaload, 1) := dk_50 (dk_at dksX0_nakedBy_0 21 rfl rfl)
theorem dX0_nakedBy_22 : decode cX0_nakedBy 22 = .ok (.iload_n 3, 1) := dk_29 (dk_at dksX0_nakedBy_0 22 rfl rfl)
theorem dX0_nakedBy_23 : decode cX0_nakedBy 23 = .ok (.iaload, 1) := dk_46 (dk_at dksX0_nakedBy_0 23 rfl rfl)
theorem dX0_nakedBy_24 : decode cX0_nakedBy 24 = .ok (.ifCond .ne 9, 3) := dk_154 0 9 (dk_at dksX0_nakedBy_1 0 rfl rfl)
theorem dX0_nakedBy_27 : decode cX0_nakedBy 27 = .ok (.iconst 1, 1) := dk_4 (dk_at dksX0_nakedBy_1 3 rfl rfl)
theorem dX0_nakedBy_28 : decode cX0_nakedBy 28 = .ok (.iload_n 3, 1) := dk_29 (dk_at dksX0_nakedBy_1 4 rfl rfl)
theorem dX0_nakedBy_29 : decode cX0_nakedBy 29 = .ok (.ishl, 1) := dk_120 (dk_at dksX0_nakedBy_1 5 rfl rfl)
theorem dX0_nakedBy_30 : decode cX0_nakedBy 30 = .ok (.goto 4, 3) := dk_167 0 4 (dk_at dksX0_nakedBy_1 6 rfl rfl)
theorem dX0_nakedBy_33 : decode cX0_nakedBy 33 = .ok (.iconst 0, 1) := dk_3 (dk_at dksX0_nakedBy_1 9 rfl rfl)
theorem dX0_nakedBy_34 : decode cX0_nakedBy 34 = .ok (.ior, 1) := dk_128 (dk_at dksX0_nakedBy_1 10 rfl rfl)
theorem dX0_nakedBy_35 : decode cX0_nakedBy 35 = .ok (.istore_n 2, 1) := dk_61 (dk_at dksX0_nakedBy_1 11 rfl rfl)
theorem dX0_nakedBy_36 : decode cX0_nakedBy 36 = .ok (.iinc 3 1, 3) := dk_132 3 1 (dk_at dksX0_nakedBy_1 12 rfl rfl)
theorem dX0_nakedBy_39 : decode cX0_nakedBy 39 = .ok (.goto (-35), 3) := dk_167 255 221 (dk_at dksX0_nakedBy_1 15 rfl rfl)
theorem dX0_nakedBy_42 : decode cX0_nakedBy 42 = .ok (.iload_n 2, 1) := dk_28 (dk_at dksX0_nakedBy_1 18 rfl rfl)
theorem dX0_nakedBy_43 : decode cX0_nakedBy 43 = .ok (.ireturn, 1) := dk_172 (dk_at dksX0_nakedBy_1 19 rfl rfl)
abbrev cX0_longest : ByteArray := prog_1_method_39_code
def yX0_longest : MethodName := ⟨RX0, "longest", "(I)I"⟩
def dkwX0_longest_0 : List UInt8 := [42, 182, 1, 21, 27, 184, 0, 154, 153, 0, 11, 42, 27, 182, 1, 34, 167, 0, 5, 16, 254, 172]
abbrev dktX0_longest_0 : List UInt8 := dkwX0_longest_0 ++ []
theorem dksX0_longest_0 : cX0_longest.data.toList.drop 0 = dktX0_longest_0 := by decide +kernel
theorem dX0_longest_0 : decode cX0_longest 0 = .ok (.aload_n 0, 1) := dk_42 (dk_at dksX0_longest_0 0 rfl rfl)
theorem dX0_longest_1 : decode cX0_longest 1 = .ok (.invokevirtual 277, 3) := dk_182 1 21 (dk_at dksX0_longest_0 1 rfl rfl)
theorem dX0_longest_4 : decode cX0_longest 4 = .ok (.iload_n 1, 1) := dk_27 (dk_at dksX0_longest_0 4 rfl rfl)
theorem dX0_longest_5 : decode cX0_longest 5 = .ok (.invokestatic 154, 3) := dk_184 0 154 (dk_at dksX0_longest_0 5 rfl rfl)
theorem dX0_longest_8 : decode cX0_longest 8 = .ok (.ifCond .eq 11, 3) := dk_153 0 11 (dk_at dksX0_longest_0 8 rfl rfl)
theorem dX0_longest_11 : decode cX0_longest 11 = .ok (.aload_n 0, 1) := dk_42 (dk_at dksX0_longest_0 11 rfl rfl)
theorem dX0_longest_12 : decode cX0_longest 12 = .ok (.iload_n 1, 1) := dk_27 (dk_at dksX0_longest_0 12 rfl rfl)
theorem dX0_longest_13 : decode cX0_longest 13 = .ok (.invokevirtual 290, 3) := dk_182 1 34 (dk_at dksX0_longest_0 13 rfl rfl)
theorem dX0_longest_16 : decode cX0_longest 16 = .ok (.goto 5, 3) := dk_167 0 5 (dk_at dksX0_longest_0 16 rfl rfl)
theorem dX0_longest_19 : decode cX0_longest 19 = .ok (.bipush (-2), 2) := dk_16 254 (dk_at dksX0_longest_0 19 rfl rfl)
theorem dX0_longest_21 : decode cX0_longest 21 = .ok (.ireturn, 1) := dk_172 (dk_at dksX0_longest_0 21 rfl rfl)
abbrev cX0_longestBy : ByteArray := prog_1_method_38_code
def yX0_longestBy : MethodName := ⟨RX0, "longestBy", "(I)I"⟩
def dkwX0_longestBy_2 : List UInt8 := [172]
abbrev dktX0_longestBy_2 : List UInt8 := dkwX0_longestBy_2 ++ []
def dkwX0_longestBy_1 : List UInt8 := [27, 50, 29, 46, 42, 180, 0, 52, 27, 50, 28, 46, 164, 0, 5, 29, 61, 132, 3, 1, 167, 255, 216, 28]
abbrev dktX0_longestBy_1 : List UInt8 := dkwX0_longestBy_1 ++ dktX0_longestBy_2
def dkwX0_longestBy_0 : List UInt8 := [2, 61, 3, 62, 29, 42, 180, 0, 14, 182, 0, 126, 162, 0, 35, 28, 2, 159, 0, 22, 42, 180, 0, 52]
abbrev dktX0_longestBy_0 : List UInt8 := dkwX0_longestBy_0 ++ dktX0_longestBy_1
theorem dksX0_longestBy_0 : cX0_longestBy.data.toList.drop 0 = dktX0_longestBy_0 := by decide +kernel
theorem dksX0_longestBy_1 : cX0_longestBy.data.toList.drop 24 = dktX0_longestBy_1 := dk_seg dksX0_longestBy_0 24 rfl rfl
theorem dksX0_longestBy_2 : cX0_longestBy.data.toList.drop 48 = dktX0_longestBy_2 := dk_seg dksX0_longestBy_1 24 rfl rfl
theorem dX0_longestBy_0 : decode cX0_longestBy 0 = .ok (.iconst (-1), 1) := dk_2 (dk_at dksX0_longestBy_0 0 rfl rfl)
theorem dX0_longestBy_1 : decode cX0_longestBy 1 = .ok (.istore_n 2, 1) := dk_61 (dk_at dksX0_longestBy_0 1 rfl rfl)
theorem dX0_longestBy_2 : decode cX0_longestBy 2 = .ok (.iconst 0, 1) := dk_3 (dk_at dksX0_longestBy_0 2 rfl rfl)
theorem dX0_longestBy_3 : decode cX0_longestBy 3 = .ok (.istore_n 3, 1) := dk_62 (dk_at dksX0_longestBy_0 3 rfl rfl)
theorem dX0_longestBy_4 : decode cX0_longestBy 4 = .ok (.iload_n 3, 1) := dk_29 (dk_at dksX0_longestBy_0 4 rfl rfl)
theorem dX0_longestBy_5 : decode cX0_longestBy 5 = .ok (.aload_n 0, 1) := dk_42 (dk_at dksX0_longestBy_0 5 rfl rfl)
theorem dX0_longestBy_6 : decode cX0_longestBy 6 = .ok (.getfield 14, 3) := dk_180 0 14 (dk_at dksX0_longestBy_0 6 rfl rfl)
theorem dX0_longestBy_9 : decode cX0_longestBy 9 = .ok (.invokevirtual 126, 3) := dk_182 0 126 (dk_at dksX0_longestBy_0 9 rfl rfl)
theorem dX0_longestBy_12 : decode cX0_longestBy 12 = .ok (.if_icmp .ge 35, 3) := dk_162 0 35 (dk_at dksX0_longestBy_0 12 rfl rfl)
theorem dX0_longestBy_15 : decode cX0_longestBy 15 = .ok (.iload_n 2, 1) := dk_28 (dk_at dksX0_longestBy_0 15 rfl rfl)
theorem dX0_longestBy_16 : decode cX0_longestBy 16 = .ok (.iconst (-1), 1) := dk_2 (dk_at dksX0_longestBy_0 16 rfl rfl)
theorem dX0_longestBy_17 : decode cX0_longestBy 17 = .ok (.if_icmp .eq 22, 3) := dk_159 0 22 (dk_at dksX0_longestBy_0 17 rfl rfl)
theorem dX0_longestBy_20 : decode cX0_longestBy 20 = .ok (.aload_n 0, 1) := dk_42 (dk_at dksX0_longestBy_0 20 rfl rfl)
theorem dX0_longestBy_21 : decode cX0_longestBy 21 = .ok (.getfield 52, 3) := dk_180 0 52 (dk_at dksX0_longestBy_0 21 rfl rfl)
theorem dX0_longestBy_24 : decode cX0_longestBy 24 = .ok (.iload_n 1, 1) := dk_27 (dk_at dksX0_longestBy_1 0 rfl rfl)
theorem dX0_longestBy_25 : decode cX0_longestBy 25 = .ok (.aaload, 1) := dk_50 (dk_at dksX0_longestBy_1 1 rfl rfl)
theorem dX0_longestBy_26 : decode cX0_longestBy 26 = .ok (.iload_n 3, 1) := dk_29 (dk_at dksX0_longestBy_1 2 rfl rfl)
theorem dX0_longestBy_27 : decode cX0_longestBy 27 = .ok (.iaload, 1) := dk_46 (dk_at dksX0_longestBy_1 3 rfl rfl)
theorem dX0_longestBy_28 : decode cX0_longestBy 28 = .ok (.aload_n 0, 1) := dk_42 (dk_at dksX0_longestBy_1 4 rfl rfl)
theorem dX0_longestBy_29 : decode cX0_longestBy 29 = .ok (.getfield 52, 3) := dk_180 0 52 (dk_at dksX0_longestBy_1 5 rfl rfl)
theorem dX0_longestBy_32 : decode cX0_longestBy 32 = .ok (.iload_n 1, 1) := dk_27 (dk_at dksX0_longestBy_1 8 rfl rfl)
theorem dX0_longestBy_33 : decode cX0_longestBy 33 = .ok (.aaload, 1) := dk_50 (dk_at dksX0_longestBy_1 9 rfl rfl)
theorem dX0_longestBy_34 : decode cX0_longestBy 34 = .ok (.iload_n 2, 1) := dk_28 (dk_at dksX0_longestBy_1 10 rfl rfl)
theorem dX0_longestBy_35 : decode cX0_longestBy 35 = .ok (.iaload, 1) := dk_46 (dk_at dksX0_longestBy_1 11 rfl rfl)
theorem dX0_longestBy_36 : decode cX0_longestBy 36 = .ok (.if_icmp .le 5, 3) := dk_164 0 5 (dk_at dksX0_longestBy_1 12 rfl rfl)
theorem dX0_longestBy_39 : decode cX0_longestBy 39 = .ok (.iload_n 3, 1) := dk_29 (dk_at dksX0_longestBy_1 15 rfl rfl)
theorem dX0_longestBy_40 : decode cX0_longestBy 40 = .ok (.istore_n 2, 1) := dk_61 (dk_at dksX0_longestBy_1 16 rfl rfl)
theorem dX0_longestBy_41 : decode cX0_longestBy 41 = .ok (.iinc 3 1, 3) := dk_132 3 1 (dk_at dksX0_longestBy_1 17 rfl rfl)
theorem dX0_longestBy_44 : decode cX0_longestBy 44 = .ok (.goto (-40), 3) := dk_167 255 216 (dk_at dksX0_longestBy_1 20 rfl rfl)
theorem dX0_longestBy_47 : decode cX0_longestBy 47 = .ok (.iload_n 2, 1) := dk_28 (dk_at dksX0_longestBy_1 23 rfl rfl)
theorem dX0_longestBy_48 : decode cX0_longestBy 48 = .ok (.ireturn, 1) := dk_172 (dk_at dksX0_longestBy_2 0 rfl rfl)
abbrev cX0_splits : ByteArray := prog_1_method_41_code
def yX0_splits : MethodName := ⟨RX0, "splits", "()I"⟩
def dkwX0_splits_0 : List UInt8 := [42, 182, 1, 21, 42, 182, 1, 37, 172]
abbrev dktX0_splits_0 : List UInt8 := dkwX0_splits_0 ++ []
theorem dksX0_splits_0 : cX0_splits.data.toList.drop 0 = dktX0_splits_0 := by decide +kernel
theorem dX0_splits_0 : decode cX0_splits 0 = .ok (.aload_n 0, 1) := dk_42 (dk_at dksX0_splits_0 0 rfl rfl)
theorem dX0_splits_1 : decode cX0_splits 1 = .ok (.invokevirtual 277, 3) := dk_182 1 21 (dk_at dksX0_splits_0 1 rfl rfl)
theorem dX0_splits_4 : decode cX0_splits 4 = .ok (.aload_n 0, 1) := dk_42 (dk_at dksX0_splits_0 4 rfl rfl)
theorem dX0_splits_5 : decode cX0_splits 5 = .ok (.invokevirtual 293, 3) := dk_182 1 37 (dk_at dksX0_splits_0 5 rfl rfl)
theorem dX0_splits_8 : decode cX0_splits 8 = .ok (.ireturn, 1) := dk_172 (dk_at dksX0_splits_0 8 rfl rfl)
abbrev cX0_allSplits : ByteArray := prog_1_method_40_code
def yX0_allSplits : MethodName := ⟨RX0, "allSplits", "()I"⟩
def dkwX0_allSplits_1 : List UInt8 := [132, 2, 1, 167, 255, 233, 27, 172]
abbrev dktX0_allSplits_1 : List UInt8 := dkwX0_allSplits_1 ++ []
def dkwX0_allSplits_0 : List UInt8 := [3, 60, 3, 61, 28, 42, 180, 0, 14, 182, 0, 126, 162, 0, 18, 27, 42, 180, 0, 44, 28, 46, 96, 60]
abbrev dktX0_allSplits_0 : List UInt8 := dkwX0_allSplits_0 ++ dktX0_allSplits_1
theorem dksX0_allSplits_0 : cX0_allSplits.data.toList.drop 0 = dktX0_allSplits_0 := by decide +kernel
theorem dksX0_allSplits_1 : cX0_allSplits.data.toList.drop 24 = dktX0_allSplits_1 := dk_seg dksX0_allSplits_0 24 rfl rfl
theorem dX0_allSplits_0 : decode cX0_allSplits 0 = .ok (.iconst 0, 1) := dk_3 (dk_at dksX0_allSplits_0 0 rfl rfl)
theorem dX0_allSplits_1 : decode cX0_allSplits 1 = .ok (.istore_n 1, 1) := dk_60 (dk_at dksX0_allSplits_0 1 rfl rfl)
theorem dX0_allSplits_2 : decode cX0_allSplits 2 = .ok (.iconst 0, 1) := dk_3 (dk_at dksX0_allSplits_0 2 rfl rfl)
theorem dX0_allSplits_3 : decode cX0_allSplits 3 = .ok (.istore_n 2, 1) := dk_61 (dk_at dksX0_allSplits_0 3 rfl rfl)
theorem dX0_allSplits_4 : decode cX0_allSplits 4 = .ok (.iload_n 2, 1) := dk_28 (dk_at dksX0_allSplits_0 4 rfl rfl)
theorem dX0_allSplits_5 : decode cX0_allSplits 5 = .ok (.aload_n 0, 1) := dk_42 (dk_at dksX0_allSplits_0 5 rfl rfl)
theorem dX0_allSplits_6 : decode cX0_allSplits 6 = .ok (.getfield 14, 3) := dk_180 0 14 (dk_at dksX0_allSplits_0 6 rfl rfl)
theorem dX0_allSplits_9 : decode cX0_allSplits 9 = .ok (.invokevirtual 126, 3) := dk_182 0 126 (dk_at dksX0_allSplits_0 9 rfl rfl)
theorem dX0_allSplits_12 : decode cX0_allSplits 12 = .ok (.if_icmp .ge 18, 3) := dk_162 0 18 (dk_at dksX0_allSplits_0 12 rfl rfl)
theorem dX0_allSplits_15 : decode cX0_allSplits 15 = .ok (.iload_n 1, 1) := dk_27 (dk_at dksX0_allSplits_0 15 rfl rfl)
theorem dX0_allSplits_16 : decode cX0_allSplits 16 = .ok (.aload_n 0, 1) := dk_42 (dk_at dksX0_allSplits_0 16 rfl rfl)
theorem dX0_allSplits_17 : decode cX0_allSplits 17 = .ok (.getfield 44, 3) := dk_180 0 44 (dk_at dksX0_allSplits_0 17 rfl rfl)
theorem dX0_allSplits_20 : decode cX0_allSplits 20 = .ok (.iload_n 2, 1) := dk_28 (dk_at dksX0_allSplits_0 20 rfl rfl)
theorem dX0_allSplits_21 : decode cX0_allSplits 21 = .ok (.iaload, 1) := dk_46 (dk_at dksX0_allSplits_0 21 rfl rfl)
theorem dX0_allSplits_22 : decode cX0_allSplits 22 = .ok (.iadd, 1) := dk_96 (dk_at dksX0_allSplits_0 22 rfl rfl)
theorem dX0_allSplits_23 : decode cX0_allSplits 23 = .ok (.istore_n 1, 1) := dk_60 (dk_at dksX0_allSplits_0 23 rfl rfl)
theorem dX0_allSplits_24 : decode cX0_allSplits 24 = .ok (.iinc 2 1, 3) := dk_132 2 1 (dk_at dksX0_allSplits_1 0 rfl rfl)
theorem dX0_allSplits_27 : decode cX0_allSplits 27 = .ok (.goto (-23), 3) := dk_167 255 233 (dk_at dksX0_allSplits_1 3 rfl rfl)
theorem dX0_allSplits_30 : decode cX0_allSplits 30 = .ok (.iload_n 1, 1) := dk_27 (dk_at dksX0_allSplits_1 6 rfl rfl)
theorem dX0_allSplits_31 : decode cX0_allSplits 31 = .ok (.ireturn, 1) := dk_172 (dk_at dksX0_allSplits_1 7 rfl rfl)
abbrev cX0_best : ByteArray := prog_1_method_44_code
def yX0_best : MethodName := ⟨RX0, "best", "()I"⟩
def dkwX0_best_0 : List UInt8 := [42, 182, 1, 21, 42, 182, 1, 46, 172]
abbrev dktX0_best_0 : List UInt8 := dkwX0_best_0 ++ []
theorem dksX0_best_0 : cX0_best.data.toList.drop 0 = dktX0_best_0 := by decide +kernel
theorem dX0_best_0 : decode cX0_best 0 = .ok (.aload_n 0, 1) := dk_42 (dk_at dksX0_best_0 0 rfl rfl)
theorem dX0_best_1 : decode cX0_best 1 = .ok (.invokevirtual 277, 3) := dk_182 1 21 (dk_at dksX0_best_0 1 rfl rfl)
theorem dX0_best_4 : decode cX0_best 4 = .ok (.aload_n 0, 1) := dk_42 (dk_at dksX0_best_0 4 rfl rfl)
theorem dX0_best_5 : decode cX0_best 5 = .ok (.invokevirtual 302, 3) := dk_182 1 46 (dk_at dksX0_best_0 5 rfl rfl)
theorem dX0_best_8 : decode cX0_best 8 = .ok (.ireturn, 1) := dk_172 (dk_at dksX0_best_0 8 rfl rfl)
abbrev cX0_bestNow : ByteArray := prog_1_method_43_code
def yX0_bestNow : MethodName := ⟨RX0, "bestNow", "()I"⟩
def dkwX0_bestNow_2 : List UInt8 := [172]
abbrev dktX0_bestNow_2 : List UInt8 := dkwX0_bestNow_2 ++ []
def dkwX0_bestNow_1 : List UInt8 := [182, 1, 43, 42, 27, 182, 1, 43, 164, 0, 7, 28, 167, 0, 4, 27, 60, 132, 2, 1, 167, 255, 228, 27]
abbrev dktX0_bestNow_1 : List UInt8 := dkwX0_bestNow_1 ++ dktX0_bestNow_2
def dkwX0_bestNow_0 : List UInt8 := [42, 180, 0, 14, 182, 0, 126, 154, 0, 5, 2, 172, 3, 60, 4, 61, 28, 16, 24, 162, 0, 28, 42, 28]
abbrev dktX0_bestNow_0 : List UInt8 := dkwX0_bestNow_0 ++ dktX0_bestNow_1
theorem dksX0_bestNow_0 : cX0_bestNow.data.toList.drop 0 = dktX0_bestNow_0 := by decide +kernel
theorem dksX0_bestNow_1 : cX0_bestNow.data.toList.drop 24 = dktX0_bestNow_1 := dk_seg dksX0_bestNow_0 24 rfl rfl
theorem dksX0_bestNow_2 : cX0_bestNow.data.toList.drop 48 = dktX0_bestNow_2 := dk_seg dksX0_bestNow_1 24 rfl rfl
theorem dX0_bestNow_0 : decode cX0_bestNow 0 = .ok (.aload_n 0, 1) := dk_42 (dk_at dksX0_bestNow_0 0 rfl rfl)
theorem dX0_bestNow_1 : decode cX0_bestNow 1 = .ok (.getfield 14, 3) := dk_180 0 14 (dk_at dksX0_bestNow_0 1 rfl rfl)
theorem dX0_bestNow_4 : decode cX0_bestNow 4 = .ok (.invokevirtual 126, 3) := dk_182 0 126 (dk_at dksX0_bestNow_0 4 rfl rfl)
theorem dX0_bestNow_7 : decode cX0_bestNow 7 = .ok (.ifCond .ne 5, 3) := dk_154 0 5 (dk_at dksX0_bestNow_0 7 rfl rfl)
theorem dX0_bestNow_10 : decode cX0_bestNow 10 = .ok (.iconst (-1), 1) := dk_2 (dk_at dksX0_bestNow_0 10 rfl rfl)
theorem dX0_bestNow_11 : decode cX0_bestNow 11 = .ok (.ireturn, 1) := dk_172 (dk_at dksX0_bestNow_0 11 rfl rfl)
theorem dX0_bestNow_12 : decode cX0_bestNow 12 = .ok (.iconst 0, 1) := dk_3 (dk_at dksX0_bestNow_0 12 rfl rfl)
theorem dX0_bestNow_13 : decode cX0_bestNow 13 = .ok (.istore_n 1, 1) := dk_60 (dk_at dksX0_bestNow_0 13 rfl rfl)
theorem dX0_bestNow_14 : decode cX0_bestNow 14 = .ok (.iconst 1, 1) := dk_4 (dk_at dksX0_bestNow_0 14 rfl rfl)
theorem dX0_bestNow_15 : decode cX0_bestNow 15 = .ok (.istore_n 2, 1) := dk_61 (dk_at dksX0_bestNow_0 15 rfl rfl)
theorem dX0_bestNow_16 : decode cX0_bestNow 16 = .ok (.iload_n 2, 1) := dk_28 (dk_at dksX0_bestNow_0 16 rfl rfl)
theorem dX0_bestNow_17 : decode cX0_bestNow 17 = .ok (.bipush 24, 2) := dk_16 24 (dk_at dksX0_bestNow_0 17 rfl rfl)
theorem dX0_bestNow_19 : decode cX0_bestNow 19 = .ok (.if_icmp .ge 28, 3) := dk_162 0 28 (dk_at dksX0_bestNow_0 19 rfl rfl)
theorem dX0_bestNow_22 : decode cX0_bestNow 22 = .ok (.aload_n 0, 1) := dk_42 (dk_at dksX0_bestNow_0 22 rfl rfl)
theorem dX0_bestNow_23 : decode cX0_bestNow 23 = .ok (.iload_n 2, 1) := dk_28 (dk_at dksX0_bestNow_0 23 rfl rfl)
theorem dX0_bestNow_24 : decode cX0_bestNow 24 = .ok (.invokevirtual 299, 3) := dk_182 1 43 (dk_at dksX0_bestNow_1 0 rfl rfl)
theorem dX0_bestNow_27 : decode cX0_bestNow 27 = .ok (.aload_n 0, 1) := dk_42 (dk_at dksX0_bestNow_1 3 rfl rfl)
theorem dX0_bestNow_28 : decode cX0_bestNow 28 = .ok (.iload_n 1, 1) := dk_27 (dk_at dksX0_bestNow_1 4 rfl rfl)
theorem dX0_bestNow_29 : decode cX0_bestNow 29 = .ok (.invokevirtual 299, 3) := dk_182 1 43 (dk_at dksX0_bestNow_1 5 rfl rfl)
theorem dX0_bestNow_32 : decode cX0_bestNow 32 = .ok (.if_icmp .le 7, 3) := dk_164 0 7 (dk_at dksX0_bestNow_1 8 rfl rfl)
theorem dX0_bestNow_35 : decode cX0_bestNow 35 = .ok (.iload_n 2, 1) := dk_28 (dk_at dksX0_bestNow_1 11 rfl rfl)
theorem dX0_bestNow_36 : decode cX0_bestNow 36 = .ok (.goto 4, 3) := dk_167 0 4 (dk_at dksX0_bestNow_1 12 rfl rfl)
theorem dX0_bestNow_39 : decode cX0_bestNow 39 = .ok (.iload_n 1, 1) := dk_27 (dk_at dksX0_bestNow_1 15 rfl rfl)
theorem dX0_bestNow_40 : decode cX0_bestNow 40 = .ok (.istore_n 1, 1) := dk_60 (dk_at dksX0_bestNow_1 16 rfl rfl)
theorem dX0_bestNow_41 : decode cX0_bestNow 41 = .ok (.iinc 2 1, 3) := dk_132 2 1 (dk_at dksX0_bestNow_1 17 rfl rfl)
theorem dX0_bestNow_44 : decode cX0_bestNow 44 = .ok (.goto (-28), 3) := dk_167 255 228 (dk_at dksX0_bestNow_1 20 rfl rfl)
theorem dX0_bestNow_47 : decode cX0_bestNow 47 = .ok (.iload_n 1, 1) := dk_27 (dk_at dksX0_bestNow_1 23 rfl rfl)
theorem dX0_bestNow_48 : decode cX0_bestNow 48 = .ok (.ireturn, 1) := dk_172 (dk_at dksX0_bestNow_2 0 rfl rfl)
abbrev cX0_fitsIn : ByteArray := prog_1_method_42_code
def yX0_fitsIn : MethodName := ⟨RX0, "fitsIn", "(I)I"⟩
def dkwX0_fitsIn_0 : List UInt8 := [42, 27, 182, 1, 28, 184, 1, 40, 172]
abbrev dktX0_fitsIn_0 : List UInt8 := dkwX0_fitsIn_0 ++ []
theorem dksX0_fitsIn_0 : cX0_fitsIn.data.toList.drop 0 = dktX0_fitsIn_0 := by decide +kernel
theorem dX0_fitsIn_0 : decode cX0_fitsIn 0 = .ok (.aload_n 0, 1) := dk_42 (dk_at dksX0_fitsIn_0 0 rfl rfl)
theorem dX0_fitsIn_1 : decode cX0_fitsIn 1 = .ok (.iload_n 1, 1) := dk_27 (dk_at dksX0_fitsIn_0 1 rfl rfl)
theorem dX0_fitsIn_2 : decode cX0_fitsIn 2 = .ok (.invokevirtual 284, 3) := dk_182 1 28 (dk_at dksX0_fitsIn_0 2 rfl rfl)
theorem dX0_fitsIn_5 : decode cX0_fitsIn 5 = .ok (.invokestatic 296, 3) := dk_184 1 40 (dk_at dksX0_fitsIn_0 5 rfl rfl)
theorem dX0_fitsIn_8 : decode cX0_fitsIn 8 = .ok (.ireturn, 1) := dk_172 (dk_at dksX0_fitsIn_0 8 rfl rfl)
abbrev cX0_swear : ByteArray := prog_1_method_46_code
def yX0_swear : MethodName := ⟨RX0, "swear", "(II)I"⟩
def dkwX0_swear_1 : List UInt8 := [16, 254, 172]
abbrev dktX0_swear_1 : List UInt8 := dkwX0_swear_1 ++ []
def dkwX0_swear_0 : List UInt8 := [42, 27, 182, 0, 130, 153, 0, 19, 28, 184, 0, 154, 153, 0, 12, 42, 27, 28, 182, 1, 49, 167, 0, 5]
abbrev dktX0_swear_0 : List UInt8 := dkwX0_swear_0 ++ dktX0_swear_1
theorem dksX0_swear_0 : cX0_swear.data.toList.drop 0 = dktX0_swear_0 := by decide +kernel
theorem dksX0_swear_1 : cX0_swear.data.toList.drop 24 = dktX0_swear_1 := dk_seg dksX0_swear_0 24 rfl rfl
theorem dX0_swear_0 : decode cX0_swear 0 = .ok (.aload_n 0, 1) := dk_42 (dk_at dksX0_swear_0 0 rfl rfl)
theorem dX0_swear_1 : decode cX0_swear 1 = .ok (.iload_n 1, 1) := dk_27 (dk_at dksX0_swear_0 1 rfl rfl)
theorem dX0_swear_2 : decode cX0_swear 2 = .ok (.invokevirtual 130, 3) := dk_182 0 130 (dk_at dksX0_swear_0 2 rfl rfl)
theorem dX0_swear_5 : decode cX0_swear 5 = .ok (.ifCond .eq 19, 3) := dk_153 0 19 (dk_at dksX0_swear_0 5 rfl rfl)
theorem dX0_swear_8 : decode cX0_swear 8 = .ok (.iload_n 2, 1) := dk_28 (dk_at dksX0_swear_0 8 rfl rfl)
theorem dX0_swear_9 : decode cX0_swear 9 = .ok (.invokestatic 154, 3) := dk_184 0 154 (dk_at dksX0_swear_0 9 rfl rfl)
theorem dX0_swear_12 : decode cX0_swear 12 = .ok (.ifCond .eq 12, 3) := dk_153 0 12 (dk_at dksX0_swear_0 12 rfl rfl)
theorem dX0_swear_15 : decode cX0_swear 15 = .ok (.aload_n 0, 1) := dk_42 (dk_at dksX0_swear_0 15 rfl rfl)
theorem dX0_swear_16 : decode cX0_swear 16 = .ok (.iload_n 1, 1) := dk_27 (dk_at dksX0_swear_0 16 rfl rfl)
theorem dX0_swear_17 : decode cX0_swear 17 = .ok (.iload_n 2, 1) := dk_28 (dk_at dksX0_swear_0 17 rfl rfl)
theorem dX0_swear_18 : decode cX0_swear 18 = .ok (.invokevirtual 305, 3) := dk_182 1 49 (dk_at dksX0_swear_0 18 rfl rfl)
theorem dX0_swear_21 : decode cX0_swear 21 = .ok (.goto 5, 3) := dk_167 0 5 (dk_at dksX0_swear_0 21 rfl rfl)
theorem dX0_swear_24 : decode cX0_swear 24 = .ok (.bipush (-2), 2) := dk_16 254 (dk_at dksX0_swear_1 0 rfl rfl)
theorem dX0_swear_26 : decode cX0_swear 26 = .ok (.ireturn, 1) := dk_172 (dk_at dksX0_swear_1 2 rfl rfl)
abbrev cX0_swearOf : ByteArray := prog_1_method_45_code
def yX0_swearOf : MethodName := ⟨RX0, "swearOf", "(II)I"⟩
def dkwX0_swearOf_3 : List UInt8 := [181, 0, 65, 25, 4, 191]
abbrev dktX0_swearOf_3 : List UInt8 := dkwX0_swearOf_3 ++ []
def dkwX0_swearOf_2 : List UInt8 := [180, 0, 231, 4, 96, 181, 0, 231, 167, 255, 212, 2, 62, 42, 2, 181, 0, 65, 29, 172, 58, 4, 42, 2]
abbrev dktX0_swearOf_2 : List UInt8 := dkwX0_swearOf_2 ++ dktX0_swearOf_3
def dkwX0_swearOf_1 : List UInt8 := [28, 27, 182, 1, 18, 153, 0, 15, 42, 180, 0, 231, 62, 42, 2, 181, 0, 65, 29, 172, 42, 89]
abbrev dktX0_swearOf_1 : List UInt8 := dkwX0_swearOf_1 ++ dktX0_swearOf_2
def dkwX0_swearOf_0 : List UInt8 := [42, 27, 181, 0, 65, 42, 4, 181, 0, 231, 42, 180, 0, 231, 16, 9, 163, 0, 41, 42, 182, 1, 21, 42]
abbrev dktX0_swearOf_0 : List UInt8 := dkwX0_swearOf_0 ++ dktX0_swearOf_1
theorem dksX0_swearOf_0 : cX0_swearOf.data.toList.drop 0 = dktX0_swearOf_0 := by decide +kernel
theorem dksX0_swearOf_1 : cX0_swearOf.data.toList.drop 24 = dktX0_swearOf_1 := dk_seg dksX0_swearOf_0 24 rfl rfl
theorem dksX0_swearOf_2 : cX0_swearOf.data.toList.drop 46 = dktX0_swearOf_2 := dk_seg dksX0_swearOf_1 22 rfl rfl
theorem dksX0_swearOf_3 : cX0_swearOf.data.toList.drop 70 = dktX0_swearOf_3 := dk_seg dksX0_swearOf_2 24 rfl rfl
theorem dX0_swearOf_0 : decode cX0_swearOf 0 = .ok (.aload_n 0, 1) := dk_42 (dk_at dksX0_swearOf_0 0 rfl rfl)
theorem dX0_swearOf_1 : decode cX0_swearOf 1 = .ok (.iload_n 1, 1) := dk_27 (dk_at dksX0_swearOf_0 1 rfl rfl)
theorem dX0_swearOf_2 : decode cX0_swearOf 2 = .ok (.putfield 65, 3) := dk_181 0 65 (dk_at dksX0_swearOf_0 2 rfl rfl)
theorem dX0_swearOf_5 : decode cX0_swearOf 5 = .ok (.aload_n 0, 1) := dk_42 (dk_at dksX0_swearOf_0 5 rfl rfl)
theorem dX0_swearOf_6 : decode cX0_swearOf 6 = .ok (.iconst 1, 1) := dk_4 (dk_at dksX0_swearOf_0 6 rfl rfl)
theorem dX0_swearOf_7 : decode cX0_swearOf 7 = .ok (.putfield 231, 3) := dk_181 0 231 (dk_at dksX0_swearOf_0 7 rfl rfl)
theorem dX0_swearOf_10 : decode cX0_swearOf 10 = .ok (.aload_n 0, 1) := dk_42 (dk_at dksX0_swearOf_0 10 rfl rfl)
theorem dX0_swearOf_11 : decode cX0_swearOf 11 = .ok (.getfield 231, 3) := dk_180 0 231 (dk_at dksX0_swearOf_0 11 rfl rfl)
theorem dX0_swearOf_14 : decode cX0_swearOf 14 = .ok (.bipush 9, 2) := dk_16 9 (dk_at dksX0_swearOf_0 14 rfl rfl)
theorem dX0_swearOf_16 : decode cX0_swearOf 16 = .ok (.if_icmp .gt 41, 3) := dk_163 0 41 (dk_at dksX0_swearOf_0 16 rfl rfl)
theorem dX0_swearOf_19 : decode cX0_swearOf 19 = .ok (.aload_n 0, 1) := dk_42 (dk_at dksX0_swearOf_0 19 rfl rfl)
theorem dX0_swearOf_20 : decode cX0_swearOf 20 = .ok (.invokevirtual 277, 3) := dk_182 1 21 (dk_at dksX0_swearOf_0 20 rfl rfl)
theorem dX0_swearOf_23 : decode cX0_swearOf 23 = .ok (.aload_n 0, 1) := dk_42 (dk_at dksX0_swearOf_0 23 rfl rfl)
theorem dX0_swearOf_24 : decode cX0_swearOf 24 = .ok (.iload_n 2, 1) := dk_28 (dk_at dksX0_swearOf_1 0 rfl rfl)
theorem dX0_swearOf_25 : decode cX0_swearOf 25 = .ok (.iload_n 1, 1) := dk_27 (dk_at dksX0_swearOf_1 1 rfl rfl)
theorem dX0_swearOf_26 : decode cX0_swearOf 26 = .ok (.invokevirtual 274, 3) := dk_182 1 18 (dk_at dksX0_swearOf_1 2 rfl rfl)
theorem dX0_swearOf_29 : decode cX0_swearOf 29 = .ok (.ifCond .eq 15, 3) := dk_153 0 15 (dk_at dksX0_swearOf_1 5 rfl rfl)
theorem dX0_swearOf_32 : decode cX0_swearOf 32 = .ok (.aload_n 0, 1) := dk_42 (dk_at dksX0_swearOf_1 8 rfl rfl)
theorem dX0_swearOf_33 : decode cX0_swearOf 33 = .ok (.getfield 231, 3) := dk_180 0 231 (dk_at dksX0_swearOf_1 9 rfl rfl)
theorem dX0_swearOf_36 : decode cX0_swearOf 36 = .ok (.istore_n 3, 1) := dk_62 (dk_at dksX0_swearOf_1 12 rfl rfl)
theorem dX0_swearOf_37 : decode cX0_swearOf 37 = .ok (.aload_n 0, 1) := dk_42 (dk_at dksX0_swearOf_1 13 rfl rfl)
theorem dX0_swearOf_38 : decode cX0_swearOf 38 = .ok (.iconst (-1), 1) := dk_2 (dk_at dksX0_swearOf_1 14 rfl rfl)
theorem dX0_swearOf_39 : decode cX0_swearOf 39 = .ok (.putfield 65, 3) := dk_181 0 65 (dk_at dksX0_swearOf_1 15 rfl rfl)
theorem dX0_swearOf_42 : decode cX0_swearOf 42 = .ok (.iload_n 3, 1) := dk_29 (dk_at dksX0_swearOf_1 18 rfl rfl)
theorem dX0_swearOf_43 : decode cX0_swearOf 43 = .ok (.ireturn, 1) := dk_172 (dk_at dksX0_swearOf_1 19 rfl rfl)
theorem dX0_swearOf_44 : decode cX0_swearOf 44 = .ok (.aload_n 0, 1) := dk_42 (dk_at dksX0_swearOf_1 20 rfl rfl)
theorem dX0_swearOf_45 : decode cX0_swearOf 45 = .ok (.dup, 1) := dk_89 (dk_at dksX0_swearOf_1 21 rfl rfl)
theorem dX0_swearOf_46 : decode cX0_swearOf 46 = .ok (.getfield 231, 3) := dk_180 0 231 (dk_at dksX0_swearOf_2 0 rfl rfl)
theorem dX0_swearOf_49 : decode cX0_swearOf 49 = .ok (.iconst 1, 1) := dk_4 (dk_at dksX0_swearOf_2 3 rfl rfl)
theorem dX0_swearOf_50 : decode cX0_swearOf 50 = .ok (.iadd, 1) := dk_96 (dk_at dksX0_swearOf_2 4 rfl rfl)
theorem dX0_swearOf_51 : decode cX0_swearOf 51 = .ok (.putfield 231, 3) := dk_181 0 231 (dk_at dksX0_swearOf_2 5 rfl rfl)
theorem dX0_swearOf_54 : decode cX0_swearOf 54 = .ok (.goto (-44), 3) := dk_167 255 212 (dk_at dksX0_swearOf_2 8 rfl rfl)
theorem dX0_swearOf_57 : decode cX0_swearOf 57 = .ok (.iconst (-1), 1) := dk_2 (dk_at dksX0_swearOf_2 11 rfl rfl)
theorem dX0_swearOf_58 : decode cX0_swearOf 58 = .ok (.istore_n 3, 1) := dk_62 (dk_at dksX0_swearOf_2 12 rfl rfl)
theorem dX0_swearOf_59 : decode cX0_swearOf 59 = .ok (.aload_n 0, 1) := dk_42 (dk_at dksX0_swearOf_2 13 rfl rfl)
theorem dX0_swearOf_60 : decode cX0_swearOf 60 = .ok (.iconst (-1), 1) := dk_2 (dk_at dksX0_swearOf_2 14 rfl rfl)
theorem dX0_swearOf_61 : decode cX0_swearOf 61 = .ok (.putfield 65, 3) := dk_181 0 65 (dk_at dksX0_swearOf_2 15 rfl rfl)
theorem dX0_swearOf_64 : decode cX0_swearOf 64 = .ok (.iload_n 3, 1) := dk_29 (dk_at dksX0_swearOf_2 18 rfl rfl)
theorem dX0_swearOf_65 : decode cX0_swearOf 65 = .ok (.ireturn, 1) := dk_172 (dk_at dksX0_swearOf_2 19 rfl rfl)
theorem dX0_swearOf_66 : decode cX0_swearOf 66 = .ok (.astore 4, 2) := dk_58 4 (dk_at dksX0_swearOf_2 20 rfl rfl)
theorem dX0_swearOf_68 : decode cX0_swearOf 68 = .ok (.aload_n 0, 1) := dk_42 (dk_at dksX0_swearOf_2 22 rfl rfl)
theorem dX0_swearOf_69 : decode cX0_swearOf 69 = .ok (.iconst (-1), 1) := dk_2 (dk_at dksX0_swearOf_2 23 rfl rfl)
theorem dX0_swearOf_70 : decode cX0_swearOf 70 = .ok (.putfield 65, 3) := dk_181 0 65 (dk_at dksX0_swearOf_3 0 rfl rfl)
theorem dX0_swearOf_73 : decode cX0_swearOf 73 = .ok (.aload 4, 2) := dk_25 4 (dk_at dksX0_swearOf_3 3 rfl rfl)
theorem dX0_swearOf_75 : decode cX0_swearOf 75 = .ok (.athrow, 1) := dk_191 (dk_at dksX0_swearOf_3 5 rfl rfl)
abbrev cX0_keep : ByteArray := prog_1_method_48_code
def yX0_keep : MethodName := ⟨RX0, "keep", "(II)I"⟩
def dkwX0_keep_1 : List UInt8 := [16, 254, 172]
abbrev dktX0_keep_1 : List UInt8 := dkwX0_keep_1 ++ []
def dkwX0_keep_0 : List UInt8 := [27, 184, 0, 154, 153, 0, 19, 28, 184, 0, 100, 153, 0, 12, 42, 27, 28, 182, 1, 52, 167, 0, 5]
abbrev dktX0_keep_0 : List UInt8 := dkwX0_keep_0 ++ dktX0_keep_1
theorem dksX0_keep_0 : cX0_keep.data.toList.drop 0 = dktX0_keep_0 := by decide +kernel
theorem dksX0_keep_1 : cX0_keep.data.toList.drop 23 = dktX0_keep_1 := dk_seg dksX0_keep_0 23 rfl rfl
theorem dX0_keep_0 : decode cX0_keep 0 = .ok (.iload_n 1, 1) := dk_27 (dk_at dksX0_keep_0 0 rfl rfl)
theorem dX0_keep_1 : decode cX0_keep 1 = .ok (.invokestatic 154, 3) := dk_184 0 154 (dk_at dksX0_keep_0 1 rfl rfl)
theorem dX0_keep_4 : decode cX0_keep 4 = .ok (.ifCond .eq 19, 3) := dk_153 0 19 (dk_at dksX0_keep_0 4 rfl rfl)
theorem dX0_keep_7 : decode cX0_keep 7 = .ok (.iload_n 2, 1) := dk_28 (dk_at dksX0_keep_0 7 rfl rfl)
theorem dX0_keep_8 : decode cX0_keep 8 = .ok (.invokestatic 100, 3) := dk_184 0 100 (dk_at dksX0_keep_0 8 rfl rfl)
theorem dX0_keep_11 : decode cX0_keep 11 = .ok (.ifCond .eq 12, 3) := dk_153 0 12 (dk_at dksX0_keep_0 11 rfl rfl)
theorem dX0_keep_14 : decode cX0_keep 14 = .ok (.aload_n 0, 1) := dk_42 (dk_at dksX0_keep_0 14 rfl rfl)
theorem dX0_keep_15 : decode cX0_keep 15 = .ok (.iload_n 1, 1) := dk_27 (dk_at dksX0_keep_0 15 rfl rfl)
theorem dX0_keep_16 : decode cX0_keep 16 = .ok (.iload_n 2, 1) := dk_28 (dk_at dksX0_keep_0 16 rfl rfl)
theorem dX0_keep_17 : decode cX0_keep 17 = .ok (.invokevirtual 308, 3) := dk_182 1 52 (dk_at dksX0_keep_0 17 rfl rfl)
theorem dX0_keep_20 : decode cX0_keep 20 = .ok (.goto 5, 3) := dk_167 0 5 (dk_at dksX0_keep_0 20 rfl rfl)
theorem dX0_keep_23 : decode cX0_keep 23 = .ok (.bipush (-2), 2) := dk_16 254 (dk_at dksX0_keep_1 0 rfl rfl)
theorem dX0_keep_25 : decode cX0_keep 25 = .ok (.ireturn, 1) := dk_172 (dk_at dksX0_keep_1 2 rfl rfl)
abbrev cX0_keepOf : ByteArray := prog_1_method_47_code
def yX0_keepOf : MethodName := ⟨RX0, "keepOf", "(II)I"⟩
def dkwX0_keepOf_4 : List UInt8 := [154, 0, 7, 29, 167, 0, 5, 21, 4, 172]
abbrev dktX0_keepOf_4 : List UInt8 := dkwX0_keepOf_4 ++ []
def dkwX0_keepOf_3 : List UInt8 := [167, 255, 201, 42, 2, 181, 0, 61, 167, 0, 13, 58, 5, 42, 2, 181, 0, 61, 25, 5, 191, 28]
abbrev dktX0_keepOf_3 : List UInt8 := dkwX0_keepOf_3 ++ dktX0_keepOf_4
def dkwX0_keepOf_2 : List UInt8 := [42, 180, 1, 0, 62, 42, 16, 23, 182, 1, 43, 54, 4, 42, 89, 180, 1, 0, 4, 96, 181, 1, 0]
abbrev dktX0_keepOf_2 : List UInt8 := dkwX0_keepOf_2 ++ dktX0_keepOf_3
def dkwX0_keepOf_1 : List UInt8 := [182, 0, 129, 162, 0, 47, 42, 182, 1, 21, 42, 16, 23, 182, 1, 43, 21, 4, 163, 0, 6, 167, 0, 16]
abbrev dktX0_keepOf_1 : List UInt8 := dkwX0_keepOf_1 ++ dktX0_keepOf_2
def dkwX0_keepOf_0 : List UInt8 := [2, 62, 2, 54, 4, 42, 27, 181, 0, 61, 42, 3, 181, 1, 0, 42, 180, 1, 0, 42, 180, 0, 23]
abbrev dktX0_keepOf_0 : List UInt8 := dkwX0_keepOf_0 ++ dktX0_keepOf_1
theorem dksX0_keepOf_0 : cX0_keepOf.data.toList.drop 0 = dktX0_keepOf_0 := by decide +kernel
theorem dksX0_keepOf_1 : cX0_keepOf.data.toList.drop 23 = dktX0_keepOf_1 := dk_seg dksX0_keepOf_0 23 rfl rfl
theorem dksX0_keepOf_2 : cX0_keepOf.data.toList.drop 47 = dktX0_keepOf_2 := dk_seg dksX0_keepOf_1 24 rfl rfl
theorem dksX0_keepOf_3 : cX0_keepOf.data.toList.drop 70 = dktX0_keepOf_3 := dk_seg dksX0_keepOf_2 23 rfl rfl
theorem dksX0_keepOf_4 : cX0_keepOf.data.toList.drop 92 = dktX0_keepOf_4 := dk_seg dksX0_keepOf_3 22 rfl rfl
theorem dX0_keepOf_0 : decode cX0_keepOf 0 = .ok (.iconst (-1), 1) := dk_2 (dk_at dksX0_keepOf_0 0 rfl rfl)
theorem dX0_keepOf_1 : decode cX0_keepOf 1 = .ok (.istore_n 3, 1) := dk_62 (dk_at dksX0_keepOf_0 1 rfl rfl)
theorem dX0_keepOf_2 : decode cX0_keepOf 2 = .ok (.iconst (-1), 1) := dk_2 (dk_at dksX0_keepOf_0 2 rfl rfl)
theorem dX0_keepOf_3 : decode cX0_keepOf 3 = .ok (.istore 4, 2) := dk_54 4 (dk_at dksX0_keepOf_0 3 rfl rfl)
theorem dX0_keepOf_5 : decode cX0_keepOf 5 = .ok (.aload_n 0, 1) := dk_42 (dk_at dksX0_keepOf_0 5 rfl rfl)
theorem dX0_keepOf_6 : decode cX0_keepOf 6 = .ok (.iload_n 1, 1) := dk_27 (dk_at dksX0_keepOf_0 6 rfl rfl)
theorem dX0_keepOf_7 : decode cX0_keepOf 7 = .ok (.putfield 61, 3) := dk_181 0 61 (dk_at dksX0_keepOf_0 7 rfl rfl)
theorem dX0_keepOf_10 : decode cX0_keepOf 10 = .ok (.aload_n 0, 1) := dk_42 (dk_at dksX0_keepOf_0 10 rfl rfl)
theorem dX0_keepOf_11 : decode cX0_keepOf 11 = .ok (.iconst 0, 1) := dk_3 (dk_at dksX0_keepOf_0 11 rfl rfl)
theorem dX0_keepOf_12 : decode cX0_keepOf 12 = .ok (.putfield 256, 3) := dk_181 1 0 (dk_at dksX0_keepOf_0 12 rfl rfl)
theorem dX0_keepOf_15 : decode cX0_keepOf 15 = .ok (.aload_n 0, 1) := dk_42 (dk_at dksX0_keepOf_0 15 rfl rfl)
theorem dX0_keepOf_16 : decode cX0_keepOf 16 = .ok (.getfield 256, 3) := dk_180 1 0 (dk_at dksX0_keepOf_0 16 rfl rfl)
theorem dX0_keepOf_19 : decode cX0_keepOf 19 = .ok (.aload_n 0, 1) := dk_42 (dk_at dksX0_keepOf_0 19 rfl rfl)
theorem dX0_keepOf_20 : decode cX0_keepOf 20 = .ok (.getfield 23, 3) := dk_180 0 23 (dk_at dksX0_keepOf_0 20 rfl rfl)
theorem dX0_keepOf_23 : decode cX0_keepOf 23 = .ok (.invokevirtual 129, 3) := dk_182 0 129 (dk_at dksX0_keepOf_1 0 rfl rfl)
theorem dX0_keepOf_26 : decode cX0_keepOf 26 = .ok (.if_icmp .ge 47, 3) := dk_162 0 47 (dk_at dksX0_keepOf_1 3 rfl rfl)
theorem dX0_keepOf_29 : decode cX0_keepOf 29 = .ok (.aload_n 0, 1) := dk_42 (dk_at dksX0_keepOf_1 6 rfl rfl)
theorem dX0_keepOf_30 : decode cX0_keepOf 30 = .ok (.invokevirtual 277, 3) := dk_182 1 21 (dk_at dksX0_keepOf_1 7 rfl rfl)
theorem dX0_keepOf_33 : decode cX0_keepOf 33 = .ok (.aload_n 0, 1) := dk_42 (dk_at dksX0_keepOf_1 10 rfl rfl)
theorem dX0_keepOf_34 : decode cX0_keepOf 34 = .ok (.bipush 23, 2) := dk_16 23 (dk_at dksX0_keepOf_1 11 rfl rfl)
theorem dX0_keepOf_36 : decode cX0_keepOf 36 = .ok (.invokevirtual 299, 3) := dk_182 1 43 (dk_at dksX0_keepOf_1 13 rfl rfl)
theorem dX0_keepOf_39 : decode cX0_keepOf 39 = .ok (.iload 4, 2) := dk_21 4 (dk_at dksX0_keepOf_1 16 rfl rfl)
theorem dX0_keepOf_41 : decode cX0_keepOf 41 = .ok (.if_icmp .gt 6, 3) := dk_163 0 6 (dk_at dksX0_keepOf_1 18 rfl rfl)
theorem dX0_keepOf_44 : decode cX0_keepOf 44 = .ok (.goto 16, 3) := dk_167 0 16 (dk_at dksX0_keepOf_1 21 rfl rfl)
theorem dX0_keepOf_47 : decode cX0_keepOf 47 = .ok (.aload_n 0, 1) := dk_42 (dk_at dksX0_keepOf_2 0 rfl rfl)
theorem dX0_keepOf_48 : decode cX0_keepOf 48 = .ok (.getfield 256, 3) := dk_180 1 0 (dk_at dksX0_keepOf_2 1 rfl rfl)
theorem dX0_keepOf_51 : decode cX0_keepOf 51 = .ok (.istore_n 3, 1) := dk_62 (dk_at dksX0_keepOf_2 4 rfl rfl)
theorem dX0_keepOf_52 : decode cX0_keepOf 52 = .ok (.aload_n 0, 1) := dk_42 (dk_at dksX0_keepOf_2 5 rfl rfl)
theorem dX0_keepOf_53 : decode cX0_keepOf 53 = .ok (.bipush 23, 2) := dk_16 23 (dk_at dksX0_keepOf_2 6 rfl rfl)
theorem dX0_keepOf_55 : decode cX0_keepOf 55 = .ok (.invokevirtual 299, 3) := dk_182 1 43 (dk_at dksX0_keepOf_2 8 rfl rfl)
theorem dX0_keepOf_58 : decode cX0_keepOf 58 = .ok (.istore 4, 2) := dk_54 4 (dk_at dksX0_keepOf_2 11 rfl rfl)
theorem dX0_keepOf_60 : decode cX0_keepOf 60 = .ok (.aload_n 0, 1) := dk_42 (dk_at dksX0_keepOf_2 13 rfl rfl)
theorem dX0_keepOf_61 : decode cX0_keepOf 61 = .ok (.dup, 1) := dk_89 (dk_at dksX0_keepOf_2 14 rfl rfl)
theorem dX0_keepOf_62 : decode cX0_keepOf 62 = .ok (.getfield 256, 3) := dk_180 1 0 (dk_at dksX0_keepOf_2 15 rfl rfl)
theorem dX0_keepOf_65 : decode cX0_keepOf 65 = .ok (.iconst 1, 1) := dk_4 (dk_at dksX0_keepOf_2 18 rfl rfl)
theorem dX0_keepOf_66 : decode cX0_keepOf 66 = .ok (.iadd, 1) := dk_96 (dk_at dksX0_keepOf_2 19 rfl rfl)
theorem dX0_keepOf_67 : decode cX0_keepOf 67 = .ok (.putfield 256, 3) := dk_181 1 0 (dk_at dksX0_keepOf_2 20 rfl rfl)
theorem dX0_keepOf_70 : decode cX0_keepOf 70 = .ok (.goto (-55), 3) := dk_167 255 201 (dk_at dksX0_keepOf_3 0 rfl rfl)
theorem dX0_keepOf_73 : decode cX0_keepOf 73 = .ok (.aload_n 0, 1) := dk_42 (dk_at dksX0_keepOf_3 3 rfl rfl)
theorem dX0_keepOf_74 : decode cX0_keepOf 74 = .ok (.iconst (-1), 1) := dk_2 (dk_at dksX0_keepOf_3 4 rfl rfl)
theorem dX0_keepOf_75 : decode cX0_keepOf 75 = .ok (.putfield 61, 3) := dk_181 0 61 (dk_at dksX0_keepOf_3 5 rfl rfl)
theorem dX0_keepOf_78 : decode cX0_keepOf 78 = .ok (.goto 13, 3) := dk_167 0 13 (dk_at dksX0_keepOf_3 8 rfl rfl)
theorem dX0_keepOf_81 : decode cX0_keepOf 81 = .ok (.astore 5, 2) := dk_58 5 (dk_at dksX0_keepOf_3 11 rfl rfl)
theorem dX0_keepOf_83 : decode cX0_keepOf 83 = .ok (.aload_n 0, 1) := dk_42 (dk_at dksX0_keepOf_3 13 rfl rfl)
theorem dX0_keepOf_84 : decode cX0_keepOf 84 = .ok (.iconst (-1), 1) := dk_2 (dk_at dksX0_keepOf_3 14 rfl rfl)
theorem dX0_keepOf_85 : decode cX0_keepOf 85 = .ok (.putfield 61, 3) := dk_181 0 61 (dk_at dksX0_keepOf_3 15 rfl rfl)
theorem dX0_keepOf_88 : decode cX0_keepOf 88 = .ok (.aload 5, 2) := dk_25 5 (dk_at dksX0_keepOf_3 18 rfl rfl)
theorem dX0_keepOf_90 : decode cX0_keepOf 90 = .ok (.athrow, 1) := dk_191 (dk_at dksX0_keepOf_3 20 rfl rfl)
theorem dX0_keepOf_91 : decode cX0_keepOf 91 = .ok (.iload_n 2, 1) := dk_28 (dk_at dksX0_keepOf_3 21 rfl rfl)
theorem dX0_keepOf_92 : decode cX0_keepOf 92 = .ok (.ifCond .ne 7, 3) := dk_154 0 7 (dk_at dksX0_keepOf_4 0 rfl rfl)
theorem dX0_keepOf_95 : decode cX0_keepOf 95 = .ok (.iload_n 3, 1) := dk_29 (dk_at dksX0_keepOf_4 3 rfl rfl)
theorem dX0_keepOf_96 : decode cX0_keepOf 96 = .ok (.goto 5, 3) := dk_167 0 5 (dk_at dksX0_keepOf_4 4 rfl rfl)
theorem dX0_keepOf_99 : decode cX0_keepOf 99 = .ok (.iload 4, 2) := dk_21 4 (dk_at dksX0_keepOf_4 7 rfl rfl)
theorem dX0_keepOf_101 : decode cX0_keepOf 101 = .ok (.ireturn, 1) := dk_172 (dk_at dksX0_keepOf_4 9 rfl rfl)
abbrev cX0_due : ByteArray := prog_1_method_50_code
def yX0_due : MethodName := ⟨RX0, "due", "(II)I"⟩
def dkwX0_due_1 : List UInt8 := [16, 254, 172]
abbrev dktX0_due_1 : List UInt8 := dkwX0_due_1 ++ []
def dkwX0_due_0 : List UInt8 := [42, 27, 182, 0, 145, 153, 0, 19, 28, 184, 0, 100, 153, 0, 12, 42, 27, 28, 182, 1, 55, 167, 0, 5]
abbrev dktX0_due_0 : List UInt8 := dkwX0_due_0 ++ dktX0_due_1
theorem dksX0_due_0 : cX0_due.data.toList.drop 0 = dktX0_due_0 := by decide +kernel
theorem dksX0_due_1 : cX0_due.data.toList.drop 24 = dktX0_due_1 := dk_seg dksX0_due_0 24 rfl rfl
theorem dX0_due_0 : decode cX0_due 0 = .ok (.aload_n 0, 1) := dk_42 (dk_at dksX0_due_0 0 rfl rfl)
theorem dX0_due_1 : decode cX0_due 1 = .ok (.iload_n 1, 1) := dk_27 (dk_at dksX0_due_0 1 rfl rfl)
theorem dX0_due_2 : decode cX0_due 2 = .ok (.invokevirtual 145, 3) := dk_182 0 145 (dk_at dksX0_due_0 2 rfl rfl)
theorem dX0_due_5 : decode cX0_due 5 = .ok (.ifCond .eq 19, 3) := dk_153 0 19 (dk_at dksX0_due_0 5 rfl rfl)
theorem dX0_due_8 : decode cX0_due 8 = .ok (.iload_n 2, 1) := dk_28 (dk_at dksX0_due_0 8 rfl rfl)
theorem dX0_due_9 : decode cX0_due 9 = .ok (.invokestatic 100, 3) := dk_184 0 100 (dk_at dksX0_due_0 9 rfl rfl)
theorem dX0_due_12 : decode cX0_due 12 = .ok (.ifCond .eq 12, 3) := dk_153 0 12 (dk_at dksX0_due_0 12 rfl rfl)
theorem dX0_due_15 : decode cX0_due 15 = .ok (.aload_n 0, 1) := dk_42 (dk_at dksX0_due_0 15 rfl rfl)
theorem dX0_due_16 : decode cX0_due 16 = .ok (.iload_n 1, 1) := dk_27 (dk_at dksX0_due_0 16 rfl rfl)
theorem dX0_due_17 : decode cX0_due 17 = .ok (.iload_n 2, 1) := dk_28 (dk_at dksX0_due_0 17 rfl rfl)
theorem dX0_due_18 : decode cX0_due 18 = .ok (.invokevirtual 311, 3) := dk_182 1 55 (dk_at dksX0_due_0 18 rfl rfl)
theorem dX0_due_21 : decode cX0_due 21 = .ok (.goto 5, 3) := dk_167 0 5 (dk_at dksX0_due_0 21 rfl rfl)
theorem dX0_due_24 : decode cX0_due 24 = .ok (.bipush (-2), 2) := dk_16 254 (dk_at dksX0_due_1 0 rfl rfl)
theorem dX0_due_26 : decode cX0_due 26 = .ok (.ireturn, 1) := dk_172 (dk_at dksX0_due_1 2 rfl rfl)
abbrev cX0_dueOf : ByteArray := prog_1_method_49_code
def yX0_dueOf : MethodName := ⟨RX0, "dueOf", "(II)I"⟩
def dkwX0_dueOf_4 : List UInt8 := [21, 4, 181, 0, 236, 25, 7, 191, 28, 154, 0, 8, 21, 5, 167, 0, 5, 21, 6, 172]
abbrev dktX0_dueOf_4 : List UInt8 := dkwX0_dueOf_4 ++ []
def dkwX0_dueOf_3 : List UInt8 := [89, 180, 0, 236, 4, 96, 181, 0, 236, 167, 255, 209, 45, 21, 4, 181, 0, 236, 167, 0, 14, 58, 7, 45]
abbrev dktX0_dueOf_3 : List UInt8 := dkwX0_dueOf_3 ++ dktX0_dueOf_4
def dkwX0_dueOf_2 : List UInt8 := [182, 1, 37, 21, 6, 161, 0, 6, 167, 0, 15, 45, 180, 0, 236, 54, 5, 42, 182, 1, 37, 54, 6, 45]
abbrev dktX0_dueOf_2 : List UInt8 := dkwX0_dueOf_2 ++ dktX0_dueOf_3
def dkwX0_dueOf_1 : List UInt8 := [17, 39, 15, 54, 6, 45, 3, 181, 0, 236, 45, 180, 0, 236, 16, 24, 162, 0, 44, 42, 182, 1, 21, 42]
abbrev dktX0_dueOf_1 : List UInt8 := dkwX0_dueOf_1 ++ dktX0_dueOf_2
def dkwX0_dueOf_0 : List UInt8 := [42, 180, 0, 23, 180, 0, 150, 27, 182, 0, 136, 192, 0, 151, 78, 45, 180, 0, 236, 54, 4, 2, 54, 5]
abbrev dktX0_dueOf_0 : List UInt8 := dkwX0_dueOf_0 ++ dktX0_dueOf_1
theorem dksX0_dueOf_0 : cX0_dueOf.data.toList.drop 0 = dktX0_dueOf_0 := by decide +kernel
theorem dksX0_dueOf_1 : cX0_dueOf.data.toList.drop 24 = dktX0_dueOf_1 := dk_seg dksX0_dueOf_0 24 rfl rfl
theorem dksX0_dueOf_2 : cX0_dueOf.data.toList.drop 48 = dktX0_dueOf_2 := dk_seg dksX0_dueOf_1 24 rfl rfl
theorem dksX0_dueOf_3 : cX0_dueOf.data.toList.drop 72 = dktX0_dueOf_3 := dk_seg dksX0_dueOf_2 24 rfl rfl
theorem dksX0_dueOf_4 : cX0_dueOf.data.toList.drop 96 = dktX0_dueOf_4 := dk_seg dksX0_dueOf_3 24 rfl rfl
theorem dX0_dueOf_0 : decode cX0_dueOf 0 = .ok (.aload_n 0, 1) := dk_42 (dk_at dksX0_dueOf_0 0 rfl rfl)
theorem dX0_dueOf_1 : decode cX0_dueOf 1 = .ok (.getfield 23, 3) := dk_180 0 23 (dk_at dksX0_dueOf_0 1 rfl rfl)
theorem dX0_dueOf_4 : decode cX0_dueOf 4 = .ok (.getfield 150, 3) := dk_180 0 150 (dk_at dksX0_dueOf_0 4 rfl rfl)
theorem dX0_dueOf_7 : decode cX0_dueOf 7 = .ok (.iload_n 1, 1) := dk_27 (dk_at dksX0_dueOf_0 7 rfl rfl)
theorem dX0_dueOf_8 : decode cX0_dueOf 8 = .ok (.invokevirtual 136, 3) := dk_182 0 136 (dk_at dksX0_dueOf_0 8 rfl rfl)
theorem dX0_dueOf_11 : decode cX0_dueOf 11 = .ok (.checkcast 151, 3) := dk_192 0 151 (dk_at dksX0_dueOf_0 11 rfl rfl)
theorem dX0_dueOf_14 : decode cX0_dueOf 14 = .ok (.astore_n 3, 1) := dk_78 (dk_at dksX0_dueOf_0 14 rfl rfl)
theorem dX0_dueOf_15 : decode cX0_dueOf 15 = .ok (.aload_n 3, 1) := dk_45 (dk_at dksX0_dueOf_0 15 rfl rfl)
theorem dX0_dueOf_16 : decode cX0_dueOf 16 = .ok (.getfield 236, 3) := dk_180 0 236 (dk_at dksX0_dueOf_0 16 rfl rfl)
theorem dX0_dueOf_19 : decode cX0_dueOf 19 = .ok (.istore 4, 2) := dk_54 4 (dk_at dksX0_dueOf_0 19 rfl rfl)
theorem dX0_dueOf_21 : decode cX0_dueOf 21 = .ok (.iconst (-1), 1) := dk_2 (dk_at dksX0_dueOf_0 21 rfl rfl)
theorem dX0_dueOf_22 : decode cX0_dueOf 22 = .ok (.istore 5, 2) := dk_54 5 (dk_at dksX0_dueOf_0 22 rfl rfl)
theorem dX0_dueOf_24 : decode cX0_dueOf 24 = .ok (.sipush 9999, 3) := dk_17 39 15 (dk_at dksX0_dueOf_1 0 rfl rfl)
theorem dX0_dueOf_27 : decode cX0_dueOf 27 = .ok (.istore 6, 2) := dk_54 6 (dk_at dksX0_dueOf_1 3 rfl rfl)
theorem dX0_dueOf_29 : decode cX0_dueOf 29 = .ok (.aload_n 3, 1) := dk_45 (dk_at dksX0_dueOf_1 5 rfl rfl)
theorem dX0_dueOf_30 : decode cX0_dueOf 30 = .ok (.iconst 0, 1) := dk_3 (dk_at dksX0_dueOf_1 6 rfl rfl)
theorem dX0_dueOf_31 : decode cX0_dueOf 31 = .ok (.putfield 236, 3) := dk_181 0 236 (dk_at dksX0_dueOf_1 7 rfl rfl)
theorem dX0_dueOf_34 : decode cX0_dueOf 34 = .ok (.aload_n 3, 1) := dk_45 (dk_at dksX0_dueOf_1 10 rfl rfl)
theorem dX0_dueOf_35 : decode cX0_dueOf 35 = .ok (.getfield 236, 3) := dk_180 0 236 (dk_at dksX0_dueOf_1 11 rfl rfl)
theorem dX0_dueOf_38 : decode cX0_dueOf 38 = .ok (.bipush 24, 2) := dk_16 24 (dk_at dksX0_dueOf_1 14 rfl rfl)
theorem dX0_dueOf_40 : decode cX0_dueOf 40 = .ok (.if_icmp .ge 44, 3) := dk_162 0 44 (dk_at dksX0_dueOf_1 16 rfl rfl)
theorem dX0_dueOf_43 : decode cX0_dueOf 43 = .ok (.aload_n 0, 1) := dk_42 (dk_at dksX0_dueOf_1 19 rfl rfl)
theorem dX0_dueOf_44 : decode cX0_dueOf 44 = .ok (.invokevirtual 277, 3) := dk_182 1 21 (dk_at dksX0_dueOf_1 20 rfl rfl)
theorem dX0_dueOf_47 : decode cX0_dueOf 47 = .ok (.aload_n 0, 1) := dk_42 (dk_at dksX0_dueOf_1 23 rfl rfl)
theorem dX0_dueOf_48 : decode cX0_dueOf 48 = .ok (.invokevirtual 293, 3) := dk_182 1 37 (dk_at dksX0_dueOf_2 0 rfl rfl)
theorem dX0_dueOf_51 : decode cX0_dueOf 51 = .ok (.iload 6, 2) := dk_21 6 (dk_at dksX0_dueOf_2 3 rfl rfl)
theorem dX0_dueOf_53 : decode cX0_dueOf 53 = .ok (.if_icmp .lt 6, 3) := dk_161 0 6 (dk_at dksX0_dueOf_2 5 rfl rfl)
theorem dX0_dueOf_56 : decode cX0_dueOf 56 = .ok (.goto 15, 3) := dk_167 0 15 (dk_at dksX0_dueOf_2 8 rfl rfl)
theorem dX0_dueOf_59 : decode cX0_dueOf 59 = .ok (.aload_n 3, 1) := dk_45 (dk_at dksX0_dueOf_2 11 rfl rfl)
theorem dX0_dueOf_60 : decode cX0_dueOf 60 = .ok (.getfield 236, 3) := dk_180 0 236 (dk_at dksX0_dueOf_2 12 rfl rfl)
theorem dX0_dueOf_63 : decode cX0_dueOf 63 = .ok (.istore 5, 2) := dk_54 5 (dk_at dksX0_dueOf_2 15 rfl rfl)
theorem dX0_dueOf_65 : decode cX0_dueOf 65 = .ok (.aload_n 0, 1) := dk_42 (dk_at dksX0_dueOf_2 17 rfl rfl)
theorem dX0_dueOf_66 : decode cX0_dueOf 66 = .ok (.invokevirtual 293, 3) := dk_182 1 37 (dk_at dksX0_dueOf_2 18 rfl rfl)
theorem dX0_dueOf_69 : decode cX0_dueOf 69 = .ok (.istore 6, 2) := dk_54 6 (dk_at dksX0_dueOf_2 21 rfl rfl)
theorem dX0_dueOf_71 : decode cX0_dueOf 71 = .ok (.aload_n 3, 1) := dk_45 (dk_at dksX0_dueOf_2 23 rfl rfl)
theorem dX0_dueOf_72 : decode cX0_dueOf 72 = .ok (.dup, 1) := dk_89 (dk_at dksX0_dueOf_3 0 rfl rfl)
theorem dX0_dueOf_73 : decode cX0_dueOf 73 = .ok (.getfield 236, 3) := dk_180 0 236 (dk_at dksX0_dueOf_3 1 rfl rfl)
theorem dX0_dueOf_76 : decode cX0_dueOf 76 = .ok (.iconst 1, 1) := dk_4 (dk_at dksX0_dueOf_3 4 rfl rfl)
theorem dX0_dueOf_77 : decode cX0_dueOf 77 = .ok (.iadd, 1) := dk_96 (dk_at dksX0_dueOf_3 5 rfl rfl)
theorem dX0_dueOf_78 : decode cX0_dueOf 78 = .ok (.putfield 236, 3) := dk_181 0 236 (dk_at dksX0_dueOf_3 6 rfl rfl)
theorem dX0_dueOf_81 : decode cX0_dueOf 81 = .ok (.goto (-47), 3) := dk_167 255 209 (dk_at dksX0_dueOf_3 9 rfl rfl)
theorem dX0_dueOf_84 : decode cX0_dueOf 84 = .ok (.aload_n 3, 1) := dk_45 (dk_at dksX0_dueOf_3 12 rfl rfl)
theorem dX0_dueOf_85 : decode cX0_dueOf 85 = .ok (.iload 4, 2) := dk_21 4 (dk_at dksX0_dueOf_3 13 rfl rfl)
theorem dX0_dueOf_87 : decode cX0_dueOf 87 = .ok (.putfield 236, 3) := dk_181 0 236 (dk_at dksX0_dueOf_3 15 rfl rfl)
theorem dX0_dueOf_90 : decode cX0_dueOf 90 = .ok (.goto 14, 3) := dk_167 0 14 (dk_at dksX0_dueOf_3 18 rfl rfl)
theorem dX0_dueOf_93 : decode cX0_dueOf 93 = .ok (.astore 7, 2) := dk_58 7 (dk_at dksX0_dueOf_3 21 rfl rfl)
theorem dX0_dueOf_95 : decode cX0_dueOf 95 = .ok (.aload_n 3, 1) := dk_45 (dk_at dksX0_dueOf_3 23 rfl rfl)
theorem dX0_dueOf_96 : decode cX0_dueOf 96 = .ok (.iload 4, 2) := dk_21 4 (dk_at dksX0_dueOf_4 0 rfl rfl)
theorem dX0_dueOf_98 : decode cX0_dueOf 98 = .ok (.putfield 236, 3) := dk_181 0 236 (dk_at dksX0_dueOf_4 2 rfl rfl)
theorem dX0_dueOf_101 : decode cX0_dueOf 101 = .ok (.aload 7, 2) := dk_25 7 (dk_at dksX0_dueOf_4 5 rfl rfl)
theorem dX0_dueOf_103 : decode cX0_dueOf 103 = .ok (.athrow, 1) := dk_191 (dk_at dksX0_dueOf_4 7 rfl rfl)
theorem dX0_dueOf_104 : decode cX0_dueOf 104 = .ok (.iload_n 2, 1) := dk_28 (dk_at dksX0_dueOf_4 8 rfl rfl)
theorem dX0_dueOf_105 : decode cX0_dueOf 105 = .ok (.ifCond .ne 8, 3) := dk_154 0 8 (dk_at dksX0_dueOf_4 9 rfl rfl)
theorem dX0_dueOf_108 : decode cX0_dueOf 108 = .ok (.iload 5, 2) := dk_21 5 (dk_at dksX0_dueOf_4 12 rfl rfl)
theorem dX0_dueOf_110 : decode cX0_dueOf 110 = .ok (.goto 5, 3) := dk_167 0 5 (dk_at dksX0_dueOf_4 14 rfl rfl)
theorem dX0_dueOf_113 : decode cX0_dueOf 113 = .ok (.iload 6, 2) := dk_21 6 (dk_at dksX0_dueOf_4 17 rfl rfl)
theorem dX0_dueOf_115 : decode cX0_dueOf 115 = .ok (.ireturn, 1) := dk_172 (dk_at dksX0_dueOf_4 19 rfl rfl)
abbrev cX0_hush : ByteArray := prog_1_method_53_code
def yX0_hush : MethodName := ⟨RX0, "hush", "(I)I"⟩
def dkwX0_hush_0 : List UInt8 := [27, 133, 20, 1, 61, 10, 184, 0, 94, 153, 0, 11, 42, 27, 182, 1, 63, 167, 0, 5, 16, 254, 172]
abbrev dktX0_hush_0 : List UInt8 := dkwX0_hush_0 ++ []
theorem dksX0_hush_0 : cX0_hush.data.toList.drop 0 = dktX0_hush_0 := by decide +kernel
theorem dX0_hush_0 : decode cX0_hush 0 = .ok (.iload_n 1, 1) := dk_27 (dk_at dksX0_hush_0 0 rfl rfl)
theorem dX0_hush_1 : decode cX0_hush 1 = .ok (.i2l, 1) := dk_133 (dk_at dksX0_hush_0 1 rfl rfl)
theorem dX0_hush_2 : decode cX0_hush 2 = .ok (.ldc2_w 317, 3) := dk_20 1 61 (dk_at dksX0_hush_0 2 rfl rfl)
theorem dX0_hush_5 : decode cX0_hush 5 = .ok (.lconst 1, 1) := dk_10 (dk_at dksX0_hush_0 5 rfl rfl)
theorem dX0_hush_6 : decode cX0_hush 6 = .ok (.invokestatic 94, 3) := dk_184 0 94 (dk_at dksX0_hush_0 6 rfl rfl)
theorem dX0_hush_9 : decode cX0_hush 9 = .ok (.ifCond .eq 11, 3) := dk_153 0 11 (dk_at dksX0_hush_0 9 rfl rfl)
theorem dX0_hush_12 : decode cX0_hush 12 = .ok (.aload_n 0, 1) := dk_42 (dk_at dksX0_hush_0 12 rfl rfl)
theorem dX0_hush_13 : decode cX0_hush 13 = .ok (.iload_n 1, 1) := dk_27 (dk_at dksX0_hush_0 13 rfl rfl)
theorem dX0_hush_14 : decode cX0_hush 14 = .ok (.invokevirtual 319, 3) := dk_182 1 63 (dk_at dksX0_hush_0 14 rfl rfl)
theorem dX0_hush_17 : decode cX0_hush 17 = .ok (.goto 5, 3) := dk_167 0 5 (dk_at dksX0_hush_0 17 rfl rfl)
theorem dX0_hush_20 : decode cX0_hush 20 = .ok (.bipush (-2), 2) := dk_16 254 (dk_at dksX0_hush_0 20 rfl rfl)
theorem dX0_hush_22 : decode cX0_hush 22 = .ok (.ireturn, 1) := dk_172 (dk_at dksX0_hush_0 22 rfl rfl)
abbrev cX0_hushBy : ByteArray := prog_1_method_52_code
def yX0_hushBy : MethodName := ⟨RX0, "hushBy", "(I)I"⟩
def dkwX0_hushBy_5 : List UInt8 := [167, 0, 5, 21, 4, 172, 132, 4, 1, 167, 255, 212, 132, 3, 1, 167, 255, 196, 2, 172]
abbrev dktX0_hushBy_5 : List UInt8 := dkwX0_hushBy_5 ++ []
def dkwX0_hushBy_4 : List UInt8 := [120, 128, 182, 1, 58, 153, 0, 23, 27, 2, 160, 0, 7, 5, 167, 0, 13, 27, 154, 0, 7, 29]
abbrev dktX0_hushBy_4 : List UInt8 := dkwX0_hushBy_4 ++ dktX0_hushBy_5
def dkwX0_hushBy_3 : List UInt8 := [62, 29, 28, 162, 0, 61, 29, 4, 96, 54, 4, 21, 4, 28, 162, 0, 44, 42, 4, 29, 120, 4, 21, 4]
abbrev dktX0_hushBy_3 : List UInt8 := dkwX0_hushBy_3 ++ dktX0_hushBy_4
def dkwX0_hushBy_2 : List UInt8 := [160, 0, 7, 4, 167, 0, 12, 27, 154, 0, 7, 29, 167, 0, 4, 2, 172, 132, 3, 1, 167, 255, 219, 3]
abbrev dktX0_hushBy_2 : List UInt8 := dkwX0_hushBy_2 ++ dktX0_hushBy_3
def dkwX0_hushBy_1 : List UInt8 := [182, 0, 159, 61, 3, 62, 29, 28, 162, 0, 38, 42, 4, 29, 120, 182, 1, 58, 153, 0, 22, 27, 2]
abbrev dktX0_hushBy_1 : List UInt8 := dkwX0_hushBy_1 ++ dktX0_hushBy_2
def dkwX0_hushBy_0 : List UInt8 := [42, 3, 182, 1, 58, 153, 0, 14, 27, 2, 160, 0, 7, 3, 167, 0, 4, 2, 172, 42, 180, 0, 34]
abbrev dktX0_hushBy_0 : List UInt8 := dkwX0_hushBy_0 ++ dktX0_hushBy_1
theorem dksX0_hushBy_0 : cX0_hushBy.data.toList.drop 0 = dktX0_hushBy_0 := by decide +kernel
theorem dksX0_hushBy_1 : cX0_hushBy.data.toList.drop 23 = dktX0_hushBy_1 := dk_seg dksX0_hushBy_0 23 rfl rfl
theorem dksX0_hushBy_2 : cX0_hushBy.data.toList.drop 46 = dktX0_hushBy_2 := dk_seg dksX0_hushBy_1 23 rfl rfl
theorem dksX0_hushBy_3 : cX0_hushBy.data.toList.drop 70 = dktX0_hushBy_3 := dk_seg dksX0_hushBy_2 24 rfl rfl
theorem dksX0_hushBy_4 : cX0_hushBy.data.toList.drop 94 = dktX0_hushBy_4 := dk_seg dksX0_hushBy_3 24 rfl rfl
theorem dksX0_hushBy_5 : cX0_hushBy.data.toList.drop 116 = dktX0_hushBy_5 := dk_seg dksX0_hushBy_4 22 rfl rfl
theorem dX0_hushBy_0 : decode cX0_hushBy 0 = .ok (.aload_n 0, 1) := dk_42 (dk_at dksX0_hushBy_0 0 rfl rfl)
theorem dX0_hushBy_1 : decode cX0_hushBy 1 = .ok (.iconst 0, 1) := dk_3 (dk_at dksX0_hushBy_0 1 rfl rfl)
theorem dX0_hushBy_2 : decode cX0_hushBy 2 = .ok (.invokevirtual 314, 3) := dk_182 1 58 (dk_at dksX0_hushBy_0 2 rfl rfl)
theorem dX0_hushBy_5 : decode cX0_hushBy 5 = .ok (.ifCond .eq 14, 3) := dk_153 0 14 (dk_at dksX0_hushBy_0 5 rfl rfl)
theorem dX0_hushBy_8 : decode cX0_hushBy 8 = .ok (.iload_n 1, 1) := dk_27 (dk_at dksX0_hushBy_0 8 rfl rfl)
theorem dX0_hushBy_9 : decode cX0_hushBy 9 = .ok (.iconst (-1), 1) := dk_2 (dk_at dksX0_hushBy_0 9 rfl rfl)
theorem dX0_hushBy_10 : decode cX0_hushBy 10 = .ok (.if_icmp .ne 7, 3) := dk_160 0 7 (dk_at dksX0_hushBy_0 10 rfl rfl)
theorem dX0_hushBy_13 : decode cX0_hushBy 13 = .ok (.iconst 0, 1) := dk_3 (dk_at dksX0_hushBy_0 13 rfl rfl)
theorem dX0_hushBy_14 : decode cX0_hushBy 14 = .ok (.goto 4, 3) := dk_167 0 4 (dk_at dksX0_hushBy_0 14 rfl rfl)
theorem dX0_hushBy_17 : decode cX0_hushBy 17 = .ok (.iconst (-1), 1) := dk_2 (dk_at dksX0_hushBy_0 17 rfl rfl)
theorem dX0_hushBy_18 : decode cX0_hushBy 18 = .ok (.ireturn, 1) := dk_172 (dk_at dksX0_hushBy_0 18 rfl rfl)
theorem dX0_hushBy_19 : decode cX0_hushBy 19 = .ok (.aload_n 0, 1) := dk_42 (dk_at dksX0_hushBy_0 19 rfl rfl)
theorem dX0_hushBy_20 : decode cX0_hushBy 20 = .ok (.getfield 34, 3) := dk_180 0 34 (dk_at dksX0_hushBy_0 20 rfl rfl)
theorem dX0_hushBy_23 : decode cX0_hushBy 23 = .ok (.invokevirtual 159, 3) := dk_182 0 159 (dk_at dksX0_hushBy_1 0 rfl rfl)
theorem dX0_hushBy_26 : decode cX0_hushBy 26 = .ok (.istore_n 2, 1) := dk_61 (dk_at dksX0_hushBy_1 3 rfl rfl)
theorem dX0_hushBy_27 : decode cX0_hushBy 27 = .ok (.iconst 0, 1) := dk_3 (dk_at dksX0_hushBy_1 4 rfl rfl)
theorem dX0_hushBy_28 : decode cX0_hushBy 28 = .ok (.istore_n 3, 1) := dk_62 (dk_at dksX0_hushBy_1 5 rfl rfl)
theorem dX0_hushBy_29 : decode cX0_hushBy 29 = .ok (.iload_n 3, 1) := dk_29 (dk_at dksX0_hushBy_1 6 rfl rfl)
theorem dX0_hushBy_30 : decode cX0_hushBy 30 = .ok (.iload_n 2, 1) := dk_28 (dk_at dksX0_hushBy_1 7 rfl rfl)
theorem dX0_hushBy_31 : decode cX0_hushBy 31 = .ok (.if_icmp .ge 38, 3) := dk_162 0 38 (dk_at dksX0_hushBy_1 8 rfl rfl)
theorem dX0_hushBy_34 : decode cX0_hushBy 34 = .ok (.aload_n 0, 1) := dk_42 (dk_at dksX0_hushBy_1 11 rfl rfl)
theorem dX0_hushBy_35 : decode cX0_hushBy 35 = .ok (.iconst 1, 1) := dk_4 (dk_at dksX0_hushBy_1 12 rfl rfl)
theorem dX0_hushBy_36 : decode cX0_hushBy 36 = .ok (.iload_n 3, 1) := dk_29 (dk_at dksX0_hushBy_1 13 rfl rfl)
theorem dX0_hushBy_37 : decode cX0_hushBy 37 = .ok (.ishl, 1) := dk_120 (dk_at dksX0_hushBy_1 14 rfl rfl)
theorem dX0_hushBy_38 : decode cX0_hushBy 38 = .ok (.invokevirtual 314, 3) := dk_182 1 58 (dk_at dksX0_hushBy_1 15 rfl rfl)
theorem dX0_hushBy_41 : decode cX0_hushBy 41 = .ok (.ifCond .eq 22, 3) := dk_153 0 22 (dk_at dksX0_hushBy_1 18 rfl rfl)
theorem dX0_hushBy_44 : decode cX0_hushBy 44 = .ok (.iload_n 1, 1) := dk_27 (dk_at dksX0_hushBy_1 21 rfl rfl)
theorem dX0_hushBy_45 : decode cX0_hushBy 45 = .ok (.iconst (-1), 1) := dk_2 (dk_at dksX0_hushBy_1 22 rfl rfl)
theorem dX0_hushBy_46 : decode cX0_hushBy 46 = .ok (.if_icmp .ne 7, 3) := dk_160 0 7 (dk_at dksX0_hushBy_2 0 rfl rfl)
theorem dX0_hushBy_49 : decode cX0_hushBy 49 = .ok (.iconst 1, 1) := dk_4 (dk_at dksX0_hushBy_2 3 rfl rfl)
theorem dX0_hushBy_50 : decode cX0_hushBy 50 = .ok (.goto 12, 3) := dk_167 0 12 (dk_at dksX0_hushBy_2 4 rfl rfl)
theorem dX0_hushBy_53 : decode cX0_hushBy 53 = .ok (.iload_n 1, 1) := dk_27 (dk_at dksX0_hushBy_2 7 rfl rfl)
theorem dX0_hushBy_54 : decode cX0_hushBy 54 = .ok (.ifCond .ne 7, 3) := dk_154 0 7 (dk_at dksX0_hushBy_2 8 rfl rfl)
theorem dX0_hushBy_57 : decode cX0_hushBy 57 = .ok (.iload_n 3, 1) := dk_29 (dk_at dksX0_hushBy_2 11 rfl rfl)
theorem dX0_hushBy_58 : decode cX0_hushBy 58 = .ok (.goto 4, 3) := dk_167 0 4 (dk_at dksX0_hushBy_2 12 rfl rfl)
theorem dX0_hushBy_61 : decode cX0_hushBy 61 = .ok (.iconst (-1), 1) := dk_2 (dk_at dksX0_hushBy_2 15 rfl rfl)
theorem dX0_hushBy_62 : decode cX0_hushBy 62 = .ok (.ireturn, 1) := dk_172 (dk_at dksX0_hushBy_2 16 rfl rfl)
theorem dX0_hushBy_63 : decode cX0_hushBy 63 = .ok (.iinc 3 1, 3) := dk_132 3 1 (dk_at dksX0_hushBy_2 17 rfl rfl)
theorem dX0_hushBy_66 : decode cX0_hushBy 66 = .ok (.goto (-37), 3) := dk_167 255 219 (dk_at dksX0_hushBy_2 20 rfl rfl)
theorem dX0_hushBy_69 : decode cX0_hushBy 69 = .ok (.iconst 0, 1) := dk_3 (dk_at dksX0_hushBy_2 23 rfl rfl)
theorem dX0_hushBy_70 : decode cX0_hushBy 70 = .ok (.istore_n 3, 1) := dk_62 (dk_at dksX0_hushBy_3 0 rfl rfl)
theorem dX0_hushBy_71 : decode cX0_hushBy 71 = .ok (.iload_n 3, 1) := dk_29 (dk_at dksX0_hushBy_3 1 rfl rfl)
theorem dX0_hushBy_72 : decode cX0_hushBy 72 = .ok (.iload_n 2, 1) := dk_28 (dk_at dksX0_hushBy_3 2 rfl rfl)
theorem dX0_hushBy_73 : decode cX0_hushBy 73 = .ok (.if_icmp .ge 61, 3) := dk_162 0 61 (dk_at dksX0_hushBy_3 3 rfl rfl)
theorem dX0_hushBy_76 : decode cX0_hushBy 76 = .ok (.iload_n 3, 1) := dk_29 (dk_at dksX0_hushBy_3 6 rfl rfl)
theorem dX0_hushBy_77 : decode cX0_hushBy 77 = .ok (.iconst 1, 1) := dk_4 (dk_at dksX0_hushBy_3 7 rfl rfl)
theorem dX0_hushBy_78 : decode cX0_hushBy 78 = .ok (.iadd, 1) := dk_96 (dk_at dksX0_hushBy_3 8 rfl rfl)
theorem dX0_hushBy_79 : decode cX0_hushBy 79 = .ok (.istore 4, 2) := dk_54 4 (dk_at dksX0_hushBy_3 9 rfl rfl)
theorem dX0_hushBy_81 : decode cX0_hushBy 81 = .ok (.iload 4, 2) := dk_21 4 (dk_at dksX0_hushBy_3 11 rfl rfl)
theorem dX0_hushBy_83 : decode cX0_hushBy 83 = .ok (.iload_n 2, 1) := dk_28 (dk_at dksX0_hushBy_3 13 rfl rfl)
theorem dX0_hushBy_84 : decode cX0_hushBy 84 = .ok (.if_icmp .ge 44, 3) := dk_162 0 44 (dk_at dksX0_hushBy_3 14 rfl rfl)
theorem dX0_hushBy_87 : decode cX0_hushBy 87 = .ok (.aload_n 0, 1) := dk_42 (dk_at dksX0_hushBy_3 17 rfl rfl)
theorem dX0_hushBy_88 : decode cX0_hushBy 88 = .ok (.iconst 1, 1) := dk_4 (dk_at dksX0_hushBy_3 18 rfl rfl)
theorem dX0_hushBy_89 : decode cX0_hushBy 89 = .ok (.iload_n 3, 1) := dk_29 (dk_at dksX0_hushBy_3 19 rfl rfl)
theorem dX0_hushBy_90 : decode cX0_hushBy 90 = .ok (.ishl, 1) := dk_120 (dk_at dksX0_hushBy_3 20 rfl rfl)
theorem dX0_hushBy_91 : decode cX0_hushBy 91 = .ok (.iconst 1, 1) := dk_4 (dk_at dksX0_hushBy_3 21 rfl rfl)
theorem dX0_hushBy_92 : decode cX0_hushBy 92 = .ok (.iload 4, 2) := dk_21 4 (dk_at dksX0_hushBy_3 22 rfl rfl)
theorem dX0_hushBy_94 : decode cX0_hushBy 94 = .ok (.ishl, 1) := dk_120 (dk_at dksX0_hushBy_4 0 rfl rfl)
theorem dX0_hushBy_95 : decode cX0_hushBy 95 = .ok (.ior, 1) := dk_128 (dk_at dksX0_hushBy_4 1 rfl rfl)
theorem dX0_hushBy_96 : decode cX0_hushBy 96 = .ok (.invokevirtual 314, 3) := dk_182 1 58 (dk_at dksX0_hushBy_4 2 rfl rfl)
theorem dX0_hushBy_99 : decode cX0_hushBy 99 = .ok (.ifCond .eq 23, 3) := dk_153 0 23 (dk_at dksX0_hushBy_4 5 rfl rfl)
theorem dX0_hushBy_102 : decode cX0_hushBy 102 = .ok (.iload_n 1, 1) := dk_27 (dk_at dksX0_hushBy_4 8 rfl rfl)
theorem dX0_hushBy_103 : decode cX0_hushBy 103 = .ok (.iconst (-1), 1) := dk_2 (dk_at dksX0_hushBy_4 9 rfl rfl)
theorem dX0_hushBy_104 : decode cX0_hushBy 104 = .ok (.if_icmp .ne 7, 3) := dk_160 0 7 (dk_at dksX0_hushBy_4 10 rfl rfl)
theorem dX0_hushBy_107 : decode cX0_hushBy 107 = .ok (.iconst 2, 1) := dk_5 (dk_at dksX0_hushBy_4 13 rfl rfl)
theorem dX0_hushBy_108 : decode cX0_hushBy 108 = .ok (.goto 13, 3) := dk_167 0 13 (dk_at dksX0_hushBy_4 14 rfl rfl)
theorem dX0_hushBy_111 : decode cX0_hushBy 111 = .ok (.iload_n 1, 1) := dk_27 (dk_at dksX0_hushBy_4 17 rfl rfl)
theorem dX0_hushBy_112 : decode cX0_hushBy 112 = .ok (.ifCond .ne 7, 3) := dk_154 0 7 (dk_at dksX0_hushBy_4 18 rfl rfl)
theorem dX0_hushBy_115 : decode cX0_hushBy 115 = .ok (.iload_n 3, 1) := dk_29 (dk_at dksX0_hushBy_4 21 rfl rfl)
theorem dX0_hushBy_116 : decode cX0_hushBy 116 = .ok (.goto 5, 3) := dk_167 0 5 (dk_at dksX0_hushBy_5 0 rfl rfl)
theorem dX0_hushBy_119 : decode cX0_hushBy 119 = .ok (.iload 4, 2) := dk_21 4 (dk_at dksX0_hushBy_5 3 rfl rfl)
theorem dX0_hushBy_121 : decode cX0_hushBy 121 = .ok (.ireturn, 1) := dk_172 (dk_at dksX0_hushBy_5 5 rfl rfl)
theorem dX0_hushBy_122 : decode cX0_hushBy 122 = .ok (.iinc 4 1, 3) := dk_132 4 1 (dk_at dksX0_hushBy_5 6 rfl rfl)
theorem dX0_hushBy_125 : decode cX0_hushBy 125 = .ok (.goto (-44), 3) := dk_167 255 212 (dk_at dksX0_hushBy_5 9 rfl rfl)
theorem dX0_hushBy_128 : decode cX0_hushBy 128 = .ok (.iinc 3 1, 3) := dk_132 3 1 (dk_at dksX0_hushBy_5 12 rfl rfl)
theorem dX0_hushBy_131 : decode cX0_hushBy 131 = .ok (.goto (-60), 3) := dk_167 255 196 (dk_at dksX0_hushBy_5 15 rfl rfl)
theorem dX0_hushBy_134 : decode cX0_hushBy 134 = .ok (.iconst (-1), 1) := dk_2 (dk_at dksX0_hushBy_5 18 rfl rfl)
theorem dX0_hushBy_135 : decode cX0_hushBy 135 = .ok (.ireturn, 1) := dk_172 (dk_at dksX0_hushBy_5 19 rfl rfl)
abbrev cX0_isHushed : ByteArray := prog_1_method_51_code
def yX0_isHushed : MethodName := ⟨RX0, "isHushed", "(I)Z"⟩
def dkwX0_isHushed_1 : List UInt8 := [42, 3, 181, 1, 6, 28, 172, 78, 42, 3, 181, 1, 6, 45, 191]
abbrev dktX0_isHushed_1 : List UInt8 := dkwX0_isHushed_1 ++ []
def dkwX0_isHushed_0 : List UInt8 := [42, 27, 181, 1, 6, 42, 182, 1, 21, 42, 16, 23, 182, 1, 31, 154, 0, 7, 4, 167, 0, 4, 3, 61]
abbrev dktX0_isHushed_0 : List UInt8 := dkwX0_isHushed_0 ++ dktX0_isHushed_1
theorem dksX0_isHushed_0 : cX0_isHushed.data.toList.drop 0 = dktX0_isHushed_0 := by decide +kernel
theorem dksX0_isHushed_1 : cX0_isHushed.data.toList.drop 24 = dktX0_isHushed_1 := dk_seg dksX0_isHushed_0 24 rfl rfl
theorem dX0_isHushed_0 : decode cX0_isHushed 0 = .ok (.aload_n 0, 1) := dk_42 (dk_at dksX0_isHushed_0 0 rfl rfl)
theorem dX0_isHushed_1 : decode cX0_isHushed 1 = .ok (.iload_n 1, 1) := dk_27 (dk_at dksX0_isHushed_0 1 rfl rfl)
theorem dX0_isHushed_2 : decode cX0_isHushed 2 = .ok (.putfield 262, 3) := dk_181 1 6 (dk_at dksX0_isHushed_0 2 rfl rfl)
theorem dX0_isHushed_5 : decode cX0_isHushed 5 = .ok (.aload_n 0, 1) := dk_42 (dk_at dksX0_isHushed_0 5 rfl rfl)
theorem dX0_isHushed_6 : decode cX0_isHushed 6 = .ok (.invokevirtual 277, 3) := dk_182 1 21 (dk_at dksX0_isHushed_0 6 rfl rfl)
theorem dX0_isHushed_9 : decode cX0_isHushed 9 = .ok (.aload_n 0, 1) := dk_42 (dk_at dksX0_isHushed_0 9 rfl rfl)
theorem dX0_isHushed_10 : decode cX0_isHushed 10 = .ok (.bipush 23, 2) := dk_16 23 (dk_at dksX0_isHushed_0 10 rfl rfl)
theorem dX0_isHushed_12 : decode cX0_isHushed 12 = .ok (.invokevirtual 287, 3) := dk_182 1 31 (dk_at dksX0_isHushed_0 12 rfl rfl)
theorem dX0_isHushed_15 : decode cX0_isHushed 15 = .ok (.ifCond .ne 7, 3) := dk_154 0 7 (dk_at dksX0_isHushed_0 15 rfl rfl)
theorem dX0_isHushed_18 : decode cX0_isHushed 18 = .ok (.iconst 1, 1) := dk_4 (dk_at dksX0_isHushed_0 18 rfl rfl)
theorem dX0_isHushed_19 : decode cX0_isHushed 19 = .ok (.goto 4, 3) := dk_167 0 4 (dk_at dksX0_isHushed_0 19 rfl rfl)
theorem dX0_isHushed_22 : decode cX0_isHushed 22 = .ok (.iconst 0, 1) := dk_3 (dk_at dksX0_isHushed_0 22 rfl rfl)
theorem dX0_isHushed_23 : decode cX0_isHushed 23 = .ok (.istore_n 2, 1) := dk_61 (dk_at dksX0_isHushed_0 23 rfl rfl)
theorem dX0_isHushed_24 : decode cX0_isHushed 24 = .ok (.aload_n 0, 1) := dk_42 (dk_at dksX0_isHushed_1 0 rfl rfl)
theorem dX0_isHushed_25 : decode cX0_isHushed 25 = .ok (.iconst 0, 1) := dk_3 (dk_at dksX0_isHushed_1 1 rfl rfl)
theorem dX0_isHushed_26 : decode cX0_isHushed 26 = .ok (.putfield 262, 3) := dk_181 1 6 (dk_at dksX0_isHushed_1 2 rfl rfl)
theorem dX0_isHushed_29 : decode cX0_isHushed 29 = .ok (.iload_n 2, 1) := dk_28 (dk_at dksX0_isHushed_1 5 rfl rfl)
theorem dX0_isHushed_30 : decode cX0_isHushed 30 = .ok (.ireturn, 1) := dk_172 (dk_at dksX0_isHushed_1 6 rfl rfl)
theorem dX0_isHushed_31 : decode cX0_isHushed 31 = .ok (.astore_n 3, 1) := dk_78 (dk_at dksX0_isHushed_1 7 rfl rfl)
theorem dX0_isHushed_32 : decode cX0_isHushed 32 = .ok (.aload_n 0, 1) := dk_42 (dk_at dksX0_isHushed_1 8 rfl rfl)
theorem dX0_isHushed_33 : decode cX0_isHushed 33 = .ok (.iconst 0, 1) := dk_3 (dk_at dksX0_isHushed_1 9 rfl rfl)
theorem dX0_isHushed_34 : decode cX0_isHushed 34 = .ok (.putfield 262, 3) := dk_181 1 6 (dk_at dksX0_isHushed_1 10 rfl rfl)
theorem dX0_isHushed_37 : decode cX0_isHushed 37 = .ok (.aload_n 3, 1) := dk_45 (dk_at dksX0_isHushed_1 13 rfl rfl)
theorem dX0_isHushed_38 : decode cX0_isHushed 38 = .ok (.athrow, 1) := dk_191 (dk_at dksX0_isHushed_1 14 rfl rfl)
abbrev cX0_seen : ByteArray := prog_1_method_54_code
def yX0_seen : MethodName := ⟨RX0, "seen", "(III)I"⟩
def dkwX0_seen_3 : List UInt8 := [182, 0, 162, 87, 42, 180, 0, 68, 182, 0, 159, 172]
abbrev dktX0_seen_3 : List UInt8 := dkwX0_seen_3 ++ []
def dkwX0_seen_2 : List UInt8 := [16, 252, 172, 42, 180, 0, 68, 6, 188, 10, 89, 3, 27, 79, 89, 4, 28, 79, 89, 5, 29, 79]
abbrev dktX0_seen_2 : List UInt8 := dkwX0_seen_2 ++ dktX0_seen_3
def dkwX0_seen_1 : List UInt8 := [20, 1, 66, 184, 0, 94, 154, 0, 6, 16, 254, 172, 42, 180, 0, 68, 182, 0, 159, 16, 8, 160, 0, 6]
abbrev dktX0_seen_1 : List UInt8 := dkwX0_seen_1 ++ dktX0_seen_2
def dkwX0_seen_0 : List UInt8 := [27, 184, 0, 154, 153, 0, 27, 28, 133, 9, 20, 0, 166, 184, 0, 94, 153, 0, 15, 29, 133, 9]
abbrev dktX0_seen_0 : List UInt8 := dkwX0_seen_0 ++ dktX0_seen_1
theorem dksX0_seen_0 : cX0_seen.data.toList.drop 0 = dktX0_seen_0 := by decide +kernel
theorem dksX0_seen_1 : cX0_seen.data.toList.drop 22 = dktX0_seen_1 := dk_seg dksX0_seen_0 22 rfl rfl
theorem dksX0_seen_2 : cX0_seen.data.toList.drop 46 = dktX0_seen_2 := dk_seg dksX0_seen_1 24 rfl rfl
theorem dksX0_seen_3 : cX0_seen.data.toList.drop 68 = dktX0_seen_3 := dk_seg dksX0_seen_2 22 rfl rfl
theorem dX0_seen_0 : decode cX0_seen 0 = .ok (.iload_n 1, 1) := dk_27 (dk_at dksX0_seen_0 0 rfl rfl)
theorem dX0_seen_1 : decode cX0_seen 1 = .ok (.invokestatic 154, 3) := dk_184 0 154 (dk_at dksX0_seen_0 1 rfl rfl)
theorem dX0_seen_4 : decode cX0_seen 4 = .ok (.ifCond .eq 27, 3) := dk_153 0 27 (dk_at dksX0_seen_0 4 rfl rfl)
theorem dX0_seen_7 : decode cX0_seen 7 = .ok (.iload_n 2, 1) := dk_28 (dk_at dksX0_seen_0 7 rfl rfl)
theorem dX0_seen_8 : decode cX0_seen 8 = .ok (.i2l, 1) := dk_133 (dk_at dksX0_seen_0 8 rfl rfl)
theorem dX0_seen_9 : decode cX0_seen 9 = .ok (.lconst 0, 1) := dk_9 (dk_at dksX0_seen_0 9 rfl rfl)
theorem dX0_seen_10 : decode cX0_seen 10 = .ok (.ldc2_w 166, 3) := dk_20 0 166 (dk_at dksX0_seen_0 10 rfl rfl)
theorem dX0_seen_13 : decode cX0_seen 13 = .ok (.invokestatic 94, 3) := dk_184 0 94 (dk_at dksX0_seen_0 13 rfl rfl)
theorem dX0_seen_16 : decode cX0_seen 16 = .ok (.ifCond .eq 15, 3) := dk_153 0 15 (dk_at dksX0_seen_0 16 rfl rfl)
theorem dX0_seen_19 : decode cX0_seen 19 = .ok (.iload_n 3, 1) := dk_29 (dk_at dksX0_seen_0 19 rfl rfl)
theorem dX0_seen_20 : decode cX0_seen 20 = .ok (.i2l, 1) := dk_133 (dk_at dksX0_seen_0 20 rfl rfl)
theorem dX0_seen_21 : decode cX0_seen 21 = .ok (.lconst 0, 1) := dk_9 (dk_at dksX0_seen_0 21 rfl rfl)
theorem dX0_seen_22 : decode cX0_seen 22 = .ok (.ldc2_w 322, 3) := dk_20 1 66 (dk_at dksX0_seen_1 0 rfl rfl)
theorem dX0_seen_25 : decode cX0_seen 25 = .ok (.invokestatic 94, 3) := dk_184 0 94 (dk_at dksX0_seen_1 3 rfl rfl)
theorem dX0_seen_28 : decode cX0_seen 28 = .ok (.ifCond .ne 6, 3) := dk_154 0 6 (dk_at dksX0_seen_1 6 rfl rfl)
theorem dX0_seen_31 : decode cX0_seen 31 = .ok (.bipush (-2), 2) := dk_16 254 (dk_at dksX0_seen_1 9 rfl rfl)
theorem dX0_seen_33 : decode cX0_seen 33 = .ok (.ireturn, 1) := dk_172 (dk_at dksX0_seen_1 11 rfl rfl)
theorem dX0_seen_34 : decode cX0_seen 34 = .ok (.aload_n 0, 1) := dk_42 (dk_at dksX0_seen_1 12 rfl rfl)
theorem dX0_seen_35 : decode cX0_seen 35 = .ok (.getfield 68, 3) := dk_180 0 68 (dk_at dksX0_seen_1 13 rfl rfl)
theorem dX0_seen_38 : decode cX0_seen 38 = .ok (.invokevirtual 159, 3) := dk_182 0 159 (dk_at dksX0_seen_1 16 rfl rfl)
theorem dX0_seen_41 : decode cX0_seen 41 = .ok (.bipush 8, 2) := dk_16 8 (dk_at dksX0_seen_1 19 rfl rfl)
theorem dX0_seen_43 : decode cX0_seen 43 = .ok (.if_icmp .ne 6, 3) := dk_160 0 6 (dk_at dksX0_seen_1 21 rfl rfl)
theorem dX0_seen_46 : decode cX0_seen 46 = .ok (.bipush (-4), 2) := dk_16 252 (dk_at dksX0_seen_2 0 rfl rfl)
theorem dX0_seen_48 : decode cX0_seen 48 = .ok (.ireturn, 1) := dk_172 (dk_at dksX0_seen_2 2 rfl rfl)
theorem dX0_seen_49 : decode cX0_seen 49 = .ok (.aload_n 0, 1) := dk_42 (dk_at dksX0_seen_2 3 rfl rfl)
theorem dX0_seen_50 : decode cX0_seen 50 = .ok (.getfield 68, 3) := dk_180 0 68 (dk_at dksX0_seen_2 4 rfl rfl)
theorem dX0_seen_53 : decode cX0_seen 53 = .ok (.iconst 3, 1) := dk_6 (dk_at dksX0_seen_2 7 rfl rfl)
theorem dX0_seen_54 : decode cX0_seen 54 = .ok (.newarray .int, 2) := dk_188_10 (dk_at dksX0_seen_2 8 rfl rfl)
theorem dX0_seen_56 : decode cX0_seen 56 = .ok (.dup, 1) := dk_89 (dk_at dksX0_seen_2 10 rfl rfl)
theorem dX0_seen_57 : decode cX0_seen 57 = .ok (.iconst 0, 1) := dk_3 (dk_at dksX0_seen_2 11 rfl rfl)
theorem dX0_seen_58 : decode cX0_seen 58 = .ok (.iload_n 1, 1) := dk_27 (dk_at dksX0_seen_2 12 rfl rfl)
theorem dX0_seen_59 : decode cX0_seen 59 = .ok (.iastore, 1) := dk_79 (dk_at dksX0_seen_2 13 rfl rfl)
theorem dX0_seen_60 : decode cX0_seen 60 = .ok (.dup, 1) := dk_89 (dk_at dksX0_seen_2 14 rfl rfl)
theorem dX0_seen_61 : decode cX0_seen 61 = .ok (.iconst 1, 1) := dk_4 (dk_at dksX0_seen_2 15 rfl rfl)
theorem dX0_seen_62 : decode cX0_seen 62 = .ok (.iload_n 2, 1) := dk_28 (dk_at dksX0_seen_2 16 rfl rfl)
theorem dX0_seen_63 : decode cX0_seen 63 = .ok (.iastore, 1) := dk_79 (dk_at dksX0_seen_2 17 rfl rfl)
theorem dX0_seen_64 : decode cX0_seen 64 = .ok (.dup, 1) := dk_89 (dk_at dksX0_seen_2 18 rfl rfl)
theorem dX0_seen_65 : decode cX0_seen 65 = .ok (.iconst 2, 1) := dk_5 (dk_at dksX0_seen_2 19 rfl rfl)
theorem dX0_seen_66 : decode cX0_seen 66 = .ok (.iload_n 3, 1) := dk_29 (dk_at dksX0_seen_2 20 rfl rfl)
theorem dX0_seen_67 : decode cX0_seen 67 = .ok (.iastore, 1) := dk_79 (dk_at dksX0_seen_2 21 rfl rfl)
theorem dX0_seen_68 : decode cX0_seen 68 = .ok (.invokevirtual 162, 3) := dk_182 0 162 (dk_at dksX0_seen_3 0 rfl rfl)
theorem dX0_seen_71 : decode cX0_seen 71 = .ok (.pop, 1) := dk_87 (dk_at dksX0_seen_3 3 rfl rfl)
theorem dX0_seen_72 : decode cX0_seen 72 = .ok (.aload_n 0, 1) := dk_42 (dk_at dksX0_seen_3 4 rfl rfl)
theorem dX0_seen_73 : decode cX0_seen 73 = .ok (.getfield 68, 3) := dk_180 0 68 (dk_at dksX0_seen_3 5 rfl rfl)
theorem dX0_seen_76 : decode cX0_seen 76 = .ok (.invokevirtual 159, 3) := dk_182 0 159 (dk_at dksX0_seen_3 8 rfl rfl)
theorem dX0_seen_79 : decode cX0_seen 79 = .ok (.ireturn, 1) := dk_172 (dk_at dksX0_seen_3 11 rfl rfl)
abbrev cX0_forget : ByteArray := prog_1_method_55_code
def yX0_forget : MethodName := ⟨RX0, "forget", "()I"⟩
def dkwX0_forget_0 : List UInt8 := [42, 180, 0, 68, 182, 0, 159, 60, 42, 180, 0, 68, 182, 1, 68, 27, 172]
abbrev dktX0_forget_0 : List UInt8 := dkwX0_forget_0 ++ []
theorem dksX0_forget_0 : cX0_forget.data.toList.drop 0 = dktX0_forget_0 := by decide +kernel
theorem dX0_forget_0 : decode cX0_forget 0 = .ok (.aload_n 0, 1) := dk_42 (dk_at dksX0_forget_0 0 rfl rfl)
theorem dX0_forget_1 : decode cX0_forget 1 = .ok (.getfield 68, 3) := dk_180 0 68 (dk_at dksX0_forget_0 1 rfl rfl)
theorem dX0_forget_4 : decode cX0_forget 4 = .ok (.invokevirtual 159, 3) := dk_182 0 159 (dk_at dksX0_forget_0 4 rfl rfl)
theorem dX0_forget_7 : decode cX0_forget 7 = .ok (.istore_n 1, 1) := dk_60 (dk_at dksX0_forget_0 7 rfl rfl)
theorem dX0_forget_8 : decode cX0_forget 8 = .ok (.aload_n 0, 1) := dk_42 (dk_at dksX0_forget_0 8 rfl rfl)
theorem dX0_forget_9 : decode cX0_forget 9 = .ok (.getfield 68, 3) := dk_180 0 68 (dk_at dksX0_forget_0 9 rfl rfl)
theorem dX0_forget_12 : decode cX0_forget 12 = .ok (.invokevirtual 324, 3) := dk_182 1 68 (dk_at dksX0_forget_0 12 rfl rfl)
theorem dX0_forget_15 : decode cX0_forget 15 = .ok (.iload_n 1, 1) := dk_27 (dk_at dksX0_forget_0 15 rfl rfl)
theorem dX0_forget_16 : decode cX0_forget 16 = .ok (.ireturn, 1) := dk_172 (dk_at dksX0_forget_0 16 rfl rfl)
abbrev cX0_never : ByteArray := prog_1_method_58_code
def yX0_never : MethodName := ⟨RX0, "never", "()I"⟩
theorem dX0_never_0 : decode cX0_never 0 = .ok (.aload_n 0, 1) := by decide +kernel
theorem dX0_never_1 : decode cX0_never 1 = .ok (.invokevirtual 330, 3) := by decide +kernel
theorem dX0_never_4 : decode cX0_never 4 = .ok (.ireturn, 1) := by decide +kernel
abbrev cX0_neverNow : ByteArray := prog_1_method_57_code
def yX0_neverNow : MethodName := ⟨RX0, "neverNow", "()I"⟩
def dkwX0_neverNow_2 : List UInt8 := [181, 0, 246, 167, 0, 11, 78, 42, 3, 181, 0, 246, 45, 191, 27, 172]
abbrev dktX0_neverNow_2 : List UInt8 := dkwX0_neverNow_2 ++ []
def dkwX0_neverNow_1 : List UInt8 := [182, 1, 71, 153, 0, 9, 4, 28, 120, 167, 0, 4, 3, 128, 60, 132, 2, 1, 167, 255, 218, 42, 3]
abbrev dktX0_neverNow_1 : List UInt8 := dkwX0_neverNow_1 ++ dktX0_neverNow_2
def dkwX0_neverNow_0 : List UInt8 := [3, 60, 3, 61, 28, 42, 180, 0, 30, 182, 0, 159, 162, 0, 33, 42, 4, 28, 120, 181, 0, 246, 27, 42]
abbrev dktX0_neverNow_0 : List UInt8 := dkwX0_neverNow_0 ++ dktX0_neverNow_1
theorem dksX0_neverNow_0 : cX0_neverNow.data.toList.drop 0 = dktX0_neverNow_0 := by decide +kernel
theorem dksX0_neverNow_1 : cX0_neverNow.data.toList.drop 24 = dktX0_neverNow_1 := dk_seg dksX0_neverNow_0 24 rfl rfl
theorem dksX0_neverNow_2 : cX0_neverNow.data.toList.drop 47 = dktX0_neverNow_2 := dk_seg dksX0_neverNow_1 23 rfl rfl
theorem dX0_neverNow_0 : decode cX0_neverNow 0 = .ok (.iconst 0, 1) := dk_3 (dk_at dksX0_neverNow_0 0 rfl rfl)
theorem dX0_neverNow_1 : decode cX0_neverNow 1 = .ok (.istore_n 1, 1) := dk_60 (dk_at dksX0_neverNow_0 1 rfl rfl)
theorem dX0_neverNow_2 : decode cX0_neverNow 2 = .ok (.iconst 0, 1) := dk_3 (dk_at dksX0_neverNow_0 2 rfl rfl)
theorem dX0_neverNow_3 : decode cX0_neverNow 3 = .ok (.istore_n 2, 1) := dk_61 (dk_at dksX0_neverNow_0 3 rfl rfl)
theorem dX0_neverNow_4 : decode cX0_neverNow 4 = .ok (.iload_n 2, 1) := dk_28 (dk_at dksX0_neverNow_0 4 rfl rfl)
theorem dX0_neverNow_5 : decode cX0_neverNow 5 = .ok (.aload_n 0, 1) := dk_42 (dk_at dksX0_neverNow_0 5 rfl rfl)
theorem dX0_neverNow_6 : decode cX0_neverNow 6 = .ok (.getfield 30, 3) := dk_180 0 30 (dk_at dksX0_neverNow_0 6 rfl rfl)
theorem dX0_neverNow_9 : decode cX0_neverNow 9 = .ok (.invokevirtual 159, 3) := dk_182 0 159 (dk_at dksX0_neverNow_0 9 rfl rfl)
theorem dX0_neverNow_12 : decode cX0_neverNow 12 = .ok (.if_icmp .ge 33, 3) := dk_162 0 33 (dk_at dksX0_neverNow_0 12 rfl rfl)
theorem dX0_neverNow_15 : decode cX0_neverNow 15 = .ok (.aload_n 0, 1) := dk_42 (dk_at dksX0_neverNow_0 15 rfl rfl)
theorem dX0_neverNow_16 : decode cX0_neverNow 16 = .ok (.iconst 1, 1) := dk_4 (dk_at dksX0_neverNow_0 16 rfl rfl)
theorem dX0_neverNow_17 : decode cX0_neverNow 17 = .ok (.iload_n 2, 1) := dk_28 (dk_at dksX0_neverNow_0 17 rfl rfl)
theorem dX0_neverNow_18 : decode cX0_neverNow 18 = .ok (.ishl, 1) := dk_120 (dk_at dksX0_neverNow_0 18 rfl rfl)
theorem dX0_neverNow_19 : decode cX0_neverNow 19 = .ok (.putfield 246, 3) := dk_181 0 246 (dk_at dksX0_neverNow_0 19 rfl rfl)
theorem dX0_neverNow_22 : decode cX0_neverNow 22 = .ok (.iload_n 1, 1) := dk_27 (dk_at dksX0_neverNow_0 22 rfl rfl)
theorem dX0_neverNow_23 : decode cX0_neverNow 23 = .ok (.aload_n 0, 1) := dk_42 (dk_at dksX0_neverNow_0 23 rfl rfl)
theorem dX0_neverNow_24 : decode cX0_neverNow 24 = .ok (.invokevirtual 327, 3) := dk_182 1 71 (dk_at dksX0_neverNow_1 0 rfl rfl)
theorem dX0_neverNow_27 : decode cX0_neverNow 27 = .ok (.ifCond .eq 9, 3) := dk_153 0 9 (dk_at dksX0_neverNow_1 3 rfl rfl)
theorem dX0_neverNow_30 : decode cX0_neverNow 30 = .ok (.iconst 1, 1) := dk_4 (dk_at dksX0_neverNow_1 6 rfl rfl)
theorem dX0_neverNow_31 : decode cX0_neverNow 31 = .ok (.iload_n 2, 1) := dk_28 (dk_at dksX0_neverNow_1 7 rfl rfl)
theorem dX0_neverNow_32 : decode cX0_neverNow 32 = .ok (.ishl, 1) := dk_120 (dk_at dksX0_neverNow_1 8 rfl rfl)
theorem dX0_neverNow_33 : decode cX0_neverNow 33 = .ok (.goto 4, 3) := dk_167 0 4 (dk_at dksX0_neverNow_1 9 rfl rfl)
theorem dX0_neverNow_36 : decode cX0_neverNow 36 = .ok (.iconst 0, 1) := dk_3 (dk_at dksX0_neverNow_1 12 rfl rfl)
theorem dX0_neverNow_37 : decode cX0_neverNow 37 = .ok (.ior, 1) := dk_128 (dk_at dksX0_neverNow_1 13 rfl rfl)
theorem dX0_neverNow_38 : decode cX0_neverNow 38 = .ok (.istore_n 1, 1) := dk_60 (dk_at dksX0_neverNow_1 14 rfl rfl)
theorem dX0_neverNow_39 : decode cX0_neverNow 39 = .ok (.iinc 2 1, 3) := dk_132 2 1 (dk_at dksX0_neverNow_1 15 rfl rfl)
theorem dX0_neverNow_42 : decode cX0_neverNow 42 = .ok (.goto (-38), 3) := dk_167 255 218 (dk_at dksX0_neverNow_1 18 rfl rfl)
theorem dX0_neverNow_45 : decode cX0_neverNow 45 = .ok (.aload_n 0, 1) := dk_42 (dk_at dksX0_neverNow_1 21 rfl rfl)
theorem dX0_neverNow_46 : decode cX0_neverNow 46 = .ok (.iconst 0, 1) := dk_3 (dk_at dksX0_neverNow_1 22 rfl rfl)
theorem dX0_neverNow_47 : decode cX0_neverNow 47 = .ok (.putfield 246, 3) := dk_181 0 246 (dk_at dksX0_neverNow_2 0 rfl rfl)
theorem dX0_neverNow_50 : decode cX0_neverNow 50 = .ok (.goto 11, 3) := dk_167 0 11 (dk_at dksX0_neverNow_2 3 rfl rfl)
theorem dX0_neverNow_53 : decode cX0_neverNow 53 = .ok (.astore_n 3, 1) := dk_78 (dk_at dksX0_neverNow_2 6 rfl rfl)
theorem dX0_neverNow_54 : decode cX0_neverNow 54 = .ok (.aload_n 0, 1) := dk_42 (dk_at dksX0_neverNow_2 7 rfl rfl)
theorem dX0_neverNow_55 : decode cX0_neverNow 55 = .ok (.iconst 0, 1) := dk_3 (dk_at dksX0_neverNow_2 8 rfl rfl)
theorem dX0_neverNow_56 : decode cX0_neverNow 56 = .ok (.putfield 246, 3) := dk_181 0 246 (dk_at dksX0_neverNow_2 9 rfl rfl)
theorem dX0_neverNow_59 : decode cX0_neverNow 59 = .ok (.aload_n 3, 1) := dk_45 (dk_at dksX0_neverNow_2 12 rfl rfl)
theorem dX0_neverNow_60 : decode cX0_neverNow 60 = .ok (.athrow, 1) := dk_191 (dk_at dksX0_neverNow_2 13 rfl rfl)
theorem dX0_neverNow_61 : decode cX0_neverNow 61 = .ok (.iload_n 1, 1) := dk_27 (dk_at dksX0_neverNow_2 14 rfl rfl)
theorem dX0_neverNow_62 : decode cX0_neverNow 62 = .ok (.ireturn, 1) := dk_172 (dk_at dksX0_neverNow_2 15 rfl rfl)
abbrev cX0_isSeen : ByteArray := prog_1_method_56_code
def yX0_isSeen : MethodName := ⟨RX0, "isSeen", "()Z"⟩
def dkwX0_isSeen_3 : List UInt8 := [132, 2, 1, 167, 255, 192, 27, 172]
abbrev dktX0_isSeen_3 : List UInt8 := dkwX0_isSeen_3 ++ []
def dkwX0_isSeen_2 : List UInt8 := [180, 0, 52, 45, 3, 46, 50, 45, 4, 46, 46, 45, 5, 46, 160, 0, 7, 4, 167, 0, 4, 3, 60]
abbrev dktX0_isSeen_2 : List UInt8 := dkwX0_isSeen_2 ++ dktX0_isSeen_3
def dkwX0_isSeen_1 : List UInt8 := [180, 0, 68, 28, 182, 0, 136, 192, 0, 74, 78, 42, 45, 4, 46, 182, 0, 130, 153, 0, 25, 42]
abbrev dktX0_isSeen_1 : List UInt8 := dkwX0_isSeen_1 ++ dktX0_isSeen_2
def dkwX0_isSeen_0 : List UInt8 := [42, 182, 1, 21, 4, 60, 3, 61, 28, 42, 180, 0, 68, 182, 0, 159, 162, 0, 59, 27, 153, 0, 55, 42]
abbrev dktX0_isSeen_0 : List UInt8 := dkwX0_isSeen_0 ++ dktX0_isSeen_1
theorem dksX0_isSeen_0 : cX0_isSeen.data.toList.drop 0 = dktX0_isSeen_0 := by decide +kernel
theorem dksX0_isSeen_1 : cX0_isSeen.data.toList.drop 24 = dktX0_isSeen_1 := dk_seg dksX0_isSeen_0 24 rfl rfl
theorem dksX0_isSeen_2 : cX0_isSeen.data.toList.drop 46 = dktX0_isSeen_2 := dk_seg dksX0_isSeen_1 22 rfl rfl
theorem dksX0_isSeen_3 : cX0_isSeen.data.toList.drop 69 = dktX0_isSeen_3 := dk_seg dksX0_isSeen_2 23 rfl rfl
theorem dX0_isSeen_0 : decode cX0_isSeen 0 = .ok (.aload_n 0, 1) := dk_42 (dk_at dksX0_isSeen_0 0 rfl rfl)
theorem dX0_isSeen_1 : decode cX0_isSeen 1 = .ok (.invokevirtual 277, 3) := dk_182 1 21 (dk_at dksX0_isSeen_0 1 rfl rfl)
theorem dX0_isSeen_4 : decode cX0_isSeen 4 = .ok (.iconst 1, 1) := dk_4 (dk_at dksX0_isSeen_0 4 rfl rfl)
theorem dX0_isSeen_5 : decode cX0_isSeen 5 = .ok (.istore_n 1, 1) := dk_60 (dk_at dksX0_isSeen_0 5 rfl rfl)
theorem dX0_isSeen_6 : decode cX0_isSeen 6 = .ok (.iconst 0, 1) := dk_3 (dk_at dksX0_isSeen_0 6 rfl rfl)
theorem dX0_isSeen_7 : decode cX0_isSeen 7 = .ok (.istore_n 2, 1) := dk_61 (dk_at dksX0_isSeen_0 7 rfl rfl)
theorem dX0_isSeen_8 : decode cX0_isSeen 8 = .ok (.iload_n 2, 1) := dk_28 (dk_at dksX0_isSeen_0 8 rfl rfl)
theorem dX0_isSeen_9 : decode cX0_isSeen 9 = .ok (.aload_n 0, 1) := dk_42 (dk_at dksX0_isSeen_0 9 rfl rfl)
theorem dX0_isSeen_10 : decode cX0_isSeen 10 = .ok (.getfield 68, 3) := dk_180 0 68 (dk_at dksX0_isSeen_0 10 rfl rfl)
theorem dX0_isSeen_13 : decode cX0_isSeen 13 = .ok (.invokevirtual 159, 3) := dk_182 0 159 (dk_at dksX0_isSeen_0 13 rfl rfl)
theorem dX0_isSeen_16 : decode cX0_isSeen 16 = .ok (.if_icmp .ge 59, 3) := dk_162 0 59 (dk_at dksX0_isSeen_0 16 rfl rfl)
theorem dX0_isSeen_19 : decode cX0_isSeen 19 = .ok (.iload_n 1, 1) := dk_27 (dk_at dksX0_isSeen_0 19 rfl rfl)
theorem dX0_isSeen_20 : decode cX0_isSeen 20 = .ok (.ifCond .eq 55, 3) := dk_153 0 55 (dk_at dksX0_isSeen_0 20 rfl rfl)
theorem dX0_isSeen_23 : decode cX0_isSeen 23 = .ok (.aload_n 0, 1) := dk_42 (dk_at dksX0_isSeen_0 23 rfl rfl)
theorem dX0_isSeen_24 : decode cX0_isSeen 24 = .ok (.getfield 68, 3) := dk_180 0 68 (dk_at dksX0_isSeen_1 0 rfl rfl)
theorem dX0_isSeen_27 : decode cX0_isSeen 27 = .ok (.iload_n 2, 1) := dk_28 (dk_at dksX0_isSeen_1 3 rfl rfl)
theorem dX0_isSeen_28 : decode cX0_isSeen 28 = .ok (.invokevirtual 136, 3) := dk_182 0 136 (dk_at dksX0_isSeen_1 4 rfl rfl)
theorem dX0_isSeen_31 : decode cX0_isSeen 31 = .ok (.checkcast 74, 3) := dk_192 0 74 (dk_at dksX0_isSeen_1 7 rfl rfl)
theorem dX0_isSeen_34 : decode cX0_isSeen 34 = .ok (.astore_n 3, 1) := dk_78 (dk_at dksX0_isSeen_1 10 rfl rfl)
theorem dX0_isSeen_35 : decode cX0_isSeen 35 = .ok (.aload_n 0, 1) := dk_42 (dk_at dksX0_isSeen_1 11 rfl rfl)
theorem dX0_isSeen_36 : decode cX0_isSeen 36 = .ok (.aload_n 3, 1) := dk_45 (dk_at dksX0_isSeen_1 12 rfl rfl)
theorem dX0_isSeen_37 : decode cX0_isSeen 37 = .ok (.iconst 1, 1) := dk_4 (dk_at dksX0_isSeen_1 13 rfl rfl)
theorem dX0_isSeen_38 : decode cX0_isSeen 38 = .ok (.iaload, 1) := dk_46 (dk_at dksX0_isSeen_1 14 rfl rfl)
theorem dX0_isSeen_39 : decode cX0_isSeen 39 = .ok (.invokevirtual 130, 3) := dk_182 0 130 (dk_at dksX0_isSeen_1 15 rfl rfl)
theorem dX0_isSeen_42 : decode cX0_isSeen 42 = .ok (.ifCond .eq 25, 3) := dk_153 0 25 (dk_at dksX0_isSeen_1 18 rfl rfl)
theorem dX0_isSeen_45 : decode cX0_isSeen 45 = .ok (.aload_n 0, 1) := dk_42 (dk_at dksX0_isSeen_1 21 rfl rfl)
theorem dX0_isSeen_46 : decode cX0_isSeen 46 = .ok (.getfield 52, 3) := dk_180 0 52 (dk_at dksX0_isSeen_2 0 rfl rfl)
theorem dX0_isSeen_49 : decode cX0_isSeen 49 = .ok (.aload_n 3, 1) := dk_45 (dk_at dksX0_isSeen_2 3 rfl rfl)
theorem dX0_isSeen_50 : decode cX0_isSeen 50 = .ok (.iconst 0, 1) := dk_3 (dk_at dksX0_isSeen_2 4 rfl rfl)
theorem dX0_isSeen_51 : decode cX0_isSeen 51 = .ok (.iaload, 1) := dk_46 (dk_at dksX0_isSeen_2 5 rfl rfl)
theorem dX0_isSeen_52 : decode cX0_isSeen 52 = .ok (.aaload, 1) := dk_50 (dk_at dksX0_isSeen_2 6 rfl rfl)
theorem dX0_isSeen_53 : decode cX0_isSeen 53 = .ok (.aload_n 3, 1) := dk_45 (dk_at dksX0_isSeen_2 7 rfl rfl)
theorem dX0_isSeen_54 : decode cX0_isSeen 54 = .ok (.iconst 1, 1) := dk_4 (dk_at dksX0_isSeen_2 8 rfl rfl)
theorem dX0_isSeen_55 : decode cX0_isSeen 55 = .ok (.iaload, 1) := dk_46 (dk_at dksX0_isSeen_2 9 rfl rfl)
theorem dX0_isSeen_56 : decode cX0_isSeen 56 = .ok (.iaload, 1) := dk_46 (dk_at dksX0_isSeen_2 10 rfl rfl)
theorem dX0_isSeen_57 : decode cX0_isSeen 57 = .ok (.aload_n 3, 1) := dk_45 (dk_at dksX0_isSeen_2 11 rfl rfl)
theorem dX0_isSeen_58 : decode cX0_isSeen 58 = .ok (.iconst 2, 1) := dk_5 (dk_at dksX0_isSeen_2 12 rfl rfl)
theorem dX0_isSeen_59 : decode cX0_isSeen 59 = .ok (.iaload, 1) := dk_46 (dk_at dksX0_isSeen_2 13 rfl rfl)
theorem dX0_isSeen_60 : decode cX0_isSeen 60 = .ok (.if_icmp .ne 7, 3) := dk_160 0 7 (dk_at dksX0_isSeen_2 14 rfl rfl)
theorem dX0_isSeen_63 : decode cX0_isSeen 63 = .ok (.iconst 1, 1) := dk_4 (dk_at dksX0_isSeen_2 17 rfl rfl)
theorem dX0_isSeen_64 : decode cX0_isSeen 64 = .ok (.goto 4, 3) := dk_167 0 4 (dk_at dksX0_isSeen_2 18 rfl rfl)
theorem dX0_isSeen_67 : decode cX0_isSeen 67 = .ok (.iconst 0, 1) := dk_3 (dk_at dksX0_isSeen_2 21 rfl rfl)
theorem dX0_isSeen_68 : decode cX0_isSeen 68 = .ok (.istore_n 1, 1) := dk_60 (dk_at dksX0_isSeen_2 22 rfl rfl)
theorem dX0_isSeen_69 : decode cX0_isSeen 69 = .ok (.iinc 2 1, 3) := dk_132 2 1 (dk_at dksX0_isSeen_3 0 rfl rfl)
theorem dX0_isSeen_72 : decode cX0_isSeen 72 = .ok (.goto (-64), 3) := dk_167 255 192 (dk_at dksX0_isSeen_3 3 rfl rfl)
theorem dX0_isSeen_75 : decode cX0_isSeen 75 = .ok (.iload_n 1, 1) := dk_27 (dk_at dksX0_isSeen_3 6 rfl rfl)
theorem dX0_isSeen_76 : decode cX0_isSeen 76 = .ok (.ireturn, 1) := dk_172 (dk_at dksX0_isSeen_3 7 rfl rfl)
abbrev cX0_was : ByteArray := prog_1_method_62_code
def yX0_was : MethodName := ⟨RX0, "was", "(II)I"⟩
def dkwX0_was_1 : List UInt8 := [16, 254, 172]
abbrev dktX0_was_1 : List UInt8 := dkwX0_was_1 ++ []
def dkwX0_was_0 : List UInt8 := [42, 27, 182, 0, 130, 153, 0, 19, 28, 184, 0, 100, 153, 0, 12, 42, 27, 28, 182, 1, 88, 167, 0, 5]
abbrev dktX0_was_0 : List UInt8 := dkwX0_was_0 ++ dktX0_was_1
theorem dksX0_was_0 : cX0_was.data.toList.drop 0 = dktX0_was_0 := by decide +kernel
theorem dksX0_was_1 : cX0_was.data.toList.drop 24 = dktX0_was_1 := dk_seg dksX0_was_0 24 rfl rfl
theorem dX0_was_0 : decode cX0_was 0 = .ok (.aload_n 0, 1) := dk_42 (dk_at dksX0_was_0 0 rfl rfl)
theorem dX0_was_1 : decode cX0_was 1 = .ok (.iload_n 1, 1) := dk_27 (dk_at dksX0_was_0 1 rfl rfl)
theorem dX0_was_2 : decode cX0_was 2 = .ok (.invokevirtual 130, 3) := dk_182 0 130 (dk_at dksX0_was_0 2 rfl rfl)
theorem dX0_was_5 : decode cX0_was 5 = .ok (.ifCond .eq 19, 3) := dk_153 0 19 (dk_at dksX0_was_0 5 rfl rfl)
theorem dX0_was_8 : decode cX0_was 8 = .ok (.iload_n 2, 1) := dk_28 (dk_at dksX0_was_0 8 rfl rfl)
theorem dX0_was_9 : decode cX0_was 9 = .ok (.invokestatic 100, 3) := dk_184 0 100 (dk_at dksX0_was_0 9 rfl rfl)
theorem dX0_was_12 : decode cX0_was 12 = .ok (.ifCond .eq 12, 3) := dk_153 0 12 (dk_at dksX0_was_0 12 rfl rfl)
theorem dX0_was_15 : decode cX0_was 15 = .ok (.aload_n 0, 1) := dk_42 (dk_at dksX0_was_0 15 rfl rfl)
theorem dX0_was_16 : decode cX0_was 16 = .ok (.iload_n 1, 1) := dk_27 (dk_at dksX0_was_0 16 rfl rfl)
theorem dX0_was_17 : decode cX0_was 17 = .ok (.iload_n 2, 1) := dk_28 (dk_at dksX0_was_0 17 rfl rfl)
theorem dX0_was_18 : decode cX0_was 18 = .ok (.invokevirtual 344, 3) := dk_182 1 88 (dk_at dksX0_was_0 18 rfl rfl)
theorem dX0_was_21 : decode cX0_was 21 = .ok (.goto 5, 3) := dk_167 0 5 (dk_at dksX0_was_0 21 rfl rfl)
theorem dX0_was_24 : decode cX0_was 24 = .ok (.bipush (-2), 2) := dk_16 254 (dk_at dksX0_was_1 0 rfl rfl)
theorem dX0_was_26 : decode cX0_was 26 = .ok (.ireturn, 1) := dk_172 (dk_at dksX0_was_1 2 rfl rfl)
abbrev cX0_wasOf : ByteArray := prog_1_method_61_code
def yX0_wasOf : MethodName := ⟨RX0, "wasOf", "(II)I"⟩
def dkwX0_wasOf_1 : List UInt8 := [192, 0, 140, 182, 1, 84, 172]
abbrev dktX0_wasOf_1 : List UInt8 := dkwX0_wasOf_1 ++ []
def dkwX0_wasOf_0 : List UInt8 := [28, 154, 0, 11, 42, 27, 182, 1, 81, 167, 0, 21, 42, 42, 180, 0, 14, 180, 0, 133, 27, 182, 0, 136]
abbrev dktX0_wasOf_0 : List UInt8 := dkwX0_wasOf_0 ++ dktX0_wasOf_1
theorem dksX0_wasOf_0 : cX0_wasOf.data.toList.drop 0 = dktX0_wasOf_0 := by decide +kernel
theorem dksX0_wasOf_1 : cX0_wasOf.data.toList.drop 24 = dktX0_wasOf_1 := dk_seg dksX0_wasOf_0 24 rfl rfl
theorem dX0_wasOf_0 : decode cX0_wasOf 0 = .ok (.iload_n 2, 1) := dk_28 (dk_at dksX0_wasOf_0 0 rfl rfl)
theorem dX0_wasOf_1 : decode cX0_wasOf 1 = .ok (.ifCond .ne 11, 3) := dk_154 0 11 (dk_at dksX0_wasOf_0 1 rfl rfl)
theorem dX0_wasOf_4 : decode cX0_wasOf 4 = .ok (.aload_n 0, 1) := dk_42 (dk_at dksX0_wasOf_0 4 rfl rfl)
theorem dX0_wasOf_5 : decode cX0_wasOf 5 = .ok (.iload_n 1, 1) := dk_27 (dk_at dksX0_wasOf_0 5 rfl rfl)
theorem dX0_wasOf_6 : decode cX0_wasOf 6 = .ok (.invokevirtual 337, 3) := dk_182 1 81 (dk_at dksX0_wasOf_0 6 rfl rfl)
theorem dX0_wasOf_9 : decode cX0_wasOf 9 = .ok (.goto 21, 3) := dk_167 0 21 (dk_at dksX0_wasOf_0 9 rfl rfl)
theorem dX0_wasOf_12 : decode cX0_wasOf 12 = .ok (.aload_n 0, 1) := dk_42 (dk_at dksX0_wasOf_0 12 rfl rfl)
theorem dX0_wasOf_13 : decode cX0_wasOf 13 = .ok (.aload_n 0, 1) := dk_42 (dk_at dksX0_wasOf_0 13 rfl rfl)
theorem dX0_wasOf_14 : decode cX0_wasOf 14 = .ok (.getfield 14, 3) := dk_180 0 14 (dk_at dksX0_wasOf_0 14 rfl rfl)
theorem dX0_wasOf_17 : decode cX0_wasOf 17 = .ok (.getfield 133, 3) := dk_180 0 133 (dk_at dksX0_wasOf_0 17 rfl rfl)
theorem dX0_wasOf_20 : decode cX0_wasOf 20 = .ok (.iload_n 1, 1) := dk_27 (dk_at dksX0_wasOf_0 20 rfl rfl)
theorem dX0_wasOf_21 : decode cX0_wasOf 21 = .ok (.invokevirtual 136, 3) := dk_182 0 136 (dk_at dksX0_wasOf_0 21 rfl rfl)
theorem dX0_wasOf_24 : decode cX0_wasOf 24 = .ok (.checkcast 140, 3) := dk_192 0 140 (dk_at dksX0_wasOf_1 0 rfl rfl)
theorem dX0_wasOf_27 : decode cX0_wasOf 27 = .ok (.invokevirtual 340, 3) := dk_182 1 84 (dk_at dksX0_wasOf_1 3 rfl rfl)
theorem dX0_wasOf_30 : decode cX0_wasOf 30 = .ok (.ireturn, 1) := dk_172 (dk_at dksX0_wasOf_1 6 rfl rfl)
abbrev cX0_sizesOf : ByteArray := prog_1_method_59_code
def yX0_sizesOf : MethodName := ⟨RX0, "sizesOf", "(I)I"⟩
def dkwX0_sizesOf_5 : List UInt8 := [58, 6, 44, 29, 181, 0, 234, 25, 6, 191, 21, 4, 172]
abbrev dktX0_sizesOf_5 : List UInt8 := dkwX0_sizesOf_5 ++ []
def dkwX0_sizesOf_4 : List UInt8 := [167, 255, 225, 44, 89, 180, 0, 234, 4, 96, 181, 0, 234, 167, 255, 178, 44, 29, 181, 0, 234, 167, 0, 13]
abbrev dktX0_sizesOf_4 : List UInt8 := dkwX0_sizesOf_4 ++ dktX0_sizesOf_5
def dkwX0_sizesOf_3 : List UInt8 := [180, 0, 71, 44, 180, 0, 234, 50, 21, 5, 42, 180, 0, 52, 21, 5, 50, 27, 46, 79, 132, 5, 1]
abbrev dktX0_sizesOf_3 : List UInt8 := dkwX0_sizesOf_3 ++ dktX0_sizesOf_4
def dkwX0_sizesOf_2 : List UInt8 := [180, 0, 234, 120, 167, 0, 4, 3, 128, 54, 4, 3, 54, 5, 21, 5, 16, 24, 162, 0, 30, 42]
abbrev dktX0_sizesOf_2 : List UInt8 := dkwX0_sizesOf_2 ++ dktX0_sizesOf_3
def dkwX0_sizesOf_1 : List UInt8 := [3, 181, 0, 234, 44, 180, 0, 234, 16, 9, 163, 0, 75, 21, 4, 42, 182, 1, 71, 153, 0, 12, 4, 44]
abbrev dktX0_sizesOf_1 : List UInt8 := dkwX0_sizesOf_1 ++ dktX0_sizesOf_2
def dkwX0_sizesOf_0 : List UInt8 := [42, 180, 0, 14, 180, 0, 133, 27, 182, 0, 136, 192, 0, 140, 77, 44, 180, 0, 234, 62, 3, 54, 4, 44]
abbrev dktX0_sizesOf_0 : List UInt8 := dkwX0_sizesOf_0 ++ dktX0_sizesOf_1
theorem dksX0_sizesOf_0 : cX0_sizesOf.data.toList.drop 0 = dktX0_sizesOf_0 := by decide +kernel
theorem dksX0_sizesOf_1 : cX0_sizesOf.data.toList.drop 24 = dktX0_sizesOf_1 := dk_seg dksX0_sizesOf_0 24 rfl rfl
theorem dksX0_sizesOf_2 : cX0_sizesOf.data.toList.drop 48 = dktX0_sizesOf_2 := dk_seg dksX0_sizesOf_1 24 rfl rfl
theorem dksX0_sizesOf_3 : cX0_sizesOf.data.toList.drop 70 = dktX0_sizesOf_3 := dk_seg dksX0_sizesOf_2 22 rfl rfl
theorem dksX0_sizesOf_4 : cX0_sizesOf.data.toList.drop 93 = dktX0_sizesOf_4 := dk_seg dksX0_sizesOf_3 23 rfl rfl
theorem dksX0_sizesOf_5 : cX0_sizesOf.data.toList.drop 117 = dktX0_sizesOf_5 := dk_seg dksX0_sizesOf_4 24 rfl rfl
theorem dX0_sizesOf_0 : decode cX0_sizesOf 0 = .ok (.aload_n 0, 1) := dk_42 (dk_at dksX0_sizesOf_0 0 rfl rfl)
theorem dX0_sizesOf_1 : decode cX0_sizesOf 1 = .ok (.getfield 14, 3) := dk_180 0 14 (dk_at dksX0_sizesOf_0 1 rfl rfl)
theorem dX0_sizesOf_4 : decode cX0_sizesOf 4 = .ok (.getfield 133, 3) := dk_180 0 133 (dk_at dksX0_sizesOf_0 4 rfl rfl)
theorem dX0_sizesOf_7 : decode cX0_sizesOf 7 = .ok (.iload_n 1, 1) := dk_27 (dk_at dksX0_sizesOf_0 7 rfl rfl)
theorem dX0_sizesOf_8 : decode cX0_sizesOf 8 = .ok (.invokevirtual 136, 3) := dk_182 0 136 (dk_at dksX0_sizesOf_0 8 rfl rfl)
theorem dX0_sizesOf_11 : decode cX0_sizesOf 11 = .ok (.checkcast 140, 3) := dk_192 0 140 (dk_at dksX0_sizesOf_0 11 rfl rfl)
theorem dX0_sizesOf_14 : decode cX0_sizesOf 14 = .ok (.astore_n 2, 1) := dk_77 (dk_at dksX0_sizesOf_0 14 rfl rfl)
theorem dX0_sizesOf_15 : decode cX0_sizesOf 15 = .ok (.aload_n 2, 1) := dk_44 (dk_at dksX0_sizesOf_0 15 rfl rfl)
theorem dX0_sizesOf_16 : decode cX0_sizesOf 16 = .ok (.getfield 234, 3) := dk_180 0 234 (dk_at dksX0_sizesOf_0 16 rfl rfl)
theorem dX0_sizesOf_19 : decode cX0_sizesOf 19 = .ok (.istore_n 3, 1) := dk_62 (dk_at dksX0_sizesOf_0 19 rfl rfl)
theorem dX0_sizesOf_20 : decode cX0_sizesOf 20 = .ok (.iconst 0, 1) := dk_3 (dk_at dksX0_sizesOf_0 20 rfl rfl)
theorem dX0_sizesOf_21 : decode cX0_sizesOf 21 = .ok (.istore 4, 2) := dk_54 4 (dk_at dksX0_sizesOf_0 21 rfl rfl)
theorem dX0_sizesOf_23 : decode cX0_sizesOf 23 = .ok (.aload_n 2, 1) := dk_44 (dk_at dksX0_sizesOf_0 23 rfl rfl)
theorem dX0_sizesOf_24 : decode cX0_sizesOf 24 = .ok (.iconst 0, 1) := dk_3 (dk_at dksX0_sizesOf_1 0 rfl rfl)
theorem dX0_sizesOf_25 : decode cX0_sizesOf 25 = .ok (.putfield 234, 3) := dk_181 0 234 (dk_at dksX0_sizesOf_1 1 rfl rfl)
theorem dX0_sizesOf_28 : decode cX0_sizesOf 28 = .ok (.aload_n 2, 1) := dk_44 (dk_at dksX0_sizesOf_1 4 rfl rfl)
theorem dX0_sizesOf_29 : decode cX0_sizesOf 29 = .ok (.getfield 234, 3) := dk_180 0 234 (dk_at dksX0_sizesOf_1 5 rfl rfl)
theorem dX0_sizesOf_32 : decode cX0_sizesOf 32 = .ok (.bipush 9, 2) := dk_16 9 (dk_at dksX0_sizesOf_1 8 rfl rfl)
theorem dX0_sizesOf_34 : decode cX0_sizesOf 34 = .ok (.if_icmp .gt 75, 3) := dk_163 0 75 (dk_at dksX0_sizesOf_1 10 rfl rfl)
theorem dX0_sizesOf_37 : decode cX0_sizesOf 37 = .ok (.iload 4, 2) := dk_21 4 (dk_at dksX0_sizesOf_1 13 rfl rfl)
theorem dX0_sizesOf_39 : decode cX0_sizesOf 39 = .ok (.aload_n 0, 1) := dk_42 (dk_at dksX0_sizesOf_1 15 rfl rfl)
theorem dX0_sizesOf_40 : decode cX0_sizesOf 40 = .ok (.invokevirtual 327, 3) := dk_182 1 71 (dk_at dksX0_sizesOf_1 16 rfl rfl)
theorem dX0_sizesOf_43 : decode cX0_sizesOf 43 = .ok (.ifCond .eq 12, 3) := dk_153 0 12 (dk_at dksX0_sizesOf_1 19 rfl rfl)
theorem dX0_sizesOf_46 : decode cX0_sizesOf 46 = .ok (.iconst 1, 1) := dk_4 (dk_at dksX0_sizesOf_1 22 rfl rfl)
theorem dX0_sizesOf_47 : decode cX0_sizesOf 47 = .ok (.aload_n 2, 1) := dk_44 (dk_at dksX0_sizesOf_1 23 rfl rfl)
theorem dX0_sizesOf_48 : decode cX0_sizesOf 48 = .ok (.getfield 234, 3) := dk_180 0 234 (dk_at dksX0_sizesOf_2 0 rfl rfl)
theorem dX0_sizesOf_51 : decode cX0_sizesOf 51 = .ok (.ishl, 1) := dk_120 (dk_at dksX0_sizesOf_2 3 rfl rfl)
theorem dX0_sizesOf_52 : decode cX0_sizesOf 52 = .ok (.goto 4, 3) := dk_167 0 4 (dk_at dksX0_sizesOf_2 4 rfl rfl)
theorem dX0_sizesOf_55 : decode cX0_sizesOf 55 = .ok (.iconst 0, 1) := dk_3 (dk_at dksX0_sizesOf_2 7 rfl rfl)
theorem dX0_sizesOf_56 : decode cX0_sizesOf 56 = .ok (.ior, 1) := dk_128 (dk_at dksX0_sizesOf_2 8 rfl rfl)
theorem dX0_sizesOf_57 : decode cX0_sizesOf 57 = .ok (.istore 4, 2) := dk_54 4 (dk_at dksX0_sizesOf_2 9 rfl rfl)
theorem dX0_sizesOf_59 : decode cX0_sizesOf 59 = .ok (.iconst 0, 1) := dk_3 (dk_at dksX0_sizesOf_2 11 rfl rfl)
theorem dX0_sizesOf_60 : decode cX0_sizesOf 60 = .ok (.istore 5, 2) := dk_54 5 (dk_at dksX0_sizesOf_2 12 rfl rfl)
theorem dX0_sizesOf_62 : decode cX0_sizesOf 62 = .ok (.iload 5, 2) := dk_21 5 (dk_at dksX0_sizesOf_2 14 rfl rfl)
theorem dX0_sizesOf_64 : decode cX0_sizesOf 64 = .ok (.bipush 24, 2) := dk_16 24 (dk_at dksX0_sizesOf_2 16 rfl rfl)
theorem dX0_sizesOf_66 : decode cX0_sizesOf 66 = .ok (.if_icmp .ge 30, 3) := dk_162 0 30 (dk_at dksX0_sizesOf_2 18 rfl rfl)
theorem dX0_sizesOf_69 : decode cX0_sizesOf 69 = .ok (.aload_n 0, 1) := dk_42 (dk_at dksX0_sizesOf_2 21 rfl rfl)
theorem dX0_sizesOf_70 : decode cX0_sizesOf 70 = .ok (.getfield 71, 3) := dk_180 0 71 (dk_at dksX0_sizesOf_3 0 rfl rfl)
theorem dX0_sizesOf_73 : decode cX0_sizesOf 73 = .ok (.aload_n 2, 1) := dk_44 (dk_at dksX0_sizesOf_3 3 rfl rfl)
theorem dX0_sizesOf_74 : decode cX0_sizesOf 74 = .ok (.getfield 234, 3) := dk_180 0 234 (dk_at dksX0_sizesOf_3 4 rfl rfl)
theorem dX0_sizesOf_77 : decode cX0_sizesOf 77 = .ok (.aaload, 1) := dk_50 (dk_at dksX0_sizesOf_3 7 rfl rfl)
theorem dX0_sizesOf_78 : decode cX0_sizesOf 78 = .ok (.iload 5, 2) := dk_21 5 (dk_at dksX0_sizesOf_3 8 rfl rfl)
theorem dX0_sizesOf_80 : decode cX0_sizesOf 80 = .ok (.aload_n 0, 1) := dk_42 (dk_at dksX0_sizesOf_3 10 rfl rfl)
theorem dX0_sizesOf_81 : decode cX0_sizesOf 81 = .ok (.getfield 52, 3) := dk_180 0 52 (dk_at dksX0_sizesOf_3 11 rfl rfl)
theorem dX0_sizesOf_84 : decode cX0_sizesOf 84 = .ok (.iload 5, 2) := dk_21 5 (dk_at dksX0_sizesOf_3 14 rfl rfl)
theorem dX0_sizesOf_86 : decode cX0_sizesOf 86 = .ok (.aaload, 1) := dk_50 (dk_at dksX0_sizesOf_3 16 rfl rfl)
theorem dX0_sizesOf_87 : decode cX0_sizesOf 87 = .ok (.iload_n 1, 1) := dk_27 (dk_at dksX0_sizesOf_3 17 rfl rfl)
theorem dX0_sizesOf_88 : decode cX0_sizesOf 88 = .ok (.iaload, 1) := dk_46 (dk_at dksX0_sizesOf_3 18 rfl rfl)
theorem dX0_sizesOf_89 : decode cX0_sizesOf 89 = .ok (.iastore, 1) := dk_79 (dk_at dksX0_sizesOf_3 19 rfl rfl)
theorem dX0_sizesOf_90 : decode cX0_sizesOf 90 = .ok (.iinc 5 1, 3) := dk_132 5 1 (dk_at dksX0_sizesOf_3 20 rfl rfl)
theorem dX0_sizesOf_93 : decode cX0_sizesOf 93 = .ok (.goto (-31), 3) := dk_167 255 225 (dk_at dksX0_sizesOf_4 0 rfl rfl)
theorem dX0_sizesOf_96 : decode cX0_sizesOf 96 = .ok (.aload_n 2, 1) := dk_44 (dk_at dksX0_sizesOf_4 3 rfl rfl)
theorem dX0_sizesOf_97 : decode cX0_sizesOf 97 = .ok (.dup, 1) := dk_89 (dk_at dksX0_sizesOf_4 4 rfl rfl)
theorem dX0_sizesOf_98 : decode cX0_sizesOf 98 = .ok (.getfield 234, 3) := dk_180 0 234 (dk_at dksX0_sizesOf_4 5 rfl rfl)
theorem dX0_sizesOf_101 : decode cX0_sizesOf 101 = .ok (.iconst 1, 1) := dk_4 (dk_at dksX0_sizesOf_4 8 rfl rfl)
theorem dX0_sizesOf_102 : decode cX0_sizesOf 102 = .ok (.iadd, 1) := dk_96 (dk_at dksX0_sizesOf_4 9 rfl rfl)
theorem dX0_sizesOf_103 : decode cX0_sizesOf 103 = .ok (.putfield 234, 3) := dk_181 0 234 (dk_at dksX0_sizesOf_4 10 rfl rfl)
theorem dX0_sizesOf_106 : decode cX0_sizesOf 106 = .ok (.goto (-78), 3) := dk_167 255 178 (dk_at dksX0_sizesOf_4 13 rfl rfl)
theorem dX0_sizesOf_109 : decode cX0_sizesOf 109 = .ok (.aload_n 2, 1) := dk_44 (dk_at dksX0_sizesOf_4 16 rfl rfl)
theorem dX0_sizesOf_110 : decode cX0_sizesOf 110 = .ok (.iload_n 3, 1) := dk_29 (dk_at dksX0_sizesOf_4 17 rfl rfl)
theorem dX0_sizesOf_111 : decode cX0_sizesOf 111 = .ok (.putfield 234, 3) := dk_181 0 234 (dk_at dksX0_sizesOf_4 18 rfl rfl)
theorem dX0_sizesOf_114 : decode cX0_sizesOf 114 = .ok (.goto 13, 3) := dk_167 0 13 (dk_at dksX0_sizesOf_4 21 rfl rfl)
theorem dX0_sizesOf_117 : decode cX0_sizesOf 117 = .ok (.astore 6, 2) := dk_58 6 (dk_at dksX0_sizesOf_5 0 rfl rfl)
theorem dX0_sizesOf_119 : decode cX0_sizesOf 119 = .ok (.aload_n 2, 1) := dk_44 (dk_at dksX0_sizesOf_5 2 rfl rfl)
theorem dX0_sizesOf_120 : decode cX0_sizesOf 120 = .ok (.iload_n 3, 1) := dk_29 (dk_at dksX0_sizesOf_5 3 rfl rfl)
theorem dX0_sizesOf_121 : decode cX0_sizesOf 121 = .ok (.putfield 234, 3) := dk_181 0 234 (dk_at dksX0_sizesOf_5 4 rfl rfl)
theorem dX0_sizesOf_124 : decode cX0_sizesOf 124 = .ok (.aload 6, 2) := dk_25 6 (dk_at dksX0_sizesOf_5 7 rfl rfl)
theorem dX0_sizesOf_126 : decode cX0_sizesOf 126 = .ok (.athrow, 1) := dk_191 (dk_at dksX0_sizesOf_5 9 rfl rfl)
theorem dX0_sizesOf_127 : decode cX0_sizesOf 127 = .ok (.iload 4, 2) := dk_21 4 (dk_at dksX0_sizesOf_5 10 rfl rfl)
theorem dX0_sizesOf_129 : decode cX0_sizesOf 129 = .ok (.ireturn, 1) := dk_172 (dk_at dksX0_sizesOf_5 12 rfl rfl)
abbrev cX0_sortBy : ByteArray := prog_1_method_60_code
def yX0_sortBy : MethodName := ⟨RX0, "sortBy", "(LPromiseTailor$Person;)I"⟩
def dkwX0_sortBy_2 : List UInt8 := [167, 255, 219, 43, 44, 181, 0, 215, 167, 0, 13, 58, 5, 43, 44, 181, 0, 215, 25, 5, 191, 29, 172]
abbrev dktX0_sortBy_2 : List UInt8 := dkwX0_sortBy_2 ++ []
def dkwX0_sortBy_1 : List UInt8 := [181, 0, 215, 29, 42, 182, 1, 71, 153, 0, 10, 4, 21, 4, 120, 167, 0, 4, 3, 128, 62, 132, 4, 1]
abbrev dktX0_sortBy_1 : List UInt8 := dkwX0_sortBy_1 ++ dktX0_sortBy_2
def dkwX0_sortBy_0 : List UInt8 := [43, 180, 0, 215, 77, 3, 62, 3, 54, 4, 21, 4, 6, 162, 0, 37, 43, 178, 1, 77, 21, 4, 50]
abbrev dktX0_sortBy_0 : List UInt8 := dkwX0_sortBy_0 ++ dktX0_sortBy_1
theorem dksX0_sortBy_0 : cX0_sortBy.data.toList.drop 0 = dktX0_sortBy_0 := by decide +kernel
theorem dksX0_sortBy_1 : cX0_sortBy.data.toList.drop 23 = dktX0_sortBy_1 := dk_seg dksX0_sortBy_0 23 rfl rfl
theorem dksX0_sortBy_2 : cX0_sortBy.data.toList.drop 47 = dktX0_sortBy_2 := dk_seg dksX0_sortBy_1 24 rfl rfl
theorem dX0_sortBy_0 : decode cX0_sortBy 0 = .ok (.aload_n 1, 1) := dk_43 (dk_at dksX0_sortBy_0 0 rfl rfl)
theorem dX0_sortBy_1 : decode cX0_sortBy 1 = .ok (.getfield 215, 3) := dk_180 0 215 (dk_at dksX0_sortBy_0 1 rfl rfl)
theorem dX0_sortBy_4 : decode cX0_sortBy 4 = .ok (.astore_n 2, 1) := dk_77 (dk_at dksX0_sortBy_0 4 rfl rfl)
theorem dX0_sortBy_5 : decode cX0_sortBy 5 = .ok (.iconst 0, 1) := dk_3 (dk_at dksX0_sortBy_0 5 rfl rfl)
theorem dX0_sortBy_6 : decode cX0_sortBy 6 = .ok (.istore_n 3, 1) := dk_62 (dk_at dksX0_sortBy_0 6 rfl rfl)
theorem dX0_sortBy_7 : decode cX0_sortBy 7 = .ok (.iconst 0, 1) := dk_3 (dk_at dksX0_sortBy_0 7 rfl rfl)
theorem dX0_sortBy_8 : decode cX0_sortBy 8 = .ok (.istore 4, 2) := dk_54 4 (dk_at dksX0_sortBy_0 8 rfl rfl)
theorem dX0_sortBy_10 : decode cX0_sortBy 10 = .ok (.iload 4, 2) := dk_21 4 (dk_at dksX0_sortBy_0 10 rfl rfl)
theorem dX0_sortBy_12 : decode cX0_sortBy 12 = .ok (.iconst 3, 1) := dk_6 (dk_at dksX0_sortBy_0 12 rfl rfl)
theorem dX0_sortBy_13 : decode cX0_sortBy 13 = .ok (.if_icmp .ge 37, 3) := dk_162 0 37 (dk_at dksX0_sortBy_0 13 rfl rfl)
theorem dX0_sortBy_16 : decode cX0_sortBy 16 = .ok (.aload_n 1, 1) := dk_43 (dk_at dksX0_sortBy_0 16 rfl rfl)
theorem dX0_sortBy_17 : decode cX0_sortBy 17 = .ok (.getstatic 333, 3) := dk_178 1 77 (dk_at dksX0_sortBy_0 17 rfl rfl)
theorem dX0_sortBy_20 : decode cX0_sortBy 20 = .ok (.iload 4, 2) := dk_21 4 (dk_at dksX0_sortBy_0 20 rfl rfl)
theorem dX0_sortBy_22 : decode cX0_sortBy 22 = .ok (.aaload, 1) := dk_50 (dk_at dksX0_sortBy_0 22 rfl rfl)
theorem dX0_sortBy_23 : decode cX0_sortBy 23 = .ok (.putfield 215, 3) := dk_181 0 215 (dk_at dksX0_sortBy_1 0 rfl rfl)
theorem dX0_sortBy_26 : decode cX0_sortBy 26 = .ok (.iload_n 3, 1) := dk_29 (dk_at dksX0_sortBy_1 3 rfl rfl)
theorem dX0_sortBy_27 : decode cX0_sortBy 27 = .ok (.aload_n 0, 1) := dk_42 (dk_at dksX0_sortBy_1 4 rfl rfl)
theorem dX0_sortBy_28 : decode cX0_sortBy 28 = .ok (.invokevirtual 327, 3) := dk_182 1 71 (dk_at dksX0_sortBy_1 5 rfl rfl)
theorem dX0_sortBy_31 : decode cX0_sortBy 31 = .ok (.ifCond .eq 10, 3) := dk_153 0 10 (dk_at dksX0_sortBy_1 8 rfl rfl)
theorem dX0_sortBy_34 : decode cX0_sortBy 34 = .ok (.iconst 1, 1) := dk_4 (dk_at dksX0_sortBy_1 11 rfl rfl)
theorem dX0_sortBy_35 : decode cX0_sortBy 35 = .ok (.iload 4, 2) := dk_21 4 (dk_at dksX0_sortBy_1 12 rfl rfl)
theorem dX0_sortBy_37 : decode cX0_sortBy 37 = .ok (.ishl, 1) := dk_120 (dk_at dksX0_sortBy_1 14 rfl rfl)
theorem dX0_sortBy_38 : decode cX0_sortBy 38 = .ok (.goto 4, 3) := dk_167 0 4 (dk_at dksX0_sortBy_1 15 rfl rfl)
theorem dX0_sortBy_41 : decode cX0_sortBy 41 = .ok (.iconst 0, 1) := dk_3 (dk_at dksX0_sortBy_1 18 rfl rfl)
theorem dX0_sortBy_42 : decode cX0_sortBy 42 = .ok (.ior, 1) := dk_128 (dk_at dksX0_sortBy_1 19 rfl rfl)
theorem dX0_sortBy_43 : decode cX0_sortBy 43 = .ok (.istore_n 3, 1) := dk_62 (dk_at dksX0_sortBy_1 20 rfl rfl)
theorem dX0_sortBy_44 : decode cX0_sortBy 44 = .ok (.iinc 4 1, 3) := dk_132 4 1 (dk_at dksX0_sortBy_1 21 rfl rfl)
theorem dX0_sortBy_47 : decode cX0_sortBy 47 = .ok (.goto (-37), 3) := dk_167 255 219 (dk_at dksX0_sortBy_2 0 rfl rfl)
theorem dX0_sortBy_50 : decode cX0_sortBy 50 = .ok (.aload_n 1, 1) := dk_43 (dk_at dksX0_sortBy_2 3 rfl rfl)
theorem dX0_sortBy_51 : decode cX0_sortBy 51 = .ok (.aload_n 2, 1) := dk_44 (dk_at dksX0_sortBy_2 4 rfl rfl)
theorem dX0_sortBy_52 : decode cX0_sortBy 52 = .ok (.putfield 215, 3) := dk_181 0 215 (dk_at dksX0_sortBy_2 5 rfl rfl)
theorem dX0_sortBy_55 : decode cX0_sortBy 55 = .ok (.goto 13, 3) := dk_167 0 13 (dk_at dksX0_sortBy_2 8 rfl rfl)
theorem dX0_sortBy_58 : decode cX0_sortBy 58 = .ok (.astore 5, 2) := dk_58 5 (dk_at dksX0_sortBy_2 11 rfl rfl)
theorem dX0_sortBy_60 : decode cX0_sortBy 60 = .ok (.aload_n 1, 1) := dk_43 (dk_at dksX0_sortBy_2 13 rfl rfl)
theorem dX0_sortBy_61 : decode cX0_sortBy 61 = .ok (.aload_n 2, 1) := dk_44 (dk_at dksX0_sortBy_2 14 rfl rfl)
theorem dX0_sortBy_62 : decode cX0_sortBy 62 = .ok (.putfield 215, 3) := dk_181 0 215 (dk_at dksX0_sortBy_2 15 rfl rfl)
theorem dX0_sortBy_65 : decode cX0_sortBy 65 = .ok (.aload 5, 2) := dk_25 5 (dk_at dksX0_sortBy_2 18 rfl rfl)
theorem dX0_sortBy_67 : decode cX0_sortBy 67 = .ok (.athrow, 1) := dk_191 (dk_at dksX0_sortBy_2 20 rfl rfl)
theorem dX0_sortBy_68 : decode cX0_sortBy 68 = .ok (.iload_n 3, 1) := dk_29 (dk_at dksX0_sortBy_2 21 rfl rfl)
theorem dX0_sortBy_69 : decode cX0_sortBy 69 = .ok (.ireturn, 1) := dk_172 (dk_at dksX0_sortBy_2 22 rfl rfl)
abbrev cX0_ask : ByteArray := prog_1_method_65_code
def yX0_ask : MethodName := ⟨RX0, "ask", "(I)I"⟩
def dkwX0_ask_0 : List UInt8 := [42, 27, 182, 0, 130, 153, 0, 11, 42, 27, 182, 1, 94, 167, 0, 5, 16, 254, 172]
abbrev dktX0_ask_0 : List UInt8 := dkwX0_ask_0 ++ []
theorem dksX0_ask_0 : cX0_ask.data.toList.drop 0 = dktX0_ask_0 := by decide +kernel
theorem dX0_ask_0 : decode cX0_ask 0 = .ok (.aload_n 0, 1) := dk_42 (dk_at dksX0_ask_0 0 rfl rfl)
theorem dX0_ask_1 : decode cX0_ask 1 = .ok (.iload_n 1, 1) := dk_27 (dk_at dksX0_ask_0 1 rfl rfl)
theorem dX0_ask_2 : decode cX0_ask 2 = .ok (.invokevirtual 130, 3) := dk_182 0 130 (dk_at dksX0_ask_0 2 rfl rfl)
theorem dX0_ask_5 : decode cX0_ask 5 = .ok (.ifCond .eq 11, 3) := dk_153 0 11 (dk_at dksX0_ask_0 5 rfl rfl)
theorem dX0_ask_8 : decode cX0_ask 8 = .ok (.aload_n 0, 1) := dk_42 (dk_at dksX0_ask_0 8 rfl rfl)
theorem dX0_ask_9 : decode cX0_ask 9 = .ok (.iload_n 1, 1) := dk_27 (dk_at dksX0_ask_0 9 rfl rfl)
theorem dX0_ask_10 : decode cX0_ask 10 = .ok (.invokevirtual 350, 3) := dk_182 1 94 (dk_at dksX0_ask_0 10 rfl rfl)
theorem dX0_ask_13 : decode cX0_ask 13 = .ok (.goto 5, 3) := dk_167 0 5 (dk_at dksX0_ask_0 13 rfl rfl)
theorem dX0_ask_16 : decode cX0_ask 16 = .ok (.bipush (-2), 2) := dk_16 254 (dk_at dksX0_ask_0 16 rfl rfl)
theorem dX0_ask_18 : decode cX0_ask 18 = .ok (.ireturn, 1) := dk_172 (dk_at dksX0_ask_0 18 rfl rfl)
abbrev cX0_askOf : ByteArray := prog_1_method_64_code
def yX0_askOf : MethodName := ⟨RX0, "askOf", "(I)I"⟩
def dkwX0_askOf_2 : List UInt8 := [167, 255, 223, 29, 172]
abbrev dktX0_askOf_2 : List UInt8 := dkwX0_askOf_2 ++ []
def dkwX0_askOf_1 : List UInt8 := [182, 1, 91, 42, 28, 29, 182, 1, 91, 162, 0, 8, 21, 4, 167, 0, 4, 29, 62, 132, 4, 1]
abbrev dktX0_askOf_1 : List UInt8 := dkwX0_askOf_1 ++ dktX0_askOf_2
def dkwX0_askOf_0 : List UInt8 := [42, 27, 182, 1, 81, 61, 3, 62, 4, 54, 4, 21, 4, 16, 24, 162, 0, 32, 42, 28, 21, 4]
abbrev dktX0_askOf_0 : List UInt8 := dkwX0_askOf_0 ++ dktX0_askOf_1
theorem dksX0_askOf_0 : cX0_askOf.data.toList.drop 0 = dktX0_askOf_0 := by decide +kernel
theorem dksX0_askOf_1 : cX0_askOf.data.toList.drop 22 = dktX0_askOf_1 := dk_seg dksX0_askOf_0 22 rfl rfl
theorem dksX0_askOf_2 : cX0_askOf.data.toList.drop 44 = dktX0_askOf_2 := dk_seg dksX0_askOf_1 22 rfl rfl
theorem dX0_askOf_0 : decode cX0_askOf 0 = .ok (.aload_n 0, 1) := dk_42 (dk_at dksX0_askOf_0 0 rfl rfl)
theorem dX0_askOf_1 : decode cX0_askOf 1 = .ok (.iload_n 1, 1) := dk_27 (dk_at dksX0_askOf_0 1 rfl rfl)
theorem dX0_askOf_2 : decode cX0_askOf 2 = .ok (.invokevirtual 337, 3) := dk_182 1 81 (dk_at dksX0_askOf_0 2 rfl rfl)
theorem dX0_askOf_5 : decode cX0_askOf 5 = .ok (.istore_n 2, 1) := dk_61 (dk_at dksX0_askOf_0 5 rfl rfl)
theorem dX0_askOf_6 : decode cX0_askOf 6 = .ok (.iconst 0, 1) := dk_3 (dk_at dksX0_askOf_0 6 rfl rfl)
theorem dX0_askOf_7 : decode cX0_askOf 7 = .ok (.istore_n 3, 1) := dk_62 (dk_at dksX0_askOf_0 7 rfl rfl)
theorem dX0_askOf_8 : decode cX0_askOf 8 = .ok (.iconst 1, 1) := dk_4 (dk_at dksX0_askOf_0 8 rfl rfl)
theorem dX0_askOf_9 : decode cX0_askOf 9 = .ok (.istore 4, 2) := dk_54 4 (dk_at dksX0_askOf_0 9 rfl rfl)
theorem dX0_askOf_11 : decode cX0_askOf 11 = .ok (.iload 4, 2) := dk_21 4 (dk_at dksX0_askOf_0 11 rfl rfl)
theorem dX0_askOf_13 : decode cX0_askOf 13 = .ok (.bipush 24, 2) := dk_16 24 (dk_at dksX0_askOf_0 13 rfl rfl)
theorem dX0_askOf_15 : decode cX0_askOf 15 = .ok (.if_icmp .ge 32, 3) := dk_162 0 32 (dk_at dksX0_askOf_0 15 rfl rfl)
theorem dX0_askOf_18 : decode cX0_askOf 18 = .ok (.aload_n 0, 1) := dk_42 (dk_at dksX0_askOf_0 18 rfl rfl)
theorem dX0_askOf_19 : decode cX0_askOf 19 = .ok (.iload_n 2, 1) := dk_28 (dk_at dksX0_askOf_0 19 rfl rfl)
theorem dX0_askOf_20 : decode cX0_askOf 20 = .ok (.iload 4, 2) := dk_21 4 (dk_at dksX0_askOf_0 20 rfl rfl)
theorem dX0_askOf_22 : decode cX0_askOf 22 = .ok (.invokevirtual 347, 3) := dk_182 1 91 (dk_at dksX0_askOf_1 0 rfl rfl)
theorem dX0_askOf_25 : decode cX0_askOf 25 = .ok (.aload_n 0, 1) := dk_42 (dk_at dksX0_askOf_1 3 rfl rfl)
theorem dX0_askOf_26 : decode cX0_askOf 26 = .ok (.iload_n 2, 1) := dk_28 (dk_at dksX0_askOf_1 4 rfl rfl)
theorem dX0_askOf_27 : decode cX0_askOf 27 = .ok (.iload_n 3, 1) := dk_29 (dk_at dksX0_askOf_1 5 rfl rfl)
theorem dX0_askOf_28 : decode cX0_askOf 28 = .ok (.invokevirtual 347, 3) := dk_182 1 91 (dk_at dksX0_askOf_1 6 rfl rfl)
theorem dX0_askOf_31 : decode cX0_askOf 31 = .ok (.if_icmp .ge 8, 3) := dk_162 0 8 (dk_at dksX0_askOf_1 9 rfl rfl)
theorem dX0_askOf_34 : decode cX0_askOf 34 = .ok (.iload 4, 2) := dk_21 4 (dk_at dksX0_askOf_1 12 rfl rfl)
theorem dX0_askOf_36 : decode cX0_askOf 36 = .ok (.goto 4, 3) := dk_167 0 4 (dk_at dksX0_askOf_1 14 rfl rfl)
theorem dX0_askOf_39 : decode cX0_askOf 39 = .ok (.iload_n 3, 1) := dk_29 (dk_at dksX0_askOf_1 17 rfl rfl)
theorem dX0_askOf_40 : decode cX0_askOf 40 = .ok (.istore_n 3, 1) := dk_62 (dk_at dksX0_askOf_1 18 rfl rfl)
theorem dX0_askOf_41 : decode cX0_askOf 41 = .ok (.iinc 4 1, 3) := dk_132 4 1 (dk_at dksX0_askOf_1 19 rfl rfl)
theorem dX0_askOf_44 : decode cX0_askOf 44 = .ok (.goto (-33), 3) := dk_167 255 223 (dk_at dksX0_askOf_2 0 rfl rfl)
theorem dX0_askOf_47 : decode cX0_askOf 47 = .ok (.iload_n 3, 1) := dk_29 (dk_at dksX0_askOf_2 3 rfl rfl)
theorem dX0_askOf_48 : decode cX0_askOf 48 = .ok (.ireturn, 1) := dk_172 (dk_at dksX0_askOf_2 4 rfl rfl)
abbrev cX0_alike : ByteArray := prog_1_method_63_code
def yX0_alike : MethodName := ⟨RX0, "alike", "(II)I"⟩
def dkwX0_alike_4 : List UInt8 := [172]
abbrev dktX0_alike_4 : List UInt8 := dkwX0_alike_4 ++ []
def dkwX0_alike_3 : List UInt8 := [3, 96, 54, 5, 132, 6, 1, 167, 255, 197, 21, 5, 29, 184, 0, 201, 62, 132, 4, 1, 167, 255, 171, 29]
abbrev dktX0_alike_3 : List UInt8 := dkwX0_alike_3 ++ dktX0_alike_4
def dkwX0_alike_2 : List UInt8 := [180, 0, 71, 21, 4, 50, 28, 46, 42, 180, 0, 71, 21, 6, 50, 28, 46, 160, 0, 7, 4, 167, 0, 4]
abbrev dktX0_alike_2 : List UInt8 := dkwX0_alike_2 ++ dktX0_alike_3
def dkwX0_alike_1 : List UInt8 := [162, 0, 58, 21, 5, 27, 21, 4, 184, 0, 249, 153, 0, 37, 27, 21, 6, 184, 0, 249, 153, 0, 28, 42]
abbrev dktX0_alike_1 : List UInt8 := dkwX0_alike_1 ++ dktX0_alike_2
def dkwX0_alike_0 : List UInt8 := [3, 62, 3, 54, 4, 21, 4, 16, 10, 162, 0, 84, 3, 54, 5, 3, 54, 6, 21, 6, 16, 10]
abbrev dktX0_alike_0 : List UInt8 := dkwX0_alike_0 ++ dktX0_alike_1
theorem dksX0_alike_0 : cX0_alike.data.toList.drop 0 = dktX0_alike_0 := by decide +kernel
theorem dksX0_alike_1 : cX0_alike.data.toList.drop 22 = dktX0_alike_1 := dk_seg dksX0_alike_0 22 rfl rfl
theorem dksX0_alike_2 : cX0_alike.data.toList.drop 46 = dktX0_alike_2 := dk_seg dksX0_alike_1 24 rfl rfl
theorem dksX0_alike_3 : cX0_alike.data.toList.drop 70 = dktX0_alike_3 := dk_seg dksX0_alike_2 24 rfl rfl
theorem dksX0_alike_4 : cX0_alike.data.toList.drop 94 = dktX0_alike_4 := dk_seg dksX0_alike_3 24 rfl rfl
theorem dX0_alike_0 : decode cX0_alike 0 = .ok (.iconst 0, 1) := dk_3 (dk_at dksX0_alike_0 0 rfl rfl)
theorem dX0_alike_1 : decode cX0_alike 1 = .ok (.istore_n 3, 1) := dk_62 (dk_at dksX0_alike_0 1 rfl rfl)
theorem dX0_alike_2 : decode cX0_alike 2 = .ok (.iconst 0, 1) := dk_3 (dk_at dksX0_alike_0 2 rfl rfl)
theorem dX0_alike_3 : decode cX0_alike 3 = .ok (.istore 4, 2) := dk_54 4 (dk_at dksX0_alike_0 3 rfl rfl)
theorem dX0_alike_5 : decode cX0_alike 5 = .ok (.iload 4, 2) := dk_21 4 (dk_at dksX0_alike_0 5 rfl rfl)
theorem dX0_alike_7 : decode cX0_alike 7 = .ok (.bipush 10, 2) := dk_16 10 (dk_at dksX0_alike_0 7 rfl rfl)
theorem dX0_alike_9 : decode cX0_alike 9 = .ok (.if_icmp .ge 84, 3) := dk_162 0 84 (dk_at dksX0_alike_0 9 rfl rfl)
theorem dX0_alike_12 : decode cX0_alike 12 = .ok (.iconst 0, 1) := dk_3 (dk_at dksX0_alike_0 12 rfl rfl)
theorem dX0_alike_13 : decode cX0_alike 13 = .ok (.istore 5, 2) := dk_54 5 (dk_at dksX0_alike_0 13 rfl rfl)
theorem dX0_alike_15 : decode cX0_alike 15 = .ok (.iconst 0, 1) := dk_3 (dk_at dksX0_alike_0 15 rfl rfl)
theorem dX0_alike_16 : decode cX0_alike 16 = .ok (.istore 6, 2) := dk_54 6 (dk_at dksX0_alike_0 16 rfl rfl)
theorem dX0_alike_18 : decode cX0_alike 18 = .ok (.iload 6, 2) := dk_21 6 (dk_at dksX0_alike_0 18 rfl rfl)
theorem dX0_alike_20 : decode cX0_alike 20 = .ok (.bipush 10, 2) := dk_16 10 (dk_at dksX0_alike_0 20 rfl rfl)
theorem dX0_alike_22 : decode cX0_alike 22 = .ok (.if_icmp .ge 58, 3) := dk_162 0 58 (dk_at dksX0_alike_1 0 rfl rfl)
theorem dX0_alike_25 : decode cX0_alike 25 = .ok (.iload 5, 2) := dk_21 5 (dk_at dksX0_alike_1 3 rfl rfl)
theorem dX0_alike_27 : decode cX0_alike 27 = .ok (.iload_n 1, 1) := dk_27 (dk_at dksX0_alike_1 5 rfl rfl)
theorem dX0_alike_28 : decode cX0_alike 28 = .ok (.iload 4, 2) := dk_21 4 (dk_at dksX0_alike_1 6 rfl rfl)
theorem dX0_alike_30 : decode cX0_alike 30 = .ok (.invokestatic 249, 3) := dk_184 0 249 (dk_at dksX0_alike_1 8 rfl rfl)
theorem dX0_alike_33 : decode cX0_alike 33 = .ok (.ifCond .eq 37, 3) := dk_153 0 37 (dk_at dksX0_alike_1 11 rfl rfl)
theorem dX0_alike_36 : decode cX0_alike 36 = .ok (.iload_n 1, 1) := dk_27 (dk_at dksX0_alike_1 14 rfl rfl)
theorem dX0_alike_37 : decode cX0_alike 37 = .ok (.iload 6, 2) := dk_21 6 (dk_at dksX0_alike_1 15 rfl rfl)
theorem dX0_alike_39 : decode cX0_alike 39 = .ok (.invokestatic 249, 3) := dk_184 0 249 (dk_at dksX0_alike_1 17 rfl rfl)
theorem dX0_alike_42 : decode cX0_alike 42 = .ok (.ifCond .eq 28, 3) := dk_153 0 28 (dk_at dksX0_alike_1 20 rfl rfl)
theorem dX0_alike_45 : decode cX0_alike 45 = .ok (.aload_n 0, 1) := dk_42 (dk_at dksX0_alike_1 23 rfl rfl)
theorem dX0_alike_46 : decode cX0_alike 46 = .ok (.getfield 71, 3) := dk_180 0 71 (dk_at dksX0_alike_2 0 rfl rfl)
theorem dX0_alike_49 : decode cX0_alike 49 = .ok (.iload 4, 2) := dk_21 4 (dk_at dksX0_alike_2 3 rfl rfl)
theorem dX0_alike_51 : decode cX0_alike 51 = .ok (.aaload, 1) := dk_50 (dk_at dksX0_alike_2 5 rfl rfl)
theorem dX0_alike_52 : decode cX0_alike 52 = .ok (.iload_n 2, 1) := dk_28 (dk_at dksX0_alike_2 6 rfl rfl)
theorem dX0_alike_53 : decode cX0_alike 53 = .ok (.iaload, 1) := dk_46 (dk_at dksX0_alike_2 7 rfl rfl)
theorem dX0_alike_54 : decode cX0_alike 54 = .ok (.aload_n 0, 1) := dk_42 (dk_at dksX0_alike_2 8 rfl rfl)
theorem dX0_alike_55 : decode cX0_alike 55 = .ok (.getfield 71, 3) := dk_180 0 71 (dk_at dksX0_alike_2 9 rfl rfl)
theorem dX0_alike_58 : decode cX0_alike 58 = .ok (.iload 6, 2) := dk_21 6 (dk_at dksX0_alike_2 12 rfl rfl)
theorem dX0_alike_60 : decode cX0_alike 60 = .ok (.aaload, 1) := dk_50 (dk_at dksX0_alike_2 14 rfl rfl)
theorem dX0_alike_61 : decode cX0_alike 61 = .ok (.iload_n 2, 1) := dk_28 (dk_at dksX0_alike_2 15 rfl rfl)
theorem dX0_alike_62 : decode cX0_alike 62 = .ok (.iaload, 1) := dk_46 (dk_at dksX0_alike_2 16 rfl rfl)
theorem dX0_alike_63 : decode cX0_alike 63 = .ok (.if_icmp .ne 7, 3) := dk_160 0 7 (dk_at dksX0_alike_2 17 rfl rfl)
theorem dX0_alike_66 : decode cX0_alike 66 = .ok (.iconst 1, 1) := dk_4 (dk_at dksX0_alike_2 20 rfl rfl)
theorem dX0_alike_67 : decode cX0_alike 67 = .ok (.goto 4, 3) := dk_167 0 4 (dk_at dksX0_alike_2 21 rfl rfl)
theorem dX0_alike_70 : decode cX0_alike 70 = .ok (.iconst 0, 1) := dk_3 (dk_at dksX0_alike_3 0 rfl rfl)
theorem dX0_alike_71 : decode cX0_alike 71 = .ok (.iadd, 1) := dk_96 (dk_at dksX0_alike_3 1 rfl rfl)
theorem dX0_alike_72 : decode cX0_alike 72 = .ok (.istore 5, 2) := dk_54 5 (dk_at dksX0_alike_3 2 rfl rfl)
theorem dX0_alike_74 : decode cX0_alike 74 = .ok (.iinc 6 1, 3) := dk_132 6 1 (dk_at dksX0_alike_3 4 rfl rfl)
theorem dX0_alike_77 : decode cX0_alike 77 = .ok (.goto (-59), 3) := dk_167 255 197 (dk_at dksX0_alike_3 7 rfl rfl)
theorem dX0_alike_80 : decode cX0_alike 80 = .ok (.iload 5, 2) := dk_21 5 (dk_at dksX0_alike_3 10 rfl rfl)
theorem dX0_alike_82 : decode cX0_alike 82 = .ok (.iload_n 3, 1) := dk_29 (dk_at dksX0_alike_3 12 rfl rfl)
theorem dX0_alike_83 : decode cX0_alike 83 = .ok (.invokestatic 201, 3) := dk_184 0 201 (dk_at dksX0_alike_3 13 rfl rfl)
theorem dX0_alike_86 : decode cX0_alike 86 = .ok (.istore_n 3, 1) := dk_62 (dk_at dksX0_alike_3 16 rfl rfl)
theorem dX0_alike_87 : decode cX0_alike 87 = .ok (.iinc 4 1, 3) := dk_132 4 1 (dk_at dksX0_alike_3 17 rfl rfl)
theorem dX0_alike_90 : decode cX0_alike 90 = .ok (.goto (-85), 3) := dk_167 255 171 (dk_at dksX0_alike_3 20 rfl rfl)
theorem dX0_alike_93 : decode cX0_alike 93 = .ok (.iload_n 3, 1) := dk_29 (dk_at dksX0_alike_3 23 rfl rfl)
theorem dX0_alike_94 : decode cX0_alike 94 = .ok (.ireturn, 1) := dk_172 (dk_at dksX0_alike_4 0 rfl rfl)
abbrev cX0_word : ByteArray := prog_1_method_69_code
def yX0_word : MethodName := ⟨RX0, "word", "(IIII)J"⟩
def dkwX0_word_2 : List UInt8 := [16, 254, 184, 1, 111, 173]
abbrev dktX0_word_2 : List UInt8 := dkwX0_word_2 ++ []
def dkwX0_word_1 : List UInt8 := [153, 0, 23, 21, 4, 184, 0, 100, 153, 0, 15, 42, 27, 28, 29, 21, 4, 182, 1, 107, 167, 0, 8]
abbrev dktX0_word_1 : List UInt8 := dkwX0_word_1 ++ dktX0_word_2
def dkwX0_word_0 : List UInt8 := [27, 133, 9, 20, 1, 105, 184, 0, 94, 153, 0, 38, 42, 28, 182, 0, 130, 153, 0, 30, 29, 184, 0, 154]
abbrev dktX0_word_0 : List UInt8 := dkwX0_word_0 ++ dktX0_word_1
theorem dksX0_word_0 : cX0_word.data.toList.drop 0 = dktX0_word_0 := by decide +kernel
theorem dksX0_word_1 : cX0_word.data.toList.drop 24 = dktX0_word_1 := dk_seg dksX0_word_0 24 rfl rfl
theorem dksX0_word_2 : cX0_word.data.toList.drop 47 = dktX0_word_2 := dk_seg dksX0_word_1 23 rfl rfl
theorem dX0_word_0 : decode cX0_word 0 = .ok (.iload_n 1, 1) := dk_27 (dk_at dksX0_word_0 0 rfl rfl)
theorem dX0_word_1 : decode cX0_word 1 = .ok (.i2l, 1) := dk_133 (dk_at dksX0_word_0 1 rfl rfl)
theorem dX0_word_2 : decode cX0_word 2 = .ok (.lconst 0, 1) := dk_9 (dk_at dksX0_word_0 2 rfl rfl)
theorem dX0_word_3 : decode cX0_word 3 = .ok (.ldc2_w 361, 3) := dk_20 1 105 (dk_at dksX0_word_0 3 rfl rfl)
theorem dX0_word_6 : decode cX0_word 6 = .ok (.invokestatic 94, 3) := dk_184 0 94 (dk_at dksX0_word_0 6 rfl rfl)
theorem dX0_word_9 : decode cX0_word 9 = .ok (.ifCond .eq 38, 3) := dk_153 0 38 (dk_at dksX0_word_0 9 rfl rfl)
theorem dX0_word_12 : decode cX0_word 12 = .ok (.aload_n 0, 1) := dk_42 (dk_at dksX0_word_0 12 rfl rfl)
theorem dX0_word_13 : decode cX0_word 13 = .ok (.iload_n 2, 1) := dk_28 (dk_at dksX0_word_0 13 rfl rfl)
theorem dX0_word_14 : decode cX0_word 14 = .ok (.invokevirtual 130, 3) := dk_182 0 130 (dk_at dksX0_word_0 14 rfl rfl)
theorem dX0_word_17 : decode cX0_word 17 = .ok (.ifCond .eq 30, 3) := dk_153 0 30 (dk_at dksX0_word_0 17 rfl rfl)
theorem dX0_word_20 : decode cX0_word 20 = .ok (.iload_n 3, 1) := dk_29 (dk_at dksX0_word_0 20 rfl rfl)
theorem dX0_word_21 : decode cX0_word 21 = .ok (.invokestatic 154, 3) := dk_184 0 154 (dk_at dksX0_word_0 21 rfl rfl)
theorem dX0_word_24 : decode cX0_word 24 = .ok (.ifCond .eq 23, 3) := dk_153 0 23 (dk_at dksX0_word_1 0 rfl rfl)
theorem dX0_word_27 : decode cX0_word 27 = .ok (.iload 4, 2) := dk_21 4 (dk_at dksX0_word_1 3 rfl rfl)
theorem dX0_word_29 : decode cX0_word 29 = .ok (.invokestatic 100, 3) := dk_184 0 100 (dk_at dksX0_word_1 5 rfl rfl)
theorem dX0_word_32 : decode cX0_word 32 = .ok (.ifCond .eq 15, 3) := dk_153 0 15 (dk_at dksX0_word_1 8 rfl rfl)
theorem dX0_word_35 : decode cX0_word 35 = .ok (.aload_n 0, 1) := dk_42 (dk_at dksX0_word_1 11 rfl rfl)
theorem dX0_word_36 : decode cX0_word 36 = .ok (.iload_n 1, 1) := dk_27 (dk_at dksX0_word_1 12 rfl rfl)
theorem dX0_word_37 : decode cX0_word 37 = .ok (.iload_n 2, 1) := dk_28 (dk_at dksX0_word_1 13 rfl rfl)
theorem dX0_word_38 : decode cX0_word 38 = .ok (.iload_n 3, 1) := dk_29 (dk_at dksX0_word_1 14 rfl rfl)
theorem dX0_word_39 : decode cX0_word 39 = .ok (.iload 4, 2) := dk_21 4 (dk_at dksX0_word_1 15 rfl rfl)
theorem dX0_word_41 : decode cX0_word 41 = .ok (.invokevirtual 363, 3) := dk_182 1 107 (dk_at dksX0_word_1 17 rfl rfl)
theorem dX0_word_44 : decode cX0_word 44 = .ok (.goto 8, 3) := dk_167 0 8 (dk_at dksX0_word_1 20 rfl rfl)
theorem dX0_word_47 : decode cX0_word 47 = .ok (.bipush (-2), 2) := dk_16 254 (dk_at dksX0_word_2 0 rfl rfl)
theorem dX0_word_49 : decode cX0_word 49 = .ok (.invokestatic 367, 3) := dk_184 1 111 (dk_at dksX0_word_2 2 rfl rfl)
theorem dX0_word_52 : decode cX0_word 52 = .ok (.lreturn, 1) := dk_173 (dk_at dksX0_word_2 5 rfl rfl)
abbrev cX0_wordOf : ByteArray := prog_1_method_68_code
def yX0_wordOf : MethodName := ⟨RX0, "wordOf", "(IIII)J"⟩
def dkwX0_wordOf_5 : List UInt8 := [58, 11, 42, 3, 181, 0, 246, 25, 11, 191, 22, 6, 10, 7, 21, 5, 104, 121, 21, 4, 184, 1, 101, 173]
abbrev dktX0_wordOf_5 : List UInt8 := dkwX0_wordOf_5 ++ []
def dkwX0_wordOf_4 : List UInt8 := [55, 6, 42, 89, 180, 0, 246, 4, 96, 181, 0, 246, 167, 255, 166, 42, 3, 181, 0, 246, 167, 0, 13]
abbrev dktX0_wordOf_4 : List UInt8 := dkwX0_wordOf_4 ++ dktX0_wordOf_5
def dkwX0_wordOf_3 : List UInt8 := [16, 16, 27, 100, 133, 167, 0, 5, 27, 133, 105, 55, 8, 132, 10, 1, 167, 255, 219, 22, 6, 22, 8, 97]
abbrev dktX0_wordOf_3 : List UInt8 := dkwX0_wordOf_3 ++ dktX0_wordOf_4
def dkwX0_wordOf_2 : List UInt8 := [54, 10, 21, 10, 21, 5, 162, 0, 36, 22, 8, 42, 180, 0, 246, 21, 10, 184, 0, 249, 153, 0, 11]
abbrev dktX0_wordOf_2 : List UInt8 := dkwX0_wordOf_2 ++ dktX0_wordOf_3
def dkwX0_wordOf_1 : List UInt8 := [120, 162, 0, 85, 42, 182, 1, 21, 42, 29, 28, 182, 1, 18, 154, 0, 6, 167, 0, 56, 10, 55, 8, 3]
abbrev dktX0_wordOf_1 : List UInt8 := dkwX0_wordOf_1 ++ dktX0_wordOf_2
def dkwX0_wordOf_0 : List UInt8 := [42, 180, 0, 30, 182, 0, 159, 54, 5, 9, 55, 6, 42, 3, 181, 0, 246, 42, 180, 0, 246, 4, 21, 5]
abbrev dktX0_wordOf_0 : List UInt8 := dkwX0_wordOf_0 ++ dktX0_wordOf_1
theorem dksX0_wordOf_0 : cX0_wordOf.data.toList.drop 0 = dktX0_wordOf_0 := by decide +kernel
theorem dksX0_wordOf_1 : cX0_wordOf.data.toList.drop 24 = dktX0_wordOf_1 := dk_seg dksX0_wordOf_0 24 rfl rfl
theorem dksX0_wordOf_2 : cX0_wordOf.data.toList.drop 48 = dktX0_wordOf_2 := dk_seg dksX0_wordOf_1 24 rfl rfl
theorem dksX0_wordOf_3 : cX0_wordOf.data.toList.drop 71 = dktX0_wordOf_3 := dk_seg dksX0_wordOf_2 23 rfl rfl
theorem dksX0_wordOf_4 : cX0_wordOf.data.toList.drop 95 = dktX0_wordOf_4 := dk_seg dksX0_wordOf_3 24 rfl rfl
theorem dksX0_wordOf_5 : cX0_wordOf.data.toList.drop 118 = dktX0_wordOf_5 := dk_seg dksX0_wordOf_4 23 rfl rfl
theorem dX0_wordOf_0 : decode cX0_wordOf 0 = .ok (.aload_n 0, 1) := dk_42 (dk_at dksX0_wordOf_0 0 rfl rfl)
theorem dX0_wordOf_1 : decode cX0_wordOf 1 = .ok (.getfield 30, 3) := dk_180 0 30 (dk_at dksX0_wordOf_0 1 rfl rfl)
theorem dX0_wordOf_4 : decode cX0_wordOf 4 = .ok (.invokevirtual 159, 3) := dk_182 0 159 (dk_at dksX0_wordOf_0 4 rfl rfl)
theorem dX0_wordOf_7 : decode cX0_wordOf 7 = .ok (.istore 5, 2) := dk_54 5 (dk_at dksX0_wordOf_0 7 rfl rfl)
theorem dX0_wordOf_9 : decode cX0_wordOf 9 = .ok (.lconst 0, 1) := dk_9 (dk_at dksX0_wordOf_0 9 rfl rfl)
theorem dX0_wordOf_10 : decode cX0_wordOf 10 = .ok (.lstore 6, 2) := dk_55 6 (dk_at dksX0_wordOf_0 10 rfl rfl)
theorem dX0_wordOf_12 : decode cX0_wordOf 12 = .ok (.aload_n 0, 1) := dk_42 (dk_at dksX0_wordOf_0 12 rfl rfl)
theorem dX0_wordOf_13 : decode cX0_wordOf 13 = .ok (.iconst 0, 1) := dk_3 (dk_at dksX0_wordOf_0 13 rfl rfl)
theorem dX0_wordOf_14 : decode cX0_wordOf 14 = .ok (.putfield 246, 3) := dk_181 0 246 (dk_at dksX0_wordOf_0 14 rfl rfl)
theorem dX0_wordOf_17 : decode cX0_wordOf 17 = .ok (.aload_n 0, 1) := dk_42 (dk_at dksX0_wordOf_0 17 rfl rfl)
theorem dX0_wordOf_18 : decode cX0_wordOf 18 = .ok (.getfield 246, 3) := dk_180 0 246 (dk_at dksX0_wordOf_0 18 rfl rfl)
theorem dX0_wordOf_21 : decode cX0_wordOf 21 = .ok (.iconst 1, 1) := dk_4 (dk_at dksX0_wordOf_0 21 rfl rfl)
theorem dX0_wordOf_22 : decode cX0_wordOf 22 = .ok (.iload 5, 2) := dk_21 5 (dk_at dksX0_wordOf_0 22 rfl rfl)
theorem dX0_wordOf_24 : decode cX0_wordOf 24 = .ok (.ishl, 1) := dk_120 (dk_at dksX0_wordOf_1 0 rfl rfl)
theorem dX0_wordOf_25 : decode cX0_wordOf 25 = .ok (.if_icmp .ge 85, 3) := dk_162 0 85 (dk_at dksX0_wordOf_1 1 rfl rfl)
theorem dX0_wordOf_28 : decode cX0_wordOf 28 = .ok (.aload_n 0, 1) := dk_42 (dk_at dksX0_wordOf_1 4 rfl rfl)
theorem dX0_wordOf_29 : decode cX0_wordOf 29 = .ok (.invokevirtual 277, 3) := dk_182 1 21 (dk_at dksX0_wordOf_1 5 rfl rfl)
theorem dX0_wordOf_32 : decode cX0_wordOf 32 = .ok (.aload_n 0, 1) := dk_42 (dk_at dksX0_wordOf_1 8 rfl rfl)
theorem dX0_wordOf_33 : decode cX0_wordOf 33 = .ok (.iload_n 3, 1) := dk_29 (dk_at dksX0_wordOf_1 9 rfl rfl)
theorem dX0_wordOf_34 : decode cX0_wordOf 34 = .ok (.iload_n 2, 1) := dk_28 (dk_at dksX0_wordOf_1 10 rfl rfl)
theorem dX0_wordOf_35 : decode cX0_wordOf 35 = .ok (.invokevirtual 274, 3) := dk_182 1 18 (dk_at dksX0_wordOf_1 11 rfl rfl)
theorem dX0_wordOf_38 : decode cX0_wordOf 38 = .ok (.ifCond .ne 6, 3) := dk_154 0 6 (dk_at dksX0_wordOf_1 14 rfl rfl)
theorem dX0_wordOf_41 : decode cX0_wordOf 41 = .ok (.goto 56, 3) := dk_167 0 56 (dk_at dksX0_wordOf_1 17 rfl rfl)
theorem dX0_wordOf_44 : decode cX0_wordOf 44 = .ok (.lconst 1, 1) := dk_10 (dk_at dksX0_wordOf_1 20 rfl rfl)
theorem dX0_wordOf_45 : decode cX0_wordOf 45 = .ok (.lstore 8, 2) := dk_55 8 (dk_at dksX0_wordOf_1 21 rfl rfl)
theorem dX0_wordOf_47 : decode cX0_wordOf 47 = .ok (.iconst 0, 1) := dk_3 (dk_at dksX0_wordOf_1 23 rfl rfl)
theorem dX0_wordOf_48 : decode cX0_wordOf 48 = .ok (.istore 10, 2) := dk_54 10 (dk_at dksX0_wordOf_2 0 rfl rfl)
theorem dX0_wordOf_50 : decode cX0_wordOf 50 = .ok (.iload 10, 2) := dk_21 10 (dk_at dksX0_wordOf_2 2 rfl rfl)
theorem dX0_wordOf_52 : decode cX0_wordOf 52 = .ok (.iload 5, 2) := dk_21 5 (dk_at dksX0_wordOf_2 4 rfl rfl)
theorem dX0_wordOf_54 : decode cX0_wordOf 54 = .ok (.if_icmp .ge 36, 3) := dk_162 0 36 (dk_at dksX0_wordOf_2 6 rfl rfl)
theorem dX0_wordOf_57 : decode cX0_wordOf 57 = .ok (.lload 8, 2) := dk_22 8 (dk_at dksX0_wordOf_2 9 rfl rfl)
theorem dX0_wordOf_59 : decode cX0_wordOf 59 = .ok (.aload_n 0, 1) := dk_42 (dk_at dksX0_wordOf_2 11 rfl rfl)
theorem dX0_wordOf_60 : decode cX0_wordOf 60 = .ok (.getfield 246, 3) := dk_180 0 246 (dk_at dksX0_wordOf_2 12 rfl rfl)
theorem dX0_wordOf_63 : decode cX0_wordOf 63 = .ok (.iload 10, 2) := dk_21 10 (dk_at dksX0_wordOf_2 15 rfl rfl)
theorem dX0_wordOf_65 : decode cX0_wordOf 65 = .ok (.invokestatic 249, 3) := dk_184 0 249 (dk_at dksX0_wordOf_2 17 rfl rfl)
theorem dX0_wordOf_68 : decode cX0_wordOf 68 = .ok (.ifCond .eq 11, 3) := dk_153 0 11 (dk_at dksX0_wordOf_2 20 rfl rfl)
theorem dX0_wordOf_71 : decode cX0_wordOf 71 = .ok (.bipush 16, 2) := dk_16 16 (dk_at dksX0_wordOf_3 0 rfl rfl)
theorem dX0_wordOf_73 : decode cX0_wordOf 73 = .ok (.iload_n 1, 1) := dk_27 (dk_at dksX0_wordOf_3 2 rfl rfl)
theorem dX0_wordOf_74 : decode cX0_wordOf 74 = .ok (.isub, 1) := dk_100 (dk_at dksX0_wordOf_3 3 rfl rfl)
theorem dX0_wordOf_75 : decode cX0_wordOf 75 = .ok (.i2l, 1) := dk_133 (dk_at dksX0_wordOf_3 4 rfl rfl)
theorem dX0_wordOf_76 : decode cX0_wordOf 76 = .ok (.goto 5, 3) := dk_167 0 5 (dk_at dksX0_wordOf_3 5 rfl rfl)
theorem dX0_wordOf_79 : decode cX0_wordOf 79 = .ok (.iload_n 1, 1) := dk_27 (dk_at dksX0_wordOf_3 8 rfl rfl)
theorem dX0_wordOf_80 : decode cX0_wordOf 80 = .ok (.i2l, 1) := dk_133 (dk_at dksX0_wordOf_3 9 rfl rfl)
theorem dX0_wordOf_81 : decode cX0_wordOf 81 = .ok (.lmul, 1) := dk_105 (dk_at dksX0_wordOf_3 10 rfl rfl)
theorem dX0_wordOf_82 : decode cX0_wordOf 82 = .ok (.lstore 8, 2) := dk_55 8 (dk_at dksX0_wordOf_3 11 rfl rfl)
theorem dX0_wordOf_84 : decode cX0_wordOf 84 = .ok (.iinc 10 1, 3) := dk_132 10 1 (dk_at dksX0_wordOf_3 13 rfl rfl)
theorem dX0_wordOf_87 : decode cX0_wordOf 87 = .ok (.goto (-37), 3) := dk_167 255 219 (dk_at dksX0_wordOf_3 16 rfl rfl)
theorem dX0_wordOf_90 : decode cX0_wordOf 90 = .ok (.lload 6, 2) := dk_22 6 (dk_at dksX0_wordOf_3 19 rfl rfl)
theorem dX0_wordOf_92 : decode cX0_wordOf 92 = .ok (.lload 8, 2) := dk_22 8 (dk_at dksX0_wordOf_3 21 rfl rfl)
theorem dX0_wordOf_94 : decode cX0_wordOf 94 = .ok (.ladd, 1) := dk_97 (dk_at dksX0_wordOf_3 23 rfl rfl)
theorem dX0_wordOf_95 : decode cX0_wordOf 95 = .ok (.lstore 6, 2) := dk_55 6 (dk_at dksX0_wordOf_4 0 rfl rfl)
theorem dX0_wordOf_97 : decode cX0_wordOf 97 = .ok (.aload_n 0, 1) := dk_42 (dk_at dksX0_wordOf_4 2 rfl rfl)
theorem dX0_wordOf_98 : decode cX0_wordOf 98 = .ok (.dup, 1) := dk_89 (dk_at dksX0_wordOf_4 3 rfl rfl)
theorem dX0_wordOf_99 : decode cX0_wordOf 99 = .ok (.getfield 246, 3) := dk_180 0 246 (dk_at dksX0_wordOf_4 4 rfl rfl)
theorem dX0_wordOf_102 : decode cX0_wordOf 102 = .ok (.iconst 1, 1) := dk_4 (dk_at dksX0_wordOf_4 7 rfl rfl)
theorem dX0_wordOf_103 : decode cX0_wordOf 103 = .ok (.iadd, 1) := dk_96 (dk_at dksX0_wordOf_4 8 rfl rfl)
theorem dX0_wordOf_104 : decode cX0_wordOf 104 = .ok (.putfield 246, 3) := dk_181 0 246 (dk_at dksX0_wordOf_4 9 rfl rfl)
theorem dX0_wordOf_107 : decode cX0_wordOf 107 = .ok (.goto (-90), 3) := dk_167 255 166 (dk_at dksX0_wordOf_4 12 rfl rfl)
theorem dX0_wordOf_110 : decode cX0_wordOf 110 = .ok (.aload_n 0, 1) := dk_42 (dk_at dksX0_wordOf_4 15 rfl rfl)
theorem dX0_wordOf_111 : decode cX0_wordOf 111 = .ok (.iconst 0, 1) := dk_3 (dk_at dksX0_wordOf_4 16 rfl rfl)
theorem dX0_wordOf_112 : decode cX0_wordOf 112 = .ok (.putfield 246, 3) := dk_181 0 246 (dk_at dksX0_wordOf_4 17 rfl rfl)
theorem dX0_wordOf_115 : decode cX0_wordOf 115 = .ok (.goto 13, 3) := dk_167 0 13 (dk_at dksX0_wordOf_4 20 rfl rfl)
theorem dX0_wordOf_118 : decode cX0_wordOf 118 = .ok (.astore 11, 2) := dk_58 11 (dk_at dksX0_wordOf_5 0 rfl rfl)
theorem dX0_wordOf_120 : decode cX0_wordOf 120 = .ok (.aload_n 0, 1) := dk_42 (dk_at dksX0_wordOf_5 2 rfl rfl)
theorem dX0_wordOf_121 : decode cX0_wordOf 121 = .ok (.iconst 0, 1) := dk_3 (dk_at dksX0_wordOf_5 3 rfl rfl)
theorem dX0_wordOf_122 : decode cX0_wordOf 122 = .ok (.putfield 246, 3) := dk_181 0 246 (dk_at dksX0_wordOf_5 4 rfl rfl)
theorem dX0_wordOf_125 : decode cX0_wordOf 125 = .ok (.aload 11, 2) := dk_25 11 (dk_at dksX0_wordOf_5 7 rfl rfl)
theorem dX0_wordOf_127 : decode cX0_wordOf 127 = .ok (.athrow, 1) := dk_191 (dk_at dksX0_wordOf_5 9 rfl rfl)
theorem dX0_wordOf_128 : decode cX0_wordOf 128 = .ok (.lload 6, 2) := dk_22 6 (dk_at dksX0_wordOf_5 10 rfl rfl)
theorem dX0_wordOf_130 : decode cX0_wordOf 130 = .ok (.lconst 1, 1) := dk_10 (dk_at dksX0_wordOf_5 12 rfl rfl)
theorem dX0_wordOf_131 : decode cX0_wordOf 131 = .ok (.iconst 4, 1) := dk_7 (dk_at dksX0_wordOf_5 13 rfl rfl)
theorem dX0_wordOf_132 : decode cX0_wordOf 132 = .ok (.iload 5, 2) := dk_21 5 (dk_at dksX0_wordOf_5 14 rfl rfl)
theorem dX0_wordOf_134 : decode cX0_wordOf 134 = .ok (.imul, 1) := dk_104 (dk_at dksX0_wordOf_5 16 rfl rfl)
theorem dX0_wordOf_135 : decode cX0_wordOf 135 = .ok (.lshl, 1) := dk_121 (dk_at dksX0_wordOf_5 17 rfl rfl)
theorem dX0_wordOf_136 : decode cX0_wordOf 136 = .ok (.iload 4, 2) := dk_21 4 (dk_at dksX0_wordOf_5 18 rfl rfl)
theorem dX0_wordOf_138 : decode cX0_wordOf 138 = .ok (.invokestatic 357, 3) := dk_184 1 101 (dk_at dksX0_wordOf_5 20 rfl rfl)
theorem dX0_wordOf_141 : decode cX0_wordOf 141 = .ok (.lreturn, 1) := dk_173 (dk_at dksX0_wordOf_5 23 rfl rfl)
abbrev cX0_part : ByteArray := prog_1_method_67_code
def yX0_part : MethodName := ⟨RX0, "part", "(JJI)J"⟩
def dkwX0_part_0 : List UInt8 := [21, 4, 154, 0, 7, 30, 167, 0, 4, 32, 30, 32, 184, 1, 97, 109, 173]
abbrev dktX0_part_0 : List UInt8 := dkwX0_part_0 ++ []
theorem dksX0_part_0 : cX0_part.data.toList.drop 0 = dktX0_part_0 := by decide +kernel
theorem dX0_part_0 : decode cX0_part 0 = .ok (.iload 4, 2) := dk_21 4 (dk_at dksX0_part_0 0 rfl rfl)
theorem dX0_part_2 : decode cX0_part 2 = .ok (.ifCond .ne 7, 3) := dk_154 0 7 (dk_at dksX0_part_0 2 rfl rfl)
theorem dX0_part_5 : decode cX0_part 5 = .ok (.lload_n 0, 1) := dk_30 (dk_at dksX0_part_0 5 rfl rfl)
theorem dX0_part_6 : decode cX0_part 6 = .ok (.goto 4, 3) := dk_167 0 4 (dk_at dksX0_part_0 6 rfl rfl)
theorem dX0_part_9 : decode cX0_part 9 = .ok (.lload_n 2, 1) := dk_32 (dk_at dksX0_part_0 9 rfl rfl)
theorem dX0_part_10 : decode cX0_part 10 = .ok (.lload_n 0, 1) := dk_30 (dk_at dksX0_part_0 10 rfl rfl)
theorem dX0_part_11 : decode cX0_part 11 = .ok (.lload_n 2, 1) := dk_32 (dk_at dksX0_part_0 11 rfl rfl)
theorem dX0_part_12 : decode cX0_part 12 = .ok (.invokestatic 353, 3) := dk_184 1 97 (dk_at dksX0_part_0 12 rfl rfl)
theorem dX0_part_15 : decode cX0_part 15 = .ok (.ldiv, 1) := dk_109 (dk_at dksX0_part_0 15 rfl rfl)
theorem dX0_part_16 : decode cX0_part 16 = .ok (.lreturn, 1) := dk_173 (dk_at dksX0_part_0 16 rfl rfl)
abbrev cX0_divisor : ByteArray := prog_1_method_66_code
def yX0_divisor : MethodName := ⟨RX0, "divisor", "(JJ)J"⟩
def dkwX0_divisor_0 : List UInt8 := [32, 9, 148, 154, 0, 7, 30, 167, 0, 10, 32, 30, 32, 113, 184, 1, 97, 173]
abbrev dktX0_divisor_0 : List UInt8 := dkwX0_divisor_0 ++ []
theorem dksX0_divisor_0 : cX0_divisor.data.toList.drop 0 = dktX0_divisor_0 := by decide +kernel
theorem dX0_divisor_0 : decode cX0_divisor 0 = .ok (.lload_n 2, 1) := dk_32 (dk_at dksX0_divisor_0 0 rfl rfl)
theorem dX0_divisor_1 : decode cX0_divisor 1 = .ok (.lconst 0, 1) := dk_9 (dk_at dksX0_divisor_0 1 rfl rfl)
theorem dX0_divisor_2 : decode cX0_divisor 2 = .ok (.lcmp, 1) := dk_148 (dk_at dksX0_divisor_0 2 rfl rfl)
theorem dX0_divisor_3 : decode cX0_divisor 3 = .ok (.ifCond .ne 7, 3) := dk_154 0 7 (dk_at dksX0_divisor_0 3 rfl rfl)
theorem dX0_divisor_6 : decode cX0_divisor 6 = .ok (.lload_n 0, 1) := dk_30 (dk_at dksX0_divisor_0 6 rfl rfl)
theorem dX0_divisor_7 : decode cX0_divisor 7 = .ok (.goto 10, 3) := dk_167 0 10 (dk_at dksX0_divisor_0 7 rfl rfl)
theorem dX0_divisor_10 : decode cX0_divisor 10 = .ok (.lload_n 2, 1) := dk_32 (dk_at dksX0_divisor_0 10 rfl rfl)
theorem dX0_divisor_11 : decode cX0_divisor 11 = .ok (.lload_n 0, 1) := dk_30 (dk_at dksX0_divisor_0 11 rfl rfl)
theorem dX0_divisor_12 : decode cX0_divisor 12 = .ok (.lload_n 2, 1) := dk_32 (dk_at dksX0_divisor_0 12 rfl rfl)
theorem dX0_divisor_13 : decode cX0_divisor 13 = .ok (.lrem, 1) := dk_113 (dk_at dksX0_divisor_0 13 rfl rfl)
theorem dX0_divisor_14 : decode cX0_divisor 14 = .ok (.invokestatic 353, 3) := dk_184 1 97 (dk_at dksX0_divisor_0 14 rfl rfl)
theorem dX0_divisor_17 : decode cX0_divisor 17 = .ok (.lreturn, 1) := dk_173 (dk_at dksX0_divisor_0 17 rfl rfl)
abbrev cX0_no : ByteArray := prog_1_method_3_code
def yX0_no : MethodName := ⟨RX0, "no", "(I)J"⟩
def dkwX0_no_0 : List UInt8 := [20, 0, 88, 26, 133, 101, 173]
abbrev dktX0_no_0 : List UInt8 := dkwX0_no_0 ++ []
theorem dksX0_no_0 : cX0_no.data.toList.drop 0 = dktX0_no_0 := by decide +kernel
theorem dX0_no_0 : decode cX0_no 0 = .ok (.ldc2_w 88, 3) := dk_20 0 88 (dk_at dksX0_no_0 0 rfl rfl)
theorem dX0_no_3 : decode cX0_no 3 = .ok (.iload_n 0, 1) := dk_26 (dk_at dksX0_no_0 3 rfl rfl)
theorem dX0_no_4 : decode cX0_no 4 = .ok (.i2l, 1) := dk_133 (dk_at dksX0_no_0 4 rfl rfl)
theorem dX0_no_5 : decode cX0_no 5 = .ok (.lsub, 1) := dk_101 (dk_at dksX0_no_0 5 rfl rfl)
theorem dX0_no_6 : decode cX0_no 6 = .ok (.lreturn, 1) := dk_173 (dk_at dksX0_no_0 6 rfl rfl)
abbrev cX0_year : ByteArray := prog_1_method_73_code
def yX0_year : MethodName := ⟨RX0, "year", "(III)I"⟩
def dkwX0_year_1 : List UInt8 := [182, 1, 127, 167, 0, 5, 16, 254, 172]
abbrev dktX0_year_1 : List UInt8 := dkwX0_year_1 ++ []
def dkwX0_year_0 : List UInt8 := [28, 133, 9, 20, 1, 125, 184, 0, 94, 153, 0, 20, 29, 184, 0, 100, 153, 0, 13, 42, 27, 28, 29]
abbrev dktX0_year_0 : List UInt8 := dkwX0_year_0 ++ dktX0_year_1
theorem dksX0_year_0 : cX0_year.data.toList.drop 0 = dktX0_year_0 := by decide +kernel
theorem dksX0_year_1 : cX0_year.data.toList.drop 23 = dktX0_year_1 := dk_seg dksX0_year_0 23 rfl rfl
theorem dX0_year_0 : decode cX0_year 0 = .ok (.iload_n 2, 1) := dk_28 (dk_at dksX0_year_0 0 rfl rfl)
theorem dX0_year_1 : decode cX0_year 1 = .ok (.i2l, 1) := dk_133 (dk_at dksX0_year_0 1 rfl rfl)
theorem dX0_year_2 : decode cX0_year 2 = .ok (.lconst 0, 1) := dk_9 (dk_at dksX0_year_0 2 rfl rfl)
theorem dX0_year_3 : decode cX0_year 3 = .ok (.ldc2_w 381, 3) := dk_20 1 125 (dk_at dksX0_year_0 3 rfl rfl)
theorem dX0_year_6 : decode cX0_year 6 = .ok (.invokestatic 94, 3) := dk_184 0 94 (dk_at dksX0_year_0 6 rfl rfl)
theorem dX0_year_9 : decode cX0_year 9 = .ok (.ifCond .eq 20, 3) := dk_153 0 20 (dk_at dksX0_year_0 9 rfl rfl)
theorem dX0_year_12 : decode cX0_year 12 = .ok (.iload_n 3, 1) := dk_29 (dk_at dksX0_year_0 12 rfl rfl)
theorem dX0_year_13 : decode cX0_year 13 = .ok (.invokestatic 100, 3) := dk_184 0 100 (dk_at dksX0_year_0 13 rfl rfl)
theorem dX0_year_16 : decode cX0_year 16 = .ok (.ifCond .eq 13, 3) := dk_153 0 13 (dk_at dksX0_year_0 16 rfl rfl)
theorem dX0_year_19 : decode cX0_year 19 = .ok (.aload_n 0, 1) := dk_42 (dk_at dksX0_year_0 19 rfl rfl)
theorem dX0_year_20 : decode cX0_year 20 = .ok (.iload_n 1, 1) := dk_27 (dk_at dksX0_year_0 20 rfl rfl)
theorem dX0_year_21 : decode cX0_year 21 = .ok (.iload_n 2, 1) := dk_28 (dk_at dksX0_year_0 21 rfl rfl)
theorem dX0_year_22 : decode cX0_year 22 = .ok (.iload_n 3, 1) := dk_29 (dk_at dksX0_year_0 22 rfl rfl)
theorem dX0_year_23 : decode cX0_year 23 = .ok (.invokevirtual 383, 3) := dk_182 1 127 (dk_at dksX0_year_1 0 rfl rfl)
theorem dX0_year_26 : decode cX0_year 26 = .ok (.goto 5, 3) := dk_167 0 5 (dk_at dksX0_year_1 3 rfl rfl)
theorem dX0_year_29 : decode cX0_year 29 = .ok (.bipush (-2), 2) := dk_16 254 (dk_at dksX0_year_1 6 rfl rfl)
theorem dX0_year_31 : decode cX0_year 31 = .ok (.ireturn, 1) := dk_172 (dk_at dksX0_year_1 8 rfl rfl)
abbrev cX0_yearOf : ByteArray := prog_1_method_72_code
def yX0_yearOf : MethodName := ⟨RX0, "yearOf", "(III)I"⟩
def dkwX0_yearOf_10 : List UInt8 := [167, 255, 231, 25, 7, 191]
abbrev dktX0_yearOf_10 : List UInt8 := dkwX0_yearOf_10 ++ []
def dkwX0_yearOf_9 : List UInt8 := [21, 4, 162, 0, 24, 42, 180, 0, 30, 42, 180, 0, 75, 21, 8, 50, 182, 0, 162, 87, 132, 8, 1]
abbrev dktX0_yearOf_9 : List UInt8 := dkwX0_yearOf_9 ++ dktX0_yearOf_10
def dkwX0_yearOf_8 : List UInt8 := [132, 6, 1, 167, 255, 231, 21, 5, 172, 58, 7, 42, 180, 0, 30, 182, 1, 68, 3, 54, 8, 21, 8]
abbrev dktX0_yearOf_8 : List UInt8 := dkwX0_yearOf_8 ++ dktX0_yearOf_9
def dkwX0_yearOf_7 : List UInt8 := [54, 6, 21, 6, 21, 4, 162, 0, 24, 42, 180, 0, 30, 42, 180, 0, 75, 21, 6, 50, 182, 0, 162, 87]
abbrev dktX0_yearOf_7 : List UInt8 := dkwX0_yearOf_7 ++ dktX0_yearOf_8
def dkwX0_yearOf_6 : List UInt8 := [42, 182, 1, 122, 167, 0, 9, 42, 16, 23, 182, 1, 43, 54, 5, 42, 180, 0, 30, 182, 1, 68, 3]
abbrev dktX0_yearOf_6 : List UInt8 := dkwX0_yearOf_6 ++ dktX0_yearOf_7
def dkwX0_yearOf_5 : List UInt8 := [180, 0, 78, 21, 5, 50, 182, 0, 162, 87, 132, 5, 1, 167, 255, 187, 42, 182, 1, 21, 29, 154, 0, 10]
abbrev dktX0_yearOf_5 : List UInt8 := dkwX0_yearOf_5 ++ dktX0_yearOf_6
def dkwX0_yearOf_4 : List UInt8 := [180, 0, 78, 21, 5, 50, 4, 42, 42, 180, 0, 23, 182, 0, 129, 182, 1, 119, 79, 42, 180, 0, 30, 42]
abbrev dktX0_yearOf_4 : List UInt8 := dkwX0_yearOf_4 ++ dktX0_yearOf_5
def dkwX0_yearOf_3 : List UInt8 := [182, 0, 129, 158, 0, 59, 42, 180, 0, 78, 21, 5, 50, 3, 42, 16, 24, 182, 1, 119, 79, 42]
abbrev dktX0_yearOf_3 : List UInt8 := dkwX0_yearOf_3 ++ dktX0_yearOf_4
def dkwX0_yearOf_2 : List UInt8 := [180, 0, 30, 182, 1, 68, 42, 27, 181, 1, 116, 3, 54, 5, 21, 5, 28, 162, 0, 69, 42, 180, 0, 23]
abbrev dktX0_yearOf_2 : List UInt8 := dkwX0_yearOf_2 ++ dktX0_yearOf_3
def dkwX0_yearOf_1 : List UInt8 := [21, 5, 42, 180, 0, 30, 21, 5, 182, 0, 136, 192, 0, 74, 83, 132, 5, 1, 167, 255, 227, 42]
abbrev dktX0_yearOf_1 : List UInt8 := dkwX0_yearOf_1 ++ dktX0_yearOf_2
def dkwX0_yearOf_0 : List UInt8 := [42, 180, 0, 30, 182, 0, 159, 54, 4, 3, 54, 5, 21, 5, 21, 4, 162, 0, 28, 42, 180, 0, 75]
abbrev dktX0_yearOf_0 : List UInt8 := dkwX0_yearOf_0 ++ dktX0_yearOf_1
theorem dksX0_yearOf_0 : cX0_yearOf.data.toList.drop 0 = dktX0_yearOf_0 := by decide +kernel
theorem dksX0_yearOf_1 : cX0_yearOf.data.toList.drop 23 = dktX0_yearOf_1 := dk_seg dksX0_yearOf_0 23 rfl rfl
theorem dksX0_yearOf_2 : cX0_yearOf.data.toList.drop 45 = dktX0_yearOf_2 := dk_seg dksX0_yearOf_1 22 rfl rfl
theorem dksX0_yearOf_3 : cX0_yearOf.data.toList.drop 69 = dktX0_yearOf_3 := dk_seg dksX0_yearOf_2 24 rfl rfl
theorem dksX0_yearOf_4 : cX0_yearOf.data.toList.drop 91 = dktX0_yearOf_4 := dk_seg dksX0_yearOf_3 22 rfl rfl
theorem dksX0_yearOf_5 : cX0_yearOf.data.toList.drop 115 = dktX0_yearOf_5 := dk_seg dksX0_yearOf_4 24 rfl rfl
theorem dksX0_yearOf_6 : cX0_yearOf.data.toList.drop 139 = dktX0_yearOf_6 := dk_seg dksX0_yearOf_5 24 rfl rfl
theorem dksX0_yearOf_7 : cX0_yearOf.data.toList.drop 162 = dktX0_yearOf_7 := dk_seg dksX0_yearOf_6 23 rfl rfl
theorem dksX0_yearOf_8 : cX0_yearOf.data.toList.drop 186 = dktX0_yearOf_8 := dk_seg dksX0_yearOf_7 24 rfl rfl
theorem dksX0_yearOf_9 : cX0_yearOf.data.toList.drop 209 = dktX0_yearOf_9 := dk_seg dksX0_yearOf_8 23 rfl rfl
theorem dksX0_yearOf_10 : cX0_yearOf.data.toList.drop 232 = dktX0_yearOf_10 := dk_seg dksX0_yearOf_9 23 rfl rfl
theorem dX0_yearOf_0 : decode cX0_yearOf 0 = .ok (.aload_n 0, 1) := dk_42 (dk_at dksX0_yearOf_0 0 rfl rfl)
theorem dX0_yearOf_1 : decode cX0_yearOf 1 = .ok (.getfield 30, 3) := dk_180 0 30 (dk_at dksX0_yearOf_0 1 rfl rfl)
theorem dX0_yearOf_4 : decode cX0_yearOf 4 = .ok (.invokevirtual 159, 3) := dk_182 0 159 (dk_at dksX0_yearOf_0 4 rfl rfl)
theorem dX0_yearOf_7 : decode cX0_yearOf 7 = .ok (.istore 4, 2) := dk_54 4 (dk_at dksX0_yearOf_0 7 rfl rfl)
theorem dX0_yearOf_9 : decode cX0_yearOf 9 = .ok (.iconst 0, 1) := dk_3 (dk_at dksX0_yearOf_0 9 rfl rfl)
theorem dX0_yearOf_10 : decode cX0_yearOf 10 = .ok (.istore 5, 2) := dk_54 5 (dk_at dksX0_yearOf_0 10 rfl rfl)
theorem dX0_yearOf_12 : decode cX0_yearOf 12 = .ok (.iload 5, 2) := dk_21 5 (dk_at dksX0_yearOf_0 12 rfl rfl)
theorem dX0_yearOf_14 : decode cX0_yearOf 14 = .ok (.iload 4, 2) := dk_21 4 (dk_at dksX0_yearOf_0 14 rfl rfl)
theorem dX0_yearOf_16 : decode cX0_yearOf 16 = .ok (.if_icmp .ge 28, 3) := dk_162 0 28 (dk_at dksX0_yearOf_0 16 rfl rfl)
theorem dX0_yearOf_19 : decode cX0_yearOf 19 = .ok (.aload_n 0, 1) := dk_42 (dk_at dksX0_yearOf_0 19 rfl rfl)
theorem dX0_yearOf_20 : decode cX0_yearOf 20 = .ok (.getfield 75, 3) := dk_180 0 75 (dk_at dksX0_yearOf_0 20 rfl rfl)
theorem dX0_yearOf_23 : decode cX0_yearOf 23 = .ok (.iload 5, 2) := dk_21 5 (dk_at dksX0_yearOf_1 0 rfl rfl)
theorem dX0_yearOf_25 : decode cX0_yearOf 25 = .ok (.aload_n 0, 1) := dk_42 (dk_at dksX0_yearOf_1 2 rfl rfl)
theorem dX0_yearOf_26 : decode cX0_yearOf 26 = .ok (.getfield 30, 3) := dk_180 0 30 (dk_at dksX0_yearOf_1 3 rfl rfl)
theorem dX0_yearOf_29 : decode cX0_yearOf 29 = .ok (.iload 5, 2) := dk_21 5 (dk_at dksX0_yearOf_1 6 rfl rfl)
theorem dX0_yearOf_31 : decode cX0_yearOf 31 = .ok (.invokevirtual 136, 3) := dk_182 0 136 (dk_at dksX0_yearOf_1 8 rfl rfl)
theorem dX0_yearOf_34 : decode cX0_yearOf 34 = .ok (.checkcast 74, 3) := dk_192 0 74 (dk_at dksX0_yearOf_1 11 rfl rfl)
theorem dX0_yearOf_37 : decode cX0_yearOf 37 = .ok (.aastore, 1) := dk_83 (dk_at dksX0_yearOf_1 14 rfl rfl)
theorem dX0_yearOf_38 : decode cX0_yearOf 38 = .ok (.iinc 5 1, 3) := dk_132 5 1 (dk_at dksX0_yearOf_1 15 rfl rfl)
theorem dX0_yearOf_41 : decode cX0_yearOf 41 = .ok (.goto (-29), 3) := dk_167 255 227 (dk_at dksX0_yearOf_1 18 rfl rfl)
theorem dX0_yearOf_44 : decode cX0_yearOf 44 = .ok (.aload_n 0, 1) := dk_42 (dk_at dksX0_yearOf_1 21 rfl rfl)
theorem dX0_yearOf_45 : decode cX0_yearOf 45 = .ok (.getfield 30, 3) := dk_180 0 30 (dk_at dksX0_yearOf_2 0 rfl rfl)
theorem dX0_yearOf_48 : decode cX0_yearOf 48 = .ok (.invokevirtual 324, 3) := dk_182 1 68 (dk_at dksX0_yearOf_2 3 rfl rfl)
theorem dX0_yearOf_51 : decode cX0_yearOf 51 = .ok (.aload_n 0, 1) := dk_42 (dk_at dksX0_yearOf_2 6 rfl rfl)
theorem dX0_yearOf_52 : decode cX0_yearOf 52 = .ok (.iload_n 1, 1) := dk_27 (dk_at dksX0_yearOf_2 7 rfl rfl)
theorem dX0_yearOf_53 : decode cX0_yearOf 53 = .ok (.putfield 372, 3) := dk_181 1 116 (dk_at dksX0_yearOf_2 8 rfl rfl)
theorem dX0_yearOf_56 : decode cX0_yearOf 56 = .ok (.iconst 0, 1) := dk_3 (dk_at dksX0_yearOf_2 11 rfl rfl)
theorem dX0_yearOf_57 : decode cX0_yearOf 57 = .ok (.istore 5, 2) := dk_54 5 (dk_at dksX0_yearOf_2 12 rfl rfl)
theorem dX0_yearOf_59 : decode cX0_yearOf 59 = .ok (.iload 5, 2) := dk_21 5 (dk_at dksX0_yearOf_2 14 rfl rfl)
theorem dX0_yearOf_61 : decode cX0_yearOf 61 = .ok (.iload_n 2, 1) := dk_28 (dk_at dksX0_yearOf_2 16 rfl rfl)
theorem dX0_yearOf_62 : decode cX0_yearOf 62 = .ok (.if_icmp .ge 69, 3) := dk_162 0 69 (dk_at dksX0_yearOf_2 17 rfl rfl)
theorem dX0_yearOf_65 : decode cX0_yearOf 65 = .ok (.aload_n 0, 1) := dk_42 (dk_at dksX0_yearOf_2 20 rfl rfl)
theorem dX0_yearOf_66 : decode cX0_yearOf 66 = .ok (.getfield 23, 3) := dk_180 0 23 (dk_at dksX0_yearOf_2 21 rfl rfl)
theorem dX0_yearOf_69 : decode cX0_yearOf 69 = .ok (.invokevirtual 129, 3) := dk_182 0 129 (dk_at dksX0_yearOf_3 0 rfl rfl)
theorem dX0_yearOf_72 : decode cX0_yearOf 72 = .ok (.ifCond .le 59, 3) := dk_158 0 59 (dk_at dksX0_yearOf_3 3 rfl rfl)
theorem dX0_yearOf_75 : decode cX0_yearOf 75 = .ok (.aload_n 0, 1) := dk_42 (dk_at dksX0_yearOf_3 6 rfl rfl)
theorem dX0_yearOf_76 : decode cX0_yearOf 76 = .ok (.getfield 78, 3) := dk_180 0 78 (dk_at dksX0_yearOf_3 7 rfl rfl)
theorem dX0_yearOf_79 : decode cX0_yearOf 79 = .ok (.iload 5, 2) := dk_21 5 (dk_at dksX0_yearOf_3 10 rfl rfl)
theorem dX0_yearOf_81 : decode cX0_yearOf 81 = .ok (.aaload, 1) := dk_50 (dk_at dksX0_yearOf_3 12 rfl rfl)
theorem dX0_yearOf_82 : decode cX0_yearOf 82 = .ok (.iconst 0, 1) := dk_3 (dk_at dksX0_yearOf_3 13 rfl rfl)
theorem dX0_yearOf_83 : decode cX0_yearOf 83 = .ok (.aload_n 0, 1) := dk_42 (dk_at dksX0_yearOf_3 14 rfl rfl)
theorem dX0_yearOf_84 : decode cX0_yearOf 84 = .ok (.bipush 24, 2) := dk_16 24 (dk_at dksX0_yearOf_3 15 rfl rfl)
theorem dX0_yearOf_86 : decode cX0_yearOf 86 = .ok (.invokevirtual 375, 3) := dk_182 1 119 (dk_at dksX0_yearOf_3 17 rfl rfl)
theorem dX0_yearOf_89 : decode cX0_yearOf 89 = .ok (.iastore, 1) := dk_79 (dk_at dksX0_yearOf_3 20 rfl rfl)
theorem dX0_yearOf_90 : decode cX0_yearOf 90 = .ok (.aload_n 0, 1) := dk_42 (dk_at dksX0_yearOf_3 21 rfl rfl)
theorem dX0_yearOf_91 : decode cX0_yearOf 91 = .ok (.getfield 78, 3) := dk_180 0 78 (dk_at dksX0_yearOf_4 0 rfl rfl)
theorem dX0_yearOf_94 : decode cX0_yearOf 94 = .ok (.iload 5, 2) := dk_21 5 (dk_at dksX0_yearOf_4 3 rfl rfl)
theorem dX0_yearOf_96 : decode cX0_yearOf 96 = .ok (.aaload, 1) := dk_50 (dk_at dksX0_yearOf_4 5 rfl rfl)
theorem dX0_yearOf_97 : decode cX0_yearOf 97 = .ok (.iconst 1, 1) := dk_4 (dk_at dksX0_yearOf_4 6 rfl rfl)
theorem dX0_yearOf_98 : decode cX0_yearOf 98 = .ok (.aload_n 0, 1) := dk_42 (dk_at dksX0_yearOf_4 7 rfl rfl)
theorem dX0_yearOf_99 : decode cX0_yearOf 99 = .ok (.aload_n 0, 1) := dk_42 (dk_at dksX0_yearOf_4 8 rfl rfl)
theorem dX0_yearOf_100 : decode cX0_yearOf 100 = .ok (.getfield 23, 3) := dk_180 0 23 (dk_at dksX0_yearOf_4 9 rfl rfl)
theorem dX0_yearOf_103 : decode cX0_yearOf 103 = .ok (.invokevirtual 129, 3) := dk_182 0 129 (dk_at dksX0_yearOf_4 12 rfl rfl)
theorem dX0_yearOf_106 : decode cX0_yearOf 106 = .ok (.invokevirtual 375, 3) := dk_182 1 119 (dk_at dksX0_yearOf_4 15 rfl rfl)
theorem dX0_yearOf_109 : decode cX0_yearOf 109 = .ok (.iastore, 1) := dk_79 (dk_at dksX0_yearOf_4 18 rfl rfl)
theorem dX0_yearOf_110 : decode cX0_yearOf 110 = .ok (.aload_n 0, 1) := dk_42 (dk_at dksX0_yearOf_4 19 rfl rfl)
theorem dX0_yearOf_111 : decode cX0_yearOf 111 = .ok (.getfield 30, 3) := dk_180 0 30 (dk_at dksX0_yearOf_4 20 rfl rfl)
theorem dX0_yearOf_114 : decode cX0_yearOf 114 = .ok (.aload_n 0, 1) := dk_42 (dk_at dksX0_yearOf_4 23 rfl rfl)
theorem dX0_yearOf_115 : decode cX0_yearOf 115 = .ok (.getfield 78, 3) := dk_180 0 78 (dk_at dksX0_yearOf_5 0 rfl rfl)
theorem dX0_yearOf_118 : decode cX0_yearOf 118 = .ok (.iload 5, 2) := dk_21 5 (dk_at dksX0_yearOf_5 3 rfl rfl)
theorem dX0_yearOf_120 : decode cX0_yearOf 120 = .ok (.aaload, 1) := dk_50 (dk_at dksX0_yearOf_5 5 rfl rfl)
theorem dX0_yearOf_121 : decode cX0_yearOf 121 = .ok (.invokevirtual 162, 3) := dk_182 0 162 (dk_at dksX0_yearOf_5 6 rfl rfl)
theorem dX0_yearOf_124 : decode cX0_yearOf 124 = .ok (.pop, 1) := dk_87 (dk_at dksX0_yearOf_5 9 rfl rfl)
theorem dX0_yearOf_125 : decode cX0_yearOf 125 = .ok (.iinc 5 1, 3) := dk_132 5 1 (dk_at dksX0_yearOf_5 10 rfl rfl)
theorem dX0_yearOf_128 : decode cX0_yearOf 128 = .ok (.goto (-69), 3) := dk_167 255 187 (dk_at dksX0_yearOf_5 13 rfl rfl)
theorem dX0_yearOf_131 : decode cX0_yearOf 131 = .ok (.aload_n 0, 1) := dk_42 (dk_at dksX0_yearOf_5 16 rfl rfl)
theorem dX0_yearOf_132 : decode cX0_yearOf 132 = .ok (.invokevirtual 277, 3) := dk_182 1 21 (dk_at dksX0_yearOf_5 17 rfl rfl)
theorem dX0_yearOf_135 : decode cX0_yearOf 135 = .ok (.iload_n 3, 1) := dk_29 (dk_at dksX0_yearOf_5 20 rfl rfl)
theorem dX0_yearOf_136 : decode cX0_yearOf 136 = .ok (.ifCond .ne 10, 3) := dk_154 0 10 (dk_at dksX0_yearOf_5 21 rfl rfl)
theorem dX0_yearOf_139 : decode cX0_yearOf 139 = .ok (.aload_n 0, 1) := dk_42 (dk_at dksX0_yearOf_6 0 rfl rfl)
theorem dX0_yearOf_140 : decode cX0_yearOf 140 = .ok (.invokevirtual 378, 3) := dk_182 1 122 (dk_at dksX0_yearOf_6 1 rfl rfl)
theorem dX0_yearOf_143 : decode cX0_yearOf 143 = .ok (.goto 9, 3) := dk_167 0 9 (dk_at dksX0_yearOf_6 4 rfl rfl)
theorem dX0_yearOf_146 : decode cX0_yearOf 146 = .ok (.aload_n 0, 1) := dk_42 (dk_at dksX0_yearOf_6 7 rfl rfl)
theorem dX0_yearOf_147 : decode cX0_yearOf 147 = .ok (.bipush 23, 2) := dk_16 23 (dk_at dksX0_yearOf_6 8 rfl rfl)
theorem dX0_yearOf_149 : decode cX0_yearOf 149 = .ok (.invokevirtual 299, 3) := dk_182 1 43 (dk_at dksX0_yearOf_6 10 rfl rfl)
theorem dX0_yearOf_152 : decode cX0_yearOf 152 = .ok (.istore 5, 2) := dk_54 5 (dk_at dksX0_yearOf_6 13 rfl rfl)
theorem dX0_yearOf_154 : decode cX0_yearOf 154 = .ok (.aload_n 0, 1) := dk_42 (dk_at dksX0_yearOf_6 15 rfl rfl)
theorem dX0_yearOf_155 : decode cX0_yearOf 155 = .ok (.getfield 30, 3) := dk_180 0 30 (dk_at dksX0_yearOf_6 16 rfl rfl)
theorem dX0_yearOf_158 : decode cX0_yearOf 158 = .ok (.invokevirtual 324, 3) := dk_182 1 68 (dk_at dksX0_yearOf_6 19 rfl rfl)
theorem dX0_yearOf_161 : decode cX0_yearOf 161 = .ok (.iconst 0, 1) := dk_3 (dk_at dksX0_yearOf_6 22 rfl rfl)
theorem dX0_yearOf_162 : decode cX0_yearOf 162 = .ok (.istore 6, 2) := dk_54 6 (dk_at dksX0_yearOf_7 0 rfl rfl)
theorem dX0_yearOf_164 : decode cX0_yearOf 164 = .ok (.iload 6, 2) := dk_21 6 (dk_at dksX0_yearOf_7 2 rfl rfl)
theorem dX0_yearOf_166 : decode cX0_yearOf 166 = .ok (.iload 4, 2) := dk_21 4 (dk_at dksX0_yearOf_7 4 rfl rfl)
theorem dX0_yearOf_168 : decode cX0_yearOf 168 = .ok (.if_icmp .ge 24, 3) := dk_162 0 24 (dk_at dksX0_yearOf_7 6 rfl rfl)
theorem dX0_yearOf_171 : decode cX0_yearOf 171 = .ok (.aload_n 0, 1) := dk_42 (dk_at dksX0_yearOf_7 9 rfl rfl)
theorem dX0_yearOf_172 : decode cX0_yearOf 172 = .ok (.getfield 30, 3) := dk_180 0 30 (dk_at dksX0_yearOf_7 10 rfl rfl)
theorem dX0_yearOf_175 : decode cX0_yearOf 175 = .ok (.aload_n 0, 1) := dk_42 (dk_at dksX0_yearOf_7 13 rfl rfl)
theorem dX0_yearOf_176 : decode cX0_yearOf 176 = .ok (.getfield 75, 3) := dk_180 0 75 (dk_at dksX0_yearOf_7 14 rfl rfl)
theorem dX0_yearOf_179 : decode cX0_yearOf 179 = .ok (.iload 6, 2) := dk_21 6 (dk_at dksX0_yearOf_7 17 rfl rfl)
theorem dX0_yearOf_181 : decode cX0_yearOf 181 = .ok (.aaload, 1) := dk_50 (dk_at dksX0_yearOf_7 19 rfl rfl)
theorem dX0_yearOf_182 : decode cX0_yearOf 182 = .ok (.invokevirtual 162, 3) := dk_182 0 162 (dk_at dksX0_yearOf_7 20 rfl rfl)
theorem dX0_yearOf_185 : decode cX0_yearOf 185 = .ok (.pop, 1) := dk_87 (dk_at dksX0_yearOf_7 23 rfl rfl)
theorem dX0_yearOf_186 : decode cX0_yearOf 186 = .ok (.iinc 6 1, 3) := dk_132 6 1 (dk_at dksX0_yearOf_8 0 rfl rfl)
theorem dX0_yearOf_189 : decode cX0_yearOf 189 = .ok (.goto (-25), 3) := dk_167 255 231 (dk_at dksX0_yearOf_8 3 rfl rfl)
theorem dX0_yearOf_192 : decode cX0_yearOf 192 = .ok (.iload 5, 2) := dk_21 5 (dk_at dksX0_yearOf_8 6 rfl rfl)
theorem dX0_yearOf_194 : decode cX0_yearOf 194 = .ok (.ireturn, 1) := dk_172 (dk_at dksX0_yearOf_8 8 rfl rfl)
theorem dX0_yearOf_195 : decode cX0_yearOf 195 = .ok (.astore 7, 2) := dk_58 7 (dk_at dksX0_yearOf_8 9 rfl rfl)
theorem dX0_yearOf_197 : decode cX0_yearOf 197 = .ok (.aload_n 0, 1) := dk_42 (dk_at dksX0_yearOf_8 11 rfl rfl)
theorem dX0_yearOf_198 : decode cX0_yearOf 198 = .ok (.getfield 30, 3) := dk_180 0 30 (dk_at dksX0_yearOf_8 12 rfl rfl)
theorem dX0_yearOf_201 : decode cX0_yearOf 201 = .ok (.invokevirtual 324, 3) := dk_182 1 68 (dk_at dksX0_yearOf_8 15 rfl rfl)
theorem dX0_yearOf_204 : decode cX0_yearOf 204 = .ok (.iconst 0, 1) := dk_3 (dk_at dksX0_yearOf_8 18 rfl rfl)
theorem dX0_yearOf_205 : decode cX0_yearOf 205 = .ok (.istore 8, 2) := dk_54 8 (dk_at dksX0_yearOf_8 19 rfl rfl)
theorem dX0_yearOf_207 : decode cX0_yearOf 207 = .ok (.iload 8, 2) := dk_21 8 (dk_at dksX0_yearOf_8 21 rfl rfl)
theorem dX0_yearOf_209 : decode cX0_yearOf 209 = .ok (.iload 4, 2) := dk_21 4 (dk_at dksX0_yearOf_9 0 rfl rfl)
theorem dX0_yearOf_211 : decode cX0_yearOf 211 = .ok (.if_icmp .ge 24, 3) := dk_162 0 24 (dk_at dksX0_yearOf_9 2 rfl rfl)
theorem dX0_yearOf_214 : decode cX0_yearOf 214 = .ok (.aload_n 0, 1) := dk_42 (dk_at dksX0_yearOf_9 5 rfl rfl)
theorem dX0_yearOf_215 : decode cX0_yearOf 215 = .ok (.getfield 30, 3) := dk_180 0 30 (dk_at dksX0_yearOf_9 6 rfl rfl)
theorem dX0_yearOf_218 : decode cX0_yearOf 218 = .ok (.aload_n 0, 1) := dk_42 (dk_at dksX0_yearOf_9 9 rfl rfl)
theorem dX0_yearOf_219 : decode cX0_yearOf 219 = .ok (.getfield 75, 3) := dk_180 0 75 (dk_at dksX0_yearOf_9 10 rfl rfl)
theorem dX0_yearOf_222 : decode cX0_yearOf 222 = .ok (.iload 8, 2) := dk_21 8 (dk_at dksX0_yearOf_9 13 rfl rfl)
theorem dX0_yearOf_224 : decode cX0_yearOf 224 = .ok (.aaload, 1) := dk_50 (dk_at dksX0_yearOf_9 15 rfl rfl)
theorem dX0_yearOf_225 : decode cX0_yearOf 225 = .ok (.invokevirtual 162, 3) := dk_182 0 162 (dk_at dksX0_yearOf_9 16 rfl rfl)
theorem dX0_yearOf_228 : decode cX0_yearOf 228 = .ok (.pop, 1) := dk_87 (dk_at dksX0_yearOf_9 19 rfl rfl)
theorem dX0_yearOf_229 : decode cX0_yearOf 229 = .ok (.iinc 8 1, 3) := dk_132 8 1 (dk_at dksX0_yearOf_9 20 rfl rfl)
theorem dX0_yearOf_232 : decode cX0_yearOf 232 = .ok (.goto (-25), 3) := dk_167 255 231 (dk_at dksX0_yearOf_10 0 rfl rfl)
theorem dX0_yearOf_235 : decode cX0_yearOf 235 = .ok (.aload 7, 2) := dk_25 7 (dk_at dksX0_yearOf_10 3 rfl rfl)
theorem dX0_yearOf_237 : decode cX0_yearOf 237 = .ok (.athrow, 1) := dk_191 (dk_at dksX0_yearOf_10 5 rfl rfl)
abbrev cX0_lot : ByteArray := prog_1_method_70_code
def yX0_lot : MethodName := ⟨RX0, "lot", "(I)I"⟩
def dkwX0_lot_1 : List UInt8 := [112, 172]
abbrev dktX0_lot_1 : List UInt8 := dkwX0_lot_1 ++ []
def dkwX0_lot_0 : List UInt8 := [42, 19, 1, 115, 42, 180, 1, 116, 104, 17, 48, 57, 96, 181, 1, 116, 42, 180, 1, 116, 16, 16, 124, 27]
abbrev dktX0_lot_0 : List UInt8 := dkwX0_lot_0 ++ dktX0_lot_1
theorem dksX0_lot_0 : cX0_lot.data.toList.drop 0 = dktX0_lot_0 := by decide +kernel
theorem dksX0_lot_1 : cX0_lot.data.toList.drop 24 = dktX0_lot_1 := dk_seg dksX0_lot_0 24 rfl rfl
theorem dX0_lot_0 : decode cX0_lot 0 = .ok (.aload_n 0, 1) := dk_42 (dk_at dksX0_lot_0 0 rfl rfl)
theorem dX0_lot_1 : decode cX0_lot 1 = .ok (.ldc_w 371, 3) := dk_19 1 115 (dk_at dksX0_lot_0 1 rfl rfl)
theorem dX0_lot_4 : decode cX0_lot 4 = .ok (.aload_n 0, 1) := dk_42 (dk_at dksX0_lot_0 4 rfl rfl)
theorem dX0_lot_5 : decode cX0_lot 5 = .ok (.getfield 372, 3) := dk_180 1 116 (dk_at dksX0_lot_0 5 rfl rfl)
theorem dX0_lot_8 : decode cX0_lot 8 = .ok (.imul, 1) := dk_104 (dk_at dksX0_lot_0 8 rfl rfl)
theorem dX0_lot_9 : decode cX0_lot 9 = .ok (.sipush 12345, 3) := dk_17 48 57 (dk_at dksX0_lot_0 9 rfl rfl)
theorem dX0_lot_12 : decode cX0_lot 12 = .ok (.iadd, 1) := dk_96 (dk_at dksX0_lot_0 12 rfl rfl)
theorem dX0_lot_13 : decode cX0_lot 13 = .ok (.putfield 372, 3) := dk_181 1 116 (dk_at dksX0_lot_0 13 rfl rfl)
theorem dX0_lot_16 : decode cX0_lot 16 = .ok (.aload_n 0, 1) := dk_42 (dk_at dksX0_lot_0 16 rfl rfl)
theorem dX0_lot_17 : decode cX0_lot 17 = .ok (.getfield 372, 3) := dk_180 1 116 (dk_at dksX0_lot_0 17 rfl rfl)
theorem dX0_lot_20 : decode cX0_lot 20 = .ok (.bipush 16, 2) := dk_16 16 (dk_at dksX0_lot_0 20 rfl rfl)
theorem dX0_lot_22 : decode cX0_lot 22 = .ok (.iushr, 1) := dk_124 (dk_at dksX0_lot_0 22 rfl rfl)
theorem dX0_lot_23 : decode cX0_lot 23 = .ok (.iload_n 1, 1) := dk_27 (dk_at dksX0_lot_0 23 rfl rfl)
theorem dX0_lot_24 : decode cX0_lot 24 = .ok (.irem, 1) := dk_112 (dk_at dksX0_lot_1 0 rfl rfl)
theorem dX0_lot_25 : decode cX0_lot 25 = .ok (.ireturn, 1) := dk_172 (dk_at dksX0_lot_1 1 rfl rfl)
abbrev cX0_broken : ByteArray := prog_1_method_71_code
def yX0_broken : MethodName := ⟨RX0, "broken", "()I"⟩
def dkwX0_broken_1 : List UInt8 := [160, 0, 7, 4, 167, 0, 4, 3, 96, 60, 132, 2, 1, 167, 255, 224, 27, 172]
abbrev dktX0_broken_1 : List UInt8 := dkwX0_broken_1 ++ []
def dkwX0_broken_0 : List UInt8 := [3, 60, 3, 61, 28, 42, 180, 0, 23, 182, 0, 129, 162, 0, 27, 27, 42, 180, 0, 47, 28, 46, 6]
abbrev dktX0_broken_0 : List UInt8 := dkwX0_broken_0 ++ dktX0_broken_1
theorem dksX0_broken_0 : cX0_broken.data.toList.drop 0 = dktX0_broken_0 := by decide +kernel
theorem dksX0_broken_1 : cX0_broken.data.toList.drop 23 = dktX0_broken_1 := dk_seg dksX0_broken_0 23 rfl rfl
theorem dX0_broken_0 : decode cX0_broken 0 = .ok (.iconst 0, 1) := dk_3 (dk_at dksX0_broken_0 0 rfl rfl)
theorem dX0_broken_1 : decode cX0_broken 1 = .ok (.istore_n 1, 1) := dk_60 (dk_at dksX0_broken_0 1 rfl rfl)
theorem dX0_broken_2 : decode cX0_broken 2 = .ok (.iconst 0, 1) := dk_3 (dk_at dksX0_broken_0 2 rfl rfl)
theorem dX0_broken_3 : decode cX0_broken 3 = .ok (.istore_n 2, 1) := dk_61 (dk_at dksX0_broken_0 3 rfl rfl)
theorem dX0_broken_4 : decode cX0_broken 4 = .ok (.iload_n 2, 1) := dk_28 (dk_at dksX0_broken_0 4 rfl rfl)
theorem dX0_broken_5 : decode cX0_broken 5 = .ok (.aload_n 0, 1) := dk_42 (dk_at dksX0_broken_0 5 rfl rfl)
theorem dX0_broken_6 : decode cX0_broken 6 = .ok (.getfield 23, 3) := dk_180 0 23 (dk_at dksX0_broken_0 6 rfl rfl)
theorem dX0_broken_9 : decode cX0_broken 9 = .ok (.invokevirtual 129, 3) := dk_182 0 129 (dk_at dksX0_broken_0 9 rfl rfl)
theorem dX0_broken_12 : decode cX0_broken 12 = .ok (.if_icmp .ge 27, 3) := dk_162 0 27 (dk_at dksX0_broken_0 12 rfl rfl)
theorem dX0_broken_15 : decode cX0_broken 15 = .ok (.iload_n 1, 1) := dk_27 (dk_at dksX0_broken_0 15 rfl rfl)
theorem dX0_broken_16 : decode cX0_broken 16 = .ok (.aload_n 0, 1) := dk_42 (dk_at dksX0_broken_0 16 rfl rfl)
theorem dX0_broken_17 : decode cX0_broken 17 = .ok (.getfield 47, 3) := dk_180 0 47 (dk_at dksX0_broken_0 17 rfl rfl)
theorem dX0_broken_20 : decode cX0_broken 20 = .ok (.iload_n 2, 1) := dk_28 (dk_at dksX0_broken_0 20 rfl rfl)
theorem dX0_broken_21 : decode cX0_broken 21 = .ok (.iaload, 1) := dk_46 (dk_at dksX0_broken_0 21 rfl rfl)
theorem dX0_broken_22 : decode cX0_broken 22 = .ok (.iconst 3, 1) := dk_6 (dk_at dksX0_broken_0 22 rfl rfl)
theorem dX0_broken_23 : decode cX0_broken 23 = .ok (.if_icmp .ne 7, 3) := dk_160 0 7 (dk_at dksX0_broken_1 0 rfl rfl)
theorem dX0_broken_26 : decode cX0_broken 26 = .ok (.iconst 1, 1) := dk_4 (dk_at dksX0_broken_1 3 rfl rfl)
theorem dX0_broken_27 : decode cX0_broken 27 = .ok (.goto 4, 3) := dk_167 0 4 (dk_at dksX0_broken_1 4 rfl rfl)
theorem dX0_broken_30 : decode cX0_broken 30 = .ok (.iconst 0, 1) := dk_3 (dk_at dksX0_broken_1 7 rfl rfl)
theorem dX0_broken_31 : decode cX0_broken 31 = .ok (.iadd, 1) := dk_96 (dk_at dksX0_broken_1 8 rfl rfl)
theorem dX0_broken_32 : decode cX0_broken 32 = .ok (.istore_n 1, 1) := dk_60 (dk_at dksX0_broken_1 9 rfl rfl)
theorem dX0_broken_33 : decode cX0_broken 33 = .ok (.iinc 2 1, 3) := dk_132 2 1 (dk_at dksX0_broken_1 10 rfl rfl)
theorem dX0_broken_36 : decode cX0_broken 36 = .ok (.goto (-32), 3) := dk_167 255 224 (dk_at dksX0_broken_1 13 rfl rfl)
theorem dX0_broken_39 : decode cX0_broken 39 = .ok (.iload_n 1, 1) := dk_27 (dk_at dksX0_broken_1 16 rfl rfl)
theorem dX0_broken_40 : decode cX0_broken 40 = .ok (.ireturn, 1) := dk_172 (dk_at dksX0_broken_1 17 rfl rfl)
abbrev cX0_sheet : ByteArray := prog_1_method_76_code
def yX0_sheet : MethodName := ⟨RX0, "sheet", "(III)I"⟩
def dkwX0_sheet_2 : List UInt8 := [42, 8, 182, 0, 188, 172]
abbrev dktX0_sheet_2 : List UInt8 := dkwX0_sheet_2 ++ []
def dkwX0_sheet_1 : List UInt8 := [164, 0, 6, 16, 254, 172, 42, 180, 0, 84, 27, 50, 28, 29, 184, 1, 130, 181, 0, 184, 29, 172, 58, 4]
abbrev dktX0_sheet_1 : List UInt8 := dkwX0_sheet_1 ++ dktX0_sheet_2
def dkwX0_sheet_0 : List UInt8 := [27, 184, 0, 181, 153, 0, 21, 28, 133, 9, 20, 0, 172, 184, 0, 94, 153, 0, 9, 29, 16, 60]
abbrev dktX0_sheet_0 : List UInt8 := dkwX0_sheet_0 ++ dktX0_sheet_1
theorem dksX0_sheet_0 : cX0_sheet.data.toList.drop 0 = dktX0_sheet_0 := by decide +kernel
theorem dksX0_sheet_1 : cX0_sheet.data.toList.drop 22 = dktX0_sheet_1 := dk_seg dksX0_sheet_0 22 rfl rfl
theorem dksX0_sheet_2 : cX0_sheet.data.toList.drop 46 = dktX0_sheet_2 := dk_seg dksX0_sheet_1 24 rfl rfl
theorem dX0_sheet_0 : decode cX0_sheet 0 = .ok (.iload_n 1, 1) := dk_27 (dk_at dksX0_sheet_0 0 rfl rfl)
theorem dX0_sheet_1 : decode cX0_sheet 1 = .ok (.invokestatic 181, 3) := dk_184 0 181 (dk_at dksX0_sheet_0 1 rfl rfl)
theorem dX0_sheet_4 : decode cX0_sheet 4 = .ok (.ifCond .eq 21, 3) := dk_153 0 21 (dk_at dksX0_sheet_0 4 rfl rfl)
theorem dX0_sheet_7 : decode cX0_sheet 7 = .ok (.iload_n 2, 1) := dk_28 (dk_at dksX0_sheet_0 7 rfl rfl)
theorem dX0_sheet_8 : decode cX0_sheet 8 = .ok (.i2l, 1) := dk_133 (dk_at dksX0_sheet_0 8 rfl rfl)
theorem dX0_sheet_9 : decode cX0_sheet 9 = .ok (.lconst 0, 1) := dk_9 (dk_at dksX0_sheet_0 9 rfl rfl)
theorem dX0_sheet_10 : decode cX0_sheet 10 = .ok (.ldc2_w 172, 3) := dk_20 0 172 (dk_at dksX0_sheet_0 10 rfl rfl)
theorem dX0_sheet_13 : decode cX0_sheet 13 = .ok (.invokestatic 94, 3) := dk_184 0 94 (dk_at dksX0_sheet_0 13 rfl rfl)
theorem dX0_sheet_16 : decode cX0_sheet 16 = .ok (.ifCond .eq 9, 3) := dk_153 0 9 (dk_at dksX0_sheet_0 16 rfl rfl)
theorem dX0_sheet_19 : decode cX0_sheet 19 = .ok (.iload_n 3, 1) := dk_29 (dk_at dksX0_sheet_0 19 rfl rfl)
theorem dX0_sheet_20 : decode cX0_sheet 20 = .ok (.bipush 60, 2) := dk_16 60 (dk_at dksX0_sheet_0 20 rfl rfl)
theorem dX0_sheet_22 : decode cX0_sheet 22 = .ok (.if_icmp .le 6, 3) := dk_164 0 6 (dk_at dksX0_sheet_1 0 rfl rfl)
theorem dX0_sheet_25 : decode cX0_sheet 25 = .ok (.bipush (-2), 2) := dk_16 254 (dk_at dksX0_sheet_1 3 rfl rfl)
theorem dX0_sheet_27 : decode cX0_sheet 27 = .ok (.ireturn, 1) := dk_172 (dk_at dksX0_sheet_1 5 rfl rfl)
theorem dX0_sheet_28 : decode cX0_sheet 28 = .ok (.aload_n 0, 1) := dk_42 (dk_at dksX0_sheet_1 6 rfl rfl)
theorem dX0_sheet_29 : decode cX0_sheet 29 = .ok (.getfield 84, 3) := dk_180 0 84 (dk_at dksX0_sheet_1 7 rfl rfl)
theorem dX0_sheet_32 : decode cX0_sheet 32 = .ok (.iload_n 1, 1) := dk_27 (dk_at dksX0_sheet_1 10 rfl rfl)
theorem dX0_sheet_33 : decode cX0_sheet 33 = .ok (.aaload, 1) := dk_50 (dk_at dksX0_sheet_1 11 rfl rfl)
theorem dX0_sheet_34 : decode cX0_sheet 34 = .ok (.iload_n 2, 1) := dk_28 (dk_at dksX0_sheet_1 12 rfl rfl)
theorem dX0_sheet_35 : decode cX0_sheet 35 = .ok (.iload_n 3, 1) := dk_29 (dk_at dksX0_sheet_1 13 rfl rfl)
theorem dX0_sheet_36 : decode cX0_sheet 36 = .ok (.invokestatic 386, 3) := dk_184 1 130 (dk_at dksX0_sheet_1 14 rfl rfl)
theorem dX0_sheet_39 : decode cX0_sheet 39 = .ok (.putfield 184, 3) := dk_181 0 184 (dk_at dksX0_sheet_1 17 rfl rfl)
theorem dX0_sheet_42 : decode cX0_sheet 42 = .ok (.iload_n 3, 1) := dk_29 (dk_at dksX0_sheet_1 20 rfl rfl)
theorem dX0_sheet_43 : decode cX0_sheet 43 = .ok (.ireturn, 1) := dk_172 (dk_at dksX0_sheet_1 21 rfl rfl)
theorem dX0_sheet_44 : decode cX0_sheet 44 = .ok (.astore 4, 2) := dk_58 4 (dk_at dksX0_sheet_1 22 rfl rfl)
theorem dX0_sheet_46 : decode cX0_sheet 46 = .ok (.aload_n 0, 1) := dk_42 (dk_at dksX0_sheet_2 0 rfl rfl)
theorem dX0_sheet_47 : decode cX0_sheet 47 = .ok (.iconst 5, 1) := dk_8 (dk_at dksX0_sheet_2 1 rfl rfl)
theorem dX0_sheet_48 : decode cX0_sheet 48 = .ok (.invokevirtual 188, 3) := dk_182 0 188 (dk_at dksX0_sheet_2 2 rfl rfl)
theorem dX0_sheet_51 : decode cX0_sheet 51 = .ok (.ireturn, 1) := dk_172 (dk_at dksX0_sheet_2 5 rfl rfl)
abbrev cX0_rowOf : ByteArray := prog_1_method_75_code
def yX0_rowOf : MethodName := ⟨RX0, "rowOf", "(II)Ljava/lang/Object;"⟩
def dkwX0_rowOf_2 : List UInt8 := [27, 188, 8, 176, 27, 188, 9, 176, 27, 188, 10, 176]
abbrev dktX0_rowOf_2 : List UInt8 := dkwX0_rowOf_2 ++ []
def dkwX0_rowOf_1 : List UInt8 := [171, 0, 0, 0, 0, 0, 35, 0, 0, 0, 2, 0, 0, 0, 0, 0, 0, 0, 27, 0, 0, 0, 1, 0, 0, 0, 31]
abbrev dktX0_rowOf_1 : List UInt8 := dkwX0_rowOf_1 ++ dktX0_rowOf_2
def dkwX0_rowOf_0 : List UInt8 := [26]
abbrev dktX0_rowOf_0 : List UInt8 := dkwX0_rowOf_0 ++ dktX0_rowOf_1
theorem dksX0_rowOf_0 : cX0_rowOf.data.toList.drop 0 = dktX0_rowOf_0 := by decide +kernel
theorem dksX0_rowOf_1 : cX0_rowOf.data.toList.drop 1 = dktX0_rowOf_1 := dk_seg dksX0_rowOf_0 1 rfl rfl
theorem dksX0_rowOf_2 : cX0_rowOf.data.toList.drop 28 = dktX0_rowOf_2 := dk_seg dksX0_rowOf_1 27 rfl rfl
theorem dX0_rowOf_0 : decode cX0_rowOf 0 = .ok (.iload_n 0, 1) := dk_26 (dk_at dksX0_rowOf_0 0 rfl rfl)
theorem dX0_rowOf_1 : decode cX0_rowOf 1 = .ok (.lookupswitch 35 #[(0, 27), (1, 31)], 27) := by decide +kernel
theorem dX0_rowOf_28 : decode cX0_rowOf 28 = .ok (.iload_n 1, 1) := dk_27 (dk_at dksX0_rowOf_2 0 rfl rfl)
theorem dX0_rowOf_29 : decode cX0_rowOf 29 = .ok (.newarray .byte, 2) := dk_188_8 (dk_at dksX0_rowOf_2 1 rfl rfl)
theorem dX0_rowOf_31 : decode cX0_rowOf 31 = .ok (.areturn, 1) := dk_176 (dk_at dksX0_rowOf_2 3 rfl rfl)
theorem dX0_rowOf_32 : decode cX0_rowOf 32 = .ok (.iload_n 1, 1) := dk_27 (dk_at dksX0_rowOf_2 4 rfl rfl)
theorem dX0_rowOf_33 : decode cX0_rowOf 33 = .ok (.newarray .short, 2) := dk_188_9 (dk_at dksX0_rowOf_2 5 rfl rfl)
theorem dX0_rowOf_35 : decode cX0_rowOf 35 = .ok (.areturn, 1) := dk_176 (dk_at dksX0_rowOf_2 7 rfl rfl)
theorem dX0_rowOf_36 : decode cX0_rowOf 36 = .ok (.iload_n 1, 1) := dk_27 (dk_at dksX0_rowOf_2 8 rfl rfl)
theorem dX0_rowOf_37 : decode cX0_rowOf 37 = .ok (.newarray .int, 2) := dk_188_10 (dk_at dksX0_rowOf_2 9 rfl rfl)
theorem dX0_rowOf_39 : decode cX0_rowOf 39 = .ok (.areturn, 1) := dk_176 (dk_at dksX0_rowOf_2 11 rfl rfl)
abbrev cX0_lose : ByteArray := prog_1_method_77_code
def yX0_lose : MethodName := ⟨RX0, "lose", "(I)I"⟩
def dkwX0_lose_2 : List UInt8 := [28, 172]
abbrev dktX0_lose_2 : List UInt8 := dkwX0_lose_2 ++ []
def dkwX0_lose_1 : List UInt8 := [182, 0, 188, 172, 42, 180, 0, 84, 27, 50, 182, 0, 191, 61, 42, 180, 0, 84, 27, 50, 1, 181, 0, 184]
abbrev dktX0_lose_1 : List UInt8 := dkwX0_lose_1 ++ dktX0_lose_2
def dkwX0_lose_0 : List UInt8 := [27, 184, 0, 181, 154, 0, 6, 16, 254, 172, 42, 180, 0, 84, 27, 50, 180, 0, 184, 199, 0, 9, 42, 4]
abbrev dktX0_lose_0 : List UInt8 := dkwX0_lose_0 ++ dktX0_lose_1
theorem dksX0_lose_0 : cX0_lose.data.toList.drop 0 = dktX0_lose_0 := by decide +kernel
theorem dksX0_lose_1 : cX0_lose.data.toList.drop 24 = dktX0_lose_1 := dk_seg dksX0_lose_0 24 rfl rfl
theorem dksX0_lose_2 : cX0_lose.data.toList.drop 48 = dktX0_lose_2 := dk_seg dksX0_lose_1 24 rfl rfl
theorem dX0_lose_0 : decode cX0_lose 0 = .ok (.iload_n 1, 1) := dk_27 (dk_at dksX0_lose_0 0 rfl rfl)
theorem dX0_lose_1 : decode cX0_lose 1 = .ok (.invokestatic 181, 3) := dk_184 0 181 (dk_at dksX0_lose_0 1 rfl rfl)
theorem dX0_lose_4 : decode cX0_lose 4 = .ok (.ifCond .ne 6, 3) := dk_154 0 6 (dk_at dksX0_lose_0 4 rfl rfl)
theorem dX0_lose_7 : decode cX0_lose 7 = .ok (.bipush (-2), 2) := dk_16 254 (dk_at dksX0_lose_0 7 rfl rfl)
theorem dX0_lose_9 : decode cX0_lose 9 = .ok (.ireturn, 1) := dk_172 (dk_at dksX0_lose_0 9 rfl rfl)
theorem dX0_lose_10 : decode cX0_lose 10 = .ok (.aload_n 0, 1) := dk_42 (dk_at dksX0_lose_0 10 rfl rfl)
theorem dX0_lose_11 : decode cX0_lose 11 = .ok (.getfield 84, 3) := dk_180 0 84 (dk_at dksX0_lose_0 11 rfl rfl)
theorem dX0_lose_14 : decode cX0_lose 14 = .ok (.iload_n 1, 1) := dk_27 (dk_at dksX0_lose_0 14 rfl rfl)
theorem dX0_lose_15 : decode cX0_lose 15 = .ok (.aaload, 1) := dk_50 (dk_at dksX0_lose_0 15 rfl rfl)
theorem dX0_lose_16 : decode cX0_lose 16 = .ok (.getfield 184, 3) := dk_180 0 184 (dk_at dksX0_lose_0 16 rfl rfl)
theorem dX0_lose_19 : decode cX0_lose 19 = .ok (.ifnonnull 9, 3) := dk_199 0 9 (dk_at dksX0_lose_0 19 rfl rfl)
theorem dX0_lose_22 : decode cX0_lose 22 = .ok (.aload_n 0, 1) := dk_42 (dk_at dksX0_lose_0 22 rfl rfl)
theorem dX0_lose_23 : decode cX0_lose 23 = .ok (.iconst 1, 1) := dk_4 (dk_at dksX0_lose_0 23 rfl rfl)
theorem dX0_lose_24 : decode cX0_lose 24 = .ok (.invokevirtual 188, 3) := dk_182 0 188 (dk_at dksX0_lose_1 0 rfl rfl)
theorem dX0_lose_27 : decode cX0_lose 27 = .ok (.ireturn, 1) := dk_172 (dk_at dksX0_lose_1 3 rfl rfl)
theorem dX0_lose_28 : decode cX0_lose 28 = .ok (.aload_n 0, 1) := dk_42 (dk_at dksX0_lose_1 4 rfl rfl)
theorem dX0_lose_29 : decode cX0_lose 29 = .ok (.getfield 84, 3) := dk_180 0 84 (dk_at dksX0_lose_1 5 rfl rfl)
theorem dX0_lose_32 : decode cX0_lose 32 = .ok (.iload_n 1, 1) := dk_27 (dk_at dksX0_lose_1 8 rfl rfl)
theorem dX0_lose_33 : decode cX0_lose 33 = .ok (.aaload, 1) := dk_50 (dk_at dksX0_lose_1 9 rfl rfl)
theorem dX0_lose_34 : decode cX0_lose 34 = .ok (.invokevirtual 191, 3) := dk_182 0 191 (dk_at dksX0_lose_1 10 rfl rfl)
theorem dX0_lose_37 : decode cX0_lose 37 = .ok (.istore_n 2, 1) := dk_61 (dk_at dksX0_lose_1 13 rfl rfl)
theorem dX0_lose_38 : decode cX0_lose 38 = .ok (.aload_n 0, 1) := dk_42 (dk_at dksX0_lose_1 14 rfl rfl)
theorem dX0_lose_39 : decode cX0_lose 39 = .ok (.getfield 84, 3) := dk_180 0 84 (dk_at dksX0_lose_1 15 rfl rfl)
theorem dX0_lose_42 : decode cX0_lose 42 = .ok (.iload_n 1, 1) := dk_27 (dk_at dksX0_lose_1 18 rfl rfl)
theorem dX0_lose_43 : decode cX0_lose 43 = .ok (.aaload, 1) := dk_50 (dk_at dksX0_lose_1 19 rfl rfl)
theorem dX0_lose_44 : decode cX0_lose 44 = .ok (.aconst_null, 1) := dk_1 (dk_at dksX0_lose_1 20 rfl rfl)
theorem dX0_lose_45 : decode cX0_lose 45 = .ok (.putfield 184, 3) := dk_181 0 184 (dk_at dksX0_lose_1 21 rfl rfl)
theorem dX0_lose_48 : decode cX0_lose 48 = .ok (.iload_n 2, 1) := dk_28 (dk_at dksX0_lose_2 0 rfl rfl)
theorem dX0_lose_49 : decode cX0_lose 49 = .ok (.ireturn, 1) := dk_172 (dk_at dksX0_lose_2 1 rfl rfl)
abbrev cX0_put : ByteArray := prog_1_method_78_code
def yX0_put : MethodName := ⟨RX0, "put", "(IIII)I"⟩
def dkwX0_put_2 : List UInt8 := [29, 21, 4, 182, 1, 136, 4, 172, 58, 5, 42, 6, 182, 0, 188, 172, 58, 5, 42, 5, 182, 0, 188, 172]
abbrev dktX0_put_2 : List UInt8 := dkwX0_put_2 ++ []
def dkwX0_put_1 : List UInt8 := [180, 0, 84, 27, 50, 180, 0, 184, 199, 0, 9, 42, 4, 182, 0, 188, 172, 42, 180, 0, 84, 27, 50, 28]
abbrev dktX0_put_1 : List UInt8 := dkwX0_put_1 ++ dktX0_put_2
def dkwX0_put_0 : List UInt8 := [27, 184, 0, 181, 153, 0, 15, 28, 133, 9, 20, 0, 172, 184, 0, 94, 154, 0, 6, 16, 254, 172, 42]
abbrev dktX0_put_0 : List UInt8 := dkwX0_put_0 ++ dktX0_put_1
theorem dksX0_put_0 : cX0_put.data.toList.drop 0 = dktX0_put_0 := by decide +kernel
theorem dksX0_put_1 : cX0_put.data.toList.drop 23 = dktX0_put_1 := dk_seg dksX0_put_0 23 rfl rfl
theorem dksX0_put_2 : cX0_put.data.toList.drop 47 = dktX0_put_2 := dk_seg dksX0_put_1 24 rfl rfl
theorem dX0_put_0 : decode cX0_put 0 = .ok (.iload_n 1, 1) := dk_27 (dk_at dksX0_put_0 0 rfl rfl)
theorem dX0_put_1 : decode cX0_put 1 = .ok (.invokestatic 181, 3) := dk_184 0 181 (dk_at dksX0_put_0 1 rfl rfl)
theorem dX0_put_4 : decode cX0_put 4 = .ok (.ifCond .eq 15, 3) := dk_153 0 15 (dk_at dksX0_put_0 4 rfl rfl)
theorem dX0_put_7 : decode cX0_put 7 = .ok (.iload_n 2, 1) := dk_28 (dk_at dksX0_put_0 7 rfl rfl)
theorem dX0_put_8 : decode cX0_put 8 = .ok (.i2l, 1) := dk_133 (dk_at dksX0_put_0 8 rfl rfl)
theorem dX0_put_9 : decode cX0_put 9 = .ok (.lconst 0, 1) := dk_9 (dk_at dksX0_put_0 9 rfl rfl)
theorem dX0_put_10 : decode cX0_put 10 = .ok (.ldc2_w 172, 3) := dk_20 0 172 (dk_at dksX0_put_0 10 rfl rfl)
theorem dX0_put_13 : decode cX0_put 13 = .ok (.invokestatic 94, 3) := dk_184 0 94 (dk_at dksX0_put_0 13 rfl rfl)
theorem dX0_put_16 : decode cX0_put 16 = .ok (.ifCond .ne 6, 3) := dk_154 0 6 (dk_at dksX0_put_0 16 rfl rfl)
theorem dX0_put_19 : decode cX0_put 19 = .ok (.bipush (-2), 2) := dk_16 254 (dk_at dksX0_put_0 19 rfl rfl)
theorem dX0_put_21 : decode cX0_put 21 = .ok (.ireturn, 1) := dk_172 (dk_at dksX0_put_0 21 rfl rfl)
theorem dX0_put_22 : decode cX0_put 22 = .ok (.aload_n 0, 1) := dk_42 (dk_at dksX0_put_0 22 rfl rfl)
theorem dX0_put_23 : decode cX0_put 23 = .ok (.getfield 84, 3) := dk_180 0 84 (dk_at dksX0_put_1 0 rfl rfl)
theorem dX0_put_26 : decode cX0_put 26 = .ok (.iload_n 1, 1) := dk_27 (dk_at dksX0_put_1 3 rfl rfl)
theorem dX0_put_27 : decode cX0_put 27 = .ok (.aaload, 1) := dk_50 (dk_at dksX0_put_1 4 rfl rfl)
theorem dX0_put_28 : decode cX0_put 28 = .ok (.getfield 184, 3) := dk_180 0 184 (dk_at dksX0_put_1 5 rfl rfl)
theorem dX0_put_31 : decode cX0_put 31 = .ok (.ifnonnull 9, 3) := dk_199 0 9 (dk_at dksX0_put_1 8 rfl rfl)
theorem dX0_put_34 : decode cX0_put 34 = .ok (.aload_n 0, 1) := dk_42 (dk_at dksX0_put_1 11 rfl rfl)
theorem dX0_put_35 : decode cX0_put 35 = .ok (.iconst 1, 1) := dk_4 (dk_at dksX0_put_1 12 rfl rfl)
theorem dX0_put_36 : decode cX0_put 36 = .ok (.invokevirtual 188, 3) := dk_182 0 188 (dk_at dksX0_put_1 13 rfl rfl)
theorem dX0_put_39 : decode cX0_put 39 = .ok (.ireturn, 1) := dk_172 (dk_at dksX0_put_1 16 rfl rfl)
theorem dX0_put_40 : decode cX0_put 40 = .ok (.aload_n 0, 1) := dk_42 (dk_at dksX0_put_1 17 rfl rfl)
theorem dX0_put_41 : decode cX0_put 41 = .ok (.getfield 84, 3) := dk_180 0 84 (dk_at dksX0_put_1 18 rfl rfl)
theorem dX0_put_44 : decode cX0_put 44 = .ok (.iload_n 1, 1) := dk_27 (dk_at dksX0_put_1 21 rfl rfl)
theorem dX0_put_45 : decode cX0_put 45 = .ok (.aaload, 1) := dk_50 (dk_at dksX0_put_1 22 rfl rfl)
theorem dX0_put_46 : decode cX0_put 46 = .ok (.iload_n 2, 1) := dk_28 (dk_at dksX0_put_1 23 rfl rfl)
theorem dX0_put_47 : decode cX0_put 47 = .ok (.iload_n 3, 1) := dk_29 (dk_at dksX0_put_2 0 rfl rfl)
theorem dX0_put_48 : decode cX0_put 48 = .ok (.iload 4, 2) := dk_21 4 (dk_at dksX0_put_2 1 rfl rfl)
theorem dX0_put_50 : decode cX0_put 50 = .ok (.invokevirtual 392, 3) := dk_182 1 136 (dk_at dksX0_put_2 3 rfl rfl)
theorem dX0_put_53 : decode cX0_put 53 = .ok (.iconst 1, 1) := dk_4 (dk_at dksX0_put_2 6 rfl rfl)
theorem dX0_put_54 : decode cX0_put 54 = .ok (.ireturn, 1) := dk_172 (dk_at dksX0_put_2 7 rfl rfl)
theorem dX0_put_55 : decode cX0_put 55 = .ok (.astore 5, 2) := dk_58 5 (dk_at dksX0_put_2 8 rfl rfl)
theorem dX0_put_57 : decode cX0_put 57 = .ok (.aload_n 0, 1) := dk_42 (dk_at dksX0_put_2 10 rfl rfl)
theorem dX0_put_58 : decode cX0_put 58 = .ok (.iconst 3, 1) := dk_6 (dk_at dksX0_put_2 11 rfl rfl)
theorem dX0_put_59 : decode cX0_put 59 = .ok (.invokevirtual 188, 3) := dk_182 0 188 (dk_at dksX0_put_2 12 rfl rfl)
theorem dX0_put_62 : decode cX0_put 62 = .ok (.ireturn, 1) := dk_172 (dk_at dksX0_put_2 15 rfl rfl)
theorem dX0_put_63 : decode cX0_put 63 = .ok (.astore 5, 2) := dk_58 5 (dk_at dksX0_put_2 16 rfl rfl)
theorem dX0_put_65 : decode cX0_put 65 = .ok (.aload_n 0, 1) := dk_42 (dk_at dksX0_put_2 18 rfl rfl)
theorem dX0_put_66 : decode cX0_put 66 = .ok (.iconst 2, 1) := dk_5 (dk_at dksX0_put_2 19 rfl rfl)
theorem dX0_put_67 : decode cX0_put 67 = .ok (.invokevirtual 188, 3) := dk_182 0 188 (dk_at dksX0_put_2 20 rfl rfl)
theorem dX0_put_70 : decode cX0_put 70 = .ok (.ireturn, 1) := dk_172 (dk_at dksX0_put_2 23 rfl rfl)
abbrev cX0_get : ByteArray := prog_1_method_79_code
def yX0_get : MethodName := ⟨RX0, "get", "(III)I"⟩
def dkwX0_get_2 : List UInt8 := [29, 182, 0, 194, 172, 58, 4, 42, 6, 182, 1, 144, 172, 58, 4, 42, 5, 182, 1, 144, 172]
abbrev dktX0_get_2 : List UInt8 := dkwX0_get_2 ++ []
def dkwX0_get_1 : List UInt8 := [180, 0, 84, 27, 50, 180, 0, 184, 199, 0, 9, 42, 4, 182, 1, 144, 172, 42, 180, 0, 84, 27, 50, 28]
abbrev dktX0_get_1 : List UInt8 := dkwX0_get_1 ++ dktX0_get_2
def dkwX0_get_0 : List UInt8 := [27, 184, 0, 181, 153, 0, 15, 28, 133, 9, 20, 0, 172, 184, 0, 94, 154, 0, 6, 18, 93, 172, 42]
abbrev dktX0_get_0 : List UInt8 := dkwX0_get_0 ++ dktX0_get_1
theorem dksX0_get_0 : cX0_get.data.toList.drop 0 = dktX0_get_0 := by decide +kernel
theorem dksX0_get_1 : cX0_get.data.toList.drop 23 = dktX0_get_1 := dk_seg dksX0_get_0 23 rfl rfl
theorem dksX0_get_2 : cX0_get.data.toList.drop 47 = dktX0_get_2 := dk_seg dksX0_get_1 24 rfl rfl
theorem dX0_get_0 : decode cX0_get 0 = .ok (.iload_n 1, 1) := dk_27 (dk_at dksX0_get_0 0 rfl rfl)
theorem dX0_get_1 : decode cX0_get 1 = .ok (.invokestatic 181, 3) := dk_184 0 181 (dk_at dksX0_get_0 1 rfl rfl)
theorem dX0_get_4 : decode cX0_get 4 = .ok (.ifCond .eq 15, 3) := dk_153 0 15 (dk_at dksX0_get_0 4 rfl rfl)
theorem dX0_get_7 : decode cX0_get 7 = .ok (.iload_n 2, 1) := dk_28 (dk_at dksX0_get_0 7 rfl rfl)
theorem dX0_get_8 : decode cX0_get 8 = .ok (.i2l, 1) := dk_133 (dk_at dksX0_get_0 8 rfl rfl)
theorem dX0_get_9 : decode cX0_get 9 = .ok (.lconst 0, 1) := dk_9 (dk_at dksX0_get_0 9 rfl rfl)
theorem dX0_get_10 : decode cX0_get 10 = .ok (.ldc2_w 172, 3) := dk_20 0 172 (dk_at dksX0_get_0 10 rfl rfl)
theorem dX0_get_13 : decode cX0_get 13 = .ok (.invokestatic 94, 3) := dk_184 0 94 (dk_at dksX0_get_0 13 rfl rfl)
theorem dX0_get_16 : decode cX0_get 16 = .ok (.ifCond .ne 6, 3) := dk_154 0 6 (dk_at dksX0_get_0 16 rfl rfl)
theorem dX0_get_19 : decode cX0_get 19 = .ok (.ldc 93, 2) := dk_18 93 (dk_at dksX0_get_0 19 rfl rfl)
theorem dX0_get_21 : decode cX0_get 21 = .ok (.ireturn, 1) := dk_172 (dk_at dksX0_get_0 21 rfl rfl)
theorem dX0_get_22 : decode cX0_get 22 = .ok (.aload_n 0, 1) := dk_42 (dk_at dksX0_get_0 22 rfl rfl)
theorem dX0_get_23 : decode cX0_get 23 = .ok (.getfield 84, 3) := dk_180 0 84 (dk_at dksX0_get_1 0 rfl rfl)
theorem dX0_get_26 : decode cX0_get 26 = .ok (.iload_n 1, 1) := dk_27 (dk_at dksX0_get_1 3 rfl rfl)
theorem dX0_get_27 : decode cX0_get 27 = .ok (.aaload, 1) := dk_50 (dk_at dksX0_get_1 4 rfl rfl)
theorem dX0_get_28 : decode cX0_get 28 = .ok (.getfield 184, 3) := dk_180 0 184 (dk_at dksX0_get_1 5 rfl rfl)
theorem dX0_get_31 : decode cX0_get 31 = .ok (.ifnonnull 9, 3) := dk_199 0 9 (dk_at dksX0_get_1 8 rfl rfl)
theorem dX0_get_34 : decode cX0_get 34 = .ok (.aload_n 0, 1) := dk_42 (dk_at dksX0_get_1 11 rfl rfl)
theorem dX0_get_35 : decode cX0_get 35 = .ok (.iconst 1, 1) := dk_4 (dk_at dksX0_get_1 12 rfl rfl)
theorem dX0_get_36 : decode cX0_get 36 = .ok (.invokevirtual 400, 3) := dk_182 1 144 (dk_at dksX0_get_1 13 rfl rfl)
theorem dX0_get_39 : decode cX0_get 39 = .ok (.ireturn, 1) := dk_172 (dk_at dksX0_get_1 16 rfl rfl)
theorem dX0_get_40 : decode cX0_get 40 = .ok (.aload_n 0, 1) := dk_42 (dk_at dksX0_get_1 17 rfl rfl)
theorem dX0_get_41 : decode cX0_get 41 = .ok (.getfield 84, 3) := dk_180 0 84 (dk_at dksX0_get_1 18 rfl rfl)
theorem dX0_get_44 : decode cX0_get 44 = .ok (.iload_n 1, 1) := dk_27 (dk_at dksX0_get_1 21 rfl rfl)
theorem dX0_get_45 : decode cX0_get 45 = .ok (.aaload, 1) := dk_50 (dk_at dksX0_get_1 22 rfl rfl)
theorem dX0_get_46 : decode cX0_get 46 = .ok (.iload_n 2, 1) := dk_28 (dk_at dksX0_get_1 23 rfl rfl)
theorem dX0_get_47 : decode cX0_get 47 = .ok (.iload_n 3, 1) := dk_29 (dk_at dksX0_get_2 0 rfl rfl)
theorem dX0_get_48 : decode cX0_get 48 = .ok (.invokevirtual 194, 3) := dk_182 0 194 (dk_at dksX0_get_2 1 rfl rfl)
theorem dX0_get_51 : decode cX0_get 51 = .ok (.ireturn, 1) := dk_172 (dk_at dksX0_get_2 4 rfl rfl)
theorem dX0_get_52 : decode cX0_get 52 = .ok (.astore 4, 2) := dk_58 4 (dk_at dksX0_get_2 5 rfl rfl)
theorem dX0_get_54 : decode cX0_get 54 = .ok (.aload_n 0, 1) := dk_42 (dk_at dksX0_get_2 7 rfl rfl)
theorem dX0_get_55 : decode cX0_get 55 = .ok (.iconst 3, 1) := dk_6 (dk_at dksX0_get_2 8 rfl rfl)
theorem dX0_get_56 : decode cX0_get 56 = .ok (.invokevirtual 400, 3) := dk_182 1 144 (dk_at dksX0_get_2 9 rfl rfl)
theorem dX0_get_59 : decode cX0_get 59 = .ok (.ireturn, 1) := dk_172 (dk_at dksX0_get_2 12 rfl rfl)
theorem dX0_get_60 : decode cX0_get 60 = .ok (.astore 4, 2) := dk_58 4 (dk_at dksX0_get_2 13 rfl rfl)
theorem dX0_get_62 : decode cX0_get 62 = .ok (.aload_n 0, 1) := dk_42 (dk_at dksX0_get_2 15 rfl rfl)
theorem dX0_get_63 : decode cX0_get 63 = .ok (.iconst 2, 1) := dk_5 (dk_at dksX0_get_2 16 rfl rfl)
theorem dX0_get_64 : decode cX0_get 64 = .ok (.invokevirtual 400, 3) := dk_182 1 144 (dk_at dksX0_get_2 17 rfl rfl)
theorem dX0_get_67 : decode cX0_get 67 = .ok (.ireturn, 1) := dk_172 (dk_at dksX0_get_2 20 rfl rfl)
abbrev cX0_lowest : ByteArray := prog_1_method_5_code
def yX0_lowest : MethodName := ⟨RX0, "lowest", "(I)I"⟩
def dkwX0_lowest_0 : List UInt8 := [42, 27, 181, 0, 90, 18, 93, 172]
abbrev dktX0_lowest_0 : List UInt8 := dkwX0_lowest_0 ++ []
theorem dksX0_lowest_0 : cX0_lowest.data.toList.drop 0 = dktX0_lowest_0 := by decide +kernel
theorem dX0_lowest_0 : decode cX0_lowest 0 = .ok (.aload_n 0, 1) := dk_42 (dk_at dksX0_lowest_0 0 rfl rfl)
theorem dX0_lowest_1 : decode cX0_lowest 1 = .ok (.iload_n 1, 1) := dk_27 (dk_at dksX0_lowest_0 1 rfl rfl)
theorem dX0_lowest_2 : decode cX0_lowest 2 = .ok (.putfield 90, 3) := dk_181 0 90 (dk_at dksX0_lowest_0 2 rfl rfl)
theorem dX0_lowest_5 : decode cX0_lowest 5 = .ok (.ldc 93, 2) := dk_18 93 (dk_at dksX0_lowest_0 5 rfl rfl)
theorem dX0_lowest_7 : decode cX0_lowest 7 = .ok (.ireturn, 1) := dk_172 (dk_at dksX0_lowest_0 7 rfl rfl)
abbrev cX0_copy : ByteArray := prog_1_method_80_code
def yX0_copy : MethodName := ⟨RX0, "copy", "(IIIII)I"⟩
def dkwX0_copy_4 : List UInt8 := [21, 4, 21, 5, 184, 1, 9, 4, 172, 58, 6, 42, 5, 182, 0, 188, 172]
abbrev dktX0_copy_4 : List UInt8 := dkwX0_copy_4 ++ []
def dkwX0_copy_3 : List UInt8 := [182, 0, 188, 172, 42, 180, 0, 84, 27, 50, 180, 0, 184, 28, 42, 180, 0, 84, 29, 50, 180, 0, 184]
abbrev dktX0_copy_3 : List UInt8 := dkwX0_copy_3 ++ dktX0_copy_4
def dkwX0_copy_2 : List UInt8 := [42, 180, 0, 84, 27, 50, 182, 0, 192, 42, 180, 0, 84, 29, 50, 182, 0, 192, 159, 0, 9, 42, 7]
abbrev dktX0_copy_2 : List UInt8 := dkwX0_copy_2 ++ dktX0_copy_3
def dkwX0_copy_1 : List UInt8 := [180, 0, 184, 198, 0, 15, 42, 180, 0, 84, 29, 50, 180, 0, 184, 199, 0, 9, 42, 4, 182, 0, 188, 172]
abbrev dktX0_copy_1 : List UInt8 := dkwX0_copy_1 ++ dktX0_copy_2
def dkwX0_copy_0 : List UInt8 := [27, 184, 0, 181, 153, 0, 10, 29, 184, 0, 181, 154, 0, 6, 16, 254, 172, 42, 180, 0, 84, 27, 50]
abbrev dktX0_copy_0 : List UInt8 := dkwX0_copy_0 ++ dktX0_copy_1
theorem dksX0_copy_0 : cX0_copy.data.toList.drop 0 = dktX0_copy_0 := by decide +kernel
theorem dksX0_copy_1 : cX0_copy.data.toList.drop 23 = dktX0_copy_1 := dk_seg dksX0_copy_0 23 rfl rfl
theorem dksX0_copy_2 : cX0_copy.data.toList.drop 47 = dktX0_copy_2 := dk_seg dksX0_copy_1 24 rfl rfl
theorem dksX0_copy_3 : cX0_copy.data.toList.drop 70 = dktX0_copy_3 := dk_seg dksX0_copy_2 23 rfl rfl
theorem dksX0_copy_4 : cX0_copy.data.toList.drop 93 = dktX0_copy_4 := dk_seg dksX0_copy_3 23 rfl rfl
theorem dX0_copy_0 : decode cX0_copy 0 = .ok (.iload_n 1, 1) := dk_27 (dk_at dksX0_copy_0 0 rfl rfl)
theorem dX0_copy_1 : decode cX0_copy 1 = .ok (.invokestatic 181, 3) := dk_184 0 181 (dk_at dksX0_copy_0 1 rfl rfl)
theorem dX0_copy_4 : decode cX0_copy 4 = .ok (.ifCond .eq 10, 3) := dk_153 0 10 (dk_at dksX0_copy_0 4 rfl rfl)
theorem dX0_copy_7 : decode cX0_copy 7 = .ok (.iload_n 3, 1) := dk_29 (dk_at dksX0_copy_0 7 rfl rfl)
theorem dX0_copy_8 : decode cX0_copy 8 = .ok (.invokestatic 181, 3) := dk_184 0 181 (dk_at dksX0_copy_0 8 rfl rfl)
theorem dX0_copy_11 : decode cX0_copy 11 = .ok (.ifCond .ne 6, 3) := dk_154 0 6 (dk_at dksX0_copy_0 11 rfl rfl)
theorem dX0_copy_14 : decode cX0_copy 14 = .ok (.bipush (-2), 2) := dk_16 254 (dk_at dksX0_copy_0 14 rfl rfl)
theorem dX0_copy_16 : decode cX0_copy 16 = .ok (.ireturn, 1) := dk_172 (dk_at dksX0_copy_0 16 rfl rfl)
theorem dX0_copy_17 : decode cX0_copy 17 = .ok (.aload_n 0, 1) := dk_42 (dk_at dksX0_copy_0 17 rfl rfl)
theorem dX0_copy_18 : decode cX0_copy 18 = .ok (.getfield 84, 3) := dk_180 0 84 (dk_at dksX0_copy_0 18 rfl rfl)
theorem dX0_copy_21 : decode cX0_copy 21 = .ok (.iload_n 1, 1) := dk_27 (dk_at dksX0_copy_0 21 rfl rfl)
theorem dX0_copy_22 : decode cX0_copy 22 = .ok (.aaload, 1) := dk_50 (dk_at dksX0_copy_0 22 rfl rfl)
theorem dX0_copy_23 : decode cX0_copy 23 = .ok (.getfield 184, 3) := dk_180 0 184 (dk_at dksX0_copy_1 0 rfl rfl)
theorem dX0_copy_26 : decode cX0_copy 26 = .ok (.ifnull 15, 3) := dk_198 0 15 (dk_at dksX0_copy_1 3 rfl rfl)
theorem dX0_copy_29 : decode cX0_copy 29 = .ok (.aload_n 0, 1) := dk_42 (dk_at dksX0_copy_1 6 rfl rfl)
theorem dX0_copy_30 : decode cX0_copy 30 = .ok (.getfield 84, 3) := dk_180 0 84 (dk_at dksX0_copy_1 7 rfl rfl)
theorem dX0_copy_33 : decode cX0_copy 33 = .ok (.iload_n 3, 1) := dk_29 (dk_at dksX0_copy_1 10 rfl rfl)
theorem dX0_copy_34 : decode cX0_copy 34 = .ok (.aaload, 1) := dk_50 (dk_at dksX0_copy_1 11 rfl rfl)
theorem dX0_copy_35 : decode cX0_copy 35 = .ok (.getfield 184, 3) := dk_180 0 184 (dk_at dksX0_copy_1 12 rfl rfl)
theorem dX0_copy_38 : decode cX0_copy 38 = .ok (.ifnonnull 9, 3) := dk_199 0 9 (dk_at dksX0_copy_1 15 rfl rfl)
theorem dX0_copy_41 : decode cX0_copy 41 = .ok (.aload_n 0, 1) := dk_42 (dk_at dksX0_copy_1 18 rfl rfl)
theorem dX0_copy_42 : decode cX0_copy 42 = .ok (.iconst 1, 1) := dk_4 (dk_at dksX0_copy_1 19 rfl rfl)
theorem dX0_copy_43 : decode cX0_copy 43 = .ok (.invokevirtual 188, 3) := dk_182 0 188 (dk_at dksX0_copy_1 20 rfl rfl)
theorem dX0_copy_46 : decode cX0_copy 46 = .ok (.ireturn, 1) := dk_172 (dk_at dksX0_copy_1 23 rfl rfl)
theorem dX0_copy_47 : decode cX0_copy 47 = .ok (.aload_n 0, 1) := dk_42 (dk_at dksX0_copy_2 0 rfl rfl)
theorem dX0_copy_48 : decode cX0_copy 48 = .ok (.getfield 84, 3) := dk_180 0 84 (dk_at dksX0_copy_2 1 rfl rfl)
theorem dX0_copy_51 : decode cX0_copy 51 = .ok (.iload_n 1, 1) := dk_27 (dk_at dksX0_copy_2 4 rfl rfl)
theorem dX0_copy_52 : decode cX0_copy 52 = .ok (.aaload, 1) := dk_50 (dk_at dksX0_copy_2 5 rfl rfl)
theorem dX0_copy_53 : decode cX0_copy 53 = .ok (.invokevirtual 192, 3) := dk_182 0 192 (dk_at dksX0_copy_2 6 rfl rfl)
theorem dX0_copy_56 : decode cX0_copy 56 = .ok (.aload_n 0, 1) := dk_42 (dk_at dksX0_copy_2 9 rfl rfl)
theorem dX0_copy_57 : decode cX0_copy 57 = .ok (.getfield 84, 3) := dk_180 0 84 (dk_at dksX0_copy_2 10 rfl rfl)
theorem dX0_copy_60 : decode cX0_copy 60 = .ok (.iload_n 3, 1) := dk_29 (dk_at dksX0_copy_2 13 rfl rfl)
theorem dX0_copy_61 : decode cX0_copy 61 = .ok (.aaload, 1) := dk_50 (dk_at dksX0_copy_2 14 rfl rfl)
theorem dX0_copy_62 : decode cX0_copy 62 = .ok (.invokevirtual 192, 3) := dk_182 0 192 (dk_at dksX0_copy_2 15 rfl rfl)
theorem dX0_copy_65 : decode cX0_copy 65 = .ok (.if_icmp .eq 9, 3) := dk_159 0 9 (dk_at dksX0_copy_2 18 rfl rfl)
theorem dX0_copy_68 : decode cX0_copy 68 = .ok (.aload_n 0, 1) := dk_42 (dk_at dksX0_copy_2 21 rfl rfl)
theorem dX0_copy_69 : decode cX0_copy 69 = .ok (.iconst 4, 1) := dk_7 (dk_at dksX0_copy_2 22 rfl rfl)
theorem dX0_copy_70 : decode cX0_copy 70 = .ok (.invokevirtual 188, 3) := dk_182 0 188 (dk_at dksX0_copy_3 0 rfl rfl)
theorem dX0_copy_73 : decode cX0_copy 73 = .ok (.ireturn, 1) := dk_172 (dk_at dksX0_copy_3 3 rfl rfl)
theorem dX0_copy_74 : decode cX0_copy 74 = .ok (.aload_n 0, 1) := dk_42 (dk_at dksX0_copy_3 4 rfl rfl)
theorem dX0_copy_75 : decode cX0_copy 75 = .ok (.getfield 84, 3) := dk_180 0 84 (dk_at dksX0_copy_3 5 rfl rfl)
theorem dX0_copy_78 : decode cX0_copy 78 = .ok (.iload_n 1, 1) := dk_27 (dk_at dksX0_copy_3 8 rfl rfl)
theorem dX0_copy_79 : decode cX0_copy 79 = .ok (.aaload, 1) := dk_50 (dk_at dksX0_copy_3 9 rfl rfl)
theorem dX0_copy_80 : decode cX0_copy 80 = .ok (.getfield 184, 3) := dk_180 0 184 (dk_at dksX0_copy_3 10 rfl rfl)
theorem dX0_copy_83 : decode cX0_copy 83 = .ok (.iload_n 2, 1) := dk_28 (dk_at dksX0_copy_3 13 rfl rfl)
theorem dX0_copy_84 : decode cX0_copy 84 = .ok (.aload_n 0, 1) := dk_42 (dk_at dksX0_copy_3 14 rfl rfl)
theorem dX0_copy_85 : decode cX0_copy 85 = .ok (.getfield 84, 3) := dk_180 0 84 (dk_at dksX0_copy_3 15 rfl rfl)
theorem dX0_copy_88 : decode cX0_copy 88 = .ok (.iload_n 3, 1) := dk_29 (dk_at dksX0_copy_3 18 rfl rfl)
theorem dX0_copy_89 : decode cX0_copy 89 = .ok (.aaload, 1) := dk_50 (dk_at dksX0_copy_3 19 rfl rfl)
theorem dX0_copy_90 : decode cX0_copy 90 = .ok (.getfield 184, 3) := dk_180 0 184 (dk_at dksX0_copy_3 20 rfl rfl)
theorem dX0_copy_93 : decode cX0_copy 93 = .ok (.iload 4, 2) := dk_21 4 (dk_at dksX0_copy_4 0 rfl rfl)
theorem dX0_copy_95 : decode cX0_copy 95 = .ok (.iload 5, 2) := dk_21 5 (dk_at dksX0_copy_4 2 rfl rfl)
theorem dX0_copy_97 : decode cX0_copy 97 = .ok (.invokestatic 265, 3) := dk_184 1 9 (dk_at dksX0_copy_4 4 rfl rfl)
theorem dX0_copy_100 : decode cX0_copy 100 = .ok (.iconst 1, 1) := dk_4 (dk_at dksX0_copy_4 7 rfl rfl)
theorem dX0_copy_101 : decode cX0_copy 101 = .ok (.ireturn, 1) := dk_172 (dk_at dksX0_copy_4 8 rfl rfl)
theorem dX0_copy_102 : decode cX0_copy 102 = .ok (.astore 6, 2) := dk_58 6 (dk_at dksX0_copy_4 9 rfl rfl)
theorem dX0_copy_104 : decode cX0_copy 104 = .ok (.aload_n 0, 1) := dk_42 (dk_at dksX0_copy_4 11 rfl rfl)
theorem dX0_copy_105 : decode cX0_copy 105 = .ok (.iconst 2, 1) := dk_5 (dk_at dksX0_copy_4 12 rfl rfl)
theorem dX0_copy_106 : decode cX0_copy 106 = .ok (.invokevirtual 188, 3) := dk_182 0 188 (dk_at dksX0_copy_4 13 rfl rfl)
theorem dX0_copy_109 : decode cX0_copy 109 = .ok (.ireturn, 1) := dk_172 (dk_at dksX0_copy_4 16 rfl rfl)
abbrev cX0_write : ByteArray := prog_1_method_81_code
def yX0_write : MethodName := ⟨RX0, "write", "(II)I"⟩
def dkwX0_write_3 : List UInt8 := [180, 0, 52, 21, 5, 50, 27, 46, 182, 1, 136, 132, 5, 1, 167, 255, 227, 21, 4, 172]
abbrev dktX0_write_3 : List UInt8 := dkwX0_write_3 ++ []
def dkwX0_write_2 : List UInt8 := [184, 0, 206, 54, 4, 3, 54, 5, 21, 5, 21, 4, 162, 0, 28, 45, 45, 182, 0, 192, 21, 5, 42]
abbrev dktX0_write_2 : List UInt8 := dkwX0_write_2 ++ dktX0_write_3
def dkwX0_write_1 : List UInt8 := [78, 45, 180, 0, 184, 199, 0, 9, 42, 4, 182, 0, 188, 172, 42, 182, 1, 21, 16, 24, 45, 182, 0, 191]
abbrev dktX0_write_1 : List UInt8 := dkwX0_write_1 ++ dktX0_write_2
def dkwX0_write_0 : List UInt8 := [42, 27, 182, 0, 130, 153, 0, 10, 28, 184, 0, 181, 154, 0, 6, 16, 254, 172, 42, 180, 0, 84, 28, 50]
abbrev dktX0_write_0 : List UInt8 := dkwX0_write_0 ++ dktX0_write_1
theorem dksX0_write_0 : cX0_write.data.toList.drop 0 = dktX0_write_0 := by decide +kernel
theorem dksX0_write_1 : cX0_write.data.toList.drop 24 = dktX0_write_1 := dk_seg dksX0_write_0 24 rfl rfl
theorem dksX0_write_2 : cX0_write.data.toList.drop 48 = dktX0_write_2 := dk_seg dksX0_write_1 24 rfl rfl
theorem dksX0_write_3 : cX0_write.data.toList.drop 71 = dktX0_write_3 := dk_seg dksX0_write_2 23 rfl rfl
theorem dX0_write_0 : decode cX0_write 0 = .ok (.aload_n 0, 1) := dk_42 (dk_at dksX0_write_0 0 rfl rfl)
theorem dX0_write_1 : decode cX0_write 1 = .ok (.iload_n 1, 1) := dk_27 (dk_at dksX0_write_0 1 rfl rfl)
theorem dX0_write_2 : decode cX0_write 2 = .ok (.invokevirtual 130, 3) := dk_182 0 130 (dk_at dksX0_write_0 2 rfl rfl)
theorem dX0_write_5 : decode cX0_write 5 = .ok (.ifCond .eq 10, 3) := dk_153 0 10 (dk_at dksX0_write_0 5 rfl rfl)
theorem dX0_write_8 : decode cX0_write 8 = .ok (.iload_n 2, 1) := dk_28 (dk_at dksX0_write_0 8 rfl rfl)
theorem dX0_write_9 : decode cX0_write 9 = .ok (.invokestatic 181, 3) := dk_184 0 181 (dk_at dksX0_write_0 9 rfl rfl)
theorem dX0_write_12 : decode cX0_write 12 = .ok (.ifCond .ne 6, 3) := dk_154 0 6 (dk_at dksX0_write_0 12 rfl rfl)
theorem dX0_write_15 : decode cX0_write 15 = .ok (.bipush (-2), 2) := dk_16 254 (dk_at dksX0_write_0 15 rfl rfl)
theorem dX0_write_17 : decode cX0_write 17 = .ok (.ireturn, 1) := dk_172 (dk_at dksX0_write_0 17 rfl rfl)
theorem dX0_write_18 : decode cX0_write 18 = .ok (.aload_n 0, 1) := dk_42 (dk_at dksX0_write_0 18 rfl rfl)
theorem dX0_write_19 : decode cX0_write 19 = .ok (.getfield 84, 3) := dk_180 0 84 (dk_at dksX0_write_0 19 rfl rfl)
theorem dX0_write_22 : decode cX0_write 22 = .ok (.iload_n 2, 1) := dk_28 (dk_at dksX0_write_0 22 rfl rfl)
theorem dX0_write_23 : decode cX0_write 23 = .ok (.aaload, 1) := dk_50 (dk_at dksX0_write_0 23 rfl rfl)
theorem dX0_write_24 : decode cX0_write 24 = .ok (.astore_n 3, 1) := dk_78 (dk_at dksX0_write_1 0 rfl rfl)
theorem dX0_write_25 : decode cX0_write 25 = .ok (.aload_n 3, 1) := dk_45 (dk_at dksX0_write_1 1 rfl rfl)
theorem dX0_write_26 : decode cX0_write 26 = .ok (.getfield 184, 3) := dk_180 0 184 (dk_at dksX0_write_1 2 rfl rfl)
theorem dX0_write_29 : decode cX0_write 29 = .ok (.ifnonnull 9, 3) := dk_199 0 9 (dk_at dksX0_write_1 5 rfl rfl)
theorem dX0_write_32 : decode cX0_write 32 = .ok (.aload_n 0, 1) := dk_42 (dk_at dksX0_write_1 8 rfl rfl)
theorem dX0_write_33 : decode cX0_write 33 = .ok (.iconst 1, 1) := dk_4 (dk_at dksX0_write_1 9 rfl rfl)
theorem dX0_write_34 : decode cX0_write 34 = .ok (.invokevirtual 188, 3) := dk_182 0 188 (dk_at dksX0_write_1 10 rfl rfl)
theorem dX0_write_37 : decode cX0_write 37 = .ok (.ireturn, 1) := dk_172 (dk_at dksX0_write_1 13 rfl rfl)
theorem dX0_write_38 : decode cX0_write 38 = .ok (.aload_n 0, 1) := dk_42 (dk_at dksX0_write_1 14 rfl rfl)
theorem dX0_write_39 : decode cX0_write 39 = .ok (.invokevirtual 277, 3) := dk_182 1 21 (dk_at dksX0_write_1 15 rfl rfl)
theorem dX0_write_42 : decode cX0_write 42 = .ok (.bipush 24, 2) := dk_16 24 (dk_at dksX0_write_1 18 rfl rfl)
theorem dX0_write_44 : decode cX0_write 44 = .ok (.aload_n 3, 1) := dk_45 (dk_at dksX0_write_1 20 rfl rfl)
theorem dX0_write_45 : decode cX0_write 45 = .ok (.invokevirtual 191, 3) := dk_182 0 191 (dk_at dksX0_write_1 21 rfl rfl)
theorem dX0_write_48 : decode cX0_write 48 = .ok (.invokestatic 206, 3) := dk_184 0 206 (dk_at dksX0_write_2 0 rfl rfl)
theorem dX0_write_51 : decode cX0_write 51 = .ok (.istore 4, 2) := dk_54 4 (dk_at dksX0_write_2 3 rfl rfl)
theorem dX0_write_53 : decode cX0_write 53 = .ok (.iconst 0, 1) := dk_3 (dk_at dksX0_write_2 5 rfl rfl)
theorem dX0_write_54 : decode cX0_write 54 = .ok (.istore 5, 2) := dk_54 5 (dk_at dksX0_write_2 6 rfl rfl)
theorem dX0_write_56 : decode cX0_write 56 = .ok (.iload 5, 2) := dk_21 5 (dk_at dksX0_write_2 8 rfl rfl)
theorem dX0_write_58 : decode cX0_write 58 = .ok (.iload 4, 2) := dk_21 4 (dk_at dksX0_write_2 10 rfl rfl)
theorem dX0_write_60 : decode cX0_write 60 = .ok (.if_icmp .ge 28, 3) := dk_162 0 28 (dk_at dksX0_write_2 12 rfl rfl)
theorem dX0_write_63 : decode cX0_write 63 = .ok (.aload_n 3, 1) := dk_45 (dk_at dksX0_write_2 15 rfl rfl)
theorem dX0_write_64 : decode cX0_write 64 = .ok (.aload_n 3, 1) := dk_45 (dk_at dksX0_write_2 16 rfl rfl)
theorem dX0_write_65 : decode cX0_write 65 = .ok (.invokevirtual 192, 3) := dk_182 0 192 (dk_at dksX0_write_2 17 rfl rfl)
theorem dX0_write_68 : decode cX0_write 68 = .ok (.iload 5, 2) := dk_21 5 (dk_at dksX0_write_2 20 rfl rfl)
theorem dX0_write_70 : decode cX0_write 70 = .ok (.aload_n 0, 1) := dk_42 (dk_at dksX0_write_2 22 rfl rfl)
theorem dX0_write_71 : decode cX0_write 71 = .ok (.getfield 52, 3) := dk_180 0 52 (dk_at dksX0_write_3 0 rfl rfl)
theorem dX0_write_74 : decode cX0_write 74 = .ok (.iload 5, 2) := dk_21 5 (dk_at dksX0_write_3 3 rfl rfl)
theorem dX0_write_76 : decode cX0_write 76 = .ok (.aaload, 1) := dk_50 (dk_at dksX0_write_3 5 rfl rfl)
theorem dX0_write_77 : decode cX0_write 77 = .ok (.iload_n 1, 1) := dk_27 (dk_at dksX0_write_3 6 rfl rfl)
theorem dX0_write_78 : decode cX0_write 78 = .ok (.iaload, 1) := dk_46 (dk_at dksX0_write_3 7 rfl rfl)
theorem dX0_write_79 : decode cX0_write 79 = .ok (.invokevirtual 392, 3) := dk_182 1 136 (dk_at dksX0_write_3 8 rfl rfl)
theorem dX0_write_82 : decode cX0_write 82 = .ok (.iinc 5 1, 3) := dk_132 5 1 (dk_at dksX0_write_3 11 rfl rfl)
theorem dX0_write_85 : decode cX0_write 85 = .ok (.goto (-29), 3) := dk_167 255 227 (dk_at dksX0_write_3 14 rfl rfl)
theorem dX0_write_88 : decode cX0_write 88 = .ok (.iload 4, 2) := dk_21 4 (dk_at dksX0_write_3 17 rfl rfl)
theorem dX0_write_90 : decode cX0_write 90 = .ok (.ireturn, 1) := dk_172 (dk_at dksX0_write_3 19 rfl rfl)
abbrev cX0_count : ByteArray := prog_1_method_82_code
def yX0_count : MethodName := ⟨RX0, "count", "(I)I"⟩
def dkwX0_count_4 : List UInt8 := [182, 0, 159, 172, 42, 180, 0, 90, 172, 16, 254, 172]
abbrev dktX0_count_4 : List UInt8 := dkwX0_count_4 ++ []
def dkwX0_count_3 : List UInt8 := [182, 0, 159, 172, 42, 180, 0, 34, 182, 0, 159, 172, 42, 180, 0, 37, 182, 0, 159, 172, 42, 180, 0, 68]
abbrev dktX0_count_3 : List UInt8 := dkwX0_count_3 ++ dktX0_count_4
def dkwX0_count_2 : List UInt8 := [42, 27, 182, 0, 106, 182, 1, 149, 172, 42, 27, 5, 100, 182, 0, 106, 182, 1, 150, 172, 42, 180, 0, 30]
abbrev dktX0_count_2 : List UInt8 := dkwX0_count_2 ++ dktX0_count_3
def dkwX0_count_1 : List UInt8 := [170, 0, 0, 0, 0, 0, 108, 0, 0, 0, 0, 0, 0, 0, 8, 0, 0, 0, 51, 0, 0, 0, 51, 0, 0, 0, 60, 0, 0, 0, 60, 0, 0, 0, 71, 0, 0, 0, 79, 0, 0, 0, 87, 0, 0, 0, 95, 0, 0, 0, 103]
abbrev dktX0_count_1 : List UInt8 := dkwX0_count_1 ++ dktX0_count_2
def dkwX0_count_0 : List UInt8 := [27]
abbrev dktX0_count_0 : List UInt8 := dkwX0_count_0 ++ dktX0_count_1
theorem dksX0_count_0 : cX0_count.data.toList.drop 0 = dktX0_count_0 := by decide +kernel
theorem dksX0_count_1 : cX0_count.data.toList.drop 1 = dktX0_count_1 := dk_seg dksX0_count_0 1 rfl rfl
theorem dksX0_count_2 : cX0_count.data.toList.drop 52 = dktX0_count_2 := dk_seg dksX0_count_1 51 rfl rfl
theorem dksX0_count_3 : cX0_count.data.toList.drop 76 = dktX0_count_3 := dk_seg dksX0_count_2 24 rfl rfl
theorem dksX0_count_4 : cX0_count.data.toList.drop 100 = dktX0_count_4 := dk_seg dksX0_count_3 24 rfl rfl
theorem dX0_count_0 : decode cX0_count 0 = .ok (.iload_n 1, 1) := dk_27 (dk_at dksX0_count_0 0 rfl rfl)
theorem dX0_count_1 : decode cX0_count 1 = .ok (.tableswitch 108 0 8 #[51, 51, 60, 60, 71, 79, 87, 95, 103], 51) := by decide +kernel
theorem dX0_count_52 : decode cX0_count 52 = .ok (.aload_n 0, 1) := dk_42 (dk_at dksX0_count_2 0 rfl rfl)
theorem dX0_count_53 : decode cX0_count 53 = .ok (.iload_n 1, 1) := dk_27 (dk_at dksX0_count_2 1 rfl rfl)
theorem dX0_count_54 : decode cX0_count 54 = .ok (.invokevirtual 106, 3) := dk_182 0 106 (dk_at dksX0_count_2 2 rfl rfl)
theorem dX0_count_57 : decode cX0_count 57 = .ok (.invokevirtual 405, 3) := dk_182 1 149 (dk_at dksX0_count_2 5 rfl rfl)
theorem dX0_count_60 : decode cX0_count 60 = .ok (.ireturn, 1) := dk_172 (dk_at dksX0_count_2 8 rfl rfl)
theorem dX0_count_61 : decode cX0_count 61 = .ok (.aload_n 0, 1) := dk_42 (dk_at dksX0_count_2 9 rfl rfl)
theorem dX0_count_62 : decode cX0_count 62 = .ok (.iload_n 1, 1) := dk_27 (dk_at dksX0_count_2 10 rfl rfl)
theorem dX0_count_63 : decode cX0_count 63 = .ok (.iconst 2, 1) := dk_5 (dk_at dksX0_count_2 11 rfl rfl)
theorem dX0_count_64 : decode cX0_count 64 = .ok (.isub, 1) := dk_100 (dk_at dksX0_count_2 12 rfl rfl)
theorem dX0_count_65 : decode cX0_count 65 = .ok (.invokevirtual 106, 3) := dk_182 0 106 (dk_at dksX0_count_2 13 rfl rfl)
theorem dX0_count_68 : decode cX0_count 68 = .ok (.invokevirtual 406, 3) := dk_182 1 150 (dk_at dksX0_count_2 16 rfl rfl)
theorem dX0_count_71 : decode cX0_count 71 = .ok (.ireturn, 1) := dk_172 (dk_at dksX0_count_2 19 rfl rfl)
theorem dX0_count_72 : decode cX0_count 72 = .ok (.aload_n 0, 1) := dk_42 (dk_at dksX0_count_2 20 rfl rfl)
theorem dX0_count_73 : decode cX0_count 73 = .ok (.getfield 30, 3) := dk_180 0 30 (dk_at dksX0_count_2 21 rfl rfl)
theorem dX0_count_76 : decode cX0_count 76 = .ok (.invokevirtual 159, 3) := dk_182 0 159 (dk_at dksX0_count_3 0 rfl rfl)
theorem dX0_count_79 : decode cX0_count 79 = .ok (.ireturn, 1) := dk_172 (dk_at dksX0_count_3 3 rfl rfl)
theorem dX0_count_80 : decode cX0_count 80 = .ok (.aload_n 0, 1) := dk_42 (dk_at dksX0_count_3 4 rfl rfl)
theorem dX0_count_81 : decode cX0_count 81 = .ok (.getfield 34, 3) := dk_180 0 34 (dk_at dksX0_count_3 5 rfl rfl)
theorem dX0_count_84 : decode cX0_count 84 = .ok (.invokevirtual 159, 3) := dk_182 0 159 (dk_at dksX0_count_3 8 rfl rfl)
theorem dX0_count_87 : decode cX0_count 87 = .ok (.ireturn, 1) := dk_172 (dk_at dksX0_count_3 11 rfl rfl)
theorem dX0_count_88 : decode cX0_count 88 = .ok (.aload_n 0, 1) := dk_42 (dk_at dksX0_count_3 12 rfl rfl)
theorem dX0_count_89 : decode cX0_count 89 = .ok (.getfield 37, 3) := dk_180 0 37 (dk_at dksX0_count_3 13 rfl rfl)
theorem dX0_count_92 : decode cX0_count 92 = .ok (.invokevirtual 159, 3) := dk_182 0 159 (dk_at dksX0_count_3 16 rfl rfl)
theorem dX0_count_95 : decode cX0_count 95 = .ok (.ireturn, 1) := dk_172 (dk_at dksX0_count_3 19 rfl rfl)
theorem dX0_count_96 : decode cX0_count 96 = .ok (.aload_n 0, 1) := dk_42 (dk_at dksX0_count_3 20 rfl rfl)
theorem dX0_count_97 : decode cX0_count 97 = .ok (.getfield 68, 3) := dk_180 0 68 (dk_at dksX0_count_3 21 rfl rfl)
theorem dX0_count_100 : decode cX0_count 100 = .ok (.invokevirtual 159, 3) := dk_182 0 159 (dk_at dksX0_count_4 0 rfl rfl)
theorem dX0_count_103 : decode cX0_count 103 = .ok (.ireturn, 1) := dk_172 (dk_at dksX0_count_4 3 rfl rfl)
theorem dX0_count_104 : decode cX0_count 104 = .ok (.aload_n 0, 1) := dk_42 (dk_at dksX0_count_4 4 rfl rfl)
theorem dX0_count_105 : decode cX0_count 105 = .ok (.getfield 90, 3) := dk_180 0 90 (dk_at dksX0_count_4 5 rfl rfl)
theorem dX0_count_108 : decode cX0_count 108 = .ok (.ireturn, 1) := dk_172 (dk_at dksX0_count_4 8 rfl rfl)
theorem dX0_count_109 : decode cX0_count 109 = .ok (.bipush (-2), 2) := dk_16 254 (dk_at dksX0_count_4 9 rfl rfl)
theorem dX0_count_111 : decode cX0_count 111 = .ok (.ireturn, 1) := dk_172 (dk_at dksX0_count_4 11 rfl rfl)
abbrev cX0_digest : ByteArray := prog_1_method_86_code
def yX0_digest : MethodName := ⟨RX0, "digest", "()J"⟩
def dkwX0_digest_12 : List UInt8 := [97, 64, 132, 3, 1, 167, 255, 231, 31, 173]
abbrev dktX0_digest_12 : List UInt8 := dkwX0_digest_12 ++ []
def dkwX0_digest_11 : List UInt8 := [97, 64, 3, 62, 29, 5, 162, 0, 26, 20, 1, 153, 31, 105, 42, 16, 7, 16, 6, 29, 182, 1, 127, 133]
abbrev dktX0_digest_11 : List UInt8 := dkwX0_digest_11 ++ dktX0_digest_12
def dkwX0_digest_10 : List UInt8 := [42, 29, 182, 1, 63, 133, 97, 64, 132, 3, 1, 167, 255, 235, 20, 1, 153, 31, 105, 42, 182, 1, 74, 133]
abbrev dktX0_digest_10 : List UInt8 := dkwX0_digest_10 ++ dktX0_digest_11
def dkwX0_digest_9 : List UInt8 := [182, 1, 52, 133, 97, 64, 132, 3, 1, 167, 255, 233, 2, 62, 29, 4, 162, 0, 22, 20, 1, 153, 31, 105]
abbrev dktX0_digest_9 : List UInt8 := dkwX0_digest_9 ++ dktX0_digest_10
def dkwX0_digest_8 : List UInt8 := [182, 1, 46, 133, 97, 64, 3, 62, 29, 5, 162, 0, 24, 20, 1, 153, 31, 105, 42, 16, 8, 29]
abbrev dktX0_digest_8 : List UInt8 := dkwX0_digest_8 ++ dktX0_digest_9
def dkwX0_digest_7 : List UInt8 := [132, 3, 1, 167, 255, 208, 20, 1, 153, 31, 105, 42, 182, 1, 37, 133, 97, 64, 20, 1, 153, 31, 105, 42]
abbrev dktX0_digest_7 : List UInt8 := dkwX0_digest_7 ++ dktX0_digest_8
def dkwX0_digest_6 : List UInt8 := [105, 42, 29, 182, 1, 31, 133, 97, 64, 20, 1, 153, 31, 105, 42, 29, 182, 1, 34, 133, 97, 64]
abbrev dktX0_digest_6 : List UInt8 := dkwX0_digest_6 ++ dktX0_digest_7
def dkwX0_digest_5 : List UInt8 := [62, 29, 16, 24, 162, 0, 48, 20, 1, 153, 31, 105, 42, 29, 182, 1, 28, 133, 97, 64, 20, 1, 153, 31]
abbrev dktX0_digest_5 : List UInt8 := dkwX0_digest_5 ++ dktX0_digest_6
def dkwX0_digest_4 : List UInt8 := [182, 0, 126, 162, 0, 16, 42, 31, 29, 182, 1, 168, 64, 132, 3, 1, 167, 255, 235, 42, 182, 1, 21, 3]
abbrev dktX0_digest_4 : List UInt8 := dkwX0_digest_4 ++ dktX0_digest_5
def dkwX0_digest_3 : List UInt8 := [162, 0, 16, 42, 31, 29, 182, 1, 164, 64, 132, 3, 1, 167, 255, 235, 3, 62, 29, 42, 180, 0, 14]
abbrev dktX0_digest_3 : List UInt8 := dkwX0_digest_3 ++ dktX0_digest_4
def dkwX0_digest_2 : List UInt8 := [182, 0, 123, 133, 97, 64, 132, 3, 1, 167, 255, 232, 3, 62, 29, 42, 180, 0, 23, 182, 0, 129]
abbrev dktX0_digest_2 : List UInt8 := dkwX0_digest_2 ++ dktX0_digest_3
def dkwX0_digest_1 : List UInt8 := [64, 132, 3, 1, 167, 255, 234, 3, 62, 29, 5, 162, 0, 25, 20, 1, 153, 31, 105, 42, 29, 182, 0, 106]
abbrev dktX0_digest_1 : List UInt8 := dkwX0_digest_1 ++ dktX0_digest_2
def dkwX0_digest_0 : List UInt8 := [20, 1, 159, 64, 3, 62, 29, 16, 8, 162, 0, 22, 20, 1, 153, 31, 105, 42, 29, 182, 1, 161, 133, 97]
abbrev dktX0_digest_0 : List UInt8 := dkwX0_digest_0 ++ dktX0_digest_1
theorem dksX0_digest_0 : cX0_digest.data.toList.drop 0 = dktX0_digest_0 := by decide +kernel
theorem dksX0_digest_1 : cX0_digest.data.toList.drop 24 = dktX0_digest_1 := dk_seg dksX0_digest_0 24 rfl rfl
theorem dksX0_digest_2 : cX0_digest.data.toList.drop 48 = dktX0_digest_2 := dk_seg dksX0_digest_1 24 rfl rfl
theorem dksX0_digest_3 : cX0_digest.data.toList.drop 70 = dktX0_digest_3 := dk_seg dksX0_digest_2 22 rfl rfl
theorem dksX0_digest_4 : cX0_digest.data.toList.drop 93 = dktX0_digest_4 := dk_seg dksX0_digest_3 23 rfl rfl
theorem dksX0_digest_5 : cX0_digest.data.toList.drop 117 = dktX0_digest_5 := dk_seg dksX0_digest_4 24 rfl rfl
theorem dksX0_digest_6 : cX0_digest.data.toList.drop 141 = dktX0_digest_6 := dk_seg dksX0_digest_5 24 rfl rfl
theorem dksX0_digest_7 : cX0_digest.data.toList.drop 163 = dktX0_digest_7 := dk_seg dksX0_digest_6 22 rfl rfl
theorem dksX0_digest_8 : cX0_digest.data.toList.drop 187 = dktX0_digest_8 := dk_seg dksX0_digest_7 24 rfl rfl
theorem dksX0_digest_9 : cX0_digest.data.toList.drop 209 = dktX0_digest_9 := dk_seg dksX0_digest_8 22 rfl rfl
theorem dksX0_digest_10 : cX0_digest.data.toList.drop 233 = dktX0_digest_10 := dk_seg dksX0_digest_9 24 rfl rfl
theorem dksX0_digest_11 : cX0_digest.data.toList.drop 257 = dktX0_digest_11 := dk_seg dksX0_digest_10 24 rfl rfl
theorem dksX0_digest_12 : cX0_digest.data.toList.drop 281 = dktX0_digest_12 := dk_seg dksX0_digest_11 24 rfl rfl
theorem dX0_digest_0 : decode cX0_digest 0 = .ok (.ldc2_w 415, 3) := dk_20 1 159 (dk_at dksX0_digest_0 0 rfl rfl)
theorem dX0_digest_3 : decode cX0_digest 3 = .ok (.lstore_n 1, 1) := dk_64 (dk_at dksX0_digest_0 3 rfl rfl)
theorem dX0_digest_4 : decode cX0_digest 4 = .ok (.iconst 0, 1) := dk_3 (dk_at dksX0_digest_0 4 rfl rfl)
theorem dX0_digest_5 : decode cX0_digest 5 = .ok (.istore_n 3, 1) := dk_62 (dk_at dksX0_digest_0 5 rfl rfl)
theorem dX0_digest_6 : decode cX0_digest 6 = .ok (.iload_n 3, 1) := dk_29 (dk_at dksX0_digest_0 6 rfl rfl)
theorem dX0_digest_7 : decode cX0_digest 7 = .ok (.bipush 8, 2) := dk_16 8 (dk_at dksX0_digest_0 7 rfl rfl)
theorem dX0_digest_9 : decode cX0_digest 9 = .ok (.if_icmp .ge 22, 3) := dk_162 0 22 (dk_at dksX0_digest_0 9 rfl rfl)
theorem dX0_digest_12 : decode cX0_digest 12 = .ok (.ldc2_w 409, 3) := dk_20 1 153 (dk_at dksX0_digest_0 12 rfl rfl)
theorem dX0_digest_15 : decode cX0_digest 15 = .ok (.lload_n 1, 1) := dk_31 (dk_at dksX0_digest_0 15 rfl rfl)
theorem dX0_digest_16 : decode cX0_digest 16 = .ok (.lmul, 1) := dk_105 (dk_at dksX0_digest_0 16 rfl rfl)
theorem dX0_digest_17 : decode cX0_digest 17 = .ok (.aload_n 0, 1) := dk_42 (dk_at dksX0_digest_0 17 rfl rfl)
theorem dX0_digest_18 : decode cX0_digest 18 = .ok (.iload_n 3, 1) := dk_29 (dk_at dksX0_digest_0 18 rfl rfl)
theorem dX0_digest_19 : decode cX0_digest 19 = .ok (.invokevirtual 417, 3) := dk_182 1 161 (dk_at dksX0_digest_0 19 rfl rfl)
theorem dX0_digest_22 : decode cX0_digest 22 = .ok (.i2l, 1) := dk_133 (dk_at dksX0_digest_0 22 rfl rfl)
theorem dX0_digest_23 : decode cX0_digest 23 = .ok (.ladd, 1) := dk_97 (dk_at dksX0_digest_0 23 rfl rfl)
theorem dX0_digest_24 : decode cX0_digest 24 = .ok (.lstore_n 1, 1) := dk_64 (dk_at dksX0_digest_1 0 rfl rfl)
theorem dX0_digest_25 : decode cX0_digest 25 = .ok (.iinc 3 1, 3) := dk_132 3 1 (dk_at dksX0_digest_1 1 rfl rfl)
theorem dX0_digest_28 : decode cX0_digest 28 = .ok (.goto (-22), 3) := dk_167 255 234 (dk_at dksX0_digest_1 4 rfl rfl)
theorem dX0_digest_31 : decode cX0_digest 31 = .ok (.iconst 0, 1) := dk_3 (dk_at dksX0_digest_1 7 rfl rfl)
theorem dX0_digest_32 : decode cX0_digest 32 = .ok (.istore_n 3, 1) := dk_62 (dk_at dksX0_digest_1 8 rfl rfl)
theorem dX0_digest_33 : decode cX0_digest 33 = .ok (.iload_n 3, 1) := dk_29 (dk_at dksX0_digest_1 9 rfl rfl)
theorem dX0_digest_34 : decode cX0_digest 34 = .ok (.iconst 2, 1) := dk_5 (dk_at dksX0_digest_1 10 rfl rfl)
theorem dX0_digest_35 : decode cX0_digest 35 = .ok (.if_icmp .ge 25, 3) := dk_162 0 25 (dk_at dksX0_digest_1 11 rfl rfl)
theorem dX0_digest_38 : decode cX0_digest 38 = .ok (.ldc2_w 409, 3) := dk_20 1 153 (dk_at dksX0_digest_1 14 rfl rfl)
theorem dX0_digest_41 : decode cX0_digest 41 = .ok (.lload_n 1, 1) := dk_31 (dk_at dksX0_digest_1 17 rfl rfl)
theorem dX0_digest_42 : decode cX0_digest 42 = .ok (.lmul, 1) := dk_105 (dk_at dksX0_digest_1 18 rfl rfl)
theorem dX0_digest_43 : decode cX0_digest 43 = .ok (.aload_n 0, 1) := dk_42 (dk_at dksX0_digest_1 19 rfl rfl)
theorem dX0_digest_44 : decode cX0_digest 44 = .ok (.iload_n 3, 1) := dk_29 (dk_at dksX0_digest_1 20 rfl rfl)
theorem dX0_digest_45 : decode cX0_digest 45 = .ok (.invokevirtual 106, 3) := dk_182 0 106 (dk_at dksX0_digest_1 21 rfl rfl)
theorem dX0_digest_48 : decode cX0_digest 48 = .ok (.invokevirtual 123, 3) := dk_182 0 123 (dk_at dksX0_digest_2 0 rfl rfl)
theorem dX0_digest_51 : decode cX0_digest 51 = .ok (.i2l, 1) := dk_133 (dk_at dksX0_digest_2 3 rfl rfl)
theorem dX0_digest_52 : decode cX0_digest 52 = .ok (.ladd, 1) := dk_97 (dk_at dksX0_digest_2 4 rfl rfl)
theorem dX0_digest_53 : decode cX0_digest 53 = .ok (.lstore_n 1, 1) := dk_64 (dk_at dksX0_digest_2 5 rfl rfl)
theorem dX0_digest_54 : decode cX0_digest 54 = .ok (.iinc 3 1, 3) := dk_132 3 1 (dk_at dksX0_digest_2 6 rfl rfl)
theorem dX0_digest_57 : decode cX0_digest 57 = .ok (.goto (-24), 3) := dk_167 255 232 (dk_at dksX0_digest_2 9 rfl rfl)
theorem dX0_digest_60 : decode cX0_digest 60 = .ok (.iconst 0, 1) := dk_3 (dk_at dksX0_digest_2 12 rfl rfl)
theorem dX0_digest_61 : decode cX0_digest 61 = .ok (.istore_n 3, 1) := dk_62 (dk_at dksX0_digest_2 13 rfl rfl)
theorem dX0_digest_62 : decode cX0_digest 62 = .ok (.iload_n 3, 1) := dk_29 (dk_at dksX0_digest_2 14 rfl rfl)
theorem dX0_digest_63 : decode cX0_digest 63 = .ok (.aload_n 0, 1) := dk_42 (dk_at dksX0_digest_2 15 rfl rfl)
theorem dX0_digest_64 : decode cX0_digest 64 = .ok (.getfield 23, 3) := dk_180 0 23 (dk_at dksX0_digest_2 16 rfl rfl)
theorem dX0_digest_67 : decode cX0_digest 67 = .ok (.invokevirtual 129, 3) := dk_182 0 129 (dk_at dksX0_digest_2 19 rfl rfl)
theorem dX0_digest_70 : decode cX0_digest 70 = .ok (.if_icmp .ge 16, 3) := dk_162 0 16 (dk_at dksX0_digest_3 0 rfl rfl)
theorem dX0_digest_73 : decode cX0_digest 73 = .ok (.aload_n 0, 1) := dk_42 (dk_at dksX0_digest_3 3 rfl rfl)
theorem dX0_digest_74 : decode cX0_digest 74 = .ok (.lload_n 1, 1) := dk_31 (dk_at dksX0_digest_3 4 rfl rfl)
theorem dX0_digest_75 : decode cX0_digest 75 = .ok (.iload_n 3, 1) := dk_29 (dk_at dksX0_digest_3 5 rfl rfl)
theorem dX0_digest_76 : decode cX0_digest 76 = .ok (.invokevirtual 420, 3) := dk_182 1 164 (dk_at dksX0_digest_3 6 rfl rfl)
theorem dX0_digest_79 : decode cX0_digest 79 = .ok (.lstore_n 1, 1) := dk_64 (dk_at dksX0_digest_3 9 rfl rfl)
theorem dX0_digest_80 : decode cX0_digest 80 = .ok (.iinc 3 1, 3) := dk_132 3 1 (dk_at dksX0_digest_3 10 rfl rfl)
theorem dX0_digest_83 : decode cX0_digest 83 = .ok (.goto (-21), 3) := dk_167 255 235 (dk_at dksX0_digest_3 13 rfl rfl)
theorem dX0_digest_86 : decode cX0_digest 86 = .ok (.iconst 0, 1) := dk_3 (dk_at dksX0_digest_3 16 rfl rfl)
theorem dX0_digest_87 : decode cX0_digest 87 = .ok (.istore_n 3, 1) := dk_62 (dk_at dksX0_digest_3 17 rfl rfl)
theorem dX0_digest_88 : decode cX0_digest 88 = .ok (.iload_n 3, 1) := dk_29 (dk_at dksX0_digest_3 18 rfl rfl)
theorem dX0_digest_89 : decode cX0_digest 89 = .ok (.aload_n 0, 1) := dk_42 (dk_at dksX0_digest_3 19 rfl rfl)
theorem dX0_digest_90 : decode cX0_digest 90 = .ok (.getfield 14, 3) := dk_180 0 14 (dk_at dksX0_digest_3 20 rfl rfl)
theorem dX0_digest_93 : decode cX0_digest 93 = .ok (.invokevirtual 126, 3) := dk_182 0 126 (dk_at dksX0_digest_4 0 rfl rfl)
theorem dX0_digest_96 : decode cX0_digest 96 = .ok (.if_icmp .ge 16, 3) := dk_162 0 16 (dk_at dksX0_digest_4 3 rfl rfl)
theorem dX0_digest_99 : decode cX0_digest 99 = .ok (.aload_n 0, 1) := dk_42 (dk_at dksX0_digest_4 6 rfl rfl)
theorem dX0_digest_100 : decode cX0_digest 100 = .ok (.lload_n 1, 1) := dk_31 (dk_at dksX0_digest_4 7 rfl rfl)
theorem dX0_digest_101 : decode cX0_digest 101 = .ok (.iload_n 3, 1) := dk_29 (dk_at dksX0_digest_4 8 rfl rfl)
theorem dX0_digest_102 : decode cX0_digest 102 = .ok (.invokevirtual 424, 3) := dk_182 1 168 (dk_at dksX0_digest_4 9 rfl rfl)
theorem dX0_digest_105 : decode cX0_digest 105 = .ok (.lstore_n 1, 1) := dk_64 (dk_at dksX0_digest_4 12 rfl rfl)
theorem dX0_digest_106 : decode cX0_digest 106 = .ok (.iinc 3 1, 3) := dk_132 3 1 (dk_at dksX0_digest_4 13 rfl rfl)
theorem dX0_digest_109 : decode cX0_digest 109 = .ok (.goto (-21), 3) := dk_167 255 235 (dk_at dksX0_digest_4 16 rfl rfl)
theorem dX0_digest_112 : decode cX0_digest 112 = .ok (.aload_n 0, 1) := dk_42 (dk_at dksX0_digest_4 19 rfl rfl)
theorem dX0_digest_113 : decode cX0_digest 113 = .ok (.invokevirtual 277, 3) := dk_182 1 21 (dk_at dksX0_digest_4 20 rfl rfl)
theorem dX0_digest_116 : decode cX0_digest 116 = .ok (.iconst 0, 1) := dk_3 (dk_at dksX0_digest_4 23 rfl rfl)
theorem dX0_digest_117 : decode cX0_digest 117 = .ok (.istore_n 3, 1) := dk_62 (dk_at dksX0_digest_5 0 rfl rfl)
theorem dX0_digest_118 : decode cX0_digest 118 = .ok (.iload_n 3, 1) := dk_29 (dk_at dksX0_digest_5 1 rfl rfl)
theorem dX0_digest_119 : decode cX0_digest 119 = .ok (.bipush 24, 2) := dk_16 24 (dk_at dksX0_digest_5 2 rfl rfl)
theorem dX0_digest_121 : decode cX0_digest 121 = .ok (.if_icmp .ge 48, 3) := dk_162 0 48 (dk_at dksX0_digest_5 4 rfl rfl)
theorem dX0_digest_124 : decode cX0_digest 124 = .ok (.ldc2_w 409, 3) := dk_20 1 153 (dk_at dksX0_digest_5 7 rfl rfl)
theorem dX0_digest_127 : decode cX0_digest 127 = .ok (.lload_n 1, 1) := dk_31 (dk_at dksX0_digest_5 10 rfl rfl)
theorem dX0_digest_128 : decode cX0_digest 128 = .ok (.lmul, 1) := dk_105 (dk_at dksX0_digest_5 11 rfl rfl)
theorem dX0_digest_129 : decode cX0_digest 129 = .ok (.aload_n 0, 1) := dk_42 (dk_at dksX0_digest_5 12 rfl rfl)
theorem dX0_digest_130 : decode cX0_digest 130 = .ok (.iload_n 3, 1) := dk_29 (dk_at dksX0_digest_5 13 rfl rfl)
theorem dX0_digest_131 : decode cX0_digest 131 = .ok (.invokevirtual 284, 3) := dk_182 1 28 (dk_at dksX0_digest_5 14 rfl rfl)
theorem dX0_digest_134 : decode cX0_digest 134 = .ok (.i2l, 1) := dk_133 (dk_at dksX0_digest_5 17 rfl rfl)
theorem dX0_digest_135 : decode cX0_digest 135 = .ok (.ladd, 1) := dk_97 (dk_at dksX0_digest_5 18 rfl rfl)
theorem dX0_digest_136 : decode cX0_digest 136 = .ok (.lstore_n 1, 1) := dk_64 (dk_at dksX0_digest_5 19 rfl rfl)
theorem dX0_digest_137 : decode cX0_digest 137 = .ok (.ldc2_w 409, 3) := dk_20 1 153 (dk_at dksX0_digest_5 20 rfl rfl)
theorem dX0_digest_140 : decode cX0_digest 140 = .ok (.lload_n 1, 1) := dk_31 (dk_at dksX0_digest_5 23 rfl rfl)
theorem dX0_digest_141 : decode cX0_digest 141 = .ok (.lmul, 1) := dk_105 (dk_at dksX0_digest_6 0 rfl rfl)
theorem dX0_digest_142 : decode cX0_digest 142 = .ok (.aload_n 0, 1) := dk_42 (dk_at dksX0_digest_6 1 rfl rfl)
theorem dX0_digest_143 : decode cX0_digest 143 = .ok (.iload_n 3, 1) := dk_29 (dk_at dksX0_digest_6 2 rfl rfl)
theorem dX0_digest_144 : decode cX0_digest 144 = .ok (.invokevirtual 287, 3) := dk_182 1 31 (dk_at dksX0_digest_6 3 rfl rfl)
theorem dX0_digest_147 : decode cX0_digest 147 = .ok (.i2l, 1) := dk_133 (dk_at dksX0_digest_6 6 rfl rfl)
theorem dX0_digest_148 : decode cX0_digest 148 = .ok (.ladd, 1) := dk_97 (dk_at dksX0_digest_6 7 rfl rfl)
theorem dX0_digest_149 : decode cX0_digest 149 = .ok (.lstore_n 1, 1) := dk_64 (dk_at dksX0_digest_6 8 rfl rfl)
theorem dX0_digest_150 : decode cX0_digest 150 = .ok (.ldc2_w 409, 3) := dk_20 1 153 (dk_at dksX0_digest_6 9 rfl rfl)
theorem dX0_digest_153 : decode cX0_digest 153 = .ok (.lload_n 1, 1) := dk_31 (dk_at dksX0_digest_6 12 rfl rfl)
theorem dX0_digest_154 : decode cX0_digest 154 = .ok (.lmul, 1) := dk_105 (dk_at dksX0_digest_6 13 rfl rfl)
theorem dX0_digest_155 : decode cX0_digest 155 = .ok (.aload_n 0, 1) := dk_42 (dk_at dksX0_digest_6 14 rfl rfl)
theorem dX0_digest_156 : decode cX0_digest 156 = .ok (.iload_n 3, 1) := dk_29 (dk_at dksX0_digest_6 15 rfl rfl)
theorem dX0_digest_157 : decode cX0_digest 157 = .ok (.invokevirtual 290, 3) := dk_182 1 34 (dk_at dksX0_digest_6 16 rfl rfl)
theorem dX0_digest_160 : decode cX0_digest 160 = .ok (.i2l, 1) := dk_133 (dk_at dksX0_digest_6 19 rfl rfl)
theorem dX0_digest_161 : decode cX0_digest 161 = .ok (.ladd, 1) := dk_97 (dk_at dksX0_digest_6 20 rfl rfl)
theorem dX0_digest_162 : decode cX0_digest 162 = .ok (.lstore_n 1, 1) := dk_64 (dk_at dksX0_digest_6 21 rfl rfl)
theorem dX0_digest_163 : decode cX0_digest 163 = .ok (.iinc 3 1, 3) := dk_132 3 1 (dk_at dksX0_digest_7 0 rfl rfl)
theorem dX0_digest_166 : decode cX0_digest 166 = .ok (.goto (-48), 3) := dk_167 255 208 (dk_at dksX0_digest_7 3 rfl rfl)
theorem dX0_digest_169 : decode cX0_digest 169 = .ok (.ldc2_w 409, 3) := dk_20 1 153 (dk_at dksX0_digest_7 6 rfl rfl)
theorem dX0_digest_172 : decode cX0_digest 172 = .ok (.lload_n 1, 1) := dk_31 (dk_at dksX0_digest_7 9 rfl rfl)
theorem dX0_digest_173 : decode cX0_digest 173 = .ok (.lmul, 1) := dk_105 (dk_at dksX0_digest_7 10 rfl rfl)
theorem dX0_digest_174 : decode cX0_digest 174 = .ok (.aload_n 0, 1) := dk_42 (dk_at dksX0_digest_7 11 rfl rfl)
theorem dX0_digest_175 : decode cX0_digest 175 = .ok (.invokevirtual 293, 3) := dk_182 1 37 (dk_at dksX0_digest_7 12 rfl rfl)
theorem dX0_digest_178 : decode cX0_digest 178 = .ok (.i2l, 1) := dk_133 (dk_at dksX0_digest_7 15 rfl rfl)
theorem dX0_digest_179 : decode cX0_digest 179 = .ok (.ladd, 1) := dk_97 (dk_at dksX0_digest_7 16 rfl rfl)
theorem dX0_digest_180 : decode cX0_digest 180 = .ok (.lstore_n 1, 1) := dk_64 (dk_at dksX0_digest_7 17 rfl rfl)
theorem dX0_digest_181 : decode cX0_digest 181 = .ok (.ldc2_w 409, 3) := dk_20 1 153 (dk_at dksX0_digest_7 18 rfl rfl)
theorem dX0_digest_184 : decode cX0_digest 184 = .ok (.lload_n 1, 1) := dk_31 (dk_at dksX0_digest_7 21 rfl rfl)
theorem dX0_digest_185 : decode cX0_digest 185 = .ok (.lmul, 1) := dk_105 (dk_at dksX0_digest_7 22 rfl rfl)
theorem dX0_digest_186 : decode cX0_digest 186 = .ok (.aload_n 0, 1) := dk_42 (dk_at dksX0_digest_7 23 rfl rfl)
theorem dX0_digest_187 : decode cX0_digest 187 = .ok (.invokevirtual 302, 3) := dk_182 1 46 (dk_at dksX0_digest_8 0 rfl rfl)
theorem dX0_digest_190 : decode cX0_digest 190 = .ok (.i2l, 1) := dk_133 (dk_at dksX0_digest_8 3 rfl rfl)
theorem dX0_digest_191 : decode cX0_digest 191 = .ok (.ladd, 1) := dk_97 (dk_at dksX0_digest_8 4 rfl rfl)
theorem dX0_digest_192 : decode cX0_digest 192 = .ok (.lstore_n 1, 1) := dk_64 (dk_at dksX0_digest_8 5 rfl rfl)
theorem dX0_digest_193 : decode cX0_digest 193 = .ok (.iconst 0, 1) := dk_3 (dk_at dksX0_digest_8 6 rfl rfl)
theorem dX0_digest_194 : decode cX0_digest 194 = .ok (.istore_n 3, 1) := dk_62 (dk_at dksX0_digest_8 7 rfl rfl)
theorem dX0_digest_195 : decode cX0_digest 195 = .ok (.iload_n 3, 1) := dk_29 (dk_at dksX0_digest_8 8 rfl rfl)
theorem dX0_digest_196 : decode cX0_digest 196 = .ok (.iconst 2, 1) := dk_5 (dk_at dksX0_digest_8 9 rfl rfl)
theorem dX0_digest_197 : decode cX0_digest 197 = .ok (.if_icmp .ge 24, 3) := dk_162 0 24 (dk_at dksX0_digest_8 10 rfl rfl)
theorem dX0_digest_200 : decode cX0_digest 200 = .ok (.ldc2_w 409, 3) := dk_20 1 153 (dk_at dksX0_digest_8 13 rfl rfl)
theorem dX0_digest_203 : decode cX0_digest 203 = .ok (.lload_n 1, 1) := dk_31 (dk_at dksX0_digest_8 16 rfl rfl)
theorem dX0_digest_204 : decode cX0_digest 204 = .ok (.lmul, 1) := dk_105 (dk_at dksX0_digest_8 17 rfl rfl)
theorem dX0_digest_205 : decode cX0_digest 205 = .ok (.aload_n 0, 1) := dk_42 (dk_at dksX0_digest_8 18 rfl rfl)
theorem dX0_digest_206 : decode cX0_digest 206 = .ok (.bipush 8, 2) := dk_16 8 (dk_at dksX0_digest_8 19 rfl rfl)
theorem dX0_digest_208 : decode cX0_digest 208 = .ok (.iload_n 3, 1) := dk_29 (dk_at dksX0_digest_8 21 rfl rfl)
theorem dX0_digest_209 : decode cX0_digest 209 = .ok (.invokevirtual 308, 3) := dk_182 1 52 (dk_at dksX0_digest_9 0 rfl rfl)
theorem dX0_digest_212 : decode cX0_digest 212 = .ok (.i2l, 1) := dk_133 (dk_at dksX0_digest_9 3 rfl rfl)
theorem dX0_digest_213 : decode cX0_digest 213 = .ok (.ladd, 1) := dk_97 (dk_at dksX0_digest_9 4 rfl rfl)
theorem dX0_digest_214 : decode cX0_digest 214 = .ok (.lstore_n 1, 1) := dk_64 (dk_at dksX0_digest_9 5 rfl rfl)
theorem dX0_digest_215 : decode cX0_digest 215 = .ok (.iinc 3 1, 3) := dk_132 3 1 (dk_at dksX0_digest_9 6 rfl rfl)
theorem dX0_digest_218 : decode cX0_digest 218 = .ok (.goto (-23), 3) := dk_167 255 233 (dk_at dksX0_digest_9 9 rfl rfl)
theorem dX0_digest_221 : decode cX0_digest 221 = .ok (.iconst (-1), 1) := dk_2 (dk_at dksX0_digest_9 12 rfl rfl)
theorem dX0_digest_222 : decode cX0_digest 222 = .ok (.istore_n 3, 1) := dk_62 (dk_at dksX0_digest_9 13 rfl rfl)
theorem dX0_digest_223 : decode cX0_digest 223 = .ok (.iload_n 3, 1) := dk_29 (dk_at dksX0_digest_9 14 rfl rfl)
theorem dX0_digest_224 : decode cX0_digest 224 = .ok (.iconst 1, 1) := dk_4 (dk_at dksX0_digest_9 15 rfl rfl)
theorem dX0_digest_225 : decode cX0_digest 225 = .ok (.if_icmp .ge 22, 3) := dk_162 0 22 (dk_at dksX0_digest_9 16 rfl rfl)
theorem dX0_digest_228 : decode cX0_digest 228 = .ok (.ldc2_w 409, 3) := dk_20 1 153 (dk_at dksX0_digest_9 19 rfl rfl)
theorem dX0_digest_231 : decode cX0_digest 231 = .ok (.lload_n 1, 1) := dk_31 (dk_at dksX0_digest_9 22 rfl rfl)
theorem dX0_digest_232 : decode cX0_digest 232 = .ok (.lmul, 1) := dk_105 (dk_at dksX0_digest_9 23 rfl rfl)
theorem dX0_digest_233 : decode cX0_digest 233 = .ok (.aload_n 0, 1) := dk_42 (dk_at dksX0_digest_10 0 rfl rfl)
theorem dX0_digest_234 : decode cX0_digest 234 = .ok (.iload_n 3, 1) := dk_29 (dk_at dksX0_digest_10 1 rfl rfl)
theorem dX0_digest_235 : decode cX0_digest 235 = .ok (.invokevirtual 319, 3) := dk_182 1 63 (dk_at dksX0_digest_10 2 rfl rfl)
theorem dX0_digest_238 : decode cX0_digest 238 = .ok (.i2l, 1) := dk_133 (dk_at dksX0_digest_10 5 rfl rfl)
theorem dX0_digest_239 : decode cX0_digest 239 = .ok (.ladd, 1) := dk_97 (dk_at dksX0_digest_10 6 rfl rfl)
theorem dX0_digest_240 : decode cX0_digest 240 = .ok (.lstore_n 1, 1) := dk_64 (dk_at dksX0_digest_10 7 rfl rfl)
theorem dX0_digest_241 : decode cX0_digest 241 = .ok (.iinc 3 1, 3) := dk_132 3 1 (dk_at dksX0_digest_10 8 rfl rfl)
theorem dX0_digest_244 : decode cX0_digest 244 = .ok (.goto (-21), 3) := dk_167 255 235 (dk_at dksX0_digest_10 11 rfl rfl)
theorem dX0_digest_247 : decode cX0_digest 247 = .ok (.ldc2_w 409, 3) := dk_20 1 153 (dk_at dksX0_digest_10 14 rfl rfl)
theorem dX0_digest_250 : decode cX0_digest 250 = .ok (.lload_n 1, 1) := dk_31 (dk_at dksX0_digest_10 17 rfl rfl)
theorem dX0_digest_251 : decode cX0_digest 251 = .ok (.lmul, 1) := dk_105 (dk_at dksX0_digest_10 18 rfl rfl)
theorem dX0_digest_252 : decode cX0_digest 252 = .ok (.aload_n 0, 1) := dk_42 (dk_at dksX0_digest_10 19 rfl rfl)
theorem dX0_digest_253 : decode cX0_digest 253 = .ok (.invokevirtual 330, 3) := dk_182 1 74 (dk_at dksX0_digest_10 20 rfl rfl)
theorem dX0_digest_256 : decode cX0_digest 256 = .ok (.i2l, 1) := dk_133 (dk_at dksX0_digest_10 23 rfl rfl)
theorem dX0_digest_257 : decode cX0_digest 257 = .ok (.ladd, 1) := dk_97 (dk_at dksX0_digest_11 0 rfl rfl)
theorem dX0_digest_258 : decode cX0_digest 258 = .ok (.lstore_n 1, 1) := dk_64 (dk_at dksX0_digest_11 1 rfl rfl)
theorem dX0_digest_259 : decode cX0_digest 259 = .ok (.iconst 0, 1) := dk_3 (dk_at dksX0_digest_11 2 rfl rfl)
theorem dX0_digest_260 : decode cX0_digest 260 = .ok (.istore_n 3, 1) := dk_62 (dk_at dksX0_digest_11 3 rfl rfl)
theorem dX0_digest_261 : decode cX0_digest 261 = .ok (.iload_n 3, 1) := dk_29 (dk_at dksX0_digest_11 4 rfl rfl)
theorem dX0_digest_262 : decode cX0_digest 262 = .ok (.iconst 2, 1) := dk_5 (dk_at dksX0_digest_11 5 rfl rfl)
theorem dX0_digest_263 : decode cX0_digest 263 = .ok (.if_icmp .ge 26, 3) := dk_162 0 26 (dk_at dksX0_digest_11 6 rfl rfl)
theorem dX0_digest_266 : decode cX0_digest 266 = .ok (.ldc2_w 409, 3) := dk_20 1 153 (dk_at dksX0_digest_11 9 rfl rfl)
theorem dX0_digest_269 : decode cX0_digest 269 = .ok (.lload_n 1, 1) := dk_31 (dk_at dksX0_digest_11 12 rfl rfl)
theorem dX0_digest_270 : decode cX0_digest 270 = .ok (.lmul, 1) := dk_105 (dk_at dksX0_digest_11 13 rfl rfl)
theorem dX0_digest_271 : decode cX0_digest 271 = .ok (.aload_n 0, 1) := dk_42 (dk_at dksX0_digest_11 14 rfl rfl)
theorem dX0_digest_272 : decode cX0_digest 272 = .ok (.bipush 7, 2) := dk_16 7 (dk_at dksX0_digest_11 15 rfl rfl)
theorem dX0_digest_274 : decode cX0_digest 274 = .ok (.bipush 6, 2) := dk_16 6 (dk_at dksX0_digest_11 17 rfl rfl)
theorem dX0_digest_276 : decode cX0_digest 276 = .ok (.iload_n 3, 1) := dk_29 (dk_at dksX0_digest_11 19 rfl rfl)
theorem dX0_digest_277 : decode cX0_digest 277 = .ok (.invokevirtual 383, 3) := dk_182 1 127 (dk_at dksX0_digest_11 20 rfl rfl)
theorem dX0_digest_280 : decode cX0_digest 280 = .ok (.i2l, 1) := dk_133 (dk_at dksX0_digest_11 23 rfl rfl)
theorem dX0_digest_281 : decode cX0_digest 281 = .ok (.ladd, 1) := dk_97 (dk_at dksX0_digest_12 0 rfl rfl)
theorem dX0_digest_282 : decode cX0_digest 282 = .ok (.lstore_n 1, 1) := dk_64 (dk_at dksX0_digest_12 1 rfl rfl)
theorem dX0_digest_283 : decode cX0_digest 283 = .ok (.iinc 3 1, 3) := dk_132 3 1 (dk_at dksX0_digest_12 2 rfl rfl)
theorem dX0_digest_286 : decode cX0_digest 286 = .ok (.goto (-25), 3) := dk_167 255 231 (dk_at dksX0_digest_12 5 rfl rfl)
theorem dX0_digest_289 : decode cX0_digest 289 = .ok (.lload_n 1, 1) := dk_31 (dk_at dksX0_digest_12 8 rfl rfl)
theorem dX0_digest_290 : decode cX0_digest 290 = .ok (.lreturn, 1) := dk_173 (dk_at dksX0_digest_12 9 rfl rfl)
abbrev cX0_tellsPromise : ByteArray := prog_1_method_83_code
def yX0_tellsPromise : MethodName := ⟨RX0, "tellsPromise", "(JI)J"⟩
def dkwX0_tellsPromise_5 : List UInt8 := [132, 6, 1, 167, 255, 230, 22, 4, 173]
abbrev dktX0_tellsPromise_5 : List UInt8 := dkwX0_tellsPromise_5 ++ []
def dkwX0_tellsPromise_4 : List UInt8 := [21, 6, 5, 162, 0, 26, 20, 1, 153, 22, 4, 105, 42, 29, 21, 6, 182, 1, 55, 133, 97, 55, 4]
abbrev dktX0_tellsPromise_4 : List UInt8 := dkwX0_tellsPromise_4 ++ dktX0_tellsPromise_5
def dkwX0_tellsPromise_3 : List UInt8 := [55, 4, 20, 1, 153, 22, 4, 105, 42, 180, 0, 58, 16, 23, 50, 29, 46, 133, 97, 55, 4, 3, 54, 6]
abbrev dktX0_tellsPromise_3 : List UInt8 := dkwX0_tellsPromise_3 ++ dktX0_tellsPromise_4
def dkwX0_tellsPromise_2 : List UInt8 := [132, 6, 1, 167, 255, 218, 20, 1, 153, 22, 4, 105, 42, 180, 0, 58, 16, 8, 50, 29, 46, 133, 97]
abbrev dktX0_tellsPromise_2 : List UInt8 := dkwX0_tellsPromise_2 ++ dktX0_tellsPromise_3
def dkwX0_tellsPromise_1 : List UInt8 := [180, 0, 23, 180, 0, 150, 29, 182, 0, 136, 192, 0, 151, 21, 6, 182, 0, 153, 133, 97, 55, 4]
abbrev dktX0_tellsPromise_1 : List UInt8 := dkwX0_tellsPromise_1 ++ dktX0_tellsPromise_2
def dkwX0_tellsPromise_0 : List UInt8 := [42, 182, 1, 21, 31, 55, 4, 3, 54, 6, 21, 6, 7, 162, 0, 38, 20, 1, 153, 22, 4, 105, 42]
abbrev dktX0_tellsPromise_0 : List UInt8 := dkwX0_tellsPromise_0 ++ dktX0_tellsPromise_1
theorem dksX0_tellsPromise_0 : cX0_tellsPromise.data.toList.drop 0 = dktX0_tellsPromise_0 := by decide +kernel
theorem dksX0_tellsPromise_1 : cX0_tellsPromise.data.toList.drop 23 = dktX0_tellsPromise_1 := dk_seg dksX0_tellsPromise_0 23 rfl rfl
theorem dksX0_tellsPromise_2 : cX0_tellsPromise.data.toList.drop 45 = dktX0_tellsPromise_2 := dk_seg dksX0_tellsPromise_1 22 rfl rfl
theorem dksX0_tellsPromise_3 : cX0_tellsPromise.data.toList.drop 68 = dktX0_tellsPromise_3 := dk_seg dksX0_tellsPromise_2 23 rfl rfl
theorem dksX0_tellsPromise_4 : cX0_tellsPromise.data.toList.drop 92 = dktX0_tellsPromise_4 := dk_seg dksX0_tellsPromise_3 24 rfl rfl
theorem dksX0_tellsPromise_5 : cX0_tellsPromise.data.toList.drop 115 = dktX0_tellsPromise_5 := dk_seg dksX0_tellsPromise_4 23 rfl rfl
theorem dX0_tellsPromise_0 : decode cX0_tellsPromise 0 = .ok (.aload_n 0, 1) := dk_42 (dk_at dksX0_tellsPromise_0 0 rfl rfl)
theorem dX0_tellsPromise_1 : decode cX0_tellsPromise 1 = .ok (.invokevirtual 277, 3) := dk_182 1 21 (dk_at dksX0_tellsPromise_0 1 rfl rfl)
theorem dX0_tellsPromise_4 : decode cX0_tellsPromise 4 = .ok (.lload_n 1, 1) := dk_31 (dk_at dksX0_tellsPromise_0 4 rfl rfl)
theorem dX0_tellsPromise_5 : decode cX0_tellsPromise 5 = .ok (.lstore 4, 2) := dk_55 4 (dk_at dksX0_tellsPromise_0 5 rfl rfl)
theorem dX0_tellsPromise_7 : decode cX0_tellsPromise 7 = .ok (.iconst 0, 1) := dk_3 (dk_at dksX0_tellsPromise_0 7 rfl rfl)
theorem dX0_tellsPromise_8 : decode cX0_tellsPromise 8 = .ok (.istore 6, 2) := dk_54 6 (dk_at dksX0_tellsPromise_0 8 rfl rfl)
theorem dX0_tellsPromise_10 : decode cX0_tellsPromise 10 = .ok (.iload 6, 2) := dk_21 6 (dk_at dksX0_tellsPromise_0 10 rfl rfl)
theorem dX0_tellsPromise_12 : decode cX0_tellsPromise 12 = .ok (.iconst 4, 1) := dk_7 (dk_at dksX0_tellsPromise_0 12 rfl rfl)
theorem dX0_tellsPromise_13 : decode cX0_tellsPromise 13 = .ok (.if_icmp .ge 38, 3) := dk_162 0 38 (dk_at dksX0_tellsPromise_0 13 rfl rfl)
theorem dX0_tellsPromise_16 : decode cX0_tellsPromise 16 = .ok (.ldc2_w 409, 3) := dk_20 1 153 (dk_at dksX0_tellsPromise_0 16 rfl rfl)
theorem dX0_tellsPromise_19 : decode cX0_tellsPromise 19 = .ok (.lload 4, 2) := dk_22 4 (dk_at dksX0_tellsPromise_0 19 rfl rfl)
theorem dX0_tellsPromise_21 : decode cX0_tellsPromise 21 = .ok (.lmul, 1) := dk_105 (dk_at dksX0_tellsPromise_0 21 rfl rfl)
theorem dX0_tellsPromise_22 : decode cX0_tellsPromise 22 = .ok (.aload_n 0, 1) := dk_42 (dk_at dksX0_tellsPromise_0 22 rfl rfl)
theorem dX0_tellsPromise_23 : decode cX0_tellsPromise 23 = .ok (.getfield 23, 3) := dk_180 0 23 (dk_at dksX0_tellsPromise_1 0 rfl rfl)
theorem dX0_tellsPromise_26 : decode cX0_tellsPromise 26 = .ok (.getfield 150, 3) := dk_180 0 150 (dk_at dksX0_tellsPromise_1 3 rfl rfl)
theorem dX0_tellsPromise_29 : decode cX0_tellsPromise 29 = .ok (.iload_n 3, 1) := dk_29 (dk_at dksX0_tellsPromise_1 6 rfl rfl)
theorem dX0_tellsPromise_30 : decode cX0_tellsPromise 30 = .ok (.invokevirtual 136, 3) := dk_182 0 136 (dk_at dksX0_tellsPromise_1 7 rfl rfl)
theorem dX0_tellsPromise_33 : decode cX0_tellsPromise 33 = .ok (.checkcast 151, 3) := dk_192 0 151 (dk_at dksX0_tellsPromise_1 10 rfl rfl)
theorem dX0_tellsPromise_36 : decode cX0_tellsPromise 36 = .ok (.iload 6, 2) := dk_21 6 (dk_at dksX0_tellsPromise_1 13 rfl rfl)
theorem dX0_tellsPromise_38 : decode cX0_tellsPromise 38 = .ok (.invokevirtual 153, 3) := dk_182 0 153 (dk_at dksX0_tellsPromise_1 15 rfl rfl)
theorem dX0_tellsPromise_41 : decode cX0_tellsPromise 41 = .ok (.i2l, 1) := dk_133 (dk_at dksX0_tellsPromise_1 18 rfl rfl)
theorem dX0_tellsPromise_42 : decode cX0_tellsPromise 42 = .ok (.ladd, 1) := dk_97 (dk_at dksX0_tellsPromise_1 19 rfl rfl)
theorem dX0_tellsPromise_43 : decode cX0_tellsPromise 43 = .ok (.lstore 4, 2) := dk_55 4 (dk_at dksX0_tellsPromise_1 20 rfl rfl)
theorem dX0_tellsPromise_45 : decode cX0_tellsPromise 45 = .ok (.iinc 6 1, 3) := dk_132 6 1 (dk_at dksX0_tellsPromise_2 0 rfl rfl)
theorem dX0_tellsPromise_48 : decode cX0_tellsPromise 48 = .ok (.goto (-38), 3) := dk_167 255 218 (dk_at dksX0_tellsPromise_2 3 rfl rfl)
theorem dX0_tellsPromise_51 : decode cX0_tellsPromise 51 = .ok (.ldc2_w 409, 3) := dk_20 1 153 (dk_at dksX0_tellsPromise_2 6 rfl rfl)
theorem dX0_tellsPromise_54 : decode cX0_tellsPromise 54 = .ok (.lload 4, 2) := dk_22 4 (dk_at dksX0_tellsPromise_2 9 rfl rfl)
theorem dX0_tellsPromise_56 : decode cX0_tellsPromise 56 = .ok (.lmul, 1) := dk_105 (dk_at dksX0_tellsPromise_2 11 rfl rfl)
theorem dX0_tellsPromise_57 : decode cX0_tellsPromise 57 = .ok (.aload_n 0, 1) := dk_42 (dk_at dksX0_tellsPromise_2 12 rfl rfl)
theorem dX0_tellsPromise_58 : decode cX0_tellsPromise 58 = .ok (.getfield 58, 3) := dk_180 0 58 (dk_at dksX0_tellsPromise_2 13 rfl rfl)
theorem dX0_tellsPromise_61 : decode cX0_tellsPromise 61 = .ok (.bipush 8, 2) := dk_16 8 (dk_at dksX0_tellsPromise_2 16 rfl rfl)
theorem dX0_tellsPromise_63 : decode cX0_tellsPromise 63 = .ok (.aaload, 1) := dk_50 (dk_at dksX0_tellsPromise_2 18 rfl rfl)
theorem dX0_tellsPromise_64 : decode cX0_tellsPromise 64 = .ok (.iload_n 3, 1) := dk_29 (dk_at dksX0_tellsPromise_2 19 rfl rfl)
theorem dX0_tellsPromise_65 : decode cX0_tellsPromise 65 = .ok (.iaload, 1) := dk_46 (dk_at dksX0_tellsPromise_2 20 rfl rfl)
theorem dX0_tellsPromise_66 : decode cX0_tellsPromise 66 = .ok (.i2l, 1) := dk_133 (dk_at dksX0_tellsPromise_2 21 rfl rfl)
theorem dX0_tellsPromise_67 : decode cX0_tellsPromise 67 = .ok (.ladd, 1) := dk_97 (dk_at dksX0_tellsPromise_2 22 rfl rfl)
theorem dX0_tellsPromise_68 : decode cX0_tellsPromise 68 = .ok (.lstore 4, 2) := dk_55 4 (dk_at dksX0_tellsPromise_3 0 rfl rfl)
theorem dX0_tellsPromise_70 : decode cX0_tellsPromise 70 = .ok (.ldc2_w 409, 3) := dk_20 1 153 (dk_at dksX0_tellsPromise_3 2 rfl rfl)
theorem dX0_tellsPromise_73 : decode cX0_tellsPromise 73 = .ok (.lload 4, 2) := dk_22 4 (dk_at dksX0_tellsPromise_3 5 rfl rfl)
theorem dX0_tellsPromise_75 : decode cX0_tellsPromise 75 = .ok (.lmul, 1) := dk_105 (dk_at dksX0_tellsPromise_3 7 rfl rfl)
theorem dX0_tellsPromise_76 : decode cX0_tellsPromise 76 = .ok (.aload_n 0, 1) := dk_42 (dk_at dksX0_tellsPromise_3 8 rfl rfl)
theorem dX0_tellsPromise_77 : decode cX0_tellsPromise 77 = .ok (.getfield 58, 3) := dk_180 0 58 (dk_at dksX0_tellsPromise_3 9 rfl rfl)
theorem dX0_tellsPromise_80 : decode cX0_tellsPromise 80 = .ok (.bipush 23, 2) := dk_16 23 (dk_at dksX0_tellsPromise_3 12 rfl rfl)
theorem dX0_tellsPromise_82 : decode cX0_tellsPromise 82 = .ok (.aaload, 1) := dk_50 (dk_at dksX0_tellsPromise_3 14 rfl rfl)
theorem dX0_tellsPromise_83 : decode cX0_tellsPromise 83 = .ok (.iload_n 3, 1) := dk_29 (dk_at dksX0_tellsPromise_3 15 rfl rfl)
theorem dX0_tellsPromise_84 : decode cX0_tellsPromise 84 = .ok (.iaload, 1) := dk_46 (dk_at dksX0_tellsPromise_3 16 rfl rfl)
theorem dX0_tellsPromise_85 : decode cX0_tellsPromise 85 = .ok (.i2l, 1) := dk_133 (dk_at dksX0_tellsPromise_3 17 rfl rfl)
theorem dX0_tellsPromise_86 : decode cX0_tellsPromise 86 = .ok (.ladd, 1) := dk_97 (dk_at dksX0_tellsPromise_3 18 rfl rfl)
theorem dX0_tellsPromise_87 : decode cX0_tellsPromise 87 = .ok (.lstore 4, 2) := dk_55 4 (dk_at dksX0_tellsPromise_3 19 rfl rfl)
theorem dX0_tellsPromise_89 : decode cX0_tellsPromise 89 = .ok (.iconst 0, 1) := dk_3 (dk_at dksX0_tellsPromise_3 21 rfl rfl)
theorem dX0_tellsPromise_90 : decode cX0_tellsPromise 90 = .ok (.istore 6, 2) := dk_54 6 (dk_at dksX0_tellsPromise_3 22 rfl rfl)
theorem dX0_tellsPromise_92 : decode cX0_tellsPromise 92 = .ok (.iload 6, 2) := dk_21 6 (dk_at dksX0_tellsPromise_4 0 rfl rfl)
theorem dX0_tellsPromise_94 : decode cX0_tellsPromise 94 = .ok (.iconst 2, 1) := dk_5 (dk_at dksX0_tellsPromise_4 2 rfl rfl)
theorem dX0_tellsPromise_95 : decode cX0_tellsPromise 95 = .ok (.if_icmp .ge 26, 3) := dk_162 0 26 (dk_at dksX0_tellsPromise_4 3 rfl rfl)
theorem dX0_tellsPromise_98 : decode cX0_tellsPromise 98 = .ok (.ldc2_w 409, 3) := dk_20 1 153 (dk_at dksX0_tellsPromise_4 6 rfl rfl)
theorem dX0_tellsPromise_101 : decode cX0_tellsPromise 101 = .ok (.lload 4, 2) := dk_22 4 (dk_at dksX0_tellsPromise_4 9 rfl rfl)
theorem dX0_tellsPromise_103 : decode cX0_tellsPromise 103 = .ok (.lmul, 1) := dk_105 (dk_at dksX0_tellsPromise_4 11 rfl rfl)
theorem dX0_tellsPromise_104 : decode cX0_tellsPromise 104 = .ok (.aload_n 0, 1) := dk_42 (dk_at dksX0_tellsPromise_4 12 rfl rfl)
theorem dX0_tellsPromise_105 : decode cX0_tellsPromise 105 = .ok (.iload_n 3, 1) := dk_29 (dk_at dksX0_tellsPromise_4 13 rfl rfl)
theorem dX0_tellsPromise_106 : decode cX0_tellsPromise 106 = .ok (.iload 6, 2) := dk_21 6 (dk_at dksX0_tellsPromise_4 14 rfl rfl)
theorem dX0_tellsPromise_108 : decode cX0_tellsPromise 108 = .ok (.invokevirtual 311, 3) := dk_182 1 55 (dk_at dksX0_tellsPromise_4 16 rfl rfl)
theorem dX0_tellsPromise_111 : decode cX0_tellsPromise 111 = .ok (.i2l, 1) := dk_133 (dk_at dksX0_tellsPromise_4 19 rfl rfl)
theorem dX0_tellsPromise_112 : decode cX0_tellsPromise 112 = .ok (.ladd, 1) := dk_97 (dk_at dksX0_tellsPromise_4 20 rfl rfl)
theorem dX0_tellsPromise_113 : decode cX0_tellsPromise 113 = .ok (.lstore 4, 2) := dk_55 4 (dk_at dksX0_tellsPromise_4 21 rfl rfl)
theorem dX0_tellsPromise_115 : decode cX0_tellsPromise 115 = .ok (.iinc 6 1, 3) := dk_132 6 1 (dk_at dksX0_tellsPromise_5 0 rfl rfl)
theorem dX0_tellsPromise_118 : decode cX0_tellsPromise 118 = .ok (.goto (-26), 3) := dk_167 255 230 (dk_at dksX0_tellsPromise_5 3 rfl rfl)
theorem dX0_tellsPromise_121 : decode cX0_tellsPromise 121 = .ok (.lload 4, 2) := dk_22 4 (dk_at dksX0_tellsPromise_5 6 rfl rfl)
theorem dX0_tellsPromise_123 : decode cX0_tellsPromise 123 = .ok (.lreturn, 1) := dk_173 (dk_at dksX0_tellsPromise_5 8 rfl rfl)
abbrev cX0_tellsPerson : ByteArray := prog_1_method_85_code
def yX0_tellsPerson : MethodName := ⟨RX0, "tellsPerson", "(JI)J"⟩
def dkwX0_tellsPerson_7 : List UInt8 := [29, 16, 14, 21, 6, 182, 1, 107, 97, 55, 4, 132, 6, 1, 167, 255, 228, 22, 4, 173]
abbrev dktX0_tellsPerson_7 : List UInt8 := dkwX0_tellsPerson_7 ++ []
def dkwX0_tellsPerson_6 : List UInt8 := [182, 1, 94, 133, 97, 55, 4, 3, 54, 6, 21, 6, 5, 162, 0, 28, 20, 1, 153, 22, 4, 105, 42, 8]
abbrev dktX0_tellsPerson_6 : List UInt8 := dkwX0_tellsPerson_6 ++ dktX0_tellsPerson_7
def dkwX0_tellsPerson_5 : List UInt8 := [21, 6, 182, 1, 88, 133, 97, 55, 4, 132, 6, 1, 167, 255, 230, 20, 1, 153, 22, 4, 105, 42, 29]
abbrev dktX0_tellsPerson_5 : List UInt8 := dkwX0_tellsPerson_5 ++ dktX0_tellsPerson_6
def dkwX0_tellsPerson_4 : List UInt8 := [182, 1, 49, 133, 97, 55, 4, 3, 54, 6, 21, 6, 5, 162, 0, 26, 20, 1, 153, 22, 4, 105, 42, 29]
abbrev dktX0_tellsPerson_4 : List UInt8 := dkwX0_tellsPerson_4 ++ dktX0_tellsPerson_5
def dkwX0_tellsPerson_3 : List UInt8 := [16, 14, 29, 182, 1, 155, 16, 23, 29, 182, 1, 155, 55, 4, 20, 1, 153, 22, 4, 105, 42, 29, 16, 14]
abbrev dktX0_tellsPerson_3 : List UInt8 := dkwX0_tellsPerson_3 ++ dktX0_tellsPerson_4
def dkwX0_tellsPerson_2 : List UInt8 := [132, 6, 1, 167, 255, 218, 42, 42, 42, 42, 22, 4, 3, 29, 182, 1, 155, 16, 6, 29, 182, 1, 155]
abbrev dktX0_tellsPerson_2 : List UInt8 := dkwX0_tellsPerson_2 ++ dktX0_tellsPerson_3
def dkwX0_tellsPerson_1 : List UInt8 := [180, 0, 14, 180, 0, 133, 29, 182, 0, 136, 192, 0, 140, 21, 6, 182, 0, 142, 133, 97, 55, 4]
abbrev dktX0_tellsPerson_1 : List UInt8 := dkwX0_tellsPerson_1 ++ dktX0_tellsPerson_2
def dkwX0_tellsPerson_0 : List UInt8 := [42, 182, 1, 21, 31, 55, 4, 3, 54, 6, 21, 6, 5, 162, 0, 38, 20, 1, 153, 22, 4, 105, 42]
abbrev dktX0_tellsPerson_0 : List UInt8 := dkwX0_tellsPerson_0 ++ dktX0_tellsPerson_1
theorem dksX0_tellsPerson_0 : cX0_tellsPerson.data.toList.drop 0 = dktX0_tellsPerson_0 := by decide +kernel
theorem dksX0_tellsPerson_1 : cX0_tellsPerson.data.toList.drop 23 = dktX0_tellsPerson_1 := dk_seg dksX0_tellsPerson_0 23 rfl rfl
theorem dksX0_tellsPerson_2 : cX0_tellsPerson.data.toList.drop 45 = dktX0_tellsPerson_2 := dk_seg dksX0_tellsPerson_1 22 rfl rfl
theorem dksX0_tellsPerson_3 : cX0_tellsPerson.data.toList.drop 68 = dktX0_tellsPerson_3 := dk_seg dksX0_tellsPerson_2 23 rfl rfl
theorem dksX0_tellsPerson_4 : cX0_tellsPerson.data.toList.drop 92 = dktX0_tellsPerson_4 := dk_seg dksX0_tellsPerson_3 24 rfl rfl
theorem dksX0_tellsPerson_5 : cX0_tellsPerson.data.toList.drop 116 = dktX0_tellsPerson_5 := dk_seg dksX0_tellsPerson_4 24 rfl rfl
theorem dksX0_tellsPerson_6 : cX0_tellsPerson.data.toList.drop 139 = dktX0_tellsPerson_6 := dk_seg dksX0_tellsPerson_5 23 rfl rfl
theorem dksX0_tellsPerson_7 : cX0_tellsPerson.data.toList.drop 163 = dktX0_tellsPerson_7 := dk_seg dksX0_tellsPerson_6 24 rfl rfl
theorem dX0_tellsPerson_0 : decode cX0_tellsPerson 0 = .ok (.aload_n 0, 1) := dk_42 (dk_at dksX0_tellsPerson_0 0 rfl rfl)
theorem dX0_tellsPerson_1 : decode cX0_tellsPerson 1 = .ok (.invokevirtual 277, 3) := dk_182 1 21 (dk_at dksX0_tellsPerson_0 1 rfl rfl)
theorem dX0_tellsPerson_4 : decode cX0_tellsPerson 4 = .ok (.lload_n 1, 1) := dk_31 (dk_at dksX0_tellsPerson_0 4 rfl rfl)
theorem dX0_tellsPerson_5 : decode cX0_tellsPerson 5 = .ok (.lstore 4, 2) := dk_55 4 (dk_at dksX0_tellsPerson_0 5 rfl rfl)
theorem dX0_tellsPerson_7 : decode cX0_tellsPerson 7 = .ok (.iconst 0, 1) := dk_3 (dk_at dksX0_tellsPerson_0 7 rfl rfl)
theorem dX0_tellsPerson_8 : decode cX0_tellsPerson 8 = .ok (.istore 6, 2) := dk_54 6 (dk_at dksX0_tellsPerson_0 8 rfl rfl)
theorem dX0_tellsPerson_10 : decode cX0_tellsPerson 10 = .ok (.iload 6, 2) := dk_21 6 (dk_at dksX0_tellsPerson_0 10 rfl rfl)
theorem dX0_tellsPerson_12 : decode cX0_tellsPerson 12 = .ok (.iconst 2, 1) := dk_5 (dk_at dksX0_tellsPerson_0 12 rfl rfl)
theorem dX0_tellsPerson_13 : decode cX0_tellsPerson 13 = .ok (.if_icmp .ge 38, 3) := dk_162 0 38 (dk_at dksX0_tellsPerson_0 13 rfl rfl)
theorem dX0_tellsPerson_16 : decode cX0_tellsPerson 16 = .ok (.ldc2_w 409, 3) := dk_20 1 153 (dk_at dksX0_tellsPerson_0 16 rfl rfl)
theorem dX0_tellsPerson_19 : decode cX0_tellsPerson 19 = .ok (.lload 4, 2) := dk_22 4 (dk_at dksX0_tellsPerson_0 19 rfl rfl)
theorem dX0_tellsPerson_21 : decode cX0_tellsPerson 21 = .ok (.lmul, 1) := dk_105 (dk_at dksX0_tellsPerson_0 21 rfl rfl)
theorem dX0_tellsPerson_22 : decode cX0_tellsPerson 22 = .ok (.aload_n 0, 1) := dk_42 (dk_at dksX0_tellsPerson_0 22 rfl rfl)
theorem dX0_tellsPerson_23 : decode cX0_tellsPerson 23 = .ok (.getfield 14, 3) := dk_180 0 14 (dk_at dksX0_tellsPerson_1 0 rfl rfl)
theorem dX0_tellsPerson_26 : decode cX0_tellsPerson 26 = .ok (.getfield 133, 3) := dk_180 0 133 (dk_at dksX0_tellsPerson_1 3 rfl rfl)
theorem dX0_tellsPerson_29 : decode cX0_tellsPerson 29 = .ok (.iload_n 3, 1) := dk_29 (dk_at dksX0_tellsPerson_1 6 rfl rfl)
theorem dX0_tellsPerson_30 : decode cX0_tellsPerson 30 = .ok (.invokevirtual 136, 3) := dk_182 0 136 (dk_at dksX0_tellsPerson_1 7 rfl rfl)
theorem dX0_tellsPerson_33 : decode cX0_tellsPerson 33 = .ok (.checkcast 140, 3) := dk_192 0 140 (dk_at dksX0_tellsPerson_1 10 rfl rfl)
theorem dX0_tellsPerson_36 : decode cX0_tellsPerson 36 = .ok (.iload 6, 2) := dk_21 6 (dk_at dksX0_tellsPerson_1 13 rfl rfl)
theorem dX0_tellsPerson_38 : decode cX0_tellsPerson 38 = .ok (.invokevirtual 142, 3) := dk_182 0 142 (dk_at dksX0_tellsPerson_1 15 rfl rfl)
theorem dX0_tellsPerson_41 : decode cX0_tellsPerson 41 = .ok (.i2l, 1) := dk_133 (dk_at dksX0_tellsPerson_1 18 rfl rfl)
theorem dX0_tellsPerson_42 : decode cX0_tellsPerson 42 = .ok (.ladd, 1) := dk_97 (dk_at dksX0_tellsPerson_1 19 rfl rfl)
theorem dX0_tellsPerson_43 : decode cX0_tellsPerson 43 = .ok (.lstore 4, 2) := dk_55 4 (dk_at dksX0_tellsPerson_1 20 rfl rfl)
theorem dX0_tellsPerson_45 : decode cX0_tellsPerson 45 = .ok (.iinc 6 1, 3) := dk_132 6 1 (dk_at dksX0_tellsPerson_2 0 rfl rfl)
theorem dX0_tellsPerson_48 : decode cX0_tellsPerson 48 = .ok (.goto (-38), 3) := dk_167 255 218 (dk_at dksX0_tellsPerson_2 3 rfl rfl)
theorem dX0_tellsPerson_51 : decode cX0_tellsPerson 51 = .ok (.aload_n 0, 1) := dk_42 (dk_at dksX0_tellsPerson_2 6 rfl rfl)
theorem dX0_tellsPerson_52 : decode cX0_tellsPerson 52 = .ok (.aload_n 0, 1) := dk_42 (dk_at dksX0_tellsPerson_2 7 rfl rfl)
theorem dX0_tellsPerson_53 : decode cX0_tellsPerson 53 = .ok (.aload_n 0, 1) := dk_42 (dk_at dksX0_tellsPerson_2 8 rfl rfl)
theorem dX0_tellsPerson_54 : decode cX0_tellsPerson 54 = .ok (.aload_n 0, 1) := dk_42 (dk_at dksX0_tellsPerson_2 9 rfl rfl)
theorem dX0_tellsPerson_55 : decode cX0_tellsPerson 55 = .ok (.lload 4, 2) := dk_22 4 (dk_at dksX0_tellsPerson_2 10 rfl rfl)
theorem dX0_tellsPerson_57 : decode cX0_tellsPerson 57 = .ok (.iconst 0, 1) := dk_3 (dk_at dksX0_tellsPerson_2 12 rfl rfl)
theorem dX0_tellsPerson_58 : decode cX0_tellsPerson 58 = .ok (.iload_n 3, 1) := dk_29 (dk_at dksX0_tellsPerson_2 13 rfl rfl)
theorem dX0_tellsPerson_59 : decode cX0_tellsPerson 59 = .ok (.invokevirtual 411, 3) := dk_182 1 155 (dk_at dksX0_tellsPerson_2 14 rfl rfl)
theorem dX0_tellsPerson_62 : decode cX0_tellsPerson 62 = .ok (.bipush 6, 2) := dk_16 6 (dk_at dksX0_tellsPerson_2 17 rfl rfl)
theorem dX0_tellsPerson_64 : decode cX0_tellsPerson 64 = .ok (.iload_n 3, 1) := dk_29 (dk_at dksX0_tellsPerson_2 19 rfl rfl)
theorem dX0_tellsPerson_65 : decode cX0_tellsPerson 65 = .ok (.invokevirtual 411, 3) := dk_182 1 155 (dk_at dksX0_tellsPerson_2 20 rfl rfl)
theorem dX0_tellsPerson_68 : decode cX0_tellsPerson 68 = .ok (.bipush 14, 2) := dk_16 14 (dk_at dksX0_tellsPerson_3 0 rfl rfl)
theorem dX0_tellsPerson_70 : decode cX0_tellsPerson 70 = .ok (.iload_n 3, 1) := dk_29 (dk_at dksX0_tellsPerson_3 2 rfl rfl)
theorem dX0_tellsPerson_71 : decode cX0_tellsPerson 71 = .ok (.invokevirtual 411, 3) := dk_182 1 155 (dk_at dksX0_tellsPerson_3 3 rfl rfl)
theorem dX0_tellsPerson_74 : decode cX0_tellsPerson 74 = .ok (.bipush 23, 2) := dk_16 23 (dk_at dksX0_tellsPerson_3 6 rfl rfl)
theorem dX0_tellsPerson_76 : decode cX0_tellsPerson 76 = .ok (.iload_n 3, 1) := dk_29 (dk_at dksX0_tellsPerson_3 8 rfl rfl)
theorem dX0_tellsPerson_77 : decode cX0_tellsPerson 77 = .ok (.invokevirtual 411, 3) := dk_182 1 155 (dk_at dksX0_tellsPerson_3 9 rfl rfl)
theorem dX0_tellsPerson_80 : decode cX0_tellsPerson 80 = .ok (.lstore 4, 2) := dk_55 4 (dk_at dksX0_tellsPerson_3 12 rfl rfl)
theorem dX0_tellsPerson_82 : decode cX0_tellsPerson 82 = .ok (.ldc2_w 409, 3) := dk_20 1 153 (dk_at dksX0_tellsPerson_3 14 rfl rfl)
theorem dX0_tellsPerson_85 : decode cX0_tellsPerson 85 = .ok (.lload 4, 2) := dk_22 4 (dk_at dksX0_tellsPerson_3 17 rfl rfl)
theorem dX0_tellsPerson_87 : decode cX0_tellsPerson 87 = .ok (.lmul, 1) := dk_105 (dk_at dksX0_tellsPerson_3 19 rfl rfl)
theorem dX0_tellsPerson_88 : decode cX0_tellsPerson 88 = .ok (.aload_n 0, 1) := dk_42 (dk_at dksX0_tellsPerson_3 20 rfl rfl)
theorem dX0_tellsPerson_89 : decode cX0_tellsPerson 89 = .ok (.iload_n 3, 1) := dk_29 (dk_at dksX0_tellsPerson_3 21 rfl rfl)
theorem dX0_tellsPerson_90 : decode cX0_tellsPerson 90 = .ok (.bipush 14, 2) := dk_16 14 (dk_at dksX0_tellsPerson_3 22 rfl rfl)
theorem dX0_tellsPerson_92 : decode cX0_tellsPerson 92 = .ok (.invokevirtual 305, 3) := dk_182 1 49 (dk_at dksX0_tellsPerson_4 0 rfl rfl)
theorem dX0_tellsPerson_95 : decode cX0_tellsPerson 95 = .ok (.i2l, 1) := dk_133 (dk_at dksX0_tellsPerson_4 3 rfl rfl)
theorem dX0_tellsPerson_96 : decode cX0_tellsPerson 96 = .ok (.ladd, 1) := dk_97 (dk_at dksX0_tellsPerson_4 4 rfl rfl)
theorem dX0_tellsPerson_97 : decode cX0_tellsPerson 97 = .ok (.lstore 4, 2) := dk_55 4 (dk_at dksX0_tellsPerson_4 5 rfl rfl)
theorem dX0_tellsPerson_99 : decode cX0_tellsPerson 99 = .ok (.iconst 0, 1) := dk_3 (dk_at dksX0_tellsPerson_4 7 rfl rfl)
theorem dX0_tellsPerson_100 : decode cX0_tellsPerson 100 = .ok (.istore 6, 2) := dk_54 6 (dk_at dksX0_tellsPerson_4 8 rfl rfl)
theorem dX0_tellsPerson_102 : decode cX0_tellsPerson 102 = .ok (.iload 6, 2) := dk_21 6 (dk_at dksX0_tellsPerson_4 10 rfl rfl)
theorem dX0_tellsPerson_104 : decode cX0_tellsPerson 104 = .ok (.iconst 2, 1) := dk_5 (dk_at dksX0_tellsPerson_4 12 rfl rfl)
theorem dX0_tellsPerson_105 : decode cX0_tellsPerson 105 = .ok (.if_icmp .ge 26, 3) := dk_162 0 26 (dk_at dksX0_tellsPerson_4 13 rfl rfl)
theorem dX0_tellsPerson_108 : decode cX0_tellsPerson 108 = .ok (.ldc2_w 409, 3) := dk_20 1 153 (dk_at dksX0_tellsPerson_4 16 rfl rfl)
theorem dX0_tellsPerson_111 : decode cX0_tellsPerson 111 = .ok (.lload 4, 2) := dk_22 4 (dk_at dksX0_tellsPerson_4 19 rfl rfl)
theorem dX0_tellsPerson_113 : decode cX0_tellsPerson 113 = .ok (.lmul, 1) := dk_105 (dk_at dksX0_tellsPerson_4 21 rfl rfl)
theorem dX0_tellsPerson_114 : decode cX0_tellsPerson 114 = .ok (.aload_n 0, 1) := dk_42 (dk_at dksX0_tellsPerson_4 22 rfl rfl)
theorem dX0_tellsPerson_115 : decode cX0_tellsPerson 115 = .ok (.iload_n 3, 1) := dk_29 (dk_at dksX0_tellsPerson_4 23 rfl rfl)
theorem dX0_tellsPerson_116 : decode cX0_tellsPerson 116 = .ok (.iload 6, 2) := dk_21 6 (dk_at dksX0_tellsPerson_5 0 rfl rfl)
theorem dX0_tellsPerson_118 : decode cX0_tellsPerson 118 = .ok (.invokevirtual 344, 3) := dk_182 1 88 (dk_at dksX0_tellsPerson_5 2 rfl rfl)
theorem dX0_tellsPerson_121 : decode cX0_tellsPerson 121 = .ok (.i2l, 1) := dk_133 (dk_at dksX0_tellsPerson_5 5 rfl rfl)
theorem dX0_tellsPerson_122 : decode cX0_tellsPerson 122 = .ok (.ladd, 1) := dk_97 (dk_at dksX0_tellsPerson_5 6 rfl rfl)
theorem dX0_tellsPerson_123 : decode cX0_tellsPerson 123 = .ok (.lstore 4, 2) := dk_55 4 (dk_at dksX0_tellsPerson_5 7 rfl rfl)
theorem dX0_tellsPerson_125 : decode cX0_tellsPerson 125 = .ok (.iinc 6 1, 3) := dk_132 6 1 (dk_at dksX0_tellsPerson_5 9 rfl rfl)
theorem dX0_tellsPerson_128 : decode cX0_tellsPerson 128 = .ok (.goto (-26), 3) := dk_167 255 230 (dk_at dksX0_tellsPerson_5 12 rfl rfl)
theorem dX0_tellsPerson_131 : decode cX0_tellsPerson 131 = .ok (.ldc2_w 409, 3) := dk_20 1 153 (dk_at dksX0_tellsPerson_5 15 rfl rfl)
theorem dX0_tellsPerson_134 : decode cX0_tellsPerson 134 = .ok (.lload 4, 2) := dk_22 4 (dk_at dksX0_tellsPerson_5 18 rfl rfl)
theorem dX0_tellsPerson_136 : decode cX0_tellsPerson 136 = .ok (.lmul, 1) := dk_105 (dk_at dksX0_tellsPerson_5 20 rfl rfl)
theorem dX0_tellsPerson_137 : decode cX0_tellsPerson 137 = .ok (.aload_n 0, 1) := dk_42 (dk_at dksX0_tellsPerson_5 21 rfl rfl)
theorem dX0_tellsPerson_138 : decode cX0_tellsPerson 138 = .ok (.iload_n 3, 1) := dk_29 (dk_at dksX0_tellsPerson_5 22 rfl rfl)
theorem dX0_tellsPerson_139 : decode cX0_tellsPerson 139 = .ok (.invokevirtual 350, 3) := dk_182 1 94 (dk_at dksX0_tellsPerson_6 0 rfl rfl)
theorem dX0_tellsPerson_142 : decode cX0_tellsPerson 142 = .ok (.i2l, 1) := dk_133 (dk_at dksX0_tellsPerson_6 3 rfl rfl)
theorem dX0_tellsPerson_143 : decode cX0_tellsPerson 143 = .ok (.ladd, 1) := dk_97 (dk_at dksX0_tellsPerson_6 4 rfl rfl)
theorem dX0_tellsPerson_144 : decode cX0_tellsPerson 144 = .ok (.lstore 4, 2) := dk_55 4 (dk_at dksX0_tellsPerson_6 5 rfl rfl)
theorem dX0_tellsPerson_146 : decode cX0_tellsPerson 146 = .ok (.iconst 0, 1) := dk_3 (dk_at dksX0_tellsPerson_6 7 rfl rfl)
theorem dX0_tellsPerson_147 : decode cX0_tellsPerson 147 = .ok (.istore 6, 2) := dk_54 6 (dk_at dksX0_tellsPerson_6 8 rfl rfl)
theorem dX0_tellsPerson_149 : decode cX0_tellsPerson 149 = .ok (.iload 6, 2) := dk_21 6 (dk_at dksX0_tellsPerson_6 10 rfl rfl)
theorem dX0_tellsPerson_151 : decode cX0_tellsPerson 151 = .ok (.iconst 2, 1) := dk_5 (dk_at dksX0_tellsPerson_6 12 rfl rfl)
theorem dX0_tellsPerson_152 : decode cX0_tellsPerson 152 = .ok (.if_icmp .ge 28, 3) := dk_162 0 28 (dk_at dksX0_tellsPerson_6 13 rfl rfl)
theorem dX0_tellsPerson_155 : decode cX0_tellsPerson 155 = .ok (.ldc2_w 409, 3) := dk_20 1 153 (dk_at dksX0_tellsPerson_6 16 rfl rfl)
theorem dX0_tellsPerson_158 : decode cX0_tellsPerson 158 = .ok (.lload 4, 2) := dk_22 4 (dk_at dksX0_tellsPerson_6 19 rfl rfl)
theorem dX0_tellsPerson_160 : decode cX0_tellsPerson 160 = .ok (.lmul, 1) := dk_105 (dk_at dksX0_tellsPerson_6 21 rfl rfl)
theorem dX0_tellsPerson_161 : decode cX0_tellsPerson 161 = .ok (.aload_n 0, 1) := dk_42 (dk_at dksX0_tellsPerson_6 22 rfl rfl)
theorem dX0_tellsPerson_162 : decode cX0_tellsPerson 162 = .ok (.iconst 5, 1) := dk_8 (dk_at dksX0_tellsPerson_6 23 rfl rfl)
theorem dX0_tellsPerson_163 : decode cX0_tellsPerson 163 = .ok (.iload_n 3, 1) := dk_29 (dk_at dksX0_tellsPerson_7 0 rfl rfl)
theorem dX0_tellsPerson_164 : decode cX0_tellsPerson 164 = .ok (.bipush 14, 2) := dk_16 14 (dk_at dksX0_tellsPerson_7 1 rfl rfl)
theorem dX0_tellsPerson_166 : decode cX0_tellsPerson 166 = .ok (.iload 6, 2) := dk_21 6 (dk_at dksX0_tellsPerson_7 3 rfl rfl)
theorem dX0_tellsPerson_168 : decode cX0_tellsPerson 168 = .ok (.invokevirtual 363, 3) := dk_182 1 107 (dk_at dksX0_tellsPerson_7 5 rfl rfl)
theorem dX0_tellsPerson_171 : decode cX0_tellsPerson 171 = .ok (.ladd, 1) := dk_97 (dk_at dksX0_tellsPerson_7 8 rfl rfl)
theorem dX0_tellsPerson_172 : decode cX0_tellsPerson 172 = .ok (.lstore 4, 2) := dk_55 4 (dk_at dksX0_tellsPerson_7 9 rfl rfl)
theorem dX0_tellsPerson_174 : decode cX0_tellsPerson 174 = .ok (.iinc 6 1, 3) := dk_132 6 1 (dk_at dksX0_tellsPerson_7 11 rfl rfl)
theorem dX0_tellsPerson_177 : decode cX0_tellsPerson 177 = .ok (.goto (-28), 3) := dk_167 255 228 (dk_at dksX0_tellsPerson_7 14 rfl rfl)
theorem dX0_tellsPerson_180 : decode cX0_tellsPerson 180 = .ok (.lload 4, 2) := dk_22 4 (dk_at dksX0_tellsPerson_7 17 rfl rfl)
theorem dX0_tellsPerson_182 : decode cX0_tellsPerson 182 = .ok (.lreturn, 1) := dk_173 (dk_at dksX0_tellsPerson_7 19 rfl rfl)
abbrev cX0_tellsDay : ByteArray := prog_1_method_84_code
def yX0_tellsDay : MethodName := ⟨RX0, "tellsDay", "(JII)J"⟩
def dkwX0_tellsDay_1 : List UInt8 := [182, 1, 24, 133, 97, 55, 5, 132, 7, 1, 167, 255, 228, 22, 5, 173]
abbrev dktX0_tellsDay_1 : List UInt8 := dkwX0_tellsDay_1 ++ []
def dkwX0_tellsDay_0 : List UInt8 := [31, 55, 5, 3, 54, 7, 21, 7, 6, 162, 0, 28, 20, 1, 153, 22, 5, 105, 42, 29, 21, 4, 21, 7]
abbrev dktX0_tellsDay_0 : List UInt8 := dkwX0_tellsDay_0 ++ dktX0_tellsDay_1
theorem dksX0_tellsDay_0 : cX0_tellsDay.data.toList.drop 0 = dktX0_tellsDay_0 := by decide +kernel
theorem dksX0_tellsDay_1 : cX0_tellsDay.data.toList.drop 24 = dktX0_tellsDay_1 := dk_seg dksX0_tellsDay_0 24 rfl rfl
theorem dX0_tellsDay_0 : decode cX0_tellsDay 0 = .ok (.lload_n 1, 1) := dk_31 (dk_at dksX0_tellsDay_0 0 rfl rfl)
theorem dX0_tellsDay_1 : decode cX0_tellsDay 1 = .ok (.lstore 5, 2) := dk_55 5 (dk_at dksX0_tellsDay_0 1 rfl rfl)
theorem dX0_tellsDay_3 : decode cX0_tellsDay 3 = .ok (.iconst 0, 1) := dk_3 (dk_at dksX0_tellsDay_0 3 rfl rfl)
theorem dX0_tellsDay_4 : decode cX0_tellsDay 4 = .ok (.istore 7, 2) := dk_54 7 (dk_at dksX0_tellsDay_0 4 rfl rfl)
theorem dX0_tellsDay_6 : decode cX0_tellsDay 6 = .ok (.iload 7, 2) := dk_21 7 (dk_at dksX0_tellsDay_0 6 rfl rfl)
theorem dX0_tellsDay_8 : decode cX0_tellsDay 8 = .ok (.iconst 3, 1) := dk_6 (dk_at dksX0_tellsDay_0 8 rfl rfl)
theorem dX0_tellsDay_9 : decode cX0_tellsDay 9 = .ok (.if_icmp .ge 28, 3) := dk_162 0 28 (dk_at dksX0_tellsDay_0 9 rfl rfl)
theorem dX0_tellsDay_12 : decode cX0_tellsDay 12 = .ok (.ldc2_w 409, 3) := dk_20 1 153 (dk_at dksX0_tellsDay_0 12 rfl rfl)
theorem dX0_tellsDay_15 : decode cX0_tellsDay 15 = .ok (.lload 5, 2) := dk_22 5 (dk_at dksX0_tellsDay_0 15 rfl rfl)
theorem dX0_tellsDay_17 : decode cX0_tellsDay 17 = .ok (.lmul, 1) := dk_105 (dk_at dksX0_tellsDay_0 17 rfl rfl)
theorem dX0_tellsDay_18 : decode cX0_tellsDay 18 = .ok (.aload_n 0, 1) := dk_42 (dk_at dksX0_tellsDay_0 18 rfl rfl)
theorem dX0_tellsDay_19 : decode cX0_tellsDay 19 = .ok (.iload_n 3, 1) := dk_29 (dk_at dksX0_tellsDay_0 19 rfl rfl)
theorem dX0_tellsDay_20 : decode cX0_tellsDay 20 = .ok (.iload 4, 2) := dk_21 4 (dk_at dksX0_tellsDay_0 20 rfl rfl)
theorem dX0_tellsDay_22 : decode cX0_tellsDay 22 = .ok (.iload 7, 2) := dk_21 7 (dk_at dksX0_tellsDay_0 22 rfl rfl)
theorem dX0_tellsDay_24 : decode cX0_tellsDay 24 = .ok (.invokevirtual 280, 3) := dk_182 1 24 (dk_at dksX0_tellsDay_1 0 rfl rfl)
theorem dX0_tellsDay_27 : decode cX0_tellsDay 27 = .ok (.i2l, 1) := dk_133 (dk_at dksX0_tellsDay_1 3 rfl rfl)
theorem dX0_tellsDay_28 : decode cX0_tellsDay 28 = .ok (.ladd, 1) := dk_97 (dk_at dksX0_tellsDay_1 4 rfl rfl)
theorem dX0_tellsDay_29 : decode cX0_tellsDay 29 = .ok (.lstore 5, 2) := dk_55 5 (dk_at dksX0_tellsDay_1 5 rfl rfl)
theorem dX0_tellsDay_31 : decode cX0_tellsDay 31 = .ok (.iinc 7 1, 3) := dk_132 7 1 (dk_at dksX0_tellsDay_1 7 rfl rfl)
theorem dX0_tellsDay_34 : decode cX0_tellsDay 34 = .ok (.goto (-28), 3) := dk_167 255 228 (dk_at dksX0_tellsDay_1 10 rfl rfl)
theorem dX0_tellsDay_37 : decode cX0_tellsDay 37 = .ok (.lload 5, 2) := dk_22 5 (dk_at dksX0_tellsDay_1 13 rfl rfl)
theorem dX0_tellsDay_39 : decode cX0_tellsDay 39 = .ok (.lreturn, 1) := dk_173 (dk_at dksX0_tellsDay_1 15 rfl rfl)
theorem hs_X0_init : yX0_init.cls ≠ "java/lang/invoke/MethodHandle" ∧ yX0_init.cls ≠ "java/lang/invoke/VarHandle" ∧ (parseMethodDescriptor yX0_init.desc).map (fun d => d.parameters.length) = some 0 := by decide +kernel
theorem hv_X0_init : yX0_init.cls = RX0 ∧ yX0_init.cls ≠ "java/lang/invoke/MethodHandle" ∧ yX0_init.cls ≠ "java/lang/invoke/VarHandle" ∧ (parseMethodDescriptor yX0_init.desc).map (fun d => d.parameters.length) = some 0 := ⟨rfl, hs_X0_init⟩
theorem hs_X0_type : yX0_type.cls ≠ "java/lang/invoke/MethodHandle" ∧ yX0_type.cls ≠ "java/lang/invoke/VarHandle" ∧ (parseMethodDescriptor yX0_type.desc).map (fun d => d.parameters.length) = some 2 := by decide +kernel
theorem hv_X0_type : yX0_type.cls = RX0 ∧ yX0_type.cls ≠ "java/lang/invoke/MethodHandle" ∧ yX0_type.cls ≠ "java/lang/invoke/VarHandle" ∧ (parseMethodDescriptor yX0_type.desc).map (fun d => d.parameters.length) = some 2 := ⟨rfl, hs_X0_type⟩
theorem hs_X0_isTwo : yX0_isTwo.cls ≠ "java/lang/invoke/MethodHandle" ∧ yX0_isTwo.cls ≠ "java/lang/invoke/VarHandle" ∧ (parseMethodDescriptor yX0_isTwo.desc).map (fun d => d.parameters.length) = some 1 := by decide +kernel
theorem hv_X0_isTwo : yX0_isTwo.cls = RX0 ∧ yX0_isTwo.cls ≠ "java/lang/invoke/MethodHandle" ∧ yX0_isTwo.cls ≠ "java/lang/invoke/VarHandle" ∧ (parseMethodDescriptor yX0_isTwo.desc).map (fun d => d.parameters.length) = some 1 := ⟨rfl, hs_X0_isTwo⟩
theorem hs_X0_in : yX0_in.cls ≠ "java/lang/invoke/MethodHandle" ∧ yX0_in.cls ≠ "java/lang/invoke/VarHandle" ∧ (parseMethodDescriptor yX0_in.desc).map (fun d => d.parameters.length) = some 3 := by decide +kernel
theorem hv_X0_in : yX0_in.cls = RX0 ∧ yX0_in.cls ≠ "java/lang/invoke/MethodHandle" ∧ yX0_in.cls ≠ "java/lang/invoke/VarHandle" ∧ (parseMethodDescriptor yX0_in.desc).map (fun d => d.parameters.length) = some 3 := ⟨rfl, hs_X0_in⟩
theorem hs_X0_text : yX0_text.cls ≠ "java/lang/invoke/MethodHandle" ∧ yX0_text.cls ≠ "java/lang/invoke/VarHandle" ∧ (parseMethodDescriptor yX0_text.desc).map (fun d => d.parameters.length) = some 1 := by decide +kernel
theorem hv_X0_text : yX0_text.cls = RX0 ∧ yX0_text.cls ≠ "java/lang/invoke/MethodHandle" ∧ yX0_text.cls ≠ "java/lang/invoke/VarHandle" ∧ (parseMethodDescriptor yX0_text.desc).map (fun d => d.parameters.length) = some 1 := ⟨rfl, hs_X0_text⟩
theorem hs_X0_wipe : yX0_wipe.cls ≠ "java/lang/invoke/MethodHandle" ∧ yX0_wipe.cls ≠ "java/lang/invoke/VarHandle" ∧ (parseMethodDescriptor yX0_wipe.desc).map (fun d => d.parameters.length) = some 1 := by decide +kernel
theorem hv_X0_wipe : yX0_wipe.cls = RX0 ∧ yX0_wipe.cls ≠ "java/lang/invoke/MethodHandle" ∧ yX0_wipe.cls ≠ "java/lang/invoke/VarHandle" ∧ (parseMethodDescriptor yX0_wipe.desc).map (fun d => d.parameters.length) = some 1 := ⟨rfl, hs_X0_wipe⟩
theorem hs_X0_undo : yX0_undo.cls ≠ "java/lang/invoke/MethodHandle" ∧ yX0_undo.cls ≠ "java/lang/invoke/VarHandle" ∧ (parseMethodDescriptor yX0_undo.desc).map (fun d => d.parameters.length) = some 1 := by decide +kernel
theorem hv_X0_undo : yX0_undo.cls = RX0 ∧ yX0_undo.cls ≠ "java/lang/invoke/MethodHandle" ∧ yX0_undo.cls ≠ "java/lang/invoke/VarHandle" ∧ (parseMethodDescriptor yX0_undo.desc).map (fun d => d.parameters.length) = some 1 := ⟨rfl, hs_X0_undo⟩
theorem hs_X0_fault : yX0_fault.cls ≠ "java/lang/invoke/MethodHandle" ∧ yX0_fault.cls ≠ "java/lang/invoke/VarHandle" ∧ (parseMethodDescriptor yX0_fault.desc).map (fun d => d.parameters.length) = some 1 := by decide +kernel
theorem hv_X0_fault : yX0_fault.cls = RX0 ∧ yX0_fault.cls ≠ "java/lang/invoke/MethodHandle" ∧ yX0_fault.cls ≠ "java/lang/invoke/VarHandle" ∧ (parseMethodDescriptor yX0_fault.desc).map (fun d => d.parameters.length) = some 1 := ⟨rfl, hs_X0_fault⟩
theorem hs_X0_person : yX0_person.cls ≠ "java/lang/invoke/MethodHandle" ∧ yX0_person.cls ≠ "java/lang/invoke/VarHandle" ∧ (parseMethodDescriptor yX0_person.desc).map (fun d => d.parameters.length) = some 2 := by decide +kernel
theorem hv_X0_person : yX0_person.cls = RX0 ∧ yX0_person.cls ≠ "java/lang/invoke/MethodHandle" ∧ yX0_person.cls ≠ "java/lang/invoke/VarHandle" ∧ (parseMethodDescriptor yX0_person.desc).map (fun d => d.parameters.length) = some 2 := ⟨rfl, hs_X0_person⟩
theorem hs_X0_isPerson : yX0_isPerson.cls ≠ "java/lang/invoke/MethodHandle" ∧ yX0_isPerson.cls ≠ "java/lang/invoke/VarHandle" ∧ (parseMethodDescriptor yX0_isPerson.desc).map (fun d => d.parameters.length) = some 1 := by decide +kernel
theorem hv_X0_isPerson : yX0_isPerson.cls = RX0 ∧ yX0_isPerson.cls ≠ "java/lang/invoke/MethodHandle" ∧ yX0_isPerson.cls ≠ "java/lang/invoke/VarHandle" ∧ (parseMethodDescriptor yX0_isPerson.desc).map (fun d => d.parameters.length) = some 1 := ⟨rfl, hs_X0_isPerson⟩
theorem hs_X0_promise : yX0_promise.cls ≠ "java/lang/invoke/MethodHandle" ∧ yX0_promise.cls ≠ "java/lang/invoke/VarHandle" ∧ (parseMethodDescriptor yX0_promise.desc).map (fun d => d.parameters.length) = some 2 := by decide +kernel
theorem hv_X0_promise : yX0_promise.cls = RX0 ∧ yX0_promise.cls ≠ "java/lang/invoke/MethodHandle" ∧ yX0_promise.cls ≠ "java/lang/invoke/VarHandle" ∧ (parseMethodDescriptor yX0_promise.desc).map (fun d => d.parameters.length) = some 2 := ⟨rfl, hs_X0_promise⟩
theorem hs_X0_isPromise : yX0_isPromise.cls ≠ "java/lang/invoke/MethodHandle" ∧ yX0_isPromise.cls ≠ "java/lang/invoke/VarHandle" ∧ (parseMethodDescriptor yX0_isPromise.desc).map (fun d => d.parameters.length) = some 1 := by decide +kernel
theorem hv_X0_isPromise : yX0_isPromise.cls = RX0 ∧ yX0_isPromise.cls ≠ "java/lang/invoke/MethodHandle" ∧ yX0_isPromise.cls ≠ "java/lang/invoke/VarHandle" ∧ (parseMethodDescriptor yX0_isPromise.desc).map (fun d => d.parameters.length) = some 1 := ⟨rfl, hs_X0_isPromise⟩
theorem hs_X0_keeping : yX0_keeping.cls ≠ "java/lang/invoke/MethodHandle" ∧ yX0_keeping.cls ≠ "java/lang/invoke/VarHandle" ∧ (parseMethodDescriptor yX0_keeping.desc).map (fun d => d.parameters.length) = some 2 := by decide +kernel
theorem hv_X0_keeping : yX0_keeping.cls = RX0 ∧ yX0_keeping.cls ≠ "java/lang/invoke/MethodHandle" ∧ yX0_keeping.cls ≠ "java/lang/invoke/VarHandle" ∧ (parseMethodDescriptor yX0_keeping.desc).map (fun d => d.parameters.length) = some 2 := ⟨rfl, hs_X0_keeping⟩
theorem hs_X0_isDay : yX0_isDay.cls ≠ "java/lang/invoke/MethodHandle" ∧ yX0_isDay.cls ≠ "java/lang/invoke/VarHandle" ∧ (parseMethodDescriptor yX0_isDay.desc).map (fun d => d.parameters.length) = some 1 := by decide +kernel
theorem hv_X0_isDay : yX0_isDay.cls = RX0 ∧ yX0_isDay.cls ≠ "java/lang/invoke/MethodHandle" ∧ yX0_isDay.cls ≠ "java/lang/invoke/VarHandle" ∧ (parseMethodDescriptor yX0_isDay.desc).map (fun d => d.parameters.length) = some 1 := ⟨rfl, hs_X0_isDay⟩
theorem hs_X0_lie : yX0_lie.cls ≠ "java/lang/invoke/MethodHandle" ∧ yX0_lie.cls ≠ "java/lang/invoke/VarHandle" ∧ (parseMethodDescriptor yX0_lie.desc).map (fun d => d.parameters.length) = some 3 := by decide +kernel
theorem hv_X0_lie : yX0_lie.cls = RX0 ∧ yX0_lie.cls ≠ "java/lang/invoke/MethodHandle" ∧ yX0_lie.cls ≠ "java/lang/invoke/VarHandle" ∧ (parseMethodDescriptor yX0_lie.desc).map (fun d => d.parameters.length) = some 3 := ⟨rfl, hs_X0_lie⟩
theorem hs_X0_more : yX0_more.cls ≠ "java/lang/invoke/MethodHandle" ∧ yX0_more.cls ≠ "java/lang/invoke/VarHandle" ∧ (parseMethodDescriptor yX0_more.desc).map (fun d => d.parameters.length) = some 5 := by decide +kernel
theorem hv_X0_more : yX0_more.cls = RX0 ∧ yX0_more.cls ≠ "java/lang/invoke/MethodHandle" ∧ yX0_more.cls ≠ "java/lang/invoke/VarHandle" ∧ (parseMethodDescriptor yX0_more.desc).map (fun d => d.parameters.length) = some 5 := ⟨rfl, hs_X0_more⟩
theorem hs_X0_letting : yX0_letting.cls ≠ "java/lang/invoke/MethodHandle" ∧ yX0_letting.cls ≠ "java/lang/invoke/VarHandle" ∧ (parseMethodDescriptor yX0_letting.desc).map (fun d => d.parameters.length) = some 3 := by decide +kernel
theorem hv_X0_letting : yX0_letting.cls = RX0 ∧ yX0_letting.cls ≠ "java/lang/invoke/MethodHandle" ∧ yX0_letting.cls ≠ "java/lang/invoke/VarHandle" ∧ (parseMethodDescriptor yX0_letting.desc).map (fun d => d.parameters.length) = some 3 := ⟨rfl, hs_X0_letting⟩
theorem hs_X0_back : yX0_back.cls ≠ "java/lang/invoke/MethodHandle" ∧ yX0_back.cls ≠ "java/lang/invoke/VarHandle" ∧ (parseMethodDescriptor yX0_back.desc).map (fun d => d.parameters.length) = some 1 := by decide +kernel
theorem hv_X0_back : yX0_back.cls = RX0 ∧ yX0_back.cls ≠ "java/lang/invoke/MethodHandle" ∧ yX0_back.cls ≠ "java/lang/invoke/VarHandle" ∧ (parseMethodDescriptor yX0_back.desc).map (fun d => d.parameters.length) = some 1 := ⟨rfl, hs_X0_back⟩
theorem hs_X0_read : yX0_read.cls ≠ "java/lang/invoke/MethodHandle" ∧ yX0_read.cls ≠ "java/lang/invoke/VarHandle" ∧ (parseMethodDescriptor yX0_read.desc).map (fun d => d.parameters.length) = some 1 := by decide +kernel
theorem hv_X0_read : yX0_read.cls = RX0 ∧ yX0_read.cls ≠ "java/lang/invoke/MethodHandle" ∧ yX0_read.cls ≠ "java/lang/invoke/VarHandle" ∧ (parseMethodDescriptor yX0_read.desc).map (fun d => d.parameters.length) = some 1 := ⟨rfl, hs_X0_read⟩
theorem hs_X0_isSheet : yX0_isSheet.cls ≠ "java/lang/invoke/MethodHandle" ∧ yX0_isSheet.cls ≠ "java/lang/invoke/VarHandle" ∧ (parseMethodDescriptor yX0_isSheet.desc).map (fun d => d.parameters.length) = some 1 := by decide +kernel
theorem hv_X0_isSheet : yX0_isSheet.cls = RX0 ∧ yX0_isSheet.cls ≠ "java/lang/invoke/MethodHandle" ∧ yX0_isSheet.cls ≠ "java/lang/invoke/VarHandle" ∧ (parseMethodDescriptor yX0_isSheet.desc).map (fun d => d.parameters.length) = some 1 := ⟨rfl, hs_X0_isSheet⟩
theorem hs_X0_met : yX0_met.cls ≠ "java/lang/invoke/MethodHandle" ∧ yX0_met.cls ≠ "java/lang/invoke/VarHandle" ∧ (parseMethodDescriptor yX0_met.desc).map (fun d => d.parameters.length) = some 1 := by decide +kernel
theorem hv_X0_met : yX0_met.cls = RX0 ∧ yX0_met.cls ≠ "java/lang/invoke/MethodHandle" ∧ yX0_met.cls ≠ "java/lang/invoke/VarHandle" ∧ (parseMethodDescriptor yX0_met.desc).map (fun d => d.parameters.length) = some 1 := ⟨rfl, hs_X0_met⟩
theorem hs_X0_coat : yX0_coat.cls ≠ "java/lang/invoke/MethodHandle" ∧ yX0_coat.cls ≠ "java/lang/invoke/VarHandle" ∧ (parseMethodDescriptor yX0_coat.desc).map (fun d => d.parameters.length) = some 3 := by decide +kernel
theorem hv_X0_coat : yX0_coat.cls = RX0 ∧ yX0_coat.cls ≠ "java/lang/invoke/MethodHandle" ∧ yX0_coat.cls ≠ "java/lang/invoke/VarHandle" ∧ (parseMethodDescriptor yX0_coat.desc).map (fun d => d.parameters.length) = some 3 := ⟨rfl, hs_X0_coat⟩
theorem hs_X0_find : yX0_find.cls ≠ "java/lang/invoke/MethodHandle" ∧ yX0_find.cls ≠ "java/lang/invoke/VarHandle" ∧ (parseMethodDescriptor yX0_find.desc).map (fun d => d.parameters.length) = some 0 := by decide +kernel
theorem hv_X0_find : yX0_find.cls = RX0 ∧ yX0_find.cls ≠ "java/lang/invoke/MethodHandle" ∧ yX0_find.cls ≠ "java/lang/invoke/VarHandle" ∧ (parseMethodDescriptor yX0_find.desc).map (fun d => d.parameters.length) = some 0 := ⟨rfl, hs_X0_find⟩
theorem hs_X0_passes : yX0_passes.cls ≠ "java/lang/invoke/MethodHandle" ∧ yX0_passes.cls ≠ "java/lang/invoke/VarHandle" ∧ (parseMethodDescriptor yX0_passes.desc).map (fun d => d.parameters.length) = some 1 := by decide +kernel
theorem hv_X0_passes : yX0_passes.cls = RX0 ∧ yX0_passes.cls ≠ "java/lang/invoke/MethodHandle" ∧ yX0_passes.cls ≠ "java/lang/invoke/VarHandle" ∧ (parseMethodDescriptor yX0_passes.desc).map (fun d => d.parameters.length) = some 1 := ⟨rfl, hs_X0_passes⟩
theorem hs_X0_makes : yX0_makes.cls ≠ "java/lang/invoke/MethodHandle" ∧ yX0_makes.cls ≠ "java/lang/invoke/VarHandle" ∧ (parseMethodDescriptor yX0_makes.desc).map (fun d => d.parameters.length) = some 1 := by decide +kernel
theorem hv_X0_makes : yX0_makes.cls = RX0 ∧ yX0_makes.cls ≠ "java/lang/invoke/MethodHandle" ∧ yX0_makes.cls ≠ "java/lang/invoke/VarHandle" ∧ (parseMethodDescriptor yX0_makes.desc).map (fun d => d.parameters.length) = some 1 := ⟨rfl, hs_X0_makes⟩
theorem hs_X0_cuts : yX0_cuts.cls ≠ "java/lang/invoke/MethodHandle" ∧ yX0_cuts.cls ≠ "java/lang/invoke/VarHandle" ∧ (parseMethodDescriptor yX0_cuts.desc).map (fun d => d.parameters.length) = some 2 := by decide +kernel
theorem hv_X0_cuts : yX0_cuts.cls = RX0 ∧ yX0_cuts.cls ≠ "java/lang/invoke/MethodHandle" ∧ yX0_cuts.cls ≠ "java/lang/invoke/VarHandle" ∧ (parseMethodDescriptor yX0_cuts.desc).map (fun d => d.parameters.length) = some 2 := ⟨rfl, hs_X0_cuts⟩
theorem hs_X0_isIn : yX0_isIn.cls ≠ "java/lang/invoke/MethodHandle" ∧ yX0_isIn.cls ≠ "java/lang/invoke/VarHandle" ∧ (parseMethodDescriptor yX0_isIn.desc).map (fun d => d.parameters.length) = some 2 := by decide +kernel
theorem hv_X0_isIn : yX0_isIn.cls = RX0 ∧ yX0_isIn.cls ≠ "java/lang/invoke/MethodHandle" ∧ yX0_isIn.cls ≠ "java/lang/invoke/VarHandle" ∧ (parseMethodDescriptor yX0_isIn.desc).map (fun d => d.parameters.length) = some 2 := ⟨rfl, hs_X0_isIn⟩
theorem hs_X0_keeps : yX0_keeps.cls ≠ "java/lang/invoke/MethodHandle" ∧ yX0_keeps.cls ≠ "java/lang/invoke/VarHandle" ∧ (parseMethodDescriptor yX0_keeps.desc).map (fun d => d.parameters.length) = some 1 := by decide +kernel
theorem hv_X0_keeps : yX0_keeps.cls = RX0 ∧ yX0_keeps.cls ≠ "java/lang/invoke/MethodHandle" ∧ yX0_keeps.cls ≠ "java/lang/invoke/VarHandle" ∧ (parseMethodDescriptor yX0_keeps.desc).map (fun d => d.parameters.length) = some 1 := ⟨rfl, hs_X0_keeps⟩
theorem hs_X0_breaks : yX0_breaks.cls ≠ "java/lang/invoke/MethodHandle" ∧ yX0_breaks.cls ≠ "java/lang/invoke/VarHandle" ∧ (parseMethodDescriptor yX0_breaks.desc).map (fun d => d.parameters.length) = some 1 := by decide +kernel
theorem hv_X0_breaks : yX0_breaks.cls = RX0 ∧ yX0_breaks.cls ≠ "java/lang/invoke/MethodHandle" ∧ yX0_breaks.cls ≠ "java/lang/invoke/VarHandle" ∧ (parseMethodDescriptor yX0_breaks.desc).map (fun d => d.parameters.length) = some 1 := ⟨rfl, hs_X0_breaks⟩
theorem hs_X0_coatBy : yX0_coatBy.cls ≠ "java/lang/invoke/MethodHandle" ∧ yX0_coatBy.cls ≠ "java/lang/invoke/VarHandle" ∧ (parseMethodDescriptor yX0_coatBy.desc).map (fun d => d.parameters.length) = some 3 := by decide +kernel
theorem hv_X0_coatBy : yX0_coatBy.cls = RX0 ∧ yX0_coatBy.cls ≠ "java/lang/invoke/MethodHandle" ∧ yX0_coatBy.cls ≠ "java/lang/invoke/VarHandle" ∧ (parseMethodDescriptor yX0_coatBy.desc).map (fun d => d.parameters.length) = some 3 := ⟨rfl, hs_X0_coatBy⟩
theorem hs_X0_isFit : yX0_isFit.cls ≠ "java/lang/invoke/MethodHandle" ∧ yX0_isFit.cls ≠ "java/lang/invoke/VarHandle" ∧ (parseMethodDescriptor yX0_isFit.desc).map (fun d => d.parameters.length) = some 2 := by decide +kernel
theorem hv_X0_isFit : yX0_isFit.cls = RX0 ∧ yX0_isFit.cls ≠ "java/lang/invoke/MethodHandle" ∧ yX0_isFit.cls ≠ "java/lang/invoke/VarHandle" ∧ (parseMethodDescriptor yX0_isFit.desc).map (fun d => d.parameters.length) = some 2 := ⟨rfl, hs_X0_isFit⟩
theorem hs_X0_stands : yX0_stands.cls ≠ "java/lang/invoke/MethodHandle" ∧ yX0_stands.cls ≠ "java/lang/invoke/VarHandle" ∧ (parseMethodDescriptor yX0_stands.desc).map (fun d => d.parameters.length) = some 2 := by decide +kernel
theorem hv_X0_stands : yX0_stands.cls = RX0 ∧ yX0_stands.cls ≠ "java/lang/invoke/MethodHandle" ∧ yX0_stands.cls ≠ "java/lang/invoke/VarHandle" ∧ (parseMethodDescriptor yX0_stands.desc).map (fun d => d.parameters.length) = some 2 := ⟨rfl, hs_X0_stands⟩
theorem hs_X0_neat : yX0_neat.cls ≠ "java/lang/invoke/MethodHandle" ∧ yX0_neat.cls ≠ "java/lang/invoke/VarHandle" ∧ (parseMethodDescriptor yX0_neat.desc).map (fun d => d.parameters.length) = some 1 := by decide +kernel
theorem hv_X0_neat : yX0_neat.cls = RX0 ∧ yX0_neat.cls ≠ "java/lang/invoke/MethodHandle" ∧ yX0_neat.cls ≠ "java/lang/invoke/VarHandle" ∧ (parseMethodDescriptor yX0_neat.desc).map (fun d => d.parameters.length) = some 1 := ⟨rfl, hs_X0_neat⟩
theorem hs_X0_neatBy : yX0_neatBy.cls ≠ "java/lang/invoke/MethodHandle" ∧ yX0_neatBy.cls ≠ "java/lang/invoke/VarHandle" ∧ (parseMethodDescriptor yX0_neatBy.desc).map (fun d => d.parameters.length) = some 1 := by decide +kernel
theorem hv_X0_neatBy : yX0_neatBy.cls = RX0 ∧ yX0_neatBy.cls ≠ "java/lang/invoke/MethodHandle" ∧ yX0_neatBy.cls ≠ "java/lang/invoke/VarHandle" ∧ (parseMethodDescriptor yX0_neatBy.desc).map (fun d => d.parameters.length) = some 1 := ⟨rfl, hs_X0_neatBy⟩
theorem hs_X0_naked : yX0_naked.cls ≠ "java/lang/invoke/MethodHandle" ∧ yX0_naked.cls ≠ "java/lang/invoke/VarHandle" ∧ (parseMethodDescriptor yX0_naked.desc).map (fun d => d.parameters.length) = some 1 := by decide +kernel
theorem hv_X0_naked : yX0_naked.cls = RX0 ∧ yX0_naked.cls ≠ "java/lang/invoke/MethodHandle" ∧ yX0_naked.cls ≠ "java/lang/invoke/VarHandle" ∧ (parseMethodDescriptor yX0_naked.desc).map (fun d => d.parameters.length) = some 1 := ⟨rfl, hs_X0_naked⟩
theorem hs_X0_nakedBy : yX0_nakedBy.cls ≠ "java/lang/invoke/MethodHandle" ∧ yX0_nakedBy.cls ≠ "java/lang/invoke/VarHandle" ∧ (parseMethodDescriptor yX0_nakedBy.desc).map (fun d => d.parameters.length) = some 1 := by decide +kernel
theorem hv_X0_nakedBy : yX0_nakedBy.cls = RX0 ∧ yX0_nakedBy.cls ≠ "java/lang/invoke/MethodHandle" ∧ yX0_nakedBy.cls ≠ "java/lang/invoke/VarHandle" ∧ (parseMethodDescriptor yX0_nakedBy.desc).map (fun d => d.parameters.length) = some 1 := ⟨rfl, hs_X0_nakedBy⟩
theorem hs_X0_longest : yX0_longest.cls ≠ "java/lang/invoke/MethodHandle" ∧ yX0_longest.cls ≠ "java/lang/invoke/VarHandle" ∧ (parseMethodDescriptor yX0_longest.desc).map (fun d => d.parameters.length) = some 1 := by decide +kernel
theorem hv_X0_longest : yX0_longest.cls = RX0 ∧ yX0_longest.cls ≠ "java/lang/invoke/MethodHandle" ∧ yX0_longest.cls ≠ "java/lang/invoke/VarHandle" ∧ (parseMethodDescriptor yX0_longest.desc).map (fun d => d.parameters.length) = some 1 := ⟨rfl, hs_X0_longest⟩
theorem hs_X0_longestBy : yX0_longestBy.cls ≠ "java/lang/invoke/MethodHandle" ∧ yX0_longestBy.cls ≠ "java/lang/invoke/VarHandle" ∧ (parseMethodDescriptor yX0_longestBy.desc).map (fun d => d.parameters.length) = some 1 := by decide +kernel
theorem hv_X0_longestBy : yX0_longestBy.cls = RX0 ∧ yX0_longestBy.cls ≠ "java/lang/invoke/MethodHandle" ∧ yX0_longestBy.cls ≠ "java/lang/invoke/VarHandle" ∧ (parseMethodDescriptor yX0_longestBy.desc).map (fun d => d.parameters.length) = some 1 := ⟨rfl, hs_X0_longestBy⟩
theorem hs_X0_splits : yX0_splits.cls ≠ "java/lang/invoke/MethodHandle" ∧ yX0_splits.cls ≠ "java/lang/invoke/VarHandle" ∧ (parseMethodDescriptor yX0_splits.desc).map (fun d => d.parameters.length) = some 0 := by decide +kernel
theorem hv_X0_splits : yX0_splits.cls = RX0 ∧ yX0_splits.cls ≠ "java/lang/invoke/MethodHandle" ∧ yX0_splits.cls ≠ "java/lang/invoke/VarHandle" ∧ (parseMethodDescriptor yX0_splits.desc).map (fun d => d.parameters.length) = some 0 := ⟨rfl, hs_X0_splits⟩
theorem hs_X0_allSplits : yX0_allSplits.cls ≠ "java/lang/invoke/MethodHandle" ∧ yX0_allSplits.cls ≠ "java/lang/invoke/VarHandle" ∧ (parseMethodDescriptor yX0_allSplits.desc).map (fun d => d.parameters.length) = some 0 := by decide +kernel
theorem hv_X0_allSplits : yX0_allSplits.cls = RX0 ∧ yX0_allSplits.cls ≠ "java/lang/invoke/MethodHandle" ∧ yX0_allSplits.cls ≠ "java/lang/invoke/VarHandle" ∧ (parseMethodDescriptor yX0_allSplits.desc).map (fun d => d.parameters.length) = some 0 := ⟨rfl, hs_X0_allSplits⟩
theorem hs_X0_best : yX0_best.cls ≠ "java/lang/invoke/MethodHandle" ∧ yX0_best.cls ≠ "java/lang/invoke/VarHandle" ∧ (parseMethodDescriptor yX0_best.desc).map (fun d => d.parameters.length) = some 0 := by decide +kernel
theorem hv_X0_best : yX0_best.cls = RX0 ∧ yX0_best.cls ≠ "java/lang/invoke/MethodHandle" ∧ yX0_best.cls ≠ "java/lang/invoke/VarHandle" ∧ (parseMethodDescriptor yX0_best.desc).map (fun d => d.parameters.length) = some 0 := ⟨rfl, hs_X0_best⟩
theorem hs_X0_bestNow : yX0_bestNow.cls ≠ "java/lang/invoke/MethodHandle" ∧ yX0_bestNow.cls ≠ "java/lang/invoke/VarHandle" ∧ (parseMethodDescriptor yX0_bestNow.desc).map (fun d => d.parameters.length) = some 0 := by decide +kernel
theorem hv_X0_bestNow : yX0_bestNow.cls = RX0 ∧ yX0_bestNow.cls ≠ "java/lang/invoke/MethodHandle" ∧ yX0_bestNow.cls ≠ "java/lang/invoke/VarHandle" ∧ (parseMethodDescriptor yX0_bestNow.desc).map (fun d => d.parameters.length) = some 0 := ⟨rfl, hs_X0_bestNow⟩
theorem hs_X0_fitsIn : yX0_fitsIn.cls ≠ "java/lang/invoke/MethodHandle" ∧ yX0_fitsIn.cls ≠ "java/lang/invoke/VarHandle" ∧ (parseMethodDescriptor yX0_fitsIn.desc).map (fun d => d.parameters.length) = some 1 := by decide +kernel
theorem hv_X0_fitsIn : yX0_fitsIn.cls = RX0 ∧ yX0_fitsIn.cls ≠ "java/lang/invoke/MethodHandle" ∧ yX0_fitsIn.cls ≠ "java/lang/invoke/VarHandle" ∧ (parseMethodDescriptor yX0_fitsIn.desc).map (fun d => d.parameters.length) = some 1 := ⟨rfl, hs_X0_fitsIn⟩
theorem hs_X0_swear : yX0_swear.cls ≠ "java/lang/invoke/MethodHandle" ∧ yX0_swear.cls ≠ "java/lang/invoke/VarHandle" ∧ (parseMethodDescriptor yX0_swear.desc).map (fun d => d.parameters.length) = some 2 := by decide +kernel
theorem hv_X0_swear : yX0_swear.cls = RX0 ∧ yX0_swear.cls ≠ "java/lang/invoke/MethodHandle" ∧ yX0_swear.cls ≠ "java/lang/invoke/VarHandle" ∧ (parseMethodDescriptor yX0_swear.desc).map (fun d => d.parameters.length) = some 2 := ⟨rfl, hs_X0_swear⟩
theorem hs_X0_swearOf : yX0_swearOf.cls ≠ "java/lang/invoke/MethodHandle" ∧ yX0_swearOf.cls ≠ "java/lang/invoke/VarHandle" ∧ (parseMethodDescriptor yX0_swearOf.desc).map (fun d => d.parameters.length) = some 2 := by decide +kernel
theorem hv_X0_swearOf : yX0_swearOf.cls = RX0 ∧ yX0_swearOf.cls ≠ "java/lang/invoke/MethodHandle" ∧ yX0_swearOf.cls ≠ "java/lang/invoke/VarHandle" ∧ (parseMethodDescriptor yX0_swearOf.desc).map (fun d => d.parameters.length) = some 2 := ⟨rfl, hs_X0_swearOf⟩
theorem hs_X0_keep : yX0_keep.cls ≠ "java/lang/invoke/MethodHandle" ∧ yX0_keep.cls ≠ "java/lang/invoke/VarHandle" ∧ (parseMethodDescriptor yX0_keep.desc).map (fun d => d.parameters.length) = some 2 := by decide +kernel
theorem hv_X0_keep : yX0_keep.cls = RX0 ∧ yX0_keep.cls ≠ "java/lang/invoke/MethodHandle" ∧ yX0_keep.cls ≠ "java/lang/invoke/VarHandle" ∧ (parseMethodDescriptor yX0_keep.desc).map (fun d => d.parameters.length) = some 2 := ⟨rfl, hs_X0_keep⟩
theorem hs_X0_keepOf : yX0_keepOf.cls ≠ "java/lang/invoke/MethodHandle" ∧ yX0_keepOf.cls ≠ "java/lang/invoke/VarHandle" ∧ (parseMethodDescriptor yX0_keepOf.desc).map (fun d => d.parameters.length) = some 2 := by decide +kernel
theorem hv_X0_keepOf : yX0_keepOf.cls = RX0 ∧ yX0_keepOf.cls ≠ "java/lang/invoke/MethodHandle" ∧ yX0_keepOf.cls ≠ "java/lang/invoke/VarHandle" ∧ (parseMethodDescriptor yX0_keepOf.desc).map (fun d => d.parameters.length) = some 2 := ⟨rfl, hs_X0_keepOf⟩
theorem hs_X0_due : yX0_due.cls ≠ "java/lang/invoke/MethodHandle" ∧ yX0_due.cls ≠ "java/lang/invoke/VarHandle" ∧ (parseMethodDescriptor yX0_due.desc).map (fun d => d.parameters.length) = some 2 := by decide +kernel
theorem hv_X0_due : yX0_due.cls = RX0 ∧ yX0_due.cls ≠ "java/lang/invoke/MethodHandle" ∧ yX0_due.cls ≠ "java/lang/invoke/VarHandle" ∧ (parseMethodDescriptor yX0_due.desc).map (fun d => d.parameters.length) = some 2 := ⟨rfl, hs_X0_due⟩
theorem hs_X0_dueOf : yX0_dueOf.cls ≠ "java/lang/invoke/MethodHandle" ∧ yX0_dueOf.cls ≠ "java/lang/invoke/VarHandle" ∧ (parseMethodDescriptor yX0_dueOf.desc).map (fun d => d.parameters.length) = some 2 := by decide +kernel
theorem hv_X0_dueOf : yX0_dueOf.cls = RX0 ∧ yX0_dueOf.cls ≠ "java/lang/invoke/MethodHandle" ∧ yX0_dueOf.cls ≠ "java/lang/invoke/VarHandle" ∧ (parseMethodDescriptor yX0_dueOf.desc).map (fun d => d.parameters.length) = some 2 := ⟨rfl, hs_X0_dueOf⟩
theorem hs_X0_hush : yX0_hush.cls ≠ "java/lang/invoke/MethodHandle" ∧ yX0_hush.cls ≠ "java/lang/invoke/VarHandle" ∧ (parseMethodDescriptor yX0_hush.desc).map (fun d => d.parameters.length) = some 1 := by decide +kernel
theorem hv_X0_hush : yX0_hush.cls = RX0 ∧ yX0_hush.cls ≠ "java/lang/invoke/MethodHandle" ∧ yX0_hush.cls ≠ "java/lang/invoke/VarHandle" ∧ (parseMethodDescriptor yX0_hush.desc).map (fun d => d.parameters.length) = some 1 := ⟨rfl, hs_X0_hush⟩
theorem hs_X0_hushBy : yX0_hushBy.cls ≠ "java/lang/invoke/MethodHandle" ∧ yX0_hushBy.cls ≠ "java/lang/invoke/VarHandle" ∧ (parseMethodDescriptor yX0_hushBy.desc).map (fun d => d.parameters.length) = some 1 := by decide +kernel
theorem hv_X0_hushBy : yX0_hushBy.cls = RX0 ∧ yX0_hushBy.cls ≠ "java/lang/invoke/MethodHandle" ∧ yX0_hushBy.cls ≠ "java/lang/invoke/VarHandle" ∧ (parseMethodDescriptor yX0_hushBy.desc).map (fun d => d.parameters.length) = some 1 := ⟨rfl, hs_X0_hushBy⟩
theorem hs_X0_isHushed : yX0_isHushed.cls ≠ "java/lang/invoke/MethodHandle" ∧ yX0_isHushed.cls ≠ "java/lang/invoke/VarHandle" ∧ (parseMethodDescriptor yX0_isHushed.desc).map (fun d => d.parameters.length) = some 1 := by decide +kernel
theorem hv_X0_isHushed : yX0_isHushed.cls = RX0 ∧ yX0_isHushed.cls ≠ "java/lang/invoke/MethodHandle" ∧ yX0_isHushed.cls ≠ "java/lang/invoke/VarHandle" ∧ (parseMethodDescriptor yX0_isHushed.desc).map (fun d => d.parameters.length) = some 1 := ⟨rfl, hs_X0_isHushed⟩
theorem hs_X0_seen : yX0_seen.cls ≠ "java/lang/invoke/MethodHandle" ∧ yX0_seen.cls ≠ "java/lang/invoke/VarHandle" ∧ (parseMethodDescriptor yX0_seen.desc).map (fun d => d.parameters.length) = some 3 := by decide +kernel
theorem hv_X0_seen : yX0_seen.cls = RX0 ∧ yX0_seen.cls ≠ "java/lang/invoke/MethodHandle" ∧ yX0_seen.cls ≠ "java/lang/invoke/VarHandle" ∧ (parseMethodDescriptor yX0_seen.desc).map (fun d => d.parameters.length) = some 3 := ⟨rfl, hs_X0_seen⟩
theorem hs_X0_forget : yX0_forget.cls ≠ "java/lang/invoke/MethodHandle" ∧ yX0_forget.cls ≠ "java/lang/invoke/VarHandle" ∧ (parseMethodDescriptor yX0_forget.desc).map (fun d => d.parameters.length) = some 0 := by decide +kernel
theorem hv_X0_forget : yX0_forget.cls = RX0 ∧ yX0_forget.cls ≠ "java/lang/invoke/MethodHandle" ∧ yX0_forget.cls ≠ "java/lang/invoke/VarHandle" ∧ (parseMethodDescriptor yX0_forget.desc).map (fun d => d.parameters.length) = some 0 := ⟨rfl, hs_X0_forget⟩
theorem hs_X0_never : yX0_never.cls ≠ "java/lang/invoke/MethodHandle" ∧ yX0_never.cls ≠ "java/lang/invoke/VarHandle" ∧ (parseMethodDescriptor yX0_never.desc).map (fun d => d.parameters.length) = some 0 := by decide +kernel
theorem hv_X0_never : yX0_never.cls = RX0 ∧ yX0_never.cls ≠ "java/lang/invoke/MethodHandle" ∧ yX0_never.cls ≠ "java/lang/invoke/VarHandle" ∧ (parseMethodDescriptor yX0_never.desc).map (fun d => d.parameters.length) = some 0 := ⟨rfl, hs_X0_never⟩
theorem hs_X0_neverNow : yX0_neverNow.cls ≠ "java/lang/invoke/MethodHandle" ∧ yX0_neverNow.cls ≠ "java/lang/invoke/VarHandle" ∧ (parseMethodDescriptor yX0_neverNow.desc).map (fun d => d.parameters.length) = some 0 := by decide +kernel
theorem hv_X0_neverNow : yX0_neverNow.cls = RX0 ∧ yX0_neverNow.cls ≠ "java/lang/invoke/MethodHandle" ∧ yX0_neverNow.cls ≠ "java/lang/invoke/VarHandle" ∧ (parseMethodDescriptor yX0_neverNow.desc).map (fun d => d.parameters.length) = some 0 := ⟨rfl, hs_X0_neverNow⟩
theorem hs_X0_isSeen : yX0_isSeen.cls ≠ "java/lang/invoke/MethodHandle" ∧ yX0_isSeen.cls ≠ "java/lang/invoke/VarHandle" ∧ (parseMethodDescriptor yX0_isSeen.desc).map (fun d => d.parameters.length) = some 0 := by decide +kernel
theorem hv_X0_isSeen : yX0_isSeen.cls = RX0 ∧ yX0_isSeen.cls ≠ "java/lang/invoke/MethodHandle" ∧ yX0_isSeen.cls ≠ "java/lang/invoke/VarHandle" ∧ (parseMethodDescriptor yX0_isSeen.desc).map (fun d => d.parameters.length) = some 0 := ⟨rfl, hs_X0_isSeen⟩
theorem hs_X0_was : yX0_was.cls ≠ "java/lang/invoke/MethodHandle" ∧ yX0_was.cls ≠ "java/lang/invoke/VarHandle" ∧ (parseMethodDescriptor yX0_was.desc).map (fun d => d.parameters.length) = some 2 := by decide +kernel
theorem hv_X0_was : yX0_was.cls = RX0 ∧ yX0_was.cls ≠ "java/lang/invoke/MethodHandle" ∧ yX0_was.cls ≠ "java/lang/invoke/VarHandle" ∧ (parseMethodDescriptor yX0_was.desc).map (fun d => d.parameters.length) = some 2 := ⟨rfl, hs_X0_was⟩
theorem hs_X0_wasOf : yX0_wasOf.cls ≠ "java/lang/invoke/MethodHandle" ∧ yX0_wasOf.cls ≠ "java/lang/invoke/VarHandle" ∧ (parseMethodDescriptor yX0_wasOf.desc).map (fun d => d.parameters.length) = some 2 := by decide +kernel
theorem hv_X0_wasOf : yX0_wasOf.cls = RX0 ∧ yX0_wasOf.cls ≠ "java/lang/invoke/MethodHandle" ∧ yX0_wasOf.cls ≠ "java/lang/invoke/VarHandle" ∧ (parseMethodDescriptor yX0_wasOf.desc).map (fun d => d.parameters.length) = some 2 := ⟨rfl, hs_X0_wasOf⟩
theorem hs_X0_sizesOf : yX0_sizesOf.cls ≠ "java/lang/invoke/MethodHandle" ∧ yX0_sizesOf.cls ≠ "java/lang/invoke/VarHandle" ∧ (parseMethodDescriptor yX0_sizesOf.desc).map (fun d => d.parameters.length) = some 1 := by decide +kernel
theorem hv_X0_sizesOf : yX0_sizesOf.cls = RX0 ∧ yX0_sizesOf.cls ≠ "java/lang/invoke/MethodHandle" ∧ yX0_sizesOf.cls ≠ "java/lang/invoke/VarHandle" ∧ (parseMethodDescriptor yX0_sizesOf.desc).map (fun d => d.parameters.length) = some 1 := ⟨rfl, hs_X0_sizesOf⟩
theorem hs_X0_sortBy : yX0_sortBy.cls ≠ "java/lang/invoke/MethodHandle" ∧ yX0_sortBy.cls ≠ "java/lang/invoke/VarHandle" ∧ (parseMethodDescriptor yX0_sortBy.desc).map (fun d => d.parameters.length) = some 1 := by decide +kernel
theorem hv_X0_sortBy : yX0_sortBy.cls = RX0 ∧ yX0_sortBy.cls ≠ "java/lang/invoke/MethodHandle" ∧ yX0_sortBy.cls ≠ "java/lang/invoke/VarHandle" ∧ (parseMethodDescriptor yX0_sortBy.desc).map (fun d => d.parameters.length) = some 1 := ⟨rfl, hs_X0_sortBy⟩
theorem hs_X0_ask : yX0_ask.cls ≠ "java/lang/invoke/MethodHandle" ∧ yX0_ask.cls ≠ "java/lang/invoke/VarHandle" ∧ (parseMethodDescriptor yX0_ask.desc).map (fun d => d.parameters.length) = some 1 := by decide +kernel
theorem hv_X0_ask : yX0_ask.cls = RX0 ∧ yX0_ask.cls ≠ "java/lang/invoke/MethodHandle" ∧ yX0_ask.cls ≠ "java/lang/invoke/VarHandle" ∧ (parseMethodDescriptor yX0_ask.desc).map (fun d => d.parameters.length) = some 1 := ⟨rfl, hs_X0_ask⟩
theorem hs_X0_askOf : yX0_askOf.cls ≠ "java/lang/invoke/MethodHandle" ∧ yX0_askOf.cls ≠ "java/lang/invoke/VarHandle" ∧ (parseMethodDescriptor yX0_askOf.desc).map (fun d => d.parameters.length) = some 1 := by decide +kernel
theorem hv_X0_askOf : yX0_askOf.cls = RX0 ∧ yX0_askOf.cls ≠ "java/lang/invoke/MethodHandle" ∧ yX0_askOf.cls ≠ "java/lang/invoke/VarHandle" ∧ (parseMethodDescriptor yX0_askOf.desc).map (fun d => d.parameters.length) = some 1 := ⟨rfl, hs_X0_askOf⟩
theorem hs_X0_alike : yX0_alike.cls ≠ "java/lang/invoke/MethodHandle" ∧ yX0_alike.cls ≠ "java/lang/invoke/VarHandle" ∧ (parseMethodDescriptor yX0_alike.desc).map (fun d => d.parameters.length) = some 2 := by decide +kernel
theorem hv_X0_alike : yX0_alike.cls = RX0 ∧ yX0_alike.cls ≠ "java/lang/invoke/MethodHandle" ∧ yX0_alike.cls ≠ "java/lang/invoke/VarHandle" ∧ (parseMethodDescriptor yX0_alike.desc).map (fun d => d.parameters.length) = some 2 := ⟨rfl, hs_X0_alike⟩
theorem hs_X0_word : yX0_word.cls ≠ "java/lang/invoke/MethodHandle" ∧ yX0_word.cls ≠ "java/lang/invoke/VarHandle" ∧ (parseMethodDescriptor yX0_word.desc).map (fun d => d.parameters.length) = some 4 := by decide +kernel
theorem hv_X0_word : yX0_word.cls = RX0 ∧ yX0_word.cls ≠ "java/lang/invoke/MethodHandle" ∧ yX0_word.cls ≠ "java/lang/invoke/VarHandle" ∧ (parseMethodDescriptor yX0_word.desc).map (fun d => d.parameters.length) = some 4 := ⟨rfl, hs_X0_word⟩
theorem hs_X0_wordOf : yX0_wordOf.cls ≠ "java/lang/invoke/MethodHandle" ∧ yX0_wordOf.cls ≠ "java/lang/invoke/VarHandle" ∧ (parseMethodDescriptor yX0_wordOf.desc).map (fun d => d.parameters.length) = some 4 := by decide +kernel
theorem hv_X0_wordOf : yX0_wordOf.cls = RX0 ∧ yX0_wordOf.cls ≠ "java/lang/invoke/MethodHandle" ∧ yX0_wordOf.cls ≠ "java/lang/invoke/VarHandle" ∧ (parseMethodDescriptor yX0_wordOf.desc).map (fun d => d.parameters.length) = some 4 := ⟨rfl, hs_X0_wordOf⟩
theorem hs_X0_part : yX0_part.cls ≠ "java/lang/invoke/MethodHandle" ∧ yX0_part.cls ≠ "java/lang/invoke/VarHandle" ∧ (parseMethodDescriptor yX0_part.desc).map (fun d => d.parameters.length) = some 3 := by decide +kernel
theorem hv_X0_part : yX0_part.cls = RX0 ∧ yX0_part.cls ≠ "java/lang/invoke/MethodHandle" ∧ yX0_part.cls ≠ "java/lang/invoke/VarHandle" ∧ (parseMethodDescriptor yX0_part.desc).map (fun d => d.parameters.length) = some 3 := ⟨rfl, hs_X0_part⟩
theorem hs_X0_divisor : yX0_divisor.cls ≠ "java/lang/invoke/MethodHandle" ∧ yX0_divisor.cls ≠ "java/lang/invoke/VarHandle" ∧ (parseMethodDescriptor yX0_divisor.desc).map (fun d => d.parameters.length) = some 2 := by decide +kernel
theorem hv_X0_divisor : yX0_divisor.cls = RX0 ∧ yX0_divisor.cls ≠ "java/lang/invoke/MethodHandle" ∧ yX0_divisor.cls ≠ "java/lang/invoke/VarHandle" ∧ (parseMethodDescriptor yX0_divisor.desc).map (fun d => d.parameters.length) = some 2 := ⟨rfl, hs_X0_divisor⟩
theorem hs_X0_no : yX0_no.cls ≠ "java/lang/invoke/MethodHandle" ∧ yX0_no.cls ≠ "java/lang/invoke/VarHandle" ∧ (parseMethodDescriptor yX0_no.desc).map (fun d => d.parameters.length) = some 1 := by decide +kernel
theorem hv_X0_no : yX0_no.cls = RX0 ∧ yX0_no.cls ≠ "java/lang/invoke/MethodHandle" ∧ yX0_no.cls ≠ "java/lang/invoke/VarHandle" ∧ (parseMethodDescriptor yX0_no.desc).map (fun d => d.parameters.length) = some 1 := ⟨rfl, hs_X0_no⟩
theorem hs_X0_year : yX0_year.cls ≠ "java/lang/invoke/MethodHandle" ∧ yX0_year.cls ≠ "java/lang/invoke/VarHandle" ∧ (parseMethodDescriptor yX0_year.desc).map (fun d => d.parameters.length) = some 3 := by decide +kernel
theorem hv_X0_year : yX0_year.cls = RX0 ∧ yX0_year.cls ≠ "java/lang/invoke/MethodHandle" ∧ yX0_year.cls ≠ "java/lang/invoke/VarHandle" ∧ (parseMethodDescriptor yX0_year.desc).map (fun d => d.parameters.length) = some 3 := ⟨rfl, hs_X0_year⟩
theorem hs_X0_yearOf : yX0_yearOf.cls ≠ "java/lang/invoke/MethodHandle" ∧ yX0_yearOf.cls ≠ "java/lang/invoke/VarHandle" ∧ (parseMethodDescriptor yX0_yearOf.desc).map (fun d => d.parameters.length) = some 3 := by decide +kernel
theorem hv_X0_yearOf : yX0_yearOf.cls = RX0 ∧ yX0_yearOf.cls ≠ "java/lang/invoke/MethodHandle" ∧ yX0_yearOf.cls ≠ "java/lang/invoke/VarHandle" ∧ (parseMethodDescriptor yX0_yearOf.desc).map (fun d => d.parameters.length) = some 3 := ⟨rfl, hs_X0_yearOf⟩
theorem hs_X0_lot : yX0_lot.cls ≠ "java/lang/invoke/MethodHandle" ∧ yX0_lot.cls ≠ "java/lang/invoke/VarHandle" ∧ (parseMethodDescriptor yX0_lot.desc).map (fun d => d.parameters.length) = some 1 := by decide +kernel
theorem hv_X0_lot : yX0_lot.cls = RX0 ∧ yX0_lot.cls ≠ "java/lang/invoke/MethodHandle" ∧ yX0_lot.cls ≠ "java/lang/invoke/VarHandle" ∧ (parseMethodDescriptor yX0_lot.desc).map (fun d => d.parameters.length) = some 1 := ⟨rfl, hs_X0_lot⟩
theorem hs_X0_broken : yX0_broken.cls ≠ "java/lang/invoke/MethodHandle" ∧ yX0_broken.cls ≠ "java/lang/invoke/VarHandle" ∧ (parseMethodDescriptor yX0_broken.desc).map (fun d => d.parameters.length) = some 0 := by decide +kernel
theorem hv_X0_broken : yX0_broken.cls = RX0 ∧ yX0_broken.cls ≠ "java/lang/invoke/MethodHandle" ∧ yX0_broken.cls ≠ "java/lang/invoke/VarHandle" ∧ (parseMethodDescriptor yX0_broken.desc).map (fun d => d.parameters.length) = some 0 := ⟨rfl, hs_X0_broken⟩
theorem hs_X0_sheet : yX0_sheet.cls ≠ "java/lang/invoke/MethodHandle" ∧ yX0_sheet.cls ≠ "java/lang/invoke/VarHandle" ∧ (parseMethodDescriptor yX0_sheet.desc).map (fun d => d.parameters.length) = some 3 := by decide +kernel
theorem hv_X0_sheet : yX0_sheet.cls = RX0 ∧ yX0_sheet.cls ≠ "java/lang/invoke/MethodHandle" ∧ yX0_sheet.cls ≠ "java/lang/invoke/VarHandle" ∧ (parseMethodDescriptor yX0_sheet.desc).map (fun d => d.parameters.length) = some 3 := ⟨rfl, hs_X0_sheet⟩
theorem hs_X0_rowOf : yX0_rowOf.cls ≠ "java/lang/invoke/MethodHandle" ∧ yX0_rowOf.cls ≠ "java/lang/invoke/VarHandle" ∧ (parseMethodDescriptor yX0_rowOf.desc).map (fun d => d.parameters.length) = some 2 := by decide +kernel
theorem hv_X0_rowOf : yX0_rowOf.cls = RX0 ∧ yX0_rowOf.cls ≠ "java/lang/invoke/MethodHandle" ∧ yX0_rowOf.cls ≠ "java/lang/invoke/VarHandle" ∧ (parseMethodDescriptor yX0_rowOf.desc).map (fun d => d.parameters.length) = some 2 := ⟨rfl, hs_X0_rowOf⟩
theorem hs_X0_lose : yX0_lose.cls ≠ "java/lang/invoke/MethodHandle" ∧ yX0_lose.cls ≠ "java/lang/invoke/VarHandle" ∧ (parseMethodDescriptor yX0_lose.desc).map (fun d => d.parameters.length) = some 1 := by decide +kernel
theorem hv_X0_lose : yX0_lose.cls = RX0 ∧ yX0_lose.cls ≠ "java/lang/invoke/MethodHandle" ∧ yX0_lose.cls ≠ "java/lang/invoke/VarHandle" ∧ (parseMethodDescriptor yX0_lose.desc).map (fun d => d.parameters.length) = some 1 := ⟨rfl, hs_X0_lose⟩
theorem hs_X0_put : yX0_put.cls ≠ "java/lang/invoke/MethodHandle" ∧ yX0_put.cls ≠ "java/lang/invoke/VarHandle" ∧ (parseMethodDescriptor yX0_put.desc).map (fun d => d.parameters.length) = some 4 := by decide +kernel
theorem hv_X0_put : yX0_put.cls = RX0 ∧ yX0_put.cls ≠ "java/lang/invoke/MethodHandle" ∧ yX0_put.cls ≠ "java/lang/invoke/VarHandle" ∧ (parseMethodDescriptor yX0_put.desc).map (fun d => d.parameters.length) = some 4 := ⟨rfl, hs_X0_put⟩
theorem hs_X0_get : yX0_get.cls ≠ "java/lang/invoke/MethodHandle" ∧ yX0_get.cls ≠ "java/lang/invoke/VarHandle" ∧ (parseMethodDescriptor yX0_get.desc).map (fun d => d.parameters.length) = some 3 := by decide +kernel
theorem hv_X0_get : yX0_get.cls = RX0 ∧ yX0_get.cls ≠ "java/lang/invoke/MethodHandle" ∧ yX0_get.cls ≠ "java/lang/invoke/VarHandle" ∧ (parseMethodDescriptor yX0_get.desc).map (fun d => d.parameters.length) = some 3 := ⟨rfl, hs_X0_get⟩
theorem hs_X0_lowest : yX0_lowest.cls ≠ "java/lang/invoke/MethodHandle" ∧ yX0_lowest.cls ≠ "java/lang/invoke/VarHandle" ∧ (parseMethodDescriptor yX0_lowest.desc).map (fun d => d.parameters.length) = some 1 := by decide +kernel
theorem hv_X0_lowest : yX0_lowest.cls = RX0 ∧ yX0_lowest.cls ≠ "java/lang/invoke/MethodHandle" ∧ yX0_lowest.cls ≠ "java/lang/invoke/VarHandle" ∧ (parseMethodDescriptor yX0_lowest.desc).map (fun d => d.parameters.length) = some 1 := ⟨rfl, hs_X0_lowest⟩
theorem hs_X0_copy : yX0_copy.cls ≠ "java/lang/invoke/MethodHandle" ∧ yX0_copy.cls ≠ "java/lang/invoke/VarHandle" ∧ (parseMethodDescriptor yX0_copy.desc).map (fun d => d.parameters.length) = some 5 := by decide +kernel
theorem hv_X0_copy : yX0_copy.cls = RX0 ∧ yX0_copy.cls ≠ "java/lang/invoke/MethodHandle" ∧ yX0_copy.cls ≠ "java/lang/invoke/VarHandle" ∧ (parseMethodDescriptor yX0_copy.desc).map (fun d => d.parameters.length) = some 5 := ⟨rfl, hs_X0_copy⟩
theorem hs_X0_write : yX0_write.cls ≠ "java/lang/invoke/MethodHandle" ∧ yX0_write.cls ≠ "java/lang/invoke/VarHandle" ∧ (parseMethodDescriptor yX0_write.desc).map (fun d => d.parameters.length) = some 2 := by decide +kernel
theorem hv_X0_write : yX0_write.cls = RX0 ∧ yX0_write.cls ≠ "java/lang/invoke/MethodHandle" ∧ yX0_write.cls ≠ "java/lang/invoke/VarHandle" ∧ (parseMethodDescriptor yX0_write.desc).map (fun d => d.parameters.length) = some 2 := ⟨rfl, hs_X0_write⟩
theorem hs_X0_count : yX0_count.cls ≠ "java/lang/invoke/MethodHandle" ∧ yX0_count.cls ≠ "java/lang/invoke/VarHandle" ∧ (parseMethodDescriptor yX0_count.desc).map (fun d => d.parameters.length) = some 1 := by decide +kernel
theorem hv_X0_count : yX0_count.cls = RX0 ∧ yX0_count.cls ≠ "java/lang/invoke/MethodHandle" ∧ yX0_count.cls ≠ "java/lang/invoke/VarHandle" ∧ (parseMethodDescriptor yX0_count.desc).map (fun d => d.parameters.length) = some 1 := ⟨rfl, hs_X0_count⟩
theorem hs_X0_digest : yX0_digest.cls ≠ "java/lang/invoke/MethodHandle" ∧ yX0_digest.cls ≠ "java/lang/invoke/VarHandle" ∧ (parseMethodDescriptor yX0_digest.desc).map (fun d => d.parameters.length) = some 0 := by decide +kernel
theorem hv_X0_digest : yX0_digest.cls = RX0 ∧ yX0_digest.cls ≠ "java/lang/invoke/MethodHandle" ∧ yX0_digest.cls ≠ "java/lang/invoke/VarHandle" ∧ (parseMethodDescriptor yX0_digest.desc).map (fun d => d.parameters.length) = some 0 := ⟨rfl, hs_X0_digest⟩
theorem hs_X0_tellsPromise : yX0_tellsPromise.cls ≠ "java/lang/invoke/MethodHandle" ∧ yX0_tellsPromise.cls ≠ "java/lang/invoke/VarHandle" ∧ (parseMethodDescriptor yX0_tellsPromise.desc).map (fun d => d.parameters.length) = some 2 := by decide +kernel
theorem hv_X0_tellsPromise : yX0_tellsPromise.cls = RX0 ∧ yX0_tellsPromise.cls ≠ "java/lang/invoke/MethodHandle" ∧ yX0_tellsPromise.cls ≠ "java/lang/invoke/VarHandle" ∧ (parseMethodDescriptor yX0_tellsPromise.desc).map (fun d => d.parameters.length) = some 2 := ⟨rfl, hs_X0_tellsPromise⟩
theorem hs_X0_tellsPerson : yX0_tellsPerson.cls ≠ "java/lang/invoke/MethodHandle" ∧ yX0_tellsPerson.cls ≠ "java/lang/invoke/VarHandle" ∧ (parseMethodDescriptor yX0_tellsPerson.desc).map (fun d => d.parameters.length) = some 2 := by decide +kernel
theorem hv_X0_tellsPerson : yX0_tellsPerson.cls = RX0 ∧ yX0_tellsPerson.cls ≠ "java/lang/invoke/MethodHandle" ∧ yX0_tellsPerson.cls ≠ "java/lang/invoke/VarHandle" ∧ (parseMethodDescriptor yX0_tellsPerson.desc).map (fun d => d.parameters.length) = some 2 := ⟨rfl, hs_X0_tellsPerson⟩
theorem hs_X0_tellsDay : yX0_tellsDay.cls ≠ "java/lang/invoke/MethodHandle" ∧ yX0_tellsDay.cls ≠ "java/lang/invoke/VarHandle" ∧ (parseMethodDescriptor yX0_tellsDay.desc).map (fun d => d.parameters.length) = some 3 := by decide +kernel
theorem hv_X0_tellsDay : yX0_tellsDay.cls = RX0 ∧ yX0_tellsDay.cls ≠ "java/lang/invoke/MethodHandle" ∧ yX0_tellsDay.cls ≠ "java/lang/invoke/VarHandle" ∧ (parseMethodDescriptor yX0_tellsDay.desc).map (fun d => d.parameters.length) = some 3 := ⟨rfl, hs_X0_tellsDay⟩
