set_option maxRecDepth 100000
abbrev cX5_init : ByteArray := prog_13_method_1_code
def yX5_init : MethodName := ⟨RX5, "<init>", "()V"⟩
def dkwX5_init_11 : List UInt8 := [17, 0, 240, 188, 10, 181, 0, 107, 42, 16, 60, 188, 10, 181, 0, 110, 177]
abbrev dktX5_init_11 : List UInt8 := dkwX5_init_11 ++ []
def dkwX5_init_10 : List UInt8 := [42, 7, 188, 4, 181, 0, 97, 42, 7, 188, 10, 181, 0, 101, 42, 7, 188, 10, 181, 0, 104, 42]
abbrev dktX5_init_10 : List UInt8 := dkwX5_init_10 ++ dktX5_init_11
def dkwX5_init_9 : List UInt8 := [16, 8, 188, 10, 181, 0, 88, 42, 16, 8, 188, 10, 181, 0, 91, 42, 17, 0, 240, 188, 10, 181, 0, 94]
abbrev dktX5_init_9 : List UInt8 := dkwX5_init_9 ++ dktX5_init_10
def dkwX5_init_8 : List UInt8 := [17, 1, 32, 188, 10, 181, 0, 79, 42, 5, 188, 10, 181, 0, 82, 42, 16, 8, 188, 10, 181, 0, 85, 42]
abbrev dktX5_init_8 : List UInt8 := dkwX5_init_8 ++ dktX5_init_9
def dkwX5_init_7 : List UInt8 := [181, 0, 70, 42, 17, 0, 192, 188, 10, 181, 0, 73, 42, 17, 0, 192, 188, 10, 181, 0, 76, 42]
abbrev dktX5_init_7 : List UInt8 := dkwX5_init_7 ++ dktX5_init_8
def dkwX5_init_6 : List UInt8 := [181, 0, 61, 42, 16, 8, 188, 10, 181, 0, 64, 42, 16, 8, 188, 10, 181, 0, 67, 42, 16, 12, 188, 10]
abbrev dktX5_init_6 : List UInt8 := dkwX5_init_6 ++ dktX5_init_7
def dkwX5_init_5 : List UInt8 := [181, 0, 52, 42, 16, 6, 188, 10, 181, 0, 55, 42, 16, 9, 188, 10, 181, 0, 58, 42, 16, 9, 188, 10]
abbrev dktX5_init_5 : List UInt8 := dkwX5_init_5 ++ dktX5_init_6
def dkwX5_init_4 : List UInt8 := [181, 0, 43, 42, 16, 6, 188, 10, 181, 0, 46, 42, 16, 6, 188, 10, 181, 0, 49, 42, 16, 6, 188, 10]
abbrev dktX5_init_4 : List UInt8 := dkwX5_init_4 ++ dktX5_init_5
def dkwX5_init_3 : List UInt8 := [181, 0, 34, 42, 16, 9, 188, 10, 181, 0, 37, 42, 16, 6, 188, 10, 181, 0, 40, 42, 16, 6, 188, 10]
abbrev dktX5_init_3 : List UInt8 := dkwX5_init_3 ++ dktX5_init_4
def dkwX5_init_2 : List UInt8 := [181, 0, 25, 42, 16, 12, 188, 10, 181, 0, 28, 42, 16, 12, 188, 10, 181, 0, 31, 42, 16, 9, 188, 10]
abbrev dktX5_init_2 : List UInt8 := dkwX5_init_2 ++ dktX5_init_3
def dkwX5_init_1 : List UInt8 := [181, 0, 16, 42, 16, 9, 188, 10, 181, 0, 19, 42, 16, 12, 188, 10, 181, 0, 22, 42, 16, 12, 188, 10]
abbrev dktX5_init_1 : List UInt8 := dkwX5_init_1 ++ dktX5_init_2
def dkwX5_init_0 : List UInt8 := [42, 183, 0, 1, 42, 5, 188, 10, 181, 0, 7, 42, 16, 98, 188, 10, 181, 0, 13, 42, 16, 9, 188, 10]
abbrev dktX5_init_0 : List UInt8 := dkwX5_init_0 ++ dktX5_init_1
theorem dksX5_init_0 : cX5_init.data.toList.drop 0 = dktX5_init_0 := by decide +kernel
theorem dksX5_init_1 : cX5_init.data.toList.drop 24 = dktX5_init_1 := dk_seg dksX5_init_0 24 rfl rfl
theorem dksX5_init_2 : cX5_init.data.toList.drop 48 = dktX5_init_2 := dk_seg dksX5_init_1 24 rfl rfl
theorem dksX5_init_3 : cX5_init.data.toList.drop 72 = dktX5_init_3 := dk_seg dksX5_init_2 24 rfl rfl
theorem dksX5_init_4 : cX5_init.data.toList.drop 96 = dktX5_init_4 := dk_seg dksX5_init_3 24 rfl rfl
theorem dksX5_init_5 : cX5_init.data.toList.drop 120 = dktX5_init_5 := dk_seg dksX5_init_4 24 rfl rfl
theorem dksX5_init_6 : cX5_init.data.toList.drop 144 = dktX5_init_6 := dk_seg dksX5_init_5 24 rfl rfl
theorem dksX5_init_7 : cX5_init.data.toList.drop 168 = dktX5_init_7 := dk_seg dksX5_init_6 24 rfl rfl
theorem dksX5_init_8 : cX5_init.data.toList.drop 190 = dktX5_init_8 := dk_seg dksX5_init_7 22 rfl rfl
theorem dksX5_init_9 : cX5_init.data.toList.drop 214 = dktX5_init_9 := dk_seg dksX5_init_8 24 rfl rfl
theorem dksX5_init_10 : cX5_init.data.toList.drop 238 = dktX5_init_10 := dk_seg dksX5_init_9 24 rfl rfl
theorem dksX5_init_11 : cX5_init.data.toList.drop 260 = dktX5_init_11 := dk_seg dksX5_init_10 22 rfl rfl
theorem dX5_init_0 : decode cX5_init 0 = .ok (.aload_n 0, 1) := dk_42 (dk_at dksX5_init_0 0 rfl rfl)
theorem dX5_init_1 : decode cX5_init 1 = .ok (.invokespecial 1, 3) := dk_183 0 1 (dk_at dksX5_init_0 1 rfl rfl)
theorem dX5_init_4 : decode cX5_init 4 = .ok (.aload_n 0, 1) := dk_42 (dk_at dksX5_init_0 4 rfl rfl)
theorem dX5_init_5 : decode cX5_init 5 = .ok (.iconst 2, 1) := dk_5 (dk_at dksX5_init_0 5 rfl rfl)
theorem dX5_init_6 : decode cX5_init 6 = .ok (.newarray .int, 2) := dk_188_10 (dk_at dksX5_init_0 6 rfl rfl)
theorem dX5_init_8 : decode cX5_init 8 = .ok (.putfield 7, 3) := dk_181 0 7 (dk_at dksX5_init_0 8 rfl rfl)
theorem dX5_init_11 : decode cX5_init 11 = .ok (.aload_n 0, 1) := dk_42 (dk_at dksX5_init_0 11 rfl rfl)
theorem dX5_init_12 : decode cX5_init 12 = .ok (.bipush 98, 2) := dk_16 98 (dk_at dksX5_init_0 12 rfl rfl)
theorem dX5_init_14 : decode cX5_init 14 = .ok (.newarray .int, 2) := dk_188_10 (dk_at dksX5_init_0 14 rfl rfl)
theorem dX5_init_16 : decode cX5_init 16 = .ok (.putfield 13, 3) := dk_181 0 13 (dk_at dksX5_init_0 16 rfl rfl)
theorem dX5_init_19 : decode cX5_init 19 = .ok (.aload_n 0, 1) := dk_42 (dk_at dksX5_init_0 19 rfl rfl)
theorem dX5_init_20 : decode cX5_init 20 = .ok (.bipush 9, 2) := dk_16 9 (dk_at dksX5_init_0 20 rfl rfl)
theorem dX5_init_22 : decode cX5_init 22 = .ok (.newarray .int, 2) := dk_188_10 (dk_at dksX5_init_0 22 rfl rfl)
theorem dX5_init_24 : decode cX5_init 24 = .ok (.putfield 16, 3) := dk_181 0 16 (dk_at dksX5_init_1 0 rfl rfl)
theorem dX5_init_27 : decode cX5_init 27 = .ok (.aload_n 0, 1) := dk_42 (dk_at dksX5_init_1 3 rfl rfl)
theorem dX5_init_28 : decode cX5_init 28 = .ok (.bipush 9, 2) := dk_16 9 (dk_at dksX5_init_1 4 rfl rfl)
theorem dX5_init_30 : decode cX5_init 30 = .ok (.newarray .int, 2) := dk_188_10 (dk_at dksX5_init_1 6 rfl rfl)
theorem dX5_init_32 : decode cX5_init 32 = .ok (.putfield 19, 3) := dk_181 0 19 (dk_at dksX5_init_1 8 rfl rfl)
theorem dX5_init_35 : decode cX5_init 35 = .ok (.aload_n 0, 1) := dk_42 (dk_at dksX5_init_1 11 rfl rfl)
theorem dX5_init_36 : decode cX5_init 36 = .ok (.bipush 12, 2) := dk_16 12 (dk_at dksX5_init_1 12 rfl rfl)
theorem dX5_init_38 : decode cX5_init 38 = .ok (.newarray .int, 2) := dk_188_10 (dk_at dksX5_init_1 14 rfl rfl)
theorem dX5_init_40 : decode cX5_init 40 = .ok (.putfield 22, 3) := dk_181 0 22 (dk_at dksX5_init_1 16 rfl rfl)
theorem dX5_init_43 : decode cX5_init 43 = .ok (.aload_n 0, 1) := dk_42 (dk_at dksX5_init_1 19 rfl rfl)
theorem dX5_init_44 : decode cX5_init 44 = .ok (.bipush 12, 2) := dk_16 12 (dk_at dksX5_init_1 20 rfl rfl)
theorem dX5_init_46 : decode cX5_init 46 = .ok (.newarray .int, 2) := dk_188_10 (dk_at dksX5_init_1 22 rfl rfl)
theorem dX5_init_48 : decode cX5_init 48 = .ok (.putfield 25, 3) := dk_181 0 25 (dk_at dksX5_init_2 0 rfl rfl)
theorem dX5_init_51 : decode cX5_init 51 = .ok (.aload_n 0, 1) := dk_42 (dk_at dksX5_init_2 3 rfl rfl)
theorem dX5_init_52 : decode cX5_init 52 = .ok (.bipush 12, 2) := dk_16 12 (dk_at dksX5_init_2 4 rfl rfl)
theorem dX5_init_54 : decode cX5_init 54 = .ok (.newarray .int, 2) := dk_188_10 (dk_at dksX5_init_2 6 rfl rfl)
theorem dX5_init_56 : decode cX5_init 56 = .ok (.putfield 28, 3) := dk_181 0 28 (dk_at dksX5_init_2 8 rfl rfl)
theorem dX5_init_59 : decode cX5_init 59 = .ok (.aload_n 0, 1) := dk_42 (dk_at dksX5_init_2 11 rfl rfl)
theorem dX5_init_60 : decode cX5_init 60 = .ok (.bipush 12, 2) := dk_16 12 (dk_at dksX5_init_2 12 rfl rfl)
theorem dX5_init_62 : decode cX5_init 62 = .ok (.newarray .int, 2) := dk_188_10 (dk_at dksX5_init_2 14 rfl rfl)
theorem dX5_init_64 : decode cX5_init 64 = .ok (.putfield 31, 3) := dk_181 0 31 (dk_at dksX5_init_2 16 rfl rfl)
theorem dX5_init_67 : decode cX5_init 67 = .ok (.aload_n 0, 1) := dk_42 (dk_at dksX5_init_2 19 rfl rfl)
theorem dX5_init_68 : decode cX5_init 68 = .ok (.bipush 9, 2) := dk_16 9 (dk_at dksX5_init_2 20 rfl rfl)
theorem dX5_init_70 : decode cX5_init 70 = .ok (.newarray .int, 2) := dk_188_10 (dk_at dksX5_init_2 22 rfl rfl)
theorem dX5_init_72 : decode cX5_init 72 = .ok (.putfield 34, 3) := dk_181 0 34 (dk_at dksX5_init_3 0 rfl rfl)
theorem dX5_init_75 : decode cX5_init 75 = .ok (.aload_n 0, 1) := dk_42 (dk_at dksX5_init_3 3 rfl rfl)
theorem dX5_init_76 : decode cX5_init 76 = .ok (.bipush 9, 2) := dk_16 9 (dk_at dksX5_init_3 4 rfl rfl)
theorem dX5_init_78 : decode cX5_init 78 = .ok (.newarray .int, 2) := dk_188_10 (dk_at dksX5_init_3 6 rfl rfl)
theorem dX5_init_80 : decode cX5_init 80 = .ok (.putfield 37, 3) := dk_181 0 37 (dk_at dksX5_init_3 8 rfl rfl)
theorem dX5_init_83 : decode cX5_init 83 = .ok (.aload_n 0, 1) := dk_42 (dk_at dksX5_init_3 11 rfl rfl)
theorem dX5_init_84 : decode cX5_init 84 = .ok (.bipush 6, 2) := dk_16 6 (dk_at dksX5_init_3 12 rfl rfl)
theorem dX5_init_86 : decode cX5_init 86 = .ok (.newarray .int, 2) := dk_188_10 (dk_at dksX5_init_3 14 rfl rfl)
theorem dX5_init_88 : decode cX5_init 88 = .ok (.putfield 40, 3) := dk_181 0 40 (dk_at dksX5_init_3 16 rfl rfl)
theorem dX5_init_91 : decode cX5_init 91 = .ok (.aload_n 0, 1) := dk_42 (dk_at dksX5_init_3 19 rfl rfl)
theorem dX5_init_92 : decode cX5_init 92 = .ok (.bipush 6, 2) := dk_16 6 (dk_at dksX5_init_3 20 rfl rfl)
theorem dX5_init_94 : decode cX5_init 94 = .ok (.newarray .int, 2) := dk_188_10 (dk_at dksX5_init_3 22 rfl rfl)
theorem dX5_init_96 : decode cX5_init 96 = .ok (.putfield 43, 3) := dk_181 0 43 (dk_at dksX5_init_4 0 rfl rfl)
theorem dX5_init_99 : decode cX5_init 99 = .ok (.aload_n 0, 1) := dk_42 (dk_at dksX5_init_4 3 rfl rfl)
theorem dX5_init_100 : decode cX5_init 100 = .ok (.bipush 6, 2) := dk_16 6 (dk_at dksX5_init_4 4 rfl rfl)
theorem dX5_init_102 : decode cX5_init 102 = .ok (.newarray .int, 2) := dk_188_10 (dk_at dksX5_init_4 6 rfl rfl)
theorem dX5_init_104 : decode cX5_init 104 = .ok (.putfield 46, 3) := dk_181 0 46 (dk_at dksX5_init_4 8 rfl rfl)
theorem dX5_init_107 : decode cX5_init 107 = .ok (.aload_n 0, 1) := dk_42 (dk_at dksX5_init_4 11 rfl rfl)
theorem dX5_init_108 : decode cX5_init 108 = .ok (.bipush 6, 2) := dk_16 6 (dk_at dksX5_init_4 12 rfl rfl)
theorem dX5_init_110 : decode cX5_init 110 = .ok (.newarray .int, 2) := dk_188_10 (dk_at dksX5_init_4 14 rfl rfl)
theorem dX5_init_112 : decode cX5_init 112 = .ok (.putfield 49, 3) := dk_181 0 49 (dk_at dksX5_init_4 16 rfl rfl)
theorem dX5_init_115 : decode cX5_init 115 = .ok (.aload_n 0, 1) := dk_42 (dk_at dksX5_init_4 19 rfl rfl)
theorem dX5_init_116 : decode cX5_init 116 = .ok (.bipush 6, 2) := dk_16 6 (dk_at dksX5_init_4 20 rfl rfl)
theorem dX5_init_118 : decode cX5_init 118 = .ok (.newarray .int, 2) := dk_188_10 (dk_at dksX5_init_4 22 rfl rfl)
theorem dX5_init_120 : decode cX5_init 120 = .ok (.putfield 52, 3) := dk_181 0 52 (dk_at dksX5_init_5 0 rfl rfl)
theorem dX5_init_123 : decode cX5_init 123 = .ok (.aload_n 0, 1) := dk_42 (dk_at dksX5_init_5 3 rfl rfl)
theorem dX5_init_124 : decode cX5_init 124 = .ok (.bipush 6, 2) := dk_16 6 (dk_at dksX5_init_5 4 rfl rfl)
theorem dX5_init_126 : decode cX5_init 126 = .ok (.newarray .int, 2) := dk_188_10 (dk_at dksX5_init_5 6 rfl rfl)
theorem dX5_init_128 : decode cX5_init 128 = .ok (.putfield 55, 3) := dk_181 0 55 (dk_at dksX5_init_5 8 rfl rfl)
theorem dX5_init_131 : decode cX5_init 131 = .ok (.aload_n 0, 1) := dk_42 (dk_at dksX5_init_5 11 rfl rfl)
theorem dX5_init_132 : decode cX5_init 132 = .ok (.bipush 9, 2) := dk_16 9 (dk_at dksX5_init_5 12 rfl rfl)
theorem dX5_init_134 : decode cX5_init 134 = .ok (.newarray .int, 2) := dk_188_10 (dk_at dksX5_init_5 14 rfl rfl)
theorem dX5_init_136 : decode cX5_init 136 = .ok (.putfield 58, 3) := dk_181 0 58 (dk_at dksX5_init_5 16 rfl rfl)
theorem dX5_init_139 : decode cX5_init 139 = .ok (.aload_n 0, 1) := dk_42 (dk_at dksX5_init_5 19 rfl rfl)
theorem dX5_init_140 : decode cX5_init 140 = .ok (.bipush 9, 2) := dk_16 9 (dk_at dksX5_init_5 20 rfl rfl)
theorem dX5_init_142 : decode cX5_init 142 = .ok (.newarray .int, 2) := dk_188_10 (dk_at dksX5_init_5 22 rfl rfl)
theorem dX5_init_144 : decode cX5_init 144 = .ok (.putfield 61, 3) := dk_181 0 61 (dk_at dksX5_init_6 0 rfl rfl)
theorem dX5_init_147 : decode cX5_init 147 = .ok (.aload_n 0, 1) := dk_42 (dk_at dksX5_init_6 3 rfl rfl)
theorem dX5_init_148 : decode cX5_init 148 = .ok (.bipush 8, 2) := dk_16 8 (dk_at dksX5_init_6 4 rfl rfl)
theorem dX5_init_150 : decode cX5_init 150 = .ok (.newarray .int, 2) := dk_188_10 (dk_at dksX5_init_6 6 rfl rfl)
theorem dX5_init_152 : decode cX5_init 152 = .ok (.putfield 64, 3) := dk_181 0 64 (dk_at dksX5_init_6 8 rfl rfl)
theorem dX5_init_155 : decode cX5_init 155 = .ok (.aload_n 0, 1) := dk_42 (dk_at dksX5_init_6 11 rfl rfl)
theorem dX5_init_156 : decode cX5_init 156 = .ok (.bipush 8, 2) := dk_16 8 (dk_at dksX5_init_6 12 rfl rfl)
theorem dX5_init_158 : decode cX5_init 158 = .ok (.newarray .int, 2) := dk_188_10 (dk_at dksX5_init_6 14 rfl rfl)
theorem dX5_init_160 : decode cX5_init 160 = .ok (.putfield 67, 3) := dk_181 0 67 (dk_at dksX5_init_6 16 rfl rfl)
theorem dX5_init_163 : decode cX5_init 163 = .ok (.aload_n 0, 1) := dk_42 (dk_at dksX5_init_6 19 rfl rfl)
theorem dX5_init_164 : decode cX5_init 164 = .ok (.bipush 12, 2) := dk_16 12 (dk_at dksX5_init_6 20 rfl rfl)
theorem dX5_init_166 : decode cX5_init 166 = .ok (.newarray .int, 2) := dk_188_10 (dk_at dksX5_init_6 22 rfl rfl)
theorem dX5_init_168 : decode cX5_init 168 = .ok (.putfield 70, 3) := dk_181 0 70 (dk_at dksX5_init_7 0 rfl rfl)
theorem dX5_init_171 : decode cX5_init 171 = .ok (.aload_n 0, 1) := dk_42 (dk_at dksX5_init_7 3 rfl rfl)
theorem dX5_init_172 : decode cX5_init 172 = .ok (.sipush 192, 3) := dk_17 0 192 (dk_at dksX5_init_7 4 rfl rfl)
theorem dX5_init_175 : decode cX5_init 175 = .ok (.newarray .int, 2) := dk_188_10 (dk_at dksX5_init_7 7 rfl rfl)
theorem dX5_init_177 : decode cX5_init 177 = .ok (.putfield 73, 3) := dk_181 0 73 (dk_at dksX5_init_7 9 rfl rfl)
theorem dX5_init_180 : decode cX5_init 180 = .ok (.aload_n 0, 1) := dk_42 (dk_at dksX5_init_7 12 rfl rfl)
theorem dX5_init_181 : decode cX5_init 181 = .ok (.sipush 192, 3) := dk_17 0 192 (dk_at dksX5_init_7 13 rfl rfl)
theorem dX5_init_184 : decode cX5_init 184 = .ok (.newarray .int, 2) := dk_188_10 (dk_at dksX5_init_7 16 rfl rfl)
theorem dX5_init_186 : decode cX5_init 186 = .ok (.putfield 76, 3) := dk_181 0 76 (dk_at dksX5_init_7 18 rfl rfl)
theorem dX5_init_189 : decode cX5_init 189 = .ok (.aload_n 0, 1) := dk_42 (dk_at dksX5_init_7 21 rfl rfl)
theorem dX5_init_190 : decode cX5_init 190 = .ok (.sipush 288, 3) := dk_17 1 32 (dk_at dksX5_init_8 0 rfl rfl)
theorem dX5_init_193 : decode cX5_init 193 = .ok (.newarray .int, 2) := dk_188_10 (dk_at dksX5_init_8 3 rfl rfl)
theorem dX5_init_195 : decode cX5_init 195 = .ok (.putfield 79, 3) := dk_181 0 79 (dk_at dksX5_init_8 5 rfl rfl)
theorem dX5_init_198 : decode cX5_init 198 = .ok (.aload_n 0, 1) := dk_42 (dk_at dksX5_init_8 8 rfl rfl)
theorem dX5_init_199 : decode cX5_init 199 = .ok (.iconst 2, 1) := dk_5 (dk_at dksX5_init_8 9 rfl rfl)
theorem dX5_init_200 : decode cX5_init 200 = .ok (.newarray .int, 2) := dk_188_10 (dk_at dksX5_init_8 10 rfl rfl)
theorem dX5_init_202 : decode cX5_init 202 = .ok (.putfield 82, 3) := dk_181 0 82 (dk_at dksX5_init_8 12 rfl rfl)
theorem dX5_init_205 : decode cX5_init 205 = .ok (.aload_n 0, 1) := dk_42 (dk_at dksX5_init_8 15 rfl rfl)
theorem dX5_init_206 : decode cX5_init 206 = .ok (.bipush 8, 2) := dk_16 8 (dk_at dksX5_init_8 16 rfl rfl)
theorem dX5_init_208 : decode cX5_init 208 = .ok (.newarray .int, 2) := dk_188_10 (dk_at dksX5_init_8 18 rfl rfl)
theorem dX5_init_210 : decode cX5_init 210 = .ok (.putfield 85, 3) := dk_181 0 85 (dk_at dksX5_init_8 20 rfl rfl)
theorem dX5_init_213 : decode cX5_init 213 = .ok (.aload_n 0, 1) := dk_42 (dk_at dksX5_init_8 23 rfl rfl)
theorem dX5_init_214 : decode cX5_init 214 = .ok (.bipush 8, 2) := dk_16 8 (dk_at dksX5_init_9 0 rfl rfl)
theorem dX5_init_216 : decode cX5_init 216 = .ok (.newarray .int, 2) := dk_188_10 (dk_at dksX5_init_9 2 rfl rfl)
theorem dX5_init_218 : decode cX5_init 218 = .ok (.putfield 88, 3) := dk_181 0 88 (dk_at dksX5_init_9 4 rfl rfl)
theorem dX5_init_221 : decode cX5_init 221 = .ok (.aload_n 0, 1) := dk_42 (dk_at dksX5_init_9 7 rfl rfl)
theorem dX5_init_222 : decode cX5_init 222 = .ok (.bipush 8, 2) := dk_16 8 (dk_at dksX5_init_9 8 rfl rfl)
theorem dX5_init_224 : decode cX5_init 224 = .ok (.newarray .int, 2) := dk_188_10 (dk_at dksX5_init_9 10 rfl rfl)
theorem dX5_init_226 : decode cX5_init 226 = .ok (.putfield 91, 3) := dk_181 0 91 (dk_at dksX5_init_9 12 rfl rfl)
theorem dX5_init_229 : decode cX5_init 229 = .ok (.aload_n 0, 1) := dk_42 (dk_at dksX5_init_9 15 rfl rfl)
theorem dX5_init_230 : decode cX5_init 230 = .ok (.sipush 240, 3) := dk_17 0 240 (dk_at dksX5_init_9 16 rfl rfl)
theorem dX5_init_233 : decode cX5_init 233 = .ok (.newarray .int, 2) := dk_188_10 (dk_at dksX5_init_9 19 rfl rfl)
theorem dX5_init_235 : decode cX5_init 235 = .ok (.putfield 94, 3) := dk_181 0 94 (dk_at dksX5_init_9 21 rfl rfl)
theorem dX5_init_238 : decode cX5_init 238 = .ok (.aload_n 0, 1) := dk_42 (dk_at dksX5_init_10 0 rfl rfl)
theorem dX5_init_239 : decode cX5_init 239 = .ok (.iconst 4, 1) := dk_7 (dk_at dksX5_init_10 1 rfl rfl)
theorem dX5_init_240 : decode cX5_init 240 = .ok (.newarray .boolean, 2) := dk_188_4 (dk_at dksX5_init_10 2 rfl rfl)
theorem dX5_init_242 : decode cX5_init 242 = .ok (.putfield 97, 3) := dk_181 0 97 (dk_at dksX5_init_10 4 rfl rfl)
theorem dX5_init_245 : decode cX5_init 245 = .ok (.aload_n 0, 1) := dk_42 (dk_at dksX5_init_10 7 rfl rfl)
theorem dX5_init_246 : decode cX5_init 246 = .ok (.iconst 4, 1) := dk_7 (dk_at dksX5_init_10 8 rfl rfl)
theorem dX5_init_247 : decode cX5_init 247 = .ok (.newarray .int, 2) := dk_188_10 (dk_at dksX5_init_10 9 rfl rfl)
theorem dX5_init_249 : decode cX5_init 249 = .ok (.putfield 101, 3) := dk_181 0 101 (dk_at dksX5_init_10 11 rfl rfl)
theorem dX5_init_252 : decode cX5_init 252 = .ok (.aload_n 0, 1) := dk_42 (dk_at dksX5_init_10 14 rfl rfl)
theorem dX5_init_253 : decode cX5_init 253 = .ok (.iconst 4, 1) := dk_7 (dk_at dksX5_init_10 15 rfl rfl)
theorem dX5_init_254 : decode cX5_init 254 = .ok (.newarray .int, 2) := dk_188_10 (dk_at dksX5_init_10 16 rfl rfl)
theorem dX5_init_256 : decode cX5_init 256 = .ok (.putfield 104, 3) := dk_181 0 104 (dk_at dksX5_init_10 18 rfl rfl)
theorem dX5_init_259 : decode cX5_init 259 = .ok (.aload_n 0, 1) := dk_42 (dk_at dksX5_init_10 21 rfl rfl)
theorem dX5_init_260 : decode cX5_init 260 = .ok (.sipush 240, 3) := dk_17 0 240 (dk_at dksX5_init_11 0 rfl rfl)
theorem dX5_init_263 : decode cX5_init 263 = .ok (.newarray .int, 2) := dk_188_10 (dk_at dksX5_init_11 3 rfl rfl)
theorem dX5_init_265 : decode cX5_init 265 = .ok (.putfield 107, 3) := dk_181 0 107 (dk_at dksX5_init_11 5 rfl rfl)
theorem dX5_init_268 : decode cX5_init 268 = .ok (.aload_n 0, 1) := dk_42 (dk_at dksX5_init_11 8 rfl rfl)
theorem dX5_init_269 : decode cX5_init 269 = .ok (.bipush 60, 2) := dk_16 60 (dk_at dksX5_init_11 9 rfl rfl)
theorem dX5_init_271 : decode cX5_init 271 = .ok (.newarray .int, 2) := dk_188_10 (dk_at dksX5_init_11 11 rfl rfl)
theorem dX5_init_273 : decode cX5_init 273 = .ok (.putfield 110, 3) := dk_181 0 110 (dk_at dksX5_init_11 13 rfl rfl)
theorem dX5_init_276 : decode cX5_init 276 = .ok (.return_, 1) := dk_177 (dk_at dksX5_init_11 16 rfl rfl)
abbrev cX5_type : ByteArray := prog_13_method_10_code
def yX5_type : MethodName := ⟨RX5, "type", "(II)I"⟩
def dkwX5_type_3 : List UInt8 := [96, 79, 42, 180, 0, 7, 27, 46, 172]
abbrev dktX5_type_3 : List UInt8 := dkwX5_type_3 ++ []
def dkwX5_type_2 : List UInt8 := [180, 0, 13, 16, 49, 27, 104, 42, 180, 0, 7, 27, 46, 96, 28, 79, 42, 180, 0, 7, 27, 92, 46, 4]
abbrev dktX5_type_2 : List UInt8 := dkwX5_type_2 ++ dktX5_type_3
def dkwX5_type_1 : List UInt8 := [180, 0, 7, 27, 46, 27, 154, 0, 8, 16, 23, 167, 0, 5, 16, 49, 160, 0, 6, 16, 252, 172, 42]
abbrev dktX5_type_1 : List UInt8 := dkwX5_type_1 ++ dktX5_type_2
def dkwX5_type_0 : List UInt8 := [27, 184, 0, 119, 153, 0, 14, 28, 3, 17, 0, 255, 184, 0, 115, 154, 0, 6, 16, 254, 172, 42]
abbrev dktX5_type_0 : List UInt8 := dkwX5_type_0 ++ dktX5_type_1
theorem dksX5_type_0 : cX5_type.data.toList.drop 0 = dktX5_type_0 := by decide +kernel
theorem dksX5_type_1 : cX5_type.data.toList.drop 22 = dktX5_type_1 := dk_seg dksX5_type_0 22 rfl rfl
theorem dksX5_type_2 : cX5_type.data.toList.drop 45 = dktX5_type_2 := dk_seg dksX5_type_1 23 rfl rfl
theorem dksX5_type_3 : cX5_type.data.toList.drop 69 = dktX5_type_3 := dk_seg dksX5_type_2 24 rfl rfl
theorem dX5_type_0 : decode cX5_type 0 = .ok (.iload_n 1, 1) := dk_27 (dk_at dksX5_type_0 0 rfl rfl)
theorem dX5_type_1 : decode cX5_type 1 = .ok (.invokestatic 119, 3) := dk_184 0 119 (dk_at dksX5_type_0 1 rfl rfl)
theorem dX5_type_4 : decode cX5_type 4 = .ok (.ifCond .eq 14, 3) := dk_153 0 14 (dk_at dksX5_type_0 4 rfl rfl)
theorem dX5_type_7 : decode cX5_type 7 = .ok (.iload_n 2, 1) := dk_28 (dk_at dksX5_type_0 7 rfl rfl)
theorem dX5_type_8 : decode cX5_type 8 = .ok (.iconst 0, 1) := dk_3 (dk_at dksX5_type_0 8 rfl rfl)
theorem dX5_type_9 : decode cX5_type 9 = .ok (.sipush 255, 3) := dk_17 0 255 (dk_at dksX5_type_0 9 rfl rfl)
theorem dX5_type_12 : decode cX5_type 12 = .ok (.invokestatic 115, 3) := dk_184 0 115 (dk_at dksX5_type_0 12 rfl rfl)
theorem dX5_type_15 : decode cX5_type 15 = .ok (.ifCond .ne 6, 3) := dk_154 0 6 (dk_at dksX5_type_0 15 rfl rfl)
theorem dX5_type_18 : decode cX5_type 18 = .ok (.bipush (-2), 2) := dk_16 254 (dk_at dksX5_type_0 18 rfl rfl)
theorem dX5_type_20 : decode cX5_type 20 = .ok (.ireturn, 1) := dk_172 (dk_at dksX5_type_0 20 rfl rfl)
theorem dX5_type_21 : decode cX5_type 21 = .ok (.aload_n 0, 1) := dk_42 (dk_at dksX5_type_0 21 rfl rfl)
theorem dX5_type_22 : decode cX5_type 22 = .ok (.getfield 7, 3) := dk_180 0 7 (dk_at dksX5_type_1 0 rfl rfl)
theorem dX5_type_25 : decode cX5_type 25 = .ok (.iload_n 1, 1) := dk_27 (dk_at dksX5_type_1 3 rfl rfl)
theorem dX5_type_26 : decode cX5_type 26 = .ok (.iaload, 1) := dk_46 (dk_at dksX5_type_1 4 rfl rfl)
theorem dX5_type_27 : decode cX5_type 27 = .ok (.iload_n 1, 1) := dk_27 (dk_at dksX5_type_1 5 rfl rfl)
theorem dX5_type_28 : decode cX5_type 28 = .ok (.ifCond .ne 8, 3) := dk_154 0 8 (dk_at dksX5_type_1 6 rfl rfl)
theorem dX5_type_31 : decode cX5_type 31 = .ok (.bipush 23, 2) := dk_16 23 (dk_at dksX5_type_1 9 rfl rfl)
theorem dX5_type_33 : decode cX5_type 33 = .ok (.goto 5, 3) := dk_167 0 5 (dk_at dksX5_type_1 11 rfl rfl)
theorem dX5_type_36 : decode cX5_type 36 = .ok (.bipush 49, 2) := dk_16 49 (dk_at dksX5_type_1 14 rfl rfl)
theorem dX5_type_38 : decode cX5_type 38 = .ok (.if_icmp .ne 6, 3) := dk_160 0 6 (dk_at dksX5_type_1 16 rfl rfl)
theorem dX5_type_41 : decode cX5_type 41 = .ok (.bipush (-4), 2) := dk_16 252 (dk_at dksX5_type_1 19 rfl rfl)
theorem dX5_type_43 : decode cX5_type 43 = .ok (.ireturn, 1) := dk_172 (dk_at dksX5_type_1 21 rfl rfl)
theorem dX5_type_44 : decode cX5_type 44 = .ok (.aload_n 0, 1) := dk_42 (dk_at dksX5_type_1 22 rfl rfl)
theorem dX5_type_45 : decode cX5_type 45 = .ok (.getfield 13, 3) := dk_180 0 13 (dk_at dksX5_type_2 0 rfl rfl)
theorem dX5_type_48 : decode cX5_type 48 = .ok (.bipush 49, 2) := dk_16 49 (dk_at dksX5_type_2 3 rfl rfl)
theorem dX5_type_50 : decode cX5_type 50 = .ok (.iload_n 1, 1) := dk_27 (dk_at dksX5_type_2 5 rfl rfl)
theorem dX5_type_51 : decode cX5_type 51 = .ok (.imul, 1) := dk_104 (dk_at dksX5_type_2 6 rfl rfl)
theorem dX5_type_52 : decode cX5_type 52 = .ok (.aload_n 0, 1) := dk_42 (dk_at dksX5_type_2 7 rfl rfl)
theorem dX5_type_53 : decode cX5_type 53 = .ok (.getfield 7, 3) := dk_180 0 7 (dk_at dksX5_type_2 8 rfl rfl)
theorem dX5_type_56 : decode cX5_type 56 = .ok (.iload_n 1, 1) := dk_27 (dk_at dksX5_type_2 11 rfl rfl)
theorem dX5_type_57 : decode cX5_type 57 = .ok (.iaload, 1) := dk_46 (dk_at dksX5_type_2 12 rfl rfl)
theorem dX5_type_58 : decode cX5_type 58 = .ok (.iadd, 1) := dk_96 (dk_at dksX5_type_2 13 rfl rfl)
theorem dX5_type_59 : decode cX5_type 59 = .ok (.iload_n 2, 1) := dk_28 (dk_at dksX5_type_2 14 rfl rfl)
theorem dX5_type_60 : decode cX5_type 60 = .ok (.iastore, 1) := dk_79 (dk_at dksX5_type_2 15 rfl rfl)
theorem dX5_type_61 : decode cX5_type 61 = .ok (.aload_n 0, 1) := dk_42 (dk_at dksX5_type_2 16 rfl rfl)
theorem dX5_type_62 : decode cX5_type 62 = .ok (.getfield 7, 3) := dk_180 0 7 (dk_at dksX5_type_2 17 rfl rfl)
theorem dX5_type_65 : decode cX5_type 65 = .ok (.iload_n 1, 1) := dk_27 (dk_at dksX5_type_2 20 rfl rfl)
theorem dX5_type_66 : decode cX5_type 66 = .ok (.dup2, 1) := dk_92 (dk_at dksX5_type_2 21 rfl rfl)
theorem dX5_type_67 : decode cX5_type 67 = .ok (.iaload, 1) := dk_46 (dk_at dksX5_type_2 22 rfl rfl)
theorem dX5_type_68 : decode cX5_type 68 = .ok (.iconst 1, 1) := dk_4 (dk_at dksX5_type_2 23 rfl rfl)
theorem dX5_type_69 : decode cX5_type 69 = .ok (.iadd, 1) := dk_96 (dk_at dksX5_type_3 0 rfl rfl)
theorem dX5_type_70 : decode cX5_type 70 = .ok (.iastore, 1) := dk_79 (dk_at dksX5_type_3 1 rfl rfl)
theorem dX5_type_71 : decode cX5_type 71 = .ok (.aload_n 0, 1) := dk_42 (dk_at dksX5_type_3 2 rfl rfl)
theorem dX5_type_72 : decode cX5_type 72 = .ok (.getfield 7, 3) := dk_180 0 7 (dk_at dksX5_type_3 3 rfl rfl)
theorem dX5_type_75 : decode cX5_type 75 = .ok (.iload_n 1, 1) := dk_27 (dk_at dksX5_type_3 6 rfl rfl)
theorem dX5_type_76 : decode cX5_type 76 = .ok (.iaload, 1) := dk_46 (dk_at dksX5_type_3 7 rfl rfl)
theorem dX5_type_77 : decode cX5_type 77 = .ok (.ireturn, 1) := dk_172 (dk_at dksX5_type_3 8 rfl rfl)
abbrev cX5_isText : ByteArray := prog_13_method_7_code
def yX5_isText : MethodName := ⟨RX5, "isText", "(I)Z"⟩
def dkwX5_isText_0 : List UInt8 := [26, 3, 4, 184, 0, 115, 172]
abbrev dktX5_isText_0 : List UInt8 := dkwX5_isText_0 ++ []
theorem dksX5_isText_0 : cX5_isText.data.toList.drop 0 = dktX5_isText_0 := by decide +kernel
theorem dX5_isText_0 : decode cX5_isText 0 = .ok (.iload_n 0, 1) := dk_26 (dk_at dksX5_isText_0 0 rfl rfl)
theorem dX5_isText_1 : decode cX5_isText 1 = .ok (.iconst 0, 1) := dk_3 (dk_at dksX5_isText_0 1 rfl rfl)
theorem dX5_isText_2 : decode cX5_isText 2 = .ok (.iconst 1, 1) := dk_4 (dk_at dksX5_isText_0 2 rfl rfl)
theorem dX5_isText_3 : decode cX5_isText 3 = .ok (.invokestatic 115, 3) := dk_184 0 115 (dk_at dksX5_isText_0 3 rfl rfl)
theorem dX5_isText_6 : decode cX5_isText 6 = .ok (.ireturn, 1) := dk_172 (dk_at dksX5_isText_0 6 rfl rfl)
abbrev cX5_in : ByteArray := prog_13_method_3_code
def yX5_in : MethodName := ⟨RX5, "in", "(III)Z"⟩
def dkwX5_in_0 : List UInt8 := [26, 27, 161, 0, 12, 26, 28, 163, 0, 7, 4, 167, 0, 4, 3, 172]
abbrev dktX5_in_0 : List UInt8 := dkwX5_in_0 ++ []
theorem dksX5_in_0 : cX5_in.data.toList.drop 0 = dktX5_in_0 := by decide +kernel
theorem dX5_in_0 : decode cX5_in 0 = .ok (.iload_n 0, 1) := dk_26 (dk_at dksX5_in_0 0 rfl rfl)
theorem dX5_in_1 : decode cX5_in 1 = .ok (.iload_n 1, 1) := dk_27 (dk_at dksX5_in_0 1 rfl rfl)
theorem dX5_in_2 : decode cX5_in 2 = .ok (.if_icmp .lt 12, 3) := dk_161 0 12 (dk_at dksX5_in_0 2 rfl rfl)
theorem dX5_in_5 : decode cX5_in 5 = .ok (.iload_n 0, 1) := dk_26 (dk_at dksX5_in_0 5 rfl rfl)
theorem dX5_in_6 : decode cX5_in 6 = .ok (.iload_n 2, 1) := dk_28 (dk_at dksX5_in_0 6 rfl rfl)
theorem dX5_in_7 : decode cX5_in 7 = .ok (.if_icmp .gt 7, 3) := dk_163 0 7 (dk_at dksX5_in_0 7 rfl rfl)
theorem dX5_in_10 : decode cX5_in 10 = .ok (.iconst 1, 1) := dk_4 (dk_at dksX5_in_0 10 rfl rfl)
theorem dX5_in_11 : decode cX5_in 11 = .ok (.goto 4, 3) := dk_167 0 4 (dk_at dksX5_in_0 11 rfl rfl)
theorem dX5_in_14 : decode cX5_in 14 = .ok (.iconst 0, 1) := dk_3 (dk_at dksX5_in_0 14 rfl rfl)
theorem dX5_in_15 : decode cX5_in 15 = .ok (.ireturn, 1) := dk_172 (dk_at dksX5_in_0 15 rfl rfl)
abbrev cX5_wipe : ByteArray := prog_13_method_11_code
def yX5_wipe : MethodName := ⟨RX5, "wipe", "(I)I"⟩
def dkwX5_wipe_1 : List UInt8 := [28, 172]
abbrev dktX5_wipe_1 : List UInt8 := dkwX5_wipe_1 ++ []
def dkwX5_wipe_0 : List UInt8 := [27, 184, 0, 119, 154, 0, 6, 16, 254, 172, 42, 180, 0, 7, 27, 46, 61, 42, 180, 0, 7, 27, 3, 79]
abbrev dktX5_wipe_0 : List UInt8 := dkwX5_wipe_0 ++ dktX5_wipe_1
theorem dksX5_wipe_0 : cX5_wipe.data.toList.drop 0 = dktX5_wipe_0 := by decide +kernel
theorem dksX5_wipe_1 : cX5_wipe.data.toList.drop 24 = dktX5_wipe_1 := dk_seg dksX5_wipe_0 24 rfl rfl
theorem dX5_wipe_0 : decode cX5_wipe 0 = .ok (.iload_n 1, 1) := dk_27 (dk_at dksX5_wipe_0 0 rfl rfl)
theorem dX5_wipe_1 : decode cX5_wipe 1 = .ok (.invokestatic 119, 3) := dk_184 0 119 (dk_at dksX5_wipe_0 1 rfl rfl)
theorem dX5_wipe_4 : decode cX5_wipe 4 = .ok (.ifCond .ne 6, 3) := dk_154 0 6 (dk_at dksX5_wipe_0 4 rfl rfl)
theorem dX5_wipe_7 : decode cX5_wipe 7 = .ok (.bipush (-2), 2) := dk_16 254 (dk_at dksX5_wipe_0 7 rfl rfl)
theorem dX5_wipe_9 : decode cX5_wipe 9 = .ok (.ireturn, 1) := dk_172 (dk_at dksX5_wipe_0 9 rfl rfl)
theorem dX5_wipe_10 : decode cX5_wipe 10 = .ok (.aload_n 0, 1) := dk_42 (dk_at dksX5_wipe_0 10 rfl rfl)
theorem dX5_wipe_11 : decode cX5_wipe 11 = .ok (.getfield 7, 3) := dk_180 0 7 (dk_at dksX5_wipe_0 11 rfl rfl)
theorem dX5_wipe_14 : decode cX5_wipe 14 = .ok (.iload_n 1, 1) := dk_27 (dk_at dksX5_wipe_0 14 rfl rfl)
theorem dX5_wipe_15 : decode cX5_wipe 15 = .ok (.iaload, 1) := dk_46 (dk_at dksX5_wipe_0 15 rfl rfl)
theorem dX5_wipe_16 : decode cX5_wipe 16 = .ok (.istore_n 2, 1) := dk_61 (dk_at dksX5_wipe_0 16 rfl rfl)
theorem dX5_wipe_17 : decode cX5_wipe 17 = .ok (.aload_n 0, 1) := dk_42 (dk_at dksX5_wipe_0 17 rfl rfl)
theorem dX5_wipe_18 : decode cX5_wipe 18 = .ok (.getfield 7, 3) := dk_180 0 7 (dk_at dksX5_wipe_0 18 rfl rfl)
theorem dX5_wipe_21 : decode cX5_wipe 21 = .ok (.iload_n 1, 1) := dk_27 (dk_at dksX5_wipe_0 21 rfl rfl)
theorem dX5_wipe_22 : decode cX5_wipe 22 = .ok (.iconst 0, 1) := dk_3 (dk_at dksX5_wipe_0 22 rfl rfl)
theorem dX5_wipe_23 : decode cX5_wipe 23 = .ok (.iastore, 1) := dk_79 (dk_at dksX5_wipe_0 23 rfl rfl)
theorem dX5_wipe_24 : decode cX5_wipe 24 = .ok (.iload_n 2, 1) := dk_28 (dk_at dksX5_wipe_1 0 rfl rfl)
theorem dX5_wipe_25 : decode cX5_wipe 25 = .ok (.ireturn, 1) := dk_172 (dk_at dksX5_wipe_1 1 rfl rfl)
abbrev cX5_undo : ByteArray := prog_13_method_12_code
def yX5_undo : MethodName := ⟨RX5, "undo", "(I)I"⟩
def dkwX5_undo_1 : List UInt8 := [180, 0, 7, 27, 92, 46, 4, 100, 79, 42, 180, 0, 7, 27, 46, 172]
abbrev dktX5_undo_1 : List UInt8 := dkwX5_undo_1 ++ []
def dkwX5_undo_0 : List UInt8 := [27, 184, 0, 119, 154, 0, 6, 16, 254, 172, 42, 180, 0, 7, 27, 46, 154, 0, 6, 16, 253, 172, 42]
abbrev dktX5_undo_0 : List UInt8 := dkwX5_undo_0 ++ dktX5_undo_1
theorem dksX5_undo_0 : cX5_undo.data.toList.drop 0 = dktX5_undo_0 := by decide +kernel
theorem dksX5_undo_1 : cX5_undo.data.toList.drop 23 = dktX5_undo_1 := dk_seg dksX5_undo_0 23 rfl rfl
theorem dX5_undo_0 : decode cX5_undo 0 = .ok (.iload_n 1, 1) := dk_27 (dk_at dksX5_undo_0 0 rfl rfl)
theorem dX5_undo_1 : decode cX5_undo 1 = .ok (.invokestatic 119, 3) := dk_184 0 119 (dk_at dksX5_undo_0 1 rfl rfl)
theorem dX5_undo_4 : decode cX5_undo 4 = .ok (.ifCond .ne 6, 3) := dk_154 0 6 (dk_at dksX5_undo_0 4 rfl rfl)
theorem dX5_undo_7 : decode cX5_undo 7 = .ok (.bipush (-2), 2) := dk_16 254 (dk_at dksX5_undo_0 7 rfl rfl)
theorem dX5_undo_9 : decode cX5_undo 9 = .ok (.ireturn, 1) := dk_172 (dk_at dksX5_undo_0 9 rfl rfl)
theorem dX5_undo_10 : decode cX5_undo 10 = .ok (.aload_n 0, 1) := dk_42 (dk_at dksX5_undo_0 10 rfl rfl)
theorem dX5_undo_11 : decode cX5_undo 11 = .ok (.getfield 7, 3) := dk_180 0 7 (dk_at dksX5_undo_0 11 rfl rfl)
theorem dX5_undo_14 : decode cX5_undo 14 = .ok (.iload_n 1, 1) := dk_27 (dk_at dksX5_undo_0 14 rfl rfl)
theorem dX5_undo_15 : decode cX5_undo 15 = .ok (.iaload, 1) := dk_46 (dk_at dksX5_undo_0 15 rfl rfl)
theorem dX5_undo_16 : decode cX5_undo 16 = .ok (.ifCond .ne 6, 3) := dk_154 0 6 (dk_at dksX5_undo_0 16 rfl rfl)
theorem dX5_undo_19 : decode cX5_undo 19 = .ok (.bipush (-3), 2) := dk_16 253 (dk_at dksX5_undo_0 19 rfl rfl)
theorem dX5_undo_21 : decode cX5_undo 21 = .ok (.ireturn, 1) := dk_172 (dk_at dksX5_undo_0 21 rfl rfl)
theorem dX5_undo_22 : decode cX5_undo 22 = .ok (.aload_n 0, 1) := dk_42 (dk_at dksX5_undo_0 22 rfl rfl)
theorem dX5_undo_23 : decode cX5_undo 23 = .ok (.getfield 7, 3) := dk_180 0 7 (dk_at dksX5_undo_1 0 rfl rfl)
theorem dX5_undo_26 : decode cX5_undo 26 = .ok (.iload_n 1, 1) := dk_27 (dk_at dksX5_undo_1 3 rfl rfl)
theorem dX5_undo_27 : decode cX5_undo 27 = .ok (.dup2, 1) := dk_92 (dk_at dksX5_undo_1 4 rfl rfl)
theorem dX5_undo_28 : decode cX5_undo 28 = .ok (.iaload, 1) := dk_46 (dk_at dksX5_undo_1 5 rfl rfl)
theorem dX5_undo_29 : decode cX5_undo 29 = .ok (.iconst 1, 1) := dk_4 (dk_at dksX5_undo_1 6 rfl rfl)
theorem dX5_undo_30 : decode cX5_undo 30 = .ok (.isub, 1) := dk_100 (dk_at dksX5_undo_1 7 rfl rfl)
theorem dX5_undo_31 : decode cX5_undo 31 = .ok (.iastore, 1) := dk_79 (dk_at dksX5_undo_1 8 rfl rfl)
theorem dX5_undo_32 : decode cX5_undo 32 = .ok (.aload_n 0, 1) := dk_42 (dk_at dksX5_undo_1 9 rfl rfl)
theorem dX5_undo_33 : decode cX5_undo 33 = .ok (.getfield 7, 3) := dk_180 0 7 (dk_at dksX5_undo_1 10 rfl rfl)
theorem dX5_undo_36 : decode cX5_undo 36 = .ok (.iload_n 1, 1) := dk_27 (dk_at dksX5_undo_1 13 rfl rfl)
theorem dX5_undo_37 : decode cX5_undo 37 = .ok (.iaload, 1) := dk_46 (dk_at dksX5_undo_1 14 rfl rfl)
theorem dX5_undo_38 : decode cX5_undo 38 = .ok (.ireturn, 1) := dk_172 (dk_at dksX5_undo_1 15 rfl rfl)
abbrev cX5_fault : ByteArray := prog_13_method_19_code
def yX5_fault : MethodName := ⟨RX5, "fault", "(I)I"⟩
def dkwX5_fault_0 : List UInt8 := [27, 184, 0, 119, 153, 0, 11, 42, 27, 182, 0, 144, 167, 0, 5, 16, 254, 172]
abbrev dktX5_fault_0 : List UInt8 := dkwX5_fault_0 ++ []
theorem dksX5_fault_0 : cX5_fault.data.toList.drop 0 = dktX5_fault_0 := by decide +kernel
theorem dX5_fault_0 : decode cX5_fault 0 = .ok (.iload_n 1, 1) := dk_27 (dk_at dksX5_fault_0 0 rfl rfl)
theorem dX5_fault_1 : decode cX5_fault 1 = .ok (.invokestatic 119, 3) := dk_184 0 119 (dk_at dksX5_fault_0 1 rfl rfl)
theorem dX5_fault_4 : decode cX5_fault 4 = .ok (.ifCond .eq 11, 3) := dk_153 0 11 (dk_at dksX5_fault_0 4 rfl rfl)
theorem dX5_fault_7 : decode cX5_fault 7 = .ok (.aload_n 0, 1) := dk_42 (dk_at dksX5_fault_0 7 rfl rfl)
theorem dX5_fault_8 : decode cX5_fault 8 = .ok (.iload_n 1, 1) := dk_27 (dk_at dksX5_fault_0 8 rfl rfl)
theorem dX5_fault_9 : decode cX5_fault 9 = .ok (.invokevirtual 144, 3) := dk_182 0 144 (dk_at dksX5_fault_0 9 rfl rfl)
theorem dX5_fault_12 : decode cX5_fault 12 = .ok (.goto 5, 3) := dk_167 0 5 (dk_at dksX5_fault_0 12 rfl rfl)
theorem dX5_fault_15 : decode cX5_fault 15 = .ok (.bipush (-2), 2) := dk_16 254 (dk_at dksX5_fault_0 15 rfl rfl)
theorem dX5_fault_17 : decode cX5_fault 17 = .ok (.ireturn, 1) := dk_172 (dk_at dksX5_fault_0 17 rfl rfl)
abbrev cX5_faultOf : ByteArray := prog_13_method_17_code
def yX5_faultOf : MethodName := ⟨RX5, "faultOf", "(I)I"⟩
def dkwX5_faultOf_0 : List UInt8 := [42, 3, 182, 0, 140, 61, 42, 4, 182, 0, 140, 62, 27, 154, 0, 7, 28, 167, 0, 4, 29, 172]
abbrev dktX5_faultOf_0 : List UInt8 := dkwX5_faultOf_0 ++ []
theorem dksX5_faultOf_0 : cX5_faultOf.data.toList.drop 0 = dktX5_faultOf_0 := by decide +kernel
theorem dX5_faultOf_0 : decode cX5_faultOf 0 = .ok (.aload_n 0, 1) := dk_42 (dk_at dksX5_faultOf_0 0 rfl rfl)
theorem dX5_faultOf_1 : decode cX5_faultOf 1 = .ok (.iconst 0, 1) := dk_3 (dk_at dksX5_faultOf_0 1 rfl rfl)
theorem dX5_faultOf_2 : decode cX5_faultOf 2 = .ok (.invokevirtual 140, 3) := dk_182 0 140 (dk_at dksX5_faultOf_0 2 rfl rfl)
theorem dX5_faultOf_5 : decode cX5_faultOf 5 = .ok (.istore_n 2, 1) := dk_61 (dk_at dksX5_faultOf_0 5 rfl rfl)
theorem dX5_faultOf_6 : decode cX5_faultOf 6 = .ok (.aload_n 0, 1) := dk_42 (dk_at dksX5_faultOf_0 6 rfl rfl)
theorem dX5_faultOf_7 : decode cX5_faultOf 7 = .ok (.iconst 1, 1) := dk_4 (dk_at dksX5_faultOf_0 7 rfl rfl)
theorem dX5_faultOf_8 : decode cX5_faultOf 8 = .ok (.invokevirtual 140, 3) := dk_182 0 140 (dk_at dksX5_faultOf_0 8 rfl rfl)
theorem dX5_faultOf_11 : decode cX5_faultOf 11 = .ok (.istore_n 3, 1) := dk_62 (dk_at dksX5_faultOf_0 11 rfl rfl)
theorem dX5_faultOf_12 : decode cX5_faultOf 12 = .ok (.iload_n 1, 1) := dk_27 (dk_at dksX5_faultOf_0 12 rfl rfl)
theorem dX5_faultOf_13 : decode cX5_faultOf 13 = .ok (.ifCond .ne 7, 3) := dk_154 0 7 (dk_at dksX5_faultOf_0 13 rfl rfl)
theorem dX5_faultOf_16 : decode cX5_faultOf 16 = .ok (.iload_n 2, 1) := dk_28 (dk_at dksX5_faultOf_0 16 rfl rfl)
theorem dX5_faultOf_17 : decode cX5_faultOf 17 = .ok (.goto 4, 3) := dk_167 0 4 (dk_at dksX5_faultOf_0 17 rfl rfl)
theorem dX5_faultOf_20 : decode cX5_faultOf 20 = .ok (.iload_n 3, 1) := dk_29 (dk_at dksX5_faultOf_0 20 rfl rfl)
theorem dX5_faultOf_21 : decode cX5_faultOf 21 = .ok (.ireturn, 1) := dk_172 (dk_at dksX5_faultOf_0 21 rfl rfl)
abbrev cX5_readsParts : ByteArray := prog_13_method_16_code
def yX5_readsParts : MethodName := ⟨RX5, "readsParts", "(I)I"⟩
def dkwX5_readsParts_7 : List UInt8 := [21, 4, 172, 132, 4, 1, 167, 255, 132, 2, 172]
abbrev dktX5_readsParts_7 : List UInt8 := dkwX5_readsParts_7 ++ []
def dkwX5_readsParts_6 : List UInt8 := [167, 0, 7, 42, 180, 0, 131, 181, 0, 131, 2, 172, 42, 27, 21, 4, 182, 0, 123, 16, 59, 159, 0, 6]
abbrev dktX5_readsParts_6 : List UInt8 := dkwX5_readsParts_6 ++ dktX5_readsParts_7
def dkwX5_readsParts_5 : List UInt8 := [42, 27, 154, 0, 7, 29, 167, 0, 7, 42, 180, 0, 127, 181, 0, 127, 42, 27, 4, 160, 0, 7, 29]
abbrev dktX5_readsParts_5 : List UInt8 := dkwX5_readsParts_5 ++ dktX5_readsParts_6
def dkwX5_readsParts_4 : List UInt8 := [21, 5, 96, 172, 132, 3, 1, 21, 4, 28, 96, 54, 4, 21, 4, 42, 180, 0, 7, 27, 46, 160, 0, 38]
abbrev dktX5_readsParts_4 : List UInt8 := dkwX5_readsParts_4 ++ dktX5_readsParts_5
def dkwX5_readsParts_3 : List UInt8 := [182, 0, 134, 167, 0, 10, 42, 29, 21, 4, 182, 0, 137, 54, 5, 21, 5, 28, 162, 0, 9, 21, 4]
abbrev dktX5_readsParts_3 : List UInt8 := dkwX5_readsParts_3 ++ dktX5_readsParts_4
def dkwX5_readsParts_2 : List UInt8 := [21, 4, 42, 180, 0, 7, 27, 46, 161, 0, 8, 21, 4, 158, 0, 114, 27, 154, 0, 13, 42, 29, 21, 4]
abbrev dktX5_readsParts_2 : List UInt8 := dkwX5_readsParts_2 ++ dktX5_readsParts_3
def dkwX5_readsParts_1 : List UInt8 := [42, 180, 0, 127, 181, 0, 127, 42, 27, 4, 160, 0, 7, 3, 167, 0, 7, 42, 180, 0, 131, 181, 0, 131]
abbrev dktX5_readsParts_1 : List UInt8 := dkwX5_readsParts_1 ++ dktX5_readsParts_2
def dkwX5_readsParts_0 : List UInt8 := [27, 154, 0, 7, 5, 167, 0, 4, 7, 61, 3, 62, 3, 54, 4, 42, 27, 154, 0, 7, 3, 167, 0, 7]
abbrev dktX5_readsParts_0 : List UInt8 := dkwX5_readsParts_0 ++ dktX5_readsParts_1
theorem dksX5_readsParts_0 : cX5_readsParts.data.toList.drop 0 = dktX5_readsParts_0 := by decide +kernel
theorem dksX5_readsParts_1 : cX5_readsParts.data.toList.drop 24 = dktX5_readsParts_1 := dk_seg dksX5_readsParts_0 24 rfl rfl
theorem dksX5_readsParts_2 : cX5_readsParts.data.toList.drop 48 = dktX5_readsParts_2 := dk_seg dksX5_readsParts_1 24 rfl rfl
theorem dksX5_readsParts_3 : cX5_readsParts.data.toList.drop 72 = dktX5_readsParts_3 := dk_seg dksX5_readsParts_2 24 rfl rfl
theorem dksX5_readsParts_4 : cX5_readsParts.data.toList.drop 95 = dktX5_readsParts_4 := dk_seg dksX5_readsParts_3 23 rfl rfl
theorem dksX5_readsParts_5 : cX5_readsParts.data.toList.drop 119 = dktX5_readsParts_5 := dk_seg dksX5_readsParts_4 24 rfl rfl
theorem dksX5_readsParts_6 : cX5_readsParts.data.toList.drop 142 = dktX5_readsParts_6 := dk_seg dksX5_readsParts_5 23 rfl rfl
theorem dksX5_readsParts_7 : cX5_readsParts.data.toList.drop 166 = dktX5_readsParts_7 := dk_seg dksX5_readsParts_6 24 rfl rfl
theorem dX5_readsParts_0 : decode cX5_readsParts 0 = .ok (.iload_n 1, 1) := dk_27 (dk_at dksX5_readsParts_0 0 rfl rfl)
theorem dX5_readsParts_1 : decode cX5_readsParts 1 = .ok (.ifCond .ne 7, 3) := dk_154 0 7 (dk_at dksX5_readsParts_0 1 rfl rfl)
theorem dX5_readsParts_4 : decode cX5_readsParts 4 = .ok (.iconst 2, 1) := dk_5 (dk_at dksX5_readsParts_0 4 rfl rfl)
theorem dX5_readsParts_5 : decode cX5_readsParts 5 = .ok (.goto 4, 3) := dk_167 0 4 (dk_at dksX5_readsParts_0 5 rfl rfl)
theorem dX5_readsParts_8 : decode cX5_readsParts 8 = .ok (.iconst 4, 1) := dk_7 (dk_at dksX5_readsParts_0 8 rfl rfl)
theorem dX5_readsParts_9 : decode cX5_readsParts 9 = .ok (.istore_n 2, 1) := dk_61 (dk_at dksX5_readsParts_0 9 rfl rfl)
theorem dX5_readsParts_10 : decode cX5_readsParts 10 = .ok (.iconst 0, 1) := dk_3 (dk_at dksX5_readsParts_0 10 rfl rfl)
theorem dX5_readsParts_11 : decode cX5_readsParts 11 = .ok (.istore_n 3, 1) := dk_62 (dk_at dksX5_readsParts_0 11 rfl rfl)
theorem dX5_readsParts_12 : decode cX5_readsParts 12 = .ok (.iconst 0, 1) := dk_3 (dk_at dksX5_readsParts_0 12 rfl rfl)
theorem dX5_readsParts_13 : decode cX5_readsParts 13 = .ok (.istore 4, 2) := dk_54 4 (dk_at dksX5_readsParts_0 13 rfl rfl)
theorem dX5_readsParts_15 : decode cX5_readsParts 15 = .ok (.aload_n 0, 1) := dk_42 (dk_at dksX5_readsParts_0 15 rfl rfl)
theorem dX5_readsParts_16 : decode cX5_readsParts 16 = .ok (.iload_n 1, 1) := dk_27 (dk_at dksX5_readsParts_0 16 rfl rfl)
theorem dX5_readsParts_17 : decode cX5_readsParts 17 = .ok (.ifCond .ne 7, 3) := dk_154 0 7 (dk_at dksX5_readsParts_0 17 rfl rfl)
theorem dX5_readsParts_20 : decode cX5_readsParts 20 = .ok (.iconst 0, 1) := dk_3 (dk_at dksX5_readsParts_0 20 rfl rfl)
theorem dX5_readsParts_21 : decode cX5_readsParts 21 = .ok (.goto 7, 3) := dk_167 0 7 (dk_at dksX5_readsParts_0 21 rfl rfl)
theorem dX5_readsParts_24 : decode cX5_readsParts 24 = .ok (.aload_n 0, 1) := dk_42 (dk_at dksX5_readsParts_1 0 rfl rfl)
theorem dX5_readsParts_25 : decode cX5_readsParts 25 = .ok (.getfield 127, 3) := dk_180 0 127 (dk_at dksX5_readsParts_1 1 rfl rfl)
theorem dX5_readsParts_28 : decode cX5_readsParts 28 = .ok (.putfield 127, 3) := dk_181 0 127 (dk_at dksX5_readsParts_1 4 rfl rfl)
theorem dX5_readsParts_31 : decode cX5_readsParts 31 = .ok (.aload_n 0, 1) := dk_42 (dk_at dksX5_readsParts_1 7 rfl rfl)
theorem dX5_readsParts_32 : decode cX5_readsParts 32 = .ok (.iload_n 1, 1) := dk_27 (dk_at dksX5_readsParts_1 8 rfl rfl)
theorem dX5_readsParts_33 : decode cX5_readsParts 33 = .ok (.iconst 1, 1) := dk_4 (dk_at dksX5_readsParts_1 9 rfl rfl)
theorem dX5_readsParts_34 : decode cX5_readsParts 34 = .ok (.if_icmp .ne 7, 3) := dk_160 0 7 (dk_at dksX5_readsParts_1 10 rfl rfl)
theorem dX5_readsParts_37 : decode cX5_readsParts 37 = .ok (.iconst 0, 1) := dk_3 (dk_at dksX5_readsParts_1 13 rfl rfl)
theorem dX5_readsParts_38 : decode cX5_readsParts 38 = .ok (.goto 7, 3) := dk_167 0 7 (dk_at dksX5_readsParts_1 14 rfl rfl)
theorem dX5_readsParts_41 : decode cX5_readsParts 41 = .ok (.aload_n 0, 1) := dk_42 (dk_at dksX5_readsParts_1 17 rfl rfl)
theorem dX5_readsParts_42 : decode cX5_readsParts 42 = .ok (.getfield 131, 3) := dk_180 0 131 (dk_at dksX5_readsParts_1 18 rfl rfl)
theorem dX5_readsParts_45 : decode cX5_readsParts 45 = .ok (.putfield 131, 3) := dk_181 0 131 (dk_at dksX5_readsParts_1 21 rfl rfl)
theorem dX5_readsParts_48 : decode cX5_readsParts 48 = .ok (.iload 4, 2) := dk_21 4 (dk_at dksX5_readsParts_2 0 rfl rfl)
theorem dX5_readsParts_50 : decode cX5_readsParts 50 = .ok (.aload_n 0, 1) := dk_42 (dk_at dksX5_readsParts_2 2 rfl rfl)
theorem dX5_readsParts_51 : decode cX5_readsParts 51 = .ok (.getfield 7, 3) := dk_180 0 7 (dk_at dksX5_readsParts_2 3 rfl rfl)
theorem dX5_readsParts_54 : decode cX5_readsParts 54 = .ok (.iload_n 1, 1) := dk_27 (dk_at dksX5_readsParts_2 6 rfl rfl)
theorem dX5_readsParts_55 : decode cX5_readsParts 55 = .ok (.iaload, 1) := dk_46 (dk_at dksX5_readsParts_2 7 rfl rfl)
theorem dX5_readsParts_56 : decode cX5_readsParts 56 = .ok (.if_icmp .lt 8, 3) := dk_161 0 8 (dk_at dksX5_readsParts_2 8 rfl rfl)
theorem dX5_readsParts_59 : decode cX5_readsParts 59 = .ok (.iload 4, 2) := dk_21 4 (dk_at dksX5_readsParts_2 11 rfl rfl)
theorem dX5_readsParts_61 : decode cX5_readsParts 61 = .ok (.ifCond .le 114, 3) := dk_158 0 114 (dk_at dksX5_readsParts_2 13 rfl rfl)
theorem dX5_readsParts_64 : decode cX5_readsParts 64 = .ok (.iload_n 1, 1) := dk_27 (dk_at dksX5_readsParts_2 16 rfl rfl)
theorem dX5_readsParts_65 : decode cX5_readsParts 65 = .ok (.ifCond .ne 13, 3) := dk_154 0 13 (dk_at dksX5_readsParts_2 17 rfl rfl)
theorem dX5_readsParts_68 : decode cX5_readsParts 68 = .ok (.aload_n 0, 1) := dk_42 (dk_at dksX5_readsParts_2 20 rfl rfl)
theorem dX5_readsParts_69 : decode cX5_readsParts 69 = .ok (.iload_n 3, 1) := dk_29 (dk_at dksX5_readsParts_2 21 rfl rfl)
theorem dX5_readsParts_70 : decode cX5_readsParts 70 = .ok (.iload 4, 2) := dk_21 4 (dk_at dksX5_readsParts_2 22 rfl rfl)
theorem dX5_readsParts_72 : decode cX5_readsParts 72 = .ok (.invokevirtual 134, 3) := dk_182 0 134 (dk_at dksX5_readsParts_3 0 rfl rfl)
theorem dX5_readsParts_75 : decode cX5_readsParts 75 = .ok (.goto 10, 3) := dk_167 0 10 (dk_at dksX5_readsParts_3 3 rfl rfl)
theorem dX5_readsParts_78 : decode cX5_readsParts 78 = .ok (.aload_n 0, 1) := dk_42 (dk_at dksX5_readsParts_3 6 rfl rfl)
theorem dX5_readsParts_79 : decode cX5_readsParts 79 = .ok (.iload_n 3, 1) := dk_29 (dk_at dksX5_readsParts_3 7 rfl rfl)
theorem dX5_readsParts_80 : decode cX5_readsParts 80 = .ok (.iload 4, 2) := dk_21 4 (dk_at dksX5_readsParts_3 8 rfl rfl)
theorem dX5_readsParts_82 : decode cX5_readsParts 82 = .ok (.invokevirtual 137, 3) := dk_182 0 137 (dk_at dksX5_readsParts_3 10 rfl rfl)
theorem dX5_readsParts_85 : decode cX5_readsParts 85 = .ok (.istore 5, 2) := dk_54 5 (dk_at dksX5_readsParts_3 13 rfl rfl)
theorem dX5_readsParts_87 : decode cX5_readsParts 87 = .ok (.iload 5, 2) := dk_21 5 (dk_at dksX5_readsParts_3 15 rfl rfl)
theorem dX5_readsParts_89 : decode cX5_readsParts 89 = .ok (.iload_n 2, 1) := dk_28 (dk_at dksX5_readsParts_3 17 rfl rfl)
theorem dX5_readsParts_90 : decode cX5_readsParts 90 = .ok (.if_icmp .ge 9, 3) := dk_162 0 9 (dk_at dksX5_readsParts_3 18 rfl rfl)
theorem dX5_readsParts_93 : decode cX5_readsParts 93 = .ok (.iload 4, 2) := dk_21 4 (dk_at dksX5_readsParts_3 21 rfl rfl)
theorem dX5_readsParts_95 : decode cX5_readsParts 95 = .ok (.iload 5, 2) := dk_21 5 (dk_at dksX5_readsParts_4 0 rfl rfl)
theorem dX5_readsParts_97 : decode cX5_readsParts 97 = .ok (.iadd, 1) := dk_96 (dk_at dksX5_readsParts_4 2 rfl rfl)
theorem dX5_readsParts_98 : decode cX5_readsParts 98 = .ok (.ireturn, 1) := dk_172 (dk_at dksX5_readsParts_4 3 rfl rfl)
theorem dX5_readsParts_99 : decode cX5_readsParts 99 = .ok (.iinc 3 1, 3) := dk_132 3 1 (dk_at dksX5_readsParts_4 4 rfl rfl)
theorem dX5_readsParts_102 : decode cX5_readsParts 102 = .ok (.iload 4, 2) := dk_21 4 (dk_at dksX5_readsParts_4 7 rfl rfl)
theorem dX5_readsParts_104 : decode cX5_readsParts 104 = .ok (.iload_n 2, 1) := dk_28 (dk_at dksX5_readsParts_4 9 rfl rfl)
theorem dX5_readsParts_105 : decode cX5_readsParts 105 = .ok (.iadd, 1) := dk_96 (dk_at dksX5_readsParts_4 10 rfl rfl)
theorem dX5_readsParts_106 : decode cX5_readsParts 106 = .ok (.istore 4, 2) := dk_54 4 (dk_at dksX5_readsParts_4 11 rfl rfl)
theorem dX5_readsParts_108 : decode cX5_readsParts 108 = .ok (.iload 4, 2) := dk_21 4 (dk_at dksX5_readsParts_4 13 rfl rfl)
theorem dX5_readsParts_110 : decode cX5_readsParts 110 = .ok (.aload_n 0, 1) := dk_42 (dk_at dksX5_readsParts_4 15 rfl rfl)
theorem dX5_readsParts_111 : decode cX5_readsParts 111 = .ok (.getfield 7, 3) := dk_180 0 7 (dk_at dksX5_readsParts_4 16 rfl rfl)
theorem dX5_readsParts_114 : decode cX5_readsParts 114 = .ok (.iload_n 1, 1) := dk_27 (dk_at dksX5_readsParts_4 19 rfl rfl)
theorem dX5_readsParts_115 : decode cX5_readsParts 115 = .ok (.iaload, 1) := dk_46 (dk_at dksX5_readsParts_4 20 rfl rfl)
theorem dX5_readsParts_116 : decode cX5_readsParts 116 = .ok (.if_icmp .ne 38, 3) := dk_160 0 38 (dk_at dksX5_readsParts_4 21 rfl rfl)
theorem dX5_readsParts_119 : decode cX5_readsParts 119 = .ok (.aload_n 0, 1) := dk_42 (dk_at dksX5_readsParts_5 0 rfl rfl)
theorem dX5_readsParts_120 : decode cX5_readsParts 120 = .ok (.iload_n 1, 1) := dk_27 (dk_at dksX5_readsParts_5 1 rfl rfl)
theorem dX5_readsParts_121 : decode cX5_readsParts 121 = .ok (.ifCond .ne 7, 3) := dk_154 0 7 (dk_at dksX5_readsParts_5 2 rfl rfl)
theorem dX5_readsParts_124 : decode cX5_readsParts 124 = .ok (.iload_n 3, 1) := dk_29 (dk_at dksX5_readsParts_5 5 rfl rfl)
theorem dX5_readsParts_125 : decode cX5_readsParts 125 = .ok (.goto 7, 3) := dk_167 0 7 (dk_at dksX5_readsParts_5 6 rfl rfl)
theorem dX5_readsParts_128 : decode cX5_readsParts 128 = .ok (.aload_n 0, 1) := dk_42 (dk_at dksX5_readsParts_5 9 rfl rfl)
theorem dX5_readsParts_129 : decode cX5_readsParts 129 = .ok (.getfield 127, 3) := dk_180 0 127 (dk_at dksX5_readsParts_5 10 rfl rfl)
theorem dX5_readsParts_132 : decode cX5_readsParts 132 = .ok (.putfield 127, 3) := dk_181 0 127 (dk_at dksX5_readsParts_5 13 rfl rfl)
theorem dX5_readsParts_135 : decode cX5_readsParts 135 = .ok (.aload_n 0, 1) := dk_42 (dk_at dksX5_readsParts_5 16 rfl rfl)
theorem dX5_readsParts_136 : decode cX5_readsParts 136 = .ok (.iload_n 1, 1) := dk_27 (dk_at dksX5_readsParts_5 17 rfl rfl)
theorem dX5_readsParts_137 : decode cX5_readsParts 137 = .ok (.iconst 1, 1) := dk_4 (dk_at dksX5_readsParts_5 18 rfl rfl)
theorem dX5_readsParts_138 : decode cX5_readsParts 138 = .ok (.if_icmp .ne 7, 3) := dk_160 0 7 (dk_at dksX5_readsParts_5 19 rfl rfl)
theorem dX5_readsParts_141 : decode cX5_readsParts 141 = .ok (.iload_n 3, 1) := dk_29 (dk_at dksX5_readsParts_5 22 rfl rfl)
theorem dX5_readsParts_142 : decode cX5_readsParts 142 = .ok (.goto 7, 3) := dk_167 0 7 (dk_at dksX5_readsParts_6 0 rfl rfl)
theorem dX5_readsParts_145 : decode cX5_readsParts 145 = .ok (.aload_n 0, 1) := dk_42 (dk_at dksX5_readsParts_6 3 rfl rfl)
theorem dX5_readsParts_146 : decode cX5_readsParts 146 = .ok (.getfield 131, 3) := dk_180 0 131 (dk_at dksX5_readsParts_6 4 rfl rfl)
theorem dX5_readsParts_149 : decode cX5_readsParts 149 = .ok (.putfield 131, 3) := dk_181 0 131 (dk_at dksX5_readsParts_6 7 rfl rfl)
theorem dX5_readsParts_152 : decode cX5_readsParts 152 = .ok (.iconst (-1), 1) := dk_2 (dk_at dksX5_readsParts_6 10 rfl rfl)
theorem dX5_readsParts_153 : decode cX5_readsParts 153 = .ok (.ireturn, 1) := dk_172 (dk_at dksX5_readsParts_6 11 rfl rfl)
theorem dX5_readsParts_154 : decode cX5_readsParts 154 = .ok (.aload_n 0, 1) := dk_42 (dk_at dksX5_readsParts_6 12 rfl rfl)
theorem dX5_readsParts_155 : decode cX5_readsParts 155 = .ok (.iload_n 1, 1) := dk_27 (dk_at dksX5_readsParts_6 13 rfl rfl)
theorem dX5_readsParts_156 : decode cX5_readsParts 156 = .ok (.iload 4, 2) := dk_21 4 (dk_at dksX5_readsParts_6 14 rfl rfl)
theorem dX5_readsParts_158 : decode cX5_readsParts 158 = .ok (.invokevirtual 123, 3) := dk_182 0 123 (dk_at dksX5_readsParts_6 16 rfl rfl)
theorem dX5_readsParts_161 : decode cX5_readsParts 161 = .ok (.bipush 59, 2) := dk_16 59 (dk_at dksX5_readsParts_6 19 rfl rfl)
theorem dX5_readsParts_163 : decode cX5_readsParts 163 = .ok (.if_icmp .eq 6, 3) := dk_159 0 6 (dk_at dksX5_readsParts_6 21 rfl rfl)
theorem dX5_readsParts_166 : decode cX5_readsParts 166 = .ok (.iload 4, 2) := dk_21 4 (dk_at dksX5_readsParts_7 0 rfl rfl)
theorem dX5_readsParts_168 : decode cX5_readsParts 168 = .ok (.ireturn, 1) := dk_172 (dk_at dksX5_readsParts_7 2 rfl rfl)
theorem dX5_readsParts_169 : decode cX5_readsParts 169 = .ok (.iinc 4 1, 3) := dk_132 4 1 (dk_at dksX5_readsParts_7 3 rfl rfl)
theorem dX5_readsParts_172 : decode cX5_readsParts 172 = .ok (.goto (-124), 3) := dk_167 255 132 (dk_at dksX5_readsParts_7 6 rfl rfl)
theorem dX5_readsParts_175 : decode cX5_readsParts 175 = .ok (.iconst (-1), 1) := dk_2 (dk_at dksX5_readsParts_7 9 rfl rfl)
theorem dX5_readsParts_176 : decode cX5_readsParts 176 = .ok (.ireturn, 1) := dk_172 (dk_at dksX5_readsParts_7 10 rfl rfl)
abbrev cX5_readsPerson : ByteArray := prog_13_method_14_code
def yX5_readsPerson : MethodName := ⟨RX5, "readsPerson", "(II)I"⟩
def dkwX5_readsPerson_4 : List UInt8 := [16, 48, 100, 79, 5, 172]
abbrev dktX5_readsPerson_4 : List UInt8 := dkwX5_readsPerson_4 ++ []
def dkwX5_readsPerson_3 : List UInt8 := [184, 0, 115, 154, 0, 5, 4, 172, 42, 180, 0, 16, 27, 21, 4, 79, 42, 180, 0, 19, 27, 21, 5]
abbrev dktX5_readsPerson_3 : List UInt8 := dkwX5_readsPerson_3 ++ dktX5_readsPerson_4
def dkwX5_readsPerson_2 : List UInt8 := [54, 5, 27, 16, 8, 159, 0, 9, 21, 4, 2, 160, 0, 5, 3, 172, 21, 5, 16, 48, 16, 57]
abbrev dktX5_readsPerson_2 : List UInt8 := dkwX5_readsPerson_2 ++ dktX5_readsPerson_3
def dkwX5_readsPerson_1 : List UInt8 := [167, 0, 14, 29, 16, 97, 160, 0, 7, 5, 167, 0, 4, 2, 54, 4, 42, 3, 28, 4, 96, 182, 0, 123]
abbrev dktX5_readsPerson_1 : List UInt8 := dkwX5_readsPerson_1 ++ dktX5_readsPerson_2
def dkwX5_readsPerson_0 : List UInt8 := [42, 3, 28, 182, 0, 123, 62, 29, 16, 109, 160, 0, 7, 3, 167, 0, 24, 29, 16, 115, 160, 0, 7, 4]
abbrev dktX5_readsPerson_0 : List UInt8 := dkwX5_readsPerson_0 ++ dktX5_readsPerson_1
theorem dksX5_readsPerson_0 : cX5_readsPerson.data.toList.drop 0 = dktX5_readsPerson_0 := by decide +kernel
theorem dksX5_readsPerson_1 : cX5_readsPerson.data.toList.drop 24 = dktX5_readsPerson_1 := dk_seg dksX5_readsPerson_0 24 rfl rfl
theorem dksX5_readsPerson_2 : cX5_readsPerson.data.toList.drop 48 = dktX5_readsPerson_2 := dk_seg dksX5_readsPerson_1 24 rfl rfl
theorem dksX5_readsPerson_3 : cX5_readsPerson.data.toList.drop 70 = dktX5_readsPerson_3 := dk_seg dksX5_readsPerson_2 22 rfl rfl
theorem dksX5_readsPerson_4 : cX5_readsPerson.data.toList.drop 93 = dktX5_readsPerson_4 := dk_seg dksX5_readsPerson_3 23 rfl rfl
theorem dX5_readsPerson_0 : decode cX5_readsPerson 0 = .ok (.aload_n 0, 1) := dk_42 (dk_at dksX5_readsPerson_0 0 rfl rfl)
theorem dX5_readsPerson_1 : decode cX5_readsPerson 1 = .ok (.iconst 0, 1) := dk_3 (dk_at dksX5_readsPerson_0 1 rfl rfl)
theorem dX5_readsPerson_2 : decode cX5_readsPerson 2 = .ok (.iload_n 2, 1) := dk_28 (dk_at dksX5_readsPerson_0 2 rfl rfl)
theorem dX5_readsPerson_3 : decode cX5_readsPerson 3 = .ok (.invokevirtual 123, 3) := dk_182 0 123 (dk_at dksX5_readsPerson_0 3 rfl rfl)
theorem dX5_readsPerson_6 : decode cX5_readsPerson 6 = .ok (.istore_n 3, 1) := dk_62 (dk_at dksX5_readsPerson_0 6 rfl rfl)
theorem dX5_readsPerson_7 : decode cX5_readsPerson 7 = .ok (.iload_n 3, 1) := dk_29 (dk_at dksX5_readsPerson_0 7 rfl rfl)
theorem dX5_readsPerson_8 : decode cX5_readsPerson 8 = .ok (.bipush 109, 2) := dk_16 109 (dk_at dksX5_readsPerson_0 8 rfl rfl)
theorem dX5_readsPerson_10 : decode cX5_readsPerson 10 = .ok (.if_icmp .ne 7, 3) := dk_160 0 7 (dk_at dksX5_readsPerson_0 10 rfl rfl)
theorem dX5_readsPerson_13 : decode cX5_readsPerson 13 = .ok (.iconst 0, 1) := dk_3 (dk_at dksX5_readsPerson_0 13 rfl rfl)
theorem dX5_readsPerson_14 : decode cX5_readsPerson 14 = .ok (.goto 24, 3) := dk_167 0 24 (dk_at dksX5_readsPerson_0 14 rfl rfl)
theorem dX5_readsPerson_17 : decode cX5_readsPerson 17 = .ok (.iload_n 3, 1) := dk_29 (dk_at dksX5_readsPerson_0 17 rfl rfl)
theorem dX5_readsPerson_18 : decode cX5_readsPerson 18 = .ok (.bipush 115, 2) := dk_16 115 (dk_at dksX5_readsPerson_0 18 rfl rfl)
theorem dX5_readsPerson_20 : decode cX5_readsPerson 20 = .ok (.if_icmp .ne 7, 3) := dk_160 0 7 (dk_at dksX5_readsPerson_0 20 rfl rfl)
theorem dX5_readsPerson_23 : decode cX5_readsPerson 23 = .ok (.iconst 1, 1) := dk_4 (dk_at dksX5_readsPerson_0 23 rfl rfl)
theorem dX5_readsPerson_24 : decode cX5_readsPerson 24 = .ok (.goto 14, 3) := dk_167 0 14 (dk_at dksX5_readsPerson_1 0 rfl rfl)
theorem dX5_readsPerson_27 : decode cX5_readsPerson 27 = .ok (.iload_n 3, 1) := dk_29 (dk_at dksX5_readsPerson_1 3 rfl rfl)
theorem dX5_readsPerson_28 : decode cX5_readsPerson 28 = .ok (.bipush 97, 2) := dk_16 97 (dk_at dksX5_readsPerson_1 4 rfl rfl)
theorem dX5_readsPerson_30 : decode cX5_readsPerson 30 = .ok (.if_icmp .ne 7, 3) := dk_160 0 7 (dk_at dksX5_readsPerson_1 6 rfl rfl)
theorem dX5_readsPerson_33 : decode cX5_readsPerson 33 = .ok (.iconst 2, 1) := dk_5 (dk_at dksX5_readsPerson_1 9 rfl rfl)
theorem dX5_readsPerson_34 : decode cX5_readsPerson 34 = .ok (.goto 4, 3) := dk_167 0 4 (dk_at dksX5_readsPerson_1 10 rfl rfl)
theorem dX5_readsPerson_37 : decode cX5_readsPerson 37 = .ok (.iconst (-1), 1) := dk_2 (dk_at dksX5_readsPerson_1 13 rfl rfl)
theorem dX5_readsPerson_38 : decode cX5_readsPerson 38 = .ok (.istore 4, 2) := dk_54 4 (dk_at dksX5_readsPerson_1 14 rfl rfl)
theorem dX5_readsPerson_40 : decode cX5_readsPerson 40 = .ok (.aload_n 0, 1) := dk_42 (dk_at dksX5_readsPerson_1 16 rfl rfl)
theorem dX5_readsPerson_41 : decode cX5_readsPerson 41 = .ok (.iconst 0, 1) := dk_3 (dk_at dksX5_readsPerson_1 17 rfl rfl)
theorem dX5_readsPerson_42 : decode cX5_readsPerson 42 = .ok (.iload_n 2, 1) := dk_28 (dk_at dksX5_readsPerson_1 18 rfl rfl)
theorem dX5_readsPerson_43 : decode cX5_readsPerson 43 = .ok (.iconst 1, 1) := dk_4 (dk_at dksX5_readsPerson_1 19 rfl rfl)
theorem dX5_readsPerson_44 : decode cX5_readsPerson 44 = .ok (.iadd, 1) := dk_96 (dk_at dksX5_readsPerson_1 20 rfl rfl)
theorem dX5_readsPerson_45 : decode cX5_readsPerson 45 = .ok (.invokevirtual 123, 3) := dk_182 0 123 (dk_at dksX5_readsPerson_1 21 rfl rfl)
theorem dX5_readsPerson_48 : decode cX5_readsPerson 48 = .ok (.istore 5, 2) := dk_54 5 (dk_at dksX5_readsPerson_2 0 rfl rfl)
theorem dX5_readsPerson_50 : decode cX5_readsPerson 50 = .ok (.iload_n 1, 1) := dk_27 (dk_at dksX5_readsPerson_2 2 rfl rfl)
theorem dX5_readsPerson_51 : decode cX5_readsPerson 51 = .ok (.bipush 8, 2) := dk_16 8 (dk_at dksX5_readsPerson_2 3 rfl rfl)
theorem dX5_readsPerson_53 : decode cX5_readsPerson 53 = .ok (.if_icmp .eq 9, 3) := dk_159 0 9 (dk_at dksX5_readsPerson_2 5 rfl rfl)
theorem dX5_readsPerson_56 : decode cX5_readsPerson 56 = .ok (.iload 4, 2) := dk_21 4 (dk_at dksX5_readsPerson_2 8 rfl rfl)
theorem dX5_readsPerson_58 : decode cX5_readsPerson 58 = .ok (.iconst (-1), 1) := dk_2 (dk_at dksX5_readsPerson_2 10 rfl rfl)
theorem dX5_readsPerson_59 : decode cX5_readsPerson 59 = .ok (.if_icmp .ne 5, 3) := dk_160 0 5 (dk_at dksX5_readsPerson_2 11 rfl rfl)
theorem dX5_readsPerson_62 : decode cX5_readsPerson 62 = .ok (.iconst 0, 1) := dk_3 (dk_at dksX5_readsPerson_2 14 rfl rfl)
theorem dX5_readsPerson_63 : decode cX5_readsPerson 63 = .ok (.ireturn, 1) := dk_172 (dk_at dksX5_readsPerson_2 15 rfl rfl)
theorem dX5_readsPerson_64 : decode cX5_readsPerson 64 = .ok (.iload 5, 2) := dk_21 5 (dk_at dksX5_readsPerson_2 16 rfl rfl)
theorem dX5_readsPerson_66 : decode cX5_readsPerson 66 = .ok (.bipush 48, 2) := dk_16 48 (dk_at dksX5_readsPerson_2 18 rfl rfl)
theorem dX5_readsPerson_68 : decode cX5_readsPerson 68 = .ok (.bipush 57, 2) := dk_16 57 (dk_at dksX5_readsPerson_2 20 rfl rfl)
theorem dX5_readsPerson_70 : decode cX5_readsPerson 70 = .ok (.invokestatic 115, 3) := dk_184 0 115 (dk_at dksX5_readsPerson_3 0 rfl rfl)
theorem dX5_readsPerson_73 : decode cX5_readsPerson 73 = .ok (.ifCond .ne 5, 3) := dk_154 0 5 (dk_at dksX5_readsPerson_3 3 rfl rfl)
theorem dX5_readsPerson_76 : decode cX5_readsPerson 76 = .ok (.iconst 1, 1) := dk_4 (dk_at dksX5_readsPerson_3 6 rfl rfl)
theorem dX5_readsPerson_77 : decode cX5_readsPerson 77 = .ok (.ireturn, 1) := dk_172 (dk_at dksX5_readsPerson_3 7 rfl rfl)
theorem dX5_readsPerson_78 : decode cX5_readsPerson 78 = .ok (.aload_n 0, 1) := dk_42 (dk_at dksX5_readsPerson_3 8 rfl rfl)
theorem dX5_readsPerson_79 : decode cX5_readsPerson 79 = .ok (.getfield 16, 3) := dk_180 0 16 (dk_at dksX5_readsPerson_3 9 rfl rfl)
theorem dX5_readsPerson_82 : decode cX5_readsPerson 82 = .ok (.iload_n 1, 1) := dk_27 (dk_at dksX5_readsPerson_3 12 rfl rfl)
theorem dX5_readsPerson_83 : decode cX5_readsPerson 83 = .ok (.iload 4, 2) := dk_21 4 (dk_at dksX5_readsPerson_3 13 rfl rfl)
theorem dX5_readsPerson_85 : decode cX5_readsPerson 85 = .ok (.iastore, 1) := dk_79 (dk_at dksX5_readsPerson_3 15 rfl rfl)
theorem dX5_readsPerson_86 : decode cX5_readsPerson 86 = .ok (.aload_n 0, 1) := dk_42 (dk_at dksX5_readsPerson_3 16 rfl rfl)
theorem dX5_readsPerson_87 : decode cX5_readsPerson 87 = .ok (.getfield 19, 3) := dk_180 0 19 (dk_at dksX5_readsPerson_3 17 rfl rfl)
theorem dX5_readsPerson_90 : decode cX5_readsPerson 90 = .ok (.iload_n 1, 1) := dk_27 (dk_at dksX5_readsPerson_3 20 rfl rfl)
theorem dX5_readsPerson_91 : decode cX5_readsPerson 91 = .ok (.iload 5, 2) := dk_21 5 (dk_at dksX5_readsPerson_3 21 rfl rfl)
theorem dX5_readsPerson_93 : decode cX5_readsPerson 93 = .ok (.bipush 48, 2) := dk_16 48 (dk_at dksX5_readsPerson_4 0 rfl rfl)
theorem dX5_readsPerson_95 : decode cX5_readsPerson 95 = .ok (.isub, 1) := dk_100 (dk_at dksX5_readsPerson_4 2 rfl rfl)
theorem dX5_readsPerson_96 : decode cX5_readsPerson 96 = .ok (.iastore, 1) := dk_79 (dk_at dksX5_readsPerson_4 3 rfl rfl)
theorem dX5_readsPerson_97 : decode cX5_readsPerson 97 = .ok (.iconst 2, 1) := dk_5 (dk_at dksX5_readsPerson_4 4 rfl rfl)
theorem dX5_readsPerson_98 : decode cX5_readsPerson 98 = .ok (.ireturn, 1) := dk_172 (dk_at dksX5_readsPerson_4 5 rfl rfl)
abbrev cX5_byteAt : ByteArray := prog_13_method_13_code
def yX5_byteAt : MethodName := ⟨RX5, "byteAt", "(II)I"⟩
def dkwX5_byteAt_1 : List UInt8 := [2, 172]
abbrev dktX5_byteAt_1 : List UInt8 := dkwX5_byteAt_1 ++ []
def dkwX5_byteAt_0 : List UInt8 := [28, 42, 180, 0, 7, 27, 46, 162, 0, 17, 42, 180, 0, 13, 16, 49, 27, 104, 28, 96, 46, 167, 0, 4]
abbrev dktX5_byteAt_0 : List UInt8 := dkwX5_byteAt_0 ++ dktX5_byteAt_1
theorem dksX5_byteAt_0 : cX5_byteAt.data.toList.drop 0 = dktX5_byteAt_0 := by decide +kernel
theorem dksX5_byteAt_1 : cX5_byteAt.data.toList.drop 24 = dktX5_byteAt_1 := dk_seg dksX5_byteAt_0 24 rfl rfl
theorem dX5_byteAt_0 : decode cX5_byteAt 0 = .ok (.iload_n 2, 1) := dk_28 (dk_at dksX5_byteAt_0 0 rfl rfl)
theorem dX5_byteAt_1 : decode cX5_byteAt 1 = .ok (.aload_n 0, 1) := dk_42 (dk_at dksX5_byteAt_0 1 rfl rfl)
theorem dX5_byteAt_2 : decode cX5_byteAt 2 = .ok (.getfield 7, 3) := dk_180 0 7 (dk_at dksX5_byteAt_0 2 rfl rfl)
theorem dX5_byteAt_5 : decode cX5_byteAt 5 = .ok (.iload_n 1, 1) := dk_27 (dk_at dksX5_byteAt_0 5 rfl rfl)
theorem dX5_byteAt_6 : decode cX5_byteAt 6 = .ok (.iaload, 1) := dk_46 (dk_at dksX5_byteAt_0 6 rfl rfl)
theorem dX5_byteAt_7 : decode cX5_byteAt 7 = .ok (.if_icmp .ge 17, 3) := dk_162 0 17 (dk_at dksX5_byteAt_0 7 rfl rfl)
theorem dX5_byteAt_10 : decode cX5_byteAt 10 = .ok (.aload_n 0, 1) := dk_42 (dk_at dksX5_byteAt_0 10 rfl rfl)
theorem dX5_byteAt_11 : decode cX5_byteAt 11 = .ok (.getfield 13, 3) := dk_180 0 13 (dk_at dksX5_byteAt_0 11 rfl rfl)
theorem dX5_byteAt_14 : decode cX5_byteAt 14 = .ok (.bipush 49, 2) := dk_16 49 (dk_at dksX5_byteAt_0 14 rfl rfl)
theorem dX5_byteAt_16 : decode cX5_byteAt 16 = .ok (.iload_n 1, 1) := dk_27 (dk_at dksX5_byteAt_0 16 rfl rfl)
theorem dX5_byteAt_17 : decode cX5_byteAt 17 = .ok (.imul, 1) := dk_104 (dk_at dksX5_byteAt_0 17 rfl rfl)
theorem dX5_byteAt_18 : decode cX5_byteAt 18 = .ok (.iload_n 2, 1) := dk_28 (dk_at dksX5_byteAt_0 18 rfl rfl)
theorem dX5_byteAt_19 : decode cX5_byteAt 19 = .ok (.iadd, 1) := dk_96 (dk_at dksX5_byteAt_0 19 rfl rfl)
theorem dX5_byteAt_20 : decode cX5_byteAt 20 = .ok (.iaload, 1) := dk_46 (dk_at dksX5_byteAt_0 20 rfl rfl)
theorem dX5_byteAt_21 : decode cX5_byteAt 21 = .ok (.goto 4, 3) := dk_167 0 4 (dk_at dksX5_byteAt_0 21 rfl rfl)
theorem dX5_byteAt_24 : decode cX5_byteAt 24 = .ok (.iconst (-1), 1) := dk_2 (dk_at dksX5_byteAt_1 0 rfl rfl)
theorem dX5_byteAt_25 : decode cX5_byteAt 25 = .ok (.ireturn, 1) := dk_172 (dk_at dksX5_byteAt_1 1 rfl rfl)
abbrev cX5_readsPromise : ByteArray := prog_13_method_15_code
def yX5_readsPromise : MethodName := ⟨RX5, "readsPromise", "(II)I"⟩
def dkwX5_readsPromise_6 : List UInt8 := [7, 172]
abbrev dktX5_readsPromise_6 : List UInt8 := dkwX5_readsPromise_6 ++ []
def dkwX5_readsPromise_5 : List UInt8 := [100, 79, 42, 180, 0, 28, 27, 21, 5, 16, 97, 100, 79, 42, 180, 0, 31, 27, 21, 6, 16, 97, 100, 79]
abbrev dktX5_readsPromise_5 : List UInt8 := dkwX5_readsPromise_5 ++ dktX5_readsPromise_6
def dkwX5_readsPromise_4 : List UInt8 := [154, 0, 5, 6, 172, 42, 180, 0, 22, 27, 29, 16, 97, 100, 79, 42, 180, 0, 25, 27, 21, 4, 16, 48]
abbrev dktX5_readsPromise_4 : List UInt8 := dkwX5_readsPromise_4 ++ dktX5_readsPromise_5
def dkwX5_readsPromise_3 : List UInt8 := [21, 5, 16, 97, 16, 120, 184, 0, 115, 154, 0, 5, 5, 172, 21, 6, 16, 97, 16, 120, 184, 0, 115]
abbrev dktX5_readsPromise_3 : List UInt8 := dkwX5_readsPromise_3 ++ dktX5_readsPromise_4
def dkwX5_readsPromise_2 : List UInt8 := [16, 104, 184, 0, 115, 154, 0, 5, 3, 172, 21, 4, 16, 49, 16, 57, 184, 0, 115, 154, 0, 5, 4, 172]
abbrev dktX5_readsPromise_2 : List UInt8 := dkwX5_readsPromise_2 ++ dktX5_readsPromise_3
def dkwX5_readsPromise_1 : List UInt8 := [182, 0, 123, 54, 5, 42, 4, 28, 6, 96, 182, 0, 123, 54, 6, 27, 16, 10, 159, 0, 14, 29, 16, 97]
abbrev dktX5_readsPromise_1 : List UInt8 := dkwX5_readsPromise_1 ++ dktX5_readsPromise_2
def dkwX5_readsPromise_0 : List UInt8 := [42, 4, 28, 182, 0, 123, 62, 42, 4, 28, 4, 96, 182, 0, 123, 54, 4, 42, 4, 28, 5, 96]
abbrev dktX5_readsPromise_0 : List UInt8 := dkwX5_readsPromise_0 ++ dktX5_readsPromise_1
theorem dksX5_readsPromise_0 : cX5_readsPromise.data.toList.drop 0 = dktX5_readsPromise_0 := by decide +kernel
theorem dksX5_readsPromise_1 : cX5_readsPromise.data.toList.drop 22 = dktX5_readsPromise_1 := dk_seg dksX5_readsPromise_0 22 rfl rfl
theorem dksX5_readsPromise_2 : cX5_readsPromise.data.toList.drop 46 = dktX5_readsPromise_2 := dk_seg dksX5_readsPromise_1 24 rfl rfl
theorem dksX5_readsPromise_3 : cX5_readsPromise.data.toList.drop 70 = dktX5_readsPromise_3 := dk_seg dksX5_readsPromise_2 24 rfl rfl
theorem dksX5_readsPromise_4 : cX5_readsPromise.data.toList.drop 93 = dktX5_readsPromise_4 := dk_seg dksX5_readsPromise_3 23 rfl rfl
theorem dksX5_readsPromise_5 : cX5_readsPromise.data.toList.drop 117 = dktX5_readsPromise_5 := dk_seg dksX5_readsPromise_4 24 rfl rfl
theorem dksX5_readsPromise_6 : cX5_readsPromise.data.toList.drop 141 = dktX5_readsPromise_6 := dk_seg dksX5_readsPromise_5 24 rfl rfl
theorem dX5_readsPromise_0 : decode cX5_readsPromise 0 = .ok (.aload_n 0, 1) := dk_42 (dk_at dksX5_readsPromise_0 0 rfl rfl)
theorem dX5_readsPromise_1 : decode cX5_readsPromise 1 = .ok (.iconst 1, 1) := dk_4 (dk_at dksX5_readsPromise_0 1 rfl rfl)
theorem dX5_readsPromise_2 : decode cX5_readsPromise 2 = .ok (.iload_n 2, 1) := dk_28 (dk_at dksX5_readsPromise_0 2 rfl rfl)
theorem dX5_readsPromise_3 : decode cX5_readsPromise 3 = .ok (.invokevirtual 123, 3) := dk_182 0 123 (dk_at dksX5_readsPromise_0 3 rfl rfl)
theorem dX5_readsPromise_6 : decode cX5_readsPromise 6 = .ok (.istore_n 3, 1) := dk_62 (dk_at dksX5_readsPromise_0 6 rfl rfl)
theorem dX5_readsPromise_7 : decode cX5_readsPromise 7 = .ok (.aload_n 0, 1) := dk_42 (dk_at dksX5_readsPromise_0 7 rfl rfl)
theorem dX5_readsPromise_8 : decode cX5_readsPromise 8 = .ok (.iconst 1, 1) := dk_4 (dk_at dksX5_readsPromise_0 8 rfl rfl)
theorem dX5_readsPromise_9 : decode cX5_readsPromise 9 = .ok (.iload_n 2, 1) := dk_28 (dk_at dksX5_readsPromise_0 9 rfl rfl)
theorem dX5_readsPromise_10 : decode cX5_readsPromise 10 = .ok (.iconst 1, 1) := dk_4 (dk_at dksX5_readsPromise_0 10 rfl rfl)
theorem dX5_readsPromise_11 : decode cX5_readsPromise 11 = .ok (.iadd, 1) := dk_96 (dk_at dksX5_readsPromise_0 11 rfl rfl)
theorem dX5_readsPromise_12 : decode cX5_readsPromise 12 = .ok (.invokevirtual 123, 3) := dk_182 0 123 (dk_at dksX5_readsPromise_0 12 rfl rfl)
theorem dX5_readsPromise_15 : decode cX5_readsPromise 15 = .ok (.istore 4, 2) := dk_54 4 (dk_at dksX5_readsPromise_0 15 rfl rfl)
theorem dX5_readsPromise_17 : decode cX5_readsPromise 17 = .ok (.aload_n 0, 1) := dk_42 (dk_at dksX5_readsPromise_0 17 rfl rfl)
theorem dX5_readsPromise_18 : decode cX5_readsPromise 18 = .ok (.iconst 1, 1) := dk_4 (dk_at dksX5_readsPromise_0 18 rfl rfl)
theorem dX5_readsPromise_19 : decode cX5_readsPromise 19 = .ok (.iload_n 2, 1) := dk_28 (dk_at dksX5_readsPromise_0 19 rfl rfl)
theorem dX5_readsPromise_20 : decode cX5_readsPromise 20 = .ok (.iconst 2, 1) := dk_5 (dk_at dksX5_readsPromise_0 20 rfl rfl)
theorem dX5_readsPromise_21 : decode cX5_readsPromise 21 = .ok (.iadd, 1) := dk_96 (dk_at dksX5_readsPromise_0 21 rfl rfl)
theorem dX5_readsPromise_22 : decode cX5_readsPromise 22 = .ok (.invokevirtual 123, 3) := dk_182 0 123 (dk_at dksX5_readsPromise_1 0 rfl rfl)
theorem dX5_readsPromise_25 : decode cX5_readsPromise 25 = .ok (.istore 5, 2) := dk_54 5 (dk_at dksX5_readsPromise_1 3 rfl rfl)
theorem dX5_readsPromise_27 : decode cX5_readsPromise 27 = .ok (.aload_n 0, 1) := dk_42 (dk_at dksX5_readsPromise_1 5 rfl rfl)
theorem dX5_readsPromise_28 : decode cX5_readsPromise 28 = .ok (.iconst 1, 1) := dk_4 (dk_at dksX5_readsPromise_1 6 rfl rfl)
theorem dX5_readsPromise_29 : decode cX5_readsPromise 29 = .ok (.iload_n 2, 1) := dk_28 (dk_at dksX5_readsPromise_1 7 rfl rfl)
theorem dX5_readsPromise_30 : decode cX5_readsPromise 30 = .ok (.iconst 3, 1) := dk_6 (dk_at dksX5_readsPromise_1 8 rfl rfl)
theorem dX5_readsPromise_31 : decode cX5_readsPromise 31 = .ok (.iadd, 1) := dk_96 (dk_at dksX5_readsPromise_1 9 rfl rfl)
theorem dX5_readsPromise_32 : decode cX5_readsPromise 32 = .ok (.invokevirtual 123, 3) := dk_182 0 123 (dk_at dksX5_readsPromise_1 10 rfl rfl)
theorem dX5_readsPromise_35 : decode cX5_readsPromise 35 = .ok (.istore 6, 2) := dk_54 6 (dk_at dksX5_readsPromise_1 13 rfl rfl)
theorem dX5_readsPromise_37 : decode cX5_readsPromise 37 = .ok (.iload_n 1, 1) := dk_27 (dk_at dksX5_readsPromise_1 15 rfl rfl)
theorem dX5_readsPromise_38 : decode cX5_readsPromise 38 = .ok (.bipush 10, 2) := dk_16 10 (dk_at dksX5_readsPromise_1 16 rfl rfl)
theorem dX5_readsPromise_40 : decode cX5_readsPromise 40 = .ok (.if_icmp .eq 14, 3) := dk_159 0 14 (dk_at dksX5_readsPromise_1 18 rfl rfl)
theorem dX5_readsPromise_43 : decode cX5_readsPromise 43 = .ok (.iload_n 3, 1) := dk_29 (dk_at dksX5_readsPromise_1 21 rfl rfl)
theorem dX5_readsPromise_44 : decode cX5_readsPromise 44 = .ok (.bipush 97, 2) := dk_16 97 (dk_at dksX5_readsPromise_1 22 rfl rfl)
theorem dX5_readsPromise_46 : decode cX5_readsPromise 46 = .ok (.bipush 104, 2) := dk_16 104 (dk_at dksX5_readsPromise_2 0 rfl rfl)
theorem dX5_readsPromise_48 : decode cX5_readsPromise 48 = .ok (.invokestatic 115, 3) := dk_184 0 115 (dk_at dksX5_readsPromise_2 2 rfl rfl)
theorem dX5_readsPromise_51 : decode cX5_readsPromise 51 = .ok (.ifCond .ne 5, 3) := dk_154 0 5 (dk_at dksX5_readsPromise_2 5 rfl rfl)
theorem dX5_readsPromise_54 : decode cX5_readsPromise 54 = .ok (.iconst 0, 1) := dk_3 (dk_at dksX5_readsPromise_2 8 rfl rfl)
theorem dX5_readsPromise_55 : decode cX5_readsPromise 55 = .ok (.ireturn, 1) := dk_172 (dk_at dksX5_readsPromise_2 9 rfl rfl)
theorem dX5_readsPromise_56 : decode cX5_readsPromise 56 = .ok (.iload 4, 2) := dk_21 4 (dk_at dksX5_readsPromise_2 10 rfl rfl)
theorem dX5_readsPromise_58 : decode cX5_readsPromise 58 = .ok (.bipush 49, 2) := dk_16 49 (dk_at dksX5_readsPromise_2 12 rfl rfl)
theorem dX5_readsPromise_60 : decode cX5_readsPromise 60 = .ok (.bipush 57, 2) := dk_16 57 (dk_at dksX5_readsPromise_2 14 rfl rfl)
theorem dX5_readsPromise_62 : decode cX5_readsPromise 62 = .ok (.invokestatic 115, 3) := dk_184 0 115 (dk_at dksX5_readsPromise_2 16 rfl rfl)
theorem dX5_readsPromise_65 : decode cX5_readsPromise 65 = .ok (.ifCond .ne 5, 3) := dk_154 0 5 (dk_at dksX5_readsPromise_2 19 rfl rfl)
theorem dX5_readsPromise_68 : decode cX5_readsPromise 68 = .ok (.iconst 1, 1) := dk_4 (dk_at dksX5_readsPromise_2 22 rfl rfl)
theorem dX5_readsPromise_69 : decode cX5_readsPromise 69 = .ok (.ireturn, 1) := dk_172 (dk_at dksX5_readsPromise_2 23 rfl rfl)
theorem dX5_readsPromise_70 : decode cX5_readsPromise 70 = .ok (.iload 5, 2) := dk_21 5 (dk_at dksX5_readsPromise_3 0 rfl rfl)
theorem dX5_readsPromise_72 : decode cX5_readsPromise 72 = .ok (.bipush 97, 2) := dk_16 97 (dk_at dksX5_readsPromise_3 2 rfl rfl)
theorem dX5_readsPromise_74 : decode cX5_readsPromise 74 = .ok (.bipush 120, 2) := dk_16 120 (dk_at dksX5_readsPromise_3 4 rfl rfl)
theorem dX5_readsPromise_76 : decode cX5_readsPromise 76 = .ok (.invokestatic 115, 3) := dk_184 0 115 (dk_at dksX5_readsPromise_3 6 rfl rfl)
theorem dX5_readsPromise_79 : decode cX5_readsPromise 79 = .ok (.ifCond .ne 5, 3) := dk_154 0 5 (dk_at dksX5_readsPromise_3 9 rfl rfl)
theorem dX5_readsPromise_82 : decode cX5_readsPromise 82 = .ok (.iconst 2, 1) := dk_5 (dk_at dksX5_readsPromise_3 12 rfl rfl)
theorem dX5_readsPromise_83 : decode cX5_readsPromise 83 = .ok (.ireturn, 1) := dk_172 (dk_at dksX5_readsPromise_3 13 rfl rfl)
theorem dX5_readsPromise_84 : decode cX5_readsPromise 84 = .ok (.iload 6, 2) := dk_21 6 (dk_at dksX5_readsPromise_3 14 rfl rfl)
theorem dX5_readsPromise_86 : decode cX5_readsPromise 86 = .ok (.bipush 97, 2) := dk_16 97 (dk_at dksX5_readsPromise_3 16 rfl rfl)
theorem dX5_readsPromise_88 : decode cX5_readsPromise 88 = .ok (.bipush 120, 2) := dk_16 120 (dk_at dksX5_readsPromise_3 18 rfl rfl)
theorem dX5_readsPromise_90 : decode cX5_readsPromise 90 = .ok (.invokestatic 115, 3) := dk_184 0 115 (dk_at dksX5_readsPromise_3 20 rfl rfl)
theorem dX5_readsPromise_93 : decode cX5_readsPromise 93 = .ok (.ifCond .ne 5, 3) := dk_154 0 5 (dk_at dksX5_readsPromise_4 0 rfl rfl)
theorem dX5_readsPromise_96 : decode cX5_readsPromise 96 = .ok (.iconst 3, 1) := dk_6 (dk_at dksX5_readsPromise_4 3 rfl rfl)
theorem dX5_readsPromise_97 : decode cX5_readsPromise 97 = .ok (.ireturn, 1) := dk_172 (dk_at dksX5_readsPromise_4 4 rfl rfl)
theorem dX5_readsPromise_98 : decode cX5_readsPromise 98 = .ok (.aload_n 0, 1) := dk_42 (dk_at dksX5_readsPromise_4 5 rfl rfl)
theorem dX5_readsPromise_99 : decode cX5_readsPromise 99 = .ok (.getfield 22, 3) := dk_180 0 22 (dk_at dksX5_readsPromise_4 6 rfl rfl)
theorem dX5_readsPromise_102 : decode cX5_readsPromise 102 = .ok (.iload_n 1, 1) := dk_27 (dk_at dksX5_readsPromise_4 9 rfl rfl)
theorem dX5_readsPromise_103 : decode cX5_readsPromise 103 = .ok (.iload_n 3, 1) := dk_29 (dk_at dksX5_readsPromise_4 10 rfl rfl)
theorem dX5_readsPromise_104 : decode cX5_readsPromise 104 = .ok (.bipush 97, 2) := dk_16 97 (dk_at dksX5_readsPromise_4 11 rfl rfl)
theorem dX5_readsPromise_106 : decode cX5_readsPromise 106 = .ok (.isub, 1) := dk_100 (dk_at dksX5_readsPromise_4 13 rfl rfl)
theorem dX5_readsPromise_107 : decode cX5_readsPromise 107 = .ok (.iastore, 1) := dk_79 (dk_at dksX5_readsPromise_4 14 rfl rfl)
theorem dX5_readsPromise_108 : decode cX5_readsPromise 108 = .ok (.aload_n 0, 1) := dk_42 (dk_at dksX5_readsPromise_4 15 rfl rfl)
theorem dX5_readsPromise_109 : decode cX5_readsPromise 109 = .ok (.getfield 25, 3) := dk_180 0 25 (dk_at dksX5_readsPromise_4 16 rfl rfl)
theorem dX5_readsPromise_112 : decode cX5_readsPromise 112 = .ok (.iload_n 1, 1) := dk_27 (dk_at dksX5_readsPromise_4 19 rfl rfl)
theorem dX5_readsPromise_113 : decode cX5_readsPromise 113 = .ok (.iload 4, 2) := dk_21 4 (dk_at dksX5_readsPromise_4 20 rfl rfl)
theorem dX5_readsPromise_115 : decode cX5_readsPromise 115 = .ok (.bipush 48, 2) := dk_16 48 (dk_at dksX5_readsPromise_4 22 rfl rfl)
theorem dX5_readsPromise_117 : decode cX5_readsPromise 117 = .ok (.isub, 1) := dk_100 (dk_at dksX5_readsPromise_5 0 rfl rfl)
theorem dX5_readsPromise_118 : decode cX5_readsPromise 118 = .ok (.iastore, 1) := dk_79 (dk_at dksX5_readsPromise_5 1 rfl rfl)
theorem dX5_readsPromise_119 : decode cX5_readsPromise 119 = .ok (.aload_n 0, 1) := dk_42 (dk_at dksX5_readsPromise_5 2 rfl rfl)
theorem dX5_readsPromise_120 : decode cX5_readsPromise 120 = .ok (.getfield 28, 3) := dk_180 0 28 (dk_at dksX5_readsPromise_5 3 rfl rfl)
theorem dX5_readsPromise_123 : decode cX5_readsPromise 123 = .ok (.iload_n 1, 1) := dk_27 (dk_at dksX5_readsPromise_5 6 rfl rfl)
theorem dX5_readsPromise_124 : decode cX5_readsPromise 124 = .ok (.iload 5, 2) := dk_21 5 (dk_at dksX5_readsPromise_5 7 rfl rfl)
theorem dX5_readsPromise_126 : decode cX5_readsPromise 126 = .ok (.bipush 97, 2) := dk_16 97 (dk_at dksX5_readsPromise_5 9 rfl rfl)
theorem dX5_readsPromise_128 : decode cX5_readsPromise 128 = .ok (.isub, 1) := dk_100 (dk_at dksX5_readsPromise_5 11 rfl rfl)
theorem dX5_readsPromise_129 : decode cX5_readsPromise 129 = .ok (.iastore, 1) := dk_79 (dk_at dksX5_readsPromise_5 12 rfl rfl)
theorem dX5_readsPromise_130 : decode cX5_readsPromise 130 = .ok (.aload_n 0, 1) := dk_42 (dk_at dksX5_readsPromise_5 13 rfl rfl)
theorem dX5_readsPromise_131 : decode cX5_readsPromise 131 = .ok (.getfield 31, 3) := dk_180 0 31 (dk_at dksX5_readsPromise_5 14 rfl rfl)
theorem dX5_readsPromise_134 : decode cX5_readsPromise 134 = .ok (.iload_n 1, 1) := dk_27 (dk_at dksX5_readsPromise_5 17 rfl rfl)
theorem dX5_readsPromise_135 : decode cX5_readsPromise 135 = .ok (.iload 6, 2) := dk_21 6 (dk_at dksX5_readsPromise_5 18 rfl rfl)
theorem dX5_readsPromise_137 : decode cX5_readsPromise 137 = .ok (.bipush 97, 2) := dk_16 97 (dk_at dksX5_readsPromise_5 20 rfl rfl)
theorem dX5_readsPromise_139 : decode cX5_readsPromise 139 = .ok (.isub, 1) := dk_100 (dk_at dksX5_readsPromise_5 22 rfl rfl)
theorem dX5_readsPromise_140 : decode cX5_readsPromise 140 = .ok (.iastore, 1) := dk_79 (dk_at dksX5_readsPromise_5 23 rfl rfl)
theorem dX5_readsPromise_141 : decode cX5_readsPromise 141 = .ok (.iconst 4, 1) := dk_7 (dk_at dksX5_readsPromise_6 0 rfl rfl)
theorem dX5_readsPromise_142 : decode cX5_readsPromise 142 = .ok (.ireturn, 1) := dk_172 (dk_at dksX5_readsPromise_6 1 rfl rfl)
abbrev cX5_person : ByteArray := prog_13_method_23_code
def yX5_person : MethodName := ⟨RX5, "person", "(II)I"⟩
def dkwX5_person_1 : List UInt8 := [167, 0, 5, 16, 254, 172]
abbrev dktX5_person_1 : List UInt8 := dkwX5_person_1 ++ []
def dkwX5_person_0 : List UInt8 := [42, 27, 182, 0, 150, 153, 0, 21, 28, 3, 4, 184, 0, 115, 153, 0, 12, 42, 27, 28, 182, 0, 153]
abbrev dktX5_person_0 : List UInt8 := dkwX5_person_0 ++ dktX5_person_1
theorem dksX5_person_0 : cX5_person.data.toList.drop 0 = dktX5_person_0 := by decide +kernel
theorem dksX5_person_1 : cX5_person.data.toList.drop 23 = dktX5_person_1 := dk_seg dksX5_person_0 23 rfl rfl
theorem dX5_person_0 : decode cX5_person 0 = .ok (.aload_n 0, 1) := dk_42 (dk_at dksX5_person_0 0 rfl rfl)
theorem dX5_person_1 : decode cX5_person 1 = .ok (.iload_n 1, 1) := dk_27 (dk_at dksX5_person_0 1 rfl rfl)
theorem dX5_person_2 : decode cX5_person 2 = .ok (.invokevirtual 150, 3) := dk_182 0 150 (dk_at dksX5_person_0 2 rfl rfl)
theorem dX5_person_5 : decode cX5_person 5 = .ok (.ifCond .eq 21, 3) := dk_153 0 21 (dk_at dksX5_person_0 5 rfl rfl)
theorem dX5_person_8 : decode cX5_person 8 = .ok (.iload_n 2, 1) := dk_28 (dk_at dksX5_person_0 8 rfl rfl)
theorem dX5_person_9 : decode cX5_person 9 = .ok (.iconst 0, 1) := dk_3 (dk_at dksX5_person_0 9 rfl rfl)
theorem dX5_person_10 : decode cX5_person 10 = .ok (.iconst 1, 1) := dk_4 (dk_at dksX5_person_0 10 rfl rfl)
theorem dX5_person_11 : decode cX5_person 11 = .ok (.invokestatic 115, 3) := dk_184 0 115 (dk_at dksX5_person_0 11 rfl rfl)
theorem dX5_person_14 : decode cX5_person 14 = .ok (.ifCond .eq 12, 3) := dk_153 0 12 (dk_at dksX5_person_0 14 rfl rfl)
theorem dX5_person_17 : decode cX5_person 17 = .ok (.aload_n 0, 1) := dk_42 (dk_at dksX5_person_0 17 rfl rfl)
theorem dX5_person_18 : decode cX5_person 18 = .ok (.iload_n 1, 1) := dk_27 (dk_at dksX5_person_0 18 rfl rfl)
theorem dX5_person_19 : decode cX5_person 19 = .ok (.iload_n 2, 1) := dk_28 (dk_at dksX5_person_0 19 rfl rfl)
theorem dX5_person_20 : decode cX5_person 20 = .ok (.invokevirtual 153, 3) := dk_182 0 153 (dk_at dksX5_person_0 20 rfl rfl)
theorem dX5_person_23 : decode cX5_person 23 = .ok (.goto 5, 3) := dk_167 0 5 (dk_at dksX5_person_1 0 rfl rfl)
theorem dX5_person_26 : decode cX5_person 26 = .ok (.bipush (-2), 2) := dk_16 254 (dk_at dksX5_person_1 3 rfl rfl)
theorem dX5_person_28 : decode cX5_person 28 = .ok (.ireturn, 1) := dk_172 (dk_at dksX5_person_1 5 rfl rfl)
abbrev cX5_isPerson : ByteArray := prog_13_method_20_code
def yX5_isPerson : MethodName := ⟨RX5, "isPerson", "(I)Z"⟩
def dkwX5_isPerson_0 : List UInt8 := [42, 182, 0, 147, 27, 3, 42, 180, 0, 127, 4, 100, 184, 0, 115, 172]
abbrev dktX5_isPerson_0 : List UInt8 := dkwX5_isPerson_0 ++ []
theorem dksX5_isPerson_0 : cX5_isPerson.data.toList.drop 0 = dktX5_isPerson_0 := by decide +kernel
theorem dX5_isPerson_0 : decode cX5_isPerson 0 = .ok (.aload_n 0, 1) := dk_42 (dk_at dksX5_isPerson_0 0 rfl rfl)
theorem dX5_isPerson_1 : decode cX5_isPerson 1 = .ok (.invokevirtual 147, 3) := dk_182 0 147 (dk_at dksX5_isPerson_0 1 rfl rfl)
theorem dX5_isPerson_4 : decode cX5_isPerson 4 = .ok (.iload_n 1, 1) := dk_27 (dk_at dksX5_isPerson_0 4 rfl rfl)
theorem dX5_isPerson_5 : decode cX5_isPerson 5 = .ok (.iconst 0, 1) := dk_3 (dk_at dksX5_isPerson_0 5 rfl rfl)
theorem dX5_isPerson_6 : decode cX5_isPerson 6 = .ok (.aload_n 0, 1) := dk_42 (dk_at dksX5_isPerson_0 6 rfl rfl)
theorem dX5_isPerson_7 : decode cX5_isPerson 7 = .ok (.getfield 127, 3) := dk_180 0 127 (dk_at dksX5_isPerson_0 7 rfl rfl)
theorem dX5_isPerson_10 : decode cX5_isPerson 10 = .ok (.iconst 1, 1) := dk_4 (dk_at dksX5_isPerson_0 10 rfl rfl)
theorem dX5_isPerson_11 : decode cX5_isPerson 11 = .ok (.isub, 1) := dk_100 (dk_at dksX5_isPerson_0 11 rfl rfl)
theorem dX5_isPerson_12 : decode cX5_isPerson 12 = .ok (.invokestatic 115, 3) := dk_184 0 115 (dk_at dksX5_isPerson_0 12 rfl rfl)
theorem dX5_isPerson_15 : decode cX5_isPerson 15 = .ok (.ireturn, 1) := dk_172 (dk_at dksX5_isPerson_0 15 rfl rfl)
abbrev cX5_reads : ByteArray := prog_13_method_18_code
def yX5_reads : MethodName := ⟨RX5, "reads", "()V"⟩
def dkwX5_reads_0 : List UInt8 := [42, 3, 182, 0, 144, 60, 177]
abbrev dktX5_reads_0 : List UInt8 := dkwX5_reads_0 ++ []
theorem dksX5_reads_0 : cX5_reads.data.toList.drop 0 = dktX5_reads_0 := by decide +kernel
theorem dX5_reads_0 : decode cX5_reads 0 = .ok (.aload_n 0, 1) := dk_42 (dk_at dksX5_reads_0 0 rfl rfl)
theorem dX5_reads_1 : decode cX5_reads 1 = .ok (.iconst 0, 1) := dk_3 (dk_at dksX5_reads_0 1 rfl rfl)
theorem dX5_reads_2 : decode cX5_reads 2 = .ok (.invokevirtual 144, 3) := dk_182 0 144 (dk_at dksX5_reads_0 2 rfl rfl)
theorem dX5_reads_5 : decode cX5_reads 5 = .ok (.istore_n 1, 1) := dk_60 (dk_at dksX5_reads_0 5 rfl rfl)
theorem dX5_reads_6 : decode cX5_reads 6 = .ok (.return_, 1) := dk_177 (dk_at dksX5_reads_0 6 rfl rfl)
abbrev cX5_personOf : ByteArray := prog_13_method_22_code
def yX5_personOf : MethodName := ⟨RX5, "personOf", "(II)I"⟩
def dkwX5_personOf_0 : List UInt8 := [28, 154, 0, 12, 42, 180, 0, 16, 27, 46, 167, 0, 9, 42, 180, 0, 19, 27, 46, 172]
abbrev dktX5_personOf_0 : List UInt8 := dkwX5_personOf_0 ++ []
theorem dksX5_personOf_0 : cX5_personOf.data.toList.drop 0 = dktX5_personOf_0 := by decide +kernel
theorem dX5_personOf_0 : decode cX5_personOf 0 = .ok (.iload_n 2, 1) := dk_28 (dk_at dksX5_personOf_0 0 rfl rfl)
theorem dX5_personOf_1 : decode cX5_personOf 1 = .ok (.ifCond .ne 12, 3) := dk_154 0 12 (dk_at dksX5_personOf_0 1 rfl rfl)
theorem dX5_personOf_4 : decode cX5_personOf 4 = .ok (.aload_n 0, 1) := dk_42 (dk_at dksX5_personOf_0 4 rfl rfl)
theorem dX5_personOf_5 : decode cX5_personOf 5 = .ok (.getfield 16, 3) := dk_180 0 16 (dk_at dksX5_personOf_0 5 rfl rfl)
theorem dX5_personOf_8 : decode cX5_personOf 8 = .ok (.iload_n 1, 1) := dk_27 (dk_at dksX5_personOf_0 8 rfl rfl)
theorem dX5_personOf_9 : decode cX5_personOf 9 = .ok (.iaload, 1) := dk_46 (dk_at dksX5_personOf_0 9 rfl rfl)
theorem dX5_personOf_10 : decode cX5_personOf 10 = .ok (.goto 9, 3) := dk_167 0 9 (dk_at dksX5_personOf_0 10 rfl rfl)
theorem dX5_personOf_13 : decode cX5_personOf 13 = .ok (.aload_n 0, 1) := dk_42 (dk_at dksX5_personOf_0 13 rfl rfl)
theorem dX5_personOf_14 : decode cX5_personOf 14 = .ok (.getfield 19, 3) := dk_180 0 19 (dk_at dksX5_personOf_0 14 rfl rfl)
theorem dX5_personOf_17 : decode cX5_personOf 17 = .ok (.iload_n 1, 1) := dk_27 (dk_at dksX5_personOf_0 17 rfl rfl)
theorem dX5_personOf_18 : decode cX5_personOf 18 = .ok (.iaload, 1) := dk_46 (dk_at dksX5_personOf_0 18 rfl rfl)
theorem dX5_personOf_19 : decode cX5_personOf 19 = .ok (.ireturn, 1) := dk_172 (dk_at dksX5_personOf_0 19 rfl rfl)
abbrev cX5_promise : ByteArray := prog_13_method_25_code
def yX5_promise : MethodName := ⟨RX5, "promise", "(II)I"⟩
def dkwX5_promise_1 : List UInt8 := [167, 0, 5, 16, 254, 172]
abbrev dktX5_promise_1 : List UInt8 := dkwX5_promise_1 ++ []
def dkwX5_promise_0 : List UInt8 := [42, 27, 182, 0, 156, 153, 0, 21, 28, 3, 6, 184, 0, 115, 153, 0, 12, 42, 27, 28, 182, 0, 159]
abbrev dktX5_promise_0 : List UInt8 := dkwX5_promise_0 ++ dktX5_promise_1
theorem dksX5_promise_0 : cX5_promise.data.toList.drop 0 = dktX5_promise_0 := by decide +kernel
theorem dksX5_promise_1 : cX5_promise.data.toList.drop 23 = dktX5_promise_1 := dk_seg dksX5_promise_0 23 rfl rfl
theorem dX5_promise_0 : decode cX5_promise 0 = .ok (.aload_n 0, 1) := dk_42 (dk_at dksX5_promise_0 0 rfl rfl)
theorem dX5_promise_1 : decode cX5_promise 1 = .ok (.iload_n 1, 1) := dk_27 (dk_at dksX5_promise_0 1 rfl rfl)
theorem dX5_promise_2 : decode cX5_promise 2 = .ok (.invokevirtual 156, 3) := dk_182 0 156 (dk_at dksX5_promise_0 2 rfl rfl)
theorem dX5_promise_5 : decode cX5_promise 5 = .ok (.ifCond .eq 21, 3) := dk_153 0 21 (dk_at dksX5_promise_0 5 rfl rfl)
theorem dX5_promise_8 : decode cX5_promise 8 = .ok (.iload_n 2, 1) := dk_28 (dk_at dksX5_promise_0 8 rfl rfl)
theorem dX5_promise_9 : decode cX5_promise 9 = .ok (.iconst 0, 1) := dk_3 (dk_at dksX5_promise_0 9 rfl rfl)
theorem dX5_promise_10 : decode cX5_promise 10 = .ok (.iconst 3, 1) := dk_6 (dk_at dksX5_promise_0 10 rfl rfl)
theorem dX5_promise_11 : decode cX5_promise 11 = .ok (.invokestatic 115, 3) := dk_184 0 115 (dk_at dksX5_promise_0 11 rfl rfl)
theorem dX5_promise_14 : decode cX5_promise 14 = .ok (.ifCond .eq 12, 3) := dk_153 0 12 (dk_at dksX5_promise_0 14 rfl rfl)
theorem dX5_promise_17 : decode cX5_promise 17 = .ok (.aload_n 0, 1) := dk_42 (dk_at dksX5_promise_0 17 rfl rfl)
theorem dX5_promise_18 : decode cX5_promise 18 = .ok (.iload_n 1, 1) := dk_27 (dk_at dksX5_promise_0 18 rfl rfl)
theorem dX5_promise_19 : decode cX5_promise 19 = .ok (.iload_n 2, 1) := dk_28 (dk_at dksX5_promise_0 19 rfl rfl)
theorem dX5_promise_20 : decode cX5_promise 20 = .ok (.invokevirtual 159, 3) := dk_182 0 159 (dk_at dksX5_promise_0 20 rfl rfl)
theorem dX5_promise_23 : decode cX5_promise 23 = .ok (.goto 5, 3) := dk_167 0 5 (dk_at dksX5_promise_1 0 rfl rfl)
theorem dX5_promise_26 : decode cX5_promise 26 = .ok (.bipush (-2), 2) := dk_16 254 (dk_at dksX5_promise_1 3 rfl rfl)
theorem dX5_promise_28 : decode cX5_promise 28 = .ok (.ireturn, 1) := dk_172 (dk_at dksX5_promise_1 5 rfl rfl)
abbrev cX5_isPromise : ByteArray := prog_13_method_21_code
def yX5_isPromise : MethodName := ⟨RX5, "isPromise", "(I)Z"⟩
def dkwX5_isPromise_0 : List UInt8 := [42, 182, 0, 147, 27, 3, 42, 180, 0, 131, 4, 100, 184, 0, 115, 172]
abbrev dktX5_isPromise_0 : List UInt8 := dkwX5_isPromise_0 ++ []
theorem dksX5_isPromise_0 : cX5_isPromise.data.toList.drop 0 = dktX5_isPromise_0 := by decide +kernel
theorem dX5_isPromise_0 : decode cX5_isPromise 0 = .ok (.aload_n 0, 1) := dk_42 (dk_at dksX5_isPromise_0 0 rfl rfl)
theorem dX5_isPromise_1 : decode cX5_isPromise 1 = .ok (.invokevirtual 147, 3) := dk_182 0 147 (dk_at dksX5_isPromise_0 1 rfl rfl)
theorem dX5_isPromise_4 : decode cX5_isPromise 4 = .ok (.iload_n 1, 1) := dk_27 (dk_at dksX5_isPromise_0 4 rfl rfl)
theorem dX5_isPromise_5 : decode cX5_isPromise 5 = .ok (.iconst 0, 1) := dk_3 (dk_at dksX5_isPromise_0 5 rfl rfl)
theorem dX5_isPromise_6 : decode cX5_isPromise 6 = .ok (.aload_n 0, 1) := dk_42 (dk_at dksX5_isPromise_0 6 rfl rfl)
theorem dX5_isPromise_7 : decode cX5_isPromise 7 = .ok (.getfield 131, 3) := dk_180 0 131 (dk_at dksX5_isPromise_0 7 rfl rfl)
theorem dX5_isPromise_10 : decode cX5_isPromise 10 = .ok (.iconst 1, 1) := dk_4 (dk_at dksX5_isPromise_0 10 rfl rfl)
theorem dX5_isPromise_11 : decode cX5_isPromise 11 = .ok (.isub, 1) := dk_100 (dk_at dksX5_isPromise_0 11 rfl rfl)
theorem dX5_isPromise_12 : decode cX5_isPromise 12 = .ok (.invokestatic 115, 3) := dk_184 0 115 (dk_at dksX5_isPromise_0 12 rfl rfl)
theorem dX5_isPromise_15 : decode cX5_isPromise 15 = .ok (.ireturn, 1) := dk_172 (dk_at dksX5_isPromise_0 15 rfl rfl)
abbrev cX5_promiseOf : ByteArray := prog_13_method_24_code
def yX5_promiseOf : MethodName := ⟨RX5, "promiseOf", "(II)I"⟩
def dkwX5_promiseOf_1 : List UInt8 := [167, 0, 23, 28, 5, 160, 0, 12, 42, 180, 0, 28, 27, 46, 167, 0, 9, 42, 180, 0, 31, 27, 46, 172]
abbrev dktX5_promiseOf_1 : List UInt8 := dkwX5_promiseOf_1 ++ []
def dkwX5_promiseOf_0 : List UInt8 := [28, 154, 0, 12, 42, 180, 0, 22, 27, 46, 167, 0, 37, 28, 4, 160, 0, 12, 42, 180, 0, 25, 27, 46]
abbrev dktX5_promiseOf_0 : List UInt8 := dkwX5_promiseOf_0 ++ dktX5_promiseOf_1
theorem dksX5_promiseOf_0 : cX5_promiseOf.data.toList.drop 0 = dktX5_promiseOf_0 := by decide +kernel
theorem dksX5_promiseOf_1 : cX5_promiseOf.data.toList.drop 24 = dktX5_promiseOf_1 := dk_seg dksX5_promiseOf_0 24 rfl rfl
theorem dX5_promiseOf_0 : decode cX5_promiseOf 0 = .ok (.iload_n 2, 1) := dk_28 (dk_at dksX5_promiseOf_0 0 rfl rfl)
theorem dX5_promiseOf_1 : decode cX5_promiseOf 1 = .ok (.ifCond .ne 12, 3) := dk_154 0 12 (dk_at dksX5_promiseOf_0 1 rfl rfl)
theorem dX5_promiseOf_4 : decode cX5_promiseOf 4 = .ok (.aload_n 0, 1) := dk_42 (dk_at dksX5_promiseOf_0 4 rfl rfl)
theorem dX5_promiseOf_5 : decode cX5_promiseOf 5 = .ok (.getfield 22, 3) := dk_180 0 22 (dk_at dksX5_promiseOf_0 5 rfl rfl)
theorem dX5_promiseOf_8 : decode cX5_promiseOf 8 = .ok (.iload_n 1, 1) := dk_27 (dk_at dksX5_promiseOf_0 8 rfl rfl)
theorem dX5_promiseOf_9 : decode cX5_promiseOf 9 = .ok (.iaload, 1) := dk_46 (dk_at dksX5_promiseOf_0 9 rfl rfl)
theorem dX5_promiseOf_10 : decode cX5_promiseOf 10 = .ok (.goto 37, 3) := dk_167 0 37 (dk_at dksX5_promiseOf_0 10 rfl rfl)
theorem dX5_promiseOf_13 : decode cX5_promiseOf 13 = .ok (.iload_n 2, 1) := dk_28 (dk_at dksX5_promiseOf_0 13 rfl rfl)
theorem dX5_promiseOf_14 : decode cX5_promiseOf 14 = .ok (.iconst 1, 1) := dk_4 (dk_at dksX5_promiseOf_0 14 rfl rfl)
theorem dX5_promiseOf_15 : decode cX5_promiseOf 15 = .ok (.if_icmp .ne 12, 3) := dk_160 0 12 (dk_at dksX5_promiseOf_0 15 rfl rfl)
theorem dX5_promiseOf_18 : decode cX5_promiseOf 18 = .ok (.aload_n 0, 1) := dk_42 (dk_at dksX5_promiseOf_0 18 rfl rfl)
theorem dX5_promiseOf_19 : decode cX5_promiseOf 19 = .ok (.getfield 25, 3) := dk_180 0 25 (dk_at dksX5_promiseOf_0 19 rfl rfl)
theorem dX5_promiseOf_22 : decode cX5_promiseOf 22 = .ok (.iload_n 1, 1) := dk_27 (dk_at dksX5_promiseOf_0 22 rfl rfl)
theorem dX5_promiseOf_23 : decode cX5_promiseOf 23 = .ok (.iaload, 1) := dk_46 (dk_at dksX5_promiseOf_0 23 rfl rfl)
theorem dX5_promiseOf_24 : decode cX5_promiseOf 24 = .ok (.goto 23, 3) := dk_167 0 23 (dk_at dksX5_promiseOf_1 0 rfl rfl)
theorem dX5_promiseOf_27 : decode cX5_promiseOf 27 = .ok (.iload_n 2, 1) := dk_28 (dk_at dksX5_promiseOf_1 3 rfl rfl)
theorem dX5_promiseOf_28 : decode cX5_promiseOf 28 = .ok (.iconst 2, 1) := dk_5 (dk_at dksX5_promiseOf_1 4 rfl rfl)
theorem dX5_promiseOf_29 : decode cX5_promiseOf 29 = .ok (.if_icmp .ne 12, 3) := dk_160 0 12 (dk_at dksX5_promiseOf_1 5 rfl rfl)
theorem dX5_promiseOf_32 : decode cX5_promiseOf 32 = .ok (.aload_n 0, 1) := dk_42 (dk_at dksX5_promiseOf_1 8 rfl rfl)
theorem dX5_promiseOf_33 : decode cX5_promiseOf 33 = .ok (.getfield 28, 3) := dk_180 0 28 (dk_at dksX5_promiseOf_1 9 rfl rfl)
theorem dX5_promiseOf_36 : decode cX5_promiseOf 36 = .ok (.iload_n 1, 1) := dk_27 (dk_at dksX5_promiseOf_1 12 rfl rfl)
theorem dX5_promiseOf_37 : decode cX5_promiseOf 37 = .ok (.iaload, 1) := dk_46 (dk_at dksX5_promiseOf_1 13 rfl rfl)
theorem dX5_promiseOf_38 : decode cX5_promiseOf 38 = .ok (.goto 9, 3) := dk_167 0 9 (dk_at dksX5_promiseOf_1 14 rfl rfl)
theorem dX5_promiseOf_41 : decode cX5_promiseOf 41 = .ok (.aload_n 0, 1) := dk_42 (dk_at dksX5_promiseOf_1 17 rfl rfl)
theorem dX5_promiseOf_42 : decode cX5_promiseOf 42 = .ok (.getfield 31, 3) := dk_180 0 31 (dk_at dksX5_promiseOf_1 18 rfl rfl)
theorem dX5_promiseOf_45 : decode cX5_promiseOf 45 = .ok (.iload_n 1, 1) := dk_27 (dk_at dksX5_promiseOf_1 21 rfl rfl)
theorem dX5_promiseOf_46 : decode cX5_promiseOf 46 = .ok (.iaload, 1) := dk_46 (dk_at dksX5_promiseOf_1 22 rfl rfl)
theorem dX5_promiseOf_47 : decode cX5_promiseOf 47 = .ok (.ireturn, 1) := dk_172 (dk_at dksX5_promiseOf_1 23 rfl rfl)
abbrev cX5_keeping : ByteArray := prog_13_method_26_code
def yX5_keeping : MethodName := ⟨RX5, "keeping", "(II)I"⟩
def dkwX5_keeping_2 : List UInt8 := [180, 0, 165, 28, 79, 42, 89, 180, 0, 165, 4, 96, 181, 0, 165, 42, 180, 0, 165, 172]
abbrev dktX5_keeping_2 : List UInt8 := dkwX5_keeping_2 ++ []
def dkwX5_keeping_1 : List UInt8 := [16, 8, 160, 0, 6, 16, 252, 172, 42, 180, 0, 34, 42, 180, 0, 165, 27, 79, 42, 180, 0, 37, 42]
abbrev dktX5_keeping_1 : List UInt8 := dkwX5_keeping_1 ++ dktX5_keeping_2
def dkwX5_keeping_0 : List UInt8 := [27, 184, 0, 162, 153, 0, 13, 28, 3, 16, 9, 184, 0, 115, 154, 0, 6, 16, 254, 172, 42, 180, 0, 165]
abbrev dktX5_keeping_0 : List UInt8 := dkwX5_keeping_0 ++ dktX5_keeping_1
theorem dksX5_keeping_0 : cX5_keeping.data.toList.drop 0 = dktX5_keeping_0 := by decide +kernel
theorem dksX5_keeping_1 : cX5_keeping.data.toList.drop 24 = dktX5_keeping_1 := dk_seg dksX5_keeping_0 24 rfl rfl
theorem dksX5_keeping_2 : cX5_keeping.data.toList.drop 47 = dktX5_keeping_2 := dk_seg dksX5_keeping_1 23 rfl rfl
theorem dX5_keeping_0 : decode cX5_keeping 0 = .ok (.iload_n 1, 1) := dk_27 (dk_at dksX5_keeping_0 0 rfl rfl)
theorem dX5_keeping_1 : decode cX5_keeping 1 = .ok (.invokestatic 162, 3) := dk_184 0 162 (dk_at dksX5_keeping_0 1 rfl rfl)
theorem dX5_keeping_4 : decode cX5_keeping 4 = .ok (.ifCond .eq 13, 3) := dk_153 0 13 (dk_at dksX5_keeping_0 4 rfl rfl)
theorem dX5_keeping_7 : decode cX5_keeping 7 = .ok (.iload_n 2, 1) := dk_28 (dk_at dksX5_keeping_0 7 rfl rfl)
theorem dX5_keeping_8 : decode cX5_keeping 8 = .ok (.iconst 0, 1) := dk_3 (dk_at dksX5_keeping_0 8 rfl rfl)
theorem dX5_keeping_9 : decode cX5_keeping 9 = .ok (.bipush 9, 2) := dk_16 9 (dk_at dksX5_keeping_0 9 rfl rfl)
theorem dX5_keeping_11 : decode cX5_keeping 11 = .ok (.invokestatic 115, 3) := dk_184 0 115 (dk_at dksX5_keeping_0 11 rfl rfl)
theorem dX5_keeping_14 : decode cX5_keeping 14 = .ok (.ifCond .ne 6, 3) := dk_154 0 6 (dk_at dksX5_keeping_0 14 rfl rfl)
theorem dX5_keeping_17 : decode cX5_keeping 17 = .ok (.bipush (-2), 2) := dk_16 254 (dk_at dksX5_keeping_0 17 rfl rfl)
theorem dX5_keeping_19 : decode cX5_keeping 19 = .ok (.ireturn, 1) := dk_172 (dk_at dksX5_keeping_0 19 rfl rfl)
theorem dX5_keeping_20 : decode cX5_keeping 20 = .ok (.aload_n 0, 1) := dk_42 (dk_at dksX5_keeping_0 20 rfl rfl)
theorem dX5_keeping_21 : decode cX5_keeping 21 = .ok (.getfield 165, 3) := dk_180 0 165 (dk_at dksX5_keeping_0 21 rfl rfl)
theorem dX5_keeping_24 : decode cX5_keeping 24 = .ok (.bipush 8, 2) := dk_16 8 (dk_at dksX5_keeping_1 0 rfl rfl)
theorem dX5_keeping_26 : decode cX5_keeping 26 = .ok (.if_icmp .ne 6, 3) := dk_160 0 6 (dk_at dksX5_keeping_1 2 rfl rfl)
theorem dX5_keeping_29 : decode cX5_keeping 29 = .ok (.bipush (-4), 2) := dk_16 252 (dk_at dksX5_keeping_1 5 rfl rfl)
theorem dX5_keeping_31 : decode cX5_keeping 31 = .ok (.ireturn, 1) := dk_172 (dk_at dksX5_keeping_1 7 rfl rfl)
theorem dX5_keeping_32 : decode cX5_keeping 32 = .ok (.aload_n 0, 1) := dk_42 (dk_at dksX5_keeping_1 8 rfl rfl)
theorem dX5_keeping_33 : decode cX5_keeping 33 = .ok (.getfield 34, 3) := dk_180 0 34 (dk_at dksX5_keeping_1 9 rfl rfl)
theorem dX5_keeping_36 : decode cX5_keeping 36 = .ok (.aload_n 0, 1) := dk_42 (dk_at dksX5_keeping_1 12 rfl rfl)
theorem dX5_keeping_37 : decode cX5_keeping 37 = .ok (.getfield 165, 3) := dk_180 0 165 (dk_at dksX5_keeping_1 13 rfl rfl)
theorem dX5_keeping_40 : decode cX5_keeping 40 = .ok (.iload_n 1, 1) := dk_27 (dk_at dksX5_keeping_1 16 rfl rfl)
theorem dX5_keeping_41 : decode cX5_keeping 41 = .ok (.iastore, 1) := dk_79 (dk_at dksX5_keeping_1 17 rfl rfl)
theorem dX5_keeping_42 : decode cX5_keeping 42 = .ok (.aload_n 0, 1) := dk_42 (dk_at dksX5_keeping_1 18 rfl rfl)
theorem dX5_keeping_43 : decode cX5_keeping 43 = .ok (.getfield 37, 3) := dk_180 0 37 (dk_at dksX5_keeping_1 19 rfl rfl)
theorem dX5_keeping_46 : decode cX5_keeping 46 = .ok (.aload_n 0, 1) := dk_42 (dk_at dksX5_keeping_1 22 rfl rfl)
theorem dX5_keeping_47 : decode cX5_keeping 47 = .ok (.getfield 165, 3) := dk_180 0 165 (dk_at dksX5_keeping_2 0 rfl rfl)
theorem dX5_keeping_50 : decode cX5_keeping 50 = .ok (.iload_n 2, 1) := dk_28 (dk_at dksX5_keeping_2 3 rfl rfl)
theorem dX5_keeping_51 : decode cX5_keeping 51 = .ok (.iastore, 1) := dk_79 (dk_at dksX5_keeping_2 4 rfl rfl)
theorem dX5_keeping_52 : decode cX5_keeping 52 = .ok (.aload_n 0, 1) := dk_42 (dk_at dksX5_keeping_2 5 rfl rfl)
theorem dX5_keeping_53 : decode cX5_keeping 53 = .ok (.dup, 1) := dk_89 (dk_at dksX5_keeping_2 6 rfl rfl)
theorem dX5_keeping_54 : decode cX5_keeping 54 = .ok (.getfield 165, 3) := dk_180 0 165 (dk_at dksX5_keeping_2 7 rfl rfl)
theorem dX5_keeping_57 : decode cX5_keeping 57 = .ok (.iconst 1, 1) := dk_4 (dk_at dksX5_keeping_2 10 rfl rfl)
theorem dX5_keeping_58 : decode cX5_keeping 58 = .ok (.iadd, 1) := dk_96 (dk_at dksX5_keeping_2 11 rfl rfl)
theorem dX5_keeping_59 : decode cX5_keeping 59 = .ok (.putfield 165, 3) := dk_181 0 165 (dk_at dksX5_keeping_2 12 rfl rfl)
theorem dX5_keeping_62 : decode cX5_keeping 62 = .ok (.aload_n 0, 1) := dk_42 (dk_at dksX5_keeping_2 15 rfl rfl)
theorem dX5_keeping_63 : decode cX5_keeping 63 = .ok (.getfield 165, 3) := dk_180 0 165 (dk_at dksX5_keeping_2 16 rfl rfl)
theorem dX5_keeping_66 : decode cX5_keeping 66 = .ok (.ireturn, 1) := dk_172 (dk_at dksX5_keeping_2 19 rfl rfl)
abbrev cX5_isDay : ByteArray := prog_13_method_8_code
def yX5_isDay : MethodName := ⟨RX5, "isDay", "(I)Z"⟩
def dkwX5_isDay_0 : List UInt8 := [26, 3, 16, 23, 184, 0, 115, 172]
abbrev dktX5_isDay_0 : List UInt8 := dkwX5_isDay_0 ++ []
theorem dksX5_isDay_0 : cX5_isDay.data.toList.drop 0 = dktX5_isDay_0 := by decide +kernel
theorem dX5_isDay_0 : decode cX5_isDay 0 = .ok (.iload_n 0, 1) := dk_26 (dk_at dksX5_isDay_0 0 rfl rfl)
theorem dX5_isDay_1 : decode cX5_isDay 1 = .ok (.iconst 0, 1) := dk_3 (dk_at dksX5_isDay_0 1 rfl rfl)
theorem dX5_isDay_2 : decode cX5_isDay 2 = .ok (.bipush 23, 2) := dk_16 23 (dk_at dksX5_isDay_0 2 rfl rfl)
theorem dX5_isDay_4 : decode cX5_isDay 4 = .ok (.invokestatic 115, 3) := dk_184 0 115 (dk_at dksX5_isDay_0 4 rfl rfl)
theorem dX5_isDay_7 : decode cX5_isDay 7 = .ok (.ireturn, 1) := dk_172 (dk_at dksX5_isDay_0 7 rfl rfl)
abbrev cX5_lie : ByteArray := prog_13_method_27_code
def yX5_lie : MethodName := ⟨RX5, "lie", "(III)I"⟩
def dkwX5_lie_3 : List UInt8 := [180, 0, 171, 4, 96, 181, 0, 171, 42, 180, 0, 171, 172]
abbrev dktX5_lie_3 : List UInt8 := dkwX5_lie_3 ++ []
def dkwX5_lie_2 : List UInt8 := [79, 42, 180, 0, 43, 42, 180, 0, 171, 28, 79, 42, 180, 0, 46, 42, 180, 0, 171, 29, 79, 42, 89]
abbrev dktX5_lie_2 : List UInt8 := dkwX5_lie_2 ++ dktX5_lie_3
def dkwX5_lie_1 : List UInt8 := [16, 254, 172, 42, 180, 0, 171, 16, 6, 160, 0, 6, 16, 252, 172, 42, 180, 0, 40, 42, 180, 0, 171, 27]
abbrev dktX5_lie_1 : List UInt8 := dkwX5_lie_1 ++ dktX5_lie_2
def dkwX5_lie_0 : List UInt8 := [27, 184, 0, 162, 153, 0, 20, 28, 184, 0, 168, 153, 0, 13, 29, 4, 16, 9, 184, 0, 115, 154, 0, 6]
abbrev dktX5_lie_0 : List UInt8 := dkwX5_lie_0 ++ dktX5_lie_1
theorem dksX5_lie_0 : cX5_lie.data.toList.drop 0 = dktX5_lie_0 := by decide +kernel
theorem dksX5_lie_1 : cX5_lie.data.toList.drop 24 = dktX5_lie_1 := dk_seg dksX5_lie_0 24 rfl rfl
theorem dksX5_lie_2 : cX5_lie.data.toList.drop 48 = dktX5_lie_2 := dk_seg dksX5_lie_1 24 rfl rfl
theorem dksX5_lie_3 : cX5_lie.data.toList.drop 71 = dktX5_lie_3 := dk_seg dksX5_lie_2 23 rfl rfl
theorem dX5_lie_0 : decode cX5_lie 0 = .ok (.iload_n 1, 1) := dk_27 (dk_at dksX5_lie_0 0 rfl rfl)
theorem dX5_lie_1 : decode cX5_lie 1 = .ok (.invokestatic 162, 3) := dk_184 0 162 (dk_at dksX5_lie_0 1 rfl rfl)
theorem dX5_lie_4 : decode cX5_lie 4 = .ok (.ifCond .eq 20, 3) := dk_153 0 20 (dk_at dksX5_lie_0 4 rfl rfl)
theorem dX5_lie_7 : decode cX5_lie 7 = .ok (.iload_n 2, 1) := dk_28 (dk_at dksX5_lie_0 7 rfl rfl)
theorem dX5_lie_8 : decode cX5_lie 8 = .ok (.invokestatic 168, 3) := dk_184 0 168 (dk_at dksX5_lie_0 8 rfl rfl)
theorem dX5_lie_11 : decode cX5_lie 11 = .ok (.ifCond .eq 13, 3) := dk_153 0 13 (dk_at dksX5_lie_0 11 rfl rfl)
theorem dX5_lie_14 : decode cX5_lie 14 = .ok (.iload_n 3, 1) := dk_29 (dk_at dksX5_lie_0 14 rfl rfl)
theorem dX5_lie_15 : decode cX5_lie 15 = .ok (.iconst 1, 1) := dk_4 (dk_at dksX5_lie_0 15 rfl rfl)
theorem dX5_lie_16 : decode cX5_lie 16 = .ok (.bipush 9, 2) := dk_16 9 (dk_at dksX5_lie_0 16 rfl rfl)
theorem dX5_lie_18 : decode cX5_lie 18 = .ok (.invokestatic 115, 3) := dk_184 0 115 (dk_at dksX5_lie_0 18 rfl rfl)
theorem dX5_lie_21 : decode cX5_lie 21 = .ok (.ifCond .ne 6, 3) := dk_154 0 6 (dk_at dksX5_lie_0 21 rfl rfl)
theorem dX5_lie_24 : decode cX5_lie 24 = .ok (.bipush (-2), 2) := dk_16 254 (dk_at dksX5_lie_1 0 rfl rfl)
theorem dX5_lie_26 : decode cX5_lie 26 = .ok (.ireturn, 1) := dk_172 (dk_at dksX5_lie_1 2 rfl rfl)
theorem dX5_lie_27 : decode cX5_lie 27 = .ok (.aload_n 0, 1) := dk_42 (dk_at dksX5_lie_1 3 rfl rfl)
theorem dX5_lie_28 : decode cX5_lie 28 = .ok (.getfield 171, 3) := dk_180 0 171 (dk_at dksX5_lie_1 4 rfl rfl)
theorem dX5_lie_31 : decode cX5_lie 31 = .ok (.bipush 6, 2) := dk_16 6 (dk_at dksX5_lie_1 7 rfl rfl)
theorem dX5_lie_33 : decode cX5_lie 33 = .ok (.if_icmp .ne 6, 3) := dk_160 0 6 (dk_at dksX5_lie_1 9 rfl rfl)
theorem dX5_lie_36 : decode cX5_lie 36 = .ok (.bipush (-4), 2) := dk_16 252 (dk_at dksX5_lie_1 12 rfl rfl)
theorem dX5_lie_38 : decode cX5_lie 38 = .ok (.ireturn, 1) := dk_172 (dk_at dksX5_lie_1 14 rfl rfl)
theorem dX5_lie_39 : decode cX5_lie 39 = .ok (.aload_n 0, 1) := dk_42 (dk_at dksX5_lie_1 15 rfl rfl)
theorem dX5_lie_40 : decode cX5_lie 40 = .ok (.getfield 40, 3) := dk_180 0 40 (dk_at dksX5_lie_1 16 rfl rfl)
theorem dX5_lie_43 : decode cX5_lie 43 = .ok (.aload_n 0, 1) := dk_42 (dk_at dksX5_lie_1 19 rfl rfl)
theorem dX5_lie_44 : decode cX5_lie 44 = .ok (.getfield 171, 3) := dk_180 0 171 (dk_at dksX5_lie_1 20 rfl rfl)
theorem dX5_lie_47 : decode cX5_lie 47 = .ok (.iload_n 1, 1) := dk_27 (dk_at dksX5_lie_1 23 rfl rfl)
theorem dX5_lie_48 : decode cX5_lie 48 = .ok (.iastore, 1) := dk_79 (dk_at dksX5_lie_2 0 rfl rfl)
theorem dX5_lie_49 : decode cX5_lie 49 = .ok (.aload_n 0, 1) := dk_42 (dk_at dksX5_lie_2 1 rfl rfl)
theorem dX5_lie_50 : decode cX5_lie 50 = .ok (.getfield 43, 3) := dk_180 0 43 (dk_at dksX5_lie_2 2 rfl rfl)
theorem dX5_lie_53 : decode cX5_lie 53 = .ok (.aload_n 0, 1) := dk_42 (dk_at dksX5_lie_2 5 rfl rfl)
theorem dX5_lie_54 : decode cX5_lie 54 = .ok (.getfield 171, 3) := dk_180 0 171 (dk_at dksX5_lie_2 6 rfl rfl)
theorem dX5_lie_57 : decode cX5_lie 57 = .ok (.iload_n 2, 1) := dk_28 (dk_at dksX5_lie_2 9 rfl rfl)
theorem dX5_lie_58 : decode cX5_lie 58 = .ok (.iastore, 1) := dk_79 (dk_at dksX5_lie_2 10 rfl rfl)
theorem dX5_lie_59 : decode cX5_lie 59 = .ok (.aload_n 0, 1) := dk_42 (dk_at dksX5_lie_2 11 rfl rfl)
theorem dX5_lie_60 : decode cX5_lie 60 = .ok (.getfield 46, 3) := dk_180 0 46 (dk_at dksX5_lie_2 12 rfl rfl)
theorem dX5_lie_63 : decode cX5_lie 63 = .ok (.aload_n 0, 1) := dk_42 (dk_at dksX5_lie_2 15 rfl rfl)
theorem dX5_lie_64 : decode cX5_lie 64 = .ok (.getfield 171, 3) := dk_180 0 171 (dk_at dksX5_lie_2 16 rfl rfl)
theorem dX5_lie_67 : decode cX5_lie 67 = .ok (.iload_n 3, 1) := dk_29 (dk_at dksX5_lie_2 19 rfl rfl)
theorem dX5_lie_68 : decode cX5_lie 68 = .ok (.iastore, 1) := dk_79 (dk_at dksX5_lie_2 20 rfl rfl)
theorem dX5_lie_69 : decode cX5_lie 69 = .ok (.aload_n 0, 1) := dk_42 (dk_at dksX5_lie_2 21 rfl rfl)
theorem dX5_lie_70 : decode cX5_lie 70 = .ok (.dup, 1) := dk_89 (dk_at dksX5_lie_2 22 rfl rfl)
theorem dX5_lie_71 : decode cX5_lie 71 = .ok (.getfield 171, 3) := dk_180 0 171 (dk_at dksX5_lie_3 0 rfl rfl)
theorem dX5_lie_74 : decode cX5_lie 74 = .ok (.iconst 1, 1) := dk_4 (dk_at dksX5_lie_3 3 rfl rfl)
theorem dX5_lie_75 : decode cX5_lie 75 = .ok (.iadd, 1) := dk_96 (dk_at dksX5_lie_3 4 rfl rfl)
theorem dX5_lie_76 : decode cX5_lie 76 = .ok (.putfield 171, 3) := dk_181 0 171 (dk_at dksX5_lie_3 5 rfl rfl)
theorem dX5_lie_79 : decode cX5_lie 79 = .ok (.aload_n 0, 1) := dk_42 (dk_at dksX5_lie_3 8 rfl rfl)
theorem dX5_lie_80 : decode cX5_lie 80 = .ok (.getfield 171, 3) := dk_180 0 171 (dk_at dksX5_lie_3 9 rfl rfl)
theorem dX5_lie_83 : decode cX5_lie 83 = .ok (.ireturn, 1) := dk_172 (dk_at dksX5_lie_3 12 rfl rfl)
abbrev cX5_isEight : ByteArray := prog_13_method_9_code
def yX5_isEight : MethodName := ⟨RX5, "isEight", "(I)Z"⟩
def dkwX5_isEight_0 : List UInt8 := [26, 3, 16, 7, 184, 0, 115, 172]
abbrev dktX5_isEight_0 : List UInt8 := dkwX5_isEight_0 ++ []
theorem dksX5_isEight_0 : cX5_isEight.data.toList.drop 0 = dktX5_isEight_0 := by decide +kernel
theorem dX5_isEight_0 : decode cX5_isEight 0 = .ok (.iload_n 0, 1) := dk_26 (dk_at dksX5_isEight_0 0 rfl rfl)
theorem dX5_isEight_1 : decode cX5_isEight 1 = .ok (.iconst 0, 1) := dk_3 (dk_at dksX5_isEight_0 1 rfl rfl)
theorem dX5_isEight_2 : decode cX5_isEight 2 = .ok (.bipush 7, 2) := dk_16 7 (dk_at dksX5_isEight_0 2 rfl rfl)
theorem dX5_isEight_4 : decode cX5_isEight 4 = .ok (.invokestatic 115, 3) := dk_184 0 115 (dk_at dksX5_isEight_0 4 rfl rfl)
theorem dX5_isEight_7 : decode cX5_isEight 7 = .ok (.ireturn, 1) := dk_172 (dk_at dksX5_isEight_0 7 rfl rfl)
abbrev cX5_letting : ByteArray := prog_13_method_28_code
def yX5_letting : MethodName := ⟨RX5, "letting", "(III)I"⟩
def dkwX5_letting_3 : List UInt8 := [180, 0, 174, 4, 96, 181, 0, 174, 42, 180, 0, 174, 172]
abbrev dktX5_letting_3 : List UInt8 := dkwX5_letting_3 ++ []
def dkwX5_letting_2 : List UInt8 := [79, 42, 180, 0, 52, 42, 180, 0, 174, 28, 79, 42, 180, 0, 55, 42, 180, 0, 174, 29, 79, 42, 89]
abbrev dktX5_letting_2 : List UInt8 := dkwX5_letting_2 ++ dktX5_letting_3
def dkwX5_letting_1 : List UInt8 := [16, 254, 172, 42, 180, 0, 174, 16, 6, 160, 0, 6, 16, 252, 172, 42, 180, 0, 49, 42, 180, 0, 174, 27]
abbrev dktX5_letting_1 : List UInt8 := dkwX5_letting_1 ++ dktX5_letting_2
def dkwX5_letting_0 : List UInt8 := [27, 184, 0, 162, 153, 0, 20, 28, 184, 0, 168, 153, 0, 13, 29, 4, 16, 9, 184, 0, 115, 154, 0, 6]
abbrev dktX5_letting_0 : List UInt8 := dkwX5_letting_0 ++ dktX5_letting_1
theorem dksX5_letting_0 : cX5_letting.data.toList.drop 0 = dktX5_letting_0 := by decide +kernel
theorem dksX5_letting_1 : cX5_letting.data.toList.drop 24 = dktX5_letting_1 := dk_seg dksX5_letting_0 24 rfl rfl
theorem dksX5_letting_2 : cX5_letting.data.toList.drop 48 = dktX5_letting_2 := dk_seg dksX5_letting_1 24 rfl rfl
theorem dksX5_letting_3 : cX5_letting.data.toList.drop 71 = dktX5_letting_3 := dk_seg dksX5_letting_2 23 rfl rfl
theorem dX5_letting_0 : decode cX5_letting 0 = .ok (.iload_n 1, 1) := dk_27 (dk_at dksX5_letting_0 0 rfl rfl)
theorem dX5_letting_1 : decode cX5_letting 1 = .ok (.invokestatic 162, 3) := dk_184 0 162 (dk_at dksX5_letting_0 1 rfl rfl)
theorem dX5_letting_4 : decode cX5_letting 4 = .ok (.ifCond .eq 20, 3) := dk_153 0 20 (dk_at dksX5_letting_0 4 rfl rfl)
theorem dX5_letting_7 : decode cX5_letting 7 = .ok (.iload_n 2, 1) := dk_28 (dk_at dksX5_letting_0 7 rfl rfl)
theorem dX5_letting_8 : decode cX5_letting 8 = .ok (.invokestatic 168, 3) := dk_184 0 168 (dk_at dksX5_letting_0 8 rfl rfl)
theorem dX5_letting_11 : decode cX5_letting 11 = .ok (.ifCond .eq 13, 3) := dk_153 0 13 (dk_at dksX5_letting_0 11 rfl rfl)
theorem dX5_letting_14 : decode cX5_letting 14 = .ok (.iload_n 3, 1) := dk_29 (dk_at dksX5_letting_0 14 rfl rfl)
theorem dX5_letting_15 : decode cX5_letting 15 = .ok (.iconst 1, 1) := dk_4 (dk_at dksX5_letting_0 15 rfl rfl)
theorem dX5_letting_16 : decode cX5_letting 16 = .ok (.bipush 9, 2) := dk_16 9 (dk_at dksX5_letting_0 16 rfl rfl)
theorem dX5_letting_18 : decode cX5_letting 18 = .ok (.invokestatic 115, 3) := dk_184 0 115 (dk_at dksX5_letting_0 18 rfl rfl)
theorem dX5_letting_21 : decode cX5_letting 21 = .ok (.ifCond .ne 6, 3) := dk_154 0 6 (dk_at dksX5_letting_0 21 rfl rfl)
theorem dX5_letting_24 : decode cX5_letting 24 = .ok (.bipush (-2), 2) := dk_16 254 (dk_at dksX5_letting_1 0 rfl rfl)
theorem dX5_letting_26 : decode cX5_letting 26 = .ok (.ireturn, 1) := dk_172 (dk_at dksX5_letting_1 2 rfl rfl)
theorem dX5_letting_27 : decode cX5_letting 27 = .ok (.aload_n 0, 1) := dk_42 (dk_at dksX5_letting_1 3 rfl rfl)
theorem dX5_letting_28 : decode cX5_letting 28 = .ok (.getfield 174, 3) := dk_180 0 174 (dk_at dksX5_letting_1 4 rfl rfl)
theorem dX5_letting_31 : decode cX5_letting 31 = .ok (.bipush 6, 2) := dk_16 6 (dk_at dksX5_letting_1 7 rfl rfl)
theorem dX5_letting_33 : decode cX5_letting 33 = .ok (.if_icmp .ne 6, 3) := dk_160 0 6 (dk_at dksX5_letting_1 9 rfl rfl)
theorem dX5_letting_36 : decode cX5_letting 36 = .ok (.bipush (-4), 2) := dk_16 252 (dk_at dksX5_letting_1 12 rfl rfl)
theorem dX5_letting_38 : decode cX5_letting 38 = .ok (.ireturn, 1) := dk_172 (dk_at dksX5_letting_1 14 rfl rfl)
theorem dX5_letting_39 : decode cX5_letting 39 = .ok (.aload_n 0, 1) := dk_42 (dk_at dksX5_letting_1 15 rfl rfl)
theorem dX5_letting_40 : decode cX5_letting 40 = .ok (.getfield 49, 3) := dk_180 0 49 (dk_at dksX5_letting_1 16 rfl rfl)
theorem dX5_letting_43 : decode cX5_letting 43 = .ok (.aload_n 0, 1) := dk_42 (dk_at dksX5_letting_1 19 rfl rfl)
theorem dX5_letting_44 : decode cX5_letting 44 = .ok (.getfield 174, 3) := dk_180 0 174 (dk_at dksX5_letting_1 20 rfl rfl)
theorem dX5_letting_47 : decode cX5_letting 47 = .ok (.iload_n 1, 1) := dk_27 (dk_at dksX5_letting_1 23 rfl rfl)
theorem dX5_letting_48 : decode cX5_letting 48 = .ok (.iastore, 1) := dk_79 (dk_at dksX5_letting_2 0 rfl rfl)
theorem dX5_letting_49 : decode cX5_letting 49 = .ok (.aload_n 0, 1) := dk_42 (dk_at dksX5_letting_2 1 rfl rfl)
theorem dX5_letting_50 : decode cX5_letting 50 = .ok (.getfield 52, 3) := dk_180 0 52 (dk_at dksX5_letting_2 2 rfl rfl)
theorem dX5_letting_53 : decode cX5_letting 53 = .ok (.aload_n 0, 1) := dk_42 (dk_at dksX5_letting_2 5 rfl rfl)
theorem dX5_letting_54 : decode cX5_letting 54 = .ok (.getfield 174, 3) := dk_180 0 174 (dk_at dksX5_letting_2 6 rfl rfl)
theorem dX5_letting_57 : decode cX5_letting 57 = .ok (.iload_n 2, 1) := dk_28 (dk_at dksX5_letting_2 9 rfl rfl)
theorem dX5_letting_58 : decode cX5_letting 58 = .ok (.iastore, 1) := dk_79 (dk_at dksX5_letting_2 10 rfl rfl)
theorem dX5_letting_59 : decode cX5_letting 59 = .ok (.aload_n 0, 1) := dk_42 (dk_at dksX5_letting_2 11 rfl rfl)
theorem dX5_letting_60 : decode cX5_letting 60 = .ok (.getfield 55, 3) := dk_180 0 55 (dk_at dksX5_letting_2 12 rfl rfl)
theorem dX5_letting_63 : decode cX5_letting 63 = .ok (.aload_n 0, 1) := dk_42 (dk_at dksX5_letting_2 15 rfl rfl)
theorem dX5_letting_64 : decode cX5_letting 64 = .ok (.getfield 174, 3) := dk_180 0 174 (dk_at dksX5_letting_2 16 rfl rfl)
theorem dX5_letting_67 : decode cX5_letting 67 = .ok (.iload_n 3, 1) := dk_29 (dk_at dksX5_letting_2 19 rfl rfl)
theorem dX5_letting_68 : decode cX5_letting 68 = .ok (.iastore, 1) := dk_79 (dk_at dksX5_letting_2 20 rfl rfl)
theorem dX5_letting_69 : decode cX5_letting 69 = .ok (.aload_n 0, 1) := dk_42 (dk_at dksX5_letting_2 21 rfl rfl)
theorem dX5_letting_70 : decode cX5_letting 70 = .ok (.dup, 1) := dk_89 (dk_at dksX5_letting_2 22 rfl rfl)
theorem dX5_letting_71 : decode cX5_letting 71 = .ok (.getfield 174, 3) := dk_180 0 174 (dk_at dksX5_letting_3 0 rfl rfl)
theorem dX5_letting_74 : decode cX5_letting 74 = .ok (.iconst 1, 1) := dk_4 (dk_at dksX5_letting_3 3 rfl rfl)
theorem dX5_letting_75 : decode cX5_letting 75 = .ok (.iadd, 1) := dk_96 (dk_at dksX5_letting_3 4 rfl rfl)
theorem dX5_letting_76 : decode cX5_letting 76 = .ok (.putfield 174, 3) := dk_181 0 174 (dk_at dksX5_letting_3 5 rfl rfl)
theorem dX5_letting_79 : decode cX5_letting 79 = .ok (.aload_n 0, 1) := dk_42 (dk_at dksX5_letting_3 8 rfl rfl)
theorem dX5_letting_80 : decode cX5_letting 80 = .ok (.getfield 174, 3) := dk_180 0 174 (dk_at dksX5_letting_3 9 rfl rfl)
theorem dX5_letting_83 : decode cX5_letting 83 = .ok (.ireturn, 1) := dk_172 (dk_at dksX5_letting_3 12 rfl rfl)
abbrev cX5_back : ByteArray := prog_13_method_29_code
def yX5_back : MethodName := ⟨RX5, "back", "(I)I"⟩
def dkwX5_back_4 : List UInt8 := [167, 0, 4, 3, 100, 181, 0, 174, 28, 4, 100, 172]
abbrev dktX5_back_4 : List UInt8 := dkwX5_back_4 ++ []
def dkwX5_back_3 : List UInt8 := [160, 0, 7, 4, 167, 0, 4, 3, 100, 181, 0, 171, 42, 89, 180, 0, 174, 27, 5, 160, 0, 7, 4]
abbrev dktX5_back_3 : List UInt8 := dkwX5_back_3 ++ dktX5_back_4
def dkwX5_back_2 : List UInt8 := [89, 180, 0, 165, 27, 154, 0, 7, 4, 167, 0, 4, 3, 100, 181, 0, 165, 42, 89, 180, 0, 171, 27, 4]
abbrev dktX5_back_2 : List UInt8 := dkwX5_back_2 ++ dktX5_back_3
def dkwX5_back_1 : List UInt8 := [4, 160, 0, 10, 42, 180, 0, 171, 167, 0, 7, 42, 180, 0, 174, 61, 28, 154, 0, 6, 16, 253, 172, 42]
abbrev dktX5_back_1 : List UInt8 := dkwX5_back_1 ++ dktX5_back_2
def dkwX5_back_0 : List UInt8 := [27, 3, 5, 184, 0, 115, 154, 0, 6, 16, 254, 172, 27, 154, 0, 10, 42, 180, 0, 165, 167, 0, 19, 27]
abbrev dktX5_back_0 : List UInt8 := dkwX5_back_0 ++ dktX5_back_1
theorem dksX5_back_0 : cX5_back.data.toList.drop 0 = dktX5_back_0 := by decide +kernel
theorem dksX5_back_1 : cX5_back.data.toList.drop 24 = dktX5_back_1 := dk_seg dksX5_back_0 24 rfl rfl
theorem dksX5_back_2 : cX5_back.data.toList.drop 48 = dktX5_back_2 := dk_seg dksX5_back_1 24 rfl rfl
theorem dksX5_back_3 : cX5_back.data.toList.drop 72 = dktX5_back_3 := dk_seg dksX5_back_2 24 rfl rfl
theorem dksX5_back_4 : cX5_back.data.toList.drop 95 = dktX5_back_4 := dk_seg dksX5_back_3 23 rfl rfl
theorem dX5_back_0 : decode cX5_back 0 = .ok (.iload_n 1, 1) := dk_27 (dk_at dksX5_back_0 0 rfl rfl)
theorem dX5_back_1 : decode cX5_back 1 = .ok (.iconst 0, 1) := dk_3 (dk_at dksX5_back_0 1 rfl rfl)
theorem dX5_back_2 : decode cX5_back 2 = .ok (.iconst 2, 1) := dk_5 (dk_at dksX5_back_0 2 rfl rfl)
theorem dX5_back_3 : decode cX5_back 3 = .ok (.invokestatic 115, 3) := dk_184 0 115 (dk_at dksX5_back_0 3 rfl rfl)
theorem dX5_back_6 : decode cX5_back 6 = .ok (.ifCond .ne 6, 3) := dk_154 0 6 (dk_at dksX5_back_0 6 rfl rfl)
theorem dX5_back_9 : decode cX5_back 9 = .ok (.bipush (-2), 2) := dk_16 254 (dk_at dksX5_back_0 9 rfl rfl)
theorem dX5_back_11 : decode cX5_back 11 = .ok (.ireturn, 1) := dk_172 (dk_at dksX5_back_0 11 rfl rfl)
theorem dX5_back_12 : decode cX5_back 12 = .ok (.iload_n 1, 1) := dk_27 (dk_at dksX5_back_0 12 rfl rfl)
theorem dX5_back_13 : decode cX5_back 13 = .ok (.ifCond .ne 10, 3) := dk_154 0 10 (dk_at dksX5_back_0 13 rfl rfl)
theorem dX5_back_16 : decode cX5_back 16 = .ok (.aload_n 0, 1) := dk_42 (dk_at dksX5_back_0 16 rfl rfl)
theorem dX5_back_17 : decode cX5_back 17 = .ok (.getfield 165, 3) := dk_180 0 165 (dk_at dksX5_back_0 17 rfl rfl)
theorem dX5_back_20 : decode cX5_back 20 = .ok (.goto 19, 3) := dk_167 0 19 (dk_at dksX5_back_0 20 rfl rfl)
theorem dX5_back_23 : decode cX5_back 23 = .ok (.iload_n 1, 1) := dk_27 (dk_at dksX5_back_0 23 rfl rfl)
theorem dX5_back_24 : decode cX5_back 24 = .ok (.iconst 1, 1) := dk_4 (dk_at dksX5_back_1 0 rfl rfl)
theorem dX5_back_25 : decode cX5_back 25 = .ok (.if_icmp .ne 10, 3) := dk_160 0 10 (dk_at dksX5_back_1 1 rfl rfl)
theorem dX5_back_28 : decode cX5_back 28 = .ok (.aload_n 0, 1) := dk_42 (dk_at dksX5_back_1 4 rfl rfl)
theorem dX5_back_29 : decode cX5_back 29 = .ok (.getfield 171, 3) := dk_180 0 171 (dk_at dksX5_back_1 5 rfl rfl)
theorem dX5_back_32 : decode cX5_back 32 = .ok (.goto 7, 3) := dk_167 0 7 (dk_at dksX5_back_1 8 rfl rfl)
theorem dX5_back_35 : decode cX5_back 35 = .ok (.aload_n 0, 1) := dk_42 (dk_at dksX5_back_1 11 rfl rfl)
theorem dX5_back_36 : decode cX5_back 36 = .ok (.getfield 174, 3) := dk_180 0 174 (dk_at dksX5_back_1 12 rfl rfl)
theorem dX5_back_39 : decode cX5_back 39 = .ok (.istore_n 2, 1) := dk_61 (dk_at dksX5_back_1 15 rfl rfl)
theorem dX5_back_40 : decode cX5_back 40 = .ok (.iload_n 2, 1) := dk_28 (dk_at dksX5_back_1 16 rfl rfl)
theorem dX5_back_41 : decode cX5_back 41 = .ok (.ifCond .ne 6, 3) := dk_154 0 6 (dk_at dksX5_back_1 17 rfl rfl)
theorem dX5_back_44 : decode cX5_back 44 = .ok (.bipush (-3), 2) := dk_16 253 (dk_at dksX5_back_1 20 rfl rfl)
theorem dX5_back_46 : decode cX5_back 46 = .ok (.ireturn, 1) := dk_172 (dk_at dksX5_back_1 22 rfl rfl)
theorem dX5_back_47 : decode cX5_back 47 = .ok (.aload_n 0, 1) := dk_42 (dk_at dksX5_back_1 23 rfl rfl)
theorem dX5_back_48 : decode cX5_back 48 = .ok (.dup, 1) := dk_89 (dk_at dksX5_back_2 0 rfl rfl)
theorem dX5_back_49 : decode cX5_back 49 = .ok (.getfield 165, 3) := dk_180 0 165 (dk_at dksX5_back_2 1 rfl rfl)
theorem dX5_back_52 : decode cX5_back 52 = .ok (.iload_n 1, 1) := dk_27 (dk_at dksX5_back_2 4 rfl rfl)
theorem dX5_back_53 : decode cX5_back 53 = .ok (.ifCond .ne 7, 3) := dk_154 0 7 (dk_at dksX5_back_2 5 rfl rfl)
theorem dX5_back_56 : decode cX5_back 56 = .ok (.iconst 1, 1) := dk_4 (dk_at dksX5_back_2 8 rfl rfl)
theorem dX5_back_57 : decode cX5_back 57 = .ok (.goto 4, 3) := dk_167 0 4 (dk_at dksX5_back_2 9 rfl rfl)
theorem dX5_back_60 : decode cX5_back 60 = .ok (.iconst 0, 1) := dk_3 (dk_at dksX5_back_2 12 rfl rfl)
theorem dX5_back_61 : decode cX5_back 61 = .ok (.isub, 1) := dk_100 (dk_at dksX5_back_2 13 rfl rfl)
theorem dX5_back_62 : decode cX5_back 62 = .ok (.putfield 165, 3) := dk_181 0 165 (dk_at dksX5_back_2 14 rfl rfl)
theorem dX5_back_65 : decode cX5_back 65 = .ok (.aload_n 0, 1) := dk_42 (dk_at dksX5_back_2 17 rfl rfl)
theorem dX5_back_66 : decode cX5_back 66 = .ok (.dup, 1) := dk_89 (dk_at dksX5_back_2 18 rfl rfl)
theorem dX5_back_67 : decode cX5_back 67 = .ok (.getfield 171, 3) := dk_180 0 171 (dk_at dksX5_back_2 19 rfl rfl)
theorem dX5_back_70 : decode cX5_back 70 = .ok (.iload_n 1, 1) := dk_27 (dk_at dksX5_back_2 22 rfl rfl)
theorem dX5_back_71 : decode cX5_back 71 = .ok (.iconst 1, 1) := dk_4 (dk_at dksX5_back_2 23 rfl rfl)
theorem dX5_back_72 : decode cX5_back 72 = .ok (.if_icmp .ne 7, 3) := dk_160 0 7 (dk_at dksX5_back_3 0 rfl rfl)
theorem dX5_back_75 : decode cX5_back 75 = .ok (.iconst 1, 1) := dk_4 (dk_at dksX5_back_3 3 rfl rfl)
theorem dX5_back_76 : decode cX5_back 76 = .ok (.goto 4, 3) := dk_167 0 4 (dk_at dksX5_back_3 4 rfl rfl)
theorem dX5_back_79 : decode cX5_back 79 = .ok (.iconst 0, 1) := dk_3 (dk_at dksX5_back_3 7 rfl rfl)
theorem dX5_back_80 : decode cX5_back 80 = .ok (.isub, 1) := dk_100 (dk_at dksX5_back_3 8 rfl rfl)
theorem dX5_back_81 : decode cX5_back 81 = .ok (.putfield 171, 3) := dk_181 0 171 (dk_at dksX5_back_3 9 rfl rfl)
theorem dX5_back_84 : decode cX5_back 84 = .ok (.aload_n 0, 1) := dk_42 (dk_at dksX5_back_3 12 rfl rfl)
theorem dX5_back_85 : decode cX5_back 85 = .ok (.dup, 1) := dk_89 (dk_at dksX5_back_3 13 rfl rfl)
theorem dX5_back_86 : decode cX5_back 86 = .ok (.getfield 174, 3) := dk_180 0 174 (dk_at dksX5_back_3 14 rfl rfl)
theorem dX5_back_89 : decode cX5_back 89 = .ok (.iload_n 1, 1) := dk_27 (dk_at dksX5_back_3 17 rfl rfl)
theorem dX5_back_90 : decode cX5_back 90 = .ok (.iconst 2, 1) := dk_5 (dk_at dksX5_back_3 18 rfl rfl)
theorem dX5_back_91 : decode cX5_back 91 = .ok (.if_icmp .ne 7, 3) := dk_160 0 7 (dk_at dksX5_back_3 19 rfl rfl)
theorem dX5_back_94 : decode cX5_back 94 = .ok (.iconst 1, 1) := dk_4 (dk_at dksX5_back_3 22 rfl rfl)
theorem dX5_back_95 : decode cX5_back 95 = .ok (.goto 4, 3) := dk_167 0 4 (dk_at dksX5_back_4 0 rfl rfl)
theorem dX5_back_98 : decode cX5_back 98 = .ok (.iconst 0, 1) := dk_3 (dk_at dksX5_back_4 3 rfl rfl)
theorem dX5_back_99 : decode cX5_back 99 = .ok (.isub, 1) := dk_100 (dk_at dksX5_back_4 4 rfl rfl)
theorem dX5_back_100 : decode cX5_back 100 = .ok (.putfield 174, 3) := dk_181 0 174 (dk_at dksX5_back_4 5 rfl rfl)
theorem dX5_back_103 : decode cX5_back 103 = .ok (.iload_n 2, 1) := dk_28 (dk_at dksX5_back_4 8 rfl rfl)
theorem dX5_back_104 : decode cX5_back 104 = .ok (.iconst 1, 1) := dk_4 (dk_at dksX5_back_4 9 rfl rfl)
theorem dX5_back_105 : decode cX5_back 105 = .ok (.isub, 1) := dk_100 (dk_at dksX5_back_4 10 rfl rfl)
theorem dX5_back_106 : decode cX5_back 106 = .ok (.ireturn, 1) := dk_172 (dk_at dksX5_back_4 11 rfl rfl)
abbrev cX5_read : ByteArray := prog_13_method_30_code
def yX5_read : MethodName := ⟨RX5, "read", "(I)I"⟩
def dkwX5_read_3 : List UInt8 := [182, 0, 183, 158, 0, 9, 132, 2, 1, 167, 255, 204, 28, 172]
abbrev dktX5_read_3 : List UInt8 := dkwX5_read_3 ++ []
def dkwX5_read_2 : List UInt8 := [27, 104, 5, 28, 104, 96, 46, 42, 180, 0, 107, 16, 60, 27, 104, 5, 28, 104, 96, 4, 96, 46]
abbrev dktX5_read_2 : List UInt8 := dkwX5_read_2 ++ dktX5_read_3
def dkwX5_read_1 : List UInt8 := [172, 3, 61, 5, 28, 104, 4, 96, 42, 180, 0, 104, 27, 46, 162, 0, 44, 42, 42, 180, 0, 107, 16, 60]
abbrev dktX5_read_1 : List UInt8 := dkwX5_read_1 ++ dktX5_read_2
def dkwX5_read_0 : List UInt8 := [27, 184, 0, 177, 154, 0, 6, 16, 254, 172, 42, 180, 0, 97, 27, 51, 154, 0, 9, 42, 4, 182, 0, 180]
abbrev dktX5_read_0 : List UInt8 := dkwX5_read_0 ++ dktX5_read_1
theorem dksX5_read_0 : cX5_read.data.toList.drop 0 = dktX5_read_0 := by decide +kernel
theorem dksX5_read_1 : cX5_read.data.toList.drop 24 = dktX5_read_1 := dk_seg dksX5_read_0 24 rfl rfl
theorem dksX5_read_2 : cX5_read.data.toList.drop 48 = dktX5_read_2 := dk_seg dksX5_read_1 24 rfl rfl
theorem dksX5_read_3 : cX5_read.data.toList.drop 70 = dktX5_read_3 := dk_seg dksX5_read_2 22 rfl rfl
theorem dX5_read_0 : decode cX5_read 0 = .ok (.iload_n 1, 1) := dk_27 (dk_at dksX5_read_0 0 rfl rfl)
theorem dX5_read_1 : decode cX5_read 1 = .ok (.invokestatic 177, 3) := dk_184 0 177 (dk_at dksX5_read_0 1 rfl rfl)
theorem dX5_read_4 : decode cX5_read 4 = .ok (.ifCond .ne 6, 3) := dk_154 0 6 (dk_at dksX5_read_0 4 rfl rfl)
theorem dX5_read_7 : decode cX5_read 7 = .ok (.bipush (-2), 2) := dk_16 254 (dk_at dksX5_read_0 7 rfl rfl)
theorem dX5_read_9 : decode cX5_read 9 = .ok (.ireturn, 1) := dk_172 (dk_at dksX5_read_0 9 rfl rfl)
theorem dX5_read_10 : decode cX5_read 10 = .ok (.aload_n 0, 1) := dk_42 (dk_at dksX5_read_0 10 rfl rfl)
theorem dX5_read_11 : decode cX5_read 11 = .ok (.getfield 97, 3) := dk_180 0 97 (dk_at dksX5_read_0 11 rfl rfl)
theorem dX5_read_14 : decode cX5_read 14 = .ok (.iload_n 1, 1) := dk_27 (dk_at dksX5_read_0 14 rfl rfl)
theorem dX5_read_15 : decode cX5_read 15 = .ok (.baload, 1) := dk_51 (dk_at dksX5_read_0 15 rfl rfl)
theorem dX5_read_16 : decode cX5_read 16 = .ok (.ifCond .ne 9, 3) := dk_154 0 9 (dk_at dksX5_read_0 16 rfl rfl)
theorem dX5_read_19 : decode cX5_read 19 = .ok (.aload_n 0, 1) := dk_42 (dk_at dksX5_read_0 19 rfl rfl)
theorem dX5_read_20 : decode cX5_read 20 = .ok (.iconst 1, 1) := dk_4 (dk_at dksX5_read_0 20 rfl rfl)
theorem dX5_read_21 : decode cX5_read 21 = .ok (.invokevirtual 180, 3) := dk_182 0 180 (dk_at dksX5_read_0 21 rfl rfl)
theorem dX5_read_24 : decode cX5_read 24 = .ok (.ireturn, 1) := dk_172 (dk_at dksX5_read_1 0 rfl rfl)
theorem dX5_read_25 : decode cX5_read 25 = .ok (.iconst 0, 1) := dk_3 (dk_at dksX5_read_1 1 rfl rfl)
theorem dX5_read_26 : decode cX5_read 26 = .ok (.istore_n 2, 1) := dk_61 (dk_at dksX5_read_1 2 rfl rfl)
theorem dX5_read_27 : decode cX5_read 27 = .ok (.iconst 2, 1) := dk_5 (dk_at dksX5_read_1 3 rfl rfl)
theorem dX5_read_28 : decode cX5_read 28 = .ok (.iload_n 2, 1) := dk_28 (dk_at dksX5_read_1 4 rfl rfl)
theorem dX5_read_29 : decode cX5_read 29 = .ok (.imul, 1) := dk_104 (dk_at dksX5_read_1 5 rfl rfl)
theorem dX5_read_30 : decode cX5_read 30 = .ok (.iconst 1, 1) := dk_4 (dk_at dksX5_read_1 6 rfl rfl)
theorem dX5_read_31 : decode cX5_read 31 = .ok (.iadd, 1) := dk_96 (dk_at dksX5_read_1 7 rfl rfl)
theorem dX5_read_32 : decode cX5_read 32 = .ok (.aload_n 0, 1) := dk_42 (dk_at dksX5_read_1 8 rfl rfl)
theorem dX5_read_33 : decode cX5_read 33 = .ok (.getfield 104, 3) := dk_180 0 104 (dk_at dksX5_read_1 9 rfl rfl)
theorem dX5_read_36 : decode cX5_read 36 = .ok (.iload_n 1, 1) := dk_27 (dk_at dksX5_read_1 12 rfl rfl)
theorem dX5_read_37 : decode cX5_read 37 = .ok (.iaload, 1) := dk_46 (dk_at dksX5_read_1 13 rfl rfl)
theorem dX5_read_38 : decode cX5_read 38 = .ok (.if_icmp .ge 44, 3) := dk_162 0 44 (dk_at dksX5_read_1 14 rfl rfl)
theorem dX5_read_41 : decode cX5_read 41 = .ok (.aload_n 0, 1) := dk_42 (dk_at dksX5_read_1 17 rfl rfl)
theorem dX5_read_42 : decode cX5_read 42 = .ok (.aload_n 0, 1) := dk_42 (dk_at dksX5_read_1 18 rfl rfl)
theorem dX5_read_43 : decode cX5_read 43 = .ok (.getfield 107, 3) := dk_180 0 107 (dk_at dksX5_read_1 19 rfl rfl)
theorem dX5_read_46 : decode cX5_read 46 = .ok (.bipush 60, 2) := dk_16 60 (dk_at dksX5_read_1 22 rfl rfl)
theorem dX5_read_48 : decode cX5_read 48 = .ok (.iload_n 1, 1) := dk_27 (dk_at dksX5_read_2 0 rfl rfl)
theorem dX5_read_49 : decode cX5_read 49 = .ok (.imul, 1) := dk_104 (dk_at dksX5_read_2 1 rfl rfl)
theorem dX5_read_50 : decode cX5_read 50 = .ok (.iconst 2, 1) := dk_5 (dk_at dksX5_read_2 2 rfl rfl)
theorem dX5_read_51 : decode cX5_read 51 = .ok (.iload_n 2, 1) := dk_28 (dk_at dksX5_read_2 3 rfl rfl)
theorem dX5_read_52 : decode cX5_read 52 = .ok (.imul, 1) := dk_104 (dk_at dksX5_read_2 4 rfl rfl)
theorem dX5_read_53 : decode cX5_read 53 = .ok (.iadd, 1) := dk_96 (dk_at dksX5_read_2 5 rfl rfl)
theorem dX5_read_54 : decode cX5_read 54 = .ok (.iaload, 1) := dk_46 (dk_at dksX5_read_2 6 rfl rfl)
theorem dX5_read_55 : decode cX5_read 55 = .ok (.aload_n 0, 1) := dk_42 (dk_at dksX5_read_2 7 rfl rfl)
theorem dX5_read_56 : decode cX5_read 56 = .ok (.getfield 107, 3) := dk_180 0 107 (dk_at dksX5_read_2 8 rfl rfl)
theorem dX5_read_59 : decode cX5_read 59 = .ok (.bipush 60, 2) := dk_16 60 (dk_at dksX5_read_2 11 rfl rfl)
theorem dX5_read_61 : decode cX5_read 61 = .ok (.iload_n 1, 1) := dk_27 (dk_at dksX5_read_2 13 rfl rfl)
theorem dX5_read_62 : decode cX5_read 62 = .ok (.imul, 1) := dk_104 (dk_at dksX5_read_2 14 rfl rfl)
theorem dX5_read_63 : decode cX5_read 63 = .ok (.iconst 2, 1) := dk_5 (dk_at dksX5_read_2 15 rfl rfl)
theorem dX5_read_64 : decode cX5_read 64 = .ok (.iload_n 2, 1) := dk_28 (dk_at dksX5_read_2 16 rfl rfl)
theorem dX5_read_65 : decode cX5_read 65 = .ok (.imul, 1) := dk_104 (dk_at dksX5_read_2 17 rfl rfl)
theorem dX5_read_66 : decode cX5_read 66 = .ok (.iadd, 1) := dk_96 (dk_at dksX5_read_2 18 rfl rfl)
theorem dX5_read_67 : decode cX5_read 67 = .ok (.iconst 1, 1) := dk_4 (dk_at dksX5_read_2 19 rfl rfl)
theorem dX5_read_68 : decode cX5_read 68 = .ok (.iadd, 1) := dk_96 (dk_at dksX5_read_2 20 rfl rfl)
theorem dX5_read_69 : decode cX5_read 69 = .ok (.iaload, 1) := dk_46 (dk_at dksX5_read_2 21 rfl rfl)
theorem dX5_read_70 : decode cX5_read 70 = .ok (.invokevirtual 183, 3) := dk_182 0 183 (dk_at dksX5_read_3 0 rfl rfl)
theorem dX5_read_73 : decode cX5_read 73 = .ok (.ifCond .le 9, 3) := dk_158 0 9 (dk_at dksX5_read_3 3 rfl rfl)
theorem dX5_read_76 : decode cX5_read 76 = .ok (.iinc 2 1, 3) := dk_132 2 1 (dk_at dksX5_read_3 6 rfl rfl)
theorem dX5_read_79 : decode cX5_read 79 = .ok (.goto (-52), 3) := dk_167 255 204 (dk_at dksX5_read_3 9 rfl rfl)
theorem dX5_read_82 : decode cX5_read 82 = .ok (.iload_n 2, 1) := dk_28 (dk_at dksX5_read_3 12 rfl rfl)
theorem dX5_read_83 : decode cX5_read 83 = .ok (.ireturn, 1) := dk_172 (dk_at dksX5_read_3 13 rfl rfl)
abbrev cX5_isSheet : ByteArray := prog_13_method_84_code
def yX5_isSheet : MethodName := ⟨RX5, "isSheet", "(I)Z"⟩
def dkwX5_isSheet_0 : List UInt8 := [26, 3, 6, 184, 0, 115, 172]
abbrev dktX5_isSheet_0 : List UInt8 := dkwX5_isSheet_0 ++ []
theorem dksX5_isSheet_0 : cX5_isSheet.data.toList.drop 0 = dktX5_isSheet_0 := by decide +kernel
theorem dX5_isSheet_0 : decode cX5_isSheet 0 = .ok (.iload_n 0, 1) := dk_26 (dk_at dksX5_isSheet_0 0 rfl rfl)
theorem dX5_isSheet_1 : decode cX5_isSheet 1 = .ok (.iconst 0, 1) := dk_3 (dk_at dksX5_isSheet_0 1 rfl rfl)
theorem dX5_isSheet_2 : decode cX5_isSheet 2 = .ok (.iconst 3, 1) := dk_6 (dk_at dksX5_isSheet_0 2 rfl rfl)
theorem dX5_isSheet_3 : decode cX5_isSheet 3 = .ok (.invokestatic 115, 3) := dk_184 0 115 (dk_at dksX5_isSheet_0 3 rfl rfl)
theorem dX5_isSheet_6 : decode cX5_isSheet 6 = .ok (.ireturn, 1) := dk_172 (dk_at dksX5_isSheet_0 6 rfl rfl)
abbrev cX5_meets : ByteArray := prog_13_method_83_code
def yX5_meets : MethodName := ⟨RX5, "meets", "(I)I"⟩
def dkwX5_meets_0 : List UInt8 := [42, 27, 181, 1, 66, 16, 246, 27, 100, 172]
abbrev dktX5_meets_0 : List UInt8 := dkwX5_meets_0 ++ []
theorem dksX5_meets_0 : cX5_meets.data.toList.drop 0 = dktX5_meets_0 := by decide +kernel
theorem dX5_meets_0 : decode cX5_meets 0 = .ok (.aload_n 0, 1) := dk_42 (dk_at dksX5_meets_0 0 rfl rfl)
theorem dX5_meets_1 : decode cX5_meets 1 = .ok (.iload_n 1, 1) := dk_27 (dk_at dksX5_meets_0 1 rfl rfl)
theorem dX5_meets_2 : decode cX5_meets 2 = .ok (.putfield 322, 3) := dk_181 1 66 (dk_at dksX5_meets_0 2 rfl rfl)
theorem dX5_meets_5 : decode cX5_meets 5 = .ok (.bipush (-10), 2) := dk_16 246 (dk_at dksX5_meets_0 5 rfl rfl)
theorem dX5_meets_7 : decode cX5_meets 7 = .ok (.iload_n 1, 1) := dk_27 (dk_at dksX5_meets_0 7 rfl rfl)
theorem dX5_meets_8 : decode cX5_meets 8 = .ok (.isub, 1) := dk_100 (dk_at dksX5_meets_0 8 rfl rfl)
theorem dX5_meets_9 : decode cX5_meets 9 = .ok (.ireturn, 1) := dk_172 (dk_at dksX5_meets_0 9 rfl rfl)
abbrev cX5_coat : ByteArray := prog_13_method_44_code
def yX5_coat : MethodName := ⟨RX5, "coat", "(III)I"⟩
def dkwX5_coat_1 : List UInt8 := [42, 27, 28, 29, 182, 0, 237, 167, 0, 5, 16, 254, 172]
abbrev dktX5_coat_1 : List UInt8 := dkwX5_coat_1 ++ []
def dkwX5_coat_0 : List UInt8 := [27, 184, 0, 162, 153, 0, 30, 42, 28, 182, 0, 150, 153, 0, 22, 29, 3, 5, 184, 0, 115, 153, 0, 13]
abbrev dktX5_coat_0 : List UInt8 := dkwX5_coat_0 ++ dktX5_coat_1
theorem dksX5_coat_0 : cX5_coat.data.toList.drop 0 = dktX5_coat_0 := by decide +kernel
theorem dksX5_coat_1 : cX5_coat.data.toList.drop 24 = dktX5_coat_1 := dk_seg dksX5_coat_0 24 rfl rfl
theorem dX5_coat_0 : decode cX5_coat 0 = .ok (.iload_n 1, 1) := dk_27 (dk_at dksX5_coat_0 0 rfl rfl)
theorem dX5_coat_1 : decode cX5_coat 1 = .ok (.invokestatic 162, 3) := dk_184 0 162 (dk_at dksX5_coat_0 1 rfl rfl)
theorem dX5_coat_4 : decode cX5_coat 4 = .ok (.ifCond .eq 30, 3) := dk_153 0 30 (dk_at dksX5_coat_0 4 rfl rfl)
theorem dX5_coat_7 : decode cX5_coat 7 = .ok (.aload_n 0, 1) := dk_42 (dk_at dksX5_coat_0 7 rfl rfl)
theorem dX5_coat_8 : decode cX5_coat 8 = .ok (.iload_n 2, 1) := dk_28 (dk_at dksX5_coat_0 8 rfl rfl)
theorem dX5_coat_9 : decode cX5_coat 9 = .ok (.invokevirtual 150, 3) := dk_182 0 150 (dk_at dksX5_coat_0 9 rfl rfl)
theorem dX5_coat_12 : decode cX5_coat 12 = .ok (.ifCond .eq 22, 3) := dk_153 0 22 (dk_at dksX5_coat_0 12 rfl rfl)
theorem dX5_coat_15 : decode cX5_coat 15 = .ok (.iload_n 3, 1) := dk_29 (dk_at dksX5_coat_0 15 rfl rfl)
theorem dX5_coat_16 : decode cX5_coat 16 = .ok (.iconst 0, 1) := dk_3 (dk_at dksX5_coat_0 16 rfl rfl)
theorem dX5_coat_17 : decode cX5_coat 17 = .ok (.iconst 2, 1) := dk_5 (dk_at dksX5_coat_0 17 rfl rfl)
theorem dX5_coat_18 : decode cX5_coat 18 = .ok (.invokestatic 115, 3) := dk_184 0 115 (dk_at dksX5_coat_0 18 rfl rfl)
theorem dX5_coat_21 : decode cX5_coat 21 = .ok (.ifCond .eq 13, 3) := dk_153 0 13 (dk_at dksX5_coat_0 21 rfl rfl)
theorem dX5_coat_24 : decode cX5_coat 24 = .ok (.aload_n 0, 1) := dk_42 (dk_at dksX5_coat_1 0 rfl rfl)
theorem dX5_coat_25 : decode cX5_coat 25 = .ok (.iload_n 1, 1) := dk_27 (dk_at dksX5_coat_1 1 rfl rfl)
theorem dX5_coat_26 : decode cX5_coat 26 = .ok (.iload_n 2, 1) := dk_28 (dk_at dksX5_coat_1 2 rfl rfl)
theorem dX5_coat_27 : decode cX5_coat 27 = .ok (.iload_n 3, 1) := dk_29 (dk_at dksX5_coat_1 3 rfl rfl)
theorem dX5_coat_28 : decode cX5_coat 28 = .ok (.invokevirtual 237, 3) := dk_182 0 237 (dk_at dksX5_coat_1 4 rfl rfl)
theorem dX5_coat_31 : decode cX5_coat 31 = .ok (.goto 5, 3) := dk_167 0 5 (dk_at dksX5_coat_1 7 rfl rfl)
theorem dX5_coat_34 : decode cX5_coat 34 = .ok (.bipush (-2), 2) := dk_16 254 (dk_at dksX5_coat_1 10 rfl rfl)
theorem dX5_coat_36 : decode cX5_coat 36 = .ok (.ireturn, 1) := dk_172 (dk_at dksX5_coat_1 12 rfl rfl)
abbrev cX5_coatOf : ByteArray := prog_13_method_43_code
def yX5_coatOf : MethodName := ⟨RX5, "coatOf", "(III)I"⟩
def dkwX5_coatOf_2 : List UInt8 := [16, 8, 27, 104, 28, 96, 46, 172]
abbrev dktX5_coatOf_2 : List UInt8 := dkwX5_coatOf_2 ++ []
def dkwX5_coatOf_1 : List UInt8 := [160, 0, 20, 42, 27, 28, 182, 0, 231, 153, 0, 7, 4, 167, 0, 18, 3, 167, 0, 14, 42, 180, 0, 76]
abbrev dktX5_coatOf_1 : List UInt8 := dkwX5_coatOf_1 ++ dktX5_coatOf_2
def dkwX5_coatOf_0 : List UInt8 := [42, 182, 0, 234, 29, 154, 0, 17, 42, 180, 0, 73, 16, 8, 27, 104, 28, 96, 46, 167, 0, 36, 29, 4]
abbrev dktX5_coatOf_0 : List UInt8 := dkwX5_coatOf_0 ++ dktX5_coatOf_1
theorem dksX5_coatOf_0 : cX5_coatOf.data.toList.drop 0 = dktX5_coatOf_0 := by decide +kernel
theorem dksX5_coatOf_1 : cX5_coatOf.data.toList.drop 24 = dktX5_coatOf_1 := dk_seg dksX5_coatOf_0 24 rfl rfl
theorem dksX5_coatOf_2 : cX5_coatOf.data.toList.drop 48 = dktX5_coatOf_2 := dk_seg dksX5_coatOf_1 24 rfl rfl
theorem dX5_coatOf_0 : decode cX5_coatOf 0 = .ok (.aload_n 0, 1) := dk_42 (dk_at dksX5_coatOf_0 0 rfl rfl)
theorem dX5_coatOf_1 : decode cX5_coatOf 1 = .ok (.invokevirtual 234, 3) := dk_182 0 234 (dk_at dksX5_coatOf_0 1 rfl rfl)
theorem dX5_coatOf_4 : decode cX5_coatOf 4 = .ok (.iload_n 3, 1) := dk_29 (dk_at dksX5_coatOf_0 4 rfl rfl)
theorem dX5_coatOf_5 : decode cX5_coatOf 5 = .ok (.ifCond .ne 17, 3) := dk_154 0 17 (dk_at dksX5_coatOf_0 5 rfl rfl)
theorem dX5_coatOf_8 : decode cX5_coatOf 8 = .ok (.aload_n 0, 1) := dk_42 (dk_at dksX5_coatOf_0 8 rfl rfl)
theorem dX5_coatOf_9 : decode cX5_coatOf 9 = .ok (.getfield 73, 3) := dk_180 0 73 (dk_at dksX5_coatOf_0 9 rfl rfl)
theorem dX5_coatOf_12 : decode cX5_coatOf 12 = .ok (.bipush 8, 2) := dk_16 8 (dk_at dksX5_coatOf_0 12 rfl rfl)
theorem dX5_coatOf_14 : decode cX5_coatOf 14 = .ok (.iload_n 1, 1) := dk_27 (dk_at dksX5_coatOf_0 14 rfl rfl)
theorem dX5_coatOf_15 : decode cX5_coatOf 15 = .ok (.imul, 1) := dk_104 (dk_at dksX5_coatOf_0 15 rfl rfl)
theorem dX5_coatOf_16 : decode cX5_coatOf 16 = .ok (.iload_n 2, 1) := dk_28 (dk_at dksX5_coatOf_0 16 rfl rfl)
theorem dX5_coatOf_17 : decode cX5_coatOf 17 = .ok (.iadd, 1) := dk_96 (dk_at dksX5_coatOf_0 17 rfl rfl)
theorem dX5_coatOf_18 : decode cX5_coatOf 18 = .ok (.iaload, 1) := dk_46 (dk_at dksX5_coatOf_0 18 rfl rfl)
theorem dX5_coatOf_19 : decode cX5_coatOf 19 = .ok (.goto 36, 3) := dk_167 0 36 (dk_at dksX5_coatOf_0 19 rfl rfl)
theorem dX5_coatOf_22 : decode cX5_coatOf 22 = .ok (.iload_n 3, 1) := dk_29 (dk_at dksX5_coatOf_0 22 rfl rfl)
theorem dX5_coatOf_23 : decode cX5_coatOf 23 = .ok (.iconst 1, 1) := dk_4 (dk_at dksX5_coatOf_0 23 rfl rfl)
theorem dX5_coatOf_24 : decode cX5_coatOf 24 = .ok (.if_icmp .ne 20, 3) := dk_160 0 20 (dk_at dksX5_coatOf_1 0 rfl rfl)
theorem dX5_coatOf_27 : decode cX5_coatOf 27 = .ok (.aload_n 0, 1) := dk_42 (dk_at dksX5_coatOf_1 3 rfl rfl)
theorem dX5_coatOf_28 : decode cX5_coatOf 28 = .ok (.iload_n 1, 1) := dk_27 (dk_at dksX5_coatOf_1 4 rfl rfl)
theorem dX5_coatOf_29 : decode cX5_coatOf 29 = .ok (.iload_n 2, 1) := dk_28 (dk_at dksX5_coatOf_1 5 rfl rfl)
theorem dX5_coatOf_30 : decode cX5_coatOf 30 = .ok (.invokevirtual 231, 3) := dk_182 0 231 (dk_at dksX5_coatOf_1 6 rfl rfl)
theorem dX5_coatOf_33 : decode cX5_coatOf 33 = .ok (.ifCond .eq 7, 3) := dk_153 0 7 (dk_at dksX5_coatOf_1 9 rfl rfl)
theorem dX5_coatOf_36 : decode cX5_coatOf 36 = .ok (.iconst 1, 1) := dk_4 (dk_at dksX5_coatOf_1 12 rfl rfl)
theorem dX5_coatOf_37 : decode cX5_coatOf 37 = .ok (.goto 18, 3) := dk_167 0 18 (dk_at dksX5_coatOf_1 13 rfl rfl)
theorem dX5_coatOf_40 : decode cX5_coatOf 40 = .ok (.iconst 0, 1) := dk_3 (dk_at dksX5_coatOf_1 16 rfl rfl)
theorem dX5_coatOf_41 : decode cX5_coatOf 41 = .ok (.goto 14, 3) := dk_167 0 14 (dk_at dksX5_coatOf_1 17 rfl rfl)
theorem dX5_coatOf_44 : decode cX5_coatOf 44 = .ok (.aload_n 0, 1) := dk_42 (dk_at dksX5_coatOf_1 20 rfl rfl)
theorem dX5_coatOf_45 : decode cX5_coatOf 45 = .ok (.getfield 76, 3) := dk_180 0 76 (dk_at dksX5_coatOf_1 21 rfl rfl)
theorem dX5_coatOf_48 : decode cX5_coatOf 48 = .ok (.bipush 8, 2) := dk_16 8 (dk_at dksX5_coatOf_2 0 rfl rfl)
theorem dX5_coatOf_50 : decode cX5_coatOf 50 = .ok (.iload_n 1, 1) := dk_27 (dk_at dksX5_coatOf_2 2 rfl rfl)
theorem dX5_coatOf_51 : decode cX5_coatOf 51 = .ok (.imul, 1) := dk_104 (dk_at dksX5_coatOf_2 3 rfl rfl)
theorem dX5_coatOf_52 : decode cX5_coatOf 52 = .ok (.iload_n 2, 1) := dk_28 (dk_at dksX5_coatOf_2 4 rfl rfl)
theorem dX5_coatOf_53 : decode cX5_coatOf 53 = .ok (.iadd, 1) := dk_96 (dk_at dksX5_coatOf_2 5 rfl rfl)
theorem dX5_coatOf_54 : decode cX5_coatOf 54 = .ok (.iaload, 1) := dk_46 (dk_at dksX5_coatOf_2 6 rfl rfl)
theorem dX5_coatOf_55 : decode cX5_coatOf 55 = .ok (.ireturn, 1) := dk_172 (dk_at dksX5_coatOf_2 7 rfl rfl)
abbrev cX5_runsTold : ByteArray := prog_13_method_40_code
def yX5_runsTold : MethodName := ⟨RX5, "runsTold", "()V"⟩
def dkwX5_runsTold_0 : List UInt8 := [42, 182, 0, 225, 42, 182, 0, 228, 177]
abbrev dktX5_runsTold_0 : List UInt8 := dkwX5_runsTold_0 ++ []
theorem dksX5_runsTold_0 : cX5_runsTold.data.toList.drop 0 = dktX5_runsTold_0 := by decide +kernel
theorem dX5_runsTold_0 : decode cX5_runsTold 0 = .ok (.aload_n 0, 1) := dk_42 (dk_at dksX5_runsTold_0 0 rfl rfl)
theorem dX5_runsTold_1 : decode cX5_runsTold 1 = .ok (.invokevirtual 225, 3) := dk_182 0 225 (dk_at dksX5_runsTold_0 1 rfl rfl)
theorem dX5_runsTold_4 : decode cX5_runsTold 4 = .ok (.aload_n 0, 1) := dk_42 (dk_at dksX5_runsTold_0 4 rfl rfl)
theorem dX5_runsTold_5 : decode cX5_runsTold 5 = .ok (.invokevirtual 228, 3) := dk_182 0 228 (dk_at dksX5_runsTold_0 5 rfl rfl)
theorem dX5_runsTold_8 : decode cX5_runsTold 8 = .ok (.return_, 1) := dk_177 (dk_at dksX5_runsTold_0 8 rfl rfl)
abbrev cX5_asTold : ByteArray := prog_13_method_31_code
def yX5_asTold : MethodName := ⟨RX5, "asTold", "()V"⟩
def dkwX5_asTold_2 : List UInt8 := [180, 0, 37, 27, 46, 79, 132, 1, 1, 167, 255, 221, 42, 3, 181, 0, 192, 42, 3, 181, 0, 195, 177]
abbrev dktX5_asTold_2 : List UInt8 := dkwX5_asTold_2 ++ []
def dkwX5_asTold_1 : List UInt8 := [180, 0, 165, 162, 0, 33, 42, 180, 0, 58, 27, 42, 180, 0, 34, 27, 46, 79, 42, 180, 0, 61, 27, 42]
abbrev dktX5_asTold_1 : List UInt8 := dkwX5_asTold_1 ++ dktX5_asTold_2
def dkwX5_asTold_0 : List UInt8 := [42, 182, 0, 147, 42, 42, 180, 0, 131, 181, 0, 186, 42, 42, 180, 0, 165, 181, 0, 189, 3, 60, 27, 42]
abbrev dktX5_asTold_0 : List UInt8 := dkwX5_asTold_0 ++ dktX5_asTold_1
theorem dksX5_asTold_0 : cX5_asTold.data.toList.drop 0 = dktX5_asTold_0 := by decide +kernel
theorem dksX5_asTold_1 : cX5_asTold.data.toList.drop 24 = dktX5_asTold_1 := dk_seg dksX5_asTold_0 24 rfl rfl
theorem dksX5_asTold_2 : cX5_asTold.data.toList.drop 48 = dktX5_asTold_2 := dk_seg dksX5_asTold_1 24 rfl rfl
theorem dX5_asTold_0 : decode cX5_asTold 0 = .ok (.aload_n 0, 1) := dk_42 (dk_at dksX5_asTold_0 0 rfl rfl)
theorem dX5_asTold_1 : decode cX5_asTold 1 = .ok (.invokevirtual 147, 3) := dk_182 0 147 (dk_at dksX5_asTold_0 1 rfl rfl)
theorem dX5_asTold_4 : decode cX5_asTold 4 = .ok (.aload_n 0, 1) := dk_42 (dk_at dksX5_asTold_0 4 rfl rfl)
theorem dX5_asTold_5 : decode cX5_asTold 5 = .ok (.aload_n 0, 1) := dk_42 (dk_at dksX5_asTold_0 5 rfl rfl)
theorem dX5_asTold_6 : decode cX5_asTold 6 = .ok (.getfield 131, 3) := dk_180 0 131 (dk_at dksX5_asTold_0 6 rfl rfl)
theorem dX5_asTold_9 : decode cX5_asTold 9 = .ok (.putfield 186, 3) := dk_181 0 186 (dk_at dksX5_asTold_0 9 rfl rfl)
theorem dX5_asTold_12 : decode cX5_asTold 12 = .ok (.aload_n 0, 1) := dk_42 (dk_at dksX5_asTold_0 12 rfl rfl)
theorem dX5_asTold_13 : decode cX5_asTold 13 = .ok (.aload_n 0, 1) := dk_42 (dk_at dksX5_asTold_0 13 rfl rfl)
theorem dX5_asTold_14 : decode cX5_asTold 14 = .ok (.getfield 165, 3) := dk_180 0 165 (dk_at dksX5_asTold_0 14 rfl rfl)
theorem dX5_asTold_17 : decode cX5_asTold 17 = .ok (.putfield 189, 3) := dk_181 0 189 (dk_at dksX5_asTold_0 17 rfl rfl)
theorem dX5_asTold_20 : decode cX5_asTold 20 = .ok (.iconst 0, 1) := dk_3 (dk_at dksX5_asTold_0 20 rfl rfl)
theorem dX5_asTold_21 : decode cX5_asTold 21 = .ok (.istore_n 1, 1) := dk_60 (dk_at dksX5_asTold_0 21 rfl rfl)
theorem dX5_asTold_22 : decode cX5_asTold 22 = .ok (.iload_n 1, 1) := dk_27 (dk_at dksX5_asTold_0 22 rfl rfl)
theorem dX5_asTold_23 : decode cX5_asTold 23 = .ok (.aload_n 0, 1) := dk_42 (dk_at dksX5_asTold_0 23 rfl rfl)
theorem dX5_asTold_24 : decode cX5_asTold 24 = .ok (.getfield 165, 3) := dk_180 0 165 (dk_at dksX5_asTold_1 0 rfl rfl)
theorem dX5_asTold_27 : decode cX5_asTold 27 = .ok (.if_icmp .ge 33, 3) := dk_162 0 33 (dk_at dksX5_asTold_1 3 rfl rfl)
theorem dX5_asTold_30 : decode cX5_asTold 30 = .ok (.aload_n 0, 1) := dk_42 (dk_at dksX5_asTold_1 6 rfl rfl)
theorem dX5_asTold_31 : decode cX5_asTold 31 = .ok (.getfield 58, 3) := dk_180 0 58 (dk_at dksX5_asTold_1 7 rfl rfl)
theorem dX5_asTold_34 : decode cX5_asTold 34 = .ok (.iload_n 1, 1) := dk_27 (dk_at dksX5_asTold_1 10 rfl rfl)
theorem dX5_asTold_35 : decode cX5_asTold 35 = .ok (.aload_n 0, 1) := dk_42 (dk_at dksX5_asTold_1 11 rfl rfl)
theorem dX5_asTold_36 : decode cX5_asTold 36 = .ok (.getfield 34, 3) := dk_180 0 34 (dk_at dksX5_asTold_1 12 rfl rfl)
theorem dX5_asTold_39 : decode cX5_asTold 39 = .ok (.iload_n 1, 1) := dk_27 (dk_at dksX5_asTold_1 15 rfl rfl)
theorem dX5_asTold_40 : decode cX5_asTold 40 = .ok (.iaload, 1) := dk_46 (dk_at dksX5_asTold_1 16 rfl rfl)
theorem dX5_asTold_41 : decode cX5_asTold 41 = .ok (.iastore, 1) := dk_79 (dk_at dksX5_asTold_1 17 rfl rfl)
theorem dX5_asTold_42 : decode cX5_asTold 42 = .ok (.aload_n 0, 1) := dk_42 (dk_at dksX5_asTold_1 18 rfl rfl)
theorem dX5_asTold_43 : decode cX5_asTold 43 = .ok (.getfield 61, 3) := dk_180 0 61 (dk_at dksX5_asTold_1 19 rfl rfl)
theorem dX5_asTold_46 : decode cX5_asTold 46 = .ok (.iload_n 1, 1) := dk_27 (dk_at dksX5_asTold_1 22 rfl rfl)
theorem dX5_asTold_47 : decode cX5_asTold 47 = .ok (.aload_n 0, 1) := dk_42 (dk_at dksX5_asTold_1 23 rfl rfl)
theorem dX5_asTold_48 : decode cX5_asTold 48 = .ok (.getfield 37, 3) := dk_180 0 37 (dk_at dksX5_asTold_2 0 rfl rfl)
theorem dX5_asTold_51 : decode cX5_asTold 51 = .ok (.iload_n 1, 1) := dk_27 (dk_at dksX5_asTold_2 3 rfl rfl)
theorem dX5_asTold_52 : decode cX5_asTold 52 = .ok (.iaload, 1) := dk_46 (dk_at dksX5_asTold_2 4 rfl rfl)
theorem dX5_asTold_53 : decode cX5_asTold 53 = .ok (.iastore, 1) := dk_79 (dk_at dksX5_asTold_2 5 rfl rfl)
theorem dX5_asTold_54 : decode cX5_asTold 54 = .ok (.iinc 1 1, 3) := dk_132 1 1 (dk_at dksX5_asTold_2 6 rfl rfl)
theorem dX5_asTold_57 : decode cX5_asTold 57 = .ok (.goto (-35), 3) := dk_167 255 221 (dk_at dksX5_asTold_2 9 rfl rfl)
theorem dX5_asTold_60 : decode cX5_asTold 60 = .ok (.aload_n 0, 1) := dk_42 (dk_at dksX5_asTold_2 12 rfl rfl)
theorem dX5_asTold_61 : decode cX5_asTold 61 = .ok (.iconst 0, 1) := dk_3 (dk_at dksX5_asTold_2 13 rfl rfl)
theorem dX5_asTold_62 : decode cX5_asTold 62 = .ok (.putfield 192, 3) := dk_181 0 192 (dk_at dksX5_asTold_2 14 rfl rfl)
theorem dX5_asTold_65 : decode cX5_asTold 65 = .ok (.aload_n 0, 1) := dk_42 (dk_at dksX5_asTold_2 17 rfl rfl)
theorem dX5_asTold_66 : decode cX5_asTold 66 = .ok (.iconst 0, 1) := dk_3 (dk_at dksX5_asTold_2 18 rfl rfl)
theorem dX5_asTold_67 : decode cX5_asTold 67 = .ok (.putfield 195, 3) := dk_181 0 195 (dk_at dksX5_asTold_2 19 rfl rfl)
theorem dX5_asTold_70 : decode cX5_asTold 70 = .ok (.return_, 1) := dk_177 (dk_at dksX5_asTold_2 22 rfl rfl)
abbrev cX5_runs : ByteArray := prog_13_method_39_code
def yX5_runs : MethodName := ⟨RX5, "runs", "()V"⟩
def dkwX5_runs_3 : List UInt8 := [182, 0, 222, 132, 1, 1, 167, 255, 242, 177]
abbrev dktX5_runs_3 : List UInt8 := dkwX5_runs_3 ++ []
def dkwX5_runs_2 : List UInt8 := [180, 0, 70, 27, 3, 79, 132, 1, 1, 167, 255, 238, 3, 60, 27, 16, 24, 162, 0, 14, 42, 27]
abbrev dktX5_runs_2 : List UInt8 := dkwX5_runs_2 ++ dktX5_runs_3
def dkwX5_runs_1 : List UInt8 := [180, 0, 67, 27, 3, 79, 132, 1, 1, 167, 255, 226, 3, 60, 27, 42, 180, 0, 186, 162, 0, 16, 42]
abbrev dktX5_runs_1 : List UInt8 := dkwX5_runs_1 ++ dktX5_runs_2
def dkwX5_runs_0 : List UInt8 := [3, 60, 27, 42, 180, 0, 127, 162, 0, 28, 42, 180, 0, 64, 27, 42, 180, 0, 19, 27, 46, 79, 42]
abbrev dktX5_runs_0 : List UInt8 := dkwX5_runs_0 ++ dktX5_runs_1
theorem dksX5_runs_0 : cX5_runs.data.toList.drop 0 = dktX5_runs_0 := by decide +kernel
theorem dksX5_runs_1 : cX5_runs.data.toList.drop 23 = dktX5_runs_1 := dk_seg dksX5_runs_0 23 rfl rfl
theorem dksX5_runs_2 : cX5_runs.data.toList.drop 46 = dktX5_runs_2 := dk_seg dksX5_runs_1 23 rfl rfl
theorem dksX5_runs_3 : cX5_runs.data.toList.drop 68 = dktX5_runs_3 := dk_seg dksX5_runs_2 22 rfl rfl
theorem dX5_runs_0 : decode cX5_runs 0 = .ok (.iconst 0, 1) := dk_3 (dk_at dksX5_runs_0 0 rfl rfl)
theorem dX5_runs_1 : decode cX5_runs 1 = .ok (.istore_n 1, 1) := dk_60 (dk_at dksX5_runs_0 1 rfl rfl)
theorem dX5_runs_2 : decode cX5_runs 2 = .ok (.iload_n 1, 1) := dk_27 (dk_at dksX5_runs_0 2 rfl rfl)
theorem dX5_runs_3 : decode cX5_runs 3 = .ok (.aload_n 0, 1) := dk_42 (dk_at dksX5_runs_0 3 rfl rfl)
theorem dX5_runs_4 : decode cX5_runs 4 = .ok (.getfield 127, 3) := dk_180 0 127 (dk_at dksX5_runs_0 4 rfl rfl)
theorem dX5_runs_7 : decode cX5_runs 7 = .ok (.if_icmp .ge 28, 3) := dk_162 0 28 (dk_at dksX5_runs_0 7 rfl rfl)
theorem dX5_runs_10 : decode cX5_runs 10 = .ok (.aload_n 0, 1) := dk_42 (dk_at dksX5_runs_0 10 rfl rfl)
theorem dX5_runs_11 : decode cX5_runs 11 = .ok (.getfield 64, 3) := dk_180 0 64 (dk_at dksX5_runs_0 11 rfl rfl)
theorem dX5_runs_14 : decode cX5_runs 14 = .ok (.iload_n 1, 1) := dk_27 (dk_at dksX5_runs_0 14 rfl rfl)
theorem dX5_runs_15 : decode cX5_runs 15 = .ok (.aload_n 0, 1) := dk_42 (dk_at dksX5_runs_0 15 rfl rfl)
theorem dX5_runs_16 : decode cX5_runs 16 = .ok (.getfield 19, 3) := dk_180 0 19 (dk_at dksX5_runs_0 16 rfl rfl)
theorem dX5_runs_19 : decode cX5_runs 19 = .ok (.iload_n 1, 1) := dk_27 (dk_at dksX5_runs_0 19 rfl rfl)
theorem dX5_runs_20 : decode cX5_runs 20 = .ok (.iaload, 1) := dk_46 (dk_at dksX5_runs_0 20 rfl rfl)
theorem dX5_runs_21 : decode cX5_runs 21 = .ok (.iastore, 1) := dk_79 (dk_at dksX5_runs_0 21 rfl rfl)
theorem dX5_runs_22 : decode cX5_runs 22 = .ok (.aload_n 0, 1) := dk_42 (dk_at dksX5_runs_0 22 rfl rfl)
theorem dX5_runs_23 : decode cX5_runs 23 = .ok (.getfield 67, 3) := dk_180 0 67 (dk_at dksX5_runs_1 0 rfl rfl)
theorem dX5_runs_26 : decode cX5_runs 26 = .ok (.iload_n 1, 1) := dk_27 (dk_at dksX5_runs_1 3 rfl rfl)
theorem dX5_runs_27 : decode cX5_runs 27 = .ok (.iconst 0, 1) := dk_3 (dk_at dksX5_runs_1 4 rfl rfl)
theorem dX5_runs_28 : decode cX5_runs 28 = .ok (.iastore, 1) := dk_79 (dk_at dksX5_runs_1 5 rfl rfl)
theorem dX5_runs_29 : decode cX5_runs 29 = .ok (.iinc 1 1, 3) := dk_132 1 1 (dk_at dksX5_runs_1 6 rfl rfl)
theorem dX5_runs_32 : decode cX5_runs 32 = .ok (.goto (-30), 3) := dk_167 255 226 (dk_at dksX5_runs_1 9 rfl rfl)
theorem dX5_runs_35 : decode cX5_runs 35 = .ok (.iconst 0, 1) := dk_3 (dk_at dksX5_runs_1 12 rfl rfl)
theorem dX5_runs_36 : decode cX5_runs 36 = .ok (.istore_n 1, 1) := dk_60 (dk_at dksX5_runs_1 13 rfl rfl)
theorem dX5_runs_37 : decode cX5_runs 37 = .ok (.iload_n 1, 1) := dk_27 (dk_at dksX5_runs_1 14 rfl rfl)
theorem dX5_runs_38 : decode cX5_runs 38 = .ok (.aload_n 0, 1) := dk_42 (dk_at dksX5_runs_1 15 rfl rfl)
theorem dX5_runs_39 : decode cX5_runs 39 = .ok (.getfield 186, 3) := dk_180 0 186 (dk_at dksX5_runs_1 16 rfl rfl)
theorem dX5_runs_42 : decode cX5_runs 42 = .ok (.if_icmp .ge 16, 3) := dk_162 0 16 (dk_at dksX5_runs_1 19 rfl rfl)
theorem dX5_runs_45 : decode cX5_runs 45 = .ok (.aload_n 0, 1) := dk_42 (dk_at dksX5_runs_1 22 rfl rfl)
theorem dX5_runs_46 : decode cX5_runs 46 = .ok (.getfield 70, 3) := dk_180 0 70 (dk_at dksX5_runs_2 0 rfl rfl)
theorem dX5_runs_49 : decode cX5_runs 49 = .ok (.iload_n 1, 1) := dk_27 (dk_at dksX5_runs_2 3 rfl rfl)
theorem dX5_runs_50 : decode cX5_runs 50 = .ok (.iconst 0, 1) := dk_3 (dk_at dksX5_runs_2 4 rfl rfl)
theorem dX5_runs_51 : decode cX5_runs 51 = .ok (.iastore, 1) := dk_79 (dk_at dksX5_runs_2 5 rfl rfl)
theorem dX5_runs_52 : decode cX5_runs 52 = .ok (.iinc 1 1, 3) := dk_132 1 1 (dk_at dksX5_runs_2 6 rfl rfl)
theorem dX5_runs_55 : decode cX5_runs 55 = .ok (.goto (-18), 3) := dk_167 255 238 (dk_at dksX5_runs_2 9 rfl rfl)
theorem dX5_runs_58 : decode cX5_runs 58 = .ok (.iconst 0, 1) := dk_3 (dk_at dksX5_runs_2 12 rfl rfl)
theorem dX5_runs_59 : decode cX5_runs 59 = .ok (.istore_n 1, 1) := dk_60 (dk_at dksX5_runs_2 13 rfl rfl)
theorem dX5_runs_60 : decode cX5_runs 60 = .ok (.iload_n 1, 1) := dk_27 (dk_at dksX5_runs_2 14 rfl rfl)
theorem dX5_runs_61 : decode cX5_runs 61 = .ok (.bipush 24, 2) := dk_16 24 (dk_at dksX5_runs_2 15 rfl rfl)
theorem dX5_runs_63 : decode cX5_runs 63 = .ok (.if_icmp .ge 14, 3) := dk_162 0 14 (dk_at dksX5_runs_2 17 rfl rfl)
theorem dX5_runs_66 : decode cX5_runs 66 = .ok (.aload_n 0, 1) := dk_42 (dk_at dksX5_runs_2 20 rfl rfl)
theorem dX5_runs_67 : decode cX5_runs 67 = .ok (.iload_n 1, 1) := dk_27 (dk_at dksX5_runs_2 21 rfl rfl)
theorem dX5_runs_68 : decode cX5_runs 68 = .ok (.invokevirtual 222, 3) := dk_182 0 222 (dk_at dksX5_runs_3 0 rfl rfl)
theorem dX5_runs_71 : decode cX5_runs 71 = .ok (.iinc 1 1, 3) := dk_132 1 1 (dk_at dksX5_runs_3 3 rfl rfl)
theorem dX5_runs_74 : decode cX5_runs 74 = .ok (.goto (-14), 3) := dk_167 255 242 (dk_at dksX5_runs_3 6 rfl rfl)
theorem dX5_runs_77 : decode cX5_runs 77 = .ok (.return_, 1) := dk_177 (dk_at dksX5_runs_3 9 rfl rfl)
abbrev cX5_goesBy : ByteArray := prog_13_method_38_code
def yX5_goesBy : MethodName := ⟨RX5, "goesBy", "(I)V"⟩
def dkwX5_goesBy_9 : List UInt8 := [28, 96, 42, 180, 0, 70, 28, 46, 79, 132, 2, 1, 167, 255, 228, 177]
abbrev dktX5_goesBy_9 : List UInt8 := dkwX5_goesBy_9 ++ []
def dkwX5_goesBy_8 : List UInt8 := [132, 2, 1, 167, 255, 211, 3, 61, 28, 42, 180, 0, 186, 162, 0, 26, 42, 180, 0, 79, 16, 12, 27, 104]
abbrev dktX5_goesBy_8 : List UInt8 := dkwX5_goesBy_8 ++ dktX5_goesBy_9
def dkwX5_goesBy_7 : List UInt8 := [180, 0, 64, 28, 46, 79, 42, 180, 0, 76, 16, 8, 27, 104, 28, 96, 42, 180, 0, 67, 28, 46, 79]
abbrev dktX5_goesBy_7 : List UInt8 := dkwX5_goesBy_7 ++ dktX5_goesBy_8
def dkwX5_goesBy_6 : List UInt8 := [167, 255, 206, 3, 61, 28, 42, 180, 0, 127, 162, 0, 43, 42, 180, 0, 73, 16, 8, 27, 104, 28, 96, 42]
abbrev dktX5_goesBy_6 : List UInt8 := dkwX5_goesBy_6 ++ dktX5_goesBy_7
def dkwX5_goesBy_5 : List UInt8 := [162, 0, 19, 42, 42, 180, 0, 52, 28, 46, 42, 180, 0, 55, 28, 46, 182, 0, 201, 132, 2, 1]
abbrev dktX5_goesBy_5 : List UInt8 := dkwX5_goesBy_5 ++ dktX5_goesBy_6
def dkwX5_goesBy_4 : List UInt8 := [162, 0, 48, 42, 180, 0, 49, 28, 46, 27, 160, 0, 32, 42, 180, 0, 52, 28, 46, 42, 180, 0, 127]
abbrev dktX5_goesBy_4 : List UInt8 := dkwX5_goesBy_4 ++ dktX5_goesBy_5
def dkwX5_goesBy_3 : List UInt8 := [180, 0, 46, 28, 46, 116, 182, 0, 201, 132, 2, 1, 167, 255, 194, 3, 61, 28, 42, 180, 0, 174]
abbrev dktX5_goesBy_3 : List UInt8 := dkwX5_goesBy_3 ++ dktX5_goesBy_4
def dkwX5_goesBy_2 : List UInt8 := [162, 0, 31, 42, 180, 0, 195, 28, 184, 0, 205, 154, 0, 20, 42, 42, 180, 0, 43, 28, 46, 42]
abbrev dktX5_goesBy_2 : List UInt8 := dkwX5_goesBy_2 ++ dktX5_goesBy_3
def dkwX5_goesBy_1 : List UInt8 := [162, 0, 60, 42, 180, 0, 40, 28, 46, 27, 160, 0, 44, 42, 180, 0, 43, 28, 46, 42, 180, 0, 127]
abbrev dktX5_goesBy_1 : List UInt8 := dkwX5_goesBy_1 ++ dktX5_goesBy_2
def dkwX5_goesBy_0 : List UInt8 := [42, 27, 182, 0, 213, 42, 27, 182, 0, 216, 42, 27, 182, 0, 219, 3, 61, 28, 42, 180, 0, 171]
abbrev dktX5_goesBy_0 : List UInt8 := dkwX5_goesBy_0 ++ dktX5_goesBy_1
theorem dksX5_goesBy_0 : cX5_goesBy.data.toList.drop 0 = dktX5_goesBy_0 := by decide +kernel
theorem dksX5_goesBy_1 : cX5_goesBy.data.toList.drop 22 = dktX5_goesBy_1 := dk_seg dksX5_goesBy_0 22 rfl rfl
theorem dksX5_goesBy_2 : cX5_goesBy.data.toList.drop 45 = dktX5_goesBy_2 := dk_seg dksX5_goesBy_1 23 rfl rfl
theorem dksX5_goesBy_3 : cX5_goesBy.data.toList.drop 67 = dktX5_goesBy_3 := dk_seg dksX5_goesBy_2 22 rfl rfl
theorem dksX5_goesBy_4 : cX5_goesBy.data.toList.drop 89 = dktX5_goesBy_4 := dk_seg dksX5_goesBy_3 22 rfl rfl
theorem dksX5_goesBy_5 : cX5_goesBy.data.toList.drop 112 = dktX5_goesBy_5 := dk_seg dksX5_goesBy_4 23 rfl rfl
theorem dksX5_goesBy_6 : cX5_goesBy.data.toList.drop 134 = dktX5_goesBy_6 := dk_seg dksX5_goesBy_5 22 rfl rfl
theorem dksX5_goesBy_7 : cX5_goesBy.data.toList.drop 158 = dktX5_goesBy_7 := dk_seg dksX5_goesBy_6 24 rfl rfl
theorem dksX5_goesBy_8 : cX5_goesBy.data.toList.drop 181 = dktX5_goesBy_8 := dk_seg dksX5_goesBy_7 23 rfl rfl
theorem dksX5_goesBy_9 : cX5_goesBy.data.toList.drop 205 = dktX5_goesBy_9 := dk_seg dksX5_goesBy_8 24 rfl rfl
theorem dX5_goesBy_0 : decode cX5_goesBy 0 = .ok (.aload_n 0, 1) := dk_42 (dk_at dksX5_goesBy_0 0 rfl rfl)
theorem dX5_goesBy_1 : decode cX5_goesBy 1 = .ok (.iload_n 1, 1) := dk_27 (dk_at dksX5_goesBy_0 1 rfl rfl)
theorem dX5_goesBy_2 : decode cX5_goesBy 2 = .ok (.invokevirtual 213, 3) := dk_182 0 213 (dk_at dksX5_goesBy_0 2 rfl rfl)
theorem dX5_goesBy_5 : decode cX5_goesBy 5 = .ok (.aload_n 0, 1) := dk_42 (dk_at dksX5_goesBy_0 5 rfl rfl)
theorem dX5_goesBy_6 : decode cX5_goesBy 6 = .ok (.iload_n 1, 1) := dk_27 (dk_at dksX5_goesBy_0 6 rfl rfl)
theorem dX5_goesBy_7 : decode cX5_goesBy 7 = .ok (.invokevirtual 216, 3) := dk_182 0 216 (dk_at dksX5_goesBy_0 7 rfl rfl)
theorem dX5_goesBy_10 : decode cX5_goesBy 10 = .ok (.aload_n 0, 1) := dk_42 (dk_at dksX5_goesBy_0 10 rfl rfl)
theorem dX5_goesBy_11 : decode cX5_goesBy 11 = .ok (.iload_n 1, 1) := dk_27 (dk_at dksX5_goesBy_0 11 rfl rfl)
theorem dX5_goesBy_12 : decode cX5_goesBy 12 = .ok (.invokevirtual 219, 3) := dk_182 0 219 (dk_at dksX5_goesBy_0 12 rfl rfl)
theorem dX5_goesBy_15 : decode cX5_goesBy 15 = .ok (.iconst 0, 1) := dk_3 (dk_at dksX5_goesBy_0 15 rfl rfl)
theorem dX5_goesBy_16 : decode cX5_goesBy 16 = .ok (.istore_n 2, 1) := dk_61 (dk_at dksX5_goesBy_0 16 rfl rfl)
theorem dX5_goesBy_17 : decode cX5_goesBy 17 = .ok (.iload_n 2, 1) := dk_28 (dk_at dksX5_goesBy_0 17 rfl rfl)
theorem dX5_goesBy_18 : decode cX5_goesBy 18 = .ok (.aload_n 0, 1) := dk_42 (dk_at dksX5_goesBy_0 18 rfl rfl)
theorem dX5_goesBy_19 : decode cX5_goesBy 19 = .ok (.getfield 171, 3) := dk_180 0 171 (dk_at dksX5_goesBy_0 19 rfl rfl)
theorem dX5_goesBy_22 : decode cX5_goesBy 22 = .ok (.if_icmp .ge 60, 3) := dk_162 0 60 (dk_at dksX5_goesBy_1 0 rfl rfl)
theorem dX5_goesBy_25 : decode cX5_goesBy 25 = .ok (.aload_n 0, 1) := dk_42 (dk_at dksX5_goesBy_1 3 rfl rfl)
theorem dX5_goesBy_26 : decode cX5_goesBy 26 = .ok (.getfield 40, 3) := dk_180 0 40 (dk_at dksX5_goesBy_1 4 rfl rfl)
theorem dX5_goesBy_29 : decode cX5_goesBy 29 = .ok (.iload_n 2, 1) := dk_28 (dk_at dksX5_goesBy_1 7 rfl rfl)
theorem dX5_goesBy_30 : decode cX5_goesBy 30 = .ok (.iaload, 1) := dk_46 (dk_at dksX5_goesBy_1 8 rfl rfl)
theorem dX5_goesBy_31 : decode cX5_goesBy 31 = .ok (.iload_n 1, 1) := dk_27 (dk_at dksX5_goesBy_1 9 rfl rfl)
theorem dX5_goesBy_32 : decode cX5_goesBy 32 = .ok (.if_icmp .ne 44, 3) := dk_160 0 44 (dk_at dksX5_goesBy_1 10 rfl rfl)
theorem dX5_goesBy_35 : decode cX5_goesBy 35 = .ok (.aload_n 0, 1) := dk_42 (dk_at dksX5_goesBy_1 13 rfl rfl)
theorem dX5_goesBy_36 : decode cX5_goesBy 36 = .ok (.getfield 43, 3) := dk_180 0 43 (dk_at dksX5_goesBy_1 14 rfl rfl)
theorem dX5_goesBy_39 : decode cX5_goesBy 39 = .ok (.iload_n 2, 1) := dk_28 (dk_at dksX5_goesBy_1 17 rfl rfl)
theorem dX5_goesBy_40 : decode cX5_goesBy 40 = .ok (.iaload, 1) := dk_46 (dk_at dksX5_goesBy_1 18 rfl rfl)
theorem dX5_goesBy_41 : decode cX5_goesBy 41 = .ok (.aload_n 0, 1) := dk_42 (dk_at dksX5_goesBy_1 19 rfl rfl)
theorem dX5_goesBy_42 : decode cX5_goesBy 42 = .ok (.getfield 127, 3) := dk_180 0 127 (dk_at dksX5_goesBy_1 20 rfl rfl)
theorem dX5_goesBy_45 : decode cX5_goesBy 45 = .ok (.if_icmp .ge 31, 3) := dk_162 0 31 (dk_at dksX5_goesBy_2 0 rfl rfl)
theorem dX5_goesBy_48 : decode cX5_goesBy 48 = .ok (.aload_n 0, 1) := dk_42 (dk_at dksX5_goesBy_2 3 rfl rfl)
theorem dX5_goesBy_49 : decode cX5_goesBy 49 = .ok (.getfield 195, 3) := dk_180 0 195 (dk_at dksX5_goesBy_2 4 rfl rfl)
theorem dX5_goesBy_52 : decode cX5_goesBy 52 = .ok (.iload_n 2, 1) := dk_28 (dk_at dksX5_goesBy_2 7 rfl rfl)
theorem dX5_goesBy_53 : decode cX5_goesBy 53 = .ok (.invokestatic 205, 3) := dk_184 0 205 (dk_at dksX5_goesBy_2 8 rfl rfl)
theorem dX5_goesBy_56 : decode cX5_goesBy 56 = .ok (.ifCond .ne 20, 3) := dk_154 0 20 (dk_at dksX5_goesBy_2 11 rfl rfl)
theorem dX5_goesBy_59 : decode cX5_goesBy 59 = .ok (.aload_n 0, 1) := dk_42 (dk_at dksX5_goesBy_2 14 rfl rfl)
theorem dX5_goesBy_60 : decode cX5_goesBy 60 = .ok (.aload_n 0, 1) := dk_42 (dk_at dksX5_goesBy_2 15 rfl rfl)
theorem dX5_goesBy_61 : decode cX5_goesBy 61 = .ok (.getfield 43, 3) := dk_180 0 43 (dk_at dksX5_goesBy_2 16 rfl rfl)
theorem dX5_goesBy_64 : decode cX5_goesBy 64 = .ok (.iload_n 2, 1) := dk_28 (dk_at dksX5_goesBy_2 19 rfl rfl)
theorem dX5_goesBy_65 : decode cX5_goesBy 65 = .ok (.iaload, 1) := dk_46 (dk_at dksX5_goesBy_2 20 rfl rfl)
theorem dX5_goesBy_66 : decode cX5_goesBy 66 = .ok (.aload_n 0, 1) := dk_42 (dk_at dksX5_goesBy_2 21 rfl rfl)
theorem dX5_goesBy_67 : decode cX5_goesBy 67 = .ok (.getfield 46, 3) := dk_180 0 46 (dk_at dksX5_goesBy_3 0 rfl rfl)
theorem dX5_goesBy_70 : decode cX5_goesBy 70 = .ok (.iload_n 2, 1) := dk_28 (dk_at dksX5_goesBy_3 3 rfl rfl)
theorem dX5_goesBy_71 : decode cX5_goesBy 71 = .ok (.iaload, 1) := dk_46 (dk_at dksX5_goesBy_3 4 rfl rfl)
theorem dX5_goesBy_72 : decode cX5_goesBy 72 = .ok (.ineg, 1) := dk_116 (dk_at dksX5_goesBy_3 5 rfl rfl)
theorem dX5_goesBy_73 : decode cX5_goesBy 73 = .ok (.invokevirtual 201, 3) := dk_182 0 201 (dk_at dksX5_goesBy_3 6 rfl rfl)
theorem dX5_goesBy_76 : decode cX5_goesBy 76 = .ok (.iinc 2 1, 3) := dk_132 2 1 (dk_at dksX5_goesBy_3 9 rfl rfl)
theorem dX5_goesBy_79 : decode cX5_goesBy 79 = .ok (.goto (-62), 3) := dk_167 255 194 (dk_at dksX5_goesBy_3 12 rfl rfl)
theorem dX5_goesBy_82 : decode cX5_goesBy 82 = .ok (.iconst 0, 1) := dk_3 (dk_at dksX5_goesBy_3 15 rfl rfl)
theorem dX5_goesBy_83 : decode cX5_goesBy 83 = .ok (.istore_n 2, 1) := dk_61 (dk_at dksX5_goesBy_3 16 rfl rfl)
theorem dX5_goesBy_84 : decode cX5_goesBy 84 = .ok (.iload_n 2, 1) := dk_28 (dk_at dksX5_goesBy_3 17 rfl rfl)
theorem dX5_goesBy_85 : decode cX5_goesBy 85 = .ok (.aload_n 0, 1) := dk_42 (dk_at dksX5_goesBy_3 18 rfl rfl)
theorem dX5_goesBy_86 : decode cX5_goesBy 86 = .ok (.getfield 174, 3) := dk_180 0 174 (dk_at dksX5_goesBy_3 19 rfl rfl)
theorem dX5_goesBy_89 : decode cX5_goesBy 89 = .ok (.if_icmp .ge 48, 3) := dk_162 0 48 (dk_at dksX5_goesBy_4 0 rfl rfl)
theorem dX5_goesBy_92 : decode cX5_goesBy 92 = .ok (.aload_n 0, 1) := dk_42 (dk_at dksX5_goesBy_4 3 rfl rfl)
theorem dX5_goesBy_93 : decode cX5_goesBy 93 = .ok (.getfield 49, 3) := dk_180 0 49 (dk_at dksX5_goesBy_4 4 rfl rfl)
theorem dX5_goesBy_96 : decode cX5_goesBy 96 = .ok (.iload_n 2, 1) := dk_28 (dk_at dksX5_goesBy_4 7 rfl rfl)
theorem dX5_goesBy_97 : decode cX5_goesBy 97 = .ok (.iaload, 1) := dk_46 (dk_at dksX5_goesBy_4 8 rfl rfl)
theorem dX5_goesBy_98 : decode cX5_goesBy 98 = .ok (.iload_n 1, 1) := dk_27 (dk_at dksX5_goesBy_4 9 rfl rfl)
theorem dX5_goesBy_99 : decode cX5_goesBy 99 = .ok (.if_icmp .ne 32, 3) := dk_160 0 32 (dk_at dksX5_goesBy_4 10 rfl rfl)
theorem dX5_goesBy_102 : decode cX5_goesBy 102 = .ok (.aload_n 0, 1) := dk_42 (dk_at dksX5_goesBy_4 13 rfl rfl)
theorem dX5_goesBy_103 : decode cX5_goesBy 103 = .ok (.getfield 52, 3) := dk_180 0 52 (dk_at dksX5_goesBy_4 14 rfl rfl)
theorem dX5_goesBy_106 : decode cX5_goesBy 106 = .ok (.iload_n 2, 1) := dk_28 (dk_at dksX5_goesBy_4 17 rfl rfl)
theorem dX5_goesBy_107 : decode cX5_goesBy 107 = .ok (.iaload, 1) := dk_46 (dk_at dksX5_goesBy_4 18 rfl rfl)
theorem dX5_goesBy_108 : decode cX5_goesBy 108 = .ok (.aload_n 0, 1) := dk_42 (dk_at dksX5_goesBy_4 19 rfl rfl)
theorem dX5_goesBy_109 : decode cX5_goesBy 109 = .ok (.getfield 127, 3) := dk_180 0 127 (dk_at dksX5_goesBy_4 20 rfl rfl)
theorem dX5_goesBy_112 : decode cX5_goesBy 112 = .ok (.if_icmp .ge 19, 3) := dk_162 0 19 (dk_at dksX5_goesBy_5 0 rfl rfl)
theorem dX5_goesBy_115 : decode cX5_goesBy 115 = .ok (.aload_n 0, 1) := dk_42 (dk_at dksX5_goesBy_5 3 rfl rfl)
theorem dX5_goesBy_116 : decode cX5_goesBy 116 = .ok (.aload_n 0, 1) := dk_42 (dk_at dksX5_goesBy_5 4 rfl rfl)
theorem dX5_goesBy_117 : decode cX5_goesBy 117 = .ok (.getfield 52, 3) := dk_180 0 52 (dk_at dksX5_goesBy_5 5 rfl rfl)
theorem dX5_goesBy_120 : decode cX5_goesBy 120 = .ok (.iload_n 2, 1) := dk_28 (dk_at dksX5_goesBy_5 8 rfl rfl)
theorem dX5_goesBy_121 : decode cX5_goesBy 121 = .ok (.iaload, 1) := dk_46 (dk_at dksX5_goesBy_5 9 rfl rfl)
theorem dX5_goesBy_122 : decode cX5_goesBy 122 = .ok (.aload_n 0, 1) := dk_42 (dk_at dksX5_goesBy_5 10 rfl rfl)
theorem dX5_goesBy_123 : decode cX5_goesBy 123 = .ok (.getfield 55, 3) := dk_180 0 55 (dk_at dksX5_goesBy_5 11 rfl rfl)
theorem dX5_goesBy_126 : decode cX5_goesBy 126 = .ok (.iload_n 2, 1) := dk_28 (dk_at dksX5_goesBy_5 14 rfl rfl)
theorem dX5_goesBy_127 : decode cX5_goesBy 127 = .ok (.iaload, 1) := dk_46 (dk_at dksX5_goesBy_5 15 rfl rfl)
theorem dX5_goesBy_128 : decode cX5_goesBy 128 = .ok (.invokevirtual 201, 3) := dk_182 0 201 (dk_at dksX5_goesBy_5 16 rfl rfl)
theorem dX5_goesBy_131 : decode cX5_goesBy 131 = .ok (.iinc 2 1, 3) := dk_132 2 1 (dk_at dksX5_goesBy_5 19 rfl rfl)
theorem dX5_goesBy_134 : decode cX5_goesBy 134 = .ok (.goto (-50), 3) := dk_167 255 206 (dk_at dksX5_goesBy_6 0 rfl rfl)
theorem dX5_goesBy_137 : decode cX5_goesBy 137 = .ok (.iconst 0, 1) := dk_3 (dk_at dksX5_goesBy_6 3 rfl rfl)
theorem dX5_goesBy_138 : decode cX5_goesBy 138 = .ok (.istore_n 2, 1) := dk_61 (dk_at dksX5_goesBy_6 4 rfl rfl)
theorem dX5_goesBy_139 : decode cX5_goesBy 139 = .ok (.iload_n 2, 1) := dk_28 (dk_at dksX5_goesBy_6 5 rfl rfl)
theorem dX5_goesBy_140 : decode cX5_goesBy 140 = .ok (.aload_n 0, 1) := dk_42 (dk_at dksX5_goesBy_6 6 rfl rfl)
theorem dX5_goesBy_141 : decode cX5_goesBy 141 = .ok (.getfield 127, 3) := dk_180 0 127 (dk_at dksX5_goesBy_6 7 rfl rfl)
theorem dX5_goesBy_144 : decode cX5_goesBy 144 = .ok (.if_icmp .ge 43, 3) := dk_162 0 43 (dk_at dksX5_goesBy_6 10 rfl rfl)
theorem dX5_goesBy_147 : decode cX5_goesBy 147 = .ok (.aload_n 0, 1) := dk_42 (dk_at dksX5_goesBy_6 13 rfl rfl)
theorem dX5_goesBy_148 : decode cX5_goesBy 148 = .ok (.getfield 73, 3) := dk_180 0 73 (dk_at dksX5_goesBy_6 14 rfl rfl)
theorem dX5_goesBy_151 : decode cX5_goesBy 151 = .ok (.bipush 8, 2) := dk_16 8 (dk_at dksX5_goesBy_6 17 rfl rfl)
theorem dX5_goesBy_153 : decode cX5_goesBy 153 = .ok (.iload_n 1, 1) := dk_27 (dk_at dksX5_goesBy_6 19 rfl rfl)
theorem dX5_goesBy_154 : decode cX5_goesBy 154 = .ok (.imul, 1) := dk_104 (dk_at dksX5_goesBy_6 20 rfl rfl)
theorem dX5_goesBy_155 : decode cX5_goesBy 155 = .ok (.iload_n 2, 1) := dk_28 (dk_at dksX5_goesBy_6 21 rfl rfl)
theorem dX5_goesBy_156 : decode cX5_goesBy 156 = .ok (.iadd, 1) := dk_96 (dk_at dksX5_goesBy_6 22 rfl rfl)
theorem dX5_goesBy_157 : decode cX5_goesBy 157 = .ok (.aload_n 0, 1) := dk_42 (dk_at dksX5_goesBy_6 23 rfl rfl)
theorem dX5_goesBy_158 : decode cX5_goesBy 158 = .ok (.getfield 64, 3) := dk_180 0 64 (dk_at dksX5_goesBy_7 0 rfl rfl)
theorem dX5_goesBy_161 : decode cX5_goesBy 161 = .ok (.iload_n 2, 1) := dk_28 (dk_at dksX5_goesBy_7 3 rfl rfl)
theorem dX5_goesBy_162 : decode cX5_goesBy 162 = .ok (.iaload, 1) := dk_46 (dk_at dksX5_goesBy_7 4 rfl rfl)
theorem dX5_goesBy_163 : decode cX5_goesBy 163 = .ok (.iastore, 1) := dk_79 (dk_at dksX5_goesBy_7 5 rfl rfl)
theorem dX5_goesBy_164 : decode cX5_goesBy 164 = .ok (.aload_n 0, 1) := dk_42 (dk_at dksX5_goesBy_7 6 rfl rfl)
theorem dX5_goesBy_165 : decode cX5_goesBy 165 = .ok (.getfield 76, 3) := dk_180 0 76 (dk_at dksX5_goesBy_7 7 rfl rfl)
theorem dX5_goesBy_168 : decode cX5_goesBy 168 = .ok (.bipush 8, 2) := dk_16 8 (dk_at dksX5_goesBy_7 10 rfl rfl)
theorem dX5_goesBy_170 : decode cX5_goesBy 170 = .ok (.iload_n 1, 1) := dk_27 (dk_at dksX5_goesBy_7 12 rfl rfl)
theorem dX5_goesBy_171 : decode cX5_goesBy 171 = .ok (.imul, 1) := dk_104 (dk_at dksX5_goesBy_7 13 rfl rfl)
theorem dX5_goesBy_172 : decode cX5_goesBy 172 = .ok (.iload_n 2, 1) := dk_28 (dk_at dksX5_goesBy_7 14 rfl rfl)
theorem dX5_goesBy_173 : decode cX5_goesBy 173 = .ok (.iadd, 1) := dk_96 (dk_at dksX5_goesBy_7 15 rfl rfl)
theorem dX5_goesBy_174 : decode cX5_goesBy 174 = .ok (.aload_n 0, 1) := dk_42 (dk_at dksX5_goesBy_7 16 rfl rfl)
theorem dX5_goesBy_175 : decode cX5_goesBy 175 = .ok (.getfield 67, 3) := dk_180 0 67 (dk_at dksX5_goesBy_7 17 rfl rfl)
theorem dX5_goesBy_178 : decode cX5_goesBy 178 = .ok (.iload_n 2, 1) := dk_28 (dk_at dksX5_goesBy_7 20 rfl rfl)
theorem dX5_goesBy_179 : decode cX5_goesBy 179 = .ok (.iaload, 1) := dk_46 (dk_at dksX5_goesBy_7 21 rfl rfl)
theorem dX5_goesBy_180 : decode cX5_goesBy 180 = .ok (.iastore, 1) := dk_79 (dk_at dksX5_goesBy_7 22 rfl rfl)
theorem dX5_goesBy_181 : decode cX5_goesBy 181 = .ok (.iinc 2 1, 3) := dk_132 2 1 (dk_at dksX5_goesBy_8 0 rfl rfl)
theorem dX5_goesBy_184 : decode cX5_goesBy 184 = .ok (.goto (-45), 3) := dk_167 255 211 (dk_at dksX5_goesBy_8 3 rfl rfl)
theorem dX5_goesBy_187 : decode cX5_goesBy 187 = .ok (.iconst 0, 1) := dk_3 (dk_at dksX5_goesBy_8 6 rfl rfl)
theorem dX5_goesBy_188 : decode cX5_goesBy 188 = .ok (.istore_n 2, 1) := dk_61 (dk_at dksX5_goesBy_8 7 rfl rfl)
theorem dX5_goesBy_189 : decode cX5_goesBy 189 = .ok (.iload_n 2, 1) := dk_28 (dk_at dksX5_goesBy_8 8 rfl rfl)
theorem dX5_goesBy_190 : decode cX5_goesBy 190 = .ok (.aload_n 0, 1) := dk_42 (dk_at dksX5_goesBy_8 9 rfl rfl)
theorem dX5_goesBy_191 : decode cX5_goesBy 191 = .ok (.getfield 186, 3) := dk_180 0 186 (dk_at dksX5_goesBy_8 10 rfl rfl)
theorem dX5_goesBy_194 : decode cX5_goesBy 194 = .ok (.if_icmp .ge 26, 3) := dk_162 0 26 (dk_at dksX5_goesBy_8 13 rfl rfl)
theorem dX5_goesBy_197 : decode cX5_goesBy 197 = .ok (.aload_n 0, 1) := dk_42 (dk_at dksX5_goesBy_8 16 rfl rfl)
theorem dX5_goesBy_198 : decode cX5_goesBy 198 = .ok (.getfield 79, 3) := dk_180 0 79 (dk_at dksX5_goesBy_8 17 rfl rfl)
theorem dX5_goesBy_201 : decode cX5_goesBy 201 = .ok (.bipush 12, 2) := dk_16 12 (dk_at dksX5_goesBy_8 20 rfl rfl)
theorem dX5_goesBy_203 : decode cX5_goesBy 203 = .ok (.iload_n 1, 1) := dk_27 (dk_at dksX5_goesBy_8 22 rfl rfl)
theorem dX5_goesBy_204 : decode cX5_goesBy 204 = .ok (.imul, 1) := dk_104 (dk_at dksX5_goesBy_8 23 rfl rfl)
theorem dX5_goesBy_205 : decode cX5_goesBy 205 = .ok (.iload_n 2, 1) := dk_28 (dk_at dksX5_goesBy_9 0 rfl rfl)
theorem dX5_goesBy_206 : decode cX5_goesBy 206 = .ok (.iadd, 1) := dk_96 (dk_at dksX5_goesBy_9 1 rfl rfl)
theorem dX5_goesBy_207 : decode cX5_goesBy 207 = .ok (.aload_n 0, 1) := dk_42 (dk_at dksX5_goesBy_9 2 rfl rfl)
theorem dX5_goesBy_208 : decode cX5_goesBy 208 = .ok (.getfield 70, 3) := dk_180 0 70 (dk_at dksX5_goesBy_9 3 rfl rfl)
theorem dX5_goesBy_211 : decode cX5_goesBy 211 = .ok (.iload_n 2, 1) := dk_28 (dk_at dksX5_goesBy_9 6 rfl rfl)
theorem dX5_goesBy_212 : decode cX5_goesBy 212 = .ok (.iaload, 1) := dk_46 (dk_at dksX5_goesBy_9 7 rfl rfl)
theorem dX5_goesBy_213 : decode cX5_goesBy 213 = .ok (.iastore, 1) := dk_79 (dk_at dksX5_goesBy_9 8 rfl rfl)
theorem dX5_goesBy_214 : decode cX5_goesBy 214 = .ok (.iinc 2 1, 3) := dk_132 2 1 (dk_at dksX5_goesBy_9 9 rfl rfl)
theorem dX5_goesBy_217 : decode cX5_goesBy 217 = .ok (.goto (-28), 3) := dk_167 255 228 (dk_at dksX5_goesBy_9 12 rfl rfl)
theorem dX5_goesBy_220 : decode cX5_goesBy 220 = .ok (.return_, 1) := dk_177 (dk_at dksX5_goesBy_9 15 rfl rfl)
abbrev cX5_makes : ByteArray := prog_13_method_34_code
def yX5_makes : MethodName := ⟨RX5, "makes", "(I)V"⟩
def dkwX5_makes_2 : List UInt8 := [28, 182, 0, 198, 182, 0, 201, 132, 2, 1, 167, 255, 200, 177]
abbrev dktX5_makes_2 : List UInt8 := dkwX5_makes_2 ++ []
def dkwX5_makes_1 : List UInt8 := [28, 46, 42, 180, 0, 127, 162, 0, 25, 42, 180, 0, 70, 28, 4, 79, 42, 42, 180, 0, 22, 28, 46, 42]
abbrev dktX5_makes_1 : List UInt8 := dkwX5_makes_1 ++ dktX5_makes_2
def dkwX5_makes_0 : List UInt8 := [3, 61, 28, 42, 180, 0, 186, 162, 0, 54, 42, 180, 0, 28, 28, 46, 27, 160, 0, 38, 42, 180, 0, 22]
abbrev dktX5_makes_0 : List UInt8 := dkwX5_makes_0 ++ dktX5_makes_1
theorem dksX5_makes_0 : cX5_makes.data.toList.drop 0 = dktX5_makes_0 := by decide +kernel
theorem dksX5_makes_1 : cX5_makes.data.toList.drop 24 = dktX5_makes_1 := dk_seg dksX5_makes_0 24 rfl rfl
theorem dksX5_makes_2 : cX5_makes.data.toList.drop 48 = dktX5_makes_2 := dk_seg dksX5_makes_1 24 rfl rfl
theorem dX5_makes_0 : decode cX5_makes 0 = .ok (.iconst 0, 1) := dk_3 (dk_at dksX5_makes_0 0 rfl rfl)
theorem dX5_makes_1 : decode cX5_makes 1 = .ok (.istore_n 2, 1) := dk_61 (dk_at dksX5_makes_0 1 rfl rfl)
theorem dX5_makes_2 : decode cX5_makes 2 = .ok (.iload_n 2, 1) := dk_28 (dk_at dksX5_makes_0 2 rfl rfl)
theorem dX5_makes_3 : decode cX5_makes 3 = .ok (.aload_n 0, 1) := dk_42 (dk_at dksX5_makes_0 3 rfl rfl)
theorem dX5_makes_4 : decode cX5_makes 4 = .ok (.getfield 186, 3) := dk_180 0 186 (dk_at dksX5_makes_0 4 rfl rfl)
theorem dX5_makes_7 : decode cX5_makes 7 = .ok (.if_icmp .ge 54, 3) := dk_162 0 54 (dk_at dksX5_makes_0 7 rfl rfl)
theorem dX5_makes_10 : decode cX5_makes 10 = .ok (.aload_n 0, 1) := dk_42 (dk_at dksX5_makes_0 10 rfl rfl)
theorem dX5_makes_11 : decode cX5_makes 11 = .ok (.getfield 28, 3) := dk_180 0 28 (dk_at dksX5_makes_0 11 rfl rfl)
theorem dX5_makes_14 : decode cX5_makes 14 = .ok (.iload_n 2, 1) := dk_28 (dk_at dksX5_makes_0 14 rfl rfl)
theorem dX5_makes_15 : decode cX5_makes 15 = .ok (.iaload, 1) := dk_46 (dk_at dksX5_makes_0 15 rfl rfl)
theorem dX5_makes_16 : decode cX5_makes 16 = .ok (.iload_n 1, 1) := dk_27 (dk_at dksX5_makes_0 16 rfl rfl)
theorem dX5_makes_17 : decode cX5_makes 17 = .ok (.if_icmp .ne 38, 3) := dk_160 0 38 (dk_at dksX5_makes_0 17 rfl rfl)
theorem dX5_makes_20 : decode cX5_makes 20 = .ok (.aload_n 0, 1) := dk_42 (dk_at dksX5_makes_0 20 rfl rfl)
theorem dX5_makes_21 : decode cX5_makes 21 = .ok (.getfield 22, 3) := dk_180 0 22 (dk_at dksX5_makes_0 21 rfl rfl)
theorem dX5_makes_24 : decode cX5_makes 24 = .ok (.iload_n 2, 1) := dk_28 (dk_at dksX5_makes_1 0 rfl rfl)
theorem dX5_makes_25 : decode cX5_makes 25 = .ok (.iaload, 1) := dk_46 (dk_at dksX5_makes_1 1 rfl rfl)
theorem dX5_makes_26 : decode cX5_makes 26 = .ok (.aload_n 0, 1) := dk_42 (dk_at dksX5_makes_1 2 rfl rfl)
theorem dX5_makes_27 : decode cX5_makes 27 = .ok (.getfield 127, 3) := dk_180 0 127 (dk_at dksX5_makes_1 3 rfl rfl)
theorem dX5_makes_30 : decode cX5_makes 30 = .ok (.if_icmp .ge 25, 3) := dk_162 0 25 (dk_at dksX5_makes_1 6 rfl rfl)
theorem dX5_makes_33 : decode cX5_makes 33 = .ok (.aload_n 0, 1) := dk_42 (dk_at dksX5_makes_1 9 rfl rfl)
theorem dX5_makes_34 : decode cX5_makes 34 = .ok (.getfield 70, 3) := dk_180 0 70 (dk_at dksX5_makes_1 10 rfl rfl)
theorem dX5_makes_37 : decode cX5_makes 37 = .ok (.iload_n 2, 1) := dk_28 (dk_at dksX5_makes_1 13 rfl rfl)
theorem dX5_makes_38 : decode cX5_makes 38 = .ok (.iconst 1, 1) := dk_4 (dk_at dksX5_makes_1 14 rfl rfl)
theorem dX5_makes_39 : decode cX5_makes 39 = .ok (.iastore, 1) := dk_79 (dk_at dksX5_makes_1 15 rfl rfl)
theorem dX5_makes_40 : decode cX5_makes 40 = .ok (.aload_n 0, 1) := dk_42 (dk_at dksX5_makes_1 16 rfl rfl)
theorem dX5_makes_41 : decode cX5_makes 41 = .ok (.aload_n 0, 1) := dk_42 (dk_at dksX5_makes_1 17 rfl rfl)
theorem dX5_makes_42 : decode cX5_makes 42 = .ok (.getfield 22, 3) := dk_180 0 22 (dk_at dksX5_makes_1 18 rfl rfl)
theorem dX5_makes_45 : decode cX5_makes 45 = .ok (.iload_n 2, 1) := dk_28 (dk_at dksX5_makes_1 21 rfl rfl)
theorem dX5_makes_46 : decode cX5_makes 46 = .ok (.iaload, 1) := dk_46 (dk_at dksX5_makes_1 22 rfl rfl)
theorem dX5_makes_47 : decode cX5_makes 47 = .ok (.aload_n 0, 1) := dk_42 (dk_at dksX5_makes_1 23 rfl rfl)
theorem dX5_makes_48 : decode cX5_makes 48 = .ok (.iload_n 2, 1) := dk_28 (dk_at dksX5_makes_2 0 rfl rfl)
theorem dX5_makes_49 : decode cX5_makes 49 = .ok (.invokevirtual 198, 3) := dk_182 0 198 (dk_at dksX5_makes_2 1 rfl rfl)
theorem dX5_makes_52 : decode cX5_makes 52 = .ok (.invokevirtual 201, 3) := dk_182 0 201 (dk_at dksX5_makes_2 4 rfl rfl)
theorem dX5_makes_55 : decode cX5_makes 55 = .ok (.iinc 2 1, 3) := dk_132 2 1 (dk_at dksX5_makes_2 7 rfl rfl)
theorem dX5_makes_58 : decode cX5_makes 58 = .ok (.goto (-56), 3) := dk_167 255 200 (dk_at dksX5_makes_2 10 rfl rfl)
theorem dX5_makes_61 : decode cX5_makes 61 = .ok (.return_, 1) := dk_177 (dk_at dksX5_makes_2 13 rfl rfl)
abbrev cX5_lengthOf : ByteArray := prog_13_method_33_code
def yX5_lengthOf : MethodName := ⟨RX5, "lengthOf", "(I)I"⟩
def dkwX5_lengthOf_2 : List UInt8 := [46, 172]
abbrev dktX5_lengthOf_2 : List UInt8 := dkwX5_lengthOf_2 ++ []
def dkwX5_lengthOf_1 : List UInt8 := [167, 0, 25, 28, 4, 160, 0, 14, 5, 42, 180, 0, 25, 27, 46, 104, 167, 0, 9, 42, 180, 0, 25, 27]
abbrev dktX5_lengthOf_1 : List UInt8 := dkwX5_lengthOf_1 ++ dktX5_lengthOf_2
def dkwX5_lengthOf_0 : List UInt8 := [42, 180, 0, 16, 42, 180, 0, 22, 27, 46, 46, 61, 28, 154, 0, 14, 42, 180, 0, 25, 27, 46, 5, 108]
abbrev dktX5_lengthOf_0 : List UInt8 := dkwX5_lengthOf_0 ++ dktX5_lengthOf_1
theorem dksX5_lengthOf_0 : cX5_lengthOf.data.toList.drop 0 = dktX5_lengthOf_0 := by decide +kernel
theorem dksX5_lengthOf_1 : cX5_lengthOf.data.toList.drop 24 = dktX5_lengthOf_1 := dk_seg dksX5_lengthOf_0 24 rfl rfl
theorem dksX5_lengthOf_2 : cX5_lengthOf.data.toList.drop 48 = dktX5_lengthOf_2 := dk_seg dksX5_lengthOf_1 24 rfl rfl
theorem dX5_lengthOf_0 : decode cX5_lengthOf 0 = .ok (.aload_n 0, 1) := dk_42 (dk_at dksX5_lengthOf_0 0 rfl rfl)
theorem dX5_lengthOf_1 : decode cX5_lengthOf 1 = .ok (.getfield 16, 3) := dk_180 0 16 (dk_at dksX5_lengthOf_0 1 rfl rfl)
theorem dX5_lengthOf_4 : decode cX5_lengthOf 4 = .ok (.aload_n 0, 1) := dk_42 (dk_at dksX5_lengthOf_0 4 rfl rfl)
theorem dX5_lengthOf_5 : decode cX5_lengthOf 5 = .ok (.getfield 22, 3) := dk_180 0 22 (dk_at dksX5_lengthOf_0 5 rfl rfl)
theorem dX5_lengthOf_8 : decode cX5_lengthOf 8 = .ok (.iload_n 1, 1) := dk_27 (dk_at dksX5_lengthOf_0 8 rfl rfl)
theorem dX5_lengthOf_9 : decode cX5_lengthOf 9 = .ok (.iaload, 1) := dk_46 (dk_at dksX5_lengthOf_0 9 rfl rfl)
theorem dX5_lengthOf_10 : decode cX5_lengthOf 10 = .ok (.iaload, 1) := dk_46 (dk_at dksX5_lengthOf_0 10 rfl rfl)
theorem dX5_lengthOf_11 : decode cX5_lengthOf 11 = .ok (.istore_n 2, 1) := dk_61 (dk_at dksX5_lengthOf_0 11 rfl rfl)
theorem dX5_lengthOf_12 : decode cX5_lengthOf 12 = .ok (.iload_n 2, 1) := dk_28 (dk_at dksX5_lengthOf_0 12 rfl rfl)
theorem dX5_lengthOf_13 : decode cX5_lengthOf 13 = .ok (.ifCond .ne 14, 3) := dk_154 0 14 (dk_at dksX5_lengthOf_0 13 rfl rfl)
theorem dX5_lengthOf_16 : decode cX5_lengthOf 16 = .ok (.aload_n 0, 1) := dk_42 (dk_at dksX5_lengthOf_0 16 rfl rfl)
theorem dX5_lengthOf_17 : decode cX5_lengthOf 17 = .ok (.getfield 25, 3) := dk_180 0 25 (dk_at dksX5_lengthOf_0 17 rfl rfl)
theorem dX5_lengthOf_20 : decode cX5_lengthOf 20 = .ok (.iload_n 1, 1) := dk_27 (dk_at dksX5_lengthOf_0 20 rfl rfl)
theorem dX5_lengthOf_21 : decode cX5_lengthOf 21 = .ok (.iaload, 1) := dk_46 (dk_at dksX5_lengthOf_0 21 rfl rfl)
theorem dX5_lengthOf_22 : decode cX5_lengthOf 22 = .ok (.iconst 2, 1) := dk_5 (dk_at dksX5_lengthOf_0 22 rfl rfl)
theorem dX5_lengthOf_23 : decode cX5_lengthOf 23 = .ok (.idiv, 1) := dk_108 (dk_at dksX5_lengthOf_0 23 rfl rfl)
theorem dX5_lengthOf_24 : decode cX5_lengthOf 24 = .ok (.goto 25, 3) := dk_167 0 25 (dk_at dksX5_lengthOf_1 0 rfl rfl)
theorem dX5_lengthOf_27 : decode cX5_lengthOf 27 = .ok (.iload_n 2, 1) := dk_28 (dk_at dksX5_lengthOf_1 3 rfl rfl)
theorem dX5_lengthOf_28 : decode cX5_lengthOf 28 = .ok (.iconst 1, 1) := dk_4 (dk_at dksX5_lengthOf_1 4 rfl rfl)
theorem dX5_lengthOf_29 : decode cX5_lengthOf 29 = .ok (.if_icmp .ne 14, 3) := dk_160 0 14 (dk_at dksX5_lengthOf_1 5 rfl rfl)
theorem dX5_lengthOf_32 : decode cX5_lengthOf 32 = .ok (.iconst 2, 1) := dk_5 (dk_at dksX5_lengthOf_1 8 rfl rfl)
theorem dX5_lengthOf_33 : decode cX5_lengthOf 33 = .ok (.aload_n 0, 1) := dk_42 (dk_at dksX5_lengthOf_1 9 rfl rfl)
theorem dX5_lengthOf_34 : decode cX5_lengthOf 34 = .ok (.getfield 25, 3) := dk_180 0 25 (dk_at dksX5_lengthOf_1 10 rfl rfl)
theorem dX5_lengthOf_37 : decode cX5_lengthOf 37 = .ok (.iload_n 1, 1) := dk_27 (dk_at dksX5_lengthOf_1 13 rfl rfl)
theorem dX5_lengthOf_38 : decode cX5_lengthOf 38 = .ok (.iaload, 1) := dk_46 (dk_at dksX5_lengthOf_1 14 rfl rfl)
theorem dX5_lengthOf_39 : decode cX5_lengthOf 39 = .ok (.imul, 1) := dk_104 (dk_at dksX5_lengthOf_1 15 rfl rfl)
theorem dX5_lengthOf_40 : decode cX5_lengthOf 40 = .ok (.goto 9, 3) := dk_167 0 9 (dk_at dksX5_lengthOf_1 16 rfl rfl)
theorem dX5_lengthOf_43 : decode cX5_lengthOf 43 = .ok (.aload_n 0, 1) := dk_42 (dk_at dksX5_lengthOf_1 19 rfl rfl)
theorem dX5_lengthOf_44 : decode cX5_lengthOf 44 = .ok (.getfield 25, 3) := dk_180 0 25 (dk_at dksX5_lengthOf_1 20 rfl rfl)
theorem dX5_lengthOf_47 : decode cX5_lengthOf 47 = .ok (.iload_n 1, 1) := dk_27 (dk_at dksX5_lengthOf_1 23 rfl rfl)
theorem dX5_lengthOf_48 : decode cX5_lengthOf 48 = .ok (.iaload, 1) := dk_46 (dk_at dksX5_lengthOf_2 0 rfl rfl)
theorem dX5_lengthOf_49 : decode cX5_lengthOf 49 = .ok (.ireturn, 1) := dk_172 (dk_at dksX5_lengthOf_2 1 rfl rfl)
abbrev cX5_changes : ByteArray := prog_13_method_32_code
def yX5_changes : MethodName := ⟨RX5, "changes", "(II)V"⟩
def dkwX5_changes_1 : List UInt8 := [16, 99, 164, 0, 8, 16, 99, 167, 0, 4, 29, 79, 177]
abbrev dktX5_changes_1 : List UInt8 := dkwX5_changes_1 ++ []
def dkwX5_changes_0 : List UInt8 := [42, 180, 0, 64, 27, 46, 28, 96, 62, 42, 180, 0, 64, 27, 29, 156, 0, 7, 3, 167, 0, 15, 29]
abbrev dktX5_changes_0 : List UInt8 := dkwX5_changes_0 ++ dktX5_changes_1
theorem dksX5_changes_0 : cX5_changes.data.toList.drop 0 = dktX5_changes_0 := by decide +kernel
theorem dksX5_changes_1 : cX5_changes.data.toList.drop 23 = dktX5_changes_1 := dk_seg dksX5_changes_0 23 rfl rfl
theorem dX5_changes_0 : decode cX5_changes 0 = .ok (.aload_n 0, 1) := dk_42 (dk_at dksX5_changes_0 0 rfl rfl)
theorem dX5_changes_1 : decode cX5_changes 1 = .ok (.getfield 64, 3) := dk_180 0 64 (dk_at dksX5_changes_0 1 rfl rfl)
theorem dX5_changes_4 : decode cX5_changes 4 = .ok (.iload_n 1, 1) := dk_27 (dk_at dksX5_changes_0 4 rfl rfl)
theorem dX5_changes_5 : decode cX5_changes 5 = .ok (.iaload, 1) := dk_46 (dk_at dksX5_changes_0 5 rfl rfl)
theorem dX5_changes_6 : decode cX5_changes 6 = .ok (.iload_n 2, 1) := dk_28 (dk_at dksX5_changes_0 6 rfl rfl)
theorem dX5_changes_7 : decode cX5_changes 7 = .ok (.iadd, 1) := dk_96 (dk_at dksX5_changes_0 7 rfl rfl)
theorem dX5_changes_8 : decode cX5_changes 8 = .ok (.istore_n 3, 1) := dk_62 (dk_at dksX5_changes_0 8 rfl rfl)
theorem dX5_changes_9 : decode cX5_changes 9 = .ok (.aload_n 0, 1) := dk_42 (dk_at dksX5_changes_0 9 rfl rfl)
theorem dX5_changes_10 : decode cX5_changes 10 = .ok (.getfield 64, 3) := dk_180 0 64 (dk_at dksX5_changes_0 10 rfl rfl)
theorem dX5_changes_13 : decode cX5_changes 13 = .ok (.iload_n 1, 1) := dk_27 (dk_at dksX5_changes_0 13 rfl rfl)
theorem dX5_changes_14 : decode cX5_changes 14 = .ok (.iload_n 3, 1) := dk_29 (dk_at dksX5_changes_0 14 rfl rfl)
theorem dX5_changes_15 : decode cX5_changes 15 = .ok (.ifCond .ge 7, 3) := dk_156 0 7 (dk_at dksX5_changes_0 15 rfl rfl)
theorem dX5_changes_18 : decode cX5_changes 18 = .ok (.iconst 0, 1) := dk_3 (dk_at dksX5_changes_0 18 rfl rfl)
theorem dX5_changes_19 : decode cX5_changes 19 = .ok (.goto 15, 3) := dk_167 0 15 (dk_at dksX5_changes_0 19 rfl rfl)
theorem dX5_changes_22 : decode cX5_changes 22 = .ok (.iload_n 3, 1) := dk_29 (dk_at dksX5_changes_0 22 rfl rfl)
theorem dX5_changes_23 : decode cX5_changes 23 = .ok (.bipush 99, 2) := dk_16 99 (dk_at dksX5_changes_1 0 rfl rfl)
theorem dX5_changes_25 : decode cX5_changes 25 = .ok (.if_icmp .le 8, 3) := dk_164 0 8 (dk_at dksX5_changes_1 2 rfl rfl)
theorem dX5_changes_28 : decode cX5_changes 28 = .ok (.bipush 99, 2) := dk_16 99 (dk_at dksX5_changes_1 5 rfl rfl)
theorem dX5_changes_30 : decode cX5_changes 30 = .ok (.goto 4, 3) := dk_167 0 4 (dk_at dksX5_changes_1 7 rfl rfl)
theorem dX5_changes_33 : decode cX5_changes 33 = .ok (.iload_n 3, 1) := dk_29 (dk_at dksX5_changes_1 10 rfl rfl)
theorem dX5_changes_34 : decode cX5_changes 34 = .ok (.iastore, 1) := dk_79 (dk_at dksX5_changes_1 11 rfl rfl)
theorem dX5_changes_35 : decode cX5_changes 35 = .ok (.return_, 1) := dk_177 (dk_at dksX5_changes_1 12 rfl rfl)
abbrev cX5_keepsOn : ByteArray := prog_13_method_36_code
def yX5_keepsOn : MethodName := ⟨RX5, "keepsOn", "(I)V"⟩
def dkwX5_keepsOn_2 : List UInt8 := [180, 0, 70, 29, 46, 4, 160, 0, 8, 42, 29, 182, 0, 209, 132, 2, 1, 167, 255, 194, 177]
abbrev dktX5_keepsOn_2 : List UInt8 := dkwX5_keepsOn_2 ++ []
def dkwX5_keepsOn_1 : List UInt8 := [160, 0, 37, 42, 180, 0, 192, 28, 184, 0, 205, 154, 0, 26, 29, 42, 180, 0, 131, 162, 0, 18, 42]
abbrev dktX5_keepsOn_1 : List UInt8 := dkwX5_keepsOn_1 ++ dktX5_keepsOn_2
def dkwX5_keepsOn_0 : List UInt8 := [3, 61, 28, 42, 180, 0, 189, 162, 0, 60, 42, 180, 0, 61, 28, 46, 62, 42, 180, 0, 58, 28, 46, 27]
abbrev dktX5_keepsOn_0 : List UInt8 := dkwX5_keepsOn_0 ++ dktX5_keepsOn_1
theorem dksX5_keepsOn_0 : cX5_keepsOn.data.toList.drop 0 = dktX5_keepsOn_0 := by decide +kernel
theorem dksX5_keepsOn_1 : cX5_keepsOn.data.toList.drop 24 = dktX5_keepsOn_1 := dk_seg dksX5_keepsOn_0 24 rfl rfl
theorem dksX5_keepsOn_2 : cX5_keepsOn.data.toList.drop 47 = dktX5_keepsOn_2 := dk_seg dksX5_keepsOn_1 23 rfl rfl
theorem dX5_keepsOn_0 : decode cX5_keepsOn 0 = .ok (.iconst 0, 1) := dk_3 (dk_at dksX5_keepsOn_0 0 rfl rfl)
theorem dX5_keepsOn_1 : decode cX5_keepsOn 1 = .ok (.istore_n 2, 1) := dk_61 (dk_at dksX5_keepsOn_0 1 rfl rfl)
theorem dX5_keepsOn_2 : decode cX5_keepsOn 2 = .ok (.iload_n 2, 1) := dk_28 (dk_at dksX5_keepsOn_0 2 rfl rfl)
theorem dX5_keepsOn_3 : decode cX5_keepsOn 3 = .ok (.aload_n 0, 1) := dk_42 (dk_at dksX5_keepsOn_0 3 rfl rfl)
theorem dX5_keepsOn_4 : decode cX5_keepsOn 4 = .ok (.getfield 189, 3) := dk_180 0 189 (dk_at dksX5_keepsOn_0 4 rfl rfl)
theorem dX5_keepsOn_7 : decode cX5_keepsOn 7 = .ok (.if_icmp .ge 60, 3) := dk_162 0 60 (dk_at dksX5_keepsOn_0 7 rfl rfl)
theorem dX5_keepsOn_10 : decode cX5_keepsOn 10 = .ok (.aload_n 0, 1) := dk_42 (dk_at dksX5_keepsOn_0 10 rfl rfl)
theorem dX5_keepsOn_11 : decode cX5_keepsOn 11 = .ok (.getfield 61, 3) := dk_180 0 61 (dk_at dksX5_keepsOn_0 11 rfl rfl)
theorem dX5_keepsOn_14 : decode cX5_keepsOn 14 = .ok (.iload_n 2, 1) := dk_28 (dk_at dksX5_keepsOn_0 14 rfl rfl)
theorem dX5_keepsOn_15 : decode cX5_keepsOn 15 = .ok (.iaload, 1) := dk_46 (dk_at dksX5_keepsOn_0 15 rfl rfl)
theorem dX5_keepsOn_16 : decode cX5_keepsOn 16 = .ok (.istore_n 3, 1) := dk_62 (dk_at dksX5_keepsOn_0 16 rfl rfl)
theorem dX5_keepsOn_17 : decode cX5_keepsOn 17 = .ok (.aload_n 0, 1) := dk_42 (dk_at dksX5_keepsOn_0 17 rfl rfl)
theorem dX5_keepsOn_18 : decode cX5_keepsOn 18 = .ok (.getfield 58, 3) := dk_180 0 58 (dk_at dksX5_keepsOn_0 18 rfl rfl)
theorem dX5_keepsOn_21 : decode cX5_keepsOn 21 = .ok (.iload_n 2, 1) := dk_28 (dk_at dksX5_keepsOn_0 21 rfl rfl)
theorem dX5_keepsOn_22 : decode cX5_keepsOn 22 = .ok (.iaload, 1) := dk_46 (dk_at dksX5_keepsOn_0 22 rfl rfl)
theorem dX5_keepsOn_23 : decode cX5_keepsOn 23 = .ok (.iload_n 1, 1) := dk_27 (dk_at dksX5_keepsOn_0 23 rfl rfl)
theorem dX5_keepsOn_24 : decode cX5_keepsOn 24 = .ok (.if_icmp .ne 37, 3) := dk_160 0 37 (dk_at dksX5_keepsOn_1 0 rfl rfl)
theorem dX5_keepsOn_27 : decode cX5_keepsOn 27 = .ok (.aload_n 0, 1) := dk_42 (dk_at dksX5_keepsOn_1 3 rfl rfl)
theorem dX5_keepsOn_28 : decode cX5_keepsOn 28 = .ok (.getfield 192, 3) := dk_180 0 192 (dk_at dksX5_keepsOn_1 4 rfl rfl)
theorem dX5_keepsOn_31 : decode cX5_keepsOn 31 = .ok (.iload_n 2, 1) := dk_28 (dk_at dksX5_keepsOn_1 7 rfl rfl)
theorem dX5_keepsOn_32 : decode cX5_keepsOn 32 = .ok (.invokestatic 205, 3) := dk_184 0 205 (dk_at dksX5_keepsOn_1 8 rfl rfl)
theorem dX5_keepsOn_35 : decode cX5_keepsOn 35 = .ok (.ifCond .ne 26, 3) := dk_154 0 26 (dk_at dksX5_keepsOn_1 11 rfl rfl)
theorem dX5_keepsOn_38 : decode cX5_keepsOn 38 = .ok (.iload_n 3, 1) := dk_29 (dk_at dksX5_keepsOn_1 14 rfl rfl)
theorem dX5_keepsOn_39 : decode cX5_keepsOn 39 = .ok (.aload_n 0, 1) := dk_42 (dk_at dksX5_keepsOn_1 15 rfl rfl)
theorem dX5_keepsOn_40 : decode cX5_keepsOn 40 = .ok (.getfield 131, 3) := dk_180 0 131 (dk_at dksX5_keepsOn_1 16 rfl rfl)
theorem dX5_keepsOn_43 : decode cX5_keepsOn 43 = .ok (.if_icmp .ge 18, 3) := dk_162 0 18 (dk_at dksX5_keepsOn_1 19 rfl rfl)
theorem dX5_keepsOn_46 : decode cX5_keepsOn 46 = .ok (.aload_n 0, 1) := dk_42 (dk_at dksX5_keepsOn_1 22 rfl rfl)
theorem dX5_keepsOn_47 : decode cX5_keepsOn 47 = .ok (.getfield 70, 3) := dk_180 0 70 (dk_at dksX5_keepsOn_2 0 rfl rfl)
theorem dX5_keepsOn_50 : decode cX5_keepsOn 50 = .ok (.iload_n 3, 1) := dk_29 (dk_at dksX5_keepsOn_2 3 rfl rfl)
theorem dX5_keepsOn_51 : decode cX5_keepsOn 51 = .ok (.iaload, 1) := dk_46 (dk_at dksX5_keepsOn_2 4 rfl rfl)
theorem dX5_keepsOn_52 : decode cX5_keepsOn 52 = .ok (.iconst 1, 1) := dk_4 (dk_at dksX5_keepsOn_2 5 rfl rfl)
theorem dX5_keepsOn_53 : decode cX5_keepsOn 53 = .ok (.if_icmp .ne 8, 3) := dk_160 0 8 (dk_at dksX5_keepsOn_2 6 rfl rfl)
theorem dX5_keepsOn_56 : decode cX5_keepsOn 56 = .ok (.aload_n 0, 1) := dk_42 (dk_at dksX5_keepsOn_2 9 rfl rfl)
theorem dX5_keepsOn_57 : decode cX5_keepsOn 57 = .ok (.iload_n 3, 1) := dk_29 (dk_at dksX5_keepsOn_2 10 rfl rfl)
theorem dX5_keepsOn_58 : decode cX5_keepsOn 58 = .ok (.invokevirtual 209, 3) := dk_182 0 209 (dk_at dksX5_keepsOn_2 11 rfl rfl)
theorem dX5_keepsOn_61 : decode cX5_keepsOn 61 = .ok (.iinc 2 1, 3) := dk_132 2 1 (dk_at dksX5_keepsOn_2 14 rfl rfl)
theorem dX5_keepsOn_64 : decode cX5_keepsOn 64 = .ok (.goto (-62), 3) := dk_167 255 194 (dk_at dksX5_keepsOn_2 17 rfl rfl)
theorem dX5_keepsOn_67 : decode cX5_keepsOn 67 = .ok (.return_, 1) := dk_177 (dk_at dksX5_keepsOn_2 20 rfl rfl)
abbrev cX5_isIn : ByteArray := prog_13_method_4_code
def yX5_isIn : MethodName := ⟨RX5, "isIn", "(II)Z"⟩
def dkwX5_isIn_0 : List UInt8 := [26, 27, 122, 4, 126, 4, 160, 0, 7, 4, 167, 0, 4, 3, 172]
abbrev dktX5_isIn_0 : List UInt8 := dkwX5_isIn_0 ++ []
theorem dksX5_isIn_0 : cX5_isIn.data.toList.drop 0 = dktX5_isIn_0 := by decide +kernel
theorem dX5_isIn_0 : decode cX5_isIn 0 = .ok (.iload_n 0, 1) := dk_26 (dk_at dksX5_isIn_0 0 rfl rfl)
theorem dX5_isIn_1 : decode cX5_isIn 1 = .ok (.iload_n 1, 1) := dk_27 (dk_at dksX5_isIn_0 1 rfl rfl)
theorem dX5_isIn_2 : decode cX5_isIn 2 = .ok (.ishr, 1) := dk_122 (dk_at dksX5_isIn_0 2 rfl rfl)
theorem dX5_isIn_3 : decode cX5_isIn 3 = .ok (.iconst 1, 1) := dk_4 (dk_at dksX5_isIn_0 3 rfl rfl)
theorem dX5_isIn_4 : decode cX5_isIn 4 = .ok (.iand, 1) := dk_126 (dk_at dksX5_isIn_0 4 rfl rfl)
theorem dX5_isIn_5 : decode cX5_isIn 5 = .ok (.iconst 1, 1) := dk_4 (dk_at dksX5_isIn_0 5 rfl rfl)
theorem dX5_isIn_6 : decode cX5_isIn 6 = .ok (.if_icmp .ne 7, 3) := dk_160 0 7 (dk_at dksX5_isIn_0 6 rfl rfl)
theorem dX5_isIn_9 : decode cX5_isIn 9 = .ok (.iconst 1, 1) := dk_4 (dk_at dksX5_isIn_0 9 rfl rfl)
theorem dX5_isIn_10 : decode cX5_isIn 10 = .ok (.goto 4, 3) := dk_167 0 4 (dk_at dksX5_isIn_0 10 rfl rfl)
theorem dX5_isIn_13 : decode cX5_isIn 13 = .ok (.iconst 0, 1) := dk_3 (dk_at dksX5_isIn_0 13 rfl rfl)
theorem dX5_isIn_14 : decode cX5_isIn 14 = .ok (.ireturn, 1) := dk_172 (dk_at dksX5_isIn_0 14 rfl rfl)
abbrev cX5_isKept : ByteArray := prog_13_method_35_code
def yX5_isKept : MethodName := ⟨RX5, "isKept", "(I)V"⟩
def dkwX5_isKept_2 : List UInt8 := [167, 0, 17, 29, 21, 4, 116, 162, 0, 9, 21, 4, 116, 167, 0, 4, 29, 182, 0, 201, 177]
abbrev dktX5_isKept_2 : List UInt8 := dkwX5_isKept_2 ++ []
def dkwX5_isKept_1 : List UInt8 := [180, 0, 25, 27, 46, 54, 4, 42, 180, 0, 70, 27, 5, 79, 42, 28, 29, 21, 4, 164, 0, 8, 21, 4]
abbrev dktX5_isKept_1 : List UInt8 := dkwX5_isKept_1 ++ dktX5_isKept_2
def dkwX5_isKept_0 : List UInt8 := [42, 180, 0, 22, 27, 46, 61, 42, 180, 0, 19, 28, 46, 42, 180, 0, 64, 28, 46, 100, 62, 42]
abbrev dktX5_isKept_0 : List UInt8 := dkwX5_isKept_0 ++ dktX5_isKept_1
theorem dksX5_isKept_0 : cX5_isKept.data.toList.drop 0 = dktX5_isKept_0 := by decide +kernel
theorem dksX5_isKept_1 : cX5_isKept.data.toList.drop 22 = dktX5_isKept_1 := dk_seg dksX5_isKept_0 22 rfl rfl
theorem dksX5_isKept_2 : cX5_isKept.data.toList.drop 46 = dktX5_isKept_2 := dk_seg dksX5_isKept_1 24 rfl rfl
theorem dX5_isKept_0 : decode cX5_isKept 0 = .ok (.aload_n 0, 1) := dk_42 (dk_at dksX5_isKept_0 0 rfl rfl)
theorem dX5_isKept_1 : decode cX5_isKept 1 = .ok (.getfield 22, 3) := dk_180 0 22 (dk_at dksX5_isKept_0 1 rfl rfl)
theorem dX5_isKept_4 : decode cX5_isKept 4 = .ok (.iload_n 1, 1) := dk_27 (dk_at dksX5_isKept_0 4 rfl rfl)
theorem dX5_isKept_5 : decode cX5_isKept 5 = .ok (.iaload, 1) := dk_46 (dk_at dksX5_isKept_0 5 rfl rfl)
theorem dX5_isKept_6 : decode cX5_isKept 6 = .ok (.istore_n 2, 1) := dk_61 (dk_at dksX5_isKept_0 6 rfl rfl)
theorem dX5_isKept_7 : decode cX5_isKept 7 = .ok (.aload_n 0, 1) := dk_42 (dk_at dksX5_isKept_0 7 rfl rfl)
theorem dX5_isKept_8 : decode cX5_isKept 8 = .ok (.getfield 19, 3) := dk_180 0 19 (dk_at dksX5_isKept_0 8 rfl rfl)
theorem dX5_isKept_11 : decode cX5_isKept 11 = .ok (.iload_n 2, 1) := dk_28 (dk_at dksX5_isKept_0 11 rfl rfl)
theorem dX5_isKept_12 : decode cX5_isKept 12 = .ok (.iaload, 1) := dk_46 (dk_at dksX5_isKept_0 12 rfl rfl)
theorem dX5_isKept_13 : decode cX5_isKept 13 = .ok (.aload_n 0, 1) := dk_42 (dk_at dksX5_isKept_0 13 rfl rfl)
theorem dX5_isKept_14 : decode cX5_isKept 14 = .ok (.getfield 64, 3) := dk_180 0 64 (dk_at dksX5_isKept_0 14 rfl rfl)
theorem dX5_isKept_17 : decode cX5_isKept 17 = .ok (.iload_n 2, 1) := dk_28 (dk_at dksX5_isKept_0 17 rfl rfl)
theorem dX5_isKept_18 : decode cX5_isKept 18 = .ok (.iaload, 1) := dk_46 (dk_at dksX5_isKept_0 18 rfl rfl)
theorem dX5_isKept_19 : decode cX5_isKept 19 = .ok (.isub, 1) := dk_100 (dk_at dksX5_isKept_0 19 rfl rfl)
theorem dX5_isKept_20 : decode cX5_isKept 20 = .ok (.istore_n 3, 1) := dk_62 (dk_at dksX5_isKept_0 20 rfl rfl)
theorem dX5_isKept_21 : decode cX5_isKept 21 = .ok (.aload_n 0, 1) := dk_42 (dk_at dksX5_isKept_0 21 rfl rfl)
theorem dX5_isKept_22 : decode cX5_isKept 22 = .ok (.getfield 25, 3) := dk_180 0 25 (dk_at dksX5_isKept_1 0 rfl rfl)
theorem dX5_isKept_25 : decode cX5_isKept 25 = .ok (.iload_n 1, 1) := dk_27 (dk_at dksX5_isKept_1 3 rfl rfl)
theorem dX5_isKept_26 : decode cX5_isKept 26 = .ok (.iaload, 1) := dk_46 (dk_at dksX5_isKept_1 4 rfl rfl)
theorem dX5_isKept_27 : decode cX5_isKept 27 = .ok (.istore 4, 2) := dk_54 4 (dk_at dksX5_isKept_1 5 rfl rfl)
theorem dX5_isKept_29 : decode cX5_isKept 29 = .ok (.aload_n 0, 1) := dk_42 (dk_at dksX5_isKept_1 7 rfl rfl)
theorem dX5_isKept_30 : decode cX5_isKept 30 = .ok (.getfield 70, 3) := dk_180 0 70 (dk_at dksX5_isKept_1 8 rfl rfl)
theorem dX5_isKept_33 : decode cX5_isKept 33 = .ok (.iload_n 1, 1) := dk_27 (dk_at dksX5_isKept_1 11 rfl rfl)
theorem dX5_isKept_34 : decode cX5_isKept 34 = .ok (.iconst 2, 1) := dk_5 (dk_at dksX5_isKept_1 12 rfl rfl)
theorem dX5_isKept_35 : decode cX5_isKept 35 = .ok (.iastore, 1) := dk_79 (dk_at dksX5_isKept_1 13 rfl rfl)
theorem dX5_isKept_36 : decode cX5_isKept 36 = .ok (.aload_n 0, 1) := dk_42 (dk_at dksX5_isKept_1 14 rfl rfl)
theorem dX5_isKept_37 : decode cX5_isKept 37 = .ok (.iload_n 2, 1) := dk_28 (dk_at dksX5_isKept_1 15 rfl rfl)
theorem dX5_isKept_38 : decode cX5_isKept 38 = .ok (.iload_n 3, 1) := dk_29 (dk_at dksX5_isKept_1 16 rfl rfl)
theorem dX5_isKept_39 : decode cX5_isKept 39 = .ok (.iload 4, 2) := dk_21 4 (dk_at dksX5_isKept_1 17 rfl rfl)
theorem dX5_isKept_41 : decode cX5_isKept 41 = .ok (.if_icmp .le 8, 3) := dk_164 0 8 (dk_at dksX5_isKept_1 19 rfl rfl)
theorem dX5_isKept_44 : decode cX5_isKept 44 = .ok (.iload 4, 2) := dk_21 4 (dk_at dksX5_isKept_1 22 rfl rfl)
theorem dX5_isKept_46 : decode cX5_isKept 46 = .ok (.goto 17, 3) := dk_167 0 17 (dk_at dksX5_isKept_2 0 rfl rfl)
theorem dX5_isKept_49 : decode cX5_isKept 49 = .ok (.iload_n 3, 1) := dk_29 (dk_at dksX5_isKept_2 3 rfl rfl)
theorem dX5_isKept_50 : decode cX5_isKept 50 = .ok (.iload 4, 2) := dk_21 4 (dk_at dksX5_isKept_2 4 rfl rfl)
theorem dX5_isKept_52 : decode cX5_isKept 52 = .ok (.ineg, 1) := dk_116 (dk_at dksX5_isKept_2 6 rfl rfl)
theorem dX5_isKept_53 : decode cX5_isKept 53 = .ok (.if_icmp .ge 9, 3) := dk_162 0 9 (dk_at dksX5_isKept_2 7 rfl rfl)
theorem dX5_isKept_56 : decode cX5_isKept 56 = .ok (.iload 4, 2) := dk_21 4 (dk_at dksX5_isKept_2 10 rfl rfl)
theorem dX5_isKept_58 : decode cX5_isKept 58 = .ok (.ineg, 1) := dk_116 (dk_at dksX5_isKept_2 12 rfl rfl)
theorem dX5_isKept_59 : decode cX5_isKept 59 = .ok (.goto 4, 3) := dk_167 0 4 (dk_at dksX5_isKept_2 13 rfl rfl)
theorem dX5_isKept_62 : decode cX5_isKept 62 = .ok (.iload_n 3, 1) := dk_29 (dk_at dksX5_isKept_2 16 rfl rfl)
theorem dX5_isKept_63 : decode cX5_isKept 63 = .ok (.invokevirtual 201, 3) := dk_182 0 201 (dk_at dksX5_isKept_2 17 rfl rfl)
theorem dX5_isKept_66 : decode cX5_isKept 66 = .ok (.return_, 1) := dk_177 (dk_at dksX5_isKept_2 20 rfl rfl)
abbrev cX5_breaks : ByteArray := prog_13_method_37_code
def yX5_breaks : MethodName := ⟨RX5, "breaks", "(I)V"⟩
def dkwX5_breaks_3 : List UInt8 := [180, 0, 67, 29, 92, 46, 4, 96, 79, 132, 2, 1, 167, 255, 174, 177]
abbrev dktX5_breaks_3 : List UInt8 := dkwX5_breaks_3 ++ []
def dkwX5_breaks_2 : List UInt8 := [182, 0, 198, 116, 42, 180, 0, 16, 29, 46, 5, 160, 0, 7, 5, 167, 0, 4, 3, 100, 182, 0, 201, 42]
abbrev dktX5_breaks_2 : List UInt8 := dkwX5_breaks_2 ++ dktX5_breaks_3
def dkwX5_breaks_1 : List UInt8 := [28, 46, 4, 160, 0, 54, 42, 180, 0, 22, 28, 46, 62, 42, 180, 0, 70, 28, 6, 79, 42, 29, 42, 28]
abbrev dktX5_breaks_1 : List UInt8 := dkwX5_breaks_1 ++ dktX5_breaks_2
def dkwX5_breaks_0 : List UInt8 := [3, 61, 28, 42, 180, 0, 186, 162, 0, 80, 42, 180, 0, 31, 28, 46, 27, 160, 0, 64, 42, 180, 0, 70]
abbrev dktX5_breaks_0 : List UInt8 := dkwX5_breaks_0 ++ dktX5_breaks_1
theorem dksX5_breaks_0 : cX5_breaks.data.toList.drop 0 = dktX5_breaks_0 := by decide +kernel
theorem dksX5_breaks_1 : cX5_breaks.data.toList.drop 24 = dktX5_breaks_1 := dk_seg dksX5_breaks_0 24 rfl rfl
theorem dksX5_breaks_2 : cX5_breaks.data.toList.drop 48 = dktX5_breaks_2 := dk_seg dksX5_breaks_1 24 rfl rfl
theorem dksX5_breaks_3 : cX5_breaks.data.toList.drop 72 = dktX5_breaks_3 := dk_seg dksX5_breaks_2 24 rfl rfl
theorem dX5_breaks_0 : decode cX5_breaks 0 = .ok (.iconst 0, 1) := dk_3 (dk_at dksX5_breaks_0 0 rfl rfl)
theorem dX5_breaks_1 : decode cX5_breaks 1 = .ok (.istore_n 2, 1) := dk_61 (dk_at dksX5_breaks_0 1 rfl rfl)
theorem dX5_breaks_2 : decode cX5_breaks 2 = .ok (.iload_n 2, 1) := dk_28 (dk_at dksX5_breaks_0 2 rfl rfl)
theorem dX5_breaks_3 : decode cX5_breaks 3 = .ok (.aload_n 0, 1) := dk_42 (dk_at dksX5_breaks_0 3 rfl rfl)
theorem dX5_breaks_4 : decode cX5_breaks 4 = .ok (.getfield 186, 3) := dk_180 0 186 (dk_at dksX5_breaks_0 4 rfl rfl)
theorem dX5_breaks_7 : decode cX5_breaks 7 = .ok (.if_icmp .ge 80, 3) := dk_162 0 80 (dk_at dksX5_breaks_0 7 rfl rfl)
theorem dX5_breaks_10 : decode cX5_breaks 10 = .ok (.aload_n 0, 1) := dk_42 (dk_at dksX5_breaks_0 10 rfl rfl)
theorem dX5_breaks_11 : decode cX5_breaks 11 = .ok (.getfield 31, 3) := dk_180 0 31 (dk_at dksX5_breaks_0 11 rfl rfl)
theorem dX5_breaks_14 : decode cX5_breaks 14 = .ok (.iload_n 2, 1) := dk_28 (dk_at dksX5_breaks_0 14 rfl rfl)
theorem dX5_breaks_15 : decode cX5_breaks 15 = .ok (.iaload, 1) := dk_46 (dk_at dksX5_breaks_0 15 rfl rfl)
theorem dX5_breaks_16 : decode cX5_breaks 16 = .ok (.iload_n 1, 1) := dk_27 (dk_at dksX5_breaks_0 16 rfl rfl)
theorem dX5_breaks_17 : decode cX5_breaks 17 = .ok (.if_icmp .ne 64, 3) := dk_160 0 64 (dk_at dksX5_breaks_0 17 rfl rfl)
theorem dX5_breaks_20 : decode cX5_breaks 20 = .ok (.aload_n 0, 1) := dk_42 (dk_at dksX5_breaks_0 20 rfl rfl)
theorem dX5_breaks_21 : decode cX5_breaks 21 = .ok (.getfield 70, 3) := dk_180 0 70 (dk_at dksX5_breaks_0 21 rfl rfl)
theorem dX5_breaks_24 : decode cX5_breaks 24 = .ok (.iload_n 2, 1) := dk_28 (dk_at dksX5_breaks_1 0 rfl rfl)
theorem dX5_breaks_25 : decode cX5_breaks 25 = .ok (.iaload, 1) := dk_46 (dk_at dksX5_breaks_1 1 rfl rfl)
theorem dX5_breaks_26 : decode cX5_breaks 26 = .ok (.iconst 1, 1) := dk_4 (dk_at dksX5_breaks_1 2 rfl rfl)
theorem dX5_breaks_27 : decode cX5_breaks 27 = .ok (.if_icmp .ne 54, 3) := dk_160 0 54 (dk_at dksX5_breaks_1 3 rfl rfl)
theorem dX5_breaks_30 : decode cX5_breaks 30 = .ok (.aload_n 0, 1) := dk_42 (dk_at dksX5_breaks_1 6 rfl rfl)
theorem dX5_breaks_31 : decode cX5_breaks 31 = .ok (.getfield 22, 3) := dk_180 0 22 (dk_at dksX5_breaks_1 7 rfl rfl)
theorem dX5_breaks_34 : decode cX5_breaks 34 = .ok (.iload_n 2, 1) := dk_28 (dk_at dksX5_breaks_1 10 rfl rfl)
theorem dX5_breaks_35 : decode cX5_breaks 35 = .ok (.iaload, 1) := dk_46 (dk_at dksX5_breaks_1 11 rfl rfl)
theorem dX5_breaks_36 : decode cX5_breaks 36 = .ok (.istore_n 3, 1) := dk_62 (dk_at dksX5_breaks_1 12 rfl rfl)
theorem dX5_breaks_37 : decode cX5_breaks 37 = .ok (.aload_n 0, 1) := dk_42 (dk_at dksX5_breaks_1 13 rfl rfl)
theorem dX5_breaks_38 : decode cX5_breaks 38 = .ok (.getfield 70, 3) := dk_180 0 70 (dk_at dksX5_breaks_1 14 rfl rfl)
theorem dX5_breaks_41 : decode cX5_breaks 41 = .ok (.iload_n 2, 1) := dk_28 (dk_at dksX5_breaks_1 17 rfl rfl)
theorem dX5_breaks_42 : decode cX5_breaks 42 = .ok (.iconst 3, 1) := dk_6 (dk_at dksX5_breaks_1 18 rfl rfl)
theorem dX5_breaks_43 : decode cX5_breaks 43 = .ok (.iastore, 1) := dk_79 (dk_at dksX5_breaks_1 19 rfl rfl)
theorem dX5_breaks_44 : decode cX5_breaks 44 = .ok (.aload_n 0, 1) := dk_42 (dk_at dksX5_breaks_1 20 rfl rfl)
theorem dX5_breaks_45 : decode cX5_breaks 45 = .ok (.iload_n 3, 1) := dk_29 (dk_at dksX5_breaks_1 21 rfl rfl)
theorem dX5_breaks_46 : decode cX5_breaks 46 = .ok (.aload_n 0, 1) := dk_42 (dk_at dksX5_breaks_1 22 rfl rfl)
theorem dX5_breaks_47 : decode cX5_breaks 47 = .ok (.iload_n 2, 1) := dk_28 (dk_at dksX5_breaks_1 23 rfl rfl)
theorem dX5_breaks_48 : decode cX5_breaks 48 = .ok (.invokevirtual 198, 3) := dk_182 0 198 (dk_at dksX5_breaks_2 0 rfl rfl)
theorem dX5_breaks_51 : decode cX5_breaks 51 = .ok (.ineg, 1) := dk_116 (dk_at dksX5_breaks_2 3 rfl rfl)
theorem dX5_breaks_52 : decode cX5_breaks 52 = .ok (.aload_n 0, 1) := dk_42 (dk_at dksX5_breaks_2 4 rfl rfl)
theorem dX5_breaks_53 : decode cX5_breaks 53 = .ok (.getfield 16, 3) := dk_180 0 16 (dk_at dksX5_breaks_2 5 rfl rfl)
theorem dX5_breaks_56 : decode cX5_breaks 56 = .ok (.iload_n 3, 1) := dk_29 (dk_at dksX5_breaks_2 8 rfl rfl)
theorem dX5_breaks_57 : decode cX5_breaks 57 = .ok (.iaload, 1) := dk_46 (dk_at dksX5_breaks_2 9 rfl rfl)
theorem dX5_breaks_58 : decode cX5_breaks 58 = .ok (.iconst 2, 1) := dk_5 (dk_at dksX5_breaks_2 10 rfl rfl)
theorem dX5_breaks_59 : decode cX5_breaks 59 = .ok (.if_icmp .ne 7, 3) := dk_160 0 7 (dk_at dksX5_breaks_2 11 rfl rfl)
theorem dX5_breaks_62 : decode cX5_breaks 62 = .ok (.iconst 2, 1) := dk_5 (dk_at dksX5_breaks_2 14 rfl rfl)
theorem dX5_breaks_63 : decode cX5_breaks 63 = .ok (.goto 4, 3) := dk_167 0 4 (dk_at dksX5_breaks_2 15 rfl rfl)
theorem dX5_breaks_66 : decode cX5_breaks 66 = .ok (.iconst 0, 1) := dk_3 (dk_at dksX5_breaks_2 18 rfl rfl)
theorem dX5_breaks_67 : decode cX5_breaks 67 = .ok (.isub, 1) := dk_100 (dk_at dksX5_breaks_2 19 rfl rfl)
theorem dX5_breaks_68 : decode cX5_breaks 68 = .ok (.invokevirtual 201, 3) := dk_182 0 201 (dk_at dksX5_breaks_2 20 rfl rfl)
theorem dX5_breaks_71 : decode cX5_breaks 71 = .ok (.aload_n 0, 1) := dk_42 (dk_at dksX5_breaks_2 23 rfl rfl)
theorem dX5_breaks_72 : decode cX5_breaks 72 = .ok (.getfield 67, 3) := dk_180 0 67 (dk_at dksX5_breaks_3 0 rfl rfl)
theorem dX5_breaks_75 : decode cX5_breaks 75 = .ok (.iload_n 3, 1) := dk_29 (dk_at dksX5_breaks_3 3 rfl rfl)
theorem dX5_breaks_76 : decode cX5_breaks 76 = .ok (.dup2, 1) := dk_92 (dk_at dksX5_breaks_3 4 rfl rfl)
theorem dX5_breaks_77 : decode cX5_breaks 77 = .ok (.iaload, 1) := dk_46 (dk_at dksX5_breaks_3 5 rfl rfl)
theorem dX5_breaks_78 : decode cX5_breaks 78 = .ok (.iconst 1, 1) := dk_4 (dk_at dksX5_breaks_3 6 rfl rfl)
theorem dX5_breaks_79 : decode cX5_breaks 79 = .ok (.iadd, 1) := dk_96 (dk_at dksX5_breaks_3 7 rfl rfl)
theorem dX5_breaks_80 : decode cX5_breaks 80 = .ok (.iastore, 1) := dk_79 (dk_at dksX5_breaks_3 8 rfl rfl)
theorem dX5_breaks_81 : decode cX5_breaks 81 = .ok (.iinc 2 1, 3) := dk_132 2 1 (dk_at dksX5_breaks_3 9 rfl rfl)
theorem dX5_breaks_84 : decode cX5_breaks 84 = .ok (.goto (-82), 3) := dk_167 255 174 (dk_at dksX5_breaks_3 12 rfl rfl)
theorem dX5_breaks_87 : decode cX5_breaks 87 = .ok (.return_, 1) := dk_177 (dk_at dksX5_breaks_3 15 rfl rfl)
abbrev cX5_fitsOn : ByteArray := prog_13_method_41_code
def yX5_fitsOn : MethodName := ⟨RX5, "fitsOn", "(II)Z"⟩
def dkwX5_fitsOn_0 : List UInt8 := [42, 180, 0, 73, 16, 8, 27, 104, 28, 96, 46, 42, 180, 0, 19, 28, 46, 100, 3, 4, 184, 0, 115, 172]
abbrev dktX5_fitsOn_0 : List UInt8 := dkwX5_fitsOn_0 ++ []
theorem dksX5_fitsOn_0 : cX5_fitsOn.data.toList.drop 0 = dktX5_fitsOn_0 := by decide +kernel
theorem dX5_fitsOn_0 : decode cX5_fitsOn 0 = .ok (.aload_n 0, 1) := dk_42 (dk_at dksX5_fitsOn_0 0 rfl rfl)
theorem dX5_fitsOn_1 : decode cX5_fitsOn 1 = .ok (.getfield 73, 3) := dk_180 0 73 (dk_at dksX5_fitsOn_0 1 rfl rfl)
theorem dX5_fitsOn_4 : decode cX5_fitsOn 4 = .ok (.bipush 8, 2) := dk_16 8 (dk_at dksX5_fitsOn_0 4 rfl rfl)
theorem dX5_fitsOn_6 : decode cX5_fitsOn 6 = .ok (.iload_n 1, 1) := dk_27 (dk_at dksX5_fitsOn_0 6 rfl rfl)
theorem dX5_fitsOn_7 : decode cX5_fitsOn 7 = .ok (.imul, 1) := dk_104 (dk_at dksX5_fitsOn_0 7 rfl rfl)
theorem dX5_fitsOn_8 : decode cX5_fitsOn 8 = .ok (.iload_n 2, 1) := dk_28 (dk_at dksX5_fitsOn_0 8 rfl rfl)
theorem dX5_fitsOn_9 : decode cX5_fitsOn 9 = .ok (.iadd, 1) := dk_96 (dk_at dksX5_fitsOn_0 9 rfl rfl)
theorem dX5_fitsOn_10 : decode cX5_fitsOn 10 = .ok (.iaload, 1) := dk_46 (dk_at dksX5_fitsOn_0 10 rfl rfl)
theorem dX5_fitsOn_11 : decode cX5_fitsOn 11 = .ok (.aload_n 0, 1) := dk_42 (dk_at dksX5_fitsOn_0 11 rfl rfl)
theorem dX5_fitsOn_12 : decode cX5_fitsOn 12 = .ok (.getfield 19, 3) := dk_180 0 19 (dk_at dksX5_fitsOn_0 12 rfl rfl)
theorem dX5_fitsOn_15 : decode cX5_fitsOn 15 = .ok (.iload_n 2, 1) := dk_28 (dk_at dksX5_fitsOn_0 15 rfl rfl)
theorem dX5_fitsOn_16 : decode cX5_fitsOn 16 = .ok (.iaload, 1) := dk_46 (dk_at dksX5_fitsOn_0 16 rfl rfl)
theorem dX5_fitsOn_17 : decode cX5_fitsOn 17 = .ok (.isub, 1) := dk_100 (dk_at dksX5_fitsOn_0 17 rfl rfl)
theorem dX5_fitsOn_18 : decode cX5_fitsOn 18 = .ok (.iconst 0, 1) := dk_3 (dk_at dksX5_fitsOn_0 18 rfl rfl)
theorem dX5_fitsOn_19 : decode cX5_fitsOn 19 = .ok (.iconst 1, 1) := dk_4 (dk_at dksX5_fitsOn_0 19 rfl rfl)
theorem dX5_fitsOn_20 : decode cX5_fitsOn 20 = .ok (.invokestatic 115, 3) := dk_184 0 115 (dk_at dksX5_fitsOn_0 20 rfl rfl)
theorem dX5_fitsOn_23 : decode cX5_fitsOn 23 = .ok (.ireturn, 1) := dk_172 (dk_at dksX5_fitsOn_0 23 rfl rfl)
abbrev cX5_stands : ByteArray := prog_13_method_46_code
def yX5_stands : MethodName := ⟨RX5, "stands", "(II)I"⟩
def dkwX5_stands_1 : List UInt8 := [16, 254, 172]
abbrev dktX5_stands_1 : List UInt8 := dkwX5_stands_1 ++ []
def dkwX5_stands_0 : List UInt8 := [27, 184, 0, 162, 153, 0, 20, 42, 28, 182, 0, 156, 153, 0, 12, 42, 27, 28, 182, 0, 241, 167, 0, 5]
abbrev dktX5_stands_0 : List UInt8 := dkwX5_stands_0 ++ dktX5_stands_1
theorem dksX5_stands_0 : cX5_stands.data.toList.drop 0 = dktX5_stands_0 := by decide +kernel
theorem dksX5_stands_1 : cX5_stands.data.toList.drop 24 = dktX5_stands_1 := dk_seg dksX5_stands_0 24 rfl rfl
theorem dX5_stands_0 : decode cX5_stands 0 = .ok (.iload_n 1, 1) := dk_27 (dk_at dksX5_stands_0 0 rfl rfl)
theorem dX5_stands_1 : decode cX5_stands 1 = .ok (.invokestatic 162, 3) := dk_184 0 162 (dk_at dksX5_stands_0 1 rfl rfl)
theorem dX5_stands_4 : decode cX5_stands 4 = .ok (.ifCond .eq 20, 3) := dk_153 0 20 (dk_at dksX5_stands_0 4 rfl rfl)
theorem dX5_stands_7 : decode cX5_stands 7 = .ok (.aload_n 0, 1) := dk_42 (dk_at dksX5_stands_0 7 rfl rfl)
theorem dX5_stands_8 : decode cX5_stands 8 = .ok (.iload_n 2, 1) := dk_28 (dk_at dksX5_stands_0 8 rfl rfl)
theorem dX5_stands_9 : decode cX5_stands 9 = .ok (.invokevirtual 156, 3) := dk_182 0 156 (dk_at dksX5_stands_0 9 rfl rfl)
theorem dX5_stands_12 : decode cX5_stands 12 = .ok (.ifCond .eq 12, 3) := dk_153 0 12 (dk_at dksX5_stands_0 12 rfl rfl)
theorem dX5_stands_15 : decode cX5_stands 15 = .ok (.aload_n 0, 1) := dk_42 (dk_at dksX5_stands_0 15 rfl rfl)
theorem dX5_stands_16 : decode cX5_stands 16 = .ok (.iload_n 1, 1) := dk_27 (dk_at dksX5_stands_0 16 rfl rfl)
theorem dX5_stands_17 : decode cX5_stands 17 = .ok (.iload_n 2, 1) := dk_28 (dk_at dksX5_stands_0 17 rfl rfl)
theorem dX5_stands_18 : decode cX5_stands 18 = .ok (.invokevirtual 241, 3) := dk_182 0 241 (dk_at dksX5_stands_0 18 rfl rfl)
theorem dX5_stands_21 : decode cX5_stands 21 = .ok (.goto 5, 3) := dk_167 0 5 (dk_at dksX5_stands_0 21 rfl rfl)
theorem dX5_stands_24 : decode cX5_stands 24 = .ok (.bipush (-2), 2) := dk_16 254 (dk_at dksX5_stands_1 0 rfl rfl)
theorem dX5_stands_26 : decode cX5_stands 26 = .ok (.ireturn, 1) := dk_172 (dk_at dksX5_stands_1 2 rfl rfl)
abbrev cX5_standsOf : ByteArray := prog_13_method_45_code
def yX5_standsOf : MethodName := ⟨RX5, "standsOf", "(II)I"⟩
def dkwX5_standsOf_0 : List UInt8 := [42, 182, 0, 234, 42, 180, 0, 79, 16, 12, 27, 104, 28, 96, 46, 172]
abbrev dktX5_standsOf_0 : List UInt8 := dkwX5_standsOf_0 ++ []
theorem dksX5_standsOf_0 : cX5_standsOf.data.toList.drop 0 = dktX5_standsOf_0 := by decide +kernel
theorem dX5_standsOf_0 : decode cX5_standsOf 0 = .ok (.aload_n 0, 1) := dk_42 (dk_at dksX5_standsOf_0 0 rfl rfl)
theorem dX5_standsOf_1 : decode cX5_standsOf 1 = .ok (.invokevirtual 234, 3) := dk_182 0 234 (dk_at dksX5_standsOf_0 1 rfl rfl)
theorem dX5_standsOf_4 : decode cX5_standsOf 4 = .ok (.aload_n 0, 1) := dk_42 (dk_at dksX5_standsOf_0 4 rfl rfl)
theorem dX5_standsOf_5 : decode cX5_standsOf 5 = .ok (.getfield 79, 3) := dk_180 0 79 (dk_at dksX5_standsOf_0 5 rfl rfl)
theorem dX5_standsOf_8 : decode cX5_standsOf 8 = .ok (.bipush 12, 2) := dk_16 12 (dk_at dksX5_standsOf_0 8 rfl rfl)
theorem dX5_standsOf_10 : decode cX5_standsOf 10 = .ok (.iload_n 1, 1) := dk_27 (dk_at dksX5_standsOf_0 10 rfl rfl)
theorem dX5_standsOf_11 : decode cX5_standsOf 11 = .ok (.imul, 1) := dk_104 (dk_at dksX5_standsOf_0 11 rfl rfl)
theorem dX5_standsOf_12 : decode cX5_standsOf 12 = .ok (.iload_n 2, 1) := dk_28 (dk_at dksX5_standsOf_0 12 rfl rfl)
theorem dX5_standsOf_13 : decode cX5_standsOf 13 = .ok (.iadd, 1) := dk_96 (dk_at dksX5_standsOf_0 13 rfl rfl)
theorem dX5_standsOf_14 : decode cX5_standsOf 14 = .ok (.iaload, 1) := dk_46 (dk_at dksX5_standsOf_0 14 rfl rfl)
theorem dX5_standsOf_15 : decode cX5_standsOf 15 = .ok (.ireturn, 1) := dk_172 (dk_at dksX5_standsOf_0 15 rfl rfl)
abbrev cX5_neat : ByteArray := prog_13_method_48_code
def yX5_neat : MethodName := ⟨RX5, "neat", "(I)I"⟩
def dkwX5_neat_0 : List UInt8 := [27, 184, 0, 162, 153, 0, 11, 42, 27, 182, 0, 244, 167, 0, 5, 16, 254, 172]
abbrev dktX5_neat_0 : List UInt8 := dkwX5_neat_0 ++ []
theorem dksX5_neat_0 : cX5_neat.data.toList.drop 0 = dktX5_neat_0 := by decide +kernel
theorem dX5_neat_0 : decode cX5_neat 0 = .ok (.iload_n 1, 1) := dk_27 (dk_at dksX5_neat_0 0 rfl rfl)
theorem dX5_neat_1 : decode cX5_neat 1 = .ok (.invokestatic 162, 3) := dk_184 0 162 (dk_at dksX5_neat_0 1 rfl rfl)
theorem dX5_neat_4 : decode cX5_neat 4 = .ok (.ifCond .eq 11, 3) := dk_153 0 11 (dk_at dksX5_neat_0 4 rfl rfl)
theorem dX5_neat_7 : decode cX5_neat 7 = .ok (.aload_n 0, 1) := dk_42 (dk_at dksX5_neat_0 7 rfl rfl)
theorem dX5_neat_8 : decode cX5_neat 8 = .ok (.iload_n 1, 1) := dk_27 (dk_at dksX5_neat_0 8 rfl rfl)
theorem dX5_neat_9 : decode cX5_neat 9 = .ok (.invokevirtual 244, 3) := dk_182 0 244 (dk_at dksX5_neat_0 9 rfl rfl)
theorem dX5_neat_12 : decode cX5_neat 12 = .ok (.goto 5, 3) := dk_167 0 5 (dk_at dksX5_neat_0 12 rfl rfl)
theorem dX5_neat_15 : decode cX5_neat 15 = .ok (.bipush (-2), 2) := dk_16 254 (dk_at dksX5_neat_0 15 rfl rfl)
theorem dX5_neat_17 : decode cX5_neat 17 = .ok (.ireturn, 1) := dk_172 (dk_at dksX5_neat_0 17 rfl rfl)
abbrev cX5_neatOf : ByteArray := prog_13_method_47_code
def yX5_neatOf : MethodName := ⟨RX5, "neatOf", "(I)I"⟩
def dkwX5_neatOf_1 : List UInt8 := [153, 0, 9, 4, 29, 120, 167, 0, 4, 3, 128, 61, 132, 3, 1, 167, 255, 226, 28, 172]
abbrev dktX5_neatOf_1 : List UInt8 := dkwX5_neatOf_1 ++ []
def dkwX5_neatOf_0 : List UInt8 := [42, 182, 0, 234, 3, 61, 3, 62, 29, 42, 180, 0, 127, 162, 0, 28, 28, 42, 27, 29, 182, 0, 231]
abbrev dktX5_neatOf_0 : List UInt8 := dkwX5_neatOf_0 ++ dktX5_neatOf_1
theorem dksX5_neatOf_0 : cX5_neatOf.data.toList.drop 0 = dktX5_neatOf_0 := by decide +kernel
theorem dksX5_neatOf_1 : cX5_neatOf.data.toList.drop 23 = dktX5_neatOf_1 := dk_seg dksX5_neatOf_0 23 rfl rfl
theorem dX5_neatOf_0 : decode cX5_neatOf 0 = .ok (.aload_n 0, 1) := dk_42 (dk_at dksX5_neatOf_0 0 rfl rfl)
theorem dX5_neatOf_1 : decode cX5_neatOf 1 = .ok (.invokevirtual 234, 3) := dk_182 0 234 (dk_at dksX5_neatOf_0 1 rfl rfl)
theorem dX5_neatOf_4 : decode cX5_neatOf 4 = .ok (.iconst 0, 1) := dk_3 (dk_at dksX5_neatOf_0 4 rfl rfl)
theorem dX5_neatOf_5 : decode cX5_neatOf 5 = .ok (.istore_n 2, 1) := dk_61 (dk_at dksX5_neatOf_0 5 rfl rfl)
theorem dX5_neatOf_6 : decode cX5_neatOf 6 = .ok (.iconst 0, 1) := dk_3 (dk_at dksX5_neatOf_0 6 rfl rfl)
theorem dX5_neatOf_7 : decode cX5_neatOf 7 = .ok (.istore_n 3, 1) := dk_62 (dk_at dksX5_neatOf_0 7 rfl rfl)
theorem dX5_neatOf_8 : decode cX5_neatOf 8 = .ok (.iload_n 3, 1) := dk_29 (dk_at dksX5_neatOf_0 8 rfl rfl)
theorem dX5_neatOf_9 : decode cX5_neatOf 9 = .ok (.aload_n 0, 1) := dk_42 (dk_at dksX5_neatOf_0 9 rfl rfl)
theorem dX5_neatOf_10 : decode cX5_neatOf 10 = .ok (.getfield 127, 3) := dk_180 0 127 (dk_at dksX5_neatOf_0 10 rfl rfl)
theorem dX5_neatOf_13 : decode cX5_neatOf 13 = .ok (.if_icmp .ge 28, 3) := dk_162 0 28 (dk_at dksX5_neatOf_0 13 rfl rfl)
theorem dX5_neatOf_16 : decode cX5_neatOf 16 = .ok (.iload_n 2, 1) := dk_28 (dk_at dksX5_neatOf_0 16 rfl rfl)
theorem dX5_neatOf_17 : decode cX5_neatOf 17 = .ok (.aload_n 0, 1) := dk_42 (dk_at dksX5_neatOf_0 17 rfl rfl)
theorem dX5_neatOf_18 : decode cX5_neatOf 18 = .ok (.iload_n 1, 1) := dk_27 (dk_at dksX5_neatOf_0 18 rfl rfl)
theorem dX5_neatOf_19 : decode cX5_neatOf 19 = .ok (.iload_n 3, 1) := dk_29 (dk_at dksX5_neatOf_0 19 rfl rfl)
theorem dX5_neatOf_20 : decode cX5_neatOf 20 = .ok (.invokevirtual 231, 3) := dk_182 0 231 (dk_at dksX5_neatOf_0 20 rfl rfl)
theorem dX5_neatOf_23 : decode cX5_neatOf 23 = .ok (.ifCond .eq 9, 3) := dk_153 0 9 (dk_at dksX5_neatOf_1 0 rfl rfl)
theorem dX5_neatOf_26 : decode cX5_neatOf 26 = .ok (.iconst 1, 1) := dk_4 (dk_at dksX5_neatOf_1 3 rfl rfl)
theorem dX5_neatOf_27 : decode cX5_neatOf 27 = .ok (.iload_n 3, 1) := dk_29 (dk_at dksX5_neatOf_1 4 rfl rfl)
theorem dX5_neatOf_28 : decode cX5_neatOf 28 = .ok (.ishl, 1) := dk_120 (dk_at dksX5_neatOf_1 5 rfl rfl)
theorem dX5_neatOf_29 : decode cX5_neatOf 29 = .ok (.goto 4, 3) := dk_167 0 4 (dk_at dksX5_neatOf_1 6 rfl rfl)
theorem dX5_neatOf_32 : decode cX5_neatOf 32 = .ok (.iconst 0, 1) := dk_3 (dk_at dksX5_neatOf_1 9 rfl rfl)
theorem dX5_neatOf_33 : decode cX5_neatOf 33 = .ok (.ior, 1) := dk_128 (dk_at dksX5_neatOf_1 10 rfl rfl)
theorem dX5_neatOf_34 : decode cX5_neatOf 34 = .ok (.istore_n 2, 1) := dk_61 (dk_at dksX5_neatOf_1 11 rfl rfl)
theorem dX5_neatOf_35 : decode cX5_neatOf 35 = .ok (.iinc 3 1, 3) := dk_132 3 1 (dk_at dksX5_neatOf_1 12 rfl rfl)
theorem dX5_neatOf_38 : decode cX5_neatOf 38 = .ok (.goto (-30), 3) := dk_167 255 226 (dk_at dksX5_neatOf_1 15 rfl rfl)
theorem dX5_neatOf_41 : decode cX5_neatOf 41 = .ok (.iload_n 2, 1) := dk_28 (dk_at dksX5_neatOf_1 18 rfl rfl)
theorem dX5_neatOf_42 : decode cX5_neatOf 42 = .ok (.ireturn, 1) := dk_172 (dk_at dksX5_neatOf_1 19 rfl rfl)
abbrev cX5_naked : ByteArray := prog_13_method_51_code
def yX5_naked : MethodName := ⟨RX5, "naked", "(I)I"⟩
def dkwX5_naked_0 : List UInt8 := [27, 184, 0, 162, 153, 0, 11, 42, 27, 182, 0, 250, 167, 0, 5, 16, 254, 172]
abbrev dktX5_naked_0 : List UInt8 := dkwX5_naked_0 ++ []
theorem dksX5_naked_0 : cX5_naked.data.toList.drop 0 = dktX5_naked_0 := by decide +kernel
theorem dX5_naked_0 : decode cX5_naked 0 = .ok (.iload_n 1, 1) := dk_27 (dk_at dksX5_naked_0 0 rfl rfl)
theorem dX5_naked_1 : decode cX5_naked 1 = .ok (.invokestatic 162, 3) := dk_184 0 162 (dk_at dksX5_naked_0 1 rfl rfl)
theorem dX5_naked_4 : decode cX5_naked 4 = .ok (.ifCond .eq 11, 3) := dk_153 0 11 (dk_at dksX5_naked_0 4 rfl rfl)
theorem dX5_naked_7 : decode cX5_naked 7 = .ok (.aload_n 0, 1) := dk_42 (dk_at dksX5_naked_0 7 rfl rfl)
theorem dX5_naked_8 : decode cX5_naked 8 = .ok (.iload_n 1, 1) := dk_27 (dk_at dksX5_naked_0 8 rfl rfl)
theorem dX5_naked_9 : decode cX5_naked 9 = .ok (.invokevirtual 250, 3) := dk_182 0 250 (dk_at dksX5_naked_0 9 rfl rfl)
theorem dX5_naked_12 : decode cX5_naked 12 = .ok (.goto 5, 3) := dk_167 0 5 (dk_at dksX5_naked_0 12 rfl rfl)
theorem dX5_naked_15 : decode cX5_naked 15 = .ok (.bipush (-2), 2) := dk_16 254 (dk_at dksX5_naked_0 15 rfl rfl)
theorem dX5_naked_17 : decode cX5_naked 17 = .ok (.ireturn, 1) := dk_172 (dk_at dksX5_naked_0 17 rfl rfl)
abbrev cX5_nakedOf : ByteArray := prog_13_method_50_code
def yX5_nakedOf : MethodName := ⟨RX5, "nakedOf", "(I)I"⟩
def dkwX5_nakedOf_0 : List UInt8 := [42, 182, 0, 234, 42, 27, 182, 0, 247, 172]
abbrev dktX5_nakedOf_0 : List UInt8 := dkwX5_nakedOf_0 ++ []
theorem dksX5_nakedOf_0 : cX5_nakedOf.data.toList.drop 0 = dktX5_nakedOf_0 := by decide +kernel
theorem dX5_nakedOf_0 : decode cX5_nakedOf 0 = .ok (.aload_n 0, 1) := dk_42 (dk_at dksX5_nakedOf_0 0 rfl rfl)
theorem dX5_nakedOf_1 : decode cX5_nakedOf 1 = .ok (.invokevirtual 234, 3) := dk_182 0 234 (dk_at dksX5_nakedOf_0 1 rfl rfl)
theorem dX5_nakedOf_4 : decode cX5_nakedOf 4 = .ok (.aload_n 0, 1) := dk_42 (dk_at dksX5_nakedOf_0 4 rfl rfl)
theorem dX5_nakedOf_5 : decode cX5_nakedOf 5 = .ok (.iload_n 1, 1) := dk_27 (dk_at dksX5_nakedOf_0 5 rfl rfl)
theorem dX5_nakedOf_6 : decode cX5_nakedOf 6 = .ok (.invokevirtual 247, 3) := dk_182 0 247 (dk_at dksX5_nakedOf_0 6 rfl rfl)
theorem dX5_nakedOf_9 : decode cX5_nakedOf 9 = .ok (.ireturn, 1) := dk_172 (dk_at dksX5_nakedOf_0 9 rfl rfl)
abbrev cX5_nakedNow : ByteArray := prog_13_method_49_code
def yX5_nakedNow : MethodName := ⟨RX5, "nakedNow", "(I)I"⟩
def dkwX5_nakedNow_1 : List UInt8 := [154, 0, 9, 4, 29, 120, 167, 0, 4, 3, 128, 61, 132, 3, 1, 167, 255, 221, 28, 172]
abbrev dktX5_nakedNow_1 : List UInt8 := dkwX5_nakedNow_1 ++ []
def dkwX5_nakedNow_0 : List UInt8 := [3, 61, 3, 62, 29, 42, 180, 0, 127, 162, 0, 33, 28, 42, 180, 0, 73, 16, 8, 27, 104, 29, 96, 46]
abbrev dktX5_nakedNow_0 : List UInt8 := dkwX5_nakedNow_0 ++ dktX5_nakedNow_1
theorem dksX5_nakedNow_0 : cX5_nakedNow.data.toList.drop 0 = dktX5_nakedNow_0 := by decide +kernel
theorem dksX5_nakedNow_1 : cX5_nakedNow.data.toList.drop 24 = dktX5_nakedNow_1 := dk_seg dksX5_nakedNow_0 24 rfl rfl
theorem dX5_nakedNow_0 : decode cX5_nakedNow 0 = .ok (.iconst 0, 1) := dk_3 (dk_at dksX5_nakedNow_0 0 rfl rfl)
theorem dX5_nakedNow_1 : decode cX5_nakedNow 1 = .ok (.istore_n 2, 1) := dk_61 (dk_at dksX5_nakedNow_0 1 rfl rfl)
theorem dX5_nakedNow_2 : decode cX5_nakedNow 2 = .ok (.iconst 0, 1) := dk_3 (dk_at dksX5_nakedNow_0 2 rfl rfl)
theorem dX5_nakedNow_3 : decode cX5_nakedNow 3 = .ok (.istore_n 3, 1) := dk_62 (dk_at dksX5_nakedNow_0 3 rfl rfl)
theorem dX5_nakedNow_4 : decode cX5_nakedNow 4 = .ok (.iload_n 3, 1) := dk_29 (dk_at dksX5_nakedNow_0 4 rfl rfl)
theorem dX5_nakedNow_5 : decode cX5_nakedNow 5 = .ok (.aload_n 0, 1) := dk_42 (dk_at dksX5_nakedNow_0 5 rfl rfl)
theorem dX5_nakedNow_6 : decode cX5_nakedNow 6 = .ok (.getfield 127, 3) := dk_180 0 127 (dk_at dksX5_nakedNow_0 6 rfl rfl)
theorem dX5_nakedNow_9 : decode cX5_nakedNow 9 = .ok (.if_icmp .ge 33, 3) := dk_162 0 33 (dk_at dksX5_nakedNow_0 9 rfl rfl)
theorem dX5_nakedNow_12 : decode cX5_nakedNow 12 = .ok (.iload_n 2, 1) := dk_28 (dk_at dksX5_nakedNow_0 12 rfl rfl)
theorem dX5_nakedNow_13 : decode cX5_nakedNow 13 = .ok (.aload_n 0, 1) := dk_42 (dk_at dksX5_nakedNow_0 13 rfl rfl)
theorem dX5_nakedNow_14 : decode cX5_nakedNow 14 = .ok (.getfield 73, 3) := dk_180 0 73 (dk_at dksX5_nakedNow_0 14 rfl rfl)
theorem dX5_nakedNow_17 : decode cX5_nakedNow 17 = .ok (.bipush 8, 2) := dk_16 8 (dk_at dksX5_nakedNow_0 17 rfl rfl)
theorem dX5_nakedNow_19 : decode cX5_nakedNow 19 = .ok (.iload_n 1, 1) := dk_27 (dk_at dksX5_nakedNow_0 19 rfl rfl)
theorem dX5_nakedNow_20 : decode cX5_nakedNow 20 = .ok (.imul, 1) := dk_104 (dk_at dksX5_nakedNow_0 20 rfl rfl)
theorem dX5_nakedNow_21 : decode cX5_nakedNow 21 = .ok (.iload_n 3, 1) := dk_29 (dk_at dksX5_nakedNow_0 21 rfl rfl)
theorem dX5_nakedNow_22 : decode cX5_nakedNow 22 = .ok (.iadd, 1) := dk_96 (dk_at dksX5_nakedNow_0 22 rfl rfl)
theorem dX5_nakedNow_23 : decode cX5_nakedNow 23 = .ok (.iaload, 1) := dk_46 (dk_at dksX5_nakedNow_0 23 rfl rfl)
theorem dX5_nakedNow_24 : decode cX5_nakedNow 24 = .ok (.ifCond .ne 9, 3) := dk_154 0 9 (dk_at dksX5_nakedNow_1 0 rfl rfl)
theorem dX5_nakedNow_27 : decode cX5_nakedNow 27 = .ok (.iconst 1, 1) := dk_4 (dk_at dksX5_nakedNow_1 3 rfl rfl)
theorem dX5_nakedNow_28 : decode cX5_nakedNow 28 = .ok (.iload_n 3, 1) := dk_29 (dk_at dksX5_nakedNow_1 4 rfl rfl)
theorem dX5_nakedNow_29 : decode cX5_nakedNow 29 = .ok (.ishl, 1) := dk_120 (dk_at dksX5_nakedNow_1 5 rfl rfl)
theorem dX5_nakedNow_30 : decode cX5_nakedNow 30 = .ok (.goto 4, 3) := dk_167 0 4 (dk_at dksX5_nakedNow_1 6 rfl rfl)
theorem dX5_nakedNow_33 : decode cX5_nakedNow 33 = .ok (.iconst 0, 1) := dk_3 (dk_at dksX5_nakedNow_1 9 rfl rfl)
theorem dX5_nakedNow_34 : decode cX5_nakedNow 34 = .ok (.ior, 1) := dk_128 (dk_at dksX5_nakedNow_1 10 rfl rfl)
theorem dX5_nakedNow_35 : decode cX5_nakedNow 35 = .ok (.istore_n 2, 1) := dk_61 (dk_at dksX5_nakedNow_1 11 rfl rfl)
theorem dX5_nakedNow_36 : decode cX5_nakedNow 36 = .ok (.iinc 3 1, 3) := dk_132 3 1 (dk_at dksX5_nakedNow_1 12 rfl rfl)
theorem dX5_nakedNow_39 : decode cX5_nakedNow 39 = .ok (.goto (-35), 3) := dk_167 255 221 (dk_at dksX5_nakedNow_1 15 rfl rfl)
theorem dX5_nakedNow_42 : decode cX5_nakedNow 42 = .ok (.iload_n 2, 1) := dk_28 (dk_at dksX5_nakedNow_1 18 rfl rfl)
theorem dX5_nakedNow_43 : decode cX5_nakedNow 43 = .ok (.ireturn, 1) := dk_172 (dk_at dksX5_nakedNow_1 19 rfl rfl)
abbrev cX5_longest : ByteArray := prog_13_method_53_code
def yX5_longest : MethodName := ⟨RX5, "longest", "(I)I"⟩
def dkwX5_longest_0 : List UInt8 := [27, 184, 0, 162, 153, 0, 11, 42, 27, 182, 0, 253, 167, 0, 5, 16, 254, 172]
abbrev dktX5_longest_0 : List UInt8 := dkwX5_longest_0 ++ []
theorem dksX5_longest_0 : cX5_longest.data.toList.drop 0 = dktX5_longest_0 := by decide +kernel
theorem dX5_longest_0 : decode cX5_longest 0 = .ok (.iload_n 1, 1) := dk_27 (dk_at dksX5_longest_0 0 rfl rfl)
theorem dX5_longest_1 : decode cX5_longest 1 = .ok (.invokestatic 162, 3) := dk_184 0 162 (dk_at dksX5_longest_0 1 rfl rfl)
theorem dX5_longest_4 : decode cX5_longest 4 = .ok (.ifCond .eq 11, 3) := dk_153 0 11 (dk_at dksX5_longest_0 4 rfl rfl)
theorem dX5_longest_7 : decode cX5_longest 7 = .ok (.aload_n 0, 1) := dk_42 (dk_at dksX5_longest_0 7 rfl rfl)
theorem dX5_longest_8 : decode cX5_longest 8 = .ok (.iload_n 1, 1) := dk_27 (dk_at dksX5_longest_0 8 rfl rfl)
theorem dX5_longest_9 : decode cX5_longest 9 = .ok (.invokevirtual 253, 3) := dk_182 0 253 (dk_at dksX5_longest_0 9 rfl rfl)
theorem dX5_longest_12 : decode cX5_longest 12 = .ok (.goto 5, 3) := dk_167 0 5 (dk_at dksX5_longest_0 12 rfl rfl)
theorem dX5_longest_15 : decode cX5_longest 15 = .ok (.bipush (-2), 2) := dk_16 254 (dk_at dksX5_longest_0 15 rfl rfl)
theorem dX5_longest_17 : decode cX5_longest 17 = .ok (.ireturn, 1) := dk_172 (dk_at dksX5_longest_0 17 rfl rfl)
abbrev cX5_longestOf : ByteArray := prog_13_method_52_code
def yX5_longestOf : MethodName := ⟨RX5, "longestOf", "(I)I"⟩
def dkwX5_longestOf_2 : List UInt8 := [29, 167, 0, 4, 28, 61, 132, 3, 1, 167, 255, 209, 28, 172]
abbrev dktX5_longestOf_2 : List UInt8 := dkwX5_longestOf_2 ++ []
def dkwX5_longestOf_1 : List UInt8 := [180, 0, 73, 16, 8, 27, 104, 29, 96, 46, 42, 180, 0, 73, 16, 8, 27, 104, 28, 96, 46, 164, 0, 7]
abbrev dktX5_longestOf_1 : List UInt8 := dkwX5_longestOf_1 ++ dktX5_longestOf_2
def dkwX5_longestOf_0 : List UInt8 := [42, 182, 0, 234, 2, 61, 3, 62, 29, 42, 180, 0, 127, 162, 0, 45, 28, 2, 159, 0, 28, 42]
abbrev dktX5_longestOf_0 : List UInt8 := dkwX5_longestOf_0 ++ dktX5_longestOf_1
theorem dksX5_longestOf_0 : cX5_longestOf.data.toList.drop 0 = dktX5_longestOf_0 := by decide +kernel
theorem dksX5_longestOf_1 : cX5_longestOf.data.toList.drop 22 = dktX5_longestOf_1 := dk_seg dksX5_longestOf_0 22 rfl rfl
theorem dksX5_longestOf_2 : cX5_longestOf.data.toList.drop 46 = dktX5_longestOf_2 := dk_seg dksX5_longestOf_1 24 rfl rfl
theorem dX5_longestOf_0 : decode cX5_longestOf 0 = .ok (.aload_n 0, 1) := dk_42 (dk_at dksX5_longestOf_0 0 rfl rfl)
theorem dX5_longestOf_1 : decode cX5_longestOf 1 = .ok (.invokevirtual 234, 3) := dk_182 0 234 (dk_at dksX5_longestOf_0 1 rfl rfl)
theorem dX5_longestOf_4 : decode cX5_longestOf 4 = .ok (.iconst (-1), 1) := dk_2 (dk_at dksX5_longestOf_0 4 rfl rfl)
theorem dX5_longestOf_5 : decode cX5_longestOf 5 = .ok (.istore_n 2, 1) := dk_61 (dk_at dksX5_longestOf_0 5 rfl rfl)
theorem dX5_longestOf_6 : decode cX5_longestOf 6 = .ok (.iconst 0, 1) := dk_3 (dk_at dksX5_longestOf_0 6 rfl rfl)
theorem dX5_longestOf_7 : decode cX5_longestOf 7 = .ok (.istore_n 3, 1) := dk_62 (dk_at dksX5_longestOf_0 7 rfl rfl)
theorem dX5_longestOf_8 : decode cX5_longestOf 8 = .ok (.iload_n 3, 1) := dk_29 (dk_at dksX5_longestOf_0 8 rfl rfl)
theorem dX5_longestOf_9 : decode cX5_longestOf 9 = .ok (.aload_n 0, 1) := dk_42 (dk_at dksX5_longestOf_0 9 rfl rfl)
theorem dX5_longestOf_10 : decode cX5_longestOf 10 = .ok (.getfield 127, 3) := dk_180 0 127 (dk_at dksX5_longestOf_0 10 rfl rfl)
theorem dX5_longestOf_13 : decode cX5_longestOf 13 = .ok (.if_icmp .ge 45, 3) := dk_162 0 45 (dk_at dksX5_longestOf_0 13 rfl rfl)
theorem dX5_longestOf_16 : decode cX5_longestOf 16 = .ok (.iload_n 2, 1) := dk_28 (dk_at dksX5_longestOf_0 16 rfl rfl)
theorem dX5_longestOf_17 : decode cX5_longestOf 17 = .ok (.iconst (-1), 1) := dk_2 (dk_at dksX5_longestOf_0 17 rfl rfl)
theorem dX5_longestOf_18 : decode cX5_longestOf 18 = .ok (.if_icmp .eq 28, 3) := dk_159 0 28 (dk_at dksX5_longestOf_0 18 rfl rfl)
theorem dX5_longestOf_21 : decode cX5_longestOf 21 = .ok (.aload_n 0, 1) := dk_42 (dk_at dksX5_longestOf_0 21 rfl rfl)
theorem dX5_longestOf_22 : decode cX5_longestOf 22 = .ok (.getfield 73, 3) := dk_180 0 73 (dk_at dksX5_longestOf_1 0 rfl rfl)
theorem dX5_longestOf_25 : decode cX5_longestOf 25 = .ok (.bipush 8, 2) := dk_16 8 (dk_at dksX5_longestOf_1 3 rfl rfl)
theorem dX5_longestOf_27 : decode cX5_longestOf 27 = .ok (.iload_n 1, 1) := dk_27 (dk_at dksX5_longestOf_1 5 rfl rfl)
theorem dX5_longestOf_28 : decode cX5_longestOf 28 = .ok (.imul, 1) := dk_104 (dk_at dksX5_longestOf_1 6 rfl rfl)
theorem dX5_longestOf_29 : decode cX5_longestOf 29 = .ok (.iload_n 3, 1) := dk_29 (dk_at dksX5_longestOf_1 7 rfl rfl)
theorem dX5_longestOf_30 : decode cX5_longestOf 30 = .ok (.iadd, 1) := dk_96 (dk_at dksX5_longestOf_1 8 rfl rfl)
theorem dX5_longestOf_31 : decode cX5_longestOf 31 = .ok (.iaload, 1) := dk_46 (dk_at dksX5_longestOf_1 9 rfl rfl)
theorem dX5_longestOf_32 : decode cX5_longestOf 32 = .ok (.aload_n 0, 1) := dk_42 (dk_at dksX5_longestOf_1 10 rfl rfl)
theorem dX5_longestOf_33 : decode cX5_longestOf 33 = .ok (.getfield 73, 3) := dk_180 0 73 (dk_at dksX5_longestOf_1 11 rfl rfl)
theorem dX5_longestOf_36 : decode cX5_longestOf 36 = .ok (.bipush 8, 2) := dk_16 8 (dk_at dksX5_longestOf_1 14 rfl rfl)
theorem dX5_longestOf_38 : decode cX5_longestOf 38 = .ok (.iload_n 1, 1) := dk_27 (dk_at dksX5_longestOf_1 16 rfl rfl)
theorem dX5_longestOf_39 : decode cX5_longestOf 39 = .ok (.imul, 1) := dk_104 (dk_at dksX5_longestOf_1 17 rfl rfl)
theorem dX5_longestOf_40 : decode cX5_longestOf 40 = .ok (.iload_n 2, 1) := dk_28 (dk_at dksX5_longestOf_1 18 rfl rfl)
theorem dX5_longestOf_41 : decode cX5_longestOf 41 = .ok (.iadd, 1) := dk_96 (dk_at dksX5_longestOf_1 19 rfl rfl)
theorem dX5_longestOf_42 : decode cX5_longestOf 42 = .ok (.iaload, 1) := dk_46 (dk_at dksX5_longestOf_1 20 rfl rfl)
theorem dX5_longestOf_43 : decode cX5_longestOf 43 = .ok (.if_icmp .le 7, 3) := dk_164 0 7 (dk_at dksX5_longestOf_1 21 rfl rfl)
theorem dX5_longestOf_46 : decode cX5_longestOf 46 = .ok (.iload_n 3, 1) := dk_29 (dk_at dksX5_longestOf_2 0 rfl rfl)
theorem dX5_longestOf_47 : decode cX5_longestOf 47 = .ok (.goto 4, 3) := dk_167 0 4 (dk_at dksX5_longestOf_2 1 rfl rfl)
theorem dX5_longestOf_50 : decode cX5_longestOf 50 = .ok (.iload_n 2, 1) := dk_28 (dk_at dksX5_longestOf_2 4 rfl rfl)
theorem dX5_longestOf_51 : decode cX5_longestOf 51 = .ok (.istore_n 2, 1) := dk_61 (dk_at dksX5_longestOf_2 5 rfl rfl)
theorem dX5_longestOf_52 : decode cX5_longestOf 52 = .ok (.iinc 3 1, 3) := dk_132 3 1 (dk_at dksX5_longestOf_2 6 rfl rfl)
theorem dX5_longestOf_55 : decode cX5_longestOf 55 = .ok (.goto (-47), 3) := dk_167 255 209 (dk_at dksX5_longestOf_2 9 rfl rfl)
theorem dX5_longestOf_58 : decode cX5_longestOf 58 = .ok (.iload_n 2, 1) := dk_28 (dk_at dksX5_longestOf_2 12 rfl rfl)
theorem dX5_longestOf_59 : decode cX5_longestOf 59 = .ok (.ireturn, 1) := dk_172 (dk_at dksX5_longestOf_2 13 rfl rfl)
abbrev cX5_splits : ByteArray := prog_13_method_56_code
def yX5_splits : MethodName := ⟨RX5, "splits", "()I"⟩
theorem dX5_splits_0 : decode cX5_splits 0 = .ok (.aload_n 0, 1) := by decide +kernel
theorem dX5_splits_1 : decode cX5_splits 1 = .ok (.invokevirtual 260, 3) := by decide +kernel
theorem dX5_splits_4 : decode cX5_splits 4 = .ok (.ireturn, 1) := by decide +kernel
abbrev cX5_splitsOf : ByteArray := prog_13_method_55_code
def yX5_splitsOf : MethodName := ⟨RX5, "splitsOf", "()I"⟩
def dkwX5_splitsOf_0 : List UInt8 := [42, 182, 0, 234, 42, 182, 1, 0, 172]
abbrev dktX5_splitsOf_0 : List UInt8 := dkwX5_splitsOf_0 ++ []
theorem dksX5_splitsOf_0 : cX5_splitsOf.data.toList.drop 0 = dktX5_splitsOf_0 := by decide +kernel
theorem dX5_splitsOf_0 : decode cX5_splitsOf 0 = .ok (.aload_n 0, 1) := dk_42 (dk_at dksX5_splitsOf_0 0 rfl rfl)
theorem dX5_splitsOf_1 : decode cX5_splitsOf 1 = .ok (.invokevirtual 234, 3) := dk_182 0 234 (dk_at dksX5_splitsOf_0 1 rfl rfl)
theorem dX5_splitsOf_4 : decode cX5_splitsOf 4 = .ok (.aload_n 0, 1) := dk_42 (dk_at dksX5_splitsOf_0 4 rfl rfl)
theorem dX5_splitsOf_5 : decode cX5_splitsOf 5 = .ok (.invokevirtual 256, 3) := dk_182 1 0 (dk_at dksX5_splitsOf_0 5 rfl rfl)
theorem dX5_splitsOf_8 : decode cX5_splitsOf 8 = .ok (.ireturn, 1) := dk_172 (dk_at dksX5_splitsOf_0 8 rfl rfl)
abbrev cX5_tearsAll : ByteArray := prog_13_method_54_code
def yX5_tearsAll : MethodName := ⟨RX5, "tearsAll", "()I"⟩
def dkwX5_tearsAll_1 : List UInt8 := [167, 255, 236, 27, 172]
abbrev dktX5_tearsAll_1 : List UInt8 := dkwX5_tearsAll_1 ++ []
def dkwX5_tearsAll_0 : List UInt8 := [3, 60, 3, 61, 28, 42, 180, 0, 127, 162, 0, 18, 27, 42, 180, 0, 67, 28, 46, 96, 60, 132, 2, 1]
abbrev dktX5_tearsAll_0 : List UInt8 := dkwX5_tearsAll_0 ++ dktX5_tearsAll_1
theorem dksX5_tearsAll_0 : cX5_tearsAll.data.toList.drop 0 = dktX5_tearsAll_0 := by decide +kernel
theorem dksX5_tearsAll_1 : cX5_tearsAll.data.toList.drop 24 = dktX5_tearsAll_1 := dk_seg dksX5_tearsAll_0 24 rfl rfl
theorem dX5_tearsAll_0 : decode cX5_tearsAll 0 = .ok (.iconst 0, 1) := dk_3 (dk_at dksX5_tearsAll_0 0 rfl rfl)
theorem dX5_tearsAll_1 : decode cX5_tearsAll 1 = .ok (.istore_n 1, 1) := dk_60 (dk_at dksX5_tearsAll_0 1 rfl rfl)
theorem dX5_tearsAll_2 : decode cX5_tearsAll 2 = .ok (.iconst 0, 1) := dk_3 (dk_at dksX5_tearsAll_0 2 rfl rfl)
theorem dX5_tearsAll_3 : decode cX5_tearsAll 3 = .ok (.istore_n 2, 1) := dk_61 (dk_at dksX5_tearsAll_0 3 rfl rfl)
theorem dX5_tearsAll_4 : decode cX5_tearsAll 4 = .ok (.iload_n 2, 1) := dk_28 (dk_at dksX5_tearsAll_0 4 rfl rfl)
theorem dX5_tearsAll_5 : decode cX5_tearsAll 5 = .ok (.aload_n 0, 1) := dk_42 (dk_at dksX5_tearsAll_0 5 rfl rfl)
theorem dX5_tearsAll_6 : decode cX5_tearsAll 6 = .ok (.getfield 127, 3) := dk_180 0 127 (dk_at dksX5_tearsAll_0 6 rfl rfl)
theorem dX5_tearsAll_9 : decode cX5_tearsAll 9 = .ok (.if_icmp .ge 18, 3) := dk_162 0 18 (dk_at dksX5_tearsAll_0 9 rfl rfl)
theorem dX5_tearsAll_12 : decode cX5_tearsAll 12 = .ok (.iload_n 1, 1) := dk_27 (dk_at dksX5_tearsAll_0 12 rfl rfl)
theorem dX5_tearsAll_13 : decode cX5_tearsAll 13 = .ok (.aload_n 0, 1) := dk_42 (dk_at dksX5_tearsAll_0 13 rfl rfl)
theorem dX5_tearsAll_14 : decode cX5_tearsAll 14 = .ok (.getfield 67, 3) := dk_180 0 67 (dk_at dksX5_tearsAll_0 14 rfl rfl)
theorem dX5_tearsAll_17 : decode cX5_tearsAll 17 = .ok (.iload_n 2, 1) := dk_28 (dk_at dksX5_tearsAll_0 17 rfl rfl)
theorem dX5_tearsAll_18 : decode cX5_tearsAll 18 = .ok (.iaload, 1) := dk_46 (dk_at dksX5_tearsAll_0 18 rfl rfl)
theorem dX5_tearsAll_19 : decode cX5_tearsAll 19 = .ok (.iadd, 1) := dk_96 (dk_at dksX5_tearsAll_0 19 rfl rfl)
theorem dX5_tearsAll_20 : decode cX5_tearsAll 20 = .ok (.istore_n 1, 1) := dk_60 (dk_at dksX5_tearsAll_0 20 rfl rfl)
theorem dX5_tearsAll_21 : decode cX5_tearsAll 21 = .ok (.iinc 2 1, 3) := dk_132 2 1 (dk_at dksX5_tearsAll_0 21 rfl rfl)
theorem dX5_tearsAll_24 : decode cX5_tearsAll 24 = .ok (.goto (-20), 3) := dk_167 255 236 (dk_at dksX5_tearsAll_1 0 rfl rfl)
theorem dX5_tearsAll_27 : decode cX5_tearsAll 27 = .ok (.iload_n 1, 1) := dk_27 (dk_at dksX5_tearsAll_1 3 rfl rfl)
theorem dX5_tearsAll_28 : decode cX5_tearsAll 28 = .ok (.ireturn, 1) := dk_172 (dk_at dksX5_tearsAll_1 4 rfl rfl)
abbrev cX5_best : ByteArray := prog_13_method_58_code
def yX5_best : MethodName := ⟨RX5, "best", "()I"⟩
theorem dX5_best_0 : decode cX5_best 0 = .ok (.aload_n 0, 1) := by decide +kernel
theorem dX5_best_1 : decode cX5_best 1 = .ok (.invokevirtual 266, 3) := by decide +kernel
theorem dX5_best_4 : decode cX5_best 4 = .ok (.ireturn, 1) := by decide +kernel
abbrev cX5_bestNow : ByteArray := prog_13_method_57_code
def yX5_bestNow : MethodName := ⟨RX5, "bestNow", "()I"⟩
def dkwX5_bestNow_2 : List UInt8 := [167, 0, 4, 27, 172]
abbrev dktX5_bestNow_2 : List UInt8 := dkwX5_bestNow_2 ++ []
def dkwX5_bestNow_1 : List UInt8 := [164, 0, 7, 28, 167, 0, 4, 27, 60, 132, 2, 1, 167, 255, 228, 42, 180, 0, 127, 154, 0, 7, 2]
abbrev dktX5_bestNow_1 : List UInt8 := dkwX5_bestNow_1 ++ dktX5_bestNow_2
def dkwX5_bestNow_0 : List UInt8 := [42, 182, 0, 234, 3, 60, 4, 61, 28, 16, 24, 162, 0, 28, 42, 28, 182, 1, 7, 42, 27, 182, 1, 7]
abbrev dktX5_bestNow_0 : List UInt8 := dkwX5_bestNow_0 ++ dktX5_bestNow_1
theorem dksX5_bestNow_0 : cX5_bestNow.data.toList.drop 0 = dktX5_bestNow_0 := by decide +kernel
theorem dksX5_bestNow_1 : cX5_bestNow.data.toList.drop 24 = dktX5_bestNow_1 := dk_seg dksX5_bestNow_0 24 rfl rfl
theorem dksX5_bestNow_2 : cX5_bestNow.data.toList.drop 47 = dktX5_bestNow_2 := dk_seg dksX5_bestNow_1 23 rfl rfl
theorem dX5_bestNow_0 : decode cX5_bestNow 0 = .ok (.aload_n 0, 1) := dk_42 (dk_at dksX5_bestNow_0 0 rfl rfl)
theorem dX5_bestNow_1 : decode cX5_bestNow 1 = .ok (.invokevirtual 234, 3) := dk_182 0 234 (dk_at dksX5_bestNow_0 1 rfl rfl)
theorem dX5_bestNow_4 : decode cX5_bestNow 4 = .ok (.iconst 0, 1) := dk_3 (dk_at dksX5_bestNow_0 4 rfl rfl)
theorem dX5_bestNow_5 : decode cX5_bestNow 5 = .ok (.istore_n 1, 1) := dk_60 (dk_at dksX5_bestNow_0 5 rfl rfl)
theorem dX5_bestNow_6 : decode cX5_bestNow 6 = .ok (.iconst 1, 1) := dk_4 (dk_at dksX5_bestNow_0 6 rfl rfl)
theorem dX5_bestNow_7 : decode cX5_bestNow 7 = .ok (.istore_n 2, 1) := dk_61 (dk_at dksX5_bestNow_0 7 rfl rfl)
theorem dX5_bestNow_8 : decode cX5_bestNow 8 = .ok (.iload_n 2, 1) := dk_28 (dk_at dksX5_bestNow_0 8 rfl rfl)
theorem dX5_bestNow_9 : decode cX5_bestNow 9 = .ok (.bipush 24, 2) := dk_16 24 (dk_at dksX5_bestNow_0 9 rfl rfl)
theorem dX5_bestNow_11 : decode cX5_bestNow 11 = .ok (.if_icmp .ge 28, 3) := dk_162 0 28 (dk_at dksX5_bestNow_0 11 rfl rfl)
theorem dX5_bestNow_14 : decode cX5_bestNow 14 = .ok (.aload_n 0, 1) := dk_42 (dk_at dksX5_bestNow_0 14 rfl rfl)
theorem dX5_bestNow_15 : decode cX5_bestNow 15 = .ok (.iload_n 2, 1) := dk_28 (dk_at dksX5_bestNow_0 15 rfl rfl)
theorem dX5_bestNow_16 : decode cX5_bestNow 16 = .ok (.invokevirtual 263, 3) := dk_182 1 7 (dk_at dksX5_bestNow_0 16 rfl rfl)
theorem dX5_bestNow_19 : decode cX5_bestNow 19 = .ok (.aload_n 0, 1) := dk_42 (dk_at dksX5_bestNow_0 19 rfl rfl)
theorem dX5_bestNow_20 : decode cX5_bestNow 20 = .ok (.iload_n 1, 1) := dk_27 (dk_at dksX5_bestNow_0 20 rfl rfl)
theorem dX5_bestNow_21 : decode cX5_bestNow 21 = .ok (.invokevirtual 263, 3) := dk_182 1 7 (dk_at dksX5_bestNow_0 21 rfl rfl)
theorem dX5_bestNow_24 : decode cX5_bestNow 24 = .ok (.if_icmp .le 7, 3) := dk_164 0 7 (dk_at dksX5_bestNow_1 0 rfl rfl)
theorem dX5_bestNow_27 : decode cX5_bestNow 27 = .ok (.iload_n 2, 1) := dk_28 (dk_at dksX5_bestNow_1 3 rfl rfl)
theorem dX5_bestNow_28 : decode cX5_bestNow 28 = .ok (.goto 4, 3) := dk_167 0 4 (dk_at dksX5_bestNow_1 4 rfl rfl)
theorem dX5_bestNow_31 : decode cX5_bestNow 31 = .ok (.iload_n 1, 1) := dk_27 (dk_at dksX5_bestNow_1 7 rfl rfl)
theorem dX5_bestNow_32 : decode cX5_bestNow 32 = .ok (.istore_n 1, 1) := dk_60 (dk_at dksX5_bestNow_1 8 rfl rfl)
theorem dX5_bestNow_33 : decode cX5_bestNow 33 = .ok (.iinc 2 1, 3) := dk_132 2 1 (dk_at dksX5_bestNow_1 9 rfl rfl)
theorem dX5_bestNow_36 : decode cX5_bestNow 36 = .ok (.goto (-28), 3) := dk_167 255 228 (dk_at dksX5_bestNow_1 12 rfl rfl)
theorem dX5_bestNow_39 : decode cX5_bestNow 39 = .ok (.aload_n 0, 1) := dk_42 (dk_at dksX5_bestNow_1 15 rfl rfl)
theorem dX5_bestNow_40 : decode cX5_bestNow 40 = .ok (.getfield 127, 3) := dk_180 0 127 (dk_at dksX5_bestNow_1 16 rfl rfl)
theorem dX5_bestNow_43 : decode cX5_bestNow 43 = .ok (.ifCond .ne 7, 3) := dk_154 0 7 (dk_at dksX5_bestNow_1 19 rfl rfl)
theorem dX5_bestNow_46 : decode cX5_bestNow 46 = .ok (.iconst (-1), 1) := dk_2 (dk_at dksX5_bestNow_1 22 rfl rfl)
theorem dX5_bestNow_47 : decode cX5_bestNow 47 = .ok (.goto 4, 3) := dk_167 0 4 (dk_at dksX5_bestNow_2 0 rfl rfl)
theorem dX5_bestNow_50 : decode cX5_bestNow 50 = .ok (.iload_n 1, 1) := dk_27 (dk_at dksX5_bestNow_2 3 rfl rfl)
theorem dX5_bestNow_51 : decode cX5_bestNow 51 = .ok (.ireturn, 1) := dk_172 (dk_at dksX5_bestNow_2 4 rfl rfl)
abbrev cX5_fitMany : ByteArray := prog_13_method_42_code
def yX5_fitMany : MethodName := ⟨RX5, "fitMany", "(I)I"⟩
def dkwX5_fitMany_1 : List UInt8 := [167, 0, 4, 3, 96, 61, 132, 3, 1, 167, 255, 228, 28, 172]
abbrev dktX5_fitMany_1 : List UInt8 := dkwX5_fitMany_1 ++ []
def dkwX5_fitMany_0 : List UInt8 := [3, 61, 3, 62, 29, 42, 180, 0, 127, 162, 0, 26, 28, 42, 27, 29, 182, 0, 231, 153, 0, 7, 4]
abbrev dktX5_fitMany_0 : List UInt8 := dkwX5_fitMany_0 ++ dktX5_fitMany_1
theorem dksX5_fitMany_0 : cX5_fitMany.data.toList.drop 0 = dktX5_fitMany_0 := by decide +kernel
theorem dksX5_fitMany_1 : cX5_fitMany.data.toList.drop 23 = dktX5_fitMany_1 := dk_seg dksX5_fitMany_0 23 rfl rfl
theorem dX5_fitMany_0 : decode cX5_fitMany 0 = .ok (.iconst 0, 1) := dk_3 (dk_at dksX5_fitMany_0 0 rfl rfl)
theorem dX5_fitMany_1 : decode cX5_fitMany 1 = .ok (.istore_n 2, 1) := dk_61 (dk_at dksX5_fitMany_0 1 rfl rfl)
theorem dX5_fitMany_2 : decode cX5_fitMany 2 = .ok (.iconst 0, 1) := dk_3 (dk_at dksX5_fitMany_0 2 rfl rfl)
theorem dX5_fitMany_3 : decode cX5_fitMany 3 = .ok (.istore_n 3, 1) := dk_62 (dk_at dksX5_fitMany_0 3 rfl rfl)
theorem dX5_fitMany_4 : decode cX5_fitMany 4 = .ok (.iload_n 3, 1) := dk_29 (dk_at dksX5_fitMany_0 4 rfl rfl)
theorem dX5_fitMany_5 : decode cX5_fitMany 5 = .ok (.aload_n 0, 1) := dk_42 (dk_at dksX5_fitMany_0 5 rfl rfl)
theorem dX5_fitMany_6 : decode cX5_fitMany 6 = .ok (.getfield 127, 3) := dk_180 0 127 (dk_at dksX5_fitMany_0 6 rfl rfl)
theorem dX5_fitMany_9 : decode cX5_fitMany 9 = .ok (.if_icmp .ge 26, 3) := dk_162 0 26 (dk_at dksX5_fitMany_0 9 rfl rfl)
theorem dX5_fitMany_12 : decode cX5_fitMany 12 = .ok (.iload_n 2, 1) := dk_28 (dk_at dksX5_fitMany_0 12 rfl rfl)
theorem dX5_fitMany_13 : decode cX5_fitMany 13 = .ok (.aload_n 0, 1) := dk_42 (dk_at dksX5_fitMany_0 13 rfl rfl)
theorem dX5_fitMany_14 : decode cX5_fitMany 14 = .ok (.iload_n 1, 1) := dk_27 (dk_at dksX5_fitMany_0 14 rfl rfl)
theorem dX5_fitMany_15 : decode cX5_fitMany 15 = .ok (.iload_n 3, 1) := dk_29 (dk_at dksX5_fitMany_0 15 rfl rfl)
theorem dX5_fitMany_16 : decode cX5_fitMany 16 = .ok (.invokevirtual 231, 3) := dk_182 0 231 (dk_at dksX5_fitMany_0 16 rfl rfl)
theorem dX5_fitMany_19 : decode cX5_fitMany 19 = .ok (.ifCond .eq 7, 3) := dk_153 0 7 (dk_at dksX5_fitMany_0 19 rfl rfl)
theorem dX5_fitMany_22 : decode cX5_fitMany 22 = .ok (.iconst 1, 1) := dk_4 (dk_at dksX5_fitMany_0 22 rfl rfl)
theorem dX5_fitMany_23 : decode cX5_fitMany 23 = .ok (.goto 4, 3) := dk_167 0 4 (dk_at dksX5_fitMany_1 0 rfl rfl)
theorem dX5_fitMany_26 : decode cX5_fitMany 26 = .ok (.iconst 0, 1) := dk_3 (dk_at dksX5_fitMany_1 3 rfl rfl)
theorem dX5_fitMany_27 : decode cX5_fitMany 27 = .ok (.iadd, 1) := dk_96 (dk_at dksX5_fitMany_1 4 rfl rfl)
theorem dX5_fitMany_28 : decode cX5_fitMany 28 = .ok (.istore_n 2, 1) := dk_61 (dk_at dksX5_fitMany_1 5 rfl rfl)
theorem dX5_fitMany_29 : decode cX5_fitMany 29 = .ok (.iinc 3 1, 3) := dk_132 3 1 (dk_at dksX5_fitMany_1 6 rfl rfl)
theorem dX5_fitMany_32 : decode cX5_fitMany 32 = .ok (.goto (-28), 3) := dk_167 255 228 (dk_at dksX5_fitMany_1 9 rfl rfl)
theorem dX5_fitMany_35 : decode cX5_fitMany 35 = .ok (.iload_n 2, 1) := dk_28 (dk_at dksX5_fitMany_1 12 rfl rfl)
theorem dX5_fitMany_36 : decode cX5_fitMany 36 = .ok (.ireturn, 1) := dk_172 (dk_at dksX5_fitMany_1 13 rfl rfl)
abbrev cX5_swear : ByteArray := prog_13_method_60_code
def yX5_swear : MethodName := ⟨RX5, "swear", "(II)I"⟩
def dkwX5_swear_1 : List UInt8 := [16, 254, 172]
abbrev dktX5_swear_1 : List UInt8 := dkwX5_swear_1 ++ []
def dkwX5_swear_0 : List UInt8 := [42, 27, 182, 0, 150, 153, 0, 19, 28, 184, 0, 162, 153, 0, 12, 42, 27, 28, 182, 1, 13, 167, 0, 5]
abbrev dktX5_swear_0 : List UInt8 := dkwX5_swear_0 ++ dktX5_swear_1
theorem dksX5_swear_0 : cX5_swear.data.toList.drop 0 = dktX5_swear_0 := by decide +kernel
theorem dksX5_swear_1 : cX5_swear.data.toList.drop 24 = dktX5_swear_1 := dk_seg dksX5_swear_0 24 rfl rfl
theorem dX5_swear_0 : decode cX5_swear 0 = .ok (.aload_n 0, 1) := dk_42 (dk_at dksX5_swear_0 0 rfl rfl)
theorem dX5_swear_1 : decode cX5_swear 1 = .ok (.iload_n 1, 1) := dk_27 (dk_at dksX5_swear_0 1 rfl rfl)
theorem dX5_swear_2 : decode cX5_swear 2 = .ok (.invokevirtual 150, 3) := dk_182 0 150 (dk_at dksX5_swear_0 2 rfl rfl)
theorem dX5_swear_5 : decode cX5_swear 5 = .ok (.ifCond .eq 19, 3) := dk_153 0 19 (dk_at dksX5_swear_0 5 rfl rfl)
theorem dX5_swear_8 : decode cX5_swear 8 = .ok (.iload_n 2, 1) := dk_28 (dk_at dksX5_swear_0 8 rfl rfl)
theorem dX5_swear_9 : decode cX5_swear 9 = .ok (.invokestatic 162, 3) := dk_184 0 162 (dk_at dksX5_swear_0 9 rfl rfl)
theorem dX5_swear_12 : decode cX5_swear 12 = .ok (.ifCond .eq 12, 3) := dk_153 0 12 (dk_at dksX5_swear_0 12 rfl rfl)
theorem dX5_swear_15 : decode cX5_swear 15 = .ok (.aload_n 0, 1) := dk_42 (dk_at dksX5_swear_0 15 rfl rfl)
theorem dX5_swear_16 : decode cX5_swear 16 = .ok (.iload_n 1, 1) := dk_27 (dk_at dksX5_swear_0 16 rfl rfl)
theorem dX5_swear_17 : decode cX5_swear 17 = .ok (.iload_n 2, 1) := dk_28 (dk_at dksX5_swear_0 17 rfl rfl)
theorem dX5_swear_18 : decode cX5_swear 18 = .ok (.invokevirtual 269, 3) := dk_182 1 13 (dk_at dksX5_swear_0 18 rfl rfl)
theorem dX5_swear_21 : decode cX5_swear 21 = .ok (.goto 5, 3) := dk_167 0 5 (dk_at dksX5_swear_0 21 rfl rfl)
theorem dX5_swear_24 : decode cX5_swear 24 = .ok (.bipush (-2), 2) := dk_16 254 (dk_at dksX5_swear_1 0 rfl rfl)
theorem dX5_swear_26 : decode cX5_swear 26 = .ok (.ireturn, 1) := dk_172 (dk_at dksX5_swear_1 2 rfl rfl)
abbrev cX5_swearOf : ByteArray := prog_13_method_59_code
def yX5_swearOf : MethodName := ⟨RX5, "swearOf", "(II)I"⟩
def dkwX5_swearOf_4 : List UInt8 := [167, 255, 211, 21, 4, 172]
abbrev dktX5_swearOf_4 : List UInt8 := dkwX5_swearOf_4 ++ []
def dkwX5_swearOf_3 : List UInt8 := [182, 0, 228, 42, 28, 27, 182, 0, 231, 153, 0, 8, 21, 5, 167, 0, 4, 2, 54, 4, 132, 5, 1]
abbrev dktX5_swearOf_3 : List UInt8 := dkwX5_swearOf_3 ++ dktX5_swearOf_4
def dkwX5_swearOf_2 : List UInt8 := [21, 5, 16, 10, 162, 0, 44, 21, 4, 2, 160, 0, 38, 42, 180, 0, 25, 29, 21, 5, 79, 42]
abbrev dktX5_swearOf_2 : List UInt8 := dkwX5_swearOf_2 ++ dktX5_swearOf_3
def dkwX5_swearOf_1 : List UInt8 := [180, 0, 22, 29, 27, 79, 42, 180, 0, 28, 29, 3, 79, 42, 180, 0, 31, 29, 2, 79, 4, 54, 5]
abbrev dktX5_swearOf_1 : List UInt8 := dkwX5_swearOf_1 ++ dktX5_swearOf_2
def dkwX5_swearOf_0 : List UInt8 := [42, 182, 0, 225, 42, 180, 0, 131, 62, 2, 54, 4, 42, 42, 180, 0, 131, 4, 96, 181, 0, 186, 42]
abbrev dktX5_swearOf_0 : List UInt8 := dkwX5_swearOf_0 ++ dktX5_swearOf_1
theorem dksX5_swearOf_0 : cX5_swearOf.data.toList.drop 0 = dktX5_swearOf_0 := by decide +kernel
theorem dksX5_swearOf_1 : cX5_swearOf.data.toList.drop 23 = dktX5_swearOf_1 := dk_seg dksX5_swearOf_0 23 rfl rfl
theorem dksX5_swearOf_2 : cX5_swearOf.data.toList.drop 46 = dktX5_swearOf_2 := dk_seg dksX5_swearOf_1 23 rfl rfl
theorem dksX5_swearOf_3 : cX5_swearOf.data.toList.drop 68 = dktX5_swearOf_3 := dk_seg dksX5_swearOf_2 22 rfl rfl
theorem dksX5_swearOf_4 : cX5_swearOf.data.toList.drop 91 = dktX5_swearOf_4 := dk_seg dksX5_swearOf_3 23 rfl rfl
theorem dX5_swearOf_0 : decode cX5_swearOf 0 = .ok (.aload_n 0, 1) := dk_42 (dk_at dksX5_swearOf_0 0 rfl rfl)
theorem dX5_swearOf_1 : decode cX5_swearOf 1 = .ok (.invokevirtual 225, 3) := dk_182 0 225 (dk_at dksX5_swearOf_0 1 rfl rfl)
theorem dX5_swearOf_4 : decode cX5_swearOf 4 = .ok (.aload_n 0, 1) := dk_42 (dk_at dksX5_swearOf_0 4 rfl rfl)
theorem dX5_swearOf_5 : decode cX5_swearOf 5 = .ok (.getfield 131, 3) := dk_180 0 131 (dk_at dksX5_swearOf_0 5 rfl rfl)
theorem dX5_swearOf_8 : decode cX5_swearOf 8 = .ok (.istore_n 3, 1) := dk_62 (dk_at dksX5_swearOf_0 8 rfl rfl)
theorem dX5_swearOf_9 : decode cX5_swearOf 9 = .ok (.iconst (-1), 1) := dk_2 (dk_at dksX5_swearOf_0 9 rfl rfl)
theorem dX5_swearOf_10 : decode cX5_swearOf 10 = .ok (.istore 4, 2) := dk_54 4 (dk_at dksX5_swearOf_0 10 rfl rfl)
theorem dX5_swearOf_12 : decode cX5_swearOf 12 = .ok (.aload_n 0, 1) := dk_42 (dk_at dksX5_swearOf_0 12 rfl rfl)
theorem dX5_swearOf_13 : decode cX5_swearOf 13 = .ok (.aload_n 0, 1) := dk_42 (dk_at dksX5_swearOf_0 13 rfl rfl)
theorem dX5_swearOf_14 : decode cX5_swearOf 14 = .ok (.getfield 131, 3) := dk_180 0 131 (dk_at dksX5_swearOf_0 14 rfl rfl)
theorem dX5_swearOf_17 : decode cX5_swearOf 17 = .ok (.iconst 1, 1) := dk_4 (dk_at dksX5_swearOf_0 17 rfl rfl)
theorem dX5_swearOf_18 : decode cX5_swearOf 18 = .ok (.iadd, 1) := dk_96 (dk_at dksX5_swearOf_0 18 rfl rfl)
theorem dX5_swearOf_19 : decode cX5_swearOf 19 = .ok (.putfield 186, 3) := dk_181 0 186 (dk_at dksX5_swearOf_0 19 rfl rfl)
theorem dX5_swearOf_22 : decode cX5_swearOf 22 = .ok (.aload_n 0, 1) := dk_42 (dk_at dksX5_swearOf_0 22 rfl rfl)
theorem dX5_swearOf_23 : decode cX5_swearOf 23 = .ok (.getfield 22, 3) := dk_180 0 22 (dk_at dksX5_swearOf_1 0 rfl rfl)
theorem dX5_swearOf_26 : decode cX5_swearOf 26 = .ok (.iload_n 3, 1) := dk_29 (dk_at dksX5_swearOf_1 3 rfl rfl)
theorem dX5_swearOf_27 : decode cX5_swearOf 27 = .ok (.iload_n 1, 1) := dk_27 (dk_at dksX5_swearOf_1 4 rfl rfl)
theorem dX5_swearOf_28 : decode cX5_swearOf 28 = .ok (.iastore, 1) := dk_79 (dk_at dksX5_swearOf_1 5 rfl rfl)
theorem dX5_swearOf_29 : decode cX5_swearOf 29 = .ok (.aload_n 0, 1) := dk_42 (dk_at dksX5_swearOf_1 6 rfl rfl)
theorem dX5_swearOf_30 : decode cX5_swearOf 30 = .ok (.getfield 28, 3) := dk_180 0 28 (dk_at dksX5_swearOf_1 7 rfl rfl)
theorem dX5_swearOf_33 : decode cX5_swearOf 33 = .ok (.iload_n 3, 1) := dk_29 (dk_at dksX5_swearOf_1 10 rfl rfl)
theorem dX5_swearOf_34 : decode cX5_swearOf 34 = .ok (.iconst 0, 1) := dk_3 (dk_at dksX5_swearOf_1 11 rfl rfl)
theorem dX5_swearOf_35 : decode cX5_swearOf 35 = .ok (.iastore, 1) := dk_79 (dk_at dksX5_swearOf_1 12 rfl rfl)
theorem dX5_swearOf_36 : decode cX5_swearOf 36 = .ok (.aload_n 0, 1) := dk_42 (dk_at dksX5_swearOf_1 13 rfl rfl)
theorem dX5_swearOf_37 : decode cX5_swearOf 37 = .ok (.getfield 31, 3) := dk_180 0 31 (dk_at dksX5_swearOf_1 14 rfl rfl)
theorem dX5_swearOf_40 : decode cX5_swearOf 40 = .ok (.iload_n 3, 1) := dk_29 (dk_at dksX5_swearOf_1 17 rfl rfl)
theorem dX5_swearOf_41 : decode cX5_swearOf 41 = .ok (.iconst (-1), 1) := dk_2 (dk_at dksX5_swearOf_1 18 rfl rfl)
theorem dX5_swearOf_42 : decode cX5_swearOf 42 = .ok (.iastore, 1) := dk_79 (dk_at dksX5_swearOf_1 19 rfl rfl)
theorem dX5_swearOf_43 : decode cX5_swearOf 43 = .ok (.iconst 1, 1) := dk_4 (dk_at dksX5_swearOf_1 20 rfl rfl)
theorem dX5_swearOf_44 : decode cX5_swearOf 44 = .ok (.istore 5, 2) := dk_54 5 (dk_at dksX5_swearOf_1 21 rfl rfl)
theorem dX5_swearOf_46 : decode cX5_swearOf 46 = .ok (.iload 5, 2) := dk_21 5 (dk_at dksX5_swearOf_2 0 rfl rfl)
theorem dX5_swearOf_48 : decode cX5_swearOf 48 = .ok (.bipush 10, 2) := dk_16 10 (dk_at dksX5_swearOf_2 2 rfl rfl)
theorem dX5_swearOf_50 : decode cX5_swearOf 50 = .ok (.if_icmp .ge 44, 3) := dk_162 0 44 (dk_at dksX5_swearOf_2 4 rfl rfl)
theorem dX5_swearOf_53 : decode cX5_swearOf 53 = .ok (.iload 4, 2) := dk_21 4 (dk_at dksX5_swearOf_2 7 rfl rfl)
theorem dX5_swearOf_55 : decode cX5_swearOf 55 = .ok (.iconst (-1), 1) := dk_2 (dk_at dksX5_swearOf_2 9 rfl rfl)
theorem dX5_swearOf_56 : decode cX5_swearOf 56 = .ok (.if_icmp .ne 38, 3) := dk_160 0 38 (dk_at dksX5_swearOf_2 10 rfl rfl)
theorem dX5_swearOf_59 : decode cX5_swearOf 59 = .ok (.aload_n 0, 1) := dk_42 (dk_at dksX5_swearOf_2 13 rfl rfl)
theorem dX5_swearOf_60 : decode cX5_swearOf 60 = .ok (.getfield 25, 3) := dk_180 0 25 (dk_at dksX5_swearOf_2 14 rfl rfl)
theorem dX5_swearOf_63 : decode cX5_swearOf 63 = .ok (.iload_n 3, 1) := dk_29 (dk_at dksX5_swearOf_2 17 rfl rfl)
theorem dX5_swearOf_64 : decode cX5_swearOf 64 = .ok (.iload 5, 2) := dk_21 5 (dk_at dksX5_swearOf_2 18 rfl rfl)
theorem dX5_swearOf_66 : decode cX5_swearOf 66 = .ok (.iastore, 1) := dk_79 (dk_at dksX5_swearOf_2 20 rfl rfl)
theorem dX5_swearOf_67 : decode cX5_swearOf 67 = .ok (.aload_n 0, 1) := dk_42 (dk_at dksX5_swearOf_2 21 rfl rfl)
theorem dX5_swearOf_68 : decode cX5_swearOf 68 = .ok (.invokevirtual 228, 3) := dk_182 0 228 (dk_at dksX5_swearOf_3 0 rfl rfl)
theorem dX5_swearOf_71 : decode cX5_swearOf 71 = .ok (.aload_n 0, 1) := dk_42 (dk_at dksX5_swearOf_3 3 rfl rfl)
theorem dX5_swearOf_72 : decode cX5_swearOf 72 = .ok (.iload_n 2, 1) := dk_28 (dk_at dksX5_swearOf_3 4 rfl rfl)
theorem dX5_swearOf_73 : decode cX5_swearOf 73 = .ok (.iload_n 1, 1) := dk_27 (dk_at dksX5_swearOf_3 5 rfl rfl)
theorem dX5_swearOf_74 : decode cX5_swearOf 74 = .ok (.invokevirtual 231, 3) := dk_182 0 231 (dk_at dksX5_swearOf_3 6 rfl rfl)
theorem dX5_swearOf_77 : decode cX5_swearOf 77 = .ok (.ifCond .eq 8, 3) := dk_153 0 8 (dk_at dksX5_swearOf_3 9 rfl rfl)
theorem dX5_swearOf_80 : decode cX5_swearOf 80 = .ok (.iload 5, 2) := dk_21 5 (dk_at dksX5_swearOf_3 12 rfl rfl)
theorem dX5_swearOf_82 : decode cX5_swearOf 82 = .ok (.goto 4, 3) := dk_167 0 4 (dk_at dksX5_swearOf_3 14 rfl rfl)
theorem dX5_swearOf_85 : decode cX5_swearOf 85 = .ok (.iconst (-1), 1) := dk_2 (dk_at dksX5_swearOf_3 17 rfl rfl)
theorem dX5_swearOf_86 : decode cX5_swearOf 86 = .ok (.istore 4, 2) := dk_54 4 (dk_at dksX5_swearOf_3 18 rfl rfl)
theorem dX5_swearOf_88 : decode cX5_swearOf 88 = .ok (.iinc 5 1, 3) := dk_132 5 1 (dk_at dksX5_swearOf_3 20 rfl rfl)
theorem dX5_swearOf_91 : decode cX5_swearOf 91 = .ok (.goto (-45), 3) := dk_167 255 211 (dk_at dksX5_swearOf_4 0 rfl rfl)
theorem dX5_swearOf_94 : decode cX5_swearOf 94 = .ok (.iload 4, 2) := dk_21 4 (dk_at dksX5_swearOf_4 3 rfl rfl)
theorem dX5_swearOf_96 : decode cX5_swearOf 96 = .ok (.ireturn, 1) := dk_172 (dk_at dksX5_swearOf_4 5 rfl rfl)
abbrev cX5_keep : ByteArray := prog_13_method_62_code
def yX5_keep : MethodName := ⟨RX5, "keep", "(II)I"⟩
def dkwX5_keep_1 : List UInt8 := [167, 0, 5, 16, 254, 172]
abbrev dktX5_keep_1 : List UInt8 := dkwX5_keep_1 ++ []
def dkwX5_keep_0 : List UInt8 := [27, 184, 0, 162, 153, 0, 21, 28, 3, 4, 184, 0, 115, 153, 0, 12, 42, 27, 28, 182, 1, 16]
abbrev dktX5_keep_0 : List UInt8 := dkwX5_keep_0 ++ dktX5_keep_1
theorem dksX5_keep_0 : cX5_keep.data.toList.drop 0 = dktX5_keep_0 := by decide +kernel
theorem dksX5_keep_1 : cX5_keep.data.toList.drop 22 = dktX5_keep_1 := dk_seg dksX5_keep_0 22 rfl rfl
theorem dX5_keep_0 : decode cX5_keep 0 = .ok (.iload_n 1, 1) := dk_27 (dk_at dksX5_keep_0 0 rfl rfl)
theorem dX5_keep_1 : decode cX5_keep 1 = .ok (.invokestatic 162, 3) := dk_184 0 162 (dk_at dksX5_keep_0 1 rfl rfl)
theorem dX5_keep_4 : decode cX5_keep 4 = .ok (.ifCond .eq 21, 3) := dk_153 0 21 (dk_at dksX5_keep_0 4 rfl rfl)
theorem dX5_keep_7 : decode cX5_keep 7 = .ok (.iload_n 2, 1) := dk_28 (dk_at dksX5_keep_0 7 rfl rfl)
theorem dX5_keep_8 : decode cX5_keep 8 = .ok (.iconst 0, 1) := dk_3 (dk_at dksX5_keep_0 8 rfl rfl)
theorem dX5_keep_9 : decode cX5_keep 9 = .ok (.iconst 1, 1) := dk_4 (dk_at dksX5_keep_0 9 rfl rfl)
theorem dX5_keep_10 : decode cX5_keep 10 = .ok (.invokestatic 115, 3) := dk_184 0 115 (dk_at dksX5_keep_0 10 rfl rfl)
theorem dX5_keep_13 : decode cX5_keep 13 = .ok (.ifCond .eq 12, 3) := dk_153 0 12 (dk_at dksX5_keep_0 13 rfl rfl)
theorem dX5_keep_16 : decode cX5_keep 16 = .ok (.aload_n 0, 1) := dk_42 (dk_at dksX5_keep_0 16 rfl rfl)
theorem dX5_keep_17 : decode cX5_keep 17 = .ok (.iload_n 1, 1) := dk_27 (dk_at dksX5_keep_0 17 rfl rfl)
theorem dX5_keep_18 : decode cX5_keep 18 = .ok (.iload_n 2, 1) := dk_28 (dk_at dksX5_keep_0 18 rfl rfl)
theorem dX5_keep_19 : decode cX5_keep 19 = .ok (.invokevirtual 272, 3) := dk_182 1 16 (dk_at dksX5_keep_0 19 rfl rfl)
theorem dX5_keep_22 : decode cX5_keep 22 = .ok (.goto 5, 3) := dk_167 0 5 (dk_at dksX5_keep_1 0 rfl rfl)
theorem dX5_keep_25 : decode cX5_keep 25 = .ok (.bipush (-2), 2) := dk_16 254 (dk_at dksX5_keep_1 3 rfl rfl)
theorem dX5_keep_27 : decode cX5_keep 27 = .ok (.ireturn, 1) := dk_172 (dk_at dksX5_keep_1 5 rfl rfl)
abbrev cX5_keepBest : ByteArray := prog_13_method_61_code
def yX5_keepBest : MethodName := ⟨RX5, "keepBest", "(II)I"⟩
def dkwX5_keepBest_4 : List UInt8 := [54, 4, 132, 5, 1, 167, 255, 191, 28, 154, 0, 7, 29, 167, 0, 5, 21, 4, 172]
abbrev dktX5_keepBest_4 : List UInt8 := dkwX5_keepBest_4 ++ []
def dkwX5_keepBest_3 : List UInt8 := [164, 0, 8, 21, 5, 167, 0, 4, 29, 62, 21, 6, 21, 4, 164, 0, 8, 21, 6, 167, 0, 5, 21, 4]
abbrev dktX5_keepBest_3 : List UInt8 := dkwX5_keepBest_3 ++ dktX5_keepBest_4
def dkwX5_keepBest_2 : List UInt8 := [180, 0, 165, 21, 5, 79, 42, 182, 0, 228, 42, 16, 23, 182, 1, 7, 54, 6, 21, 6, 21, 4]
abbrev dktX5_keepBest_2 : List UInt8 := dkwX5_keepBest_2 ++ dktX5_keepBest_3
def dkwX5_keepBest_1 : List UInt8 := [180, 0, 165, 27, 79, 3, 54, 5, 21, 5, 42, 180, 0, 131, 162, 0, 62, 42, 180, 0, 61, 42]
abbrev dktX5_keepBest_1 : List UInt8 := dkwX5_keepBest_1 ++ dktX5_keepBest_2
def dkwX5_keepBest_0 : List UInt8 := [42, 182, 0, 225, 2, 62, 2, 54, 4, 42, 42, 180, 0, 165, 4, 96, 181, 0, 189, 42, 180, 0, 58, 42]
abbrev dktX5_keepBest_0 : List UInt8 := dkwX5_keepBest_0 ++ dktX5_keepBest_1
theorem dksX5_keepBest_0 : cX5_keepBest.data.toList.drop 0 = dktX5_keepBest_0 := by decide +kernel
theorem dksX5_keepBest_1 : cX5_keepBest.data.toList.drop 24 = dktX5_keepBest_1 := dk_seg dksX5_keepBest_0 24 rfl rfl
theorem dksX5_keepBest_2 : cX5_keepBest.data.toList.drop 46 = dktX5_keepBest_2 := dk_seg dksX5_keepBest_1 22 rfl rfl
theorem dksX5_keepBest_3 : cX5_keepBest.data.toList.drop 68 = dktX5_keepBest_3 := dk_seg dksX5_keepBest_2 22 rfl rfl
theorem dksX5_keepBest_4 : cX5_keepBest.data.toList.drop 92 = dktX5_keepBest_4 := dk_seg dksX5_keepBest_3 24 rfl rfl
theorem dX5_keepBest_0 : decode cX5_keepBest 0 = .ok (.aload_n 0, 1) := dk_42 (dk_at dksX5_keepBest_0 0 rfl rfl)
theorem dX5_keepBest_1 : decode cX5_keepBest 1 = .ok (.invokevirtual 225, 3) := dk_182 0 225 (dk_at dksX5_keepBest_0 1 rfl rfl)
theorem dX5_keepBest_4 : decode cX5_keepBest 4 = .ok (.iconst (-1), 1) := dk_2 (dk_at dksX5_keepBest_0 4 rfl rfl)
theorem dX5_keepBest_5 : decode cX5_keepBest 5 = .ok (.istore_n 3, 1) := dk_62 (dk_at dksX5_keepBest_0 5 rfl rfl)
theorem dX5_keepBest_6 : decode cX5_keepBest 6 = .ok (.iconst (-1), 1) := dk_2 (dk_at dksX5_keepBest_0 6 rfl rfl)
theorem dX5_keepBest_7 : decode cX5_keepBest 7 = .ok (.istore 4, 2) := dk_54 4 (dk_at dksX5_keepBest_0 7 rfl rfl)
theorem dX5_keepBest_9 : decode cX5_keepBest 9 = .ok (.aload_n 0, 1) := dk_42 (dk_at dksX5_keepBest_0 9 rfl rfl)
theorem dX5_keepBest_10 : decode cX5_keepBest 10 = .ok (.aload_n 0, 1) := dk_42 (dk_at dksX5_keepBest_0 10 rfl rfl)
theorem dX5_keepBest_11 : decode cX5_keepBest 11 = .ok (.getfield 165, 3) := dk_180 0 165 (dk_at dksX5_keepBest_0 11 rfl rfl)
theorem dX5_keepBest_14 : decode cX5_keepBest 14 = .ok (.iconst 1, 1) := dk_4 (dk_at dksX5_keepBest_0 14 rfl rfl)
theorem dX5_keepBest_15 : decode cX5_keepBest 15 = .ok (.iadd, 1) := dk_96 (dk_at dksX5_keepBest_0 15 rfl rfl)
theorem dX5_keepBest_16 : decode cX5_keepBest 16 = .ok (.putfield 189, 3) := dk_181 0 189 (dk_at dksX5_keepBest_0 16 rfl rfl)
theorem dX5_keepBest_19 : decode cX5_keepBest 19 = .ok (.aload_n 0, 1) := dk_42 (dk_at dksX5_keepBest_0 19 rfl rfl)
theorem dX5_keepBest_20 : decode cX5_keepBest 20 = .ok (.getfield 58, 3) := dk_180 0 58 (dk_at dksX5_keepBest_0 20 rfl rfl)
theorem dX5_keepBest_23 : decode cX5_keepBest 23 = .ok (.aload_n 0, 1) := dk_42 (dk_at dksX5_keepBest_0 23 rfl rfl)
theorem dX5_keepBest_24 : decode cX5_keepBest 24 = .ok (.getfield 165, 3) := dk_180 0 165 (dk_at dksX5_keepBest_1 0 rfl rfl)
theorem dX5_keepBest_27 : decode cX5_keepBest 27 = .ok (.iload_n 1, 1) := dk_27 (dk_at dksX5_keepBest_1 3 rfl rfl)
theorem dX5_keepBest_28 : decode cX5_keepBest 28 = .ok (.iastore, 1) := dk_79 (dk_at dksX5_keepBest_1 4 rfl rfl)
theorem dX5_keepBest_29 : decode cX5_keepBest 29 = .ok (.iconst 0, 1) := dk_3 (dk_at dksX5_keepBest_1 5 rfl rfl)
theorem dX5_keepBest_30 : decode cX5_keepBest 30 = .ok (.istore 5, 2) := dk_54 5 (dk_at dksX5_keepBest_1 6 rfl rfl)
theorem dX5_keepBest_32 : decode cX5_keepBest 32 = .ok (.iload 5, 2) := dk_21 5 (dk_at dksX5_keepBest_1 8 rfl rfl)
theorem dX5_keepBest_34 : decode cX5_keepBest 34 = .ok (.aload_n 0, 1) := dk_42 (dk_at dksX5_keepBest_1 10 rfl rfl)
theorem dX5_keepBest_35 : decode cX5_keepBest 35 = .ok (.getfield 131, 3) := dk_180 0 131 (dk_at dksX5_keepBest_1 11 rfl rfl)
theorem dX5_keepBest_38 : decode cX5_keepBest 38 = .ok (.if_icmp .ge 62, 3) := dk_162 0 62 (dk_at dksX5_keepBest_1 14 rfl rfl)
theorem dX5_keepBest_41 : decode cX5_keepBest 41 = .ok (.aload_n 0, 1) := dk_42 (dk_at dksX5_keepBest_1 17 rfl rfl)
theorem dX5_keepBest_42 : decode cX5_keepBest 42 = .ok (.getfield 61, 3) := dk_180 0 61 (dk_at dksX5_keepBest_1 18 rfl rfl)
theorem dX5_keepBest_45 : decode cX5_keepBest 45 = .ok (.aload_n 0, 1) := dk_42 (dk_at dksX5_keepBest_1 21 rfl rfl)
theorem dX5_keepBest_46 : decode cX5_keepBest 46 = .ok (.getfield 165, 3) := dk_180 0 165 (dk_at dksX5_keepBest_2 0 rfl rfl)
theorem dX5_keepBest_49 : decode cX5_keepBest 49 = .ok (.iload 5, 2) := dk_21 5 (dk_at dksX5_keepBest_2 3 rfl rfl)
theorem dX5_keepBest_51 : decode cX5_keepBest 51 = .ok (.iastore, 1) := dk_79 (dk_at dksX5_keepBest_2 5 rfl rfl)
theorem dX5_keepBest_52 : decode cX5_keepBest 52 = .ok (.aload_n 0, 1) := dk_42 (dk_at dksX5_keepBest_2 6 rfl rfl)
theorem dX5_keepBest_53 : decode cX5_keepBest 53 = .ok (.invokevirtual 228, 3) := dk_182 0 228 (dk_at dksX5_keepBest_2 7 rfl rfl)
theorem dX5_keepBest_56 : decode cX5_keepBest 56 = .ok (.aload_n 0, 1) := dk_42 (dk_at dksX5_keepBest_2 10 rfl rfl)
theorem dX5_keepBest_57 : decode cX5_keepBest 57 = .ok (.bipush 23, 2) := dk_16 23 (dk_at dksX5_keepBest_2 11 rfl rfl)
theorem dX5_keepBest_59 : decode cX5_keepBest 59 = .ok (.invokevirtual 263, 3) := dk_182 1 7 (dk_at dksX5_keepBest_2 13 rfl rfl)
theorem dX5_keepBest_62 : decode cX5_keepBest 62 = .ok (.istore 6, 2) := dk_54 6 (dk_at dksX5_keepBest_2 16 rfl rfl)
theorem dX5_keepBest_64 : decode cX5_keepBest 64 = .ok (.iload 6, 2) := dk_21 6 (dk_at dksX5_keepBest_2 18 rfl rfl)
theorem dX5_keepBest_66 : decode cX5_keepBest 66 = .ok (.iload 4, 2) := dk_21 4 (dk_at dksX5_keepBest_2 20 rfl rfl)
theorem dX5_keepBest_68 : decode cX5_keepBest 68 = .ok (.if_icmp .le 8, 3) := dk_164 0 8 (dk_at dksX5_keepBest_3 0 rfl rfl)
theorem dX5_keepBest_71 : decode cX5_keepBest 71 = .ok (.iload 5, 2) := dk_21 5 (dk_at dksX5_keepBest_3 3 rfl rfl)
theorem dX5_keepBest_73 : decode cX5_keepBest 73 = .ok (.goto 4, 3) := dk_167 0 4 (dk_at dksX5_keepBest_3 5 rfl rfl)
theorem dX5_keepBest_76 : decode cX5_keepBest 76 = .ok (.iload_n 3, 1) := dk_29 (dk_at dksX5_keepBest_3 8 rfl rfl)
theorem dX5_keepBest_77 : decode cX5_keepBest 77 = .ok (.istore_n 3, 1) := dk_62 (dk_at dksX5_keepBest_3 9 rfl rfl)
theorem dX5_keepBest_78 : decode cX5_keepBest 78 = .ok (.iload 6, 2) := dk_21 6 (dk_at dksX5_keepBest_3 10 rfl rfl)
theorem dX5_keepBest_80 : decode cX5_keepBest 80 = .ok (.iload 4, 2) := dk_21 4 (dk_at dksX5_keepBest_3 12 rfl rfl)
theorem dX5_keepBest_82 : decode cX5_keepBest 82 = .ok (.if_icmp .le 8, 3) := dk_164 0 8 (dk_at dksX5_keepBest_3 14 rfl rfl)
theorem dX5_keepBest_85 : decode cX5_keepBest 85 = .ok (.iload 6, 2) := dk_21 6 (dk_at dksX5_keepBest_3 17 rfl rfl)
theorem dX5_keepBest_87 : decode cX5_keepBest 87 = .ok (.goto 5, 3) := dk_167 0 5 (dk_at dksX5_keepBest_3 19 rfl rfl)
theorem dX5_keepBest_90 : decode cX5_keepBest 90 = .ok (.iload 4, 2) := dk_21 4 (dk_at dksX5_keepBest_3 22 rfl rfl)
theorem dX5_keepBest_92 : decode cX5_keepBest 92 = .ok (.istore 4, 2) := dk_54 4 (dk_at dksX5_keepBest_4 0 rfl rfl)
theorem dX5_keepBest_94 : decode cX5_keepBest 94 = .ok (.iinc 5 1, 3) := dk_132 5 1 (dk_at dksX5_keepBest_4 2 rfl rfl)
theorem dX5_keepBest_97 : decode cX5_keepBest 97 = .ok (.goto (-65), 3) := dk_167 255 191 (dk_at dksX5_keepBest_4 5 rfl rfl)
theorem dX5_keepBest_100 : decode cX5_keepBest 100 = .ok (.iload_n 2, 1) := dk_28 (dk_at dksX5_keepBest_4 8 rfl rfl)
theorem dX5_keepBest_101 : decode cX5_keepBest 101 = .ok (.ifCond .ne 7, 3) := dk_154 0 7 (dk_at dksX5_keepBest_4 9 rfl rfl)
theorem dX5_keepBest_104 : decode cX5_keepBest 104 = .ok (.iload_n 3, 1) := dk_29 (dk_at dksX5_keepBest_4 12 rfl rfl)
theorem dX5_keepBest_105 : decode cX5_keepBest 105 = .ok (.goto 5, 3) := dk_167 0 5 (dk_at dksX5_keepBest_4 13 rfl rfl)
theorem dX5_keepBest_108 : decode cX5_keepBest 108 = .ok (.iload 4, 2) := dk_21 4 (dk_at dksX5_keepBest_4 16 rfl rfl)
theorem dX5_keepBest_110 : decode cX5_keepBest 110 = .ok (.ireturn, 1) := dk_172 (dk_at dksX5_keepBest_4 18 rfl rfl)
abbrev cX5_due : ByteArray := prog_13_method_64_code
def yX5_due : MethodName := ⟨RX5, "due", "(II)I"⟩
def dkwX5_due_1 : List UInt8 := [167, 0, 5, 16, 254, 172]
abbrev dktX5_due_1 : List UInt8 := dkwX5_due_1 ++ []
def dkwX5_due_0 : List UInt8 := [42, 27, 182, 0, 156, 153, 0, 21, 28, 3, 4, 184, 0, 115, 153, 0, 12, 42, 27, 28, 182, 1, 19]
abbrev dktX5_due_0 : List UInt8 := dkwX5_due_0 ++ dktX5_due_1
theorem dksX5_due_0 : cX5_due.data.toList.drop 0 = dktX5_due_0 := by decide +kernel
theorem dksX5_due_1 : cX5_due.data.toList.drop 23 = dktX5_due_1 := dk_seg dksX5_due_0 23 rfl rfl
theorem dX5_due_0 : decode cX5_due 0 = .ok (.aload_n 0, 1) := dk_42 (dk_at dksX5_due_0 0 rfl rfl)
theorem dX5_due_1 : decode cX5_due 1 = .ok (.iload_n 1, 1) := dk_27 (dk_at dksX5_due_0 1 rfl rfl)
theorem dX5_due_2 : decode cX5_due 2 = .ok (.invokevirtual 156, 3) := dk_182 0 156 (dk_at dksX5_due_0 2 rfl rfl)
theorem dX5_due_5 : decode cX5_due 5 = .ok (.ifCond .eq 21, 3) := dk_153 0 21 (dk_at dksX5_due_0 5 rfl rfl)
theorem dX5_due_8 : decode cX5_due 8 = .ok (.iload_n 2, 1) := dk_28 (dk_at dksX5_due_0 8 rfl rfl)
theorem dX5_due_9 : decode cX5_due 9 = .ok (.iconst 0, 1) := dk_3 (dk_at dksX5_due_0 9 rfl rfl)
theorem dX5_due_10 : decode cX5_due 10 = .ok (.iconst 1, 1) := dk_4 (dk_at dksX5_due_0 10 rfl rfl)
theorem dX5_due_11 : decode cX5_due 11 = .ok (.invokestatic 115, 3) := dk_184 0 115 (dk_at dksX5_due_0 11 rfl rfl)
theorem dX5_due_14 : decode cX5_due 14 = .ok (.ifCond .eq 12, 3) := dk_153 0 12 (dk_at dksX5_due_0 14 rfl rfl)
theorem dX5_due_17 : decode cX5_due 17 = .ok (.aload_n 0, 1) := dk_42 (dk_at dksX5_due_0 17 rfl rfl)
theorem dX5_due_18 : decode cX5_due 18 = .ok (.iload_n 1, 1) := dk_27 (dk_at dksX5_due_0 18 rfl rfl)
theorem dX5_due_19 : decode cX5_due 19 = .ok (.iload_n 2, 1) := dk_28 (dk_at dksX5_due_0 19 rfl rfl)
theorem dX5_due_20 : decode cX5_due 20 = .ok (.invokevirtual 275, 3) := dk_182 1 19 (dk_at dksX5_due_0 20 rfl rfl)
theorem dX5_due_23 : decode cX5_due 23 = .ok (.goto 5, 3) := dk_167 0 5 (dk_at dksX5_due_1 0 rfl rfl)
theorem dX5_due_26 : decode cX5_due 26 = .ok (.bipush (-2), 2) := dk_16 254 (dk_at dksX5_due_1 3 rfl rfl)
theorem dX5_due_28 : decode cX5_due 28 = .ok (.ireturn, 1) := dk_172 (dk_at dksX5_due_1 5 rfl rfl)
abbrev cX5_dueOf : ByteArray := prog_13_method_63_code
def yX5_dueOf : MethodName := ⟨RX5, "dueOf", "(II)I"⟩
def dkwX5_dueOf_4 : List UInt8 := [154, 0, 8, 21, 4, 167, 0, 5, 21, 5, 172]
abbrev dktX5_dueOf_4 : List UInt8 := dkwX5_dueOf_4 ++ []
def dkwX5_dueOf_3 : List UInt8 := [21, 7, 167, 0, 5, 21, 5, 54, 5, 132, 6, 1, 167, 255, 196, 42, 180, 0, 31, 27, 29, 79, 28]
abbrev dktX5_dueOf_3 : List UInt8 := dkwX5_dueOf_3 ++ dktX5_dueOf_4
def dkwX5_dueOf_2 : List UInt8 := [21, 7, 21, 5, 162, 0, 8, 21, 6, 167, 0, 5, 21, 4, 54, 4, 21, 7, 21, 5, 162, 0, 8]
abbrev dktX5_dueOf_2 : List UInt8 := dkwX5_dueOf_2 ++ dktX5_dueOf_3
def dkwX5_dueOf_1 : List UInt8 := [16, 24, 162, 0, 59, 42, 180, 0, 31, 27, 21, 6, 79, 42, 182, 0, 228, 42, 182, 1, 0, 54, 7]
abbrev dktX5_dueOf_1 : List UInt8 := dkwX5_dueOf_1 ++ dktX5_dueOf_2
def dkwX5_dueOf_0 : List UInt8 := [42, 182, 0, 225, 42, 180, 0, 31, 27, 46, 62, 2, 54, 4, 17, 3, 231, 54, 5, 3, 54, 6, 21, 6]
abbrev dktX5_dueOf_0 : List UInt8 := dkwX5_dueOf_0 ++ dktX5_dueOf_1
theorem dksX5_dueOf_0 : cX5_dueOf.data.toList.drop 0 = dktX5_dueOf_0 := by decide +kernel
theorem dksX5_dueOf_1 : cX5_dueOf.data.toList.drop 24 = dktX5_dueOf_1 := dk_seg dksX5_dueOf_0 24 rfl rfl
theorem dksX5_dueOf_2 : cX5_dueOf.data.toList.drop 47 = dktX5_dueOf_2 := dk_seg dksX5_dueOf_1 23 rfl rfl
theorem dksX5_dueOf_3 : cX5_dueOf.data.toList.drop 70 = dktX5_dueOf_3 := dk_seg dksX5_dueOf_2 23 rfl rfl
theorem dksX5_dueOf_4 : cX5_dueOf.data.toList.drop 93 = dktX5_dueOf_4 := dk_seg dksX5_dueOf_3 23 rfl rfl
theorem dX5_dueOf_0 : decode cX5_dueOf 0 = .ok (.aload_n 0, 1) := dk_42 (dk_at dksX5_dueOf_0 0 rfl rfl)
theorem dX5_dueOf_1 : decode cX5_dueOf 1 = .ok (.invokevirtual 225, 3) := dk_182 0 225 (dk_at dksX5_dueOf_0 1 rfl rfl)
theorem dX5_dueOf_4 : decode cX5_dueOf 4 = .ok (.aload_n 0, 1) := dk_42 (dk_at dksX5_dueOf_0 4 rfl rfl)
theorem dX5_dueOf_5 : decode cX5_dueOf 5 = .ok (.getfield 31, 3) := dk_180 0 31 (dk_at dksX5_dueOf_0 5 rfl rfl)
theorem dX5_dueOf_8 : decode cX5_dueOf 8 = .ok (.iload_n 1, 1) := dk_27 (dk_at dksX5_dueOf_0 8 rfl rfl)
theorem dX5_dueOf_9 : decode cX5_dueOf 9 = .ok (.iaload, 1) := dk_46 (dk_at dksX5_dueOf_0 9 rfl rfl)
theorem dX5_dueOf_10 : decode cX5_dueOf 10 = .ok (.istore_n 3, 1) := dk_62 (dk_at dksX5_dueOf_0 10 rfl rfl)
theorem dX5_dueOf_11 : decode cX5_dueOf 11 = .ok (.iconst (-1), 1) := dk_2 (dk_at dksX5_dueOf_0 11 rfl rfl)
theorem dX5_dueOf_12 : decode cX5_dueOf 12 = .ok (.istore 4, 2) := dk_54 4 (dk_at dksX5_dueOf_0 12 rfl rfl)
theorem dX5_dueOf_14 : decode cX5_dueOf 14 = .ok (.sipush 999, 3) := dk_17 3 231 (dk_at dksX5_dueOf_0 14 rfl rfl)
theorem dX5_dueOf_17 : decode cX5_dueOf 17 = .ok (.istore 5, 2) := dk_54 5 (dk_at dksX5_dueOf_0 17 rfl rfl)
theorem dX5_dueOf_19 : decode cX5_dueOf 19 = .ok (.iconst 0, 1) := dk_3 (dk_at dksX5_dueOf_0 19 rfl rfl)
theorem dX5_dueOf_20 : decode cX5_dueOf 20 = .ok (.istore 6, 2) := dk_54 6 (dk_at dksX5_dueOf_0 20 rfl rfl)
theorem dX5_dueOf_22 : decode cX5_dueOf 22 = .ok (.iload 6, 2) := dk_21 6 (dk_at dksX5_dueOf_0 22 rfl rfl)
theorem dX5_dueOf_24 : decode cX5_dueOf 24 = .ok (.bipush 24, 2) := dk_16 24 (dk_at dksX5_dueOf_1 0 rfl rfl)
theorem dX5_dueOf_26 : decode cX5_dueOf 26 = .ok (.if_icmp .ge 59, 3) := dk_162 0 59 (dk_at dksX5_dueOf_1 2 rfl rfl)
theorem dX5_dueOf_29 : decode cX5_dueOf 29 = .ok (.aload_n 0, 1) := dk_42 (dk_at dksX5_dueOf_1 5 rfl rfl)
theorem dX5_dueOf_30 : decode cX5_dueOf 30 = .ok (.getfield 31, 3) := dk_180 0 31 (dk_at dksX5_dueOf_1 6 rfl rfl)
theorem dX5_dueOf_33 : decode cX5_dueOf 33 = .ok (.iload_n 1, 1) := dk_27 (dk_at dksX5_dueOf_1 9 rfl rfl)
theorem dX5_dueOf_34 : decode cX5_dueOf 34 = .ok (.iload 6, 2) := dk_21 6 (dk_at dksX5_dueOf_1 10 rfl rfl)
theorem dX5_dueOf_36 : decode cX5_dueOf 36 = .ok (.iastore, 1) := dk_79 (dk_at dksX5_dueOf_1 12 rfl rfl)
theorem dX5_dueOf_37 : decode cX5_dueOf 37 = .ok (.aload_n 0, 1) := dk_42 (dk_at dksX5_dueOf_1 13 rfl rfl)
theorem dX5_dueOf_38 : decode cX5_dueOf 38 = .ok (.invokevirtual 228, 3) := dk_182 0 228 (dk_at dksX5_dueOf_1 14 rfl rfl)
theorem dX5_dueOf_41 : decode cX5_dueOf 41 = .ok (.aload_n 0, 1) := dk_42 (dk_at dksX5_dueOf_1 17 rfl rfl)
theorem dX5_dueOf_42 : decode cX5_dueOf 42 = .ok (.invokevirtual 256, 3) := dk_182 1 0 (dk_at dksX5_dueOf_1 18 rfl rfl)
theorem dX5_dueOf_45 : decode cX5_dueOf 45 = .ok (.istore 7, 2) := dk_54 7 (dk_at dksX5_dueOf_1 21 rfl rfl)
theorem dX5_dueOf_47 : decode cX5_dueOf 47 = .ok (.iload 7, 2) := dk_21 7 (dk_at dksX5_dueOf_2 0 rfl rfl)
theorem dX5_dueOf_49 : decode cX5_dueOf 49 = .ok (.iload 5, 2) := dk_21 5 (dk_at dksX5_dueOf_2 2 rfl rfl)
theorem dX5_dueOf_51 : decode cX5_dueOf 51 = .ok (.if_icmp .ge 8, 3) := dk_162 0 8 (dk_at dksX5_dueOf_2 4 rfl rfl)
theorem dX5_dueOf_54 : decode cX5_dueOf 54 = .ok (.iload 6, 2) := dk_21 6 (dk_at dksX5_dueOf_2 7 rfl rfl)
theorem dX5_dueOf_56 : decode cX5_dueOf 56 = .ok (.goto 5, 3) := dk_167 0 5 (dk_at dksX5_dueOf_2 9 rfl rfl)
theorem dX5_dueOf_59 : decode cX5_dueOf 59 = .ok (.iload 4, 2) := dk_21 4 (dk_at dksX5_dueOf_2 12 rfl rfl)
theorem dX5_dueOf_61 : decode cX5_dueOf 61 = .ok (.istore 4, 2) := dk_54 4 (dk_at dksX5_dueOf_2 14 rfl rfl)
theorem dX5_dueOf_63 : decode cX5_dueOf 63 = .ok (.iload 7, 2) := dk_21 7 (dk_at dksX5_dueOf_2 16 rfl rfl)
theorem dX5_dueOf_65 : decode cX5_dueOf 65 = .ok (.iload 5, 2) := dk_21 5 (dk_at dksX5_dueOf_2 18 rfl rfl)
theorem dX5_dueOf_67 : decode cX5_dueOf 67 = .ok (.if_icmp .ge 8, 3) := dk_162 0 8 (dk_at dksX5_dueOf_2 20 rfl rfl)
theorem dX5_dueOf_70 : decode cX5_dueOf 70 = .ok (.iload 7, 2) := dk_21 7 (dk_at dksX5_dueOf_3 0 rfl rfl)
theorem dX5_dueOf_72 : decode cX5_dueOf 72 = .ok (.goto 5, 3) := dk_167 0 5 (dk_at dksX5_dueOf_3 2 rfl rfl)
theorem dX5_dueOf_75 : decode cX5_dueOf 75 = .ok (.iload 5, 2) := dk_21 5 (dk_at dksX5_dueOf_3 5 rfl rfl)
theorem dX5_dueOf_77 : decode cX5_dueOf 77 = .ok (.istore 5, 2) := dk_54 5 (dk_at dksX5_dueOf_3 7 rfl rfl)
theorem dX5_dueOf_79 : decode cX5_dueOf 79 = .ok (.iinc 6 1, 3) := dk_132 6 1 (dk_at dksX5_dueOf_3 9 rfl rfl)
theorem dX5_dueOf_82 : decode cX5_dueOf 82 = .ok (.goto (-60), 3) := dk_167 255 196 (dk_at dksX5_dueOf_3 12 rfl rfl)
theorem dX5_dueOf_85 : decode cX5_dueOf 85 = .ok (.aload_n 0, 1) := dk_42 (dk_at dksX5_dueOf_3 15 rfl rfl)
theorem dX5_dueOf_86 : decode cX5_dueOf 86 = .ok (.getfield 31, 3) := dk_180 0 31 (dk_at dksX5_dueOf_3 16 rfl rfl)
theorem dX5_dueOf_89 : decode cX5_dueOf 89 = .ok (.iload_n 1, 1) := dk_27 (dk_at dksX5_dueOf_3 19 rfl rfl)
theorem dX5_dueOf_90 : decode cX5_dueOf 90 = .ok (.iload_n 3, 1) := dk_29 (dk_at dksX5_dueOf_3 20 rfl rfl)
theorem dX5_dueOf_91 : decode cX5_dueOf 91 = .ok (.iastore, 1) := dk_79 (dk_at dksX5_dueOf_3 21 rfl rfl)
theorem dX5_dueOf_92 : decode cX5_dueOf 92 = .ok (.iload_n 2, 1) := dk_28 (dk_at dksX5_dueOf_3 22 rfl rfl)
theorem dX5_dueOf_93 : decode cX5_dueOf 93 = .ok (.ifCond .ne 8, 3) := dk_154 0 8 (dk_at dksX5_dueOf_4 0 rfl rfl)
theorem dX5_dueOf_96 : decode cX5_dueOf 96 = .ok (.iload 4, 2) := dk_21 4 (dk_at dksX5_dueOf_4 3 rfl rfl)
theorem dX5_dueOf_98 : decode cX5_dueOf 98 = .ok (.goto 5, 3) := dk_167 0 5 (dk_at dksX5_dueOf_4 5 rfl rfl)
theorem dX5_dueOf_101 : decode cX5_dueOf 101 = .ok (.iload 5, 2) := dk_21 5 (dk_at dksX5_dueOf_4 8 rfl rfl)
theorem dX5_dueOf_103 : decode cX5_dueOf 103 = .ok (.ireturn, 1) := dk_172 (dk_at dksX5_dueOf_4 10 rfl rfl)
abbrev cX5_hush : ByteArray := prog_13_method_68_code
def yX5_hush : MethodName := ⟨RX5, "hush", "(I)I"⟩
def dkwX5_hush_0 : List UInt8 := [27, 2, 4, 184, 0, 115, 153, 0, 15, 42, 42, 182, 1, 25, 27, 182, 1, 28, 167, 0, 5, 16, 254, 172]
abbrev dktX5_hush_0 : List UInt8 := dkwX5_hush_0 ++ []
theorem dksX5_hush_0 : cX5_hush.data.toList.drop 0 = dktX5_hush_0 := by decide +kernel
theorem dX5_hush_0 : decode cX5_hush 0 = .ok (.iload_n 1, 1) := dk_27 (dk_at dksX5_hush_0 0 rfl rfl)
theorem dX5_hush_1 : decode cX5_hush 1 = .ok (.iconst (-1), 1) := dk_2 (dk_at dksX5_hush_0 1 rfl rfl)
theorem dX5_hush_2 : decode cX5_hush 2 = .ok (.iconst 1, 1) := dk_4 (dk_at dksX5_hush_0 2 rfl rfl)
theorem dX5_hush_3 : decode cX5_hush 3 = .ok (.invokestatic 115, 3) := dk_184 0 115 (dk_at dksX5_hush_0 3 rfl rfl)
theorem dX5_hush_6 : decode cX5_hush 6 = .ok (.ifCond .eq 15, 3) := dk_153 0 15 (dk_at dksX5_hush_0 6 rfl rfl)
theorem dX5_hush_9 : decode cX5_hush 9 = .ok (.aload_n 0, 1) := dk_42 (dk_at dksX5_hush_0 9 rfl rfl)
theorem dX5_hush_10 : decode cX5_hush 10 = .ok (.aload_n 0, 1) := dk_42 (dk_at dksX5_hush_0 10 rfl rfl)
theorem dX5_hush_11 : decode cX5_hush 11 = .ok (.invokevirtual 281, 3) := dk_182 1 25 (dk_at dksX5_hush_0 11 rfl rfl)
theorem dX5_hush_14 : decode cX5_hush 14 = .ok (.iload_n 1, 1) := dk_27 (dk_at dksX5_hush_0 14 rfl rfl)
theorem dX5_hush_15 : decode cX5_hush 15 = .ok (.invokevirtual 284, 3) := dk_182 1 28 (dk_at dksX5_hush_0 15 rfl rfl)
theorem dX5_hush_18 : decode cX5_hush 18 = .ok (.goto 5, 3) := dk_167 0 5 (dk_at dksX5_hush_0 18 rfl rfl)
theorem dX5_hush_21 : decode cX5_hush 21 = .ok (.bipush (-2), 2) := dk_16 254 (dk_at dksX5_hush_0 21 rfl rfl)
theorem dX5_hush_23 : decode cX5_hush 23 = .ok (.ireturn, 1) := dk_172 (dk_at dksX5_hush_0 23 rfl rfl)
abbrev cX5_hushBy : ByteArray := prog_13_method_66_code
def yX5_hushBy : MethodName := ⟨RX5, "hushBy", "()I"⟩
def dkwX5_hushBy_4 : List UInt8 := [128, 182, 1, 22, 153, 0, 5, 5, 172, 132, 2, 1, 167, 255, 215, 132, 1, 1, 167, 255, 197, 2, 172]
abbrev dktX5_hushBy_4 : List UInt8 := dkwX5_hushBy_4 ++ []
def dkwX5_hushBy_3 : List UInt8 := [162, 0, 39, 42, 180, 0, 82, 3, 27, 79, 42, 180, 0, 82, 4, 28, 79, 42, 4, 27, 120, 4, 28, 120]
abbrev dktX5_hushBy_3 : List UInt8 := dkwX5_hushBy_3 ++ dktX5_hushBy_4
def dkwX5_hushBy_2 : List UInt8 := [167, 255, 226, 3, 60, 27, 42, 180, 0, 171, 162, 0, 57, 27, 4, 96, 61, 28, 42, 180, 0, 171]
abbrev dktX5_hushBy_2 : List UInt8 := dkwX5_hushBy_2 ++ dktX5_hushBy_3
def dkwX5_hushBy_1 : List UInt8 := [42, 180, 0, 82, 3, 27, 79, 42, 4, 27, 120, 182, 1, 22, 153, 0, 5, 4, 172, 132, 1, 1]
abbrev dktX5_hushBy_1 : List UInt8 := dkwX5_hushBy_1 ++ dktX5_hushBy_2
def dkwX5_hushBy_0 : List UInt8 := [42, 182, 0, 225, 42, 3, 182, 1, 22, 153, 0, 5, 3, 172, 3, 60, 27, 42, 180, 0, 171, 162, 0, 28]
abbrev dktX5_hushBy_0 : List UInt8 := dkwX5_hushBy_0 ++ dktX5_hushBy_1
theorem dksX5_hushBy_0 : cX5_hushBy.data.toList.drop 0 = dktX5_hushBy_0 := by decide +kernel
theorem dksX5_hushBy_1 : cX5_hushBy.data.toList.drop 24 = dktX5_hushBy_1 := dk_seg dksX5_hushBy_0 24 rfl rfl
theorem dksX5_hushBy_2 : cX5_hushBy.data.toList.drop 46 = dktX5_hushBy_2 := dk_seg dksX5_hushBy_1 22 rfl rfl
theorem dksX5_hushBy_3 : cX5_hushBy.data.toList.drop 68 = dktX5_hushBy_3 := dk_seg dksX5_hushBy_2 22 rfl rfl
theorem dksX5_hushBy_4 : cX5_hushBy.data.toList.drop 92 = dktX5_hushBy_4 := dk_seg dksX5_hushBy_3 24 rfl rfl
theorem dX5_hushBy_0 : decode cX5_hushBy 0 = .ok (.aload_n 0, 1) := dk_42 (dk_at dksX5_hushBy_0 0 rfl rfl)
theorem dX5_hushBy_1 : decode cX5_hushBy 1 = .ok (.invokevirtual 225, 3) := dk_182 0 225 (dk_at dksX5_hushBy_0 1 rfl rfl)
theorem dX5_hushBy_4 : decode cX5_hushBy 4 = .ok (.aload_n 0, 1) := dk_42 (dk_at dksX5_hushBy_0 4 rfl rfl)
theorem dX5_hushBy_5 : decode cX5_hushBy 5 = .ok (.iconst 0, 1) := dk_3 (dk_at dksX5_hushBy_0 5 rfl rfl)
theorem dX5_hushBy_6 : decode cX5_hushBy 6 = .ok (.invokevirtual 278, 3) := dk_182 1 22 (dk_at dksX5_hushBy_0 6 rfl rfl)
theorem dX5_hushBy_9 : decode cX5_hushBy 9 = .ok (.ifCond .eq 5, 3) := dk_153 0 5 (dk_at dksX5_hushBy_0 9 rfl rfl)
theorem dX5_hushBy_12 : decode cX5_hushBy 12 = .ok (.iconst 0, 1) := dk_3 (dk_at dksX5_hushBy_0 12 rfl rfl)
theorem dX5_hushBy_13 : decode cX5_hushBy 13 = .ok (.ireturn, 1) := dk_172 (dk_at dksX5_hushBy_0 13 rfl rfl)
theorem dX5_hushBy_14 : decode cX5_hushBy 14 = .ok (.iconst 0, 1) := dk_3 (dk_at dksX5_hushBy_0 14 rfl rfl)
theorem dX5_hushBy_15 : decode cX5_hushBy 15 = .ok (.istore_n 1, 1) := dk_60 (dk_at dksX5_hushBy_0 15 rfl rfl)
theorem dX5_hushBy_16 : decode cX5_hushBy 16 = .ok (.iload_n 1, 1) := dk_27 (dk_at dksX5_hushBy_0 16 rfl rfl)
theorem dX5_hushBy_17 : decode cX5_hushBy 17 = .ok (.aload_n 0, 1) := dk_42 (dk_at dksX5_hushBy_0 17 rfl rfl)
theorem dX5_hushBy_18 : decode cX5_hushBy 18 = .ok (.getfield 171, 3) := dk_180 0 171 (dk_at dksX5_hushBy_0 18 rfl rfl)
theorem dX5_hushBy_21 : decode cX5_hushBy 21 = .ok (.if_icmp .ge 28, 3) := dk_162 0 28 (dk_at dksX5_hushBy_0 21 rfl rfl)
theorem dX5_hushBy_24 : decode cX5_hushBy 24 = .ok (.aload_n 0, 1) := dk_42 (dk_at dksX5_hushBy_1 0 rfl rfl)
theorem dX5_hushBy_25 : decode cX5_hushBy 25 = .ok (.getfield 82, 3) := dk_180 0 82 (dk_at dksX5_hushBy_1 1 rfl rfl)
theorem dX5_hushBy_28 : decode cX5_hushBy 28 = .ok (.iconst 0, 1) := dk_3 (dk_at dksX5_hushBy_1 4 rfl rfl)
theorem dX5_hushBy_29 : decode cX5_hushBy 29 = .ok (.iload_n 1, 1) := dk_27 (dk_at dksX5_hushBy_1 5 rfl rfl)
theorem dX5_hushBy_30 : decode cX5_hushBy 30 = .ok (.iastore, 1) := dk_79 (dk_at dksX5_hushBy_1 6 rfl rfl)
theorem dX5_hushBy_31 : decode cX5_hushBy 31 = .ok (.aload_n 0, 1) := dk_42 (dk_at dksX5_hushBy_1 7 rfl rfl)
theorem dX5_hushBy_32 : decode cX5_hushBy 32 = .ok (.iconst 1, 1) := dk_4 (dk_at dksX5_hushBy_1 8 rfl rfl)
theorem dX5_hushBy_33 : decode cX5_hushBy 33 = .ok (.iload_n 1, 1) := dk_27 (dk_at dksX5_hushBy_1 9 rfl rfl)
theorem dX5_hushBy_34 : decode cX5_hushBy 34 = .ok (.ishl, 1) := dk_120 (dk_at dksX5_hushBy_1 10 rfl rfl)
theorem dX5_hushBy_35 : decode cX5_hushBy 35 = .ok (.invokevirtual 278, 3) := dk_182 1 22 (dk_at dksX5_hushBy_1 11 rfl rfl)
theorem dX5_hushBy_38 : decode cX5_hushBy 38 = .ok (.ifCond .eq 5, 3) := dk_153 0 5 (dk_at dksX5_hushBy_1 14 rfl rfl)
theorem dX5_hushBy_41 : decode cX5_hushBy 41 = .ok (.iconst 1, 1) := dk_4 (dk_at dksX5_hushBy_1 17 rfl rfl)
theorem dX5_hushBy_42 : decode cX5_hushBy 42 = .ok (.ireturn, 1) := dk_172 (dk_at dksX5_hushBy_1 18 rfl rfl)
theorem dX5_hushBy_43 : decode cX5_hushBy 43 = .ok (.iinc 1 1, 3) := dk_132 1 1 (dk_at dksX5_hushBy_1 19 rfl rfl)
theorem dX5_hushBy_46 : decode cX5_hushBy 46 = .ok (.goto (-30), 3) := dk_167 255 226 (dk_at dksX5_hushBy_2 0 rfl rfl)
theorem dX5_hushBy_49 : decode cX5_hushBy 49 = .ok (.iconst 0, 1) := dk_3 (dk_at dksX5_hushBy_2 3 rfl rfl)
theorem dX5_hushBy_50 : decode cX5_hushBy 50 = .ok (.istore_n 1, 1) := dk_60 (dk_at dksX5_hushBy_2 4 rfl rfl)
theorem dX5_hushBy_51 : decode cX5_hushBy 51 = .ok (.iload_n 1, 1) := dk_27 (dk_at dksX5_hushBy_2 5 rfl rfl)
theorem dX5_hushBy_52 : decode cX5_hushBy 52 = .ok (.aload_n 0, 1) := dk_42 (dk_at dksX5_hushBy_2 6 rfl rfl)
theorem dX5_hushBy_53 : decode cX5_hushBy 53 = .ok (.getfield 171, 3) := dk_180 0 171 (dk_at dksX5_hushBy_2 7 rfl rfl)
theorem dX5_hushBy_56 : decode cX5_hushBy 56 = .ok (.if_icmp .ge 57, 3) := dk_162 0 57 (dk_at dksX5_hushBy_2 10 rfl rfl)
theorem dX5_hushBy_59 : decode cX5_hushBy 59 = .ok (.iload_n 1, 1) := dk_27 (dk_at dksX5_hushBy_2 13 rfl rfl)
theorem dX5_hushBy_60 : decode cX5_hushBy 60 = .ok (.iconst 1, 1) := dk_4 (dk_at dksX5_hushBy_2 14 rfl rfl)
theorem dX5_hushBy_61 : decode cX5_hushBy 61 = .ok (.iadd, 1) := dk_96 (dk_at dksX5_hushBy_2 15 rfl rfl)
theorem dX5_hushBy_62 : decode cX5_hushBy 62 = .ok (.istore_n 2, 1) := dk_61 (dk_at dksX5_hushBy_2 16 rfl rfl)
theorem dX5_hushBy_63 : decode cX5_hushBy 63 = .ok (.iload_n 2, 1) := dk_28 (dk_at dksX5_hushBy_2 17 rfl rfl)
theorem dX5_hushBy_64 : decode cX5_hushBy 64 = .ok (.aload_n 0, 1) := dk_42 (dk_at dksX5_hushBy_2 18 rfl rfl)
theorem dX5_hushBy_65 : decode cX5_hushBy 65 = .ok (.getfield 171, 3) := dk_180 0 171 (dk_at dksX5_hushBy_2 19 rfl rfl)
theorem dX5_hushBy_68 : decode cX5_hushBy 68 = .ok (.if_icmp .ge 39, 3) := dk_162 0 39 (dk_at dksX5_hushBy_3 0 rfl rfl)
theorem dX5_hushBy_71 : decode cX5_hushBy 71 = .ok (.aload_n 0, 1) := dk_42 (dk_at dksX5_hushBy_3 3 rfl rfl)
theorem dX5_hushBy_72 : decode cX5_hushBy 72 = .ok (.getfield 82, 3) := dk_180 0 82 (dk_at dksX5_hushBy_3 4 rfl rfl)
theorem dX5_hushBy_75 : decode cX5_hushBy 75 = .ok (.iconst 0, 1) := dk_3 (dk_at dksX5_hushBy_3 7 rfl rfl)
theorem dX5_hushBy_76 : decode cX5_hushBy 76 = .ok (.iload_n 1, 1) := dk_27 (dk_at dksX5_hushBy_3 8 rfl rfl)
theorem dX5_hushBy_77 : decode cX5_hushBy 77 = .ok (.iastore, 1) := dk_79 (dk_at dksX5_hushBy_3 9 rfl rfl)
theorem dX5_hushBy_78 : decode cX5_hushBy 78 = .ok (.aload_n 0, 1) := dk_42 (dk_at dksX5_hushBy_3 10 rfl rfl)
theorem dX5_hushBy_79 : decode cX5_hushBy 79 = .ok (.getfield 82, 3) := dk_180 0 82 (dk_at dksX5_hushBy_3 11 rfl rfl)
theorem dX5_hushBy_82 : decode cX5_hushBy 82 = .ok (.iconst 1, 1) := dk_4 (dk_at dksX5_hushBy_3 14 rfl rfl)
theorem dX5_hushBy_83 : decode cX5_hushBy 83 = .ok (.iload_n 2, 1) := dk_28 (dk_at dksX5_hushBy_3 15 rfl rfl)
theorem dX5_hushBy_84 : decode cX5_hushBy 84 = .ok (.iastore, 1) := dk_79 (dk_at dksX5_hushBy_3 16 rfl rfl)
theorem dX5_hushBy_85 : decode cX5_hushBy 85 = .ok (.aload_n 0, 1) := dk_42 (dk_at dksX5_hushBy_3 17 rfl rfl)
theorem dX5_hushBy_86 : decode cX5_hushBy 86 = .ok (.iconst 1, 1) := dk_4 (dk_at dksX5_hushBy_3 18 rfl rfl)
theorem dX5_hushBy_87 : decode cX5_hushBy 87 = .ok (.iload_n 1, 1) := dk_27 (dk_at dksX5_hushBy_3 19 rfl rfl)
theorem dX5_hushBy_88 : decode cX5_hushBy 88 = .ok (.ishl, 1) := dk_120 (dk_at dksX5_hushBy_3 20 rfl rfl)
theorem dX5_hushBy_89 : decode cX5_hushBy 89 = .ok (.iconst 1, 1) := dk_4 (dk_at dksX5_hushBy_3 21 rfl rfl)
theorem dX5_hushBy_90 : decode cX5_hushBy 90 = .ok (.iload_n 2, 1) := dk_28 (dk_at dksX5_hushBy_3 22 rfl rfl)
theorem dX5_hushBy_91 : decode cX5_hushBy 91 = .ok (.ishl, 1) := dk_120 (dk_at dksX5_hushBy_3 23 rfl rfl)
theorem dX5_hushBy_92 : decode cX5_hushBy 92 = .ok (.ior, 1) := dk_128 (dk_at dksX5_hushBy_4 0 rfl rfl)
theorem dX5_hushBy_93 : decode cX5_hushBy 93 = .ok (.invokevirtual 278, 3) := dk_182 1 22 (dk_at dksX5_hushBy_4 1 rfl rfl)
theorem dX5_hushBy_96 : decode cX5_hushBy 96 = .ok (.ifCond .eq 5, 3) := dk_153 0 5 (dk_at dksX5_hushBy_4 4 rfl rfl)
theorem dX5_hushBy_99 : decode cX5_hushBy 99 = .ok (.iconst 2, 1) := dk_5 (dk_at dksX5_hushBy_4 7 rfl rfl)
theorem dX5_hushBy_100 : decode cX5_hushBy 100 = .ok (.ireturn, 1) := dk_172 (dk_at dksX5_hushBy_4 8 rfl rfl)
theorem dX5_hushBy_101 : decode cX5_hushBy 101 = .ok (.iinc 2 1, 3) := dk_132 2 1 (dk_at dksX5_hushBy_4 9 rfl rfl)
theorem dX5_hushBy_104 : decode cX5_hushBy 104 = .ok (.goto (-41), 3) := dk_167 255 215 (dk_at dksX5_hushBy_4 12 rfl rfl)
theorem dX5_hushBy_107 : decode cX5_hushBy 107 = .ok (.iinc 1 1, 3) := dk_132 1 1 (dk_at dksX5_hushBy_4 15 rfl rfl)
theorem dX5_hushBy_110 : decode cX5_hushBy 110 = .ok (.goto (-59), 3) := dk_167 255 197 (dk_at dksX5_hushBy_4 18 rfl rfl)
theorem dX5_hushBy_113 : decode cX5_hushBy 113 = .ok (.iconst (-1), 1) := dk_2 (dk_at dksX5_hushBy_4 21 rfl rfl)
theorem dX5_hushBy_114 : decode cX5_hushBy 114 = .ok (.ireturn, 1) := dk_172 (dk_at dksX5_hushBy_4 22 rfl rfl)
abbrev cX5_isHushed : ByteArray := prog_13_method_65_code
def yX5_isHushed : MethodName := ⟨RX5, "isHushed", "(I)Z"⟩
def dkwX5_isHushed_0 : List UInt8 := [42, 27, 181, 0, 195, 42, 182, 0, 228, 42, 16, 23, 182, 0, 247, 154, 0, 7, 4, 167, 0, 4, 3, 172]
abbrev dktX5_isHushed_0 : List UInt8 := dkwX5_isHushed_0 ++ []
theorem dksX5_isHushed_0 : cX5_isHushed.data.toList.drop 0 = dktX5_isHushed_0 := by decide +kernel
theorem dX5_isHushed_0 : decode cX5_isHushed 0 = .ok (.aload_n 0, 1) := dk_42 (dk_at dksX5_isHushed_0 0 rfl rfl)
theorem dX5_isHushed_1 : decode cX5_isHushed 1 = .ok (.iload_n 1, 1) := dk_27 (dk_at dksX5_isHushed_0 1 rfl rfl)
theorem dX5_isHushed_2 : decode cX5_isHushed 2 = .ok (.putfield 195, 3) := dk_181 0 195 (dk_at dksX5_isHushed_0 2 rfl rfl)
theorem dX5_isHushed_5 : decode cX5_isHushed 5 = .ok (.aload_n 0, 1) := dk_42 (dk_at dksX5_isHushed_0 5 rfl rfl)
theorem dX5_isHushed_6 : decode cX5_isHushed 6 = .ok (.invokevirtual 228, 3) := dk_182 0 228 (dk_at dksX5_isHushed_0 6 rfl rfl)
theorem dX5_isHushed_9 : decode cX5_isHushed 9 = .ok (.aload_n 0, 1) := dk_42 (dk_at dksX5_isHushed_0 9 rfl rfl)
theorem dX5_isHushed_10 : decode cX5_isHushed 10 = .ok (.bipush 23, 2) := dk_16 23 (dk_at dksX5_isHushed_0 10 rfl rfl)
theorem dX5_isHushed_12 : decode cX5_isHushed 12 = .ok (.invokevirtual 247, 3) := dk_182 0 247 (dk_at dksX5_isHushed_0 12 rfl rfl)
theorem dX5_isHushed_15 : decode cX5_isHushed 15 = .ok (.ifCond .ne 7, 3) := dk_154 0 7 (dk_at dksX5_isHushed_0 15 rfl rfl)
theorem dX5_isHushed_18 : decode cX5_isHushed 18 = .ok (.iconst 1, 1) := dk_4 (dk_at dksX5_isHushed_0 18 rfl rfl)
theorem dX5_isHushed_19 : decode cX5_isHushed 19 = .ok (.goto 4, 3) := dk_167 0 4 (dk_at dksX5_isHushed_0 19 rfl rfl)
theorem dX5_isHushed_22 : decode cX5_isHushed 22 = .ok (.iconst 0, 1) := dk_3 (dk_at dksX5_isHushed_0 22 rfl rfl)
theorem dX5_isHushed_23 : decode cX5_isHushed 23 = .ok (.ireturn, 1) := dk_172 (dk_at dksX5_isHushed_0 23 rfl rfl)
abbrev cX5_ofRow : ByteArray := prog_13_method_67_code
def yX5_ofRow : MethodName := ⟨RX5, "ofRow", "(II)I"⟩
def dkwX5_ofRow_1 : List UInt8 := [172]
abbrev dktX5_ofRow_1 : List UInt8 := dkwX5_ofRow_1 ++ []
def dkwX5_ofRow_0 : List UInt8 := [28, 2, 160, 0, 7, 27, 167, 0, 18, 28, 27, 162, 0, 12, 42, 180, 0, 82, 28, 46, 167, 0, 4, 2]
abbrev dktX5_ofRow_0 : List UInt8 := dkwX5_ofRow_0 ++ dktX5_ofRow_1
theorem dksX5_ofRow_0 : cX5_ofRow.data.toList.drop 0 = dktX5_ofRow_0 := by decide +kernel
theorem dksX5_ofRow_1 : cX5_ofRow.data.toList.drop 24 = dktX5_ofRow_1 := dk_seg dksX5_ofRow_0 24 rfl rfl
theorem dX5_ofRow_0 : decode cX5_ofRow 0 = .ok (.iload_n 2, 1) := dk_28 (dk_at dksX5_ofRow_0 0 rfl rfl)
theorem dX5_ofRow_1 : decode cX5_ofRow 1 = .ok (.iconst (-1), 1) := dk_2 (dk_at dksX5_ofRow_0 1 rfl rfl)
theorem dX5_ofRow_2 : decode cX5_ofRow 2 = .ok (.if_icmp .ne 7, 3) := dk_160 0 7 (dk_at dksX5_ofRow_0 2 rfl rfl)
theorem dX5_ofRow_5 : decode cX5_ofRow 5 = .ok (.iload_n 1, 1) := dk_27 (dk_at dksX5_ofRow_0 5 rfl rfl)
theorem dX5_ofRow_6 : decode cX5_ofRow 6 = .ok (.goto 18, 3) := dk_167 0 18 (dk_at dksX5_ofRow_0 6 rfl rfl)
theorem dX5_ofRow_9 : decode cX5_ofRow 9 = .ok (.iload_n 2, 1) := dk_28 (dk_at dksX5_ofRow_0 9 rfl rfl)
theorem dX5_ofRow_10 : decode cX5_ofRow 10 = .ok (.iload_n 1, 1) := dk_27 (dk_at dksX5_ofRow_0 10 rfl rfl)
theorem dX5_ofRow_11 : decode cX5_ofRow 11 = .ok (.if_icmp .ge 12, 3) := dk_162 0 12 (dk_at dksX5_ofRow_0 11 rfl rfl)
theorem dX5_ofRow_14 : decode cX5_ofRow 14 = .ok (.aload_n 0, 1) := dk_42 (dk_at dksX5_ofRow_0 14 rfl rfl)
theorem dX5_ofRow_15 : decode cX5_ofRow 15 = .ok (.getfield 82, 3) := dk_180 0 82 (dk_at dksX5_ofRow_0 15 rfl rfl)
theorem dX5_ofRow_18 : decode cX5_ofRow 18 = .ok (.iload_n 2, 1) := dk_28 (dk_at dksX5_ofRow_0 18 rfl rfl)
theorem dX5_ofRow_19 : decode cX5_ofRow 19 = .ok (.iaload, 1) := dk_46 (dk_at dksX5_ofRow_0 19 rfl rfl)
theorem dX5_ofRow_20 : decode cX5_ofRow 20 = .ok (.goto 4, 3) := dk_167 0 4 (dk_at dksX5_ofRow_0 20 rfl rfl)
theorem dX5_ofRow_23 : decode cX5_ofRow 23 = .ok (.iconst (-1), 1) := dk_2 (dk_at dksX5_ofRow_0 23 rfl rfl)
theorem dX5_ofRow_24 : decode cX5_ofRow 24 = .ok (.ireturn, 1) := dk_172 (dk_at dksX5_ofRow_1 0 rfl rfl)
abbrev cX5_seen : ByteArray := prog_13_method_69_code
def yX5_seen : MethodName := ⟨RX5, "seen", "(III)I"⟩
def dkwX5_seen_3 : List UInt8 := [180, 1, 31, 4, 96, 181, 1, 31, 42, 180, 1, 31, 172]
abbrev dktX5_seen_3 : List UInt8 := dkwX5_seen_3 ++ []
def dkwX5_seen_2 : List UInt8 := [79, 42, 180, 0, 88, 42, 180, 1, 31, 28, 79, 42, 180, 0, 91, 42, 180, 1, 31, 29, 79, 42, 89]
abbrev dktX5_seen_2 : List UInt8 := dkwX5_seen_2 ++ dktX5_seen_3
def dkwX5_seen_1 : List UInt8 := [16, 254, 172, 42, 180, 1, 31, 16, 8, 160, 0, 6, 16, 252, 172, 42, 180, 0, 85, 42, 180, 1, 31, 27]
abbrev dktX5_seen_1 : List UInt8 := dkwX5_seen_1 ++ dktX5_seen_2
def dkwX5_seen_0 : List UInt8 := [27, 184, 0, 162, 153, 0, 20, 28, 184, 0, 168, 153, 0, 13, 29, 3, 16, 99, 184, 0, 115, 154, 0, 6]
abbrev dktX5_seen_0 : List UInt8 := dkwX5_seen_0 ++ dktX5_seen_1
theorem dksX5_seen_0 : cX5_seen.data.toList.drop 0 = dktX5_seen_0 := by decide +kernel
theorem dksX5_seen_1 : cX5_seen.data.toList.drop 24 = dktX5_seen_1 := dk_seg dksX5_seen_0 24 rfl rfl
theorem dksX5_seen_2 : cX5_seen.data.toList.drop 48 = dktX5_seen_2 := dk_seg dksX5_seen_1 24 rfl rfl
theorem dksX5_seen_3 : cX5_seen.data.toList.drop 71 = dktX5_seen_3 := dk_seg dksX5_seen_2 23 rfl rfl
theorem dX5_seen_0 : decode cX5_seen 0 = .ok (.iload_n 1, 1) := dk_27 (dk_at dksX5_seen_0 0 rfl rfl)
theorem dX5_seen_1 : decode cX5_seen 1 = .ok (.invokestatic 162, 3) := dk_184 0 162 (dk_at dksX5_seen_0 1 rfl rfl)
theorem dX5_seen_4 : decode cX5_seen 4 = .ok (.ifCond .eq 20, 3) := dk_153 0 20 (dk_at dksX5_seen_0 4 rfl rfl)
theorem dX5_seen_7 : decode cX5_seen 7 = .ok (.iload_n 2, 1) := dk_28 (dk_at dksX5_seen_0 7 rfl rfl)
theorem dX5_seen_8 : decode cX5_seen 8 = .ok (.invokestatic 168, 3) := dk_184 0 168 (dk_at dksX5_seen_0 8 rfl rfl)
theorem dX5_seen_11 : decode cX5_seen 11 = .ok (.ifCond .eq 13, 3) := dk_153 0 13 (dk_at dksX5_seen_0 11 rfl rfl)
theorem dX5_seen_14 : decode cX5_seen 14 = .ok (.iload_n 3, 1) := dk_29 (dk_at dksX5_seen_0 14 rfl rfl)
theorem dX5_seen_15 : decode cX5_seen 15 = .ok (.iconst 0, 1) := dk_3 (dk_at dksX5_seen_0 15 rfl rfl)
theorem dX5_seen_16 : decode cX5_seen 16 = .ok (.bipush 99, 2) := dk_16 99 (dk_at dksX5_seen_0 16 rfl rfl)
theorem dX5_seen_18 : decode cX5_seen 18 = .ok (.invokestatic 115, 3) := dk_184 0 115 (dk_at dksX5_seen_0 18 rfl rfl)
theorem dX5_seen_21 : decode cX5_seen 21 = .ok (.ifCond .ne 6, 3) := dk_154 0 6 (dk_at dksX5_seen_0 21 rfl rfl)
theorem dX5_seen_24 : decode cX5_seen 24 = .ok (.bipush (-2), 2) := dk_16 254 (dk_at dksX5_seen_1 0 rfl rfl)
theorem dX5_seen_26 : decode cX5_seen 26 = .ok (.ireturn, 1) := dk_172 (dk_at dksX5_seen_1 2 rfl rfl)
theorem dX5_seen_27 : decode cX5_seen 27 = .ok (.aload_n 0, 1) := dk_42 (dk_at dksX5_seen_1 3 rfl rfl)
theorem dX5_seen_28 : decode cX5_seen 28 = .ok (.getfield 287, 3) := dk_180 1 31 (dk_at dksX5_seen_1 4 rfl rfl)
theorem dX5_seen_31 : decode cX5_seen 31 = .ok (.bipush 8, 2) := dk_16 8 (dk_at dksX5_seen_1 7 rfl rfl)
theorem dX5_seen_33 : decode cX5_seen 33 = .ok (.if_icmp .ne 6, 3) := dk_160 0 6 (dk_at dksX5_seen_1 9 rfl rfl)
theorem dX5_seen_36 : decode cX5_seen 36 = .ok (.bipush (-4), 2) := dk_16 252 (dk_at dksX5_seen_1 12 rfl rfl)
theorem dX5_seen_38 : decode cX5_seen 38 = .ok (.ireturn, 1) := dk_172 (dk_at dksX5_seen_1 14 rfl rfl)
theorem dX5_seen_39 : decode cX5_seen 39 = .ok (.aload_n 0, 1) := dk_42 (dk_at dksX5_seen_1 15 rfl rfl)
theorem dX5_seen_40 : decode cX5_seen 40 = .ok (.getfield 85, 3) := dk_180 0 85 (dk_at dksX5_seen_1 16 rfl rfl)
theorem dX5_seen_43 : decode cX5_seen 43 = .ok (.aload_n 0, 1) := dk_42 (dk_at dksX5_seen_1 19 rfl rfl)
theorem dX5_seen_44 : decode cX5_seen 44 = .ok (.getfield 287, 3) := dk_180 1 31 (dk_at dksX5_seen_1 20 rfl rfl)
theorem dX5_seen_47 : decode cX5_seen 47 = .ok (.iload_n 1, 1) := dk_27 (dk_at dksX5_seen_1 23 rfl rfl)
theorem dX5_seen_48 : decode cX5_seen 48 = .ok (.iastore, 1) := dk_79 (dk_at dksX5_seen_2 0 rfl rfl)
theorem dX5_seen_49 : decode cX5_seen 49 = .ok (.aload_n 0, 1) := dk_42 (dk_at dksX5_seen_2 1 rfl rfl)
theorem dX5_seen_50 : decode cX5_seen 50 = .ok (.getfield 88, 3) := dk_180 0 88 (dk_at dksX5_seen_2 2 rfl rfl)
theorem dX5_seen_53 : decode cX5_seen 53 = .ok (.aload_n 0, 1) := dk_42 (dk_at dksX5_seen_2 5 rfl rfl)
theorem dX5_seen_54 : decode cX5_seen 54 = .ok (.getfield 287, 3) := dk_180 1 31 (dk_at dksX5_seen_2 6 rfl rfl)
theorem dX5_seen_57 : decode cX5_seen 57 = .ok (.iload_n 2, 1) := dk_28 (dk_at dksX5_seen_2 9 rfl rfl)
theorem dX5_seen_58 : decode cX5_seen 58 = .ok (.iastore, 1) := dk_79 (dk_at dksX5_seen_2 10 rfl rfl)
theorem dX5_seen_59 : decode cX5_seen 59 = .ok (.aload_n 0, 1) := dk_42 (dk_at dksX5_seen_2 11 rfl rfl)
theorem dX5_seen_60 : decode cX5_seen 60 = .ok (.getfield 91, 3) := dk_180 0 91 (dk_at dksX5_seen_2 12 rfl rfl)
theorem dX5_seen_63 : decode cX5_seen 63 = .ok (.aload_n 0, 1) := dk_42 (dk_at dksX5_seen_2 15 rfl rfl)
theorem dX5_seen_64 : decode cX5_seen 64 = .ok (.getfield 287, 3) := dk_180 1 31 (dk_at dksX5_seen_2 16 rfl rfl)
theorem dX5_seen_67 : decode cX5_seen 67 = .ok (.iload_n 3, 1) := dk_29 (dk_at dksX5_seen_2 19 rfl rfl)
theorem dX5_seen_68 : decode cX5_seen 68 = .ok (.iastore, 1) := dk_79 (dk_at dksX5_seen_2 20 rfl rfl)
theorem dX5_seen_69 : decode cX5_seen 69 = .ok (.aload_n 0, 1) := dk_42 (dk_at dksX5_seen_2 21 rfl rfl)
theorem dX5_seen_70 : decode cX5_seen 70 = .ok (.dup, 1) := dk_89 (dk_at dksX5_seen_2 22 rfl rfl)
theorem dX5_seen_71 : decode cX5_seen 71 = .ok (.getfield 287, 3) := dk_180 1 31 (dk_at dksX5_seen_3 0 rfl rfl)
theorem dX5_seen_74 : decode cX5_seen 74 = .ok (.iconst 1, 1) := dk_4 (dk_at dksX5_seen_3 3 rfl rfl)
theorem dX5_seen_75 : decode cX5_seen 75 = .ok (.iadd, 1) := dk_96 (dk_at dksX5_seen_3 4 rfl rfl)
theorem dX5_seen_76 : decode cX5_seen 76 = .ok (.putfield 287, 3) := dk_181 1 31 (dk_at dksX5_seen_3 5 rfl rfl)
theorem dX5_seen_79 : decode cX5_seen 79 = .ok (.aload_n 0, 1) := dk_42 (dk_at dksX5_seen_3 8 rfl rfl)
theorem dX5_seen_80 : decode cX5_seen 80 = .ok (.getfield 287, 3) := dk_180 1 31 (dk_at dksX5_seen_3 9 rfl rfl)
theorem dX5_seen_83 : decode cX5_seen 83 = .ok (.ireturn, 1) := dk_172 (dk_at dksX5_seen_3 12 rfl rfl)
abbrev cX5_forget : ByteArray := prog_13_method_70_code
def yX5_forget : MethodName := ⟨RX5, "forget", "()I"⟩
def dkwX5_forget_0 : List UInt8 := [42, 180, 1, 31, 60, 42, 3, 181, 1, 31, 27, 172]
abbrev dktX5_forget_0 : List UInt8 := dkwX5_forget_0 ++ []
theorem dksX5_forget_0 : cX5_forget.data.toList.drop 0 = dktX5_forget_0 := by decide +kernel
theorem dX5_forget_0 : decode cX5_forget 0 = .ok (.aload_n 0, 1) := dk_42 (dk_at dksX5_forget_0 0 rfl rfl)
theorem dX5_forget_1 : decode cX5_forget 1 = .ok (.getfield 287, 3) := dk_180 1 31 (dk_at dksX5_forget_0 1 rfl rfl)
theorem dX5_forget_4 : decode cX5_forget 4 = .ok (.istore_n 1, 1) := dk_60 (dk_at dksX5_forget_0 4 rfl rfl)
theorem dX5_forget_5 : decode cX5_forget 5 = .ok (.aload_n 0, 1) := dk_42 (dk_at dksX5_forget_0 5 rfl rfl)
theorem dX5_forget_6 : decode cX5_forget 6 = .ok (.iconst 0, 1) := dk_3 (dk_at dksX5_forget_0 6 rfl rfl)
theorem dX5_forget_7 : decode cX5_forget 7 = .ok (.putfield 287, 3) := dk_181 1 31 (dk_at dksX5_forget_0 7 rfl rfl)
theorem dX5_forget_10 : decode cX5_forget 10 = .ok (.iload_n 1, 1) := dk_27 (dk_at dksX5_forget_0 10 rfl rfl)
theorem dX5_forget_11 : decode cX5_forget 11 = .ok (.ireturn, 1) := dk_172 (dk_at dksX5_forget_0 11 rfl rfl)
abbrev cX5_never : ByteArray := prog_13_method_73_code
def yX5_never : MethodName := ⟨RX5, "never", "()I"⟩
theorem dX5_never_0 : decode cX5_never 0 = .ok (.aload_n 0, 1) := by decide +kernel
theorem dX5_never_1 : decode cX5_never 1 = .ok (.invokevirtual 294, 3) := by decide +kernel
theorem dX5_never_4 : decode cX5_never 4 = .ok (.ireturn, 1) := by decide +kernel
abbrev cX5_neverNow : ByteArray := prog_13_method_72_code
def yX5_neverNow : MethodName := ⟨RX5, "neverNow", "()I"⟩
def dkwX5_neverNow_1 : List UInt8 := [42, 182, 1, 34, 153, 0, 9, 4, 28, 120, 167, 0, 4, 3, 128, 60, 132, 2, 1, 167, 255, 221, 27, 172]
abbrev dktX5_neverNow_1 : List UInt8 := dkwX5_neverNow_1 ++ []
def dkwX5_neverNow_0 : List UInt8 := [42, 182, 0, 225, 3, 60, 3, 61, 28, 42, 180, 0, 165, 162, 0, 33, 42, 4, 28, 120, 181, 0, 192, 27]
abbrev dktX5_neverNow_0 : List UInt8 := dkwX5_neverNow_0 ++ dktX5_neverNow_1
theorem dksX5_neverNow_0 : cX5_neverNow.data.toList.drop 0 = dktX5_neverNow_0 := by decide +kernel
theorem dksX5_neverNow_1 : cX5_neverNow.data.toList.drop 24 = dktX5_neverNow_1 := dk_seg dksX5_neverNow_0 24 rfl rfl
theorem dX5_neverNow_0 : decode cX5_neverNow 0 = .ok (.aload_n 0, 1) := dk_42 (dk_at dksX5_neverNow_0 0 rfl rfl)
theorem dX5_neverNow_1 : decode cX5_neverNow 1 = .ok (.invokevirtual 225, 3) := dk_182 0 225 (dk_at dksX5_neverNow_0 1 rfl rfl)
theorem dX5_neverNow_4 : decode cX5_neverNow 4 = .ok (.iconst 0, 1) := dk_3 (dk_at dksX5_neverNow_0 4 rfl rfl)
theorem dX5_neverNow_5 : decode cX5_neverNow 5 = .ok (.istore_n 1, 1) := dk_60 (dk_at dksX5_neverNow_0 5 rfl rfl)
theorem dX5_neverNow_6 : decode cX5_neverNow 6 = .ok (.iconst 0, 1) := dk_3 (dk_at dksX5_neverNow_0 6 rfl rfl)
theorem dX5_neverNow_7 : decode cX5_neverNow 7 = .ok (.istore_n 2, 1) := dk_61 (dk_at dksX5_neverNow_0 7 rfl rfl)
theorem dX5_neverNow_8 : decode cX5_neverNow 8 = .ok (.iload_n 2, 1) := dk_28 (dk_at dksX5_neverNow_0 8 rfl rfl)
theorem dX5_neverNow_9 : decode cX5_neverNow 9 = .ok (.aload_n 0, 1) := dk_42 (dk_at dksX5_neverNow_0 9 rfl rfl)
theorem dX5_neverNow_10 : decode cX5_neverNow 10 = .ok (.getfield 165, 3) := dk_180 0 165 (dk_at dksX5_neverNow_0 10 rfl rfl)
theorem dX5_neverNow_13 : decode cX5_neverNow 13 = .ok (.if_icmp .ge 33, 3) := dk_162 0 33 (dk_at dksX5_neverNow_0 13 rfl rfl)
theorem dX5_neverNow_16 : decode cX5_neverNow 16 = .ok (.aload_n 0, 1) := dk_42 (dk_at dksX5_neverNow_0 16 rfl rfl)
theorem dX5_neverNow_17 : decode cX5_neverNow 17 = .ok (.iconst 1, 1) := dk_4 (dk_at dksX5_neverNow_0 17 rfl rfl)
theorem dX5_neverNow_18 : decode cX5_neverNow 18 = .ok (.iload_n 2, 1) := dk_28 (dk_at dksX5_neverNow_0 18 rfl rfl)
theorem dX5_neverNow_19 : decode cX5_neverNow 19 = .ok (.ishl, 1) := dk_120 (dk_at dksX5_neverNow_0 19 rfl rfl)
theorem dX5_neverNow_20 : decode cX5_neverNow 20 = .ok (.putfield 192, 3) := dk_181 0 192 (dk_at dksX5_neverNow_0 20 rfl rfl)
theorem dX5_neverNow_23 : decode cX5_neverNow 23 = .ok (.iload_n 1, 1) := dk_27 (dk_at dksX5_neverNow_0 23 rfl rfl)
theorem dX5_neverNow_24 : decode cX5_neverNow 24 = .ok (.aload_n 0, 1) := dk_42 (dk_at dksX5_neverNow_1 0 rfl rfl)
theorem dX5_neverNow_25 : decode cX5_neverNow 25 = .ok (.invokevirtual 290, 3) := dk_182 1 34 (dk_at dksX5_neverNow_1 1 rfl rfl)
theorem dX5_neverNow_28 : decode cX5_neverNow 28 = .ok (.ifCond .eq 9, 3) := dk_153 0 9 (dk_at dksX5_neverNow_1 4 rfl rfl)
theorem dX5_neverNow_31 : decode cX5_neverNow 31 = .ok (.iconst 1, 1) := dk_4 (dk_at dksX5_neverNow_1 7 rfl rfl)
theorem dX5_neverNow_32 : decode cX5_neverNow 32 = .ok (.iload_n 2, 1) := dk_28 (dk_at dksX5_neverNow_1 8 rfl rfl)
theorem dX5_neverNow_33 : decode cX5_neverNow 33 = .ok (.ishl, 1) := dk_120 (dk_at dksX5_neverNow_1 9 rfl rfl)
theorem dX5_neverNow_34 : decode cX5_neverNow 34 = .ok (.goto 4, 3) := dk_167 0 4 (dk_at dksX5_neverNow_1 10 rfl rfl)
theorem dX5_neverNow_37 : decode cX5_neverNow 37 = .ok (.iconst 0, 1) := dk_3 (dk_at dksX5_neverNow_1 13 rfl rfl)
theorem dX5_neverNow_38 : decode cX5_neverNow 38 = .ok (.ior, 1) := dk_128 (dk_at dksX5_neverNow_1 14 rfl rfl)
theorem dX5_neverNow_39 : decode cX5_neverNow 39 = .ok (.istore_n 1, 1) := dk_60 (dk_at dksX5_neverNow_1 15 rfl rfl)
theorem dX5_neverNow_40 : decode cX5_neverNow 40 = .ok (.iinc 2 1, 3) := dk_132 2 1 (dk_at dksX5_neverNow_1 16 rfl rfl)
theorem dX5_neverNow_43 : decode cX5_neverNow 43 = .ok (.goto (-35), 3) := dk_167 255 221 (dk_at dksX5_neverNow_1 19 rfl rfl)
theorem dX5_neverNow_46 : decode cX5_neverNow 46 = .ok (.iload_n 1, 1) := dk_27 (dk_at dksX5_neverNow_1 22 rfl rfl)
theorem dX5_neverNow_47 : decode cX5_neverNow 47 = .ok (.ireturn, 1) := dk_172 (dk_at dksX5_neverNow_1 23 rfl rfl)
abbrev cX5_isSeen : ByteArray := prog_13_method_71_code
def yX5_isSeen : MethodName := ⟨RX5, "isSeen", "()Z"⟩
def dkwX5_isSeen_3 : List UInt8 := [132, 2, 1, 167, 255, 192, 27, 172]
abbrev dktX5_isSeen_3 : List UInt8 := dkwX5_isSeen_3 ++ []
def dkwX5_isSeen_2 : List UInt8 := [180, 0, 88, 28, 46, 96, 46, 42, 180, 0, 91, 28, 46, 160, 0, 7, 4, 167, 0, 4, 3, 60]
abbrev dktX5_isSeen_2 : List UInt8 := dkwX5_isSeen_2 ++ dktX5_isSeen_3
def dkwX5_isSeen_1 : List UInt8 := [28, 46, 42, 180, 0, 127, 162, 0, 37, 42, 180, 0, 73, 16, 8, 42, 180, 0, 85, 28, 46, 104, 42]
abbrev dktX5_isSeen_1 : List UInt8 := dkwX5_isSeen_1 ++ dktX5_isSeen_2
def dkwX5_isSeen_0 : List UInt8 := [42, 182, 0, 228, 4, 60, 3, 61, 28, 42, 180, 1, 31, 162, 0, 62, 27, 153, 0, 58, 42, 180, 0, 88]
abbrev dktX5_isSeen_0 : List UInt8 := dkwX5_isSeen_0 ++ dktX5_isSeen_1
theorem dksX5_isSeen_0 : cX5_isSeen.data.toList.drop 0 = dktX5_isSeen_0 := by decide +kernel
theorem dksX5_isSeen_1 : cX5_isSeen.data.toList.drop 24 = dktX5_isSeen_1 := dk_seg dksX5_isSeen_0 24 rfl rfl
theorem dksX5_isSeen_2 : cX5_isSeen.data.toList.drop 47 = dktX5_isSeen_2 := dk_seg dksX5_isSeen_1 23 rfl rfl
theorem dksX5_isSeen_3 : cX5_isSeen.data.toList.drop 69 = dktX5_isSeen_3 := dk_seg dksX5_isSeen_2 22 rfl rfl
theorem dX5_isSeen_0 : decode cX5_isSeen 0 = .ok (.aload_n 0, 1) := dk_42 (dk_at dksX5_isSeen_0 0 rfl rfl)
theorem dX5_isSeen_1 : decode cX5_isSeen 1 = .ok (.invokevirtual 228, 3) := dk_182 0 228 (dk_at dksX5_isSeen_0 1 rfl rfl)
theorem dX5_isSeen_4 : decode cX5_isSeen 4 = .ok (.iconst 1, 1) := dk_4 (dk_at dksX5_isSeen_0 4 rfl rfl)
theorem dX5_isSeen_5 : decode cX5_isSeen 5 = .ok (.istore_n 1, 1) := dk_60 (dk_at dksX5_isSeen_0 5 rfl rfl)
theorem dX5_isSeen_6 : decode cX5_isSeen 6 = .ok (.iconst 0, 1) := dk_3 (dk_at dksX5_isSeen_0 6 rfl rfl)
theorem dX5_isSeen_7 : decode cX5_isSeen 7 = .ok (.istore_n 2, 1) := dk_61 (dk_at dksX5_isSeen_0 7 rfl rfl)
theorem dX5_isSeen_8 : decode cX5_isSeen 8 = .ok (.iload_n 2, 1) := dk_28 (dk_at dksX5_isSeen_0 8 rfl rfl)
theorem dX5_isSeen_9 : decode cX5_isSeen 9 = .ok (.aload_n 0, 1) := dk_42 (dk_at dksX5_isSeen_0 9 rfl rfl)
theorem dX5_isSeen_10 : decode cX5_isSeen 10 = .ok (.getfield 287, 3) := dk_180 1 31 (dk_at dksX5_isSeen_0 10 rfl rfl)
theorem dX5_isSeen_13 : decode cX5_isSeen 13 = .ok (.if_icmp .ge 62, 3) := dk_162 0 62 (dk_at dksX5_isSeen_0 13 rfl rfl)
theorem dX5_isSeen_16 : decode cX5_isSeen 16 = .ok (.iload_n 1, 1) := dk_27 (dk_at dksX5_isSeen_0 16 rfl rfl)
theorem dX5_isSeen_17 : decode cX5_isSeen 17 = .ok (.ifCond .eq 58, 3) := dk_153 0 58 (dk_at dksX5_isSeen_0 17 rfl rfl)
theorem dX5_isSeen_20 : decode cX5_isSeen 20 = .ok (.aload_n 0, 1) := dk_42 (dk_at dksX5_isSeen_0 20 rfl rfl)
theorem dX5_isSeen_21 : decode cX5_isSeen 21 = .ok (.getfield 88, 3) := dk_180 0 88 (dk_at dksX5_isSeen_0 21 rfl rfl)
theorem dX5_isSeen_24 : decode cX5_isSeen 24 = .ok (.iload_n 2, 1) := dk_28 (dk_at dksX5_isSeen_1 0 rfl rfl)
theorem dX5_isSeen_25 : decode cX5_isSeen 25 = .ok (.iaload, 1) := dk_46 (dk_at dksX5_isSeen_1 1 rfl rfl)
theorem dX5_isSeen_26 : decode cX5_isSeen 26 = .ok (.aload_n 0, 1) := dk_42 (dk_at dksX5_isSeen_1 2 rfl rfl)
theorem dX5_isSeen_27 : decode cX5_isSeen 27 = .ok (.getfield 127, 3) := dk_180 0 127 (dk_at dksX5_isSeen_1 3 rfl rfl)
theorem dX5_isSeen_30 : decode cX5_isSeen 30 = .ok (.if_icmp .ge 37, 3) := dk_162 0 37 (dk_at dksX5_isSeen_1 6 rfl rfl)
theorem dX5_isSeen_33 : decode cX5_isSeen 33 = .ok (.aload_n 0, 1) := dk_42 (dk_at dksX5_isSeen_1 9 rfl rfl)
theorem dX5_isSeen_34 : decode cX5_isSeen 34 = .ok (.getfield 73, 3) := dk_180 0 73 (dk_at dksX5_isSeen_1 10 rfl rfl)
theorem dX5_isSeen_37 : decode cX5_isSeen 37 = .ok (.bipush 8, 2) := dk_16 8 (dk_at dksX5_isSeen_1 13 rfl rfl)
theorem dX5_isSeen_39 : decode cX5_isSeen 39 = .ok (.aload_n 0, 1) := dk_42 (dk_at dksX5_isSeen_1 15 rfl rfl)
theorem dX5_isSeen_40 : decode cX5_isSeen 40 = .ok (.getfield 85, 3) := dk_180 0 85 (dk_at dksX5_isSeen_1 16 rfl rfl)
theorem dX5_isSeen_43 : decode cX5_isSeen 43 = .ok (.iload_n 2, 1) := dk_28 (dk_at dksX5_isSeen_1 19 rfl rfl)
theorem dX5_isSeen_44 : decode cX5_isSeen 44 = .ok (.iaload, 1) := dk_46 (dk_at dksX5_isSeen_1 20 rfl rfl)
theorem dX5_isSeen_45 : decode cX5_isSeen 45 = .ok (.imul, 1) := dk_104 (dk_at dksX5_isSeen_1 21 rfl rfl)
theorem dX5_isSeen_46 : decode cX5_isSeen 46 = .ok (.aload_n 0, 1) := dk_42 (dk_at dksX5_isSeen_1 22 rfl rfl)
theorem dX5_isSeen_47 : decode cX5_isSeen 47 = .ok (.getfield 88, 3) := dk_180 0 88 (dk_at dksX5_isSeen_2 0 rfl rfl)
theorem dX5_isSeen_50 : decode cX5_isSeen 50 = .ok (.iload_n 2, 1) := dk_28 (dk_at dksX5_isSeen_2 3 rfl rfl)
theorem dX5_isSeen_51 : decode cX5_isSeen 51 = .ok (.iaload, 1) := dk_46 (dk_at dksX5_isSeen_2 4 rfl rfl)
theorem dX5_isSeen_52 : decode cX5_isSeen 52 = .ok (.iadd, 1) := dk_96 (dk_at dksX5_isSeen_2 5 rfl rfl)
theorem dX5_isSeen_53 : decode cX5_isSeen 53 = .ok (.iaload, 1) := dk_46 (dk_at dksX5_isSeen_2 6 rfl rfl)
theorem dX5_isSeen_54 : decode cX5_isSeen 54 = .ok (.aload_n 0, 1) := dk_42 (dk_at dksX5_isSeen_2 7 rfl rfl)
theorem dX5_isSeen_55 : decode cX5_isSeen 55 = .ok (.getfield 91, 3) := dk_180 0 91 (dk_at dksX5_isSeen_2 8 rfl rfl)
theorem dX5_isSeen_58 : decode cX5_isSeen 58 = .ok (.iload_n 2, 1) := dk_28 (dk_at dksX5_isSeen_2 11 rfl rfl)
theorem dX5_isSeen_59 : decode cX5_isSeen 59 = .ok (.iaload, 1) := dk_46 (dk_at dksX5_isSeen_2 12 rfl rfl)
theorem dX5_isSeen_60 : decode cX5_isSeen 60 = .ok (.if_icmp .ne 7, 3) := dk_160 0 7 (dk_at dksX5_isSeen_2 13 rfl rfl)
theorem dX5_isSeen_63 : decode cX5_isSeen 63 = .ok (.iconst 1, 1) := dk_4 (dk_at dksX5_isSeen_2 16 rfl rfl)
theorem dX5_isSeen_64 : decode cX5_isSeen 64 = .ok (.goto 4, 3) := dk_167 0 4 (dk_at dksX5_isSeen_2 17 rfl rfl)
theorem dX5_isSeen_67 : decode cX5_isSeen 67 = .ok (.iconst 0, 1) := dk_3 (dk_at dksX5_isSeen_2 20 rfl rfl)
theorem dX5_isSeen_68 : decode cX5_isSeen 68 = .ok (.istore_n 1, 1) := dk_60 (dk_at dksX5_isSeen_2 21 rfl rfl)
theorem dX5_isSeen_69 : decode cX5_isSeen 69 = .ok (.iinc 2 1, 3) := dk_132 2 1 (dk_at dksX5_isSeen_3 0 rfl rfl)
theorem dX5_isSeen_72 : decode cX5_isSeen 72 = .ok (.goto (-64), 3) := dk_167 255 192 (dk_at dksX5_isSeen_3 3 rfl rfl)
theorem dX5_isSeen_75 : decode cX5_isSeen 75 = .ok (.iload_n 1, 1) := dk_27 (dk_at dksX5_isSeen_3 6 rfl rfl)
theorem dX5_isSeen_76 : decode cX5_isSeen 76 = .ok (.ireturn, 1) := dk_172 (dk_at dksX5_isSeen_3 7 rfl rfl)
abbrev cX5_was : ByteArray := prog_13_method_76_code
def yX5_was : MethodName := ⟨RX5, "was", "(II)I"⟩
def dkwX5_was_1 : List UInt8 := [182, 1, 41, 167, 0, 13, 42, 27, 182, 1, 44, 167, 0, 5, 16, 254, 172]
abbrev dktX5_was_1 : List UInt8 := dkwX5_was_1 ++ []
def dkwX5_was_0 : List UInt8 := [42, 27, 182, 0, 150, 153, 0, 32, 28, 3, 4, 184, 0, 115, 153, 0, 23, 28, 154, 0, 11, 42, 27]
abbrev dktX5_was_0 : List UInt8 := dkwX5_was_0 ++ dktX5_was_1
theorem dksX5_was_0 : cX5_was.data.toList.drop 0 = dktX5_was_0 := by decide +kernel
theorem dksX5_was_1 : cX5_was.data.toList.drop 23 = dktX5_was_1 := dk_seg dksX5_was_0 23 rfl rfl
theorem dX5_was_0 : decode cX5_was 0 = .ok (.aload_n 0, 1) := dk_42 (dk_at dksX5_was_0 0 rfl rfl)
theorem dX5_was_1 : decode cX5_was 1 = .ok (.iload_n 1, 1) := dk_27 (dk_at dksX5_was_0 1 rfl rfl)
theorem dX5_was_2 : decode cX5_was 2 = .ok (.invokevirtual 150, 3) := dk_182 0 150 (dk_at dksX5_was_0 2 rfl rfl)
theorem dX5_was_5 : decode cX5_was 5 = .ok (.ifCond .eq 32, 3) := dk_153 0 32 (dk_at dksX5_was_0 5 rfl rfl)
theorem dX5_was_8 : decode cX5_was 8 = .ok (.iload_n 2, 1) := dk_28 (dk_at dksX5_was_0 8 rfl rfl)
theorem dX5_was_9 : decode cX5_was 9 = .ok (.iconst 0, 1) := dk_3 (dk_at dksX5_was_0 9 rfl rfl)
theorem dX5_was_10 : decode cX5_was 10 = .ok (.iconst 1, 1) := dk_4 (dk_at dksX5_was_0 10 rfl rfl)
theorem dX5_was_11 : decode cX5_was 11 = .ok (.invokestatic 115, 3) := dk_184 0 115 (dk_at dksX5_was_0 11 rfl rfl)
theorem dX5_was_14 : decode cX5_was 14 = .ok (.ifCond .eq 23, 3) := dk_153 0 23 (dk_at dksX5_was_0 14 rfl rfl)
theorem dX5_was_17 : decode cX5_was 17 = .ok (.iload_n 2, 1) := dk_28 (dk_at dksX5_was_0 17 rfl rfl)
theorem dX5_was_18 : decode cX5_was 18 = .ok (.ifCond .ne 11, 3) := dk_154 0 11 (dk_at dksX5_was_0 18 rfl rfl)
theorem dX5_was_21 : decode cX5_was 21 = .ok (.aload_n 0, 1) := dk_42 (dk_at dksX5_was_0 21 rfl rfl)
theorem dX5_was_22 : decode cX5_was 22 = .ok (.iload_n 1, 1) := dk_27 (dk_at dksX5_was_0 22 rfl rfl)
theorem dX5_was_23 : decode cX5_was 23 = .ok (.invokevirtual 297, 3) := dk_182 1 41 (dk_at dksX5_was_1 0 rfl rfl)
theorem dX5_was_26 : decode cX5_was 26 = .ok (.goto 13, 3) := dk_167 0 13 (dk_at dksX5_was_1 3 rfl rfl)
theorem dX5_was_29 : decode cX5_was 29 = .ok (.aload_n 0, 1) := dk_42 (dk_at dksX5_was_1 6 rfl rfl)
theorem dX5_was_30 : decode cX5_was 30 = .ok (.iload_n 1, 1) := dk_27 (dk_at dksX5_was_1 7 rfl rfl)
theorem dX5_was_31 : decode cX5_was 31 = .ok (.invokevirtual 300, 3) := dk_182 1 44 (dk_at dksX5_was_1 8 rfl rfl)
theorem dX5_was_34 : decode cX5_was 34 = .ok (.goto 5, 3) := dk_167 0 5 (dk_at dksX5_was_1 11 rfl rfl)
theorem dX5_was_37 : decode cX5_was 37 = .ok (.bipush (-2), 2) := dk_16 254 (dk_at dksX5_was_1 14 rfl rfl)
theorem dX5_was_39 : decode cX5_was 39 = .ok (.ireturn, 1) := dk_172 (dk_at dksX5_was_1 16 rfl rfl)
abbrev cX5_sizesBy : ByteArray := prog_13_method_74_code
def yX5_sizesBy : MethodName := ⟨RX5, "sizesBy", "(I)I"⟩
def dkwX5_sizesBy_4 : List UInt8 := [42, 180, 0, 19, 27, 28, 79, 29, 172]
abbrev dktX5_sizesBy_4 : List UInt8 := dkwX5_sizesBy_4 ++ []
def dkwX5_sizesBy_3 : List UInt8 := [180, 0, 73, 16, 8, 21, 5, 104, 27, 96, 46, 79, 132, 5, 1, 167, 255, 221, 132, 4, 1, 167, 255, 179]
abbrev dktX5_sizesBy_3 : List UInt8 := dkwX5_sizesBy_3 ++ dktX5_sizesBy_4
def dkwX5_sizesBy_2 : List UInt8 := [62, 3, 54, 5, 21, 5, 16, 24, 162, 0, 34, 42, 180, 0, 94, 16, 24, 21, 4, 104, 21, 5, 96, 42]
abbrev dktX5_sizesBy_2 : List UInt8 := dkwX5_sizesBy_2 ++ dktX5_sizesBy_3
def dkwX5_sizesBy_1 : List UInt8 := [180, 0, 19, 27, 21, 4, 79, 29, 42, 182, 1, 34, 153, 0, 10, 4, 21, 4, 120, 167, 0, 4, 3, 128]
abbrev dktX5_sizesBy_1 : List UInt8 := dkwX5_sizesBy_1 ++ dktX5_sizesBy_2
def dkwX5_sizesBy_0 : List UInt8 := [42, 182, 0, 225, 42, 180, 0, 19, 27, 46, 61, 3, 62, 3, 54, 4, 21, 4, 16, 10, 162, 0, 76, 42]
abbrev dktX5_sizesBy_0 : List UInt8 := dkwX5_sizesBy_0 ++ dktX5_sizesBy_1
theorem dksX5_sizesBy_0 : cX5_sizesBy.data.toList.drop 0 = dktX5_sizesBy_0 := by decide +kernel
theorem dksX5_sizesBy_1 : cX5_sizesBy.data.toList.drop 24 = dktX5_sizesBy_1 := dk_seg dksX5_sizesBy_0 24 rfl rfl
theorem dksX5_sizesBy_2 : cX5_sizesBy.data.toList.drop 48 = dktX5_sizesBy_2 := dk_seg dksX5_sizesBy_1 24 rfl rfl
theorem dksX5_sizesBy_3 : cX5_sizesBy.data.toList.drop 72 = dktX5_sizesBy_3 := dk_seg dksX5_sizesBy_2 24 rfl rfl
theorem dksX5_sizesBy_4 : cX5_sizesBy.data.toList.drop 96 = dktX5_sizesBy_4 := dk_seg dksX5_sizesBy_3 24 rfl rfl
theorem dX5_sizesBy_0 : decode cX5_sizesBy 0 = .ok (.aload_n 0, 1) := dk_42 (dk_at dksX5_sizesBy_0 0 rfl rfl)
theorem dX5_sizesBy_1 : decode cX5_sizesBy 1 = .ok (.invokevirtual 225, 3) := dk_182 0 225 (dk_at dksX5_sizesBy_0 1 rfl rfl)
theorem dX5_sizesBy_4 : decode cX5_sizesBy 4 = .ok (.aload_n 0, 1) := dk_42 (dk_at dksX5_sizesBy_0 4 rfl rfl)
theorem dX5_sizesBy_5 : decode cX5_sizesBy 5 = .ok (.getfield 19, 3) := dk_180 0 19 (dk_at dksX5_sizesBy_0 5 rfl rfl)
theorem dX5_sizesBy_8 : decode cX5_sizesBy 8 = .ok (.iload_n 1, 1) := dk_27 (dk_at dksX5_sizesBy_0 8 rfl rfl)
theorem dX5_sizesBy_9 : decode cX5_sizesBy 9 = .ok (.iaload, 1) := dk_46 (dk_at dksX5_sizesBy_0 9 rfl rfl)
theorem dX5_sizesBy_10 : decode cX5_sizesBy 10 = .ok (.istore_n 2, 1) := dk_61 (dk_at dksX5_sizesBy_0 10 rfl rfl)
theorem dX5_sizesBy_11 : decode cX5_sizesBy 11 = .ok (.iconst 0, 1) := dk_3 (dk_at dksX5_sizesBy_0 11 rfl rfl)
theorem dX5_sizesBy_12 : decode cX5_sizesBy 12 = .ok (.istore_n 3, 1) := dk_62 (dk_at dksX5_sizesBy_0 12 rfl rfl)
theorem dX5_sizesBy_13 : decode cX5_sizesBy 13 = .ok (.iconst 0, 1) := dk_3 (dk_at dksX5_sizesBy_0 13 rfl rfl)
theorem dX5_sizesBy_14 : decode cX5_sizesBy 14 = .ok (.istore 4, 2) := dk_54 4 (dk_at dksX5_sizesBy_0 14 rfl rfl)
theorem dX5_sizesBy_16 : decode cX5_sizesBy 16 = .ok (.iload 4, 2) := dk_21 4 (dk_at dksX5_sizesBy_0 16 rfl rfl)
theorem dX5_sizesBy_18 : decode cX5_sizesBy 18 = .ok (.bipush 10, 2) := dk_16 10 (dk_at dksX5_sizesBy_0 18 rfl rfl)
theorem dX5_sizesBy_20 : decode cX5_sizesBy 20 = .ok (.if_icmp .ge 76, 3) := dk_162 0 76 (dk_at dksX5_sizesBy_0 20 rfl rfl)
theorem dX5_sizesBy_23 : decode cX5_sizesBy 23 = .ok (.aload_n 0, 1) := dk_42 (dk_at dksX5_sizesBy_0 23 rfl rfl)
theorem dX5_sizesBy_24 : decode cX5_sizesBy 24 = .ok (.getfield 19, 3) := dk_180 0 19 (dk_at dksX5_sizesBy_1 0 rfl rfl)
theorem dX5_sizesBy_27 : decode cX5_sizesBy 27 = .ok (.iload_n 1, 1) := dk_27 (dk_at dksX5_sizesBy_1 3 rfl rfl)
theorem dX5_sizesBy_28 : decode cX5_sizesBy 28 = .ok (.iload 4, 2) := dk_21 4 (dk_at dksX5_sizesBy_1 4 rfl rfl)
theorem dX5_sizesBy_30 : decode cX5_sizesBy 30 = .ok (.iastore, 1) := dk_79 (dk_at dksX5_sizesBy_1 6 rfl rfl)
theorem dX5_sizesBy_31 : decode cX5_sizesBy 31 = .ok (.iload_n 3, 1) := dk_29 (dk_at dksX5_sizesBy_1 7 rfl rfl)
theorem dX5_sizesBy_32 : decode cX5_sizesBy 32 = .ok (.aload_n 0, 1) := dk_42 (dk_at dksX5_sizesBy_1 8 rfl rfl)
theorem dX5_sizesBy_33 : decode cX5_sizesBy 33 = .ok (.invokevirtual 290, 3) := dk_182 1 34 (dk_at dksX5_sizesBy_1 9 rfl rfl)
theorem dX5_sizesBy_36 : decode cX5_sizesBy 36 = .ok (.ifCond .eq 10, 3) := dk_153 0 10 (dk_at dksX5_sizesBy_1 12 rfl rfl)
theorem dX5_sizesBy_39 : decode cX5_sizesBy 39 = .ok (.iconst 1, 1) := dk_4 (dk_at dksX5_sizesBy_1 15 rfl rfl)
theorem dX5_sizesBy_40 : decode cX5_sizesBy 40 = .ok (.iload 4, 2) := dk_21 4 (dk_at dksX5_sizesBy_1 16 rfl rfl)
theorem dX5_sizesBy_42 : decode cX5_sizesBy 42 = .ok (.ishl, 1) := dk_120 (dk_at dksX5_sizesBy_1 18 rfl rfl)
theorem dX5_sizesBy_43 : decode cX5_sizesBy 43 = .ok (.goto 4, 3) := dk_167 0 4 (dk_at dksX5_sizesBy_1 19 rfl rfl)
theorem dX5_sizesBy_46 : decode cX5_sizesBy 46 = .ok (.iconst 0, 1) := dk_3 (dk_at dksX5_sizesBy_1 22 rfl rfl)
theorem dX5_sizesBy_47 : decode cX5_sizesBy 47 = .ok (.ior, 1) := dk_128 (dk_at dksX5_sizesBy_1 23 rfl rfl)
theorem dX5_sizesBy_48 : decode cX5_sizesBy 48 = .ok (.istore_n 3, 1) := dk_62 (dk_at dksX5_sizesBy_2 0 rfl rfl)
theorem dX5_sizesBy_49 : decode cX5_sizesBy 49 = .ok (.iconst 0, 1) := dk_3 (dk_at dksX5_sizesBy_2 1 rfl rfl)
theorem dX5_sizesBy_50 : decode cX5_sizesBy 50 = .ok (.istore 5, 2) := dk_54 5 (dk_at dksX5_sizesBy_2 2 rfl rfl)
theorem dX5_sizesBy_52 : decode cX5_sizesBy 52 = .ok (.iload 5, 2) := dk_21 5 (dk_at dksX5_sizesBy_2 4 rfl rfl)
theorem dX5_sizesBy_54 : decode cX5_sizesBy 54 = .ok (.bipush 24, 2) := dk_16 24 (dk_at dksX5_sizesBy_2 6 rfl rfl)
theorem dX5_sizesBy_56 : decode cX5_sizesBy 56 = .ok (.if_icmp .ge 34, 3) := dk_162 0 34 (dk_at dksX5_sizesBy_2 8 rfl rfl)
theorem dX5_sizesBy_59 : decode cX5_sizesBy 59 = .ok (.aload_n 0, 1) := dk_42 (dk_at dksX5_sizesBy_2 11 rfl rfl)
theorem dX5_sizesBy_60 : decode cX5_sizesBy 60 = .ok (.getfield 94, 3) := dk_180 0 94 (dk_at dksX5_sizesBy_2 12 rfl rfl)
theorem dX5_sizesBy_63 : decode cX5_sizesBy 63 = .ok (.bipush 24, 2) := dk_16 24 (dk_at dksX5_sizesBy_2 15 rfl rfl)
theorem dX5_sizesBy_65 : decode cX5_sizesBy 65 = .ok (.iload 4, 2) := dk_21 4 (dk_at dksX5_sizesBy_2 17 rfl rfl)
theorem dX5_sizesBy_67 : decode cX5_sizesBy 67 = .ok (.imul, 1) := dk_104 (dk_at dksX5_sizesBy_2 19 rfl rfl)
theorem dX5_sizesBy_68 : decode cX5_sizesBy 68 = .ok (.iload 5, 2) := dk_21 5 (dk_at dksX5_sizesBy_2 20 rfl rfl)
theorem dX5_sizesBy_70 : decode cX5_sizesBy 70 = .ok (.iadd, 1) := dk_96 (dk_at dksX5_sizesBy_2 22 rfl rfl)
theorem dX5_sizesBy_71 : decode cX5_sizesBy 71 = .ok (.aload_n 0, 1) := dk_42 (dk_at dksX5_sizesBy_2 23 rfl rfl)
theorem dX5_sizesBy_72 : decode cX5_sizesBy 72 = .ok (.getfield 73, 3) := dk_180 0 73 (dk_at dksX5_sizesBy_3 0 rfl rfl)
theorem dX5_sizesBy_75 : decode cX5_sizesBy 75 = .ok (.bipush 8, 2) := dk_16 8 (dk_at dksX5_sizesBy_3 3 rfl rfl)
theorem dX5_sizesBy_77 : decode cX5_sizesBy 77 = .ok (.iload 5, 2) := dk_21 5 (dk_at dksX5_sizesBy_3 5 rfl rfl)
theorem dX5_sizesBy_79 : decode cX5_sizesBy 79 = .ok (.imul, 1) := dk_104 (dk_at dksX5_sizesBy_3 7 rfl rfl)
theorem dX5_sizesBy_80 : decode cX5_sizesBy 80 = .ok (.iload_n 1, 1) := dk_27 (dk_at dksX5_sizesBy_3 8 rfl rfl)
theorem dX5_sizesBy_81 : decode cX5_sizesBy 81 = .ok (.iadd, 1) := dk_96 (dk_at dksX5_sizesBy_3 9 rfl rfl)
theorem dX5_sizesBy_82 : decode cX5_sizesBy 82 = .ok (.iaload, 1) := dk_46 (dk_at dksX5_sizesBy_3 10 rfl rfl)
theorem dX5_sizesBy_83 : decode cX5_sizesBy 83 = .ok (.iastore, 1) := dk_79 (dk_at dksX5_sizesBy_3 11 rfl rfl)
theorem dX5_sizesBy_84 : decode cX5_sizesBy 84 = .ok (.iinc 5 1, 3) := dk_132 5 1 (dk_at dksX5_sizesBy_3 12 rfl rfl)
theorem dX5_sizesBy_87 : decode cX5_sizesBy 87 = .ok (.goto (-35), 3) := dk_167 255 221 (dk_at dksX5_sizesBy_3 15 rfl rfl)
theorem dX5_sizesBy_90 : decode cX5_sizesBy 90 = .ok (.iinc 4 1, 3) := dk_132 4 1 (dk_at dksX5_sizesBy_3 18 rfl rfl)
theorem dX5_sizesBy_93 : decode cX5_sizesBy 93 = .ok (.goto (-77), 3) := dk_167 255 179 (dk_at dksX5_sizesBy_3 21 rfl rfl)
theorem dX5_sizesBy_96 : decode cX5_sizesBy 96 = .ok (.aload_n 0, 1) := dk_42 (dk_at dksX5_sizesBy_4 0 rfl rfl)
theorem dX5_sizesBy_97 : decode cX5_sizesBy 97 = .ok (.getfield 19, 3) := dk_180 0 19 (dk_at dksX5_sizesBy_4 1 rfl rfl)
theorem dX5_sizesBy_100 : decode cX5_sizesBy 100 = .ok (.iload_n 1, 1) := dk_27 (dk_at dksX5_sizesBy_4 4 rfl rfl)
theorem dX5_sizesBy_101 : decode cX5_sizesBy 101 = .ok (.iload_n 2, 1) := dk_28 (dk_at dksX5_sizesBy_4 5 rfl rfl)
theorem dX5_sizesBy_102 : decode cX5_sizesBy 102 = .ok (.iastore, 1) := dk_79 (dk_at dksX5_sizesBy_4 6 rfl rfl)
theorem dX5_sizesBy_103 : decode cX5_sizesBy 103 = .ok (.iload_n 3, 1) := dk_29 (dk_at dksX5_sizesBy_4 7 rfl rfl)
theorem dX5_sizesBy_104 : decode cX5_sizesBy 104 = .ok (.ireturn, 1) := dk_172 (dk_at dksX5_sizesBy_4 8 rfl rfl)
abbrev cX5_sortsBy : ByteArray := prog_13_method_75_code
def yX5_sortsBy : MethodName := ⟨RX5, "sortsBy", "(I)I"⟩
def dkwX5_sortsBy_2 : List UInt8 := [62, 132, 4, 1, 167, 255, 221, 42, 180, 0, 16, 27, 28, 79, 29, 172]
abbrev dktX5_sortsBy_2 : List UInt8 := dkwX5_sortsBy_2 ++ []
def dkwX5_sortsBy_1 : List UInt8 := [180, 0, 16, 27, 21, 4, 79, 29, 42, 182, 1, 34, 153, 0, 10, 4, 21, 4, 120, 167, 0, 4, 3, 128]
abbrev dktX5_sortsBy_1 : List UInt8 := dkwX5_sortsBy_1 ++ dktX5_sortsBy_2
def dkwX5_sortsBy_0 : List UInt8 := [42, 182, 0, 225, 42, 180, 0, 16, 27, 46, 61, 3, 62, 3, 54, 4, 21, 4, 6, 162, 0, 35, 42]
abbrev dktX5_sortsBy_0 : List UInt8 := dkwX5_sortsBy_0 ++ dktX5_sortsBy_1
theorem dksX5_sortsBy_0 : cX5_sortsBy.data.toList.drop 0 = dktX5_sortsBy_0 := by decide +kernel
theorem dksX5_sortsBy_1 : cX5_sortsBy.data.toList.drop 23 = dktX5_sortsBy_1 := dk_seg dksX5_sortsBy_0 23 rfl rfl
theorem dksX5_sortsBy_2 : cX5_sortsBy.data.toList.drop 47 = dktX5_sortsBy_2 := dk_seg dksX5_sortsBy_1 24 rfl rfl
theorem dX5_sortsBy_0 : decode cX5_sortsBy 0 = .ok (.aload_n 0, 1) := dk_42 (dk_at dksX5_sortsBy_0 0 rfl rfl)
theorem dX5_sortsBy_1 : decode cX5_sortsBy 1 = .ok (.invokevirtual 225, 3) := dk_182 0 225 (dk_at dksX5_sortsBy_0 1 rfl rfl)
theorem dX5_sortsBy_4 : decode cX5_sortsBy 4 = .ok (.aload_n 0, 1) := dk_42 (dk_at dksX5_sortsBy_0 4 rfl rfl)
theorem dX5_sortsBy_5 : decode cX5_sortsBy 5 = .ok (.getfield 16, 3) := dk_180 0 16 (dk_at dksX5_sortsBy_0 5 rfl rfl)
theorem dX5_sortsBy_8 : decode cX5_sortsBy 8 = .ok (.iload_n 1, 1) := dk_27 (dk_at dksX5_sortsBy_0 8 rfl rfl)
theorem dX5_sortsBy_9 : decode cX5_sortsBy 9 = .ok (.iaload, 1) := dk_46 (dk_at dksX5_sortsBy_0 9 rfl rfl)
theorem dX5_sortsBy_10 : decode cX5_sortsBy 10 = .ok (.istore_n 2, 1) := dk_61 (dk_at dksX5_sortsBy_0 10 rfl rfl)
theorem dX5_sortsBy_11 : decode cX5_sortsBy 11 = .ok (.iconst 0, 1) := dk_3 (dk_at dksX5_sortsBy_0 11 rfl rfl)
theorem dX5_sortsBy_12 : decode cX5_sortsBy 12 = .ok (.istore_n 3, 1) := dk_62 (dk_at dksX5_sortsBy_0 12 rfl rfl)
theorem dX5_sortsBy_13 : decode cX5_sortsBy 13 = .ok (.iconst 0, 1) := dk_3 (dk_at dksX5_sortsBy_0 13 rfl rfl)
theorem dX5_sortsBy_14 : decode cX5_sortsBy 14 = .ok (.istore 4, 2) := dk_54 4 (dk_at dksX5_sortsBy_0 14 rfl rfl)
theorem dX5_sortsBy_16 : decode cX5_sortsBy 16 = .ok (.iload 4, 2) := dk_21 4 (dk_at dksX5_sortsBy_0 16 rfl rfl)
theorem dX5_sortsBy_18 : decode cX5_sortsBy 18 = .ok (.iconst 3, 1) := dk_6 (dk_at dksX5_sortsBy_0 18 rfl rfl)
theorem dX5_sortsBy_19 : decode cX5_sortsBy 19 = .ok (.if_icmp .ge 35, 3) := dk_162 0 35 (dk_at dksX5_sortsBy_0 19 rfl rfl)
theorem dX5_sortsBy_22 : decode cX5_sortsBy 22 = .ok (.aload_n 0, 1) := dk_42 (dk_at dksX5_sortsBy_0 22 rfl rfl)
theorem dX5_sortsBy_23 : decode cX5_sortsBy 23 = .ok (.getfield 16, 3) := dk_180 0 16 (dk_at dksX5_sortsBy_1 0 rfl rfl)
theorem dX5_sortsBy_26 : decode cX5_sortsBy 26 = .ok (.iload_n 1, 1) := dk_27 (dk_at dksX5_sortsBy_1 3 rfl rfl)
theorem dX5_sortsBy_27 : decode cX5_sortsBy 27 = .ok (.iload 4, 2) := dk_21 4 (dk_at dksX5_sortsBy_1 4 rfl rfl)
theorem dX5_sortsBy_29 : decode cX5_sortsBy 29 = .ok (.iastore, 1) := dk_79 (dk_at dksX5_sortsBy_1 6 rfl rfl)
theorem dX5_sortsBy_30 : decode cX5_sortsBy 30 = .ok (.iload_n 3, 1) := dk_29 (dk_at dksX5_sortsBy_1 7 rfl rfl)
theorem dX5_sortsBy_31 : decode cX5_sortsBy 31 = .ok (.aload_n 0, 1) := dk_42 (dk_at dksX5_sortsBy_1 8 rfl rfl)
theorem dX5_sortsBy_32 : decode cX5_sortsBy 32 = .ok (.invokevirtual 290, 3) := dk_182 1 34 (dk_at dksX5_sortsBy_1 9 rfl rfl)
theorem dX5_sortsBy_35 : decode cX5_sortsBy 35 = .ok (.ifCond .eq 10, 3) := dk_153 0 10 (dk_at dksX5_sortsBy_1 12 rfl rfl)
theorem dX5_sortsBy_38 : decode cX5_sortsBy 38 = .ok (.iconst 1, 1) := dk_4 (dk_at dksX5_sortsBy_1 15 rfl rfl)
theorem dX5_sortsBy_39 : decode cX5_sortsBy 39 = .ok (.iload 4, 2) := dk_21 4 (dk_at dksX5_sortsBy_1 16 rfl rfl)
theorem dX5_sortsBy_41 : decode cX5_sortsBy 41 = .ok (.ishl, 1) := dk_120 (dk_at dksX5_sortsBy_1 18 rfl rfl)
theorem dX5_sortsBy_42 : decode cX5_sortsBy 42 = .ok (.goto 4, 3) := dk_167 0 4 (dk_at dksX5_sortsBy_1 19 rfl rfl)
theorem dX5_sortsBy_45 : decode cX5_sortsBy 45 = .ok (.iconst 0, 1) := dk_3 (dk_at dksX5_sortsBy_1 22 rfl rfl)
theorem dX5_sortsBy_46 : decode cX5_sortsBy 46 = .ok (.ior, 1) := dk_128 (dk_at dksX5_sortsBy_1 23 rfl rfl)
theorem dX5_sortsBy_47 : decode cX5_sortsBy 47 = .ok (.istore_n 3, 1) := dk_62 (dk_at dksX5_sortsBy_2 0 rfl rfl)
theorem dX5_sortsBy_48 : decode cX5_sortsBy 48 = .ok (.iinc 4 1, 3) := dk_132 4 1 (dk_at dksX5_sortsBy_2 1 rfl rfl)
theorem dX5_sortsBy_51 : decode cX5_sortsBy 51 = .ok (.goto (-35), 3) := dk_167 255 221 (dk_at dksX5_sortsBy_2 4 rfl rfl)
theorem dX5_sortsBy_54 : decode cX5_sortsBy 54 = .ok (.aload_n 0, 1) := dk_42 (dk_at dksX5_sortsBy_2 7 rfl rfl)
theorem dX5_sortsBy_55 : decode cX5_sortsBy 55 = .ok (.getfield 16, 3) := dk_180 0 16 (dk_at dksX5_sortsBy_2 8 rfl rfl)
theorem dX5_sortsBy_58 : decode cX5_sortsBy 58 = .ok (.iload_n 1, 1) := dk_27 (dk_at dksX5_sortsBy_2 11 rfl rfl)
theorem dX5_sortsBy_59 : decode cX5_sortsBy 59 = .ok (.iload_n 2, 1) := dk_28 (dk_at dksX5_sortsBy_2 12 rfl rfl)
theorem dX5_sortsBy_60 : decode cX5_sortsBy 60 = .ok (.iastore, 1) := dk_79 (dk_at dksX5_sortsBy_2 13 rfl rfl)
theorem dX5_sortsBy_61 : decode cX5_sortsBy 61 = .ok (.iload_n 3, 1) := dk_29 (dk_at dksX5_sortsBy_2 14 rfl rfl)
theorem dX5_sortsBy_62 : decode cX5_sortsBy 62 = .ok (.ireturn, 1) := dk_172 (dk_at dksX5_sortsBy_2 15 rfl rfl)
abbrev cX5_ask : ByteArray := prog_13_method_78_code
def yX5_ask : MethodName := ⟨RX5, "ask", "(I)I"⟩
def dkwX5_ask_0 : List UInt8 := [42, 27, 182, 0, 150, 153, 0, 11, 42, 27, 182, 1, 47, 167, 0, 5, 16, 254, 172]
abbrev dktX5_ask_0 : List UInt8 := dkwX5_ask_0 ++ []
theorem dksX5_ask_0 : cX5_ask.data.toList.drop 0 = dktX5_ask_0 := by decide +kernel
theorem dX5_ask_0 : decode cX5_ask 0 = .ok (.aload_n 0, 1) := dk_42 (dk_at dksX5_ask_0 0 rfl rfl)
theorem dX5_ask_1 : decode cX5_ask 1 = .ok (.iload_n 1, 1) := dk_27 (dk_at dksX5_ask_0 1 rfl rfl)
theorem dX5_ask_2 : decode cX5_ask 2 = .ok (.invokevirtual 150, 3) := dk_182 0 150 (dk_at dksX5_ask_0 2 rfl rfl)
theorem dX5_ask_5 : decode cX5_ask 5 = .ok (.ifCond .eq 11, 3) := dk_153 0 11 (dk_at dksX5_ask_0 5 rfl rfl)
theorem dX5_ask_8 : decode cX5_ask 8 = .ok (.aload_n 0, 1) := dk_42 (dk_at dksX5_ask_0 8 rfl rfl)
theorem dX5_ask_9 : decode cX5_ask 9 = .ok (.iload_n 1, 1) := dk_27 (dk_at dksX5_ask_0 9 rfl rfl)
theorem dX5_ask_10 : decode cX5_ask 10 = .ok (.invokevirtual 303, 3) := dk_182 1 47 (dk_at dksX5_ask_0 10 rfl rfl)
theorem dX5_ask_13 : decode cX5_ask 13 = .ok (.goto 5, 3) := dk_167 0 5 (dk_at dksX5_ask_0 13 rfl rfl)
theorem dX5_ask_16 : decode cX5_ask 16 = .ok (.bipush (-2), 2) := dk_16 254 (dk_at dksX5_ask_0 16 rfl rfl)
theorem dX5_ask_18 : decode cX5_ask 18 = .ok (.ireturn, 1) := dk_172 (dk_at dksX5_ask_0 18 rfl rfl)
abbrev cX5_askOf : ByteArray := prog_13_method_77_code
def yX5_askOf : MethodName := ⟨RX5, "askOf", "(I)I"⟩
def dkwX5_askOf_7 : List UInt8 := [153, 0, 8, 21, 6, 167, 0, 5, 21, 4, 54, 4, 132, 5, 1, 167, 255, 90, 29, 172]
abbrev dktX5_askOf_7 : List UInt8 := dkwX5_askOf_7 ++ []
def dkwX5_askOf_6 : List UInt8 := [162, 0, 7, 4, 167, 0, 4, 3, 54, 7, 21, 7, 153, 0, 8, 21, 5, 167, 0, 4, 29, 62, 21, 7]
abbrev dktX5_askOf_6 : List UInt8 := dkwX5_askOf_6 ++ dktX5_askOf_7
def dkwX5_askOf_5 : List UInt8 := [21, 8, 167, 0, 5, 21, 6, 54, 6, 132, 7, 1, 167, 255, 154, 29, 2, 159, 0, 10, 21, 6, 21, 4]
abbrev dktX5_askOf_5 : List UInt8 := dkwX5_askOf_5 ++ dktX5_askOf_6
def dkwX5_askOf_4 : List UInt8 := [160, 0, 7, 4, 167, 0, 4, 3, 96, 54, 8, 132, 9, 1, 167, 255, 189, 21, 8, 21, 6, 164, 0, 8]
abbrev dktX5_askOf_4 : List UInt8 := dkwX5_askOf_4 ++ dktX5_askOf_5
def dkwX5_askOf_3 : List UInt8 := [16, 24, 21, 7, 104, 21, 5, 96, 46, 42, 180, 0, 94, 16, 24, 21, 9, 104, 21, 5, 96, 46]
abbrev dktX5_askOf_3 : List UInt8 := dkwX5_askOf_3 ++ dktX5_askOf_4
def dkwX5_askOf_2 : List UInt8 := [21, 8, 28, 21, 7, 184, 0, 205, 153, 0, 45, 28, 21, 9, 184, 0, 205, 153, 0, 36, 42, 180, 0, 94]
abbrev dktX5_askOf_2 : List UInt8 := dkwX5_askOf_2 ++ dktX5_askOf_3
def dkwX5_askOf_1 : List UInt8 := [3, 54, 7, 21, 7, 16, 10, 162, 0, 101, 3, 54, 8, 3, 54, 9, 21, 9, 16, 10, 162, 0, 66]
abbrev dktX5_askOf_1 : List UInt8 := dkwX5_askOf_1 ++ dktX5_askOf_2
def dkwX5_askOf_0 : List UInt8 := [42, 27, 182, 1, 41, 61, 2, 62, 3, 54, 4, 3, 54, 5, 21, 5, 16, 24, 162, 0, 165, 3, 54, 6]
abbrev dktX5_askOf_0 : List UInt8 := dkwX5_askOf_0 ++ dktX5_askOf_1
theorem dksX5_askOf_0 : cX5_askOf.data.toList.drop 0 = dktX5_askOf_0 := by decide +kernel
theorem dksX5_askOf_1 : cX5_askOf.data.toList.drop 24 = dktX5_askOf_1 := dk_seg dksX5_askOf_0 24 rfl rfl
theorem dksX5_askOf_2 : cX5_askOf.data.toList.drop 47 = dktX5_askOf_2 := dk_seg dksX5_askOf_1 23 rfl rfl
theorem dksX5_askOf_3 : cX5_askOf.data.toList.drop 71 = dktX5_askOf_3 := dk_seg dksX5_askOf_2 24 rfl rfl
theorem dksX5_askOf_4 : cX5_askOf.data.toList.drop 93 = dktX5_askOf_4 := dk_seg dksX5_askOf_3 22 rfl rfl
theorem dksX5_askOf_5 : cX5_askOf.data.toList.drop 117 = dktX5_askOf_5 := dk_seg dksX5_askOf_4 24 rfl rfl
theorem dksX5_askOf_6 : cX5_askOf.data.toList.drop 141 = dktX5_askOf_6 := dk_seg dksX5_askOf_5 24 rfl rfl
theorem dksX5_askOf_7 : cX5_askOf.data.toList.drop 165 = dktX5_askOf_7 := dk_seg dksX5_askOf_6 24 rfl rfl
theorem dX5_askOf_0 : decode cX5_askOf 0 = .ok (.aload_n 0, 1) := dk_42 (dk_at dksX5_askOf_0 0 rfl rfl)
theorem dX5_askOf_1 : decode cX5_askOf 1 = .ok (.iload_n 1, 1) := dk_27 (dk_at dksX5_askOf_0 1 rfl rfl)
theorem dX5_askOf_2 : decode cX5_askOf 2 = .ok (.invokevirtual 297, 3) := dk_182 1 41 (dk_at dksX5_askOf_0 2 rfl rfl)
theorem dX5_askOf_5 : decode cX5_askOf 5 = .ok (.istore_n 2, 1) := dk_61 (dk_at dksX5_askOf_0 5 rfl rfl)
theorem dX5_askOf_6 : decode cX5_askOf 6 = .ok (.iconst (-1), 1) := dk_2 (dk_at dksX5_askOf_0 6 rfl rfl)
theorem dX5_askOf_7 : decode cX5_askOf 7 = .ok (.istore_n 3, 1) := dk_62 (dk_at dksX5_askOf_0 7 rfl rfl)
theorem dX5_askOf_8 : decode cX5_askOf 8 = .ok (.iconst 0, 1) := dk_3 (dk_at dksX5_askOf_0 8 rfl rfl)
theorem dX5_askOf_9 : decode cX5_askOf 9 = .ok (.istore 4, 2) := dk_54 4 (dk_at dksX5_askOf_0 9 rfl rfl)
theorem dX5_askOf_11 : decode cX5_askOf 11 = .ok (.iconst 0, 1) := dk_3 (dk_at dksX5_askOf_0 11 rfl rfl)
theorem dX5_askOf_12 : decode cX5_askOf 12 = .ok (.istore 5, 2) := dk_54 5 (dk_at dksX5_askOf_0 12 rfl rfl)
theorem dX5_askOf_14 : decode cX5_askOf 14 = .ok (.iload 5, 2) := dk_21 5 (dk_at dksX5_askOf_0 14 rfl rfl)
theorem dX5_askOf_16 : decode cX5_askOf 16 = .ok (.bipush 24, 2) := dk_16 24 (dk_at dksX5_askOf_0 16 rfl rfl)
theorem dX5_askOf_18 : decode cX5_askOf 18 = .ok (.if_icmp .ge 165, 3) := dk_162 0 165 (dk_at dksX5_askOf_0 18 rfl rfl)
theorem dX5_askOf_21 : decode cX5_askOf 21 = .ok (.iconst 0, 1) := dk_3 (dk_at dksX5_askOf_0 21 rfl rfl)
theorem dX5_askOf_22 : decode cX5_askOf 22 = .ok (.istore 6, 2) := dk_54 6 (dk_at dksX5_askOf_0 22 rfl rfl)
theorem dX5_askOf_24 : decode cX5_askOf 24 = .ok (.iconst 0, 1) := dk_3 (dk_at dksX5_askOf_1 0 rfl rfl)
theorem dX5_askOf_25 : decode cX5_askOf 25 = .ok (.istore 7, 2) := dk_54 7 (dk_at dksX5_askOf_1 1 rfl rfl)
theorem dX5_askOf_27 : decode cX5_askOf 27 = .ok (.iload 7, 2) := dk_21 7 (dk_at dksX5_askOf_1 3 rfl rfl)
theorem dX5_askOf_29 : decode cX5_askOf 29 = .ok (.bipush 10, 2) := dk_16 10 (dk_at dksX5_askOf_1 5 rfl rfl)
theorem dX5_askOf_31 : decode cX5_askOf 31 = .ok (.if_icmp .ge 101, 3) := dk_162 0 101 (dk_at dksX5_askOf_1 7 rfl rfl)
theorem dX5_askOf_34 : decode cX5_askOf 34 = .ok (.iconst 0, 1) := dk_3 (dk_at dksX5_askOf_1 10 rfl rfl)
theorem dX5_askOf_35 : decode cX5_askOf 35 = .ok (.istore 8, 2) := dk_54 8 (dk_at dksX5_askOf_1 11 rfl rfl)
theorem dX5_askOf_37 : decode cX5_askOf 37 = .ok (.iconst 0, 1) := dk_3 (dk_at dksX5_askOf_1 13 rfl rfl)
theorem dX5_askOf_38 : decode cX5_askOf 38 = .ok (.istore 9, 2) := dk_54 9 (dk_at dksX5_askOf_1 14 rfl rfl)
theorem dX5_askOf_40 : decode cX5_askOf 40 = .ok (.iload 9, 2) := dk_21 9 (dk_at dksX5_askOf_1 16 rfl rfl)
theorem dX5_askOf_42 : decode cX5_askOf 42 = .ok (.bipush 10, 2) := dk_16 10 (dk_at dksX5_askOf_1 18 rfl rfl)
theorem dX5_askOf_44 : decode cX5_askOf 44 = .ok (.if_icmp .ge 66, 3) := dk_162 0 66 (dk_at dksX5_askOf_1 20 rfl rfl)
theorem dX5_askOf_47 : decode cX5_askOf 47 = .ok (.iload 8, 2) := dk_21 8 (dk_at dksX5_askOf_2 0 rfl rfl)
theorem dX5_askOf_49 : decode cX5_askOf 49 = .ok (.iload_n 2, 1) := dk_28 (dk_at dksX5_askOf_2 2 rfl rfl)
theorem dX5_askOf_50 : decode cX5_askOf 50 = .ok (.iload 7, 2) := dk_21 7 (dk_at dksX5_askOf_2 3 rfl rfl)
theorem dX5_askOf_52 : decode cX5_askOf 52 = .ok (.invokestatic 205, 3) := dk_184 0 205 (dk_at dksX5_askOf_2 5 rfl rfl)
theorem dX5_askOf_55 : decode cX5_askOf 55 = .ok (.ifCond .eq 45, 3) := dk_153 0 45 (dk_at dksX5_askOf_2 8 rfl rfl)
theorem dX5_askOf_58 : decode cX5_askOf 58 = .ok (.iload_n 2, 1) := dk_28 (dk_at dksX5_askOf_2 11 rfl rfl)
theorem dX5_askOf_59 : decode cX5_askOf 59 = .ok (.iload 9, 2) := dk_21 9 (dk_at dksX5_askOf_2 12 rfl rfl)
theorem dX5_askOf_61 : decode cX5_askOf 61 = .ok (.invokestatic 205, 3) := dk_184 0 205 (dk_at dksX5_askOf_2 14 rfl rfl)
theorem dX5_askOf_64 : decode cX5_askOf 64 = .ok (.ifCond .eq 36, 3) := dk_153 0 36 (dk_at dksX5_askOf_2 17 rfl rfl)
theorem dX5_askOf_67 : decode cX5_askOf 67 = .ok (.aload_n 0, 1) := dk_42 (dk_at dksX5_askOf_2 20 rfl rfl)
theorem dX5_askOf_68 : decode cX5_askOf 68 = .ok (.getfield 94, 3) := dk_180 0 94 (dk_at dksX5_askOf_2 21 rfl rfl)
theorem dX5_askOf_71 : decode cX5_askOf 71 = .ok (.bipush 24, 2) := dk_16 24 (dk_at dksX5_askOf_3 0 rfl rfl)
theorem dX5_askOf_73 : decode cX5_askOf 73 = .ok (.iload 7, 2) := dk_21 7 (dk_at dksX5_askOf_3 2 rfl rfl)
theorem dX5_askOf_75 : decode cX5_askOf 75 = .ok (.imul, 1) := dk_104 (dk_at dksX5_askOf_3 4 rfl rfl)
theorem dX5_askOf_76 : decode cX5_askOf 76 = .ok (.iload 5, 2) := dk_21 5 (dk_at dksX5_askOf_3 5 rfl rfl)
theorem dX5_askOf_78 : decode cX5_askOf 78 = .ok (.iadd, 1) := dk_96 (dk_at dksX5_askOf_3 7 rfl rfl)
theorem dX5_askOf_79 : decode cX5_askOf 79 = .ok (.iaload, 1) := dk_46 (dk_at dksX5_askOf_3 8 rfl rfl)
theorem dX5_askOf_80 : decode cX5_askOf 80 = .ok (.aload_n 0, 1) := dk_42 (dk_at dksX5_askOf_3 9 rfl rfl)
theorem dX5_askOf_81 : decode cX5_askOf 81 = .ok (.getfield 94, 3) := dk_180 0 94 (dk_at dksX5_askOf_3 10 rfl rfl)
theorem dX5_askOf_84 : decode cX5_askOf 84 = .ok (.bipush 24, 2) := dk_16 24 (dk_at dksX5_askOf_3 13 rfl rfl)
theorem dX5_askOf_86 : decode cX5_askOf 86 = .ok (.iload 9, 2) := dk_21 9 (dk_at dksX5_askOf_3 15 rfl rfl)
theorem dX5_askOf_88 : decode cX5_askOf 88 = .ok (.imul, 1) := dk_104 (dk_at dksX5_askOf_3 17 rfl rfl)
theorem dX5_askOf_89 : decode cX5_askOf 89 = .ok (.iload 5, 2) := dk_21 5 (dk_at dksX5_askOf_3 18 rfl rfl)
theorem dX5_askOf_91 : decode cX5_askOf 91 = .ok (.iadd, 1) := dk_96 (dk_at dksX5_askOf_3 20 rfl rfl)
theorem dX5_askOf_92 : decode cX5_askOf 92 = .ok (.iaload, 1) := dk_46 (dk_at dksX5_askOf_3 21 rfl rfl)
theorem dX5_askOf_93 : decode cX5_askOf 93 = .ok (.if_icmp .ne 7, 3) := dk_160 0 7 (dk_at dksX5_askOf_4 0 rfl rfl)
theorem dX5_askOf_96 : decode cX5_askOf 96 = .ok (.iconst 1, 1) := dk_4 (dk_at dksX5_askOf_4 3 rfl rfl)
theorem dX5_askOf_97 : decode cX5_askOf 97 = .ok (.goto 4, 3) := dk_167 0 4 (dk_at dksX5_askOf_4 4 rfl rfl)
theorem dX5_askOf_100 : decode cX5_askOf 100 = .ok (.iconst 0, 1) := dk_3 (dk_at dksX5_askOf_4 7 rfl rfl)
theorem dX5_askOf_101 : decode cX5_askOf 101 = .ok (.iadd, 1) := dk_96 (dk_at dksX5_askOf_4 8 rfl rfl)
theorem dX5_askOf_102 : decode cX5_askOf 102 = .ok (.istore 8, 2) := dk_54 8 (dk_at dksX5_askOf_4 9 rfl rfl)
theorem dX5_askOf_104 : decode cX5_askOf 104 = .ok (.iinc 9 1, 3) := dk_132 9 1 (dk_at dksX5_askOf_4 11 rfl rfl)
theorem dX5_askOf_107 : decode cX5_askOf 107 = .ok (.goto (-67), 3) := dk_167 255 189 (dk_at dksX5_askOf_4 14 rfl rfl)
theorem dX5_askOf_110 : decode cX5_askOf 110 = .ok (.iload 8, 2) := dk_21 8 (dk_at dksX5_askOf_4 17 rfl rfl)
theorem dX5_askOf_112 : decode cX5_askOf 112 = .ok (.iload 6, 2) := dk_21 6 (dk_at dksX5_askOf_4 19 rfl rfl)
theorem dX5_askOf_114 : decode cX5_askOf 114 = .ok (.if_icmp .le 8, 3) := dk_164 0 8 (dk_at dksX5_askOf_4 21 rfl rfl)
theorem dX5_askOf_117 : decode cX5_askOf 117 = .ok (.iload 8, 2) := dk_21 8 (dk_at dksX5_askOf_5 0 rfl rfl)
theorem dX5_askOf_119 : decode cX5_askOf 119 = .ok (.goto 5, 3) := dk_167 0 5 (dk_at dksX5_askOf_5 2 rfl rfl)
theorem dX5_askOf_122 : decode cX5_askOf 122 = .ok (.iload 6, 2) := dk_21 6 (dk_at dksX5_askOf_5 5 rfl rfl)
theorem dX5_askOf_124 : decode cX5_askOf 124 = .ok (.istore 6, 2) := dk_54 6 (dk_at dksX5_askOf_5 7 rfl rfl)
theorem dX5_askOf_126 : decode cX5_askOf 126 = .ok (.iinc 7 1, 3) := dk_132 7 1 (dk_at dksX5_askOf_5 9 rfl rfl)
theorem dX5_askOf_129 : decode cX5_askOf 129 = .ok (.goto (-102), 3) := dk_167 255 154 (dk_at dksX5_askOf_5 12 rfl rfl)
theorem dX5_askOf_132 : decode cX5_askOf 132 = .ok (.iload_n 3, 1) := dk_29 (dk_at dksX5_askOf_5 15 rfl rfl)
theorem dX5_askOf_133 : decode cX5_askOf 133 = .ok (.iconst (-1), 1) := dk_2 (dk_at dksX5_askOf_5 16 rfl rfl)
theorem dX5_askOf_134 : decode cX5_askOf 134 = .ok (.if_icmp .eq 10, 3) := dk_159 0 10 (dk_at dksX5_askOf_5 17 rfl rfl)
theorem dX5_askOf_137 : decode cX5_askOf 137 = .ok (.iload 6, 2) := dk_21 6 (dk_at dksX5_askOf_5 20 rfl rfl)
theorem dX5_askOf_139 : decode cX5_askOf 139 = .ok (.iload 4, 2) := dk_21 4 (dk_at dksX5_askOf_5 22 rfl rfl)
theorem dX5_askOf_141 : decode cX5_askOf 141 = .ok (.if_icmp .ge 7, 3) := dk_162 0 7 (dk_at dksX5_askOf_6 0 rfl rfl)
theorem dX5_askOf_144 : decode cX5_askOf 144 = .ok (.iconst 1, 1) := dk_4 (dk_at dksX5_askOf_6 3 rfl rfl)
theorem dX5_askOf_145 : decode cX5_askOf 145 = .ok (.goto 4, 3) := dk_167 0 4 (dk_at dksX5_askOf_6 4 rfl rfl)
theorem dX5_askOf_148 : decode cX5_askOf 148 = .ok (.iconst 0, 1) := dk_3 (dk_at dksX5_askOf_6 7 rfl rfl)
theorem dX5_askOf_149 : decode cX5_askOf 149 = .ok (.istore 7, 2) := dk_54 7 (dk_at dksX5_askOf_6 8 rfl rfl)
theorem dX5_askOf_151 : decode cX5_askOf 151 = .ok (.iload 7, 2) := dk_21 7 (dk_at dksX5_askOf_6 10 rfl rfl)
theorem dX5_askOf_153 : decode cX5_askOf 153 = .ok (.ifCond .eq 8, 3) := dk_153 0 8 (dk_at dksX5_askOf_6 12 rfl rfl)
theorem dX5_askOf_156 : decode cX5_askOf 156 = .ok (.iload 5, 2) := dk_21 5 (dk_at dksX5_askOf_6 15 rfl rfl)
theorem dX5_askOf_158 : decode cX5_askOf 158 = .ok (.goto 4, 3) := dk_167 0 4 (dk_at dksX5_askOf_6 17 rfl rfl)
theorem dX5_askOf_161 : decode cX5_askOf 161 = .ok (.iload_n 3, 1) := dk_29 (dk_at dksX5_askOf_6 20 rfl rfl)
theorem dX5_askOf_162 : decode cX5_askOf 162 = .ok (.istore_n 3, 1) := dk_62 (dk_at dksX5_askOf_6 21 rfl rfl)
theorem dX5_askOf_163 : decode cX5_askOf 163 = .ok (.iload 7, 2) := dk_21 7 (dk_at dksX5_askOf_6 22 rfl rfl)
theorem dX5_askOf_165 : decode cX5_askOf 165 = .ok (.ifCond .eq 8, 3) := dk_153 0 8 (dk_at dksX5_askOf_7 0 rfl rfl)
theorem dX5_askOf_168 : decode cX5_askOf 168 = .ok (.iload 6, 2) := dk_21 6 (dk_at dksX5_askOf_7 3 rfl rfl)
theorem dX5_askOf_170 : decode cX5_askOf 170 = .ok (.goto 5, 3) := dk_167 0 5 (dk_at dksX5_askOf_7 5 rfl rfl)
theorem dX5_askOf_173 : decode cX5_askOf 173 = .ok (.iload 4, 2) := dk_21 4 (dk_at dksX5_askOf_7 8 rfl rfl)
theorem dX5_askOf_175 : decode cX5_askOf 175 = .ok (.istore 4, 2) := dk_54 4 (dk_at dksX5_askOf_7 10 rfl rfl)
theorem dX5_askOf_177 : decode cX5_askOf 177 = .ok (.iinc 5 1, 3) := dk_132 5 1 (dk_at dksX5_askOf_7 12 rfl rfl)
theorem dX5_askOf_180 : decode cX5_askOf 180 = .ok (.goto (-166), 3) := dk_167 255 90 (dk_at dksX5_askOf_7 15 rfl rfl)
theorem dX5_askOf_183 : decode cX5_askOf 183 = .ok (.iload_n 3, 1) := dk_29 (dk_at dksX5_askOf_7 18 rfl rfl)
theorem dX5_askOf_184 : decode cX5_askOf 184 = .ok (.ireturn, 1) := dk_172 (dk_at dksX5_askOf_7 19 rfl rfl)
abbrev cX5_word : ByteArray := prog_13_method_80_code
def yX5_word : MethodName := ⟨RX5, "word", "(IIII)J"⟩
def dkwX5_word_2 : List UInt8 := [167, 0, 8, 16, 254, 184, 1, 58, 173]
abbrev dktX5_word_2 : List UInt8 := dkwX5_word_2 ++ []
def dkwX5_word_1 : List UInt8 := [153, 0, 25, 21, 4, 3, 4, 184, 0, 115, 153, 0, 15, 42, 27, 28, 29, 21, 4, 182, 1, 54]
abbrev dktX5_word_1 : List UInt8 := dkwX5_word_1 ++ dktX5_word_2
def dkwX5_word_0 : List UInt8 := [27, 3, 16, 16, 184, 0, 115, 153, 0, 40, 42, 28, 182, 0, 150, 153, 0, 32, 29, 184, 0, 162]
abbrev dktX5_word_0 : List UInt8 := dkwX5_word_0 ++ dktX5_word_1
theorem dksX5_word_0 : cX5_word.data.toList.drop 0 = dktX5_word_0 := by decide +kernel
theorem dksX5_word_1 : cX5_word.data.toList.drop 22 = dktX5_word_1 := dk_seg dksX5_word_0 22 rfl rfl
theorem dksX5_word_2 : cX5_word.data.toList.drop 44 = dktX5_word_2 := dk_seg dksX5_word_1 22 rfl rfl
theorem dX5_word_0 : decode cX5_word 0 = .ok (.iload_n 1, 1) := dk_27 (dk_at dksX5_word_0 0 rfl rfl)
theorem dX5_word_1 : decode cX5_word 1 = .ok (.iconst 0, 1) := dk_3 (dk_at dksX5_word_0 1 rfl rfl)
theorem dX5_word_2 : decode cX5_word 2 = .ok (.bipush 16, 2) := dk_16 16 (dk_at dksX5_word_0 2 rfl rfl)
theorem dX5_word_4 : decode cX5_word 4 = .ok (.invokestatic 115, 3) := dk_184 0 115 (dk_at dksX5_word_0 4 rfl rfl)
theorem dX5_word_7 : decode cX5_word 7 = .ok (.ifCond .eq 40, 3) := dk_153 0 40 (dk_at dksX5_word_0 7 rfl rfl)
theorem dX5_word_10 : decode cX5_word 10 = .ok (.aload_n 0, 1) := dk_42 (dk_at dksX5_word_0 10 rfl rfl)
theorem dX5_word_11 : decode cX5_word 11 = .ok (.iload_n 2, 1) := dk_28 (dk_at dksX5_word_0 11 rfl rfl)
theorem dX5_word_12 : decode cX5_word 12 = .ok (.invokevirtual 150, 3) := dk_182 0 150 (dk_at dksX5_word_0 12 rfl rfl)
theorem dX5_word_15 : decode cX5_word 15 = .ok (.ifCond .eq 32, 3) := dk_153 0 32 (dk_at dksX5_word_0 15 rfl rfl)
theorem dX5_word_18 : decode cX5_word 18 = .ok (.iload_n 3, 1) := dk_29 (dk_at dksX5_word_0 18 rfl rfl)
theorem dX5_word_19 : decode cX5_word 19 = .ok (.invokestatic 162, 3) := dk_184 0 162 (dk_at dksX5_word_0 19 rfl rfl)
theorem dX5_word_22 : decode cX5_word 22 = .ok (.ifCond .eq 25, 3) := dk_153 0 25 (dk_at dksX5_word_1 0 rfl rfl)
theorem dX5_word_25 : decode cX5_word 25 = .ok (.iload 4, 2) := dk_21 4 (dk_at dksX5_word_1 3 rfl rfl)
theorem dX5_word_27 : decode cX5_word 27 = .ok (.iconst 0, 1) := dk_3 (dk_at dksX5_word_1 5 rfl rfl)
theorem dX5_word_28 : decode cX5_word 28 = .ok (.iconst 1, 1) := dk_4 (dk_at dksX5_word_1 6 rfl rfl)
theorem dX5_word_29 : decode cX5_word 29 = .ok (.invokestatic 115, 3) := dk_184 0 115 (dk_at dksX5_word_1 7 rfl rfl)
theorem dX5_word_32 : decode cX5_word 32 = .ok (.ifCond .eq 15, 3) := dk_153 0 15 (dk_at dksX5_word_1 10 rfl rfl)
theorem dX5_word_35 : decode cX5_word 35 = .ok (.aload_n 0, 1) := dk_42 (dk_at dksX5_word_1 13 rfl rfl)
theorem dX5_word_36 : decode cX5_word 36 = .ok (.iload_n 1, 1) := dk_27 (dk_at dksX5_word_1 14 rfl rfl)
theorem dX5_word_37 : decode cX5_word 37 = .ok (.iload_n 2, 1) := dk_28 (dk_at dksX5_word_1 15 rfl rfl)
theorem dX5_word_38 : decode cX5_word 38 = .ok (.iload_n 3, 1) := dk_29 (dk_at dksX5_word_1 16 rfl rfl)
theorem dX5_word_39 : decode cX5_word 39 = .ok (.iload 4, 2) := dk_21 4 (dk_at dksX5_word_1 17 rfl rfl)
theorem dX5_word_41 : decode cX5_word 41 = .ok (.invokevirtual 310, 3) := dk_182 1 54 (dk_at dksX5_word_1 19 rfl rfl)
theorem dX5_word_44 : decode cX5_word 44 = .ok (.goto 8, 3) := dk_167 0 8 (dk_at dksX5_word_2 0 rfl rfl)
theorem dX5_word_47 : decode cX5_word 47 = .ok (.bipush (-2), 2) := dk_16 254 (dk_at dksX5_word_2 3 rfl rfl)
theorem dX5_word_49 : decode cX5_word 49 = .ok (.invokestatic 314, 3) := dk_184 1 58 (dk_at dksX5_word_2 5 rfl rfl)
theorem dX5_word_52 : decode cX5_word 52 = .ok (.lreturn, 1) := dk_173 (dk_at dksX5_word_2 8 rfl rfl)
abbrev cX5_wordOf : ByteArray := prog_13_method_79_code
def yX5_wordOf : MethodName := ⟨RX5, "wordOf", "(IIII)J"⟩
def dkwX5_wordOf_5 : List UInt8 := [121, 21, 4, 184, 1, 50, 173]
abbrev dktX5_wordOf_5 : List UInt8 := dkwX5_wordOf_5 ++ []
def dkwX5_wordOf_4 : List UInt8 := [22, 8, 167, 0, 4, 9, 97, 55, 5, 132, 7, 1, 167, 255, 159, 22, 5, 10, 7, 42, 180, 0, 165, 104]
abbrev dktX5_wordOf_4 : List UInt8 := dkwX5_wordOf_4 ++ dktX5_wordOf_5
def dkwX5_wordOf_3 : List UInt8 := [158, 0, 33, 42, 21, 7, 181, 0, 192, 42, 182, 0, 228, 22, 5, 42, 29, 28, 182, 0, 231, 153, 0, 8]
abbrev dktX5_wordOf_3 : List UInt8 := dkwX5_wordOf_3 ++ dktX5_wordOf_4
def dkwX5_wordOf_2 : List UInt8 := [16, 16, 27, 100, 133, 167, 0, 5, 27, 133, 105, 55, 8, 132, 10, 1, 167, 255, 219, 22, 8, 9, 148]
abbrev dktX5_wordOf_2 : List UInt8 := dkwX5_wordOf_2 ++ dktX5_wordOf_3
def dkwX5_wordOf_1 : List UInt8 := [3, 54, 10, 21, 10, 42, 180, 0, 165, 162, 0, 34, 22, 8, 21, 7, 21, 10, 184, 0, 205, 153, 0, 11]
abbrev dktX5_wordOf_1 : List UInt8 := dkwX5_wordOf_1 ++ dktX5_wordOf_2
def dkwX5_wordOf_0 : List UInt8 := [42, 182, 0, 225, 9, 55, 5, 3, 54, 7, 21, 7, 4, 42, 180, 0, 165, 120, 162, 0, 92, 10, 55, 8]
abbrev dktX5_wordOf_0 : List UInt8 := dkwX5_wordOf_0 ++ dktX5_wordOf_1
theorem dksX5_wordOf_0 : cX5_wordOf.data.toList.drop 0 = dktX5_wordOf_0 := by decide +kernel
theorem dksX5_wordOf_1 : cX5_wordOf.data.toList.drop 24 = dktX5_wordOf_1 := dk_seg dksX5_wordOf_0 24 rfl rfl
theorem dksX5_wordOf_2 : cX5_wordOf.data.toList.drop 48 = dktX5_wordOf_2 := dk_seg dksX5_wordOf_1 24 rfl rfl
theorem dksX5_wordOf_3 : cX5_wordOf.data.toList.drop 71 = dktX5_wordOf_3 := dk_seg dksX5_wordOf_2 23 rfl rfl
theorem dksX5_wordOf_4 : cX5_wordOf.data.toList.drop 95 = dktX5_wordOf_4 := dk_seg dksX5_wordOf_3 24 rfl rfl
theorem dksX5_wordOf_5 : cX5_wordOf.data.toList.drop 119 = dktX5_wordOf_5 := dk_seg dksX5_wordOf_4 24 rfl rfl
theorem dX5_wordOf_0 : decode cX5_wordOf 0 = .ok (.aload_n 0, 1) := dk_42 (dk_at dksX5_wordOf_0 0 rfl rfl)
theorem dX5_wordOf_1 : decode cX5_wordOf 1 = .ok (.invokevirtual 225, 3) := dk_182 0 225 (dk_at dksX5_wordOf_0 1 rfl rfl)
theorem dX5_wordOf_4 : decode cX5_wordOf 4 = .ok (.lconst 0, 1) := dk_9 (dk_at dksX5_wordOf_0 4 rfl rfl)
theorem dX5_wordOf_5 : decode cX5_wordOf 5 = .ok (.lstore 5, 2) := dk_55 5 (dk_at dksX5_wordOf_0 5 rfl rfl)
theorem dX5_wordOf_7 : decode cX5_wordOf 7 = .ok (.iconst 0, 1) := dk_3 (dk_at dksX5_wordOf_0 7 rfl rfl)
theorem dX5_wordOf_8 : decode cX5_wordOf 8 = .ok (.istore 7, 2) := dk_54 7 (dk_at dksX5_wordOf_0 8 rfl rfl)
theorem dX5_wordOf_10 : decode cX5_wordOf 10 = .ok (.iload 7, 2) := dk_21 7 (dk_at dksX5_wordOf_0 10 rfl rfl)
theorem dX5_wordOf_12 : decode cX5_wordOf 12 = .ok (.iconst 1, 1) := dk_4 (dk_at dksX5_wordOf_0 12 rfl rfl)
theorem dX5_wordOf_13 : decode cX5_wordOf 13 = .ok (.aload_n 0, 1) := dk_42 (dk_at dksX5_wordOf_0 13 rfl rfl)
theorem dX5_wordOf_14 : decode cX5_wordOf 14 = .ok (.getfield 165, 3) := dk_180 0 165 (dk_at dksX5_wordOf_0 14 rfl rfl)
theorem dX5_wordOf_17 : decode cX5_wordOf 17 = .ok (.ishl, 1) := dk_120 (dk_at dksX5_wordOf_0 17 rfl rfl)
theorem dX5_wordOf_18 : decode cX5_wordOf 18 = .ok (.if_icmp .ge 92, 3) := dk_162 0 92 (dk_at dksX5_wordOf_0 18 rfl rfl)
theorem dX5_wordOf_21 : decode cX5_wordOf 21 = .ok (.lconst 1, 1) := dk_10 (dk_at dksX5_wordOf_0 21 rfl rfl)
theorem dX5_wordOf_22 : decode cX5_wordOf 22 = .ok (.lstore 8, 2) := dk_55 8 (dk_at dksX5_wordOf_0 22 rfl rfl)
theorem dX5_wordOf_24 : decode cX5_wordOf 24 = .ok (.iconst 0, 1) := dk_3 (dk_at dksX5_wordOf_1 0 rfl rfl)
theorem dX5_wordOf_25 : decode cX5_wordOf 25 = .ok (.istore 10, 2) := dk_54 10 (dk_at dksX5_wordOf_1 1 rfl rfl)
theorem dX5_wordOf_27 : decode cX5_wordOf 27 = .ok (.iload 10, 2) := dk_21 10 (dk_at dksX5_wordOf_1 3 rfl rfl)
theorem dX5_wordOf_29 : decode cX5_wordOf 29 = .ok (.aload_n 0, 1) := dk_42 (dk_at dksX5_wordOf_1 5 rfl rfl)
theorem dX5_wordOf_30 : decode cX5_wordOf 30 = .ok (.getfield 165, 3) := dk_180 0 165 (dk_at dksX5_wordOf_1 6 rfl rfl)
theorem dX5_wordOf_33 : decode cX5_wordOf 33 = .ok (.if_icmp .ge 34, 3) := dk_162 0 34 (dk_at dksX5_wordOf_1 9 rfl rfl)
theorem dX5_wordOf_36 : decode cX5_wordOf 36 = .ok (.lload 8, 2) := dk_22 8 (dk_at dksX5_wordOf_1 12 rfl rfl)
theorem dX5_wordOf_38 : decode cX5_wordOf 38 = .ok (.iload 7, 2) := dk_21 7 (dk_at dksX5_wordOf_1 14 rfl rfl)
theorem dX5_wordOf_40 : decode cX5_wordOf 40 = .ok (.iload 10, 2) := dk_21 10 (dk_at dksX5_wordOf_1 16 rfl rfl)
theorem dX5_wordOf_42 : decode cX5_wordOf 42 = .ok (.invokestatic 205, 3) := dk_184 0 205 (dk_at dksX5_wordOf_1 18 rfl rfl)
theorem dX5_wordOf_45 : decode cX5_wordOf 45 = .ok (.ifCond .eq 11, 3) := dk_153 0 11 (dk_at dksX5_wordOf_1 21 rfl rfl)
theorem dX5_wordOf_48 : decode cX5_wordOf 48 = .ok (.bipush 16, 2) := dk_16 16 (dk_at dksX5_wordOf_2 0 rfl rfl)
theorem dX5_wordOf_50 : decode cX5_wordOf 50 = .ok (.iload_n 1, 1) := dk_27 (dk_at dksX5_wordOf_2 2 rfl rfl)
theorem dX5_wordOf_51 : decode cX5_wordOf 51 = .ok (.isub, 1) := dk_100 (dk_at dksX5_wordOf_2 3 rfl rfl)
theorem dX5_wordOf_52 : decode cX5_wordOf 52 = .ok (.i2l, 1) := dk_133 (dk_at dksX5_wordOf_2 4 rfl rfl)
theorem dX5_wordOf_53 : decode cX5_wordOf 53 = .ok (.goto 5, 3) := dk_167 0 5 (dk_at dksX5_wordOf_2 5 rfl rfl)
theorem dX5_wordOf_56 : decode cX5_wordOf 56 = .ok (.iload_n 1, 1) := dk_27 (dk_at dksX5_wordOf_2 8 rfl rfl)
theorem dX5_wordOf_57 : decode cX5_wordOf 57 = .ok (.i2l, 1) := dk_133 (dk_at dksX5_wordOf_2 9 rfl rfl)
theorem dX5_wordOf_58 : decode cX5_wordOf 58 = .ok (.lmul, 1) := dk_105 (dk_at dksX5_wordOf_2 10 rfl rfl)
theorem dX5_wordOf_59 : decode cX5_wordOf 59 = .ok (.lstore 8, 2) := dk_55 8 (dk_at dksX5_wordOf_2 11 rfl rfl)
theorem dX5_wordOf_61 : decode cX5_wordOf 61 = .ok (.iinc 10 1, 3) := dk_132 10 1 (dk_at dksX5_wordOf_2 13 rfl rfl)
theorem dX5_wordOf_64 : decode cX5_wordOf 64 = .ok (.goto (-37), 3) := dk_167 255 219 (dk_at dksX5_wordOf_2 16 rfl rfl)
theorem dX5_wordOf_67 : decode cX5_wordOf 67 = .ok (.lload 8, 2) := dk_22 8 (dk_at dksX5_wordOf_2 19 rfl rfl)
theorem dX5_wordOf_69 : decode cX5_wordOf 69 = .ok (.lconst 0, 1) := dk_9 (dk_at dksX5_wordOf_2 21 rfl rfl)
theorem dX5_wordOf_70 : decode cX5_wordOf 70 = .ok (.lcmp, 1) := dk_148 (dk_at dksX5_wordOf_2 22 rfl rfl)
theorem dX5_wordOf_71 : decode cX5_wordOf 71 = .ok (.ifCond .le 33, 3) := dk_158 0 33 (dk_at dksX5_wordOf_3 0 rfl rfl)
theorem dX5_wordOf_74 : decode cX5_wordOf 74 = .ok (.aload_n 0, 1) := dk_42 (dk_at dksX5_wordOf_3 3 rfl rfl)
theorem dX5_wordOf_75 : decode cX5_wordOf 75 = .ok (.iload 7, 2) := dk_21 7 (dk_at dksX5_wordOf_3 4 rfl rfl)
theorem dX5_wordOf_77 : decode cX5_wordOf 77 = .ok (.putfield 192, 3) := dk_181 0 192 (dk_at dksX5_wordOf_3 6 rfl rfl)
theorem dX5_wordOf_80 : decode cX5_wordOf 80 = .ok (.aload_n 0, 1) := dk_42 (dk_at dksX5_wordOf_3 9 rfl rfl)
theorem dX5_wordOf_81 : decode cX5_wordOf 81 = .ok (.invokevirtual 228, 3) := dk_182 0 228 (dk_at dksX5_wordOf_3 10 rfl rfl)
theorem dX5_wordOf_84 : decode cX5_wordOf 84 = .ok (.lload 5, 2) := dk_22 5 (dk_at dksX5_wordOf_3 13 rfl rfl)
theorem dX5_wordOf_86 : decode cX5_wordOf 86 = .ok (.aload_n 0, 1) := dk_42 (dk_at dksX5_wordOf_3 15 rfl rfl)
theorem dX5_wordOf_87 : decode cX5_wordOf 87 = .ok (.iload_n 3, 1) := dk_29 (dk_at dksX5_wordOf_3 16 rfl rfl)
theorem dX5_wordOf_88 : decode cX5_wordOf 88 = .ok (.iload_n 2, 1) := dk_28 (dk_at dksX5_wordOf_3 17 rfl rfl)
theorem dX5_wordOf_89 : decode cX5_wordOf 89 = .ok (.invokevirtual 231, 3) := dk_182 0 231 (dk_at dksX5_wordOf_3 18 rfl rfl)
theorem dX5_wordOf_92 : decode cX5_wordOf 92 = .ok (.ifCond .eq 8, 3) := dk_153 0 8 (dk_at dksX5_wordOf_3 21 rfl rfl)
theorem dX5_wordOf_95 : decode cX5_wordOf 95 = .ok (.lload 8, 2) := dk_22 8 (dk_at dksX5_wordOf_4 0 rfl rfl)
theorem dX5_wordOf_97 : decode cX5_wordOf 97 = .ok (.goto 4, 3) := dk_167 0 4 (dk_at dksX5_wordOf_4 2 rfl rfl)
theorem dX5_wordOf_100 : decode cX5_wordOf 100 = .ok (.lconst 0, 1) := dk_9 (dk_at dksX5_wordOf_4 5 rfl rfl)
theorem dX5_wordOf_101 : decode cX5_wordOf 101 = .ok (.ladd, 1) := dk_97 (dk_at dksX5_wordOf_4 6 rfl rfl)
theorem dX5_wordOf_102 : decode cX5_wordOf 102 = .ok (.lstore 5, 2) := dk_55 5 (dk_at dksX5_wordOf_4 7 rfl rfl)
theorem dX5_wordOf_104 : decode cX5_wordOf 104 = .ok (.iinc 7 1, 3) := dk_132 7 1 (dk_at dksX5_wordOf_4 9 rfl rfl)
theorem dX5_wordOf_107 : decode cX5_wordOf 107 = .ok (.goto (-97), 3) := dk_167 255 159 (dk_at dksX5_wordOf_4 12 rfl rfl)
theorem dX5_wordOf_110 : decode cX5_wordOf 110 = .ok (.lload 5, 2) := dk_22 5 (dk_at dksX5_wordOf_4 15 rfl rfl)
theorem dX5_wordOf_112 : decode cX5_wordOf 112 = .ok (.lconst 1, 1) := dk_10 (dk_at dksX5_wordOf_4 17 rfl rfl)
theorem dX5_wordOf_113 : decode cX5_wordOf 113 = .ok (.iconst 4, 1) := dk_7 (dk_at dksX5_wordOf_4 18 rfl rfl)
theorem dX5_wordOf_114 : decode cX5_wordOf 114 = .ok (.aload_n 0, 1) := dk_42 (dk_at dksX5_wordOf_4 19 rfl rfl)
theorem dX5_wordOf_115 : decode cX5_wordOf 115 = .ok (.getfield 165, 3) := dk_180 0 165 (dk_at dksX5_wordOf_4 20 rfl rfl)
theorem dX5_wordOf_118 : decode cX5_wordOf 118 = .ok (.imul, 1) := dk_104 (dk_at dksX5_wordOf_4 23 rfl rfl)
theorem dX5_wordOf_119 : decode cX5_wordOf 119 = .ok (.lshl, 1) := dk_121 (dk_at dksX5_wordOf_5 0 rfl rfl)
theorem dX5_wordOf_120 : decode cX5_wordOf 120 = .ok (.iload 4, 2) := dk_21 4 (dk_at dksX5_wordOf_5 1 rfl rfl)
theorem dX5_wordOf_122 : decode cX5_wordOf 122 = .ok (.invokestatic 306, 3) := dk_184 1 50 (dk_at dksX5_wordOf_5 3 rfl rfl)
theorem dX5_wordOf_125 : decode cX5_wordOf 125 = .ok (.lreturn, 1) := dk_173 (dk_at dksX5_wordOf_5 6 rfl rfl)
abbrev cX5_lowest : ByteArray := prog_13_method_6_code
def yX5_lowest : MethodName := ⟨RX5, "lowest", "(JJI)J"⟩
def dkwX5_lowest_1 : List UInt8 := [22, 9, 55, 7, 167, 255, 234, 21, 4, 154, 0, 10, 30, 22, 5, 109, 167, 0, 7, 32, 22, 5, 109, 173]
abbrev dktX5_lowest_1 : List UInt8 := dkwX5_lowest_1 ++ []
def dkwX5_lowest_0 : List UInt8 := [30, 55, 5, 32, 55, 7, 22, 7, 9, 148, 153, 0, 21, 22, 5, 22, 7, 113, 55, 9, 22, 7, 55, 5]
abbrev dktX5_lowest_0 : List UInt8 := dkwX5_lowest_0 ++ dktX5_lowest_1
theorem dksX5_lowest_0 : cX5_lowest.data.toList.drop 0 = dktX5_lowest_0 := by decide +kernel
theorem dksX5_lowest_1 : cX5_lowest.data.toList.drop 24 = dktX5_lowest_1 := dk_seg dksX5_lowest_0 24 rfl rfl
theorem dX5_lowest_0 : decode cX5_lowest 0 = .ok (.lload_n 0, 1) := dk_30 (dk_at dksX5_lowest_0 0 rfl rfl)
theorem dX5_lowest_1 : decode cX5_lowest 1 = .ok (.lstore 5, 2) := dk_55 5 (dk_at dksX5_lowest_0 1 rfl rfl)
theorem dX5_lowest_3 : decode cX5_lowest 3 = .ok (.lload_n 2, 1) := dk_32 (dk_at dksX5_lowest_0 3 rfl rfl)
theorem dX5_lowest_4 : decode cX5_lowest 4 = .ok (.lstore 7, 2) := dk_55 7 (dk_at dksX5_lowest_0 4 rfl rfl)
theorem dX5_lowest_6 : decode cX5_lowest 6 = .ok (.lload 7, 2) := dk_22 7 (dk_at dksX5_lowest_0 6 rfl rfl)
theorem dX5_lowest_8 : decode cX5_lowest 8 = .ok (.lconst 0, 1) := dk_9 (dk_at dksX5_lowest_0 8 rfl rfl)
theorem dX5_lowest_9 : decode cX5_lowest 9 = .ok (.lcmp, 1) := dk_148 (dk_at dksX5_lowest_0 9 rfl rfl)
theorem dX5_lowest_10 : decode cX5_lowest 10 = .ok (.ifCond .eq 21, 3) := dk_153 0 21 (dk_at dksX5_lowest_0 10 rfl rfl)
theorem dX5_lowest_13 : decode cX5_lowest 13 = .ok (.lload 5, 2) := dk_22 5 (dk_at dksX5_lowest_0 13 rfl rfl)
theorem dX5_lowest_15 : decode cX5_lowest 15 = .ok (.lload 7, 2) := dk_22 7 (dk_at dksX5_lowest_0 15 rfl rfl)
theorem dX5_lowest_17 : decode cX5_lowest 17 = .ok (.lrem, 1) := dk_113 (dk_at dksX5_lowest_0 17 rfl rfl)
theorem dX5_lowest_18 : decode cX5_lowest 18 = .ok (.lstore 9, 2) := dk_55 9 (dk_at dksX5_lowest_0 18 rfl rfl)
theorem dX5_lowest_20 : decode cX5_lowest 20 = .ok (.lload 7, 2) := dk_22 7 (dk_at dksX5_lowest_0 20 rfl rfl)
theorem dX5_lowest_22 : decode cX5_lowest 22 = .ok (.lstore 5, 2) := dk_55 5 (dk_at dksX5_lowest_0 22 rfl rfl)
theorem dX5_lowest_24 : decode cX5_lowest 24 = .ok (.lload 9, 2) := dk_22 9 (dk_at dksX5_lowest_1 0 rfl rfl)
theorem dX5_lowest_26 : decode cX5_lowest 26 = .ok (.lstore 7, 2) := dk_55 7 (dk_at dksX5_lowest_1 2 rfl rfl)
theorem dX5_lowest_28 : decode cX5_lowest 28 = .ok (.goto (-22), 3) := dk_167 255 234 (dk_at dksX5_lowest_1 4 rfl rfl)
theorem dX5_lowest_31 : decode cX5_lowest 31 = .ok (.iload 4, 2) := dk_21 4 (dk_at dksX5_lowest_1 7 rfl rfl)
theorem dX5_lowest_33 : decode cX5_lowest 33 = .ok (.ifCond .ne 10, 3) := dk_154 0 10 (dk_at dksX5_lowest_1 9 rfl rfl)
theorem dX5_lowest_36 : decode cX5_lowest 36 = .ok (.lload_n 0, 1) := dk_30 (dk_at dksX5_lowest_1 12 rfl rfl)
theorem dX5_lowest_37 : decode cX5_lowest 37 = .ok (.lload 5, 2) := dk_22 5 (dk_at dksX5_lowest_1 13 rfl rfl)
theorem dX5_lowest_39 : decode cX5_lowest 39 = .ok (.ldiv, 1) := dk_109 (dk_at dksX5_lowest_1 15 rfl rfl)
theorem dX5_lowest_40 : decode cX5_lowest 40 = .ok (.goto 7, 3) := dk_167 0 7 (dk_at dksX5_lowest_1 16 rfl rfl)
theorem dX5_lowest_43 : decode cX5_lowest 43 = .ok (.lload_n 2, 1) := dk_32 (dk_at dksX5_lowest_1 19 rfl rfl)
theorem dX5_lowest_44 : decode cX5_lowest 44 = .ok (.lload 5, 2) := dk_22 5 (dk_at dksX5_lowest_1 20 rfl rfl)
theorem dX5_lowest_46 : decode cX5_lowest 46 = .ok (.ldiv, 1) := dk_109 (dk_at dksX5_lowest_1 22 rfl rfl)
theorem dX5_lowest_47 : decode cX5_lowest 47 = .ok (.lreturn, 1) := dk_173 (dk_at dksX5_lowest_1 23 rfl rfl)
abbrev cX5_no : ByteArray := prog_13_method_5_code
def yX5_no : MethodName := ⟨RX5, "no", "(I)J"⟩
def dkwX5_no_0 : List UInt8 := [20, 0, 113, 26, 133, 101, 173]
abbrev dktX5_no_0 : List UInt8 := dkwX5_no_0 ++ []
theorem dksX5_no_0 : cX5_no.data.toList.drop 0 = dktX5_no_0 := by decide +kernel
theorem dX5_no_0 : decode cX5_no 0 = .ok (.ldc2_w 113, 3) := dk_20 0 113 (dk_at dksX5_no_0 0 rfl rfl)
theorem dX5_no_3 : decode cX5_no 3 = .ok (.iload_n 0, 1) := dk_26 (dk_at dksX5_no_0 3 rfl rfl)
theorem dX5_no_4 : decode cX5_no 4 = .ok (.i2l, 1) := dk_133 (dk_at dksX5_no_0 4 rfl rfl)
theorem dX5_no_5 : decode cX5_no 5 = .ok (.lsub, 1) := dk_101 (dk_at dksX5_no_0 5 rfl rfl)
theorem dX5_no_6 : decode cX5_no 6 = .ok (.lreturn, 1) := dk_173 (dk_at dksX5_no_0 6 rfl rfl)
abbrev cX5_year : ByteArray := prog_13_method_82_code
def yX5_year : MethodName := ⟨RX5, "year", "(III)I"⟩
def dkwX5_year_1 : List UInt8 := [182, 1, 63, 167, 0, 5, 16, 254, 172]
abbrev dktX5_year_1 : List UInt8 := dkwX5_year_1 ++ []
def dkwX5_year_0 : List UInt8 := [28, 3, 16, 8, 184, 0, 115, 153, 0, 22, 29, 3, 4, 184, 0, 115, 153, 0, 13, 42, 27, 28, 29]
abbrev dktX5_year_0 : List UInt8 := dkwX5_year_0 ++ dktX5_year_1
theorem dksX5_year_0 : cX5_year.data.toList.drop 0 = dktX5_year_0 := by decide +kernel
theorem dksX5_year_1 : cX5_year.data.toList.drop 23 = dktX5_year_1 := dk_seg dksX5_year_0 23 rfl rfl
theorem dX5_year_0 : decode cX5_year 0 = .ok (.iload_n 2, 1) := dk_28 (dk_at dksX5_year_0 0 rfl rfl)
theorem dX5_year_1 : decode cX5_year 1 = .ok (.iconst 0, 1) := dk_3 (dk_at dksX5_year_0 1 rfl rfl)
theorem dX5_year_2 : decode cX5_year 2 = .ok (.bipush 8, 2) := dk_16 8 (dk_at dksX5_year_0 2 rfl rfl)
theorem dX5_year_4 : decode cX5_year 4 = .ok (.invokestatic 115, 3) := dk_184 0 115 (dk_at dksX5_year_0 4 rfl rfl)
theorem dX5_year_7 : decode cX5_year 7 = .ok (.ifCond .eq 22, 3) := dk_153 0 22 (dk_at dksX5_year_0 7 rfl rfl)
theorem dX5_year_10 : decode cX5_year 10 = .ok (.iload_n 3, 1) := dk_29 (dk_at dksX5_year_0 10 rfl rfl)
theorem dX5_year_11 : decode cX5_year 11 = .ok (.iconst 0, 1) := dk_3 (dk_at dksX5_year_0 11 rfl rfl)
theorem dX5_year_12 : decode cX5_year 12 = .ok (.iconst 1, 1) := dk_4 (dk_at dksX5_year_0 12 rfl rfl)
theorem dX5_year_13 : decode cX5_year 13 = .ok (.invokestatic 115, 3) := dk_184 0 115 (dk_at dksX5_year_0 13 rfl rfl)
theorem dX5_year_16 : decode cX5_year 16 = .ok (.ifCond .eq 13, 3) := dk_153 0 13 (dk_at dksX5_year_0 16 rfl rfl)
theorem dX5_year_19 : decode cX5_year 19 = .ok (.aload_n 0, 1) := dk_42 (dk_at dksX5_year_0 19 rfl rfl)
theorem dX5_year_20 : decode cX5_year 20 = .ok (.iload_n 1, 1) := dk_27 (dk_at dksX5_year_0 20 rfl rfl)
theorem dX5_year_21 : decode cX5_year 21 = .ok (.iload_n 2, 1) := dk_28 (dk_at dksX5_year_0 21 rfl rfl)
theorem dX5_year_22 : decode cX5_year 22 = .ok (.iload_n 3, 1) := dk_29 (dk_at dksX5_year_0 22 rfl rfl)
theorem dX5_year_23 : decode cX5_year 23 = .ok (.invokevirtual 319, 3) := dk_182 1 63 (dk_at dksX5_year_1 0 rfl rfl)
theorem dX5_year_26 : decode cX5_year 26 = .ok (.goto 5, 3) := dk_167 0 5 (dk_at dksX5_year_1 3 rfl rfl)
theorem dX5_year_29 : decode cX5_year 29 = .ok (.bipush (-2), 2) := dk_16 254 (dk_at dksX5_year_1 6 rfl rfl)
theorem dX5_year_31 : decode cX5_year 31 = .ok (.ireturn, 1) := dk_172 (dk_at dksX5_year_1 8 rfl rfl)
abbrev cX5_yearOf : ByteArray := prog_13_method_81_code
def yX5_yearOf : MethodName := ⟨RX5, "yearOf", "(III)I"⟩
def dkwX5_yearOf_6 : List UInt8 := [167, 255, 223, 29, 154, 0, 8, 21, 5, 167, 0, 9, 42, 16, 23, 182, 1, 7, 172]
abbrev dktX5_yearOf_6 : List UInt8 := dkwX5_yearOf_6 ++ []
def dkwX5_yearOf_5 : List UInt8 := [42, 180, 0, 70, 21, 6, 46, 6, 160, 0, 7, 4, 167, 0, 4, 3, 96, 54, 5, 132, 6, 1]
abbrev dktX5_yearOf_5 : List UInt8 := dkwX5_yearOf_5 ++ dktX5_yearOf_6
def dkwX5_yearOf_4 : List UInt8 := [167, 255, 188, 42, 182, 0, 228, 3, 54, 5, 3, 54, 6, 21, 6, 42, 180, 0, 131, 162, 0, 30, 21, 5]
abbrev dktX5_yearOf_4 : List UInt8 := dkwX5_yearOf_4 ++ dktX5_yearOf_5
def dkwX5_yearOf_3 : List UInt8 := [54, 4, 42, 180, 0, 61, 21, 5, 21, 4, 16, 16, 124, 42, 180, 0, 131, 112, 79, 132, 5, 1]
abbrev dktX5_yearOf_3 : List UInt8 := dkwX5_yearOf_3 ++ dktX5_yearOf_4
def dkwX5_yearOf_2 : List UInt8 := [180, 0, 58, 21, 5, 21, 4, 16, 16, 124, 16, 24, 112, 79, 19, 1, 62, 21, 4, 104, 17, 48, 57, 96]
abbrev dktX5_yearOf_2 : List UInt8 := dkwX5_yearOf_2 ++ dktX5_yearOf_3
def dkwX5_yearOf_1 : List UInt8 := [54, 5, 21, 5, 42, 180, 0, 189, 162, 0, 65, 19, 1, 62, 21, 4, 104, 17, 48, 57, 96, 54, 4, 42]
abbrev dktX5_yearOf_1 : List UInt8 := dkwX5_yearOf_1 ++ dktX5_yearOf_2
def dkwX5_yearOf_0 : List UInt8 := [42, 182, 0, 225, 27, 54, 4, 42, 42, 180, 0, 131, 154, 0, 7, 3, 167, 0, 4, 28, 181, 0, 189, 3]
abbrev dktX5_yearOf_0 : List UInt8 := dkwX5_yearOf_0 ++ dktX5_yearOf_1
theorem dksX5_yearOf_0 : cX5_yearOf.data.toList.drop 0 = dktX5_yearOf_0 := by decide +kernel
theorem dksX5_yearOf_1 : cX5_yearOf.data.toList.drop 24 = dktX5_yearOf_1 := dk_seg dksX5_yearOf_0 24 rfl rfl
theorem dksX5_yearOf_2 : cX5_yearOf.data.toList.drop 48 = dktX5_yearOf_2 := dk_seg dksX5_yearOf_1 24 rfl rfl
theorem dksX5_yearOf_3 : cX5_yearOf.data.toList.drop 72 = dktX5_yearOf_3 := dk_seg dksX5_yearOf_2 24 rfl rfl
theorem dksX5_yearOf_4 : cX5_yearOf.data.toList.drop 94 = dktX5_yearOf_4 := dk_seg dksX5_yearOf_3 22 rfl rfl
theorem dksX5_yearOf_5 : cX5_yearOf.data.toList.drop 118 = dktX5_yearOf_5 := dk_seg dksX5_yearOf_4 24 rfl rfl
theorem dksX5_yearOf_6 : cX5_yearOf.data.toList.drop 140 = dktX5_yearOf_6 := dk_seg dksX5_yearOf_5 22 rfl rfl
theorem dX5_yearOf_0 : decode cX5_yearOf 0 = .ok (.aload_n 0, 1) := dk_42 (dk_at dksX5_yearOf_0 0 rfl rfl)
theorem dX5_yearOf_1 : decode cX5_yearOf 1 = .ok (.invokevirtual 225, 3) := dk_182 0 225 (dk_at dksX5_yearOf_0 1 rfl rfl)
theorem dX5_yearOf_4 : decode cX5_yearOf 4 = .ok (.iload_n 1, 1) := dk_27 (dk_at dksX5_yearOf_0 4 rfl rfl)
theorem dX5_yearOf_5 : decode cX5_yearOf 5 = .ok (.istore 4, 2) := dk_54 4 (dk_at dksX5_yearOf_0 5 rfl rfl)
theorem dX5_yearOf_7 : decode cX5_yearOf 7 = .ok (.aload_n 0, 1) := dk_42 (dk_at dksX5_yearOf_0 7 rfl rfl)
theorem dX5_yearOf_8 : decode cX5_yearOf 8 = .ok (.aload_n 0, 1) := dk_42 (dk_at dksX5_yearOf_0 8 rfl rfl)
theorem dX5_yearOf_9 : decode cX5_yearOf 9 = .ok (.getfield 131, 3) := dk_180 0 131 (dk_at dksX5_yearOf_0 9 rfl rfl)
theorem dX5_yearOf_12 : decode cX5_yearOf 12 = .ok (.ifCond .ne 7, 3) := dk_154 0 7 (dk_at dksX5_yearOf_0 12 rfl rfl)
theorem dX5_yearOf_15 : decode cX5_yearOf 15 = .ok (.iconst 0, 1) := dk_3 (dk_at dksX5_yearOf_0 15 rfl rfl)
theorem dX5_yearOf_16 : decode cX5_yearOf 16 = .ok (.goto 4, 3) := dk_167 0 4 (dk_at dksX5_yearOf_0 16 rfl rfl)
theorem dX5_yearOf_19 : decode cX5_yearOf 19 = .ok (.iload_n 2, 1) := dk_28 (dk_at dksX5_yearOf_0 19 rfl rfl)
theorem dX5_yearOf_20 : decode cX5_yearOf 20 = .ok (.putfield 189, 3) := dk_181 0 189 (dk_at dksX5_yearOf_0 20 rfl rfl)
theorem dX5_yearOf_23 : decode cX5_yearOf 23 = .ok (.iconst 0, 1) := dk_3 (dk_at dksX5_yearOf_0 23 rfl rfl)
theorem dX5_yearOf_24 : decode cX5_yearOf 24 = .ok (.istore 5, 2) := dk_54 5 (dk_at dksX5_yearOf_1 0 rfl rfl)
theorem dX5_yearOf_26 : decode cX5_yearOf 26 = .ok (.iload 5, 2) := dk_21 5 (dk_at dksX5_yearOf_1 2 rfl rfl)
theorem dX5_yearOf_28 : decode cX5_yearOf 28 = .ok (.aload_n 0, 1) := dk_42 (dk_at dksX5_yearOf_1 4 rfl rfl)
theorem dX5_yearOf_29 : decode cX5_yearOf 29 = .ok (.getfield 189, 3) := dk_180 0 189 (dk_at dksX5_yearOf_1 5 rfl rfl)
theorem dX5_yearOf_32 : decode cX5_yearOf 32 = .ok (.if_icmp .ge 65, 3) := dk_162 0 65 (dk_at dksX5_yearOf_1 8 rfl rfl)
theorem dX5_yearOf_35 : decode cX5_yearOf 35 = .ok (.ldc_w 318, 3) := dk_19 1 62 (dk_at dksX5_yearOf_1 11 rfl rfl)
theorem dX5_yearOf_38 : decode cX5_yearOf 38 = .ok (.iload 4, 2) := dk_21 4 (dk_at dksX5_yearOf_1 14 rfl rfl)
theorem dX5_yearOf_40 : decode cX5_yearOf 40 = .ok (.imul, 1) := dk_104 (dk_at dksX5_yearOf_1 16 rfl rfl)
theorem dX5_yearOf_41 : decode cX5_yearOf 41 = .ok (.sipush 12345, 3) := dk_17 48 57 (dk_at dksX5_yearOf_1 17 rfl rfl)
theorem dX5_yearOf_44 : decode cX5_yearOf 44 = .ok (.iadd, 1) := dk_96 (dk_at dksX5_yearOf_1 20 rfl rfl)
theorem dX5_yearOf_45 : decode cX5_yearOf 45 = .ok (.istore 4, 2) := dk_54 4 (dk_at dksX5_yearOf_1 21 rfl rfl)
theorem dX5_yearOf_47 : decode cX5_yearOf 47 = .ok (.aload_n 0, 1) := dk_42 (dk_at dksX5_yearOf_1 23 rfl rfl)
theorem dX5_yearOf_48 : decode cX5_yearOf 48 = .ok (.getfield 58, 3) := dk_180 0 58 (dk_at dksX5_yearOf_2 0 rfl rfl)
theorem dX5_yearOf_51 : decode cX5_yearOf 51 = .ok (.iload 5, 2) := dk_21 5 (dk_at dksX5_yearOf_2 3 rfl rfl)
theorem dX5_yearOf_53 : decode cX5_yearOf 53 = .ok (.iload 4, 2) := dk_21 4 (dk_at dksX5_yearOf_2 5 rfl rfl)
theorem dX5_yearOf_55 : decode cX5_yearOf 55 = .ok (.bipush 16, 2) := dk_16 16 (dk_at dksX5_yearOf_2 7 rfl rfl)
theorem dX5_yearOf_57 : decode cX5_yearOf 57 = .ok (.iushr, 1) := dk_124 (dk_at dksX5_yearOf_2 9 rfl rfl)
theorem dX5_yearOf_58 : decode cX5_yearOf 58 = .ok (.bipush 24, 2) := dk_16 24 (dk_at dksX5_yearOf_2 10 rfl rfl)
theorem dX5_yearOf_60 : decode cX5_yearOf 60 = .ok (.irem, 1) := dk_112 (dk_at dksX5_yearOf_2 12 rfl rfl)
theorem dX5_yearOf_61 : decode cX5_yearOf 61 = .ok (.iastore, 1) := dk_79 (dk_at dksX5_yearOf_2 13 rfl rfl)
theorem dX5_yearOf_62 : decode cX5_yearOf 62 = .ok (.ldc_w 318, 3) := dk_19 1 62 (dk_at dksX5_yearOf_2 14 rfl rfl)
theorem dX5_yearOf_65 : decode cX5_yearOf 65 = .ok (.iload 4, 2) := dk_21 4 (dk_at dksX5_yearOf_2 17 rfl rfl)
theorem dX5_yearOf_67 : decode cX5_yearOf 67 = .ok (.imul, 1) := dk_104 (dk_at dksX5_yearOf_2 19 rfl rfl)
theorem dX5_yearOf_68 : decode cX5_yearOf 68 = .ok (.sipush 12345, 3) := dk_17 48 57 (dk_at dksX5_yearOf_2 20 rfl rfl)
theorem dX5_yearOf_71 : decode cX5_yearOf 71 = .ok (.iadd, 1) := dk_96 (dk_at dksX5_yearOf_2 23 rfl rfl)
theorem dX5_yearOf_72 : decode cX5_yearOf 72 = .ok (.istore 4, 2) := dk_54 4 (dk_at dksX5_yearOf_3 0 rfl rfl)
theorem dX5_yearOf_74 : decode cX5_yearOf 74 = .ok (.aload_n 0, 1) := dk_42 (dk_at dksX5_yearOf_3 2 rfl rfl)
theorem dX5_yearOf_75 : decode cX5_yearOf 75 = .ok (.getfield 61, 3) := dk_180 0 61 (dk_at dksX5_yearOf_3 3 rfl rfl)
theorem dX5_yearOf_78 : decode cX5_yearOf 78 = .ok (.iload 5, 2) := dk_21 5 (dk_at dksX5_yearOf_3 6 rfl rfl)
theorem dX5_yearOf_80 : decode cX5_yearOf 80 = .ok (.iload 4, 2) := dk_21 4 (dk_at dksX5_yearOf_3 8 rfl rfl)
theorem dX5_yearOf_82 : decode cX5_yearOf 82 = .ok (.bipush 16, 2) := dk_16 16 (dk_at dksX5_yearOf_3 10 rfl rfl)
theorem dX5_yearOf_84 : decode cX5_yearOf 84 = .ok (.iushr, 1) := dk_124 (dk_at dksX5_yearOf_3 12 rfl rfl)
theorem dX5_yearOf_85 : decode cX5_yearOf 85 = .ok (.aload_n 0, 1) := dk_42 (dk_at dksX5_yearOf_3 13 rfl rfl)
theorem dX5_yearOf_86 : decode cX5_yearOf 86 = .ok (.getfield 131, 3) := dk_180 0 131 (dk_at dksX5_yearOf_3 14 rfl rfl)
theorem dX5_yearOf_89 : decode cX5_yearOf 89 = .ok (.irem, 1) := dk_112 (dk_at dksX5_yearOf_3 17 rfl rfl)
theorem dX5_yearOf_90 : decode cX5_yearOf 90 = .ok (.iastore, 1) := dk_79 (dk_at dksX5_yearOf_3 18 rfl rfl)
theorem dX5_yearOf_91 : decode cX5_yearOf 91 = .ok (.iinc 5 1, 3) := dk_132 5 1 (dk_at dksX5_yearOf_3 19 rfl rfl)
theorem dX5_yearOf_94 : decode cX5_yearOf 94 = .ok (.goto (-68), 3) := dk_167 255 188 (dk_at dksX5_yearOf_4 0 rfl rfl)
theorem dX5_yearOf_97 : decode cX5_yearOf 97 = .ok (.aload_n 0, 1) := dk_42 (dk_at dksX5_yearOf_4 3 rfl rfl)
theorem dX5_yearOf_98 : decode cX5_yearOf 98 = .ok (.invokevirtual 228, 3) := dk_182 0 228 (dk_at dksX5_yearOf_4 4 rfl rfl)
theorem dX5_yearOf_101 : decode cX5_yearOf 101 = .ok (.iconst 0, 1) := dk_3 (dk_at dksX5_yearOf_4 7 rfl rfl)
theorem dX5_yearOf_102 : decode cX5_yearOf 102 = .ok (.istore 5, 2) := dk_54 5 (dk_at dksX5_yearOf_4 8 rfl rfl)
theorem dX5_yearOf_104 : decode cX5_yearOf 104 = .ok (.iconst 0, 1) := dk_3 (dk_at dksX5_yearOf_4 10 rfl rfl)
theorem dX5_yearOf_105 : decode cX5_yearOf 105 = .ok (.istore 6, 2) := dk_54 6 (dk_at dksX5_yearOf_4 11 rfl rfl)
theorem dX5_yearOf_107 : decode cX5_yearOf 107 = .ok (.iload 6, 2) := dk_21 6 (dk_at dksX5_yearOf_4 13 rfl rfl)
theorem dX5_yearOf_109 : decode cX5_yearOf 109 = .ok (.aload_n 0, 1) := dk_42 (dk_at dksX5_yearOf_4 15 rfl rfl)
theorem dX5_yearOf_110 : decode cX5_yearOf 110 = .ok (.getfield 131, 3) := dk_180 0 131 (dk_at dksX5_yearOf_4 16 rfl rfl)
theorem dX5_yearOf_113 : decode cX5_yearOf 113 = .ok (.if_icmp .ge 30, 3) := dk_162 0 30 (dk_at dksX5_yearOf_4 19 rfl rfl)
theorem dX5_yearOf_116 : decode cX5_yearOf 116 = .ok (.iload 5, 2) := dk_21 5 (dk_at dksX5_yearOf_4 22 rfl rfl)
theorem dX5_yearOf_118 : decode cX5_yearOf 118 = .ok (.aload_n 0, 1) := dk_42 (dk_at dksX5_yearOf_5 0 rfl rfl)
theorem dX5_yearOf_119 : decode cX5_yearOf 119 = .ok (.getfield 70, 3) := dk_180 0 70 (dk_at dksX5_yearOf_5 1 rfl rfl)
theorem dX5_yearOf_122 : decode cX5_yearOf 122 = .ok (.iload 6, 2) := dk_21 6 (dk_at dksX5_yearOf_5 4 rfl rfl)
theorem dX5_yearOf_124 : decode cX5_yearOf 124 = .ok (.iaload, 1) := dk_46 (dk_at dksX5_yearOf_5 6 rfl rfl)
theorem dX5_yearOf_125 : decode cX5_yearOf 125 = .ok (.iconst 3, 1) := dk_6 (dk_at dksX5_yearOf_5 7 rfl rfl)
theorem dX5_yearOf_126 : decode cX5_yearOf 126 = .ok (.if_icmp .ne 7, 3) := dk_160 0 7 (dk_at dksX5_yearOf_5 8 rfl rfl)
theorem dX5_yearOf_129 : decode cX5_yearOf 129 = .ok (.iconst 1, 1) := dk_4 (dk_at dksX5_yearOf_5 11 rfl rfl)
theorem dX5_yearOf_130 : decode cX5_yearOf 130 = .ok (.goto 4, 3) := dk_167 0 4 (dk_at dksX5_yearOf_5 12 rfl rfl)
theorem dX5_yearOf_133 : decode cX5_yearOf 133 = .ok (.iconst 0, 1) := dk_3 (dk_at dksX5_yearOf_5 15 rfl rfl)
theorem dX5_yearOf_134 : decode cX5_yearOf 134 = .ok (.iadd, 1) := dk_96 (dk_at dksX5_yearOf_5 16 rfl rfl)
theorem dX5_yearOf_135 : decode cX5_yearOf 135 = .ok (.istore 5, 2) := dk_54 5 (dk_at dksX5_yearOf_5 17 rfl rfl)
theorem dX5_yearOf_137 : decode cX5_yearOf 137 = .ok (.iinc 6 1, 3) := dk_132 6 1 (dk_at dksX5_yearOf_5 19 rfl rfl)
theorem dX5_yearOf_140 : decode cX5_yearOf 140 = .ok (.goto (-33), 3) := dk_167 255 223 (dk_at dksX5_yearOf_6 0 rfl rfl)
theorem dX5_yearOf_143 : decode cX5_yearOf 143 = .ok (.iload_n 3, 1) := dk_29 (dk_at dksX5_yearOf_6 3 rfl rfl)
theorem dX5_yearOf_144 : decode cX5_yearOf 144 = .ok (.ifCond .ne 8, 3) := dk_154 0 8 (dk_at dksX5_yearOf_6 4 rfl rfl)
theorem dX5_yearOf_147 : decode cX5_yearOf 147 = .ok (.iload 5, 2) := dk_21 5 (dk_at dksX5_yearOf_6 7 rfl rfl)
theorem dX5_yearOf_149 : decode cX5_yearOf 149 = .ok (.goto 9, 3) := dk_167 0 9 (dk_at dksX5_yearOf_6 9 rfl rfl)
theorem dX5_yearOf_152 : decode cX5_yearOf 152 = .ok (.aload_n 0, 1) := dk_42 (dk_at dksX5_yearOf_6 12 rfl rfl)
theorem dX5_yearOf_153 : decode cX5_yearOf 153 = .ok (.bipush 23, 2) := dk_16 23 (dk_at dksX5_yearOf_6 13 rfl rfl)
theorem dX5_yearOf_155 : decode cX5_yearOf 155 = .ok (.invokevirtual 263, 3) := dk_182 1 7 (dk_at dksX5_yearOf_6 15 rfl rfl)
theorem dX5_yearOf_158 : decode cX5_yearOf 158 = .ok (.ireturn, 1) := dk_172 (dk_at dksX5_yearOf_6 18 rfl rfl)
abbrev cX5_sheet : ByteArray := prog_13_method_85_code
def yX5_sheet : MethodName := ⟨RX5, "sheet", "(III)I"⟩
def dkwX5_sheet_3 : List UInt8 := [27, 104, 21, 4, 96, 3, 79, 132, 4, 1, 167, 255, 233, 29, 172]
abbrev dktX5_sheet_3 : List UInt8 := dkwX5_sheet_3 ++ []
def dkwX5_sheet_2 : List UInt8 := [79, 42, 180, 0, 104, 27, 29, 79, 3, 54, 4, 21, 4, 16, 60, 162, 0, 22, 42, 180, 0, 107, 16, 60]
abbrev dktX5_sheet_2 : List UInt8 := dkwX5_sheet_2 ++ dktX5_sheet_3
def dkwX5_sheet_1 : List UInt8 := [172, 29, 156, 0, 9, 42, 8, 182, 0, 180, 172, 42, 180, 0, 97, 27, 4, 84, 42, 180, 0, 101, 27, 28]
abbrev dktX5_sheet_1 : List UInt8 := dkwX5_sheet_1 ++ dktX5_sheet_2
def dkwX5_sheet_0 : List UInt8 := [27, 184, 0, 177, 153, 0, 18, 28, 3, 5, 184, 0, 115, 153, 0, 9, 29, 16, 60, 164, 0, 6, 16, 254]
abbrev dktX5_sheet_0 : List UInt8 := dkwX5_sheet_0 ++ dktX5_sheet_1
theorem dksX5_sheet_0 : cX5_sheet.data.toList.drop 0 = dktX5_sheet_0 := by decide +kernel
theorem dksX5_sheet_1 : cX5_sheet.data.toList.drop 24 = dktX5_sheet_1 := dk_seg dksX5_sheet_0 24 rfl rfl
theorem dksX5_sheet_2 : cX5_sheet.data.toList.drop 48 = dktX5_sheet_2 := dk_seg dksX5_sheet_1 24 rfl rfl
theorem dksX5_sheet_3 : cX5_sheet.data.toList.drop 72 = dktX5_sheet_3 := dk_seg dksX5_sheet_2 24 rfl rfl
theorem dX5_sheet_0 : decode cX5_sheet 0 = .ok (.iload_n 1, 1) := dk_27 (dk_at dksX5_sheet_0 0 rfl rfl)
theorem dX5_sheet_1 : decode cX5_sheet 1 = .ok (.invokestatic 177, 3) := dk_184 0 177 (dk_at dksX5_sheet_0 1 rfl rfl)
theorem dX5_sheet_4 : decode cX5_sheet 4 = .ok (.ifCond .eq 18, 3) := dk_153 0 18 (dk_at dksX5_sheet_0 4 rfl rfl)
theorem dX5_sheet_7 : decode cX5_sheet 7 = .ok (.iload_n 2, 1) := dk_28 (dk_at dksX5_sheet_0 7 rfl rfl)
theorem dX5_sheet_8 : decode cX5_sheet 8 = .ok (.iconst 0, 1) := dk_3 (dk_at dksX5_sheet_0 8 rfl rfl)
theorem dX5_sheet_9 : decode cX5_sheet 9 = .ok (.iconst 2, 1) := dk_5 (dk_at dksX5_sheet_0 9 rfl rfl)
theorem dX5_sheet_10 : decode cX5_sheet 10 = .ok (.invokestatic 115, 3) := dk_184 0 115 (dk_at dksX5_sheet_0 10 rfl rfl)
theorem dX5_sheet_13 : decode cX5_sheet 13 = .ok (.ifCond .eq 9, 3) := dk_153 0 9 (dk_at dksX5_sheet_0 13 rfl rfl)
theorem dX5_sheet_16 : decode cX5_sheet 16 = .ok (.iload_n 3, 1) := dk_29 (dk_at dksX5_sheet_0 16 rfl rfl)
theorem dX5_sheet_17 : decode cX5_sheet 17 = .ok (.bipush 60, 2) := dk_16 60 (dk_at dksX5_sheet_0 17 rfl rfl)
theorem dX5_sheet_19 : decode cX5_sheet 19 = .ok (.if_icmp .le 6, 3) := dk_164 0 6 (dk_at dksX5_sheet_0 19 rfl rfl)
theorem dX5_sheet_22 : decode cX5_sheet 22 = .ok (.bipush (-2), 2) := dk_16 254 (dk_at dksX5_sheet_0 22 rfl rfl)
theorem dX5_sheet_24 : decode cX5_sheet 24 = .ok (.ireturn, 1) := dk_172 (dk_at dksX5_sheet_1 0 rfl rfl)
theorem dX5_sheet_25 : decode cX5_sheet 25 = .ok (.iload_n 3, 1) := dk_29 (dk_at dksX5_sheet_1 1 rfl rfl)
theorem dX5_sheet_26 : decode cX5_sheet 26 = .ok (.ifCond .ge 9, 3) := dk_156 0 9 (dk_at dksX5_sheet_1 2 rfl rfl)
theorem dX5_sheet_29 : decode cX5_sheet 29 = .ok (.aload_n 0, 1) := dk_42 (dk_at dksX5_sheet_1 5 rfl rfl)
theorem dX5_sheet_30 : decode cX5_sheet 30 = .ok (.iconst 5, 1) := dk_8 (dk_at dksX5_sheet_1 6 rfl rfl)
theorem dX5_sheet_31 : decode cX5_sheet 31 = .ok (.invokevirtual 180, 3) := dk_182 0 180 (dk_at dksX5_sheet_1 7 rfl rfl)
theorem dX5_sheet_34 : decode cX5_sheet 34 = .ok (.ireturn, 1) := dk_172 (dk_at dksX5_sheet_1 10 rfl rfl)
theorem dX5_sheet_35 : decode cX5_sheet 35 = .ok (.aload_n 0, 1) := dk_42 (dk_at dksX5_sheet_1 11 rfl rfl)
theorem dX5_sheet_36 : decode cX5_sheet 36 = .ok (.getfield 97, 3) := dk_180 0 97 (dk_at dksX5_sheet_1 12 rfl rfl)
theorem dX5_sheet_39 : decode cX5_sheet 39 = .ok (.iload_n 1, 1) := dk_27 (dk_at dksX5_sheet_1 15 rfl rfl)
theorem dX5_sheet_40 : decode cX5_sheet 40 = .ok (.iconst 1, 1) := dk_4 (dk_at dksX5_sheet_1 16 rfl rfl)
theorem dX5_sheet_41 : decode cX5_sheet 41 = .ok (.bastore, 1) := dk_84 (dk_at dksX5_sheet_1 17 rfl rfl)
theorem dX5_sheet_42 : decode cX5_sheet 42 = .ok (.aload_n 0, 1) := dk_42 (dk_at dksX5_sheet_1 18 rfl rfl)
theorem dX5_sheet_43 : decode cX5_sheet 43 = .ok (.getfield 101, 3) := dk_180 0 101 (dk_at dksX5_sheet_1 19 rfl rfl)
theorem dX5_sheet_46 : decode cX5_sheet 46 = .ok (.iload_n 1, 1) := dk_27 (dk_at dksX5_sheet_1 22 rfl rfl)
theorem dX5_sheet_47 : decode cX5_sheet 47 = .ok (.iload_n 2, 1) := dk_28 (dk_at dksX5_sheet_1 23 rfl rfl)
theorem dX5_sheet_48 : decode cX5_sheet 48 = .ok (.iastore, 1) := dk_79 (dk_at dksX5_sheet_2 0 rfl rfl)
theorem dX5_sheet_49 : decode cX5_sheet 49 = .ok (.aload_n 0, 1) := dk_42 (dk_at dksX5_sheet_2 1 rfl rfl)
theorem dX5_sheet_50 : decode cX5_sheet 50 = .ok (.getfield 104, 3) := dk_180 0 104 (dk_at dksX5_sheet_2 2 rfl rfl)
theorem dX5_sheet_53 : decode cX5_sheet 53 = .ok (.iload_n 1, 1) := dk_27 (dk_at dksX5_sheet_2 5 rfl rfl)
theorem dX5_sheet_54 : decode cX5_sheet 54 = .ok (.iload_n 3, 1) := dk_29 (dk_at dksX5_sheet_2 6 rfl rfl)
theorem dX5_sheet_55 : decode cX5_sheet 55 = .ok (.iastore, 1) := dk_79 (dk_at dksX5_sheet_2 7 rfl rfl)
theorem dX5_sheet_56 : decode cX5_sheet 56 = .ok (.iconst 0, 1) := dk_3 (dk_at dksX5_sheet_2 8 rfl rfl)
theorem dX5_sheet_57 : decode cX5_sheet 57 = .ok (.istore 4, 2) := dk_54 4 (dk_at dksX5_sheet_2 9 rfl rfl)
theorem dX5_sheet_59 : decode cX5_sheet 59 = .ok (.iload 4, 2) := dk_21 4 (dk_at dksX5_sheet_2 11 rfl rfl)
theorem dX5_sheet_61 : decode cX5_sheet 61 = .ok (.bipush 60, 2) := dk_16 60 (dk_at dksX5_sheet_2 13 rfl rfl)
theorem dX5_sheet_63 : decode cX5_sheet 63 = .ok (.if_icmp .ge 22, 3) := dk_162 0 22 (dk_at dksX5_sheet_2 15 rfl rfl)
theorem dX5_sheet_66 : decode cX5_sheet 66 = .ok (.aload_n 0, 1) := dk_42 (dk_at dksX5_sheet_2 18 rfl rfl)
theorem dX5_sheet_67 : decode cX5_sheet 67 = .ok (.getfield 107, 3) := dk_180 0 107 (dk_at dksX5_sheet_2 19 rfl rfl)
theorem dX5_sheet_70 : decode cX5_sheet 70 = .ok (.bipush 60, 2) := dk_16 60 (dk_at dksX5_sheet_2 22 rfl rfl)
theorem dX5_sheet_72 : decode cX5_sheet 72 = .ok (.iload_n 1, 1) := dk_27 (dk_at dksX5_sheet_3 0 rfl rfl)
theorem dX5_sheet_73 : decode cX5_sheet 73 = .ok (.imul, 1) := dk_104 (dk_at dksX5_sheet_3 1 rfl rfl)
theorem dX5_sheet_74 : decode cX5_sheet 74 = .ok (.iload 4, 2) := dk_21 4 (dk_at dksX5_sheet_3 2 rfl rfl)
theorem dX5_sheet_76 : decode cX5_sheet 76 = .ok (.iadd, 1) := dk_96 (dk_at dksX5_sheet_3 4 rfl rfl)
theorem dX5_sheet_77 : decode cX5_sheet 77 = .ok (.iconst 0, 1) := dk_3 (dk_at dksX5_sheet_3 5 rfl rfl)
theorem dX5_sheet_78 : decode cX5_sheet 78 = .ok (.iastore, 1) := dk_79 (dk_at dksX5_sheet_3 6 rfl rfl)
theorem dX5_sheet_79 : decode cX5_sheet 79 = .ok (.iinc 4 1, 3) := dk_132 4 1 (dk_at dksX5_sheet_3 7 rfl rfl)
theorem dX5_sheet_82 : decode cX5_sheet 82 = .ok (.goto (-23), 3) := dk_167 255 233 (dk_at dksX5_sheet_3 10 rfl rfl)
theorem dX5_sheet_85 : decode cX5_sheet 85 = .ok (.iload_n 3, 1) := dk_29 (dk_at dksX5_sheet_3 13 rfl rfl)
theorem dX5_sheet_86 : decode cX5_sheet 86 = .ok (.ireturn, 1) := dk_172 (dk_at dksX5_sheet_3 14 rfl rfl)
abbrev cX5_lose : ByteArray := prog_13_method_86_code
def yX5_lose : MethodName := ⟨RX5, "lose", "(I)I"⟩
def dkwX5_lose_1 : List UInt8 := [172, 42, 180, 0, 97, 27, 3, 84, 42, 180, 0, 104, 27, 46, 172]
abbrev dktX5_lose_1 : List UInt8 := dkwX5_lose_1 ++ []
def dkwX5_lose_0 : List UInt8 := [27, 184, 0, 177, 154, 0, 6, 16, 254, 172, 42, 180, 0, 97, 27, 51, 154, 0, 9, 42, 4, 182, 0, 180]
abbrev dktX5_lose_0 : List UInt8 := dkwX5_lose_0 ++ dktX5_lose_1
theorem dksX5_lose_0 : cX5_lose.data.toList.drop 0 = dktX5_lose_0 := by decide +kernel
theorem dksX5_lose_1 : cX5_lose.data.toList.drop 24 = dktX5_lose_1 := dk_seg dksX5_lose_0 24 rfl rfl
theorem dX5_lose_0 : decode cX5_lose 0 = .ok (.iload_n 1, 1) := dk_27 (dk_at dksX5_lose_0 0 rfl rfl)
theorem dX5_lose_1 : decode cX5_lose 1 = .ok (.invokestatic 177, 3) := dk_184 0 177 (dk_at dksX5_lose_0 1 rfl rfl)
theorem dX5_lose_4 : decode cX5_lose 4 = .ok (.ifCond .ne 6, 3) := dk_154 0 6 (dk_at dksX5_lose_0 4 rfl rfl)
theorem dX5_lose_7 : decode cX5_lose 7 = .ok (.bipush (-2), 2) := dk_16 254 (dk_at dksX5_lose_0 7 rfl rfl)
theorem dX5_lose_9 : decode cX5_lose 9 = .ok (.ireturn, 1) := dk_172 (dk_at dksX5_lose_0 9 rfl rfl)
theorem dX5_lose_10 : decode cX5_lose 10 = .ok (.aload_n 0, 1) := dk_42 (dk_at dksX5_lose_0 10 rfl rfl)
theorem dX5_lose_11 : decode cX5_lose 11 = .ok (.getfield 97, 3) := dk_180 0 97 (dk_at dksX5_lose_0 11 rfl rfl)
theorem dX5_lose_14 : decode cX5_lose 14 = .ok (.iload_n 1, 1) := dk_27 (dk_at dksX5_lose_0 14 rfl rfl)
theorem dX5_lose_15 : decode cX5_lose 15 = .ok (.baload, 1) := dk_51 (dk_at dksX5_lose_0 15 rfl rfl)
theorem dX5_lose_16 : decode cX5_lose 16 = .ok (.ifCond .ne 9, 3) := dk_154 0 9 (dk_at dksX5_lose_0 16 rfl rfl)
theorem dX5_lose_19 : decode cX5_lose 19 = .ok (.aload_n 0, 1) := dk_42 (dk_at dksX5_lose_0 19 rfl rfl)
theorem dX5_lose_20 : decode cX5_lose 20 = .ok (.iconst 1, 1) := dk_4 (dk_at dksX5_lose_0 20 rfl rfl)
theorem dX5_lose_21 : decode cX5_lose 21 = .ok (.invokevirtual 180, 3) := dk_182 0 180 (dk_at dksX5_lose_0 21 rfl rfl)
theorem dX5_lose_24 : decode cX5_lose 24 = .ok (.ireturn, 1) := dk_172 (dk_at dksX5_lose_1 0 rfl rfl)
theorem dX5_lose_25 : decode cX5_lose 25 = .ok (.aload_n 0, 1) := dk_42 (dk_at dksX5_lose_1 1 rfl rfl)
theorem dX5_lose_26 : decode cX5_lose 26 = .ok (.getfield 97, 3) := dk_180 0 97 (dk_at dksX5_lose_1 2 rfl rfl)
theorem dX5_lose_29 : decode cX5_lose 29 = .ok (.iload_n 1, 1) := dk_27 (dk_at dksX5_lose_1 5 rfl rfl)
theorem dX5_lose_30 : decode cX5_lose 30 = .ok (.iconst 0, 1) := dk_3 (dk_at dksX5_lose_1 6 rfl rfl)
theorem dX5_lose_31 : decode cX5_lose 31 = .ok (.bastore, 1) := dk_84 (dk_at dksX5_lose_1 7 rfl rfl)
theorem dX5_lose_32 : decode cX5_lose 32 = .ok (.aload_n 0, 1) := dk_42 (dk_at dksX5_lose_1 8 rfl rfl)
theorem dX5_lose_33 : decode cX5_lose 33 = .ok (.getfield 104, 3) := dk_180 0 104 (dk_at dksX5_lose_1 9 rfl rfl)
theorem dX5_lose_36 : decode cX5_lose 36 = .ok (.iload_n 1, 1) := dk_27 (dk_at dksX5_lose_1 12 rfl rfl)
theorem dX5_lose_37 : decode cX5_lose 37 = .ok (.iaload, 1) := dk_46 (dk_at dksX5_lose_1 13 rfl rfl)
theorem dX5_lose_38 : decode cX5_lose 38 = .ok (.ireturn, 1) := dk_172 (dk_at dksX5_lose_1 14 rfl rfl)
abbrev cX5_put : ByteArray := prog_13_method_89_code
def yX5_put : MethodName := ⟨RX5, "put", "(IIII)I"⟩
def dkwX5_put_2 : List UInt8 := [182, 1, 72, 4, 172]
abbrev dktX5_put_2 : List UInt8 := dkwX5_put_2 ++ []
def dkwX5_put_1 : List UInt8 := [182, 1, 69, 54, 5, 21, 5, 158, 0, 10, 42, 21, 5, 182, 0, 180, 172, 42, 27, 29, 21, 4]
abbrev dktX5_put_1 : List UInt8 := dkwX5_put_1 ++ dktX5_put_2
def dkwX5_put_0 : List UInt8 := [27, 184, 0, 177, 153, 0, 12, 28, 3, 5, 184, 0, 115, 154, 0, 6, 16, 254, 172, 42, 27, 28, 29]
abbrev dktX5_put_0 : List UInt8 := dkwX5_put_0 ++ dktX5_put_1
theorem dksX5_put_0 : cX5_put.data.toList.drop 0 = dktX5_put_0 := by decide +kernel
theorem dksX5_put_1 : cX5_put.data.toList.drop 23 = dktX5_put_1 := dk_seg dksX5_put_0 23 rfl rfl
theorem dksX5_put_2 : cX5_put.data.toList.drop 45 = dktX5_put_2 := dk_seg dksX5_put_1 22 rfl rfl
theorem dX5_put_0 : decode cX5_put 0 = .ok (.iload_n 1, 1) := dk_27 (dk_at dksX5_put_0 0 rfl rfl)
theorem dX5_put_1 : decode cX5_put 1 = .ok (.invokestatic 177, 3) := dk_184 0 177 (dk_at dksX5_put_0 1 rfl rfl)
theorem dX5_put_4 : decode cX5_put 4 = .ok (.ifCond .eq 12, 3) := dk_153 0 12 (dk_at dksX5_put_0 4 rfl rfl)
theorem dX5_put_7 : decode cX5_put 7 = .ok (.iload_n 2, 1) := dk_28 (dk_at dksX5_put_0 7 rfl rfl)
theorem dX5_put_8 : decode cX5_put 8 = .ok (.iconst 0, 1) := dk_3 (dk_at dksX5_put_0 8 rfl rfl)
theorem dX5_put_9 : decode cX5_put 9 = .ok (.iconst 2, 1) := dk_5 (dk_at dksX5_put_0 9 rfl rfl)
theorem dX5_put_10 : decode cX5_put 10 = .ok (.invokestatic 115, 3) := dk_184 0 115 (dk_at dksX5_put_0 10 rfl rfl)
theorem dX5_put_13 : decode cX5_put 13 = .ok (.ifCond .ne 6, 3) := dk_154 0 6 (dk_at dksX5_put_0 13 rfl rfl)
theorem dX5_put_16 : decode cX5_put 16 = .ok (.bipush (-2), 2) := dk_16 254 (dk_at dksX5_put_0 16 rfl rfl)
theorem dX5_put_18 : decode cX5_put 18 = .ok (.ireturn, 1) := dk_172 (dk_at dksX5_put_0 18 rfl rfl)
theorem dX5_put_19 : decode cX5_put 19 = .ok (.aload_n 0, 1) := dk_42 (dk_at dksX5_put_0 19 rfl rfl)
theorem dX5_put_20 : decode cX5_put 20 = .ok (.iload_n 1, 1) := dk_27 (dk_at dksX5_put_0 20 rfl rfl)
theorem dX5_put_21 : decode cX5_put 21 = .ok (.iload_n 2, 1) := dk_28 (dk_at dksX5_put_0 21 rfl rfl)
theorem dX5_put_22 : decode cX5_put 22 = .ok (.iload_n 3, 1) := dk_29 (dk_at dksX5_put_0 22 rfl rfl)
theorem dX5_put_23 : decode cX5_put 23 = .ok (.invokevirtual 325, 3) := dk_182 1 69 (dk_at dksX5_put_1 0 rfl rfl)
theorem dX5_put_26 : decode cX5_put 26 = .ok (.istore 5, 2) := dk_54 5 (dk_at dksX5_put_1 3 rfl rfl)
theorem dX5_put_28 : decode cX5_put 28 = .ok (.iload 5, 2) := dk_21 5 (dk_at dksX5_put_1 5 rfl rfl)
theorem dX5_put_30 : decode cX5_put 30 = .ok (.ifCond .le 10, 3) := dk_158 0 10 (dk_at dksX5_put_1 7 rfl rfl)
theorem dX5_put_33 : decode cX5_put 33 = .ok (.aload_n 0, 1) := dk_42 (dk_at dksX5_put_1 10 rfl rfl)
theorem dX5_put_34 : decode cX5_put 34 = .ok (.iload 5, 2) := dk_21 5 (dk_at dksX5_put_1 11 rfl rfl)
theorem dX5_put_36 : decode cX5_put 36 = .ok (.invokevirtual 180, 3) := dk_182 0 180 (dk_at dksX5_put_1 13 rfl rfl)
theorem dX5_put_39 : decode cX5_put 39 = .ok (.ireturn, 1) := dk_172 (dk_at dksX5_put_1 16 rfl rfl)
theorem dX5_put_40 : decode cX5_put 40 = .ok (.aload_n 0, 1) := dk_42 (dk_at dksX5_put_1 17 rfl rfl)
theorem dX5_put_41 : decode cX5_put 41 = .ok (.iload_n 1, 1) := dk_27 (dk_at dksX5_put_1 18 rfl rfl)
theorem dX5_put_42 : decode cX5_put 42 = .ok (.iload_n 3, 1) := dk_29 (dk_at dksX5_put_1 19 rfl rfl)
theorem dX5_put_43 : decode cX5_put 43 = .ok (.iload 4, 2) := dk_21 4 (dk_at dksX5_put_1 20 rfl rfl)
theorem dX5_put_45 : decode cX5_put 45 = .ok (.invokevirtual 328, 3) := dk_182 1 72 (dk_at dksX5_put_2 0 rfl rfl)
theorem dX5_put_48 : decode cX5_put 48 = .ok (.iconst 1, 1) := dk_4 (dk_at dksX5_put_2 3 rfl rfl)
theorem dX5_put_49 : decode cX5_put 49 = .ok (.ireturn, 1) := dk_172 (dk_at dksX5_put_2 4 rfl rfl)
abbrev cX5_lacks : ByteArray := prog_13_method_87_code
def yX5_lacks : MethodName := ⟨RX5, "lacks", "(III)I"⟩
def dkwX5_lacks_2 : List UInt8 := [172]
abbrev dktX5_lacks_2 : List UInt8 := dkwX5_lacks_2 ++ []
def dkwX5_lacks_1 : List UInt8 := [167, 0, 24, 29, 3, 42, 180, 0, 104, 27, 46, 4, 100, 184, 0, 115, 153, 0, 7, 3, 167, 0, 4, 5]
abbrev dktX5_lacks_1 : List UInt8 := dkwX5_lacks_1 ++ dktX5_lacks_2
def dkwX5_lacks_0 : List UInt8 := [42, 180, 0, 97, 27, 51, 154, 0, 7, 4, 167, 0, 38, 42, 180, 0, 101, 27, 46, 28, 159, 0, 7, 6]
abbrev dktX5_lacks_0 : List UInt8 := dkwX5_lacks_0 ++ dktX5_lacks_1
theorem dksX5_lacks_0 : cX5_lacks.data.toList.drop 0 = dktX5_lacks_0 := by decide +kernel
theorem dksX5_lacks_1 : cX5_lacks.data.toList.drop 24 = dktX5_lacks_1 := dk_seg dksX5_lacks_0 24 rfl rfl
theorem dksX5_lacks_2 : cX5_lacks.data.toList.drop 48 = dktX5_lacks_2 := dk_seg dksX5_lacks_1 24 rfl rfl
theorem dX5_lacks_0 : decode cX5_lacks 0 = .ok (.aload_n 0, 1) := dk_42 (dk_at dksX5_lacks_0 0 rfl rfl)
theorem dX5_lacks_1 : decode cX5_lacks 1 = .ok (.getfield 97, 3) := dk_180 0 97 (dk_at dksX5_lacks_0 1 rfl rfl)
theorem dX5_lacks_4 : decode cX5_lacks 4 = .ok (.iload_n 1, 1) := dk_27 (dk_at dksX5_lacks_0 4 rfl rfl)
theorem dX5_lacks_5 : decode cX5_lacks 5 = .ok (.baload, 1) := dk_51 (dk_at dksX5_lacks_0 5 rfl rfl)
theorem dX5_lacks_6 : decode cX5_lacks 6 = .ok (.ifCond .ne 7, 3) := dk_154 0 7 (dk_at dksX5_lacks_0 6 rfl rfl)
theorem dX5_lacks_9 : decode cX5_lacks 9 = .ok (.iconst 1, 1) := dk_4 (dk_at dksX5_lacks_0 9 rfl rfl)
theorem dX5_lacks_10 : decode cX5_lacks 10 = .ok (.goto 38, 3) := dk_167 0 38 (dk_at dksX5_lacks_0 10 rfl rfl)
theorem dX5_lacks_13 : decode cX5_lacks 13 = .ok (.aload_n 0, 1) := dk_42 (dk_at dksX5_lacks_0 13 rfl rfl)
theorem dX5_lacks_14 : decode cX5_lacks 14 = .ok (.getfield 101, 3) := dk_180 0 101 (dk_at dksX5_lacks_0 14 rfl rfl)
theorem dX5_lacks_17 : decode cX5_lacks 17 = .ok (.iload_n 1, 1) := dk_27 (dk_at dksX5_lacks_0 17 rfl rfl)
theorem dX5_lacks_18 : decode cX5_lacks 18 = .ok (.iaload, 1) := dk_46 (dk_at dksX5_lacks_0 18 rfl rfl)
theorem dX5_lacks_19 : decode cX5_lacks 19 = .ok (.iload_n 2, 1) := dk_28 (dk_at dksX5_lacks_0 19 rfl rfl)
theorem dX5_lacks_20 : decode cX5_lacks 20 = .ok (.if_icmp .eq 7, 3) := dk_159 0 7 (dk_at dksX5_lacks_0 20 rfl rfl)
theorem dX5_lacks_23 : decode cX5_lacks 23 = .ok (.iconst 3, 1) := dk_6 (dk_at dksX5_lacks_0 23 rfl rfl)
theorem dX5_lacks_24 : decode cX5_lacks 24 = .ok (.goto 24, 3) := dk_167 0 24 (dk_at dksX5_lacks_1 0 rfl rfl)
theorem dX5_lacks_27 : decode cX5_lacks 27 = .ok (.iload_n 3, 1) := dk_29 (dk_at dksX5_lacks_1 3 rfl rfl)
theorem dX5_lacks_28 : decode cX5_lacks 28 = .ok (.iconst 0, 1) := dk_3 (dk_at dksX5_lacks_1 4 rfl rfl)
theorem dX5_lacks_29 : decode cX5_lacks 29 = .ok (.aload_n 0, 1) := dk_42 (dk_at dksX5_lacks_1 5 rfl rfl)
theorem dX5_lacks_30 : decode cX5_lacks 30 = .ok (.getfield 104, 3) := dk_180 0 104 (dk_at dksX5_lacks_1 6 rfl rfl)
theorem dX5_lacks_33 : decode cX5_lacks 33 = .ok (.iload_n 1, 1) := dk_27 (dk_at dksX5_lacks_1 9 rfl rfl)
theorem dX5_lacks_34 : decode cX5_lacks 34 = .ok (.iaload, 1) := dk_46 (dk_at dksX5_lacks_1 10 rfl rfl)
theorem dX5_lacks_35 : decode cX5_lacks 35 = .ok (.iconst 1, 1) := dk_4 (dk_at dksX5_lacks_1 11 rfl rfl)
theorem dX5_lacks_36 : decode cX5_lacks 36 = .ok (.isub, 1) := dk_100 (dk_at dksX5_lacks_1 12 rfl rfl)
theorem dX5_lacks_37 : decode cX5_lacks 37 = .ok (.invokestatic 115, 3) := dk_184 0 115 (dk_at dksX5_lacks_1 13 rfl rfl)
theorem dX5_lacks_40 : decode cX5_lacks 40 = .ok (.ifCond .eq 7, 3) := dk_153 0 7 (dk_at dksX5_lacks_1 16 rfl rfl)
theorem dX5_lacks_43 : decode cX5_lacks 43 = .ok (.iconst 0, 1) := dk_3 (dk_at dksX5_lacks_1 19 rfl rfl)
theorem dX5_lacks_44 : decode cX5_lacks 44 = .ok (.goto 4, 3) := dk_167 0 4 (dk_at dksX5_lacks_1 20 rfl rfl)
theorem dX5_lacks_47 : decode cX5_lacks 47 = .ok (.iconst 2, 1) := dk_5 (dk_at dksX5_lacks_1 23 rfl rfl)
theorem dX5_lacks_48 : decode cX5_lacks 48 = .ok (.ireturn, 1) := dk_172 (dk_at dksX5_lacks_2 0 rfl rfl)
abbrev cX5_lays : ByteArray := prog_13_method_88_code
def yX5_lays : MethodName := ⟨RX5, "lays", "(III)V"⟩
def dkwX5_lays_1 : List UInt8 := [42, 180, 0, 101, 27, 46, 4, 160, 0, 8, 29, 147, 167, 0, 4, 29, 79, 177]
abbrev dktX5_lays_1 : List UInt8 := dkwX5_lays_1 ++ []
def dkwX5_lays_0 : List UInt8 := [42, 180, 0, 107, 16, 60, 27, 104, 28, 96, 42, 180, 0, 101, 27, 46, 154, 0, 8, 29, 145, 167, 0, 19]
abbrev dktX5_lays_0 : List UInt8 := dkwX5_lays_0 ++ dktX5_lays_1
theorem dksX5_lays_0 : cX5_lays.data.toList.drop 0 = dktX5_lays_0 := by decide +kernel
theorem dksX5_lays_1 : cX5_lays.data.toList.drop 24 = dktX5_lays_1 := dk_seg dksX5_lays_0 24 rfl rfl
theorem dX5_lays_0 : decode cX5_lays 0 = .ok (.aload_n 0, 1) := dk_42 (dk_at dksX5_lays_0 0 rfl rfl)
theorem dX5_lays_1 : decode cX5_lays 1 = .ok (.getfield 107, 3) := dk_180 0 107 (dk_at dksX5_lays_0 1 rfl rfl)
theorem dX5_lays_4 : decode cX5_lays 4 = .ok (.bipush 60, 2) := dk_16 60 (dk_at dksX5_lays_0 4 rfl rfl)
theorem dX5_lays_6 : decode cX5_lays 6 = .ok (.iload_n 1, 1) := dk_27 (dk_at dksX5_lays_0 6 rfl rfl)
theorem dX5_lays_7 : decode cX5_lays 7 = .ok (.imul, 1) := dk_104 (dk_at dksX5_lays_0 7 rfl rfl)
theorem dX5_lays_8 : decode cX5_lays 8 = .ok (.iload_n 2, 1) := dk_28 (dk_at dksX5_lays_0 8 rfl rfl)
theorem dX5_lays_9 : decode cX5_lays 9 = .ok (.iadd, 1) := dk_96 (dk_at dksX5_lays_0 9 rfl rfl)
theorem dX5_lays_10 : decode cX5_lays 10 = .ok (.aload_n 0, 1) := dk_42 (dk_at dksX5_lays_0 10 rfl rfl)
theorem dX5_lays_11 : decode cX5_lays 11 = .ok (.getfield 101, 3) := dk_180 0 101 (dk_at dksX5_lays_0 11 rfl rfl)
theorem dX5_lays_14 : decode cX5_lays 14 = .ok (.iload_n 1, 1) := dk_27 (dk_at dksX5_lays_0 14 rfl rfl)
theorem dX5_lays_15 : decode cX5_lays 15 = .ok (.iaload, 1) := dk_46 (dk_at dksX5_lays_0 15 rfl rfl)
theorem dX5_lays_16 : decode cX5_lays 16 = .ok (.ifCond .ne 8, 3) := dk_154 0 8 (dk_at dksX5_lays_0 16 rfl rfl)
theorem dX5_lays_19 : decode cX5_lays 19 = .ok (.iload_n 3, 1) := dk_29 (dk_at dksX5_lays_0 19 rfl rfl)
theorem dX5_lays_20 : decode cX5_lays 20 = .ok (.i2b, 1) := dk_145 (dk_at dksX5_lays_0 20 rfl rfl)
theorem dX5_lays_21 : decode cX5_lays 21 = .ok (.goto 19, 3) := dk_167 0 19 (dk_at dksX5_lays_0 21 rfl rfl)
theorem dX5_lays_24 : decode cX5_lays 24 = .ok (.aload_n 0, 1) := dk_42 (dk_at dksX5_lays_1 0 rfl rfl)
theorem dX5_lays_25 : decode cX5_lays 25 = .ok (.getfield 101, 3) := dk_180 0 101 (dk_at dksX5_lays_1 1 rfl rfl)
theorem dX5_lays_28 : decode cX5_lays 28 = .ok (.iload_n 1, 1) := dk_27 (dk_at dksX5_lays_1 4 rfl rfl)
theorem dX5_lays_29 : decode cX5_lays 29 = .ok (.iaload, 1) := dk_46 (dk_at dksX5_lays_1 5 rfl rfl)
theorem dX5_lays_30 : decode cX5_lays 30 = .ok (.iconst 1, 1) := dk_4 (dk_at dksX5_lays_1 6 rfl rfl)
theorem dX5_lays_31 : decode cX5_lays 31 = .ok (.if_icmp .ne 8, 3) := dk_160 0 8 (dk_at dksX5_lays_1 7 rfl rfl)
theorem dX5_lays_34 : decode cX5_lays 34 = .ok (.iload_n 3, 1) := dk_29 (dk_at dksX5_lays_1 10 rfl rfl)
theorem dX5_lays_35 : decode cX5_lays 35 = .ok (.i2s, 1) := dk_147 (dk_at dksX5_lays_1 11 rfl rfl)
theorem dX5_lays_36 : decode cX5_lays 36 = .ok (.goto 4, 3) := dk_167 0 4 (dk_at dksX5_lays_1 12 rfl rfl)
theorem dX5_lays_39 : decode cX5_lays 39 = .ok (.iload_n 3, 1) := dk_29 (dk_at dksX5_lays_1 15 rfl rfl)
theorem dX5_lays_40 : decode cX5_lays 40 = .ok (.iastore, 1) := dk_79 (dk_at dksX5_lays_1 16 rfl rfl)
theorem dX5_lays_41 : decode cX5_lays 41 = .ok (.return_, 1) := dk_177 (dk_at dksX5_lays_1 17 rfl rfl)
abbrev cX5_get : ByteArray := prog_13_method_90_code
def yX5_get : MethodName := ⟨RX5, "get", "(III)I"⟩
def dkwX5_get_2 : List UInt8 := [16, 60, 27, 104, 29, 96, 46, 172]
abbrev dktX5_get_2 : List UInt8 := dkwX5_get_2 ++ []
def dkwX5_get_1 : List UInt8 := [182, 1, 69, 54, 4, 21, 4, 158, 0, 13, 42, 21, 4, 181, 1, 66, 19, 1, 76, 172, 42, 180, 0, 107]
abbrev dktX5_get_1 : List UInt8 := dkwX5_get_1 ++ dktX5_get_2
def dkwX5_get_0 : List UInt8 := [27, 184, 0, 177, 153, 0, 12, 28, 3, 5, 184, 0, 115, 154, 0, 7, 19, 1, 76, 172, 42, 27, 28, 29]
abbrev dktX5_get_0 : List UInt8 := dkwX5_get_0 ++ dktX5_get_1
theorem dksX5_get_0 : cX5_get.data.toList.drop 0 = dktX5_get_0 := by decide +kernel
theorem dksX5_get_1 : cX5_get.data.toList.drop 24 = dktX5_get_1 := dk_seg dksX5_get_0 24 rfl rfl
theorem dksX5_get_2 : cX5_get.data.toList.drop 48 = dktX5_get_2 := dk_seg dksX5_get_1 24 rfl rfl
theorem dX5_get_0 : decode cX5_get 0 = .ok (.iload_n 1, 1) := dk_27 (dk_at dksX5_get_0 0 rfl rfl)
theorem dX5_get_1 : decode cX5_get 1 = .ok (.invokestatic 177, 3) := dk_184 0 177 (dk_at dksX5_get_0 1 rfl rfl)
theorem dX5_get_4 : decode cX5_get 4 = .ok (.ifCond .eq 12, 3) := dk_153 0 12 (dk_at dksX5_get_0 4 rfl rfl)
theorem dX5_get_7 : decode cX5_get 7 = .ok (.iload_n 2, 1) := dk_28 (dk_at dksX5_get_0 7 rfl rfl)
theorem dX5_get_8 : decode cX5_get 8 = .ok (.iconst 0, 1) := dk_3 (dk_at dksX5_get_0 8 rfl rfl)
theorem dX5_get_9 : decode cX5_get 9 = .ok (.iconst 2, 1) := dk_5 (dk_at dksX5_get_0 9 rfl rfl)
theorem dX5_get_10 : decode cX5_get 10 = .ok (.invokestatic 115, 3) := dk_184 0 115 (dk_at dksX5_get_0 10 rfl rfl)
theorem dX5_get_13 : decode cX5_get 13 = .ok (.ifCond .ne 7, 3) := dk_154 0 7 (dk_at dksX5_get_0 13 rfl rfl)
theorem dX5_get_16 : decode cX5_get 16 = .ok (.ldc_w 332, 3) := dk_19 1 76 (dk_at dksX5_get_0 16 rfl rfl)
theorem dX5_get_19 : decode cX5_get 19 = .ok (.ireturn, 1) := dk_172 (dk_at dksX5_get_0 19 rfl rfl)
theorem dX5_get_20 : decode cX5_get 20 = .ok (.aload_n 0, 1) := dk_42 (dk_at dksX5_get_0 20 rfl rfl)
theorem dX5_get_21 : decode cX5_get 21 = .ok (.iload_n 1, 1) := dk_27 (dk_at dksX5_get_0 21 rfl rfl)
theorem dX5_get_22 : decode cX5_get 22 = .ok (.iload_n 2, 1) := dk_28 (dk_at dksX5_get_0 22 rfl rfl)
theorem dX5_get_23 : decode cX5_get 23 = .ok (.iload_n 3, 1) := dk_29 (dk_at dksX5_get_0 23 rfl rfl)
theorem dX5_get_24 : decode cX5_get 24 = .ok (.invokevirtual 325, 3) := dk_182 1 69 (dk_at dksX5_get_1 0 rfl rfl)
theorem dX5_get_27 : decode cX5_get 27 = .ok (.istore 4, 2) := dk_54 4 (dk_at dksX5_get_1 3 rfl rfl)
theorem dX5_get_29 : decode cX5_get 29 = .ok (.iload 4, 2) := dk_21 4 (dk_at dksX5_get_1 5 rfl rfl)
theorem dX5_get_31 : decode cX5_get 31 = .ok (.ifCond .le 13, 3) := dk_158 0 13 (dk_at dksX5_get_1 7 rfl rfl)
theorem dX5_get_34 : decode cX5_get 34 = .ok (.aload_n 0, 1) := dk_42 (dk_at dksX5_get_1 10 rfl rfl)
theorem dX5_get_35 : decode cX5_get 35 = .ok (.iload 4, 2) := dk_21 4 (dk_at dksX5_get_1 11 rfl rfl)
theorem dX5_get_37 : decode cX5_get 37 = .ok (.putfield 322, 3) := dk_181 1 66 (dk_at dksX5_get_1 13 rfl rfl)
theorem dX5_get_40 : decode cX5_get 40 = .ok (.ldc_w 332, 3) := dk_19 1 76 (dk_at dksX5_get_1 16 rfl rfl)
theorem dX5_get_43 : decode cX5_get 43 = .ok (.ireturn, 1) := dk_172 (dk_at dksX5_get_1 19 rfl rfl)
theorem dX5_get_44 : decode cX5_get 44 = .ok (.aload_n 0, 1) := dk_42 (dk_at dksX5_get_1 20 rfl rfl)
theorem dX5_get_45 : decode cX5_get 45 = .ok (.getfield 107, 3) := dk_180 0 107 (dk_at dksX5_get_1 21 rfl rfl)
theorem dX5_get_48 : decode cX5_get 48 = .ok (.bipush 60, 2) := dk_16 60 (dk_at dksX5_get_2 0 rfl rfl)
theorem dX5_get_50 : decode cX5_get 50 = .ok (.iload_n 1, 1) := dk_27 (dk_at dksX5_get_2 2 rfl rfl)
theorem dX5_get_51 : decode cX5_get 51 = .ok (.imul, 1) := dk_104 (dk_at dksX5_get_2 3 rfl rfl)
theorem dX5_get_52 : decode cX5_get 52 = .ok (.iload_n 3, 1) := dk_29 (dk_at dksX5_get_2 4 rfl rfl)
theorem dX5_get_53 : decode cX5_get 53 = .ok (.iadd, 1) := dk_96 (dk_at dksX5_get_2 5 rfl rfl)
theorem dX5_get_54 : decode cX5_get 54 = .ok (.iaload, 1) := dk_46 (dk_at dksX5_get_2 6 rfl rfl)
theorem dX5_get_55 : decode cX5_get 55 = .ok (.ireturn, 1) := dk_172 (dk_at dksX5_get_2 7 rfl rfl)
abbrev cX5_copy : ByteArray := prog_13_method_91_code
def yX5_copy : MethodName := ⟨RX5, "copy", "(IIIII)I"⟩
def dkwX5_copy_8 : List UInt8 := [167, 255, 224, 4, 172]
abbrev dktX5_copy_8 : List UInt8 := dkwX5_copy_8 ++ []
def dkwX5_copy_7 : List UInt8 := [180, 0, 107, 16, 60, 29, 104, 21, 4, 96, 21, 6, 96, 42, 180, 0, 110, 21, 6, 46, 79, 132, 6, 1]
abbrev dktX5_copy_7 : List UInt8 := dkwX5_copy_7 ++ dktX5_copy_8
def dkwX5_copy_6 : List UInt8 := [96, 21, 6, 96, 46, 79, 132, 6, 1, 167, 255, 225, 3, 54, 6, 21, 6, 21, 5, 162, 0, 31, 42]
abbrev dktX5_copy_6 : List UInt8 := dkwX5_copy_6 ++ dktX5_copy_7
def dkwX5_copy_5 : List UInt8 := [54, 6, 21, 6, 21, 5, 162, 0, 30, 42, 180, 0, 110, 21, 6, 42, 180, 0, 107, 16, 60, 27, 104, 28]
abbrev dktX5_copy_5 : List UInt8 := dkwX5_copy_5 ++ dktX5_copy_6
def dkwX5_copy_4 : List UInt8 := [133, 21, 5, 133, 97, 42, 180, 0, 104, 29, 46, 133, 148, 158, 0, 9, 42, 5, 182, 0, 180, 172, 3]
abbrev dktX5_copy_4 : List UInt8 := dkwX5_copy_4 ++ dktX5_copy_5
def dkwX5_copy_3 : List UInt8 := [21, 5, 155, 0, 38, 28, 133, 21, 5, 133, 97, 42, 180, 0, 104, 27, 46, 133, 148, 157, 0, 21, 21, 4]
abbrev dktX5_copy_3 : List UInt8 := dkwX5_copy_3 ++ dktX5_copy_4
def dkwX5_copy_2 : List UInt8 := [42, 180, 0, 101, 29, 46, 159, 0, 9, 42, 7, 182, 0, 180, 172, 28, 155, 0, 48, 21, 4, 155, 0, 43]
abbrev dktX5_copy_2 : List UInt8 := dkwX5_copy_2 ++ dktX5_copy_3
def dkwX5_copy_1 : List UInt8 := [153, 0, 12, 42, 180, 0, 97, 29, 51, 154, 0, 9, 42, 4, 182, 0, 180, 172, 42, 180, 0, 101, 27, 46]
abbrev dktX5_copy_1 : List UInt8 := dkwX5_copy_1 ++ dktX5_copy_2
def dkwX5_copy_0 : List UInt8 := [27, 184, 0, 177, 153, 0, 10, 29, 184, 0, 177, 154, 0, 6, 16, 254, 172, 42, 180, 0, 97, 27, 51]
abbrev dktX5_copy_0 : List UInt8 := dkwX5_copy_0 ++ dktX5_copy_1
theorem dksX5_copy_0 : cX5_copy.data.toList.drop 0 = dktX5_copy_0 := by decide +kernel
theorem dksX5_copy_1 : cX5_copy.data.toList.drop 23 = dktX5_copy_1 := dk_seg dksX5_copy_0 23 rfl rfl
theorem dksX5_copy_2 : cX5_copy.data.toList.drop 47 = dktX5_copy_2 := dk_seg dksX5_copy_1 24 rfl rfl
theorem dksX5_copy_3 : cX5_copy.data.toList.drop 71 = dktX5_copy_3 := dk_seg dksX5_copy_2 24 rfl rfl
theorem dksX5_copy_4 : cX5_copy.data.toList.drop 95 = dktX5_copy_4 := dk_seg dksX5_copy_3 24 rfl rfl
theorem dksX5_copy_5 : cX5_copy.data.toList.drop 118 = dktX5_copy_5 := dk_seg dksX5_copy_4 23 rfl rfl
theorem dksX5_copy_6 : cX5_copy.data.toList.drop 142 = dktX5_copy_6 := dk_seg dksX5_copy_5 24 rfl rfl
theorem dksX5_copy_7 : cX5_copy.data.toList.drop 165 = dktX5_copy_7 := dk_seg dksX5_copy_6 23 rfl rfl
theorem dksX5_copy_8 : cX5_copy.data.toList.drop 189 = dktX5_copy_8 := dk_seg dksX5_copy_7 24 rfl rfl
theorem dX5_copy_0 : decode cX5_copy 0 = .ok (.iload_n 1, 1) := dk_27 (dk_at dksX5_copy_0 0 rfl rfl)
theorem dX5_copy_1 : decode cX5_copy 1 = .ok (.invokestatic 177, 3) := dk_184 0 177 (dk_at dksX5_copy_0 1 rfl rfl)
theorem dX5_copy_4 : decode cX5_copy 4 = .ok (.ifCond .eq 10, 3) := dk_153 0 10 (dk_at dksX5_copy_0 4 rfl rfl)
theorem dX5_copy_7 : decode cX5_copy 7 = .ok (.iload_n 3, 1) := dk_29 (dk_at dksX5_copy_0 7 rfl rfl)
theorem dX5_copy_8 : decode cX5_copy 8 = .ok (.invokestatic 177, 3) := dk_184 0 177 (dk_at dksX5_copy_0 8 rfl rfl)
theorem dX5_copy_11 : decode cX5_copy 11 = .ok (.ifCond .ne 6, 3) := dk_154 0 6 (dk_at dksX5_copy_0 11 rfl rfl)
theorem dX5_copy_14 : decode cX5_copy 14 = .ok (.bipush (-2), 2) := dk_16 254 (dk_at dksX5_copy_0 14 rfl rfl)
theorem dX5_copy_16 : decode cX5_copy 16 = .ok (.ireturn, 1) := dk_172 (dk_at dksX5_copy_0 16 rfl rfl)
theorem dX5_copy_17 : decode cX5_copy 17 = .ok (.aload_n 0, 1) := dk_42 (dk_at dksX5_copy_0 17 rfl rfl)
theorem dX5_copy_18 : decode cX5_copy 18 = .ok (.getfield 97, 3) := dk_180 0 97 (dk_at dksX5_copy_0 18 rfl rfl)
theorem dX5_copy_21 : decode cX5_copy 21 = .ok (.iload_n 1, 1) := dk_27 (dk_at dksX5_copy_0 21 rfl rfl)
theorem dX5_copy_22 : decode cX5_copy 22 = .ok (.baload, 1) := dk_51 (dk_at dksX5_copy_0 22 rfl rfl)
theorem dX5_copy_23 : decode cX5_copy 23 = .ok (.ifCond .eq 12, 3) := dk_153 0 12 (dk_at dksX5_copy_1 0 rfl rfl)
theorem dX5_copy_26 : decode cX5_copy 26 = .ok (.aload_n 0, 1) := dk_42 (dk_at dksX5_copy_1 3 rfl rfl)
theorem dX5_copy_27 : decode cX5_copy 27 = .ok (.getfield 97, 3) := dk_180 0 97 (dk_at dksX5_copy_1 4 rfl rfl)
theorem dX5_copy_30 : decode cX5_copy 30 = .ok (.iload_n 3, 1) := dk_29 (dk_at dksX5_copy_1 7 rfl rfl)
theorem dX5_copy_31 : decode cX5_copy 31 = .ok (.baload, 1) := dk_51 (dk_at dksX5_copy_1 8 rfl rfl)
theorem dX5_copy_32 : decode cX5_copy 32 = .ok (.ifCond .ne 9, 3) := dk_154 0 9 (dk_at dksX5_copy_1 9 rfl rfl)
theorem dX5_copy_35 : decode cX5_copy 35 = .ok (.aload_n 0, 1) := dk_42 (dk_at dksX5_copy_1 12 rfl rfl)
theorem dX5_copy_36 : decode cX5_copy 36 = .ok (.iconst 1, 1) := dk_4 (dk_at dksX5_copy_1 13 rfl rfl)
theorem dX5_copy_37 : decode cX5_copy 37 = .ok (.invokevirtual 180, 3) := dk_182 0 180 (dk_at dksX5_copy_1 14 rfl rfl)
theorem dX5_copy_40 : decode cX5_copy 40 = .ok (.ireturn, 1) := dk_172 (dk_at dksX5_copy_1 17 rfl rfl)
theorem dX5_copy_41 : decode cX5_copy 41 = .ok (.aload_n 0, 1) := dk_42 (dk_at dksX5_copy_1 18 rfl rfl)
theorem dX5_copy_42 : decode cX5_copy 42 = .ok (.getfield 101, 3) := dk_180 0 101 (dk_at dksX5_copy_1 19 rfl rfl)
theorem dX5_copy_45 : decode cX5_copy 45 = .ok (.iload_n 1, 1) := dk_27 (dk_at dksX5_copy_1 22 rfl rfl)
theorem dX5_copy_46 : decode cX5_copy 46 = .ok (.iaload, 1) := dk_46 (dk_at dksX5_copy_1 23 rfl rfl)
theorem dX5_copy_47 : decode cX5_copy 47 = .ok (.aload_n 0, 1) := dk_42 (dk_at dksX5_copy_2 0 rfl rfl)
theorem dX5_copy_48 : decode cX5_copy 48 = .ok (.getfield 101, 3) := dk_180 0 101 (dk_at dksX5_copy_2 1 rfl rfl)
theorem dX5_copy_51 : decode cX5_copy 51 = .ok (.iload_n 3, 1) := dk_29 (dk_at dksX5_copy_2 4 rfl rfl)
theorem dX5_copy_52 : decode cX5_copy 52 = .ok (.iaload, 1) := dk_46 (dk_at dksX5_copy_2 5 rfl rfl)
theorem dX5_copy_53 : decode cX5_copy 53 = .ok (.if_icmp .eq 9, 3) := dk_159 0 9 (dk_at dksX5_copy_2 6 rfl rfl)
theorem dX5_copy_56 : decode cX5_copy 56 = .ok (.aload_n 0, 1) := dk_42 (dk_at dksX5_copy_2 9 rfl rfl)
theorem dX5_copy_57 : decode cX5_copy 57 = .ok (.iconst 4, 1) := dk_7 (dk_at dksX5_copy_2 10 rfl rfl)
theorem dX5_copy_58 : decode cX5_copy 58 = .ok (.invokevirtual 180, 3) := dk_182 0 180 (dk_at dksX5_copy_2 11 rfl rfl)
theorem dX5_copy_61 : decode cX5_copy 61 = .ok (.ireturn, 1) := dk_172 (dk_at dksX5_copy_2 14 rfl rfl)
theorem dX5_copy_62 : decode cX5_copy 62 = .ok (.iload_n 2, 1) := dk_28 (dk_at dksX5_copy_2 15 rfl rfl)
theorem dX5_copy_63 : decode cX5_copy 63 = .ok (.ifCond .lt 48, 3) := dk_155 0 48 (dk_at dksX5_copy_2 16 rfl rfl)
theorem dX5_copy_66 : decode cX5_copy 66 = .ok (.iload 4, 2) := dk_21 4 (dk_at dksX5_copy_2 19 rfl rfl)
theorem dX5_copy_68 : decode cX5_copy 68 = .ok (.ifCond .lt 43, 3) := dk_155 0 43 (dk_at dksX5_copy_2 21 rfl rfl)
theorem dX5_copy_71 : decode cX5_copy 71 = .ok (.iload 5, 2) := dk_21 5 (dk_at dksX5_copy_3 0 rfl rfl)
theorem dX5_copy_73 : decode cX5_copy 73 = .ok (.ifCond .lt 38, 3) := dk_155 0 38 (dk_at dksX5_copy_3 2 rfl rfl)
theorem dX5_copy_76 : decode cX5_copy 76 = .ok (.iload_n 2, 1) := dk_28 (dk_at dksX5_copy_3 5 rfl rfl)
theorem dX5_copy_77 : decode cX5_copy 77 = .ok (.i2l, 1) := dk_133 (dk_at dksX5_copy_3 6 rfl rfl)
theorem dX5_copy_78 : decode cX5_copy 78 = .ok (.iload 5, 2) := dk_21 5 (dk_at dksX5_copy_3 7 rfl rfl)
theorem dX5_copy_80 : decode cX5_copy 80 = .ok (.i2l, 1) := dk_133 (dk_at dksX5_copy_3 9 rfl rfl)
theorem dX5_copy_81 : decode cX5_copy 81 = .ok (.ladd, 1) := dk_97 (dk_at dksX5_copy_3 10 rfl rfl)
theorem dX5_copy_82 : decode cX5_copy 82 = .ok (.aload_n 0, 1) := dk_42 (dk_at dksX5_copy_3 11 rfl rfl)
theorem dX5_copy_83 : decode cX5_copy 83 = .ok (.getfield 104, 3) := dk_180 0 104 (dk_at dksX5_copy_3 12 rfl rfl)
theorem dX5_copy_86 : decode cX5_copy 86 = .ok (.iload_n 1, 1) := dk_27 (dk_at dksX5_copy_3 15 rfl rfl)
theorem dX5_copy_87 : decode cX5_copy 87 = .ok (.iaload, 1) := dk_46 (dk_at dksX5_copy_3 16 rfl rfl)
theorem dX5_copy_88 : decode cX5_copy 88 = .ok (.i2l, 1) := dk_133 (dk_at dksX5_copy_3 17 rfl rfl)
theorem dX5_copy_89 : decode cX5_copy 89 = .ok (.lcmp, 1) := dk_148 (dk_at dksX5_copy_3 18 rfl rfl)
theorem dX5_copy_90 : decode cX5_copy 90 = .ok (.ifCond .gt 21, 3) := dk_157 0 21 (dk_at dksX5_copy_3 19 rfl rfl)
theorem dX5_copy_93 : decode cX5_copy 93 = .ok (.iload 4, 2) := dk_21 4 (dk_at dksX5_copy_3 22 rfl rfl)
theorem dX5_copy_95 : decode cX5_copy 95 = .ok (.i2l, 1) := dk_133 (dk_at dksX5_copy_4 0 rfl rfl)
theorem dX5_copy_96 : decode cX5_copy 96 = .ok (.iload 5, 2) := dk_21 5 (dk_at dksX5_copy_4 1 rfl rfl)
theorem dX5_copy_98 : decode cX5_copy 98 = .ok (.i2l, 1) := dk_133 (dk_at dksX5_copy_4 3 rfl rfl)
theorem dX5_copy_99 : decode cX5_copy 99 = .ok (.ladd, 1) := dk_97 (dk_at dksX5_copy_4 4 rfl rfl)
theorem dX5_copy_100 : decode cX5_copy 100 = .ok (.aload_n 0, 1) := dk_42 (dk_at dksX5_copy_4 5 rfl rfl)
theorem dX5_copy_101 : decode cX5_copy 101 = .ok (.getfield 104, 3) := dk_180 0 104 (dk_at dksX5_copy_4 6 rfl rfl)
theorem dX5_copy_104 : decode cX5_copy 104 = .ok (.iload_n 3, 1) := dk_29 (dk_at dksX5_copy_4 9 rfl rfl)
theorem dX5_copy_105 : decode cX5_copy 105 = .ok (.iaload, 1) := dk_46 (dk_at dksX5_copy_4 10 rfl rfl)
theorem dX5_copy_106 : decode cX5_copy 106 = .ok (.i2l, 1) := dk_133 (dk_at dksX5_copy_4 11 rfl rfl)
theorem dX5_copy_107 : decode cX5_copy 107 = .ok (.lcmp, 1) := dk_148 (dk_at dksX5_copy_4 12 rfl rfl)
theorem dX5_copy_108 : decode cX5_copy 108 = .ok (.ifCond .le 9, 3) := dk_158 0 9 (dk_at dksX5_copy_4 13 rfl rfl)
theorem dX5_copy_111 : decode cX5_copy 111 = .ok (.aload_n 0, 1) := dk_42 (dk_at dksX5_copy_4 16 rfl rfl)
theorem dX5_copy_112 : decode cX5_copy 112 = .ok (.iconst 2, 1) := dk_5 (dk_at dksX5_copy_4 17 rfl rfl)
theorem dX5_copy_113 : decode cX5_copy 113 = .ok (.invokevirtual 180, 3) := dk_182 0 180 (dk_at dksX5_copy_4 18 rfl rfl)
theorem dX5_copy_116 : decode cX5_copy 116 = .ok (.ireturn, 1) := dk_172 (dk_at dksX5_copy_4 21 rfl rfl)
theorem dX5_copy_117 : decode cX5_copy 117 = .ok (.iconst 0, 1) := dk_3 (dk_at dksX5_copy_4 22 rfl rfl)
theorem dX5_copy_118 : decode cX5_copy 118 = .ok (.istore 6, 2) := dk_54 6 (dk_at dksX5_copy_5 0 rfl rfl)
theorem dX5_copy_120 : decode cX5_copy 120 = .ok (.iload 6, 2) := dk_21 6 (dk_at dksX5_copy_5 2 rfl rfl)
theorem dX5_copy_122 : decode cX5_copy 122 = .ok (.iload 5, 2) := dk_21 5 (dk_at dksX5_copy_5 4 rfl rfl)
theorem dX5_copy_124 : decode cX5_copy 124 = .ok (.if_icmp .ge 30, 3) := dk_162 0 30 (dk_at dksX5_copy_5 6 rfl rfl)
theorem dX5_copy_127 : decode cX5_copy 127 = .ok (.aload_n 0, 1) := dk_42 (dk_at dksX5_copy_5 9 rfl rfl)
theorem dX5_copy_128 : decode cX5_copy 128 = .ok (.getfield 110, 3) := dk_180 0 110 (dk_at dksX5_copy_5 10 rfl rfl)
theorem dX5_copy_131 : decode cX5_copy 131 = .ok (.iload 6, 2) := dk_21 6 (dk_at dksX5_copy_5 13 rfl rfl)
theorem dX5_copy_133 : decode cX5_copy 133 = .ok (.aload_n 0, 1) := dk_42 (dk_at dksX5_copy_5 15 rfl rfl)
theorem dX5_copy_134 : decode cX5_copy 134 = .ok (.getfield 107, 3) := dk_180 0 107 (dk_at dksX5_copy_5 16 rfl rfl)
theorem dX5_copy_137 : decode cX5_copy 137 = .ok (.bipush 60, 2) := dk_16 60 (dk_at dksX5_copy_5 19 rfl rfl)
theorem dX5_copy_139 : decode cX5_copy 139 = .ok (.iload_n 1, 1) := dk_27 (dk_at dksX5_copy_5 21 rfl rfl)
theorem dX5_copy_140 : decode cX5_copy 140 = .ok (.imul, 1) := dk_104 (dk_at dksX5_copy_5 22 rfl rfl)
theorem dX5_copy_141 : decode cX5_copy 141 = .ok (.iload_n 2, 1) := dk_28 (dk_at dksX5_copy_5 23 rfl rfl)
theorem dX5_copy_142 : decode cX5_copy 142 = .ok (.iadd, 1) := dk_96 (dk_at dksX5_copy_6 0 rfl rfl)
theorem dX5_copy_143 : decode cX5_copy 143 = .ok (.iload 6, 2) := dk_21 6 (dk_at dksX5_copy_6 1 rfl rfl)
theorem dX5_copy_145 : decode cX5_copy 145 = .ok (.iadd, 1) := dk_96 (dk_at dksX5_copy_6 3 rfl rfl)
theorem dX5_copy_146 : decode cX5_copy 146 = .ok (.iaload, 1) := dk_46 (dk_at dksX5_copy_6 4 rfl rfl)
theorem dX5_copy_147 : decode cX5_copy 147 = .ok (.iastore, 1) := dk_79 (dk_at dksX5_copy_6 5 rfl rfl)
theorem dX5_copy_148 : decode cX5_copy 148 = .ok (.iinc 6 1, 3) := dk_132 6 1 (dk_at dksX5_copy_6 6 rfl rfl)
theorem dX5_copy_151 : decode cX5_copy 151 = .ok (.goto (-31), 3) := dk_167 255 225 (dk_at dksX5_copy_6 9 rfl rfl)
theorem dX5_copy_154 : decode cX5_copy 154 = .ok (.iconst 0, 1) := dk_3 (dk_at dksX5_copy_6 12 rfl rfl)
theorem dX5_copy_155 : decode cX5_copy 155 = .ok (.istore 6, 2) := dk_54 6 (dk_at dksX5_copy_6 13 rfl rfl)
theorem dX5_copy_157 : decode cX5_copy 157 = .ok (.iload 6, 2) := dk_21 6 (dk_at dksX5_copy_6 15 rfl rfl)
theorem dX5_copy_159 : decode cX5_copy 159 = .ok (.iload 5, 2) := dk_21 5 (dk_at dksX5_copy_6 17 rfl rfl)
theorem dX5_copy_161 : decode cX5_copy 161 = .ok (.if_icmp .ge 31, 3) := dk_162 0 31 (dk_at dksX5_copy_6 19 rfl rfl)
theorem dX5_copy_164 : decode cX5_copy 164 = .ok (.aload_n 0, 1) := dk_42 (dk_at dksX5_copy_6 22 rfl rfl)
theorem dX5_copy_165 : decode cX5_copy 165 = .ok (.getfield 107, 3) := dk_180 0 107 (dk_at dksX5_copy_7 0 rfl rfl)
theorem dX5_copy_168 : decode cX5_copy 168 = .ok (.bipush 60, 2) := dk_16 60 (dk_at dksX5_copy_7 3 rfl rfl)
theorem dX5_copy_170 : decode cX5_copy 170 = .ok (.iload_n 3, 1) := dk_29 (dk_at dksX5_copy_7 5 rfl rfl)
theorem dX5_copy_171 : decode cX5_copy 171 = .ok (.imul, 1) := dk_104 (dk_at dksX5_copy_7 6 rfl rfl)
theorem dX5_copy_172 : decode cX5_copy 172 = .ok (.iload 4, 2) := dk_21 4 (dk_at dksX5_copy_7 7 rfl rfl)
theorem dX5_copy_174 : decode cX5_copy 174 = .ok (.iadd, 1) := dk_96 (dk_at dksX5_copy_7 9 rfl rfl)
theorem dX5_copy_175 : decode cX5_copy 175 = .ok (.iload 6, 2) := dk_21 6 (dk_at dksX5_copy_7 10 rfl rfl)
theorem dX5_copy_177 : decode cX5_copy 177 = .ok (.iadd, 1) := dk_96 (dk_at dksX5_copy_7 12 rfl rfl)
theorem dX5_copy_178 : decode cX5_copy 178 = .ok (.aload_n 0, 1) := dk_42 (dk_at dksX5_copy_7 13 rfl rfl)
theorem dX5_copy_179 : decode cX5_copy 179 = .ok (.getfield 110, 3) := dk_180 0 110 (dk_at dksX5_copy_7 14 rfl rfl)
theorem dX5_copy_182 : decode cX5_copy 182 = .ok (.iload 6, 2) := dk_21 6 (dk_at dksX5_copy_7 17 rfl rfl)
theorem dX5_copy_184 : decode cX5_copy 184 = .ok (.iaload, 1) := dk_46 (dk_at dksX5_copy_7 19 rfl rfl)
theorem dX5_copy_185 : decode cX5_copy 185 = .ok (.iastore, 1) := dk_79 (dk_at dksX5_copy_7 20 rfl rfl)
theorem dX5_copy_186 : decode cX5_copy 186 = .ok (.iinc 6 1, 3) := dk_132 6 1 (dk_at dksX5_copy_7 21 rfl rfl)
theorem dX5_copy_189 : decode cX5_copy 189 = .ok (.goto (-32), 3) := dk_167 255 224 (dk_at dksX5_copy_8 0 rfl rfl)
theorem dX5_copy_192 : decode cX5_copy 192 = .ok (.iconst 1, 1) := dk_4 (dk_at dksX5_copy_8 3 rfl rfl)
theorem dX5_copy_193 : decode cX5_copy 193 = .ok (.ireturn, 1) := dk_172 (dk_at dksX5_copy_8 4 rfl rfl)
abbrev cX5_write : ByteArray := prog_13_method_92_code
def yX5_write : MethodName := ⟨RX5, "write", "(II)I"⟩
def dkwX5_write_3 : List UInt8 := [182, 1, 72, 132, 3, 1, 167, 255, 220, 29, 172]
abbrev dktX5_write_3 : List UInt8 := dkwX5_write_3 ++ []
def dkwX5_write_2 : List UInt8 := [162, 0, 32, 29, 16, 24, 162, 0, 26, 42, 28, 29, 42, 180, 0, 73, 16, 8, 29, 104, 27, 96, 46]
abbrev dktX5_write_2 : List UInt8 := dkwX5_write_2 ++ dktX5_write_3
def dkwX5_write_1 : List UInt8 := [154, 0, 9, 42, 4, 182, 0, 180, 172, 42, 182, 0, 234, 3, 62, 29, 42, 180, 0, 104, 28, 46]
abbrev dktX5_write_1 : List UInt8 := dkwX5_write_1 ++ dktX5_write_2
def dkwX5_write_0 : List UInt8 := [42, 27, 182, 0, 150, 153, 0, 10, 28, 184, 0, 177, 154, 0, 6, 16, 254, 172, 42, 180, 0, 97, 28, 51]
abbrev dktX5_write_0 : List UInt8 := dkwX5_write_0 ++ dktX5_write_1
theorem dksX5_write_0 : cX5_write.data.toList.drop 0 = dktX5_write_0 := by decide +kernel
theorem dksX5_write_1 : cX5_write.data.toList.drop 24 = dktX5_write_1 := dk_seg dksX5_write_0 24 rfl rfl
theorem dksX5_write_2 : cX5_write.data.toList.drop 46 = dktX5_write_2 := dk_seg dksX5_write_1 22 rfl rfl
theorem dksX5_write_3 : cX5_write.data.toList.drop 69 = dktX5_write_3 := dk_seg dksX5_write_2 23 rfl rfl
theorem dX5_write_0 : decode cX5_write 0 = .ok (.aload_n 0, 1) := dk_42 (dk_at dksX5_write_0 0 rfl rfl)
theorem dX5_write_1 : decode cX5_write 1 = .ok (.iload_n 1, 1) := dk_27 (dk_at dksX5_write_0 1 rfl rfl)
theorem dX5_write_2 : decode cX5_write 2 = .ok (.invokevirtual 150, 3) := dk_182 0 150 (dk_at dksX5_write_0 2 rfl rfl)
theorem dX5_write_5 : decode cX5_write 5 = .ok (.ifCond .eq 10, 3) := dk_153 0 10 (dk_at dksX5_write_0 5 rfl rfl)
theorem dX5_write_8 : decode cX5_write 8 = .ok (.iload_n 2, 1) := dk_28 (dk_at dksX5_write_0 8 rfl rfl)
theorem dX5_write_9 : decode cX5_write 9 = .ok (.invokestatic 177, 3) := dk_184 0 177 (dk_at dksX5_write_0 9 rfl rfl)
theorem dX5_write_12 : decode cX5_write 12 = .ok (.ifCond .ne 6, 3) := dk_154 0 6 (dk_at dksX5_write_0 12 rfl rfl)
theorem dX5_write_15 : decode cX5_write 15 = .ok (.bipush (-2), 2) := dk_16 254 (dk_at dksX5_write_0 15 rfl rfl)
theorem dX5_write_17 : decode cX5_write 17 = .ok (.ireturn, 1) := dk_172 (dk_at dksX5_write_0 17 rfl rfl)
theorem dX5_write_18 : decode cX5_write 18 = .ok (.aload_n 0, 1) := dk_42 (dk_at dksX5_write_0 18 rfl rfl)
theorem dX5_write_19 : decode cX5_write 19 = .ok (.getfield 97, 3) := dk_180 0 97 (dk_at dksX5_write_0 19 rfl rfl)
theorem dX5_write_22 : decode cX5_write 22 = .ok (.iload_n 2, 1) := dk_28 (dk_at dksX5_write_0 22 rfl rfl)
theorem dX5_write_23 : decode cX5_write 23 = .ok (.baload, 1) := dk_51 (dk_at dksX5_write_0 23 rfl rfl)
theorem dX5_write_24 : decode cX5_write 24 = .ok (.ifCond .ne 9, 3) := dk_154 0 9 (dk_at dksX5_write_1 0 rfl rfl)
theorem dX5_write_27 : decode cX5_write 27 = .ok (.aload_n 0, 1) := dk_42 (dk_at dksX5_write_1 3 rfl rfl)
theorem dX5_write_28 : decode cX5_write 28 = .ok (.iconst 1, 1) := dk_4 (dk_at dksX5_write_1 4 rfl rfl)
theorem dX5_write_29 : decode cX5_write 29 = .ok (.invokevirtual 180, 3) := dk_182 0 180 (dk_at dksX5_write_1 5 rfl rfl)
theorem dX5_write_32 : decode cX5_write 32 = .ok (.ireturn, 1) := dk_172 (dk_at dksX5_write_1 8 rfl rfl)
theorem dX5_write_33 : decode cX5_write 33 = .ok (.aload_n 0, 1) := dk_42 (dk_at dksX5_write_1 9 rfl rfl)
theorem dX5_write_34 : decode cX5_write 34 = .ok (.invokevirtual 234, 3) := dk_182 0 234 (dk_at dksX5_write_1 10 rfl rfl)
theorem dX5_write_37 : decode cX5_write 37 = .ok (.iconst 0, 1) := dk_3 (dk_at dksX5_write_1 13 rfl rfl)
theorem dX5_write_38 : decode cX5_write 38 = .ok (.istore_n 3, 1) := dk_62 (dk_at dksX5_write_1 14 rfl rfl)
theorem dX5_write_39 : decode cX5_write 39 = .ok (.iload_n 3, 1) := dk_29 (dk_at dksX5_write_1 15 rfl rfl)
theorem dX5_write_40 : decode cX5_write 40 = .ok (.aload_n 0, 1) := dk_42 (dk_at dksX5_write_1 16 rfl rfl)
theorem dX5_write_41 : decode cX5_write 41 = .ok (.getfield 104, 3) := dk_180 0 104 (dk_at dksX5_write_1 17 rfl rfl)
theorem dX5_write_44 : decode cX5_write 44 = .ok (.iload_n 2, 1) := dk_28 (dk_at dksX5_write_1 20 rfl rfl)
theorem dX5_write_45 : decode cX5_write 45 = .ok (.iaload, 1) := dk_46 (dk_at dksX5_write_1 21 rfl rfl)
theorem dX5_write_46 : decode cX5_write 46 = .ok (.if_icmp .ge 32, 3) := dk_162 0 32 (dk_at dksX5_write_2 0 rfl rfl)
theorem dX5_write_49 : decode cX5_write 49 = .ok (.iload_n 3, 1) := dk_29 (dk_at dksX5_write_2 3 rfl rfl)
theorem dX5_write_50 : decode cX5_write 50 = .ok (.bipush 24, 2) := dk_16 24 (dk_at dksX5_write_2 4 rfl rfl)
theorem dX5_write_52 : decode cX5_write 52 = .ok (.if_icmp .ge 26, 3) := dk_162 0 26 (dk_at dksX5_write_2 6 rfl rfl)
theorem dX5_write_55 : decode cX5_write 55 = .ok (.aload_n 0, 1) := dk_42 (dk_at dksX5_write_2 9 rfl rfl)
theorem dX5_write_56 : decode cX5_write 56 = .ok (.iload_n 2, 1) := dk_28 (dk_at dksX5_write_2 10 rfl rfl)
theorem dX5_write_57 : decode cX5_write 57 = .ok (.iload_n 3, 1) := dk_29 (dk_at dksX5_write_2 11 rfl rfl)
theorem dX5_write_58 : decode cX5_write 58 = .ok (.aload_n 0, 1) := dk_42 (dk_at dksX5_write_2 12 rfl rfl)
theorem dX5_write_59 : decode cX5_write 59 = .ok (.getfield 73, 3) := dk_180 0 73 (dk_at dksX5_write_2 13 rfl rfl)
theorem dX5_write_62 : decode cX5_write 62 = .ok (.bipush 8, 2) := dk_16 8 (dk_at dksX5_write_2 16 rfl rfl)
theorem dX5_write_64 : decode cX5_write 64 = .ok (.iload_n 3, 1) := dk_29 (dk_at dksX5_write_2 18 rfl rfl)
theorem dX5_write_65 : decode cX5_write 65 = .ok (.imul, 1) := dk_104 (dk_at dksX5_write_2 19 rfl rfl)
theorem dX5_write_66 : decode cX5_write 66 = .ok (.iload_n 1, 1) := dk_27 (dk_at dksX5_write_2 20 rfl rfl)
theorem dX5_write_67 : decode cX5_write 67 = .ok (.iadd, 1) := dk_96 (dk_at dksX5_write_2 21 rfl rfl)
theorem dX5_write_68 : decode cX5_write 68 = .ok (.iaload, 1) := dk_46 (dk_at dksX5_write_2 22 rfl rfl)
theorem dX5_write_69 : decode cX5_write 69 = .ok (.invokevirtual 328, 3) := dk_182 1 72 (dk_at dksX5_write_3 0 rfl rfl)
theorem dX5_write_72 : decode cX5_write 72 = .ok (.iinc 3 1, 3) := dk_132 3 1 (dk_at dksX5_write_3 3 rfl rfl)
theorem dX5_write_75 : decode cX5_write 75 = .ok (.goto (-36), 3) := dk_167 255 220 (dk_at dksX5_write_3 6 rfl rfl)
theorem dX5_write_78 : decode cX5_write 78 = .ok (.iload_n 3, 1) := dk_29 (dk_at dksX5_write_3 9 rfl rfl)
theorem dX5_write_79 : decode cX5_write 79 = .ok (.ireturn, 1) := dk_172 (dk_at dksX5_write_3 10 rfl rfl)
abbrev cX5_count : ByteArray := prog_13_method_94_code
def yX5_count : MethodName := ⟨RX5, "count", "(I)I"⟩
def dkwX5_count_3 : List UInt8 := [172, 42, 180, 0, 174, 172, 42, 180, 1, 31, 172, 42, 180, 1, 66, 172, 16, 254, 172]
abbrev dktX5_count_3 : List UInt8 := dkwX5_count_3 ++ []
def dkwX5_count_2 : List UInt8 := [42, 27, 182, 1, 77, 172, 42, 180, 0, 7, 27, 5, 100, 46, 172, 42, 180, 0, 165, 172, 42, 180, 0, 171]
abbrev dktX5_count_2 : List UInt8 := dkwX5_count_2 ++ dktX5_count_3
def dkwX5_count_1 : List UInt8 := [170, 0, 0, 0, 0, 0, 91, 0, 0, 0, 0, 0, 0, 0, 8, 0, 0, 0, 51, 0, 0, 0, 51, 0, 0, 0, 57, 0, 0, 0, 57, 0, 0, 0, 66, 0, 0, 0, 71, 0, 0, 0, 76, 0, 0, 0, 81, 0, 0, 0, 86]
abbrev dktX5_count_1 : List UInt8 := dkwX5_count_1 ++ dktX5_count_2
def dkwX5_count_0 : List UInt8 := [27]
abbrev dktX5_count_0 : List UInt8 := dkwX5_count_0 ++ dktX5_count_1
theorem dksX5_count_0 : cX5_count.data.toList.drop 0 = dktX5_count_0 := by decide +kernel
theorem dksX5_count_1 : cX5_count.data.toList.drop 1 = dktX5_count_1 := dk_seg dksX5_count_0 1 rfl rfl
theorem dksX5_count_2 : cX5_count.data.toList.drop 52 = dktX5_count_2 := dk_seg dksX5_count_1 51 rfl rfl
theorem dksX5_count_3 : cX5_count.data.toList.drop 76 = dktX5_count_3 := dk_seg dksX5_count_2 24 rfl rfl
theorem dX5_count_0 : decode cX5_count 0 = .ok (.iload_n 1, 1) := dk_27 (dk_at dksX5_count_0 0 rfl rfl)
theorem dX5_count_1 : decode cX5_count 1 = .ok (.tableswitch 91 0 8 #[51, 51, 57, 57, 66, 71, 76, 81, 86], 51) := by decide +kernel
theorem dX5_count_52 : decode cX5_count 52 = .ok (.aload_n 0, 1) := dk_42 (dk_at dksX5_count_2 0 rfl rfl)
theorem dX5_count_53 : decode cX5_count 53 = .ok (.iload_n 1, 1) := dk_27 (dk_at dksX5_count_2 1 rfl rfl)
theorem dX5_count_54 : decode cX5_count 54 = .ok (.invokevirtual 333, 3) := dk_182 1 77 (dk_at dksX5_count_2 2 rfl rfl)
theorem dX5_count_57 : decode cX5_count 57 = .ok (.ireturn, 1) := dk_172 (dk_at dksX5_count_2 5 rfl rfl)
theorem dX5_count_58 : decode cX5_count 58 = .ok (.aload_n 0, 1) := dk_42 (dk_at dksX5_count_2 6 rfl rfl)
theorem dX5_count_59 : decode cX5_count 59 = .ok (.getfield 7, 3) := dk_180 0 7 (dk_at dksX5_count_2 7 rfl rfl)
theorem dX5_count_62 : decode cX5_count 62 = .ok (.iload_n 1, 1) := dk_27 (dk_at dksX5_count_2 10 rfl rfl)
theorem dX5_count_63 : decode cX5_count 63 = .ok (.iconst 2, 1) := dk_5 (dk_at dksX5_count_2 11 rfl rfl)
theorem dX5_count_64 : decode cX5_count 64 = .ok (.isub, 1) := dk_100 (dk_at dksX5_count_2 12 rfl rfl)
theorem dX5_count_65 : decode cX5_count 65 = .ok (.iaload, 1) := dk_46 (dk_at dksX5_count_2 13 rfl rfl)
theorem dX5_count_66 : decode cX5_count 66 = .ok (.ireturn, 1) := dk_172 (dk_at dksX5_count_2 14 rfl rfl)
theorem dX5_count_67 : decode cX5_count 67 = .ok (.aload_n 0, 1) := dk_42 (dk_at dksX5_count_2 15 rfl rfl)
theorem dX5_count_68 : decode cX5_count 68 = .ok (.getfield 165, 3) := dk_180 0 165 (dk_at dksX5_count_2 16 rfl rfl)
theorem dX5_count_71 : decode cX5_count 71 = .ok (.ireturn, 1) := dk_172 (dk_at dksX5_count_2 19 rfl rfl)
theorem dX5_count_72 : decode cX5_count 72 = .ok (.aload_n 0, 1) := dk_42 (dk_at dksX5_count_2 20 rfl rfl)
theorem dX5_count_73 : decode cX5_count 73 = .ok (.getfield 171, 3) := dk_180 0 171 (dk_at dksX5_count_2 21 rfl rfl)
theorem dX5_count_76 : decode cX5_count 76 = .ok (.ireturn, 1) := dk_172 (dk_at dksX5_count_3 0 rfl rfl)
theorem dX5_count_77 : decode cX5_count 77 = .ok (.aload_n 0, 1) := dk_42 (dk_at dksX5_count_3 1 rfl rfl)
theorem dX5_count_78 : decode cX5_count 78 = .ok (.getfield 174, 3) := dk_180 0 174 (dk_at dksX5_count_3 2 rfl rfl)
theorem dX5_count_81 : decode cX5_count 81 = .ok (.ireturn, 1) := dk_172 (dk_at dksX5_count_3 5 rfl rfl)
theorem dX5_count_82 : decode cX5_count 82 = .ok (.aload_n 0, 1) := dk_42 (dk_at dksX5_count_3 6 rfl rfl)
theorem dX5_count_83 : decode cX5_count 83 = .ok (.getfield 287, 3) := dk_180 1 31 (dk_at dksX5_count_3 7 rfl rfl)
theorem dX5_count_86 : decode cX5_count 86 = .ok (.ireturn, 1) := dk_172 (dk_at dksX5_count_3 10 rfl rfl)
theorem dX5_count_87 : decode cX5_count 87 = .ok (.aload_n 0, 1) := dk_42 (dk_at dksX5_count_3 11 rfl rfl)
theorem dX5_count_88 : decode cX5_count 88 = .ok (.getfield 322, 3) := dk_180 1 66 (dk_at dksX5_count_3 12 rfl rfl)
theorem dX5_count_91 : decode cX5_count 91 = .ok (.ireturn, 1) := dk_172 (dk_at dksX5_count_3 15 rfl rfl)
theorem dX5_count_92 : decode cX5_count 92 = .ok (.bipush (-2), 2) := dk_16 254 (dk_at dksX5_count_3 16 rfl rfl)
theorem dX5_count_94 : decode cX5_count 94 = .ok (.ireturn, 1) := dk_172 (dk_at dksX5_count_3 18 rfl rfl)
abbrev cX5_sumOf : ByteArray := prog_13_method_93_code
def yX5_sumOf : MethodName := ⟨RX5, "sumOf", "(I)I"⟩
def dkwX5_sumOf_0 : List UInt8 := [42, 182, 0, 147, 27, 154, 0, 10, 42, 180, 0, 127, 167, 0, 7, 42, 180, 0, 131, 172]
abbrev dktX5_sumOf_0 : List UInt8 := dkwX5_sumOf_0 ++ []
theorem dksX5_sumOf_0 : cX5_sumOf.data.toList.drop 0 = dktX5_sumOf_0 := by decide +kernel
theorem dX5_sumOf_0 : decode cX5_sumOf 0 = .ok (.aload_n 0, 1) := dk_42 (dk_at dksX5_sumOf_0 0 rfl rfl)
theorem dX5_sumOf_1 : decode cX5_sumOf 1 = .ok (.invokevirtual 147, 3) := dk_182 0 147 (dk_at dksX5_sumOf_0 1 rfl rfl)
theorem dX5_sumOf_4 : decode cX5_sumOf 4 = .ok (.iload_n 1, 1) := dk_27 (dk_at dksX5_sumOf_0 4 rfl rfl)
theorem dX5_sumOf_5 : decode cX5_sumOf 5 = .ok (.ifCond .ne 10, 3) := dk_154 0 10 (dk_at dksX5_sumOf_0 5 rfl rfl)
theorem dX5_sumOf_8 : decode cX5_sumOf 8 = .ok (.aload_n 0, 1) := dk_42 (dk_at dksX5_sumOf_0 8 rfl rfl)
theorem dX5_sumOf_9 : decode cX5_sumOf 9 = .ok (.getfield 127, 3) := dk_180 0 127 (dk_at dksX5_sumOf_0 9 rfl rfl)
theorem dX5_sumOf_12 : decode cX5_sumOf 12 = .ok (.goto 7, 3) := dk_167 0 7 (dk_at dksX5_sumOf_0 12 rfl rfl)
theorem dX5_sumOf_15 : decode cX5_sumOf 15 = .ok (.aload_n 0, 1) := dk_42 (dk_at dksX5_sumOf_0 15 rfl rfl)
theorem dX5_sumOf_16 : decode cX5_sumOf 16 = .ok (.getfield 131, 3) := dk_180 0 131 (dk_at dksX5_sumOf_0 16 rfl rfl)
theorem dX5_sumOf_19 : decode cX5_sumOf 19 = .ok (.ireturn, 1) := dk_172 (dk_at dksX5_sumOf_0 19 rfl rfl)
abbrev cX5_digest : ByteArray := prog_13_method_98_code
def yX5_digest : MethodName := ⟨RX5, "digest", "()J"⟩
def dkwX5_digest_12 : List UInt8 := [97, 173]
abbrev dktX5_digest_12 : List UInt8 := dkwX5_digest_12 ++ []
def dkwX5_digest_11 : List UInt8 := [16, 6, 3, 182, 1, 63, 133, 97, 64, 20, 1, 80, 31, 105, 42, 16, 7, 16, 6, 4, 182, 1, 63, 133]
abbrev dktX5_digest_11 : List UInt8 := dkwX5_digest_11 ++ dktX5_digest_12
def dkwX5_digest_10 : List UInt8 := [133, 97, 64, 20, 1, 80, 31, 105, 42, 182, 1, 38, 133, 97, 64, 20, 1, 80, 31, 105, 42, 16, 7]
abbrev dktX5_digest_10 : List UInt8 := dkwX5_digest_10 ++ dktX5_digest_11
def dkwX5_digest_9 : List UInt8 := [182, 1, 25, 62, 20, 1, 80, 31, 105, 29, 133, 97, 64, 20, 1, 80, 31, 105, 42, 29, 3, 182, 1, 28]
abbrev dktX5_digest_9 : List UInt8 := dkwX5_digest_9 ++ dktX5_digest_10
def dkwX5_digest_8 : List UInt8 := [182, 1, 16, 133, 97, 64, 20, 1, 80, 31, 105, 42, 16, 8, 4, 182, 1, 16, 133, 97, 64, 42]
abbrev dktX5_digest_8 : List UInt8 := dkwX5_digest_8 ++ dktX5_digest_9
def dkwX5_digest_7 : List UInt8 := [133, 97, 64, 20, 1, 80, 31, 105, 42, 182, 1, 10, 133, 97, 64, 20, 1, 80, 31, 105, 42, 16, 8, 3]
abbrev dktX5_digest_7 : List UInt8 := dkwX5_digest_7 ++ dktX5_digest_8
def dkwX5_digest_6 : List UInt8 := [105, 42, 29, 182, 0, 253, 133, 97, 64, 132, 3, 1, 167, 255, 208, 20, 1, 80, 31, 105, 42, 182, 1, 4]
abbrev dktX5_digest_6 : List UInt8 := dkwX5_digest_6 ++ dktX5_digest_7
def dkwX5_digest_5 : List UInt8 := [29, 182, 0, 244, 133, 97, 64, 20, 1, 80, 31, 105, 42, 29, 182, 0, 250, 133, 97, 64, 20, 1, 80, 31]
abbrev dktX5_digest_5 : List UInt8 := dkwX5_digest_5 ++ dktX5_digest_6
def dkwX5_digest_4 : List UInt8 := [182, 1, 95, 64, 132, 3, 1, 167, 255, 238, 3, 62, 29, 16, 24, 162, 0, 48, 20, 1, 80, 31, 105, 42]
abbrev dktX5_digest_4 : List UInt8 := dkwX5_digest_4 ++ dktX5_digest_5
def dkwX5_digest_3 : List UInt8 := [182, 1, 91, 64, 132, 3, 1, 167, 255, 238, 3, 62, 29, 42, 180, 0, 127, 162, 0, 16, 42, 31, 29]
abbrev dktX5_digest_3 : List UInt8 := dkwX5_digest_3 ++ dktX5_digest_4
def dkwX5_digest_2 : List UInt8 := [105, 42, 4, 182, 0, 144, 133, 97, 64, 3, 62, 29, 42, 180, 0, 131, 162, 0, 16, 42, 31, 29]
abbrev dktX5_digest_2 : List UInt8 := dkwX5_digest_2 ++ dktX5_digest_3
def dkwX5_digest_1 : List UInt8 := [64, 132, 3, 1, 167, 255, 234, 20, 1, 80, 31, 105, 42, 3, 182, 0, 144, 133, 97, 64, 20, 1, 80, 31]
abbrev dktX5_digest_1 : List UInt8 := dkwX5_digest_1 ++ dktX5_digest_2
def dkwX5_digest_0 : List UInt8 := [20, 1, 86, 64, 3, 62, 29, 16, 8, 162, 0, 22, 20, 1, 80, 31, 105, 42, 29, 182, 1, 88, 133, 97]
abbrev dktX5_digest_0 : List UInt8 := dkwX5_digest_0 ++ dktX5_digest_1
theorem dksX5_digest_0 : cX5_digest.data.toList.drop 0 = dktX5_digest_0 := by decide +kernel
theorem dksX5_digest_1 : cX5_digest.data.toList.drop 24 = dktX5_digest_1 := dk_seg dksX5_digest_0 24 rfl rfl
theorem dksX5_digest_2 : cX5_digest.data.toList.drop 48 = dktX5_digest_2 := dk_seg dksX5_digest_1 24 rfl rfl
theorem dksX5_digest_3 : cX5_digest.data.toList.drop 70 = dktX5_digest_3 := dk_seg dksX5_digest_2 22 rfl rfl
theorem dksX5_digest_4 : cX5_digest.data.toList.drop 93 = dktX5_digest_4 := dk_seg dksX5_digest_3 23 rfl rfl
theorem dksX5_digest_5 : cX5_digest.data.toList.drop 117 = dktX5_digest_5 := dk_seg dksX5_digest_4 24 rfl rfl
theorem dksX5_digest_6 : cX5_digest.data.toList.drop 141 = dktX5_digest_6 := dk_seg dksX5_digest_5 24 rfl rfl
theorem dksX5_digest_7 : cX5_digest.data.toList.drop 165 = dktX5_digest_7 := dk_seg dksX5_digest_6 24 rfl rfl
theorem dksX5_digest_8 : cX5_digest.data.toList.drop 189 = dktX5_digest_8 := dk_seg dksX5_digest_7 24 rfl rfl
theorem dksX5_digest_9 : cX5_digest.data.toList.drop 211 = dktX5_digest_9 := dk_seg dksX5_digest_8 22 rfl rfl
theorem dksX5_digest_10 : cX5_digest.data.toList.drop 235 = dktX5_digest_10 := dk_seg dksX5_digest_9 24 rfl rfl
theorem dksX5_digest_11 : cX5_digest.data.toList.drop 258 = dktX5_digest_11 := dk_seg dksX5_digest_10 23 rfl rfl
theorem dksX5_digest_12 : cX5_digest.data.toList.drop 282 = dktX5_digest_12 := dk_seg dksX5_digest_11 24 rfl rfl
theorem dX5_digest_0 : decode cX5_digest 0 = .ok (.ldc2_w 342, 3) := dk_20 1 86 (dk_at dksX5_digest_0 0 rfl rfl)
theorem dX5_digest_3 : decode cX5_digest 3 = .ok (.lstore_n 1, 1) := dk_64 (dk_at dksX5_digest_0 3 rfl rfl)
theorem dX5_digest_4 : decode cX5_digest 4 = .ok (.iconst 0, 1) := dk_3 (dk_at dksX5_digest_0 4 rfl rfl)
theorem dX5_digest_5 : decode cX5_digest 5 = .ok (.istore_n 3, 1) := dk_62 (dk_at dksX5_digest_0 5 rfl rfl)
theorem dX5_digest_6 : decode cX5_digest 6 = .ok (.iload_n 3, 1) := dk_29 (dk_at dksX5_digest_0 6 rfl rfl)
theorem dX5_digest_7 : decode cX5_digest 7 = .ok (.bipush 8, 2) := dk_16 8 (dk_at dksX5_digest_0 7 rfl rfl)
theorem dX5_digest_9 : decode cX5_digest 9 = .ok (.if_icmp .ge 22, 3) := dk_162 0 22 (dk_at dksX5_digest_0 9 rfl rfl)
theorem dX5_digest_12 : decode cX5_digest 12 = .ok (.ldc2_w 336, 3) := dk_20 1 80 (dk_at dksX5_digest_0 12 rfl rfl)
theorem dX5_digest_15 : decode cX5_digest 15 = .ok (.lload_n 1, 1) := dk_31 (dk_at dksX5_digest_0 15 rfl rfl)
theorem dX5_digest_16 : decode cX5_digest 16 = .ok (.lmul, 1) := dk_105 (dk_at dksX5_digest_0 16 rfl rfl)
theorem dX5_digest_17 : decode cX5_digest 17 = .ok (.aload_n 0, 1) := dk_42 (dk_at dksX5_digest_0 17 rfl rfl)
theorem dX5_digest_18 : decode cX5_digest 18 = .ok (.iload_n 3, 1) := dk_29 (dk_at dksX5_digest_0 18 rfl rfl)
theorem dX5_digest_19 : decode cX5_digest 19 = .ok (.invokevirtual 344, 3) := dk_182 1 88 (dk_at dksX5_digest_0 19 rfl rfl)
theorem dX5_digest_22 : decode cX5_digest 22 = .ok (.i2l, 1) := dk_133 (dk_at dksX5_digest_0 22 rfl rfl)
theorem dX5_digest_23 : decode cX5_digest 23 = .ok (.ladd, 1) := dk_97 (dk_at dksX5_digest_0 23 rfl rfl)
theorem dX5_digest_24 : decode cX5_digest 24 = .ok (.lstore_n 1, 1) := dk_64 (dk_at dksX5_digest_1 0 rfl rfl)
theorem dX5_digest_25 : decode cX5_digest 25 = .ok (.iinc 3 1, 3) := dk_132 3 1 (dk_at dksX5_digest_1 1 rfl rfl)
theorem dX5_digest_28 : decode cX5_digest 28 = .ok (.goto (-22), 3) := dk_167 255 234 (dk_at dksX5_digest_1 4 rfl rfl)
theorem dX5_digest_31 : decode cX5_digest 31 = .ok (.ldc2_w 336, 3) := dk_20 1 80 (dk_at dksX5_digest_1 7 rfl rfl)
theorem dX5_digest_34 : decode cX5_digest 34 = .ok (.lload_n 1, 1) := dk_31 (dk_at dksX5_digest_1 10 rfl rfl)
theorem dX5_digest_35 : decode cX5_digest 35 = .ok (.lmul, 1) := dk_105 (dk_at dksX5_digest_1 11 rfl rfl)
theorem dX5_digest_36 : decode cX5_digest 36 = .ok (.aload_n 0, 1) := dk_42 (dk_at dksX5_digest_1 12 rfl rfl)
theorem dX5_digest_37 : decode cX5_digest 37 = .ok (.iconst 0, 1) := dk_3 (dk_at dksX5_digest_1 13 rfl rfl)
theorem dX5_digest_38 : decode cX5_digest 38 = .ok (.invokevirtual 144, 3) := dk_182 0 144 (dk_at dksX5_digest_1 14 rfl rfl)
theorem dX5_digest_41 : decode cX5_digest 41 = .ok (.i2l, 1) := dk_133 (dk_at dksX5_digest_1 17 rfl rfl)
theorem dX5_digest_42 : decode cX5_digest 42 = .ok (.ladd, 1) := dk_97 (dk_at dksX5_digest_1 18 rfl rfl)
theorem dX5_digest_43 : decode cX5_digest 43 = .ok (.lstore_n 1, 1) := dk_64 (dk_at dksX5_digest_1 19 rfl rfl)
theorem dX5_digest_44 : decode cX5_digest 44 = .ok (.ldc2_w 336, 3) := dk_20 1 80 (dk_at dksX5_digest_1 20 rfl rfl)
theorem dX5_digest_47 : decode cX5_digest 47 = .ok (.lload_n 1, 1) := dk_31 (dk_at dksX5_digest_1 23 rfl rfl)
theorem dX5_digest_48 : decode cX5_digest 48 = .ok (.lmul, 1) := dk_105 (dk_at dksX5_digest_2 0 rfl rfl)
theorem dX5_digest_49 : decode cX5_digest 49 = .ok (.aload_n 0, 1) := dk_42 (dk_at dksX5_digest_2 1 rfl rfl)
theorem dX5_digest_50 : decode cX5_digest 50 = .ok (.iconst 1, 1) := dk_4 (dk_at dksX5_digest_2 2 rfl rfl)
theorem dX5_digest_51 : decode cX5_digest 51 = .ok (.invokevirtual 144, 3) := dk_182 0 144 (dk_at dksX5_digest_2 3 rfl rfl)
theorem dX5_digest_54 : decode cX5_digest 54 = .ok (.i2l, 1) := dk_133 (dk_at dksX5_digest_2 6 rfl rfl)
theorem dX5_digest_55 : decode cX5_digest 55 = .ok (.ladd, 1) := dk_97 (dk_at dksX5_digest_2 7 rfl rfl)
theorem dX5_digest_56 : decode cX5_digest 56 = .ok (.lstore_n 1, 1) := dk_64 (dk_at dksX5_digest_2 8 rfl rfl)
theorem dX5_digest_57 : decode cX5_digest 57 = .ok (.iconst 0, 1) := dk_3 (dk_at dksX5_digest_2 9 rfl rfl)
theorem dX5_digest_58 : decode cX5_digest 58 = .ok (.istore_n 3, 1) := dk_62 (dk_at dksX5_digest_2 10 rfl rfl)
theorem dX5_digest_59 : decode cX5_digest 59 = .ok (.iload_n 3, 1) := dk_29 (dk_at dksX5_digest_2 11 rfl rfl)
theorem dX5_digest_60 : decode cX5_digest 60 = .ok (.aload_n 0, 1) := dk_42 (dk_at dksX5_digest_2 12 rfl rfl)
theorem dX5_digest_61 : decode cX5_digest 61 = .ok (.getfield 131, 3) := dk_180 0 131 (dk_at dksX5_digest_2 13 rfl rfl)
theorem dX5_digest_64 : decode cX5_digest 64 = .ok (.if_icmp .ge 16, 3) := dk_162 0 16 (dk_at dksX5_digest_2 16 rfl rfl)
theorem dX5_digest_67 : decode cX5_digest 67 = .ok (.aload_n 0, 1) := dk_42 (dk_at dksX5_digest_2 19 rfl rfl)
theorem dX5_digest_68 : decode cX5_digest 68 = .ok (.lload_n 1, 1) := dk_31 (dk_at dksX5_digest_2 20 rfl rfl)
theorem dX5_digest_69 : decode cX5_digest 69 = .ok (.iload_n 3, 1) := dk_29 (dk_at dksX5_digest_2 21 rfl rfl)
theorem dX5_digest_70 : decode cX5_digest 70 = .ok (.invokevirtual 347, 3) := dk_182 1 91 (dk_at dksX5_digest_3 0 rfl rfl)
theorem dX5_digest_73 : decode cX5_digest 73 = .ok (.lstore_n 1, 1) := dk_64 (dk_at dksX5_digest_3 3 rfl rfl)
theorem dX5_digest_74 : decode cX5_digest 74 = .ok (.iinc 3 1, 3) := dk_132 3 1 (dk_at dksX5_digest_3 4 rfl rfl)
theorem dX5_digest_77 : decode cX5_digest 77 = .ok (.goto (-18), 3) := dk_167 255 238 (dk_at dksX5_digest_3 7 rfl rfl)
theorem dX5_digest_80 : decode cX5_digest 80 = .ok (.iconst 0, 1) := dk_3 (dk_at dksX5_digest_3 10 rfl rfl)
theorem dX5_digest_81 : decode cX5_digest 81 = .ok (.istore_n 3, 1) := dk_62 (dk_at dksX5_digest_3 11 rfl rfl)
theorem dX5_digest_82 : decode cX5_digest 82 = .ok (.iload_n 3, 1) := dk_29 (dk_at dksX5_digest_3 12 rfl rfl)
theorem dX5_digest_83 : decode cX5_digest 83 = .ok (.aload_n 0, 1) := dk_42 (dk_at dksX5_digest_3 13 rfl rfl)
theorem dX5_digest_84 : decode cX5_digest 84 = .ok (.getfield 127, 3) := dk_180 0 127 (dk_at dksX5_digest_3 14 rfl rfl)
theorem dX5_digest_87 : decode cX5_digest 87 = .ok (.if_icmp .ge 16, 3) := dk_162 0 16 (dk_at dksX5_digest_3 17 rfl rfl)
theorem dX5_digest_90 : decode cX5_digest 90 = .ok (.aload_n 0, 1) := dk_42 (dk_at dksX5_digest_3 20 rfl rfl)
theorem dX5_digest_91 : decode cX5_digest 91 = .ok (.lload_n 1, 1) := dk_31 (dk_at dksX5_digest_3 21 rfl rfl)
theorem dX5_digest_92 : decode cX5_digest 92 = .ok (.iload_n 3, 1) := dk_29 (dk_at dksX5_digest_3 22 rfl rfl)
theorem dX5_digest_93 : decode cX5_digest 93 = .ok (.invokevirtual 351, 3) := dk_182 1 95 (dk_at dksX5_digest_4 0 rfl rfl)
theorem dX5_digest_96 : decode cX5_digest 96 = .ok (.lstore_n 1, 1) := dk_64 (dk_at dksX5_digest_4 3 rfl rfl)
theorem dX5_digest_97 : decode cX5_digest 97 = .ok (.iinc 3 1, 3) := dk_132 3 1 (dk_at dksX5_digest_4 4 rfl rfl)
theorem dX5_digest_100 : decode cX5_digest 100 = .ok (.goto (-18), 3) := dk_167 255 238 (dk_at dksX5_digest_4 7 rfl rfl)
theorem dX5_digest_103 : decode cX5_digest 103 = .ok (.iconst 0, 1) := dk_3 (dk_at dksX5_digest_4 10 rfl rfl)
theorem dX5_digest_104 : decode cX5_digest 104 = .ok (.istore_n 3, 1) := dk_62 (dk_at dksX5_digest_4 11 rfl rfl)
theorem dX5_digest_105 : decode cX5_digest 105 = .ok (.iload_n 3, 1) := dk_29 (dk_at dksX5_digest_4 12 rfl rfl)
theorem dX5_digest_106 : decode cX5_digest 106 = .ok (.bipush 24, 2) := dk_16 24 (dk_at dksX5_digest_4 13 rfl rfl)
theorem dX5_digest_108 : decode cX5_digest 108 = .ok (.if_icmp .ge 48, 3) := dk_162 0 48 (dk_at dksX5_digest_4 15 rfl rfl)
theorem dX5_digest_111 : decode cX5_digest 111 = .ok (.ldc2_w 336, 3) := dk_20 1 80 (dk_at dksX5_digest_4 18 rfl rfl)
theorem dX5_digest_114 : decode cX5_digest 114 = .ok (.lload_n 1, 1) := dk_31 (dk_at dksX5_digest_4 21 rfl rfl)
theorem dX5_digest_115 : decode cX5_digest 115 = .ok (.lmul, 1) := dk_105 (dk_at dksX5_digest_4 22 rfl rfl)
theorem dX5_digest_116 : decode cX5_digest 116 = .ok (.aload_n 0, 1) := dk_42 (dk_at dksX5_digest_4 23 rfl rfl)
theorem dX5_digest_117 : decode cX5_digest 117 = .ok (.iload_n 3, 1) := dk_29 (dk_at dksX5_digest_5 0 rfl rfl)
theorem dX5_digest_118 : decode cX5_digest 118 = .ok (.invokevirtual 244, 3) := dk_182 0 244 (dk_at dksX5_digest_5 1 rfl rfl)
theorem dX5_digest_121 : decode cX5_digest 121 = .ok (.i2l, 1) := dk_133 (dk_at dksX5_digest_5 4 rfl rfl)
theorem dX5_digest_122 : decode cX5_digest 122 = .ok (.ladd, 1) := dk_97 (dk_at dksX5_digest_5 5 rfl rfl)
theorem dX5_digest_123 : decode cX5_digest 123 = .ok (.lstore_n 1, 1) := dk_64 (dk_at dksX5_digest_5 6 rfl rfl)
theorem dX5_digest_124 : decode cX5_digest 124 = .ok (.ldc2_w 336, 3) := dk_20 1 80 (dk_at dksX5_digest_5 7 rfl rfl)
theorem dX5_digest_127 : decode cX5_digest 127 = .ok (.lload_n 1, 1) := dk_31 (dk_at dksX5_digest_5 10 rfl rfl)
theorem dX5_digest_128 : decode cX5_digest 128 = .ok (.lmul, 1) := dk_105 (dk_at dksX5_digest_5 11 rfl rfl)
theorem dX5_digest_129 : decode cX5_digest 129 = .ok (.aload_n 0, 1) := dk_42 (dk_at dksX5_digest_5 12 rfl rfl)
theorem dX5_digest_130 : decode cX5_digest 130 = .ok (.iload_n 3, 1) := dk_29 (dk_at dksX5_digest_5 13 rfl rfl)
theorem dX5_digest_131 : decode cX5_digest 131 = .ok (.invokevirtual 250, 3) := dk_182 0 250 (dk_at dksX5_digest_5 14 rfl rfl)
theorem dX5_digest_134 : decode cX5_digest 134 = .ok (.i2l, 1) := dk_133 (dk_at dksX5_digest_5 17 rfl rfl)
theorem dX5_digest_135 : decode cX5_digest 135 = .ok (.ladd, 1) := dk_97 (dk_at dksX5_digest_5 18 rfl rfl)
theorem dX5_digest_136 : decode cX5_digest 136 = .ok (.lstore_n 1, 1) := dk_64 (dk_at dksX5_digest_5 19 rfl rfl)
theorem dX5_digest_137 : decode cX5_digest 137 = .ok (.ldc2_w 336, 3) := dk_20 1 80 (dk_at dksX5_digest_5 20 rfl rfl)
theorem dX5_digest_140 : decode cX5_digest 140 = .ok (.lload_n 1, 1) := dk_31 (dk_at dksX5_digest_5 23 rfl rfl)
theorem dX5_digest_141 : decode cX5_digest 141 = .ok (.lmul, 1) := dk_105 (dk_at dksX5_digest_6 0 rfl rfl)
theorem dX5_digest_142 : decode cX5_digest 142 = .ok (.aload_n 0, 1) := dk_42 (dk_at dksX5_digest_6 1 rfl rfl)
theorem dX5_digest_143 : decode cX5_digest 143 = .ok (.iload_n 3, 1) := dk_29 (dk_at dksX5_digest_6 2 rfl rfl)
theorem dX5_digest_144 : decode cX5_digest 144 = .ok (.invokevirtual 253, 3) := dk_182 0 253 (dk_at dksX5_digest_6 3 rfl rfl)
theorem dX5_digest_147 : decode cX5_digest 147 = .ok (.i2l, 1) := dk_133 (dk_at dksX5_digest_6 6 rfl rfl)
theorem dX5_digest_148 : decode cX5_digest 148 = .ok (.ladd, 1) := dk_97 (dk_at dksX5_digest_6 7 rfl rfl)
theorem dX5_digest_149 : decode cX5_digest 149 = .ok (.lstore_n 1, 1) := dk_64 (dk_at dksX5_digest_6 8 rfl rfl)
theorem dX5_digest_150 : decode cX5_digest 150 = .ok (.iinc 3 1, 3) := dk_132 3 1 (dk_at dksX5_digest_6 9 rfl rfl)
theorem dX5_digest_153 : decode cX5_digest 153 = .ok (.goto (-48), 3) := dk_167 255 208 (dk_at dksX5_digest_6 12 rfl rfl)
theorem dX5_digest_156 : decode cX5_digest 156 = .ok (.ldc2_w 336, 3) := dk_20 1 80 (dk_at dksX5_digest_6 15 rfl rfl)
theorem dX5_digest_159 : decode cX5_digest 159 = .ok (.lload_n 1, 1) := dk_31 (dk_at dksX5_digest_6 18 rfl rfl)
theorem dX5_digest_160 : decode cX5_digest 160 = .ok (.lmul, 1) := dk_105 (dk_at dksX5_digest_6 19 rfl rfl)
theorem dX5_digest_161 : decode cX5_digest 161 = .ok (.aload_n 0, 1) := dk_42 (dk_at dksX5_digest_6 20 rfl rfl)
theorem dX5_digest_162 : decode cX5_digest 162 = .ok (.invokevirtual 260, 3) := dk_182 1 4 (dk_at dksX5_digest_6 21 rfl rfl)
theorem dX5_digest_165 : decode cX5_digest 165 = .ok (.i2l, 1) := dk_133 (dk_at dksX5_digest_7 0 rfl rfl)
theorem dX5_digest_166 : decode cX5_digest 166 = .ok (.ladd, 1) := dk_97 (dk_at dksX5_digest_7 1 rfl rfl)
theorem dX5_digest_167 : decode cX5_digest 167 = .ok (.lstore_n 1, 1) := dk_64 (dk_at dksX5_digest_7 2 rfl rfl)
theorem dX5_digest_168 : decode cX5_digest 168 = .ok (.ldc2_w 336, 3) := dk_20 1 80 (dk_at dksX5_digest_7 3 rfl rfl)
theorem dX5_digest_171 : decode cX5_digest 171 = .ok (.lload_n 1, 1) := dk_31 (dk_at dksX5_digest_7 6 rfl rfl)
theorem dX5_digest_172 : decode cX5_digest 172 = .ok (.lmul, 1) := dk_105 (dk_at dksX5_digest_7 7 rfl rfl)
theorem dX5_digest_173 : decode cX5_digest 173 = .ok (.aload_n 0, 1) := dk_42 (dk_at dksX5_digest_7 8 rfl rfl)
theorem dX5_digest_174 : decode cX5_digest 174 = .ok (.invokevirtual 266, 3) := dk_182 1 10 (dk_at dksX5_digest_7 9 rfl rfl)
theorem dX5_digest_177 : decode cX5_digest 177 = .ok (.i2l, 1) := dk_133 (dk_at dksX5_digest_7 12 rfl rfl)
theorem dX5_digest_178 : decode cX5_digest 178 = .ok (.ladd, 1) := dk_97 (dk_at dksX5_digest_7 13 rfl rfl)
theorem dX5_digest_179 : decode cX5_digest 179 = .ok (.lstore_n 1, 1) := dk_64 (dk_at dksX5_digest_7 14 rfl rfl)
theorem dX5_digest_180 : decode cX5_digest 180 = .ok (.ldc2_w 336, 3) := dk_20 1 80 (dk_at dksX5_digest_7 15 rfl rfl)
theorem dX5_digest_183 : decode cX5_digest 183 = .ok (.lload_n 1, 1) := dk_31 (dk_at dksX5_digest_7 18 rfl rfl)
theorem dX5_digest_184 : decode cX5_digest 184 = .ok (.lmul, 1) := dk_105 (dk_at dksX5_digest_7 19 rfl rfl)
theorem dX5_digest_185 : decode cX5_digest 185 = .ok (.aload_n 0, 1) := dk_42 (dk_at dksX5_digest_7 20 rfl rfl)
theorem dX5_digest_186 : decode cX5_digest 186 = .ok (.bipush 8, 2) := dk_16 8 (dk_at dksX5_digest_7 21 rfl rfl)
theorem dX5_digest_188 : decode cX5_digest 188 = .ok (.iconst 0, 1) := dk_3 (dk_at dksX5_digest_7 23 rfl rfl)
theorem dX5_digest_189 : decode cX5_digest 189 = .ok (.invokevirtual 272, 3) := dk_182 1 16 (dk_at dksX5_digest_8 0 rfl rfl)
theorem dX5_digest_192 : decode cX5_digest 192 = .ok (.i2l, 1) := dk_133 (dk_at dksX5_digest_8 3 rfl rfl)
theorem dX5_digest_193 : decode cX5_digest 193 = .ok (.ladd, 1) := dk_97 (dk_at dksX5_digest_8 4 rfl rfl)
theorem dX5_digest_194 : decode cX5_digest 194 = .ok (.lstore_n 1, 1) := dk_64 (dk_at dksX5_digest_8 5 rfl rfl)
theorem dX5_digest_195 : decode cX5_digest 195 = .ok (.ldc2_w 336, 3) := dk_20 1 80 (dk_at dksX5_digest_8 6 rfl rfl)
theorem dX5_digest_198 : decode cX5_digest 198 = .ok (.lload_n 1, 1) := dk_31 (dk_at dksX5_digest_8 9 rfl rfl)
theorem dX5_digest_199 : decode cX5_digest 199 = .ok (.lmul, 1) := dk_105 (dk_at dksX5_digest_8 10 rfl rfl)
theorem dX5_digest_200 : decode cX5_digest 200 = .ok (.aload_n 0, 1) := dk_42 (dk_at dksX5_digest_8 11 rfl rfl)
theorem dX5_digest_201 : decode cX5_digest 201 = .ok (.bipush 8, 2) := dk_16 8 (dk_at dksX5_digest_8 12 rfl rfl)
theorem dX5_digest_203 : decode cX5_digest 203 = .ok (.iconst 1, 1) := dk_4 (dk_at dksX5_digest_8 14 rfl rfl)
theorem dX5_digest_204 : decode cX5_digest 204 = .ok (.invokevirtual 272, 3) := dk_182 1 16 (dk_at dksX5_digest_8 15 rfl rfl)
theorem dX5_digest_207 : decode cX5_digest 207 = .ok (.i2l, 1) := dk_133 (dk_at dksX5_digest_8 18 rfl rfl)
theorem dX5_digest_208 : decode cX5_digest 208 = .ok (.ladd, 1) := dk_97 (dk_at dksX5_digest_8 19 rfl rfl)
theorem dX5_digest_209 : decode cX5_digest 209 = .ok (.lstore_n 1, 1) := dk_64 (dk_at dksX5_digest_8 20 rfl rfl)
theorem dX5_digest_210 : decode cX5_digest 210 = .ok (.aload_n 0, 1) := dk_42 (dk_at dksX5_digest_8 21 rfl rfl)
theorem dX5_digest_211 : decode cX5_digest 211 = .ok (.invokevirtual 281, 3) := dk_182 1 25 (dk_at dksX5_digest_9 0 rfl rfl)
theorem dX5_digest_214 : decode cX5_digest 214 = .ok (.istore_n 3, 1) := dk_62 (dk_at dksX5_digest_9 3 rfl rfl)
theorem dX5_digest_215 : decode cX5_digest 215 = .ok (.ldc2_w 336, 3) := dk_20 1 80 (dk_at dksX5_digest_9 4 rfl rfl)
theorem dX5_digest_218 : decode cX5_digest 218 = .ok (.lload_n 1, 1) := dk_31 (dk_at dksX5_digest_9 7 rfl rfl)
theorem dX5_digest_219 : decode cX5_digest 219 = .ok (.lmul, 1) := dk_105 (dk_at dksX5_digest_9 8 rfl rfl)
theorem dX5_digest_220 : decode cX5_digest 220 = .ok (.iload_n 3, 1) := dk_29 (dk_at dksX5_digest_9 9 rfl rfl)
theorem dX5_digest_221 : decode cX5_digest 221 = .ok (.i2l, 1) := dk_133 (dk_at dksX5_digest_9 10 rfl rfl)
theorem dX5_digest_222 : decode cX5_digest 222 = .ok (.ladd, 1) := dk_97 (dk_at dksX5_digest_9 11 rfl rfl)
theorem dX5_digest_223 : decode cX5_digest 223 = .ok (.lstore_n 1, 1) := dk_64 (dk_at dksX5_digest_9 12 rfl rfl)
theorem dX5_digest_224 : decode cX5_digest 224 = .ok (.ldc2_w 336, 3) := dk_20 1 80 (dk_at dksX5_digest_9 13 rfl rfl)
theorem dX5_digest_227 : decode cX5_digest 227 = .ok (.lload_n 1, 1) := dk_31 (dk_at dksX5_digest_9 16 rfl rfl)
theorem dX5_digest_228 : decode cX5_digest 228 = .ok (.lmul, 1) := dk_105 (dk_at dksX5_digest_9 17 rfl rfl)
theorem dX5_digest_229 : decode cX5_digest 229 = .ok (.aload_n 0, 1) := dk_42 (dk_at dksX5_digest_9 18 rfl rfl)
theorem dX5_digest_230 : decode cX5_digest 230 = .ok (.iload_n 3, 1) := dk_29 (dk_at dksX5_digest_9 19 rfl rfl)
theorem dX5_digest_231 : decode cX5_digest 231 = .ok (.iconst 0, 1) := dk_3 (dk_at dksX5_digest_9 20 rfl rfl)
theorem dX5_digest_232 : decode cX5_digest 232 = .ok (.invokevirtual 284, 3) := dk_182 1 28 (dk_at dksX5_digest_9 21 rfl rfl)
theorem dX5_digest_235 : decode cX5_digest 235 = .ok (.i2l, 1) := dk_133 (dk_at dksX5_digest_10 0 rfl rfl)
theorem dX5_digest_236 : decode cX5_digest 236 = .ok (.ladd, 1) := dk_97 (dk_at dksX5_digest_10 1 rfl rfl)
theorem dX5_digest_237 : decode cX5_digest 237 = .ok (.lstore_n 1, 1) := dk_64 (dk_at dksX5_digest_10 2 rfl rfl)
theorem dX5_digest_238 : decode cX5_digest 238 = .ok (.ldc2_w 336, 3) := dk_20 1 80 (dk_at dksX5_digest_10 3 rfl rfl)
theorem dX5_digest_241 : decode cX5_digest 241 = .ok (.lload_n 1, 1) := dk_31 (dk_at dksX5_digest_10 6 rfl rfl)
theorem dX5_digest_242 : decode cX5_digest 242 = .ok (.lmul, 1) := dk_105 (dk_at dksX5_digest_10 7 rfl rfl)
theorem dX5_digest_243 : decode cX5_digest 243 = .ok (.aload_n 0, 1) := dk_42 (dk_at dksX5_digest_10 8 rfl rfl)
theorem dX5_digest_244 : decode cX5_digest 244 = .ok (.invokevirtual 294, 3) := dk_182 1 38 (dk_at dksX5_digest_10 9 rfl rfl)
theorem dX5_digest_247 : decode cX5_digest 247 = .ok (.i2l, 1) := dk_133 (dk_at dksX5_digest_10 12 rfl rfl)
theorem dX5_digest_248 : decode cX5_digest 248 = .ok (.ladd, 1) := dk_97 (dk_at dksX5_digest_10 13 rfl rfl)
theorem dX5_digest_249 : decode cX5_digest 249 = .ok (.lstore_n 1, 1) := dk_64 (dk_at dksX5_digest_10 14 rfl rfl)
theorem dX5_digest_250 : decode cX5_digest 250 = .ok (.ldc2_w 336, 3) := dk_20 1 80 (dk_at dksX5_digest_10 15 rfl rfl)
theorem dX5_digest_253 : decode cX5_digest 253 = .ok (.lload_n 1, 1) := dk_31 (dk_at dksX5_digest_10 18 rfl rfl)
theorem dX5_digest_254 : decode cX5_digest 254 = .ok (.lmul, 1) := dk_105 (dk_at dksX5_digest_10 19 rfl rfl)
theorem dX5_digest_255 : decode cX5_digest 255 = .ok (.aload_n 0, 1) := dk_42 (dk_at dksX5_digest_10 20 rfl rfl)
theorem dX5_digest_256 : decode cX5_digest 256 = .ok (.bipush 7, 2) := dk_16 7 (dk_at dksX5_digest_10 21 rfl rfl)
theorem dX5_digest_258 : decode cX5_digest 258 = .ok (.bipush 6, 2) := dk_16 6 (dk_at dksX5_digest_11 0 rfl rfl)
theorem dX5_digest_260 : decode cX5_digest 260 = .ok (.iconst 0, 1) := dk_3 (dk_at dksX5_digest_11 2 rfl rfl)
theorem dX5_digest_261 : decode cX5_digest 261 = .ok (.invokevirtual 319, 3) := dk_182 1 63 (dk_at dksX5_digest_11 3 rfl rfl)
theorem dX5_digest_264 : decode cX5_digest 264 = .ok (.i2l, 1) := dk_133 (dk_at dksX5_digest_11 6 rfl rfl)
theorem dX5_digest_265 : decode cX5_digest 265 = .ok (.ladd, 1) := dk_97 (dk_at dksX5_digest_11 7 rfl rfl)
theorem dX5_digest_266 : decode cX5_digest 266 = .ok (.lstore_n 1, 1) := dk_64 (dk_at dksX5_digest_11 8 rfl rfl)
theorem dX5_digest_267 : decode cX5_digest 267 = .ok (.ldc2_w 336, 3) := dk_20 1 80 (dk_at dksX5_digest_11 9 rfl rfl)
theorem dX5_digest_270 : decode cX5_digest 270 = .ok (.lload_n 1, 1) := dk_31 (dk_at dksX5_digest_11 12 rfl rfl)
theorem dX5_digest_271 : decode cX5_digest 271 = .ok (.lmul, 1) := dk_105 (dk_at dksX5_digest_11 13 rfl rfl)
theorem dX5_digest_272 : decode cX5_digest 272 = .ok (.aload_n 0, 1) := dk_42 (dk_at dksX5_digest_11 14 rfl rfl)
theorem dX5_digest_273 : decode cX5_digest 273 = .ok (.bipush 7, 2) := dk_16 7 (dk_at dksX5_digest_11 15 rfl rfl)
theorem dX5_digest_275 : decode cX5_digest 275 = .ok (.bipush 6, 2) := dk_16 6 (dk_at dksX5_digest_11 17 rfl rfl)
theorem dX5_digest_277 : decode cX5_digest 277 = .ok (.iconst 1, 1) := dk_4 (dk_at dksX5_digest_11 19 rfl rfl)
theorem dX5_digest_278 : decode cX5_digest 278 = .ok (.invokevirtual 319, 3) := dk_182 1 63 (dk_at dksX5_digest_11 20 rfl rfl)
theorem dX5_digest_281 : decode cX5_digest 281 = .ok (.i2l, 1) := dk_133 (dk_at dksX5_digest_11 23 rfl rfl)
theorem dX5_digest_282 : decode cX5_digest 282 = .ok (.ladd, 1) := dk_97 (dk_at dksX5_digest_12 0 rfl rfl)
theorem dX5_digest_283 : decode cX5_digest 283 = .ok (.lreturn, 1) := dk_173 (dk_at dksX5_digest_12 1 rfl rfl)
abbrev cX5_promiseDigest : ByteArray := prog_13_method_95_code
def yX5_promiseDigest : MethodName := ⟨RX5, "promiseDigest", "(JI)J"⟩
def dkwX5_promiseDigest_4 : List UInt8 := [4, 182, 1, 19, 133, 97, 173]
abbrev dktX5_promiseDigest_4 : List UInt8 := dkwX5_promiseDigest_4 ++ []
def dkwX5_promiseDigest_3 : List UInt8 := [20, 1, 80, 22, 4, 105, 42, 29, 3, 182, 1, 19, 133, 97, 55, 4, 20, 1, 80, 22, 4, 105, 42, 29]
abbrev dktX5_promiseDigest_3 : List UInt8 := dkwX5_promiseDigest_3 ++ dktX5_promiseDigest_4
def dkwX5_promiseDigest_2 : List UInt8 := [182, 0, 241, 133, 97, 55, 4, 20, 1, 80, 22, 4, 105, 42, 16, 23, 29, 182, 0, 241, 133, 97, 55, 4]
abbrev dktX5_promiseDigest_2 : List UInt8 := dkwX5_promiseDigest_2 ++ dktX5_promiseDigest_3
def dkwX5_promiseDigest_1 : List UInt8 := [182, 0, 159, 133, 97, 55, 4, 132, 6, 1, 167, 255, 230, 20, 1, 80, 22, 4, 105, 42, 16, 8, 29]
abbrev dktX5_promiseDigest_1 : List UInt8 := dkwX5_promiseDigest_1 ++ dktX5_promiseDigest_2
def dkwX5_promiseDigest_0 : List UInt8 := [31, 55, 4, 3, 54, 6, 21, 6, 7, 162, 0, 26, 20, 1, 80, 22, 4, 105, 42, 29, 21, 6]
abbrev dktX5_promiseDigest_0 : List UInt8 := dkwX5_promiseDigest_0 ++ dktX5_promiseDigest_1
theorem dksX5_promiseDigest_0 : cX5_promiseDigest.data.toList.drop 0 = dktX5_promiseDigest_0 := by decide +kernel
theorem dksX5_promiseDigest_1 : cX5_promiseDigest.data.toList.drop 22 = dktX5_promiseDigest_1 := dk_seg dksX5_promiseDigest_0 22 rfl rfl
theorem dksX5_promiseDigest_2 : cX5_promiseDigest.data.toList.drop 45 = dktX5_promiseDigest_2 := dk_seg dksX5_promiseDigest_1 23 rfl rfl
theorem dksX5_promiseDigest_3 : cX5_promiseDigest.data.toList.drop 69 = dktX5_promiseDigest_3 := dk_seg dksX5_promiseDigest_2 24 rfl rfl
theorem dksX5_promiseDigest_4 : cX5_promiseDigest.data.toList.drop 93 = dktX5_promiseDigest_4 := dk_seg dksX5_promiseDigest_3 24 rfl rfl
theorem dX5_promiseDigest_0 : decode cX5_promiseDigest 0 = .ok (.lload_n 1, 1) := dk_31 (dk_at dksX5_promiseDigest_0 0 rfl rfl)
theorem dX5_promiseDigest_1 : decode cX5_promiseDigest 1 = .ok (.lstore 4, 2) := dk_55 4 (dk_at dksX5_promiseDigest_0 1 rfl rfl)
theorem dX5_promiseDigest_3 : decode cX5_promiseDigest 3 = .ok (.iconst 0, 1) := dk_3 (dk_at dksX5_promiseDigest_0 3 rfl rfl)
theorem dX5_promiseDigest_4 : decode cX5_promiseDigest 4 = .ok (.istore 6, 2) := dk_54 6 (dk_at dksX5_promiseDigest_0 4 rfl rfl)
theorem dX5_promiseDigest_6 : decode cX5_promiseDigest 6 = .ok (.iload 6, 2) := dk_21 6 (dk_at dksX5_promiseDigest_0 6 rfl rfl)
theorem dX5_promiseDigest_8 : decode cX5_promiseDigest 8 = .ok (.iconst 4, 1) := dk_7 (dk_at dksX5_promiseDigest_0 8 rfl rfl)
theorem dX5_promiseDigest_9 : decode cX5_promiseDigest 9 = .ok (.if_icmp .ge 26, 3) := dk_162 0 26 (dk_at dksX5_promiseDigest_0 9 rfl rfl)
theorem dX5_promiseDigest_12 : decode cX5_promiseDigest 12 = .ok (.ldc2_w 336, 3) := dk_20 1 80 (dk_at dksX5_promiseDigest_0 12 rfl rfl)
theorem dX5_promiseDigest_15 : decode cX5_promiseDigest 15 = .ok (.lload 4, 2) := dk_22 4 (dk_at dksX5_promiseDigest_0 15 rfl rfl)
theorem dX5_promiseDigest_17 : decode cX5_promiseDigest 17 = .ok (.lmul, 1) := dk_105 (dk_at dksX5_promiseDigest_0 17 rfl rfl)
theorem dX5_promiseDigest_18 : decode cX5_promiseDigest 18 = .ok (.aload_n 0, 1) := dk_42 (dk_at dksX5_promiseDigest_0 18 rfl rfl)
theorem dX5_promiseDigest_19 : decode cX5_promiseDigest 19 = .ok (.iload_n 3, 1) := dk_29 (dk_at dksX5_promiseDigest_0 19 rfl rfl)
theorem dX5_promiseDigest_20 : decode cX5_promiseDigest 20 = .ok (.iload 6, 2) := dk_21 6 (dk_at dksX5_promiseDigest_0 20 rfl rfl)
theorem dX5_promiseDigest_22 : decode cX5_promiseDigest 22 = .ok (.invokevirtual 159, 3) := dk_182 0 159 (dk_at dksX5_promiseDigest_1 0 rfl rfl)
theorem dX5_promiseDigest_25 : decode cX5_promiseDigest 25 = .ok (.i2l, 1) := dk_133 (dk_at dksX5_promiseDigest_1 3 rfl rfl)
theorem dX5_promiseDigest_26 : decode cX5_promiseDigest 26 = .ok (.ladd, 1) := dk_97 (dk_at dksX5_promiseDigest_1 4 rfl rfl)
theorem dX5_promiseDigest_27 : decode cX5_promiseDigest 27 = .ok (.lstore 4, 2) := dk_55 4 (dk_at dksX5_promiseDigest_1 5 rfl rfl)
theorem dX5_promiseDigest_29 : decode cX5_promiseDigest 29 = .ok (.iinc 6 1, 3) := dk_132 6 1 (dk_at dksX5_promiseDigest_1 7 rfl rfl)
theorem dX5_promiseDigest_32 : decode cX5_promiseDigest 32 = .ok (.goto (-26), 3) := dk_167 255 230 (dk_at dksX5_promiseDigest_1 10 rfl rfl)
theorem dX5_promiseDigest_35 : decode cX5_promiseDigest 35 = .ok (.ldc2_w 336, 3) := dk_20 1 80 (dk_at dksX5_promiseDigest_1 13 rfl rfl)
theorem dX5_promiseDigest_38 : decode cX5_promiseDigest 38 = .ok (.lload 4, 2) := dk_22 4 (dk_at dksX5_promiseDigest_1 16 rfl rfl)
theorem dX5_promiseDigest_40 : decode cX5_promiseDigest 40 = .ok (.lmul, 1) := dk_105 (dk_at dksX5_promiseDigest_1 18 rfl rfl)
theorem dX5_promiseDigest_41 : decode cX5_promiseDigest 41 = .ok (.aload_n 0, 1) := dk_42 (dk_at dksX5_promiseDigest_1 19 rfl rfl)
theorem dX5_promiseDigest_42 : decode cX5_promiseDigest 42 = .ok (.bipush 8, 2) := dk_16 8 (dk_at dksX5_promiseDigest_1 20 rfl rfl)
theorem dX5_promiseDigest_44 : decode cX5_promiseDigest 44 = .ok (.iload_n 3, 1) := dk_29 (dk_at dksX5_promiseDigest_1 22 rfl rfl)
theorem dX5_promiseDigest_45 : decode cX5_promiseDigest 45 = .ok (.invokevirtual 241, 3) := dk_182 0 241 (dk_at dksX5_promiseDigest_2 0 rfl rfl)
theorem dX5_promiseDigest_48 : decode cX5_promiseDigest 48 = .ok (.i2l, 1) := dk_133 (dk_at dksX5_promiseDigest_2 3 rfl rfl)
theorem dX5_promiseDigest_49 : decode cX5_promiseDigest 49 = .ok (.ladd, 1) := dk_97 (dk_at dksX5_promiseDigest_2 4 rfl rfl)
theorem dX5_promiseDigest_50 : decode cX5_promiseDigest 50 = .ok (.lstore 4, 2) := dk_55 4 (dk_at dksX5_promiseDigest_2 5 rfl rfl)
theorem dX5_promiseDigest_52 : decode cX5_promiseDigest 52 = .ok (.ldc2_w 336, 3) := dk_20 1 80 (dk_at dksX5_promiseDigest_2 7 rfl rfl)
theorem dX5_promiseDigest_55 : decode cX5_promiseDigest 55 = .ok (.lload 4, 2) := dk_22 4 (dk_at dksX5_promiseDigest_2 10 rfl rfl)
theorem dX5_promiseDigest_57 : decode cX5_promiseDigest 57 = .ok (.lmul, 1) := dk_105 (dk_at dksX5_promiseDigest_2 12 rfl rfl)
theorem dX5_promiseDigest_58 : decode cX5_promiseDigest 58 = .ok (.aload_n 0, 1) := dk_42 (dk_at dksX5_promiseDigest_2 13 rfl rfl)
theorem dX5_promiseDigest_59 : decode cX5_promiseDigest 59 = .ok (.bipush 23, 2) := dk_16 23 (dk_at dksX5_promiseDigest_2 14 rfl rfl)
theorem dX5_promiseDigest_61 : decode cX5_promiseDigest 61 = .ok (.iload_n 3, 1) := dk_29 (dk_at dksX5_promiseDigest_2 16 rfl rfl)
theorem dX5_promiseDigest_62 : decode cX5_promiseDigest 62 = .ok (.invokevirtual 241, 3) := dk_182 0 241 (dk_at dksX5_promiseDigest_2 17 rfl rfl)
theorem dX5_promiseDigest_65 : decode cX5_promiseDigest 65 = .ok (.i2l, 1) := dk_133 (dk_at dksX5_promiseDigest_2 20 rfl rfl)
theorem dX5_promiseDigest_66 : decode cX5_promiseDigest 66 = .ok (.ladd, 1) := dk_97 (dk_at dksX5_promiseDigest_2 21 rfl rfl)
theorem dX5_promiseDigest_67 : decode cX5_promiseDigest 67 = .ok (.lstore 4, 2) := dk_55 4 (dk_at dksX5_promiseDigest_2 22 rfl rfl)
theorem dX5_promiseDigest_69 : decode cX5_promiseDigest 69 = .ok (.ldc2_w 336, 3) := dk_20 1 80 (dk_at dksX5_promiseDigest_3 0 rfl rfl)
theorem dX5_promiseDigest_72 : decode cX5_promiseDigest 72 = .ok (.lload 4, 2) := dk_22 4 (dk_at dksX5_promiseDigest_3 3 rfl rfl)
theorem dX5_promiseDigest_74 : decode cX5_promiseDigest 74 = .ok (.lmul, 1) := dk_105 (dk_at dksX5_promiseDigest_3 5 rfl rfl)
theorem dX5_promiseDigest_75 : decode cX5_promiseDigest 75 = .ok (.aload_n 0, 1) := dk_42 (dk_at dksX5_promiseDigest_3 6 rfl rfl)
theorem dX5_promiseDigest_76 : decode cX5_promiseDigest 76 = .ok (.iload_n 3, 1) := dk_29 (dk_at dksX5_promiseDigest_3 7 rfl rfl)
theorem dX5_promiseDigest_77 : decode cX5_promiseDigest 77 = .ok (.iconst 0, 1) := dk_3 (dk_at dksX5_promiseDigest_3 8 rfl rfl)
theorem dX5_promiseDigest_78 : decode cX5_promiseDigest 78 = .ok (.invokevirtual 275, 3) := dk_182 1 19 (dk_at dksX5_promiseDigest_3 9 rfl rfl)
theorem dX5_promiseDigest_81 : decode cX5_promiseDigest 81 = .ok (.i2l, 1) := dk_133 (dk_at dksX5_promiseDigest_3 12 rfl rfl)
theorem dX5_promiseDigest_82 : decode cX5_promiseDigest 82 = .ok (.ladd, 1) := dk_97 (dk_at dksX5_promiseDigest_3 13 rfl rfl)
theorem dX5_promiseDigest_83 : decode cX5_promiseDigest 83 = .ok (.lstore 4, 2) := dk_55 4 (dk_at dksX5_promiseDigest_3 14 rfl rfl)
theorem dX5_promiseDigest_85 : decode cX5_promiseDigest 85 = .ok (.ldc2_w 336, 3) := dk_20 1 80 (dk_at dksX5_promiseDigest_3 16 rfl rfl)
theorem dX5_promiseDigest_88 : decode cX5_promiseDigest 88 = .ok (.lload 4, 2) := dk_22 4 (dk_at dksX5_promiseDigest_3 19 rfl rfl)
theorem dX5_promiseDigest_90 : decode cX5_promiseDigest 90 = .ok (.lmul, 1) := dk_105 (dk_at dksX5_promiseDigest_3 21 rfl rfl)
theorem dX5_promiseDigest_91 : decode cX5_promiseDigest 91 = .ok (.aload_n 0, 1) := dk_42 (dk_at dksX5_promiseDigest_3 22 rfl rfl)
theorem dX5_promiseDigest_92 : decode cX5_promiseDigest 92 = .ok (.iload_n 3, 1) := dk_29 (dk_at dksX5_promiseDigest_3 23 rfl rfl)
theorem dX5_promiseDigest_93 : decode cX5_promiseDigest 93 = .ok (.iconst 1, 1) := dk_4 (dk_at dksX5_promiseDigest_4 0 rfl rfl)
theorem dX5_promiseDigest_94 : decode cX5_promiseDigest 94 = .ok (.invokevirtual 275, 3) := dk_182 1 19 (dk_at dksX5_promiseDigest_4 1 rfl rfl)
theorem dX5_promiseDigest_97 : decode cX5_promiseDigest 97 = .ok (.i2l, 1) := dk_133 (dk_at dksX5_promiseDigest_4 4 rfl rfl)
theorem dX5_promiseDigest_98 : decode cX5_promiseDigest 98 = .ok (.ladd, 1) := dk_97 (dk_at dksX5_promiseDigest_4 5 rfl rfl)
theorem dX5_promiseDigest_99 : decode cX5_promiseDigest 99 = .ok (.lreturn, 1) := dk_173 (dk_at dksX5_promiseDigest_4 6 rfl rfl)
abbrev cX5_personDigest : ByteArray := prog_13_method_97_code
def yX5_personDigest : MethodName := ⟨RX5, "personDigest", "(JI)J"⟩
def dkwX5_personDigest_7 : List UInt8 := [42, 8, 29, 16, 14, 4, 182, 1, 54, 97, 173]
abbrev dktX5_personDigest_7 : List UInt8 := dkwX5_personDigest_7 ++ []
def dkwX5_personDigest_6 : List UInt8 := [20, 1, 80, 22, 4, 105, 42, 8, 29, 16, 14, 3, 182, 1, 54, 97, 55, 4, 20, 1, 80, 22, 4, 105]
abbrev dktX5_personDigest_6 : List UInt8 := dkwX5_personDigest_6 ++ dktX5_personDigest_7
def dkwX5_personDigest_5 : List UInt8 := [182, 1, 44, 133, 97, 55, 4, 20, 1, 80, 22, 4, 105, 42, 29, 182, 1, 47, 133, 97, 55, 4]
abbrev dktX5_personDigest_5 : List UInt8 := dkwX5_personDigest_5 ++ dktX5_personDigest_6
def dkwX5_personDigest_4 : List UInt8 := [20, 1, 80, 22, 4, 105, 42, 29, 182, 1, 41, 133, 97, 55, 4, 20, 1, 80, 22, 4, 105, 42, 29]
abbrev dktX5_personDigest_4 : List UInt8 := dkwX5_personDigest_4 ++ dktX5_personDigest_5
def dkwX5_personDigest_3 : List UInt8 := [182, 1, 82, 55, 4, 20, 1, 80, 22, 4, 105, 42, 29, 16, 14, 182, 1, 13, 133, 97, 55, 4]
abbrev dktX5_personDigest_3 : List UInt8 := dkwX5_personDigest_3 ++ dktX5_personDigest_4
def dkwX5_personDigest_2 : List UInt8 := [182, 1, 82, 55, 4, 42, 22, 4, 16, 14, 29, 182, 1, 82, 55, 4, 42, 22, 4, 16, 23, 29]
abbrev dktX5_personDigest_2 : List UInt8 := dkwX5_personDigest_2 ++ dktX5_personDigest_3
def dkwX5_personDigest_1 : List UInt8 := [182, 0, 153, 133, 97, 55, 4, 42, 22, 4, 3, 29, 182, 1, 82, 55, 4, 42, 22, 4, 16, 6, 29]
abbrev dktX5_personDigest_1 : List UInt8 := dkwX5_personDigest_1 ++ dktX5_personDigest_2
def dkwX5_personDigest_0 : List UInt8 := [20, 1, 80, 31, 105, 42, 29, 3, 182, 0, 153, 133, 97, 55, 4, 20, 1, 80, 22, 4, 105, 42, 29, 4]
abbrev dktX5_personDigest_0 : List UInt8 := dkwX5_personDigest_0 ++ dktX5_personDigest_1
theorem dksX5_personDigest_0 : cX5_personDigest.data.toList.drop 0 = dktX5_personDigest_0 := by decide +kernel
theorem dksX5_personDigest_1 : cX5_personDigest.data.toList.drop 24 = dktX5_personDigest_1 := dk_seg dksX5_personDigest_0 24 rfl rfl
theorem dksX5_personDigest_2 : cX5_personDigest.data.toList.drop 47 = dktX5_personDigest_2 := dk_seg dksX5_personDigest_1 23 rfl rfl
theorem dksX5_personDigest_3 : cX5_personDigest.data.toList.drop 69 = dktX5_personDigest_3 := dk_seg dksX5_personDigest_2 22 rfl rfl
theorem dksX5_personDigest_4 : cX5_personDigest.data.toList.drop 91 = dktX5_personDigest_4 := dk_seg dksX5_personDigest_3 22 rfl rfl
theorem dksX5_personDigest_5 : cX5_personDigest.data.toList.drop 114 = dktX5_personDigest_5 := dk_seg dksX5_personDigest_4 23 rfl rfl
theorem dksX5_personDigest_6 : cX5_personDigest.data.toList.drop 136 = dktX5_personDigest_6 := dk_seg dksX5_personDigest_5 22 rfl rfl
theorem dksX5_personDigest_7 : cX5_personDigest.data.toList.drop 160 = dktX5_personDigest_7 := dk_seg dksX5_personDigest_6 24 rfl rfl
theorem dX5_personDigest_0 : decode cX5_personDigest 0 = .ok (.ldc2_w 336, 3) := dk_20 1 80 (dk_at dksX5_personDigest_0 0 rfl rfl)
theorem dX5_personDigest_3 : decode cX5_personDigest 3 = .ok (.lload_n 1, 1) := dk_31 (dk_at dksX5_personDigest_0 3 rfl rfl)
theorem dX5_personDigest_4 : decode cX5_personDigest 4 = .ok (.lmul, 1) := dk_105 (dk_at dksX5_personDigest_0 4 rfl rfl)
theorem dX5_personDigest_5 : decode cX5_personDigest 5 = .ok (.aload_n 0, 1) := dk_42 (dk_at dksX5_personDigest_0 5 rfl rfl)
theorem dX5_personDigest_6 : decode cX5_personDigest 6 = .ok (.iload_n 3, 1) := dk_29 (dk_at dksX5_personDigest_0 6 rfl rfl)
theorem dX5_personDigest_7 : decode cX5_personDigest 7 = .ok (.iconst 0, 1) := dk_3 (dk_at dksX5_personDigest_0 7 rfl rfl)
theorem dX5_personDigest_8 : decode cX5_personDigest 8 = .ok (.invokevirtual 153, 3) := dk_182 0 153 (dk_at dksX5_personDigest_0 8 rfl rfl)
theorem dX5_personDigest_11 : decode cX5_personDigest 11 = .ok (.i2l, 1) := dk_133 (dk_at dksX5_personDigest_0 11 rfl rfl)
theorem dX5_personDigest_12 : decode cX5_personDigest 12 = .ok (.ladd, 1) := dk_97 (dk_at dksX5_personDigest_0 12 rfl rfl)
theorem dX5_personDigest_13 : decode cX5_personDigest 13 = .ok (.lstore 4, 2) := dk_55 4 (dk_at dksX5_personDigest_0 13 rfl rfl)
theorem dX5_personDigest_15 : decode cX5_personDigest 15 = .ok (.ldc2_w 336, 3) := dk_20 1 80 (dk_at dksX5_personDigest_0 15 rfl rfl)
theorem dX5_personDigest_18 : decode cX5_personDigest 18 = .ok (.lload 4, 2) := dk_22 4 (dk_at dksX5_personDigest_0 18 rfl rfl)
theorem dX5_personDigest_20 : decode cX5_personDigest 20 = .ok (.lmul, 1) := dk_105 (dk_at dksX5_personDigest_0 20 rfl rfl)
theorem dX5_personDigest_21 : decode cX5_personDigest 21 = .ok (.aload_n 0, 1) := dk_42 (dk_at dksX5_personDigest_0 21 rfl rfl)
theorem dX5_personDigest_22 : decode cX5_personDigest 22 = .ok (.iload_n 3, 1) := dk_29 (dk_at dksX5_personDigest_0 22 rfl rfl)
theorem dX5_personDigest_23 : decode cX5_personDigest 23 = .ok (.iconst 1, 1) := dk_4 (dk_at dksX5_personDigest_0 23 rfl rfl)
theorem dX5_personDigest_24 : decode cX5_personDigest 24 = .ok (.invokevirtual 153, 3) := dk_182 0 153 (dk_at dksX5_personDigest_1 0 rfl rfl)
theorem dX5_personDigest_27 : decode cX5_personDigest 27 = .ok (.i2l, 1) := dk_133 (dk_at dksX5_personDigest_1 3 rfl rfl)
theorem dX5_personDigest_28 : decode cX5_personDigest 28 = .ok (.ladd, 1) := dk_97 (dk_at dksX5_personDigest_1 4 rfl rfl)
theorem dX5_personDigest_29 : decode cX5_personDigest 29 = .ok (.lstore 4, 2) := dk_55 4 (dk_at dksX5_personDigest_1 5 rfl rfl)
theorem dX5_personDigest_31 : decode cX5_personDigest 31 = .ok (.aload_n 0, 1) := dk_42 (dk_at dksX5_personDigest_1 7 rfl rfl)
theorem dX5_personDigest_32 : decode cX5_personDigest 32 = .ok (.lload 4, 2) := dk_22 4 (dk_at dksX5_personDigest_1 8 rfl rfl)
theorem dX5_personDigest_34 : decode cX5_personDigest 34 = .ok (.iconst 0, 1) := dk_3 (dk_at dksX5_personDigest_1 10 rfl rfl)
theorem dX5_personDigest_35 : decode cX5_personDigest 35 = .ok (.iload_n 3, 1) := dk_29 (dk_at dksX5_personDigest_1 11 rfl rfl)
theorem dX5_personDigest_36 : decode cX5_personDigest 36 = .ok (.invokevirtual 338, 3) := dk_182 1 82 (dk_at dksX5_personDigest_1 12 rfl rfl)
theorem dX5_personDigest_39 : decode cX5_personDigest 39 = .ok (.lstore 4, 2) := dk_55 4 (dk_at dksX5_personDigest_1 15 rfl rfl)
theorem dX5_personDigest_41 : decode cX5_personDigest 41 = .ok (.aload_n 0, 1) := dk_42 (dk_at dksX5_personDigest_1 17 rfl rfl)
theorem dX5_personDigest_42 : decode cX5_personDigest 42 = .ok (.lload 4, 2) := dk_22 4 (dk_at dksX5_personDigest_1 18 rfl rfl)
theorem dX5_personDigest_44 : decode cX5_personDigest 44 = .ok (.bipush 6, 2) := dk_16 6 (dk_at dksX5_personDigest_1 20 rfl rfl)
theorem dX5_personDigest_46 : decode cX5_personDigest 46 = .ok (.iload_n 3, 1) := dk_29 (dk_at dksX5_personDigest_1 22 rfl rfl)
theorem dX5_personDigest_47 : decode cX5_personDigest 47 = .ok (.invokevirtual 338, 3) := dk_182 1 82 (dk_at dksX5_personDigest_2 0 rfl rfl)
theorem dX5_personDigest_50 : decode cX5_personDigest 50 = .ok (.lstore 4, 2) := dk_55 4 (dk_at dksX5_personDigest_2 3 rfl rfl)
theorem dX5_personDigest_52 : decode cX5_personDigest 52 = .ok (.aload_n 0, 1) := dk_42 (dk_at dksX5_personDigest_2 5 rfl rfl)
theorem dX5_personDigest_53 : decode cX5_personDigest 53 = .ok (.lload 4, 2) := dk_22 4 (dk_at dksX5_personDigest_2 6 rfl rfl)
theorem dX5_personDigest_55 : decode cX5_personDigest 55 = .ok (.bipush 14, 2) := dk_16 14 (dk_at dksX5_personDigest_2 8 rfl rfl)
theorem dX5_personDigest_57 : decode cX5_personDigest 57 = .ok (.iload_n 3, 1) := dk_29 (dk_at dksX5_personDigest_2 10 rfl rfl)
theorem dX5_personDigest_58 : decode cX5_personDigest 58 = .ok (.invokevirtual 338, 3) := dk_182 1 82 (dk_at dksX5_personDigest_2 11 rfl rfl)
theorem dX5_personDigest_61 : decode cX5_personDigest 61 = .ok (.lstore 4, 2) := dk_55 4 (dk_at dksX5_personDigest_2 14 rfl rfl)
theorem dX5_personDigest_63 : decode cX5_personDigest 63 = .ok (.aload_n 0, 1) := dk_42 (dk_at dksX5_personDigest_2 16 rfl rfl)
theorem dX5_personDigest_64 : decode cX5_personDigest 64 = .ok (.lload 4, 2) := dk_22 4 (dk_at dksX5_personDigest_2 17 rfl rfl)
theorem dX5_personDigest_66 : decode cX5_personDigest 66 = .ok (.bipush 23, 2) := dk_16 23 (dk_at dksX5_personDigest_2 19 rfl rfl)
theorem dX5_personDigest_68 : decode cX5_personDigest 68 = .ok (.iload_n 3, 1) := dk_29 (dk_at dksX5_personDigest_2 21 rfl rfl)
theorem dX5_personDigest_69 : decode cX5_personDigest 69 = .ok (.invokevirtual 338, 3) := dk_182 1 82 (dk_at dksX5_personDigest_3 0 rfl rfl)
theorem dX5_personDigest_72 : decode cX5_personDigest 72 = .ok (.lstore 4, 2) := dk_55 4 (dk_at dksX5_personDigest_3 3 rfl rfl)
theorem dX5_personDigest_74 : decode cX5_personDigest 74 = .ok (.ldc2_w 336, 3) := dk_20 1 80 (dk_at dksX5_personDigest_3 5 rfl rfl)
theorem dX5_personDigest_77 : decode cX5_personDigest 77 = .ok (.lload 4, 2) := dk_22 4 (dk_at dksX5_personDigest_3 8 rfl rfl)
theorem dX5_personDigest_79 : decode cX5_personDigest 79 = .ok (.lmul, 1) := dk_105 (dk_at dksX5_personDigest_3 10 rfl rfl)
theorem dX5_personDigest_80 : decode cX5_personDigest 80 = .ok (.aload_n 0, 1) := dk_42 (dk_at dksX5_personDigest_3 11 rfl rfl)
theorem dX5_personDigest_81 : decode cX5_personDigest 81 = .ok (.iload_n 3, 1) := dk_29 (dk_at dksX5_personDigest_3 12 rfl rfl)
theorem dX5_personDigest_82 : decode cX5_personDigest 82 = .ok (.bipush 14, 2) := dk_16 14 (dk_at dksX5_personDigest_3 13 rfl rfl)
theorem dX5_personDigest_84 : decode cX5_personDigest 84 = .ok (.invokevirtual 269, 3) := dk_182 1 13 (dk_at dksX5_personDigest_3 15 rfl rfl)
theorem dX5_personDigest_87 : decode cX5_personDigest 87 = .ok (.i2l, 1) := dk_133 (dk_at dksX5_personDigest_3 18 rfl rfl)
theorem dX5_personDigest_88 : decode cX5_personDigest 88 = .ok (.ladd, 1) := dk_97 (dk_at dksX5_personDigest_3 19 rfl rfl)
theorem dX5_personDigest_89 : decode cX5_personDigest 89 = .ok (.lstore 4, 2) := dk_55 4 (dk_at dksX5_personDigest_3 20 rfl rfl)
theorem dX5_personDigest_91 : decode cX5_personDigest 91 = .ok (.ldc2_w 336, 3) := dk_20 1 80 (dk_at dksX5_personDigest_4 0 rfl rfl)
theorem dX5_personDigest_94 : decode cX5_personDigest 94 = .ok (.lload 4, 2) := dk_22 4 (dk_at dksX5_personDigest_4 3 rfl rfl)
theorem dX5_personDigest_96 : decode cX5_personDigest 96 = .ok (.lmul, 1) := dk_105 (dk_at dksX5_personDigest_4 5 rfl rfl)
theorem dX5_personDigest_97 : decode cX5_personDigest 97 = .ok (.aload_n 0, 1) := dk_42 (dk_at dksX5_personDigest_4 6 rfl rfl)
theorem dX5_personDigest_98 : decode cX5_personDigest 98 = .ok (.iload_n 3, 1) := dk_29 (dk_at dksX5_personDigest_4 7 rfl rfl)
theorem dX5_personDigest_99 : decode cX5_personDigest 99 = .ok (.invokevirtual 297, 3) := dk_182 1 41 (dk_at dksX5_personDigest_4 8 rfl rfl)
theorem dX5_personDigest_102 : decode cX5_personDigest 102 = .ok (.i2l, 1) := dk_133 (dk_at dksX5_personDigest_4 11 rfl rfl)
theorem dX5_personDigest_103 : decode cX5_personDigest 103 = .ok (.ladd, 1) := dk_97 (dk_at dksX5_personDigest_4 12 rfl rfl)
theorem dX5_personDigest_104 : decode cX5_personDigest 104 = .ok (.lstore 4, 2) := dk_55 4 (dk_at dksX5_personDigest_4 13 rfl rfl)
theorem dX5_personDigest_106 : decode cX5_personDigest 106 = .ok (.ldc2_w 336, 3) := dk_20 1 80 (dk_at dksX5_personDigest_4 15 rfl rfl)
theorem dX5_personDigest_109 : decode cX5_personDigest 109 = .ok (.lload 4, 2) := dk_22 4 (dk_at dksX5_personDigest_4 18 rfl rfl)
theorem dX5_personDigest_111 : decode cX5_personDigest 111 = .ok (.lmul, 1) := dk_105 (dk_at dksX5_personDigest_4 20 rfl rfl)
theorem dX5_personDigest_112 : decode cX5_personDigest 112 = .ok (.aload_n 0, 1) := dk_42 (dk_at dksX5_personDigest_4 21 rfl rfl)
theorem dX5_personDigest_113 : decode cX5_personDigest 113 = .ok (.iload_n 3, 1) := dk_29 (dk_at dksX5_personDigest_4 22 rfl rfl)
theorem dX5_personDigest_114 : decode cX5_personDigest 114 = .ok (.invokevirtual 300, 3) := dk_182 1 44 (dk_at dksX5_personDigest_5 0 rfl rfl)
theorem dX5_personDigest_117 : decode cX5_personDigest 117 = .ok (.i2l, 1) := dk_133 (dk_at dksX5_personDigest_5 3 rfl rfl)
theorem dX5_personDigest_118 : decode cX5_personDigest 118 = .ok (.ladd, 1) := dk_97 (dk_at dksX5_personDigest_5 4 rfl rfl)
theorem dX5_personDigest_119 : decode cX5_personDigest 119 = .ok (.lstore 4, 2) := dk_55 4 (dk_at dksX5_personDigest_5 5 rfl rfl)
theorem dX5_personDigest_121 : decode cX5_personDigest 121 = .ok (.ldc2_w 336, 3) := dk_20 1 80 (dk_at dksX5_personDigest_5 7 rfl rfl)
theorem dX5_personDigest_124 : decode cX5_personDigest 124 = .ok (.lload 4, 2) := dk_22 4 (dk_at dksX5_personDigest_5 10 rfl rfl)
theorem dX5_personDigest_126 : decode cX5_personDigest 126 = .ok (.lmul, 1) := dk_105 (dk_at dksX5_personDigest_5 12 rfl rfl)
theorem dX5_personDigest_127 : decode cX5_personDigest 127 = .ok (.aload_n 0, 1) := dk_42 (dk_at dksX5_personDigest_5 13 rfl rfl)
theorem dX5_personDigest_128 : decode cX5_personDigest 128 = .ok (.iload_n 3, 1) := dk_29 (dk_at dksX5_personDigest_5 14 rfl rfl)
theorem dX5_personDigest_129 : decode cX5_personDigest 129 = .ok (.invokevirtual 303, 3) := dk_182 1 47 (dk_at dksX5_personDigest_5 15 rfl rfl)
theorem dX5_personDigest_132 : decode cX5_personDigest 132 = .ok (.i2l, 1) := dk_133 (dk_at dksX5_personDigest_5 18 rfl rfl)
theorem dX5_personDigest_133 : decode cX5_personDigest 133 = .ok (.ladd, 1) := dk_97 (dk_at dksX5_personDigest_5 19 rfl rfl)
theorem dX5_personDigest_134 : decode cX5_personDigest 134 = .ok (.lstore 4, 2) := dk_55 4 (dk_at dksX5_personDigest_5 20 rfl rfl)
theorem dX5_personDigest_136 : decode cX5_personDigest 136 = .ok (.ldc2_w 336, 3) := dk_20 1 80 (dk_at dksX5_personDigest_6 0 rfl rfl)
theorem dX5_personDigest_139 : decode cX5_personDigest 139 = .ok (.lload 4, 2) := dk_22 4 (dk_at dksX5_personDigest_6 3 rfl rfl)
theorem dX5_personDigest_141 : decode cX5_personDigest 141 = .ok (.lmul, 1) := dk_105 (dk_at dksX5_personDigest_6 5 rfl rfl)
theorem dX5_personDigest_142 : decode cX5_personDigest 142 = .ok (.aload_n 0, 1) := dk_42 (dk_at dksX5_personDigest_6 6 rfl rfl)
theorem dX5_personDigest_143 : decode cX5_personDigest 143 = .ok (.iconst 5, 1) := dk_8 (dk_at dksX5_personDigest_6 7 rfl rfl)
theorem dX5_personDigest_144 : decode cX5_personDigest 144 = .ok (.iload_n 3, 1) := dk_29 (dk_at dksX5_personDigest_6 8 rfl rfl)
theorem dX5_personDigest_145 : decode cX5_personDigest 145 = .ok (.bipush 14, 2) := dk_16 14 (dk_at dksX5_personDigest_6 9 rfl rfl)
theorem dX5_personDigest_147 : decode cX5_personDigest 147 = .ok (.iconst 0, 1) := dk_3 (dk_at dksX5_personDigest_6 11 rfl rfl)
theorem dX5_personDigest_148 : decode cX5_personDigest 148 = .ok (.invokevirtual 310, 3) := dk_182 1 54 (dk_at dksX5_personDigest_6 12 rfl rfl)
theorem dX5_personDigest_151 : decode cX5_personDigest 151 = .ok (.ladd, 1) := dk_97 (dk_at dksX5_personDigest_6 15 rfl rfl)
theorem dX5_personDigest_152 : decode cX5_personDigest 152 = .ok (.lstore 4, 2) := dk_55 4 (dk_at dksX5_personDigest_6 16 rfl rfl)
theorem dX5_personDigest_154 : decode cX5_personDigest 154 = .ok (.ldc2_w 336, 3) := dk_20 1 80 (dk_at dksX5_personDigest_6 18 rfl rfl)
theorem dX5_personDigest_157 : decode cX5_personDigest 157 = .ok (.lload 4, 2) := dk_22 4 (dk_at dksX5_personDigest_6 21 rfl rfl)
theorem dX5_personDigest_159 : decode cX5_personDigest 159 = .ok (.lmul, 1) := dk_105 (dk_at dksX5_personDigest_6 23 rfl rfl)
theorem dX5_personDigest_160 : decode cX5_personDigest 160 = .ok (.aload_n 0, 1) := dk_42 (dk_at dksX5_personDigest_7 0 rfl rfl)
theorem dX5_personDigest_161 : decode cX5_personDigest 161 = .ok (.iconst 5, 1) := dk_8 (dk_at dksX5_personDigest_7 1 rfl rfl)
theorem dX5_personDigest_162 : decode cX5_personDigest 162 = .ok (.iload_n 3, 1) := dk_29 (dk_at dksX5_personDigest_7 2 rfl rfl)
theorem dX5_personDigest_163 : decode cX5_personDigest 163 = .ok (.bipush 14, 2) := dk_16 14 (dk_at dksX5_personDigest_7 3 rfl rfl)
theorem dX5_personDigest_165 : decode cX5_personDigest 165 = .ok (.iconst 1, 1) := dk_4 (dk_at dksX5_personDigest_7 5 rfl rfl)
theorem dX5_personDigest_166 : decode cX5_personDigest 166 = .ok (.invokevirtual 310, 3) := dk_182 1 54 (dk_at dksX5_personDigest_7 6 rfl rfl)
theorem dX5_personDigest_169 : decode cX5_personDigest 169 = .ok (.ladd, 1) := dk_97 (dk_at dksX5_personDigest_7 9 rfl rfl)
theorem dX5_personDigest_170 : decode cX5_personDigest 170 = .ok (.lreturn, 1) := dk_173 (dk_at dksX5_personDigest_7 10 rfl rfl)
abbrev cX5_coatDigest : ByteArray := prog_13_method_96_code
def yX5_coatDigest : MethodName := ⟨RX5, "coatDigest", "(JII)J"⟩
def dkwX5_coatDigest_1 : List UInt8 := [182, 0, 237, 133, 97, 55, 5, 132, 7, 1, 167, 255, 228, 22, 5, 173]
abbrev dktX5_coatDigest_1 : List UInt8 := dkwX5_coatDigest_1 ++ []
def dkwX5_coatDigest_0 : List UInt8 := [31, 55, 5, 3, 54, 7, 21, 7, 6, 162, 0, 28, 20, 1, 80, 22, 5, 105, 42, 29, 21, 4, 21, 7]
abbrev dktX5_coatDigest_0 : List UInt8 := dkwX5_coatDigest_0 ++ dktX5_coatDigest_1
theorem dksX5_coatDigest_0 : cX5_coatDigest.data.toList.drop 0 = dktX5_coatDigest_0 := by decide +kernel
theorem dksX5_coatDigest_1 : cX5_coatDigest.data.toList.drop 24 = dktX5_coatDigest_1 := dk_seg dksX5_coatDigest_0 24 rfl rfl
theorem dX5_coatDigest_0 : decode cX5_coatDigest 0 = .ok (.lload_n 1, 1) := dk_31 (dk_at dksX5_coatDigest_0 0 rfl rfl)
theorem dX5_coatDigest_1 : decode cX5_coatDigest 1 = .ok (.lstore 5, 2) := dk_55 5 (dk_at dksX5_coatDigest_0 1 rfl rfl)
theorem dX5_coatDigest_3 : decode cX5_coatDigest 3 = .ok (.iconst 0, 1) := dk_3 (dk_at dksX5_coatDigest_0 3 rfl rfl)
theorem dX5_coatDigest_4 : decode cX5_coatDigest 4 = .ok (.istore 7, 2) := dk_54 7 (dk_at dksX5_coatDigest_0 4 rfl rfl)
theorem dX5_coatDigest_6 : decode cX5_coatDigest 6 = .ok (.iload 7, 2) := dk_21 7 (dk_at dksX5_coatDigest_0 6 rfl rfl)
theorem dX5_coatDigest_8 : decode cX5_coatDigest 8 = .ok (.iconst 3, 1) := dk_6 (dk_at dksX5_coatDigest_0 8 rfl rfl)
theorem dX5_coatDigest_9 : decode cX5_coatDigest 9 = .ok (.if_icmp .ge 28, 3) := dk_162 0 28 (dk_at dksX5_coatDigest_0 9 rfl rfl)
theorem dX5_coatDigest_12 : decode cX5_coatDigest 12 = .ok (.ldc2_w 336, 3) := dk_20 1 80 (dk_at dksX5_coatDigest_0 12 rfl rfl)
theorem dX5_coatDigest_15 : decode cX5_coatDigest 15 = .ok (.lload 5, 2) := dk_22 5 (dk_at dksX5_coatDigest_0 15 rfl rfl)
theorem dX5_coatDigest_17 : decode cX5_coatDigest 17 = .ok (.lmul, 1) := dk_105 (dk_at dksX5_coatDigest_0 17 rfl rfl)
theorem dX5_coatDigest_18 : decode cX5_coatDigest 18 = .ok (.aload_n 0, 1) := dk_42 (dk_at dksX5_coatDigest_0 18 rfl rfl)
theorem dX5_coatDigest_19 : decode cX5_coatDigest 19 = .ok (.iload_n 3, 1) := dk_29 (dk_at dksX5_coatDigest_0 19 rfl rfl)
theorem dX5_coatDigest_20 : decode cX5_coatDigest 20 = .ok (.iload 4, 2) := dk_21 4 (dk_at dksX5_coatDigest_0 20 rfl rfl)
theorem dX5_coatDigest_22 : decode cX5_coatDigest 22 = .ok (.iload 7, 2) := dk_21 7 (dk_at dksX5_coatDigest_0 22 rfl rfl)
theorem dX5_coatDigest_24 : decode cX5_coatDigest 24 = .ok (.invokevirtual 237, 3) := dk_182 0 237 (dk_at dksX5_coatDigest_1 0 rfl rfl)
theorem dX5_coatDigest_27 : decode cX5_coatDigest 27 = .ok (.i2l, 1) := dk_133 (dk_at dksX5_coatDigest_1 3 rfl rfl)
theorem dX5_coatDigest_28 : decode cX5_coatDigest 28 = .ok (.ladd, 1) := dk_97 (dk_at dksX5_coatDigest_1 4 rfl rfl)
theorem dX5_coatDigest_29 : decode cX5_coatDigest 29 = .ok (.lstore 5, 2) := dk_55 5 (dk_at dksX5_coatDigest_1 5 rfl rfl)
theorem dX5_coatDigest_31 : decode cX5_coatDigest 31 = .ok (.iinc 7 1, 3) := dk_132 7 1 (dk_at dksX5_coatDigest_1 7 rfl rfl)
theorem dX5_coatDigest_34 : decode cX5_coatDigest 34 = .ok (.goto (-28), 3) := dk_167 255 228 (dk_at dksX5_coatDigest_1 10 rfl rfl)
theorem dX5_coatDigest_37 : decode cX5_coatDigest 37 = .ok (.lload 5, 2) := dk_22 5 (dk_at dksX5_coatDigest_1 13 rfl rfl)
theorem dX5_coatDigest_39 : decode cX5_coatDigest 39 = .ok (.lreturn, 1) := dk_173 (dk_at dksX5_coatDigest_1 15 rfl rfl)
theorem hs_X5_init : yX5_init.cls ≠ "java/lang/invoke/MethodHandle" ∧ yX5_init.cls ≠ "java/lang/invoke/VarHandle" ∧ (parseMethodDescriptor yX5_init.desc).map (fun d => d.parameters.length) = some 0 := by decide +kernel
theorem hv_X5_init : yX5_init.cls = RX5 ∧ yX5_init.cls ≠ "java/lang/invoke/MethodHandle" ∧ yX5_init.cls ≠ "java/lang/invoke/VarHandle" ∧ (parseMethodDescriptor yX5_init.desc).map (fun d => d.parameters.length) = some 0 := ⟨rfl, hs_X5_init⟩
theorem hs_X5_type : yX5_type.cls ≠ "java/lang/invoke/MethodHandle" ∧ yX5_type.cls ≠ "java/lang/invoke/VarHandle" ∧ (parseMethodDescriptor yX5_type.desc).map (fun d => d.parameters.length) = some 2 := by decide +kernel
theorem hv_X5_type : yX5_type.cls = RX5 ∧ yX5_type.cls ≠ "java/lang/invoke/MethodHandle" ∧ yX5_type.cls ≠ "java/lang/invoke/VarHandle" ∧ (parseMethodDescriptor yX5_type.desc).map (fun d => d.parameters.length) = some 2 := ⟨rfl, hs_X5_type⟩
theorem hs_X5_isText : yX5_isText.cls ≠ "java/lang/invoke/MethodHandle" ∧ yX5_isText.cls ≠ "java/lang/invoke/VarHandle" ∧ (parseMethodDescriptor yX5_isText.desc).map (fun d => d.parameters.length) = some 1 := by decide +kernel
theorem hv_X5_isText : yX5_isText.cls = RX5 ∧ yX5_isText.cls ≠ "java/lang/invoke/MethodHandle" ∧ yX5_isText.cls ≠ "java/lang/invoke/VarHandle" ∧ (parseMethodDescriptor yX5_isText.desc).map (fun d => d.parameters.length) = some 1 := ⟨rfl, hs_X5_isText⟩
theorem hs_X5_in : yX5_in.cls ≠ "java/lang/invoke/MethodHandle" ∧ yX5_in.cls ≠ "java/lang/invoke/VarHandle" ∧ (parseMethodDescriptor yX5_in.desc).map (fun d => d.parameters.length) = some 3 := by decide +kernel
theorem hv_X5_in : yX5_in.cls = RX5 ∧ yX5_in.cls ≠ "java/lang/invoke/MethodHandle" ∧ yX5_in.cls ≠ "java/lang/invoke/VarHandle" ∧ (parseMethodDescriptor yX5_in.desc).map (fun d => d.parameters.length) = some 3 := ⟨rfl, hs_X5_in⟩
theorem hs_X5_wipe : yX5_wipe.cls ≠ "java/lang/invoke/MethodHandle" ∧ yX5_wipe.cls ≠ "java/lang/invoke/VarHandle" ∧ (parseMethodDescriptor yX5_wipe.desc).map (fun d => d.parameters.length) = some 1 := by decide +kernel
theorem hv_X5_wipe : yX5_wipe.cls = RX5 ∧ yX5_wipe.cls ≠ "java/lang/invoke/MethodHandle" ∧ yX5_wipe.cls ≠ "java/lang/invoke/VarHandle" ∧ (parseMethodDescriptor yX5_wipe.desc).map (fun d => d.parameters.length) = some 1 := ⟨rfl, hs_X5_wipe⟩
theorem hs_X5_undo : yX5_undo.cls ≠ "java/lang/invoke/MethodHandle" ∧ yX5_undo.cls ≠ "java/lang/invoke/VarHandle" ∧ (parseMethodDescriptor yX5_undo.desc).map (fun d => d.parameters.length) = some 1 := by decide +kernel
theorem hv_X5_undo : yX5_undo.cls = RX5 ∧ yX5_undo.cls ≠ "java/lang/invoke/MethodHandle" ∧ yX5_undo.cls ≠ "java/lang/invoke/VarHandle" ∧ (parseMethodDescriptor yX5_undo.desc).map (fun d => d.parameters.length) = some 1 := ⟨rfl, hs_X5_undo⟩
theorem hs_X5_fault : yX5_fault.cls ≠ "java/lang/invoke/MethodHandle" ∧ yX5_fault.cls ≠ "java/lang/invoke/VarHandle" ∧ (parseMethodDescriptor yX5_fault.desc).map (fun d => d.parameters.length) = some 1 := by decide +kernel
theorem hv_X5_fault : yX5_fault.cls = RX5 ∧ yX5_fault.cls ≠ "java/lang/invoke/MethodHandle" ∧ yX5_fault.cls ≠ "java/lang/invoke/VarHandle" ∧ (parseMethodDescriptor yX5_fault.desc).map (fun d => d.parameters.length) = some 1 := ⟨rfl, hs_X5_fault⟩
theorem hs_X5_faultOf : yX5_faultOf.cls ≠ "java/lang/invoke/MethodHandle" ∧ yX5_faultOf.cls ≠ "java/lang/invoke/VarHandle" ∧ (parseMethodDescriptor yX5_faultOf.desc).map (fun d => d.parameters.length) = some 1 := by decide +kernel
theorem hv_X5_faultOf : yX5_faultOf.cls = RX5 ∧ yX5_faultOf.cls ≠ "java/lang/invoke/MethodHandle" ∧ yX5_faultOf.cls ≠ "java/lang/invoke/VarHandle" ∧ (parseMethodDescriptor yX5_faultOf.desc).map (fun d => d.parameters.length) = some 1 := ⟨rfl, hs_X5_faultOf⟩
theorem hs_X5_readsParts : yX5_readsParts.cls ≠ "java/lang/invoke/MethodHandle" ∧ yX5_readsParts.cls ≠ "java/lang/invoke/VarHandle" ∧ (parseMethodDescriptor yX5_readsParts.desc).map (fun d => d.parameters.length) = some 1 := by decide +kernel
theorem hv_X5_readsParts : yX5_readsParts.cls = RX5 ∧ yX5_readsParts.cls ≠ "java/lang/invoke/MethodHandle" ∧ yX5_readsParts.cls ≠ "java/lang/invoke/VarHandle" ∧ (parseMethodDescriptor yX5_readsParts.desc).map (fun d => d.parameters.length) = some 1 := ⟨rfl, hs_X5_readsParts⟩
theorem hs_X5_readsPerson : yX5_readsPerson.cls ≠ "java/lang/invoke/MethodHandle" ∧ yX5_readsPerson.cls ≠ "java/lang/invoke/VarHandle" ∧ (parseMethodDescriptor yX5_readsPerson.desc).map (fun d => d.parameters.length) = some 2 := by decide +kernel
theorem hv_X5_readsPerson : yX5_readsPerson.cls = RX5 ∧ yX5_readsPerson.cls ≠ "java/lang/invoke/MethodHandle" ∧ yX5_readsPerson.cls ≠ "java/lang/invoke/VarHandle" ∧ (parseMethodDescriptor yX5_readsPerson.desc).map (fun d => d.parameters.length) = some 2 := ⟨rfl, hs_X5_readsPerson⟩
theorem hs_X5_byteAt : yX5_byteAt.cls ≠ "java/lang/invoke/MethodHandle" ∧ yX5_byteAt.cls ≠ "java/lang/invoke/VarHandle" ∧ (parseMethodDescriptor yX5_byteAt.desc).map (fun d => d.parameters.length) = some 2 := by decide +kernel
theorem hv_X5_byteAt : yX5_byteAt.cls = RX5 ∧ yX5_byteAt.cls ≠ "java/lang/invoke/MethodHandle" ∧ yX5_byteAt.cls ≠ "java/lang/invoke/VarHandle" ∧ (parseMethodDescriptor yX5_byteAt.desc).map (fun d => d.parameters.length) = some 2 := ⟨rfl, hs_X5_byteAt⟩
theorem hs_X5_readsPromise : yX5_readsPromise.cls ≠ "java/lang/invoke/MethodHandle" ∧ yX5_readsPromise.cls ≠ "java/lang/invoke/VarHandle" ∧ (parseMethodDescriptor yX5_readsPromise.desc).map (fun d => d.parameters.length) = some 2 := by decide +kernel
theorem hv_X5_readsPromise : yX5_readsPromise.cls = RX5 ∧ yX5_readsPromise.cls ≠ "java/lang/invoke/MethodHandle" ∧ yX5_readsPromise.cls ≠ "java/lang/invoke/VarHandle" ∧ (parseMethodDescriptor yX5_readsPromise.desc).map (fun d => d.parameters.length) = some 2 := ⟨rfl, hs_X5_readsPromise⟩
theorem hs_X5_person : yX5_person.cls ≠ "java/lang/invoke/MethodHandle" ∧ yX5_person.cls ≠ "java/lang/invoke/VarHandle" ∧ (parseMethodDescriptor yX5_person.desc).map (fun d => d.parameters.length) = some 2 := by decide +kernel
theorem hv_X5_person : yX5_person.cls = RX5 ∧ yX5_person.cls ≠ "java/lang/invoke/MethodHandle" ∧ yX5_person.cls ≠ "java/lang/invoke/VarHandle" ∧ (parseMethodDescriptor yX5_person.desc).map (fun d => d.parameters.length) = some 2 := ⟨rfl, hs_X5_person⟩
theorem hs_X5_isPerson : yX5_isPerson.cls ≠ "java/lang/invoke/MethodHandle" ∧ yX5_isPerson.cls ≠ "java/lang/invoke/VarHandle" ∧ (parseMethodDescriptor yX5_isPerson.desc).map (fun d => d.parameters.length) = some 1 := by decide +kernel
theorem hv_X5_isPerson : yX5_isPerson.cls = RX5 ∧ yX5_isPerson.cls ≠ "java/lang/invoke/MethodHandle" ∧ yX5_isPerson.cls ≠ "java/lang/invoke/VarHandle" ∧ (parseMethodDescriptor yX5_isPerson.desc).map (fun d => d.parameters.length) = some 1 := ⟨rfl, hs_X5_isPerson⟩
theorem hs_X5_reads : yX5_reads.cls ≠ "java/lang/invoke/MethodHandle" ∧ yX5_reads.cls ≠ "java/lang/invoke/VarHandle" ∧ (parseMethodDescriptor yX5_reads.desc).map (fun d => d.parameters.length) = some 0 := by decide +kernel
theorem hv_X5_reads : yX5_reads.cls = RX5 ∧ yX5_reads.cls ≠ "java/lang/invoke/MethodHandle" ∧ yX5_reads.cls ≠ "java/lang/invoke/VarHandle" ∧ (parseMethodDescriptor yX5_reads.desc).map (fun d => d.parameters.length) = some 0 := ⟨rfl, hs_X5_reads⟩
theorem hs_X5_personOf : yX5_personOf.cls ≠ "java/lang/invoke/MethodHandle" ∧ yX5_personOf.cls ≠ "java/lang/invoke/VarHandle" ∧ (parseMethodDescriptor yX5_personOf.desc).map (fun d => d.parameters.length) = some 2 := by decide +kernel
theorem hv_X5_personOf : yX5_personOf.cls = RX5 ∧ yX5_personOf.cls ≠ "java/lang/invoke/MethodHandle" ∧ yX5_personOf.cls ≠ "java/lang/invoke/VarHandle" ∧ (parseMethodDescriptor yX5_personOf.desc).map (fun d => d.parameters.length) = some 2 := ⟨rfl, hs_X5_personOf⟩
theorem hs_X5_promise : yX5_promise.cls ≠ "java/lang/invoke/MethodHandle" ∧ yX5_promise.cls ≠ "java/lang/invoke/VarHandle" ∧ (parseMethodDescriptor yX5_promise.desc).map (fun d => d.parameters.length) = some 2 := by decide +kernel
theorem hv_X5_promise : yX5_promise.cls = RX5 ∧ yX5_promise.cls ≠ "java/lang/invoke/MethodHandle" ∧ yX5_promise.cls ≠ "java/lang/invoke/VarHandle" ∧ (parseMethodDescriptor yX5_promise.desc).map (fun d => d.parameters.length) = some 2 := ⟨rfl, hs_X5_promise⟩
theorem hs_X5_isPromise : yX5_isPromise.cls ≠ "java/lang/invoke/MethodHandle" ∧ yX5_isPromise.cls ≠ "java/lang/invoke/VarHandle" ∧ (parseMethodDescriptor yX5_isPromise.desc).map (fun d => d.parameters.length) = some 1 := by decide +kernel
theorem hv_X5_isPromise : yX5_isPromise.cls = RX5 ∧ yX5_isPromise.cls ≠ "java/lang/invoke/MethodHandle" ∧ yX5_isPromise.cls ≠ "java/lang/invoke/VarHandle" ∧ (parseMethodDescriptor yX5_isPromise.desc).map (fun d => d.parameters.length) = some 1 := ⟨rfl, hs_X5_isPromise⟩
theorem hs_X5_promiseOf : yX5_promiseOf.cls ≠ "java/lang/invoke/MethodHandle" ∧ yX5_promiseOf.cls ≠ "java/lang/invoke/VarHandle" ∧ (parseMethodDescriptor yX5_promiseOf.desc).map (fun d => d.parameters.length) = some 2 := by decide +kernel
theorem hv_X5_promiseOf : yX5_promiseOf.cls = RX5 ∧ yX5_promiseOf.cls ≠ "java/lang/invoke/MethodHandle" ∧ yX5_promiseOf.cls ≠ "java/lang/invoke/VarHandle" ∧ (parseMethodDescriptor yX5_promiseOf.desc).map (fun d => d.parameters.length) = some 2 := ⟨rfl, hs_X5_promiseOf⟩
theorem hs_X5_keeping : yX5_keeping.cls ≠ "java/lang/invoke/MethodHandle" ∧ yX5_keeping.cls ≠ "java/lang/invoke/VarHandle" ∧ (parseMethodDescriptor yX5_keeping.desc).map (fun d => d.parameters.length) = some 2 := by decide +kernel
theorem hv_X5_keeping : yX5_keeping.cls = RX5 ∧ yX5_keeping.cls ≠ "java/lang/invoke/MethodHandle" ∧ yX5_keeping.cls ≠ "java/lang/invoke/VarHandle" ∧ (parseMethodDescriptor yX5_keeping.desc).map (fun d => d.parameters.length) = some 2 := ⟨rfl, hs_X5_keeping⟩
theorem hs_X5_isDay : yX5_isDay.cls ≠ "java/lang/invoke/MethodHandle" ∧ yX5_isDay.cls ≠ "java/lang/invoke/VarHandle" ∧ (parseMethodDescriptor yX5_isDay.desc).map (fun d => d.parameters.length) = some 1 := by decide +kernel
theorem hv_X5_isDay : yX5_isDay.cls = RX5 ∧ yX5_isDay.cls ≠ "java/lang/invoke/MethodHandle" ∧ yX5_isDay.cls ≠ "java/lang/invoke/VarHandle" ∧ (parseMethodDescriptor yX5_isDay.desc).map (fun d => d.parameters.length) = some 1 := ⟨rfl, hs_X5_isDay⟩
theorem hs_X5_lie : yX5_lie.cls ≠ "java/lang/invoke/MethodHandle" ∧ yX5_lie.cls ≠ "java/lang/invoke/VarHandle" ∧ (parseMethodDescriptor yX5_lie.desc).map (fun d => d.parameters.length) = some 3 := by decide +kernel
theorem hv_X5_lie : yX5_lie.cls = RX5 ∧ yX5_lie.cls ≠ "java/lang/invoke/MethodHandle" ∧ yX5_lie.cls ≠ "java/lang/invoke/VarHandle" ∧ (parseMethodDescriptor yX5_lie.desc).map (fun d => d.parameters.length) = some 3 := ⟨rfl, hs_X5_lie⟩
theorem hs_X5_isEight : yX5_isEight.cls ≠ "java/lang/invoke/MethodHandle" ∧ yX5_isEight.cls ≠ "java/lang/invoke/VarHandle" ∧ (parseMethodDescriptor yX5_isEight.desc).map (fun d => d.parameters.length) = some 1 := by decide +kernel
theorem hv_X5_isEight : yX5_isEight.cls = RX5 ∧ yX5_isEight.cls ≠ "java/lang/invoke/MethodHandle" ∧ yX5_isEight.cls ≠ "java/lang/invoke/VarHandle" ∧ (parseMethodDescriptor yX5_isEight.desc).map (fun d => d.parameters.length) = some 1 := ⟨rfl, hs_X5_isEight⟩
theorem hs_X5_letting : yX5_letting.cls ≠ "java/lang/invoke/MethodHandle" ∧ yX5_letting.cls ≠ "java/lang/invoke/VarHandle" ∧ (parseMethodDescriptor yX5_letting.desc).map (fun d => d.parameters.length) = some 3 := by decide +kernel
theorem hv_X5_letting : yX5_letting.cls = RX5 ∧ yX5_letting.cls ≠ "java/lang/invoke/MethodHandle" ∧ yX5_letting.cls ≠ "java/lang/invoke/VarHandle" ∧ (parseMethodDescriptor yX5_letting.desc).map (fun d => d.parameters.length) = some 3 := ⟨rfl, hs_X5_letting⟩
theorem hs_X5_back : yX5_back.cls ≠ "java/lang/invoke/MethodHandle" ∧ yX5_back.cls ≠ "java/lang/invoke/VarHandle" ∧ (parseMethodDescriptor yX5_back.desc).map (fun d => d.parameters.length) = some 1 := by decide +kernel
theorem hv_X5_back : yX5_back.cls = RX5 ∧ yX5_back.cls ≠ "java/lang/invoke/MethodHandle" ∧ yX5_back.cls ≠ "java/lang/invoke/VarHandle" ∧ (parseMethodDescriptor yX5_back.desc).map (fun d => d.parameters.length) = some 1 := ⟨rfl, hs_X5_back⟩
theorem hs_X5_read : yX5_read.cls ≠ "java/lang/invoke/MethodHandle" ∧ yX5_read.cls ≠ "java/lang/invoke/VarHandle" ∧ (parseMethodDescriptor yX5_read.desc).map (fun d => d.parameters.length) = some 1 := by decide +kernel
theorem hv_X5_read : yX5_read.cls = RX5 ∧ yX5_read.cls ≠ "java/lang/invoke/MethodHandle" ∧ yX5_read.cls ≠ "java/lang/invoke/VarHandle" ∧ (parseMethodDescriptor yX5_read.desc).map (fun d => d.parameters.length) = some 1 := ⟨rfl, hs_X5_read⟩
theorem hs_X5_isSheet : yX5_isSheet.cls ≠ "java/lang/invoke/MethodHandle" ∧ yX5_isSheet.cls ≠ "java/lang/invoke/VarHandle" ∧ (parseMethodDescriptor yX5_isSheet.desc).map (fun d => d.parameters.length) = some 1 := by decide +kernel
theorem hv_X5_isSheet : yX5_isSheet.cls = RX5 ∧ yX5_isSheet.cls ≠ "java/lang/invoke/MethodHandle" ∧ yX5_isSheet.cls ≠ "java/lang/invoke/VarHandle" ∧ (parseMethodDescriptor yX5_isSheet.desc).map (fun d => d.parameters.length) = some 1 := ⟨rfl, hs_X5_isSheet⟩
theorem hs_X5_meets : yX5_meets.cls ≠ "java/lang/invoke/MethodHandle" ∧ yX5_meets.cls ≠ "java/lang/invoke/VarHandle" ∧ (parseMethodDescriptor yX5_meets.desc).map (fun d => d.parameters.length) = some 1 := by decide +kernel
theorem hv_X5_meets : yX5_meets.cls = RX5 ∧ yX5_meets.cls ≠ "java/lang/invoke/MethodHandle" ∧ yX5_meets.cls ≠ "java/lang/invoke/VarHandle" ∧ (parseMethodDescriptor yX5_meets.desc).map (fun d => d.parameters.length) = some 1 := ⟨rfl, hs_X5_meets⟩
theorem hs_X5_coat : yX5_coat.cls ≠ "java/lang/invoke/MethodHandle" ∧ yX5_coat.cls ≠ "java/lang/invoke/VarHandle" ∧ (parseMethodDescriptor yX5_coat.desc).map (fun d => d.parameters.length) = some 3 := by decide +kernel
theorem hv_X5_coat : yX5_coat.cls = RX5 ∧ yX5_coat.cls ≠ "java/lang/invoke/MethodHandle" ∧ yX5_coat.cls ≠ "java/lang/invoke/VarHandle" ∧ (parseMethodDescriptor yX5_coat.desc).map (fun d => d.parameters.length) = some 3 := ⟨rfl, hs_X5_coat⟩
theorem hs_X5_coatOf : yX5_coatOf.cls ≠ "java/lang/invoke/MethodHandle" ∧ yX5_coatOf.cls ≠ "java/lang/invoke/VarHandle" ∧ (parseMethodDescriptor yX5_coatOf.desc).map (fun d => d.parameters.length) = some 3 := by decide +kernel
theorem hv_X5_coatOf : yX5_coatOf.cls = RX5 ∧ yX5_coatOf.cls ≠ "java/lang/invoke/MethodHandle" ∧ yX5_coatOf.cls ≠ "java/lang/invoke/VarHandle" ∧ (parseMethodDescriptor yX5_coatOf.desc).map (fun d => d.parameters.length) = some 3 := ⟨rfl, hs_X5_coatOf⟩
theorem hs_X5_runsTold : yX5_runsTold.cls ≠ "java/lang/invoke/MethodHandle" ∧ yX5_runsTold.cls ≠ "java/lang/invoke/VarHandle" ∧ (parseMethodDescriptor yX5_runsTold.desc).map (fun d => d.parameters.length) = some 0 := by decide +kernel
theorem hv_X5_runsTold : yX5_runsTold.cls = RX5 ∧ yX5_runsTold.cls ≠ "java/lang/invoke/MethodHandle" ∧ yX5_runsTold.cls ≠ "java/lang/invoke/VarHandle" ∧ (parseMethodDescriptor yX5_runsTold.desc).map (fun d => d.parameters.length) = some 0 := ⟨rfl, hs_X5_runsTold⟩
theorem hs_X5_asTold : yX5_asTold.cls ≠ "java/lang/invoke/MethodHandle" ∧ yX5_asTold.cls ≠ "java/lang/invoke/VarHandle" ∧ (parseMethodDescriptor yX5_asTold.desc).map (fun d => d.parameters.length) = some 0 := by decide +kernel
theorem hv_X5_asTold : yX5_asTold.cls = RX5 ∧ yX5_asTold.cls ≠ "java/lang/invoke/MethodHandle" ∧ yX5_asTold.cls ≠ "java/lang/invoke/VarHandle" ∧ (parseMethodDescriptor yX5_asTold.desc).map (fun d => d.parameters.length) = some 0 := ⟨rfl, hs_X5_asTold⟩
theorem hs_X5_runs : yX5_runs.cls ≠ "java/lang/invoke/MethodHandle" ∧ yX5_runs.cls ≠ "java/lang/invoke/VarHandle" ∧ (parseMethodDescriptor yX5_runs.desc).map (fun d => d.parameters.length) = some 0 := by decide +kernel
theorem hv_X5_runs : yX5_runs.cls = RX5 ∧ yX5_runs.cls ≠ "java/lang/invoke/MethodHandle" ∧ yX5_runs.cls ≠ "java/lang/invoke/VarHandle" ∧ (parseMethodDescriptor yX5_runs.desc).map (fun d => d.parameters.length) = some 0 := ⟨rfl, hs_X5_runs⟩
theorem hs_X5_goesBy : yX5_goesBy.cls ≠ "java/lang/invoke/MethodHandle" ∧ yX5_goesBy.cls ≠ "java/lang/invoke/VarHandle" ∧ (parseMethodDescriptor yX5_goesBy.desc).map (fun d => d.parameters.length) = some 1 := by decide +kernel
theorem hv_X5_goesBy : yX5_goesBy.cls = RX5 ∧ yX5_goesBy.cls ≠ "java/lang/invoke/MethodHandle" ∧ yX5_goesBy.cls ≠ "java/lang/invoke/VarHandle" ∧ (parseMethodDescriptor yX5_goesBy.desc).map (fun d => d.parameters.length) = some 1 := ⟨rfl, hs_X5_goesBy⟩
theorem hs_X5_makes : yX5_makes.cls ≠ "java/lang/invoke/MethodHandle" ∧ yX5_makes.cls ≠ "java/lang/invoke/VarHandle" ∧ (parseMethodDescriptor yX5_makes.desc).map (fun d => d.parameters.length) = some 1 := by decide +kernel
theorem hv_X5_makes : yX5_makes.cls = RX5 ∧ yX5_makes.cls ≠ "java/lang/invoke/MethodHandle" ∧ yX5_makes.cls ≠ "java/lang/invoke/VarHandle" ∧ (parseMethodDescriptor yX5_makes.desc).map (fun d => d.parameters.length) = some 1 := ⟨rfl, hs_X5_makes⟩
theorem hs_X5_lengthOf : yX5_lengthOf.cls ≠ "java/lang/invoke/MethodHandle" ∧ yX5_lengthOf.cls ≠ "java/lang/invoke/VarHandle" ∧ (parseMethodDescriptor yX5_lengthOf.desc).map (fun d => d.parameters.length) = some 1 := by decide +kernel
theorem hv_X5_lengthOf : yX5_lengthOf.cls = RX5 ∧ yX5_lengthOf.cls ≠ "java/lang/invoke/MethodHandle" ∧ yX5_lengthOf.cls ≠ "java/lang/invoke/VarHandle" ∧ (parseMethodDescriptor yX5_lengthOf.desc).map (fun d => d.parameters.length) = some 1 := ⟨rfl, hs_X5_lengthOf⟩
theorem hs_X5_changes : yX5_changes.cls ≠ "java/lang/invoke/MethodHandle" ∧ yX5_changes.cls ≠ "java/lang/invoke/VarHandle" ∧ (parseMethodDescriptor yX5_changes.desc).map (fun d => d.parameters.length) = some 2 := by decide +kernel
theorem hv_X5_changes : yX5_changes.cls = RX5 ∧ yX5_changes.cls ≠ "java/lang/invoke/MethodHandle" ∧ yX5_changes.cls ≠ "java/lang/invoke/VarHandle" ∧ (parseMethodDescriptor yX5_changes.desc).map (fun d => d.parameters.length) = some 2 := ⟨rfl, hs_X5_changes⟩
theorem hs_X5_keepsOn : yX5_keepsOn.cls ≠ "java/lang/invoke/MethodHandle" ∧ yX5_keepsOn.cls ≠ "java/lang/invoke/VarHandle" ∧ (parseMethodDescriptor yX5_keepsOn.desc).map (fun d => d.parameters.length) = some 1 := by decide +kernel
theorem hv_X5_keepsOn : yX5_keepsOn.cls = RX5 ∧ yX5_keepsOn.cls ≠ "java/lang/invoke/MethodHandle" ∧ yX5_keepsOn.cls ≠ "java/lang/invoke/VarHandle" ∧ (parseMethodDescriptor yX5_keepsOn.desc).map (fun d => d.parameters.length) = some 1 := ⟨rfl, hs_X5_keepsOn⟩
theorem hs_X5_isIn : yX5_isIn.cls ≠ "java/lang/invoke/MethodHandle" ∧ yX5_isIn.cls ≠ "java/lang/invoke/VarHandle" ∧ (parseMethodDescriptor yX5_isIn.desc).map (fun d => d.parameters.length) = some 2 := by decide +kernel
theorem hv_X5_isIn : yX5_isIn.cls = RX5 ∧ yX5_isIn.cls ≠ "java/lang/invoke/MethodHandle" ∧ yX5_isIn.cls ≠ "java/lang/invoke/VarHandle" ∧ (parseMethodDescriptor yX5_isIn.desc).map (fun d => d.parameters.length) = some 2 := ⟨rfl, hs_X5_isIn⟩
theorem hs_X5_isKept : yX5_isKept.cls ≠ "java/lang/invoke/MethodHandle" ∧ yX5_isKept.cls ≠ "java/lang/invoke/VarHandle" ∧ (parseMethodDescriptor yX5_isKept.desc).map (fun d => d.parameters.length) = some 1 := by decide +kernel
theorem hv_X5_isKept : yX5_isKept.cls = RX5 ∧ yX5_isKept.cls ≠ "java/lang/invoke/MethodHandle" ∧ yX5_isKept.cls ≠ "java/lang/invoke/VarHandle" ∧ (parseMethodDescriptor yX5_isKept.desc).map (fun d => d.parameters.length) = some 1 := ⟨rfl, hs_X5_isKept⟩
theorem hs_X5_breaks : yX5_breaks.cls ≠ "java/lang/invoke/MethodHandle" ∧ yX5_breaks.cls ≠ "java/lang/invoke/VarHandle" ∧ (parseMethodDescriptor yX5_breaks.desc).map (fun d => d.parameters.length) = some 1 := by decide +kernel
theorem hv_X5_breaks : yX5_breaks.cls = RX5 ∧ yX5_breaks.cls ≠ "java/lang/invoke/MethodHandle" ∧ yX5_breaks.cls ≠ "java/lang/invoke/VarHandle" ∧ (parseMethodDescriptor yX5_breaks.desc).map (fun d => d.parameters.length) = some 1 := ⟨rfl, hs_X5_breaks⟩
theorem hs_X5_fitsOn : yX5_fitsOn.cls ≠ "java/lang/invoke/MethodHandle" ∧ yX5_fitsOn.cls ≠ "java/lang/invoke/VarHandle" ∧ (parseMethodDescriptor yX5_fitsOn.desc).map (fun d => d.parameters.length) = some 2 := by decide +kernel
theorem hv_X5_fitsOn : yX5_fitsOn.cls = RX5 ∧ yX5_fitsOn.cls ≠ "java/lang/invoke/MethodHandle" ∧ yX5_fitsOn.cls ≠ "java/lang/invoke/VarHandle" ∧ (parseMethodDescriptor yX5_fitsOn.desc).map (fun d => d.parameters.length) = some 2 := ⟨rfl, hs_X5_fitsOn⟩
theorem hs_X5_stands : yX5_stands.cls ≠ "java/lang/invoke/MethodHandle" ∧ yX5_stands.cls ≠ "java/lang/invoke/VarHandle" ∧ (parseMethodDescriptor yX5_stands.desc).map (fun d => d.parameters.length) = some 2 := by decide +kernel
theorem hv_X5_stands : yX5_stands.cls = RX5 ∧ yX5_stands.cls ≠ "java/lang/invoke/MethodHandle" ∧ yX5_stands.cls ≠ "java/lang/invoke/VarHandle" ∧ (parseMethodDescriptor yX5_stands.desc).map (fun d => d.parameters.length) = some 2 := ⟨rfl, hs_X5_stands⟩
theorem hs_X5_standsOf : yX5_standsOf.cls ≠ "java/lang/invoke/MethodHandle" ∧ yX5_standsOf.cls ≠ "java/lang/invoke/VarHandle" ∧ (parseMethodDescriptor yX5_standsOf.desc).map (fun d => d.parameters.length) = some 2 := by decide +kernel
theorem hv_X5_standsOf : yX5_standsOf.cls = RX5 ∧ yX5_standsOf.cls ≠ "java/lang/invoke/MethodHandle" ∧ yX5_standsOf.cls ≠ "java/lang/invoke/VarHandle" ∧ (parseMethodDescriptor yX5_standsOf.desc).map (fun d => d.parameters.length) = some 2 := ⟨rfl, hs_X5_standsOf⟩
theorem hs_X5_neat : yX5_neat.cls ≠ "java/lang/invoke/MethodHandle" ∧ yX5_neat.cls ≠ "java/lang/invoke/VarHandle" ∧ (parseMethodDescriptor yX5_neat.desc).map (fun d => d.parameters.length) = some 1 := by decide +kernel
theorem hv_X5_neat : yX5_neat.cls = RX5 ∧ yX5_neat.cls ≠ "java/lang/invoke/MethodHandle" ∧ yX5_neat.cls ≠ "java/lang/invoke/VarHandle" ∧ (parseMethodDescriptor yX5_neat.desc).map (fun d => d.parameters.length) = some 1 := ⟨rfl, hs_X5_neat⟩
theorem hs_X5_neatOf : yX5_neatOf.cls ≠ "java/lang/invoke/MethodHandle" ∧ yX5_neatOf.cls ≠ "java/lang/invoke/VarHandle" ∧ (parseMethodDescriptor yX5_neatOf.desc).map (fun d => d.parameters.length) = some 1 := by decide +kernel
theorem hv_X5_neatOf : yX5_neatOf.cls = RX5 ∧ yX5_neatOf.cls ≠ "java/lang/invoke/MethodHandle" ∧ yX5_neatOf.cls ≠ "java/lang/invoke/VarHandle" ∧ (parseMethodDescriptor yX5_neatOf.desc).map (fun d => d.parameters.length) = some 1 := ⟨rfl, hs_X5_neatOf⟩
theorem hs_X5_naked : yX5_naked.cls ≠ "java/lang/invoke/MethodHandle" ∧ yX5_naked.cls ≠ "java/lang/invoke/VarHandle" ∧ (parseMethodDescriptor yX5_naked.desc).map (fun d => d.parameters.length) = some 1 := by decide +kernel
theorem hv_X5_naked : yX5_naked.cls = RX5 ∧ yX5_naked.cls ≠ "java/lang/invoke/MethodHandle" ∧ yX5_naked.cls ≠ "java/lang/invoke/VarHandle" ∧ (parseMethodDescriptor yX5_naked.desc).map (fun d => d.parameters.length) = some 1 := ⟨rfl, hs_X5_naked⟩
theorem hs_X5_nakedOf : yX5_nakedOf.cls ≠ "java/lang/invoke/MethodHandle" ∧ yX5_nakedOf.cls ≠ "java/lang/invoke/VarHandle" ∧ (parseMethodDescriptor yX5_nakedOf.desc).map (fun d => d.parameters.length) = some 1 := by decide +kernel
theorem hv_X5_nakedOf : yX5_nakedOf.cls = RX5 ∧ yX5_nakedOf.cls ≠ "java/lang/invoke/MethodHandle" ∧ yX5_nakedOf.cls ≠ "java/lang/invoke/VarHandle" ∧ (parseMethodDescriptor yX5_nakedOf.desc).map (fun d => d.parameters.length) = some 1 := ⟨rfl, hs_X5_nakedOf⟩
theorem hs_X5_nakedNow : yX5_nakedNow.cls ≠ "java/lang/invoke/MethodHandle" ∧ yX5_nakedNow.cls ≠ "java/lang/invoke/VarHandle" ∧ (parseMethodDescriptor yX5_nakedNow.desc).map (fun d => d.parameters.length) = some 1 := by decide +kernel
theorem hv_X5_nakedNow : yX5_nakedNow.cls = RX5 ∧ yX5_nakedNow.cls ≠ "java/lang/invoke/MethodHandle" ∧ yX5_nakedNow.cls ≠ "java/lang/invoke/VarHandle" ∧ (parseMethodDescriptor yX5_nakedNow.desc).map (fun d => d.parameters.length) = some 1 := ⟨rfl, hs_X5_nakedNow⟩
theorem hs_X5_longest : yX5_longest.cls ≠ "java/lang/invoke/MethodHandle" ∧ yX5_longest.cls ≠ "java/lang/invoke/VarHandle" ∧ (parseMethodDescriptor yX5_longest.desc).map (fun d => d.parameters.length) = some 1 := by decide +kernel
theorem hv_X5_longest : yX5_longest.cls = RX5 ∧ yX5_longest.cls ≠ "java/lang/invoke/MethodHandle" ∧ yX5_longest.cls ≠ "java/lang/invoke/VarHandle" ∧ (parseMethodDescriptor yX5_longest.desc).map (fun d => d.parameters.length) = some 1 := ⟨rfl, hs_X5_longest⟩
theorem hs_X5_longestOf : yX5_longestOf.cls ≠ "java/lang/invoke/MethodHandle" ∧ yX5_longestOf.cls ≠ "java/lang/invoke/VarHandle" ∧ (parseMethodDescriptor yX5_longestOf.desc).map (fun d => d.parameters.length) = some 1 := by decide +kernel
theorem hv_X5_longestOf : yX5_longestOf.cls = RX5 ∧ yX5_longestOf.cls ≠ "java/lang/invoke/MethodHandle" ∧ yX5_longestOf.cls ≠ "java/lang/invoke/VarHandle" ∧ (parseMethodDescriptor yX5_longestOf.desc).map (fun d => d.parameters.length) = some 1 := ⟨rfl, hs_X5_longestOf⟩
theorem hs_X5_splits : yX5_splits.cls ≠ "java/lang/invoke/MethodHandle" ∧ yX5_splits.cls ≠ "java/lang/invoke/VarHandle" ∧ (parseMethodDescriptor yX5_splits.desc).map (fun d => d.parameters.length) = some 0 := by decide +kernel
theorem hv_X5_splits : yX5_splits.cls = RX5 ∧ yX5_splits.cls ≠ "java/lang/invoke/MethodHandle" ∧ yX5_splits.cls ≠ "java/lang/invoke/VarHandle" ∧ (parseMethodDescriptor yX5_splits.desc).map (fun d => d.parameters.length) = some 0 := ⟨rfl, hs_X5_splits⟩
theorem hs_X5_splitsOf : yX5_splitsOf.cls ≠ "java/lang/invoke/MethodHandle" ∧ yX5_splitsOf.cls ≠ "java/lang/invoke/VarHandle" ∧ (parseMethodDescriptor yX5_splitsOf.desc).map (fun d => d.parameters.length) = some 0 := by decide +kernel
theorem hv_X5_splitsOf : yX5_splitsOf.cls = RX5 ∧ yX5_splitsOf.cls ≠ "java/lang/invoke/MethodHandle" ∧ yX5_splitsOf.cls ≠ "java/lang/invoke/VarHandle" ∧ (parseMethodDescriptor yX5_splitsOf.desc).map (fun d => d.parameters.length) = some 0 := ⟨rfl, hs_X5_splitsOf⟩
theorem hs_X5_tearsAll : yX5_tearsAll.cls ≠ "java/lang/invoke/MethodHandle" ∧ yX5_tearsAll.cls ≠ "java/lang/invoke/VarHandle" ∧ (parseMethodDescriptor yX5_tearsAll.desc).map (fun d => d.parameters.length) = some 0 := by decide +kernel
theorem hv_X5_tearsAll : yX5_tearsAll.cls = RX5 ∧ yX5_tearsAll.cls ≠ "java/lang/invoke/MethodHandle" ∧ yX5_tearsAll.cls ≠ "java/lang/invoke/VarHandle" ∧ (parseMethodDescriptor yX5_tearsAll.desc).map (fun d => d.parameters.length) = some 0 := ⟨rfl, hs_X5_tearsAll⟩
theorem hs_X5_best : yX5_best.cls ≠ "java/lang/invoke/MethodHandle" ∧ yX5_best.cls ≠ "java/lang/invoke/VarHandle" ∧ (parseMethodDescriptor yX5_best.desc).map (fun d => d.parameters.length) = some 0 := by decide +kernel
theorem hv_X5_best : yX5_best.cls = RX5 ∧ yX5_best.cls ≠ "java/lang/invoke/MethodHandle" ∧ yX5_best.cls ≠ "java/lang/invoke/VarHandle" ∧ (parseMethodDescriptor yX5_best.desc).map (fun d => d.parameters.length) = some 0 := ⟨rfl, hs_X5_best⟩
theorem hs_X5_bestNow : yX5_bestNow.cls ≠ "java/lang/invoke/MethodHandle" ∧ yX5_bestNow.cls ≠ "java/lang/invoke/VarHandle" ∧ (parseMethodDescriptor yX5_bestNow.desc).map (fun d => d.parameters.length) = some 0 := by decide +kernel
theorem hv_X5_bestNow : yX5_bestNow.cls = RX5 ∧ yX5_bestNow.cls ≠ "java/lang/invoke/MethodHandle" ∧ yX5_bestNow.cls ≠ "java/lang/invoke/VarHandle" ∧ (parseMethodDescriptor yX5_bestNow.desc).map (fun d => d.parameters.length) = some 0 := ⟨rfl, hs_X5_bestNow⟩
theorem hs_X5_fitMany : yX5_fitMany.cls ≠ "java/lang/invoke/MethodHandle" ∧ yX5_fitMany.cls ≠ "java/lang/invoke/VarHandle" ∧ (parseMethodDescriptor yX5_fitMany.desc).map (fun d => d.parameters.length) = some 1 := by decide +kernel
theorem hv_X5_fitMany : yX5_fitMany.cls = RX5 ∧ yX5_fitMany.cls ≠ "java/lang/invoke/MethodHandle" ∧ yX5_fitMany.cls ≠ "java/lang/invoke/VarHandle" ∧ (parseMethodDescriptor yX5_fitMany.desc).map (fun d => d.parameters.length) = some 1 := ⟨rfl, hs_X5_fitMany⟩
theorem hs_X5_swear : yX5_swear.cls ≠ "java/lang/invoke/MethodHandle" ∧ yX5_swear.cls ≠ "java/lang/invoke/VarHandle" ∧ (parseMethodDescriptor yX5_swear.desc).map (fun d => d.parameters.length) = some 2 := by decide +kernel
theorem hv_X5_swear : yX5_swear.cls = RX5 ∧ yX5_swear.cls ≠ "java/lang/invoke/MethodHandle" ∧ yX5_swear.cls ≠ "java/lang/invoke/VarHandle" ∧ (parseMethodDescriptor yX5_swear.desc).map (fun d => d.parameters.length) = some 2 := ⟨rfl, hs_X5_swear⟩
theorem hs_X5_swearOf : yX5_swearOf.cls ≠ "java/lang/invoke/MethodHandle" ∧ yX5_swearOf.cls ≠ "java/lang/invoke/VarHandle" ∧ (parseMethodDescriptor yX5_swearOf.desc).map (fun d => d.parameters.length) = some 2 := by decide +kernel
theorem hv_X5_swearOf : yX5_swearOf.cls = RX5 ∧ yX5_swearOf.cls ≠ "java/lang/invoke/MethodHandle" ∧ yX5_swearOf.cls ≠ "java/lang/invoke/VarHandle" ∧ (parseMethodDescriptor yX5_swearOf.desc).map (fun d => d.parameters.length) = some 2 := ⟨rfl, hs_X5_swearOf⟩
theorem hs_X5_keep : yX5_keep.cls ≠ "java/lang/invoke/MethodHandle" ∧ yX5_keep.cls ≠ "java/lang/invoke/VarHandle" ∧ (parseMethodDescriptor yX5_keep.desc).map (fun d => d.parameters.length) = some 2 := by decide +kernel
theorem hv_X5_keep : yX5_keep.cls = RX5 ∧ yX5_keep.cls ≠ "java/lang/invoke/MethodHandle" ∧ yX5_keep.cls ≠ "java/lang/invoke/VarHandle" ∧ (parseMethodDescriptor yX5_keep.desc).map (fun d => d.parameters.length) = some 2 := ⟨rfl, hs_X5_keep⟩
theorem hs_X5_keepBest : yX5_keepBest.cls ≠ "java/lang/invoke/MethodHandle" ∧ yX5_keepBest.cls ≠ "java/lang/invoke/VarHandle" ∧ (parseMethodDescriptor yX5_keepBest.desc).map (fun d => d.parameters.length) = some 2 := by decide +kernel
theorem hv_X5_keepBest : yX5_keepBest.cls = RX5 ∧ yX5_keepBest.cls ≠ "java/lang/invoke/MethodHandle" ∧ yX5_keepBest.cls ≠ "java/lang/invoke/VarHandle" ∧ (parseMethodDescriptor yX5_keepBest.desc).map (fun d => d.parameters.length) = some 2 := ⟨rfl, hs_X5_keepBest⟩
theorem hs_X5_due : yX5_due.cls ≠ "java/lang/invoke/MethodHandle" ∧ yX5_due.cls ≠ "java/lang/invoke/VarHandle" ∧ (parseMethodDescriptor yX5_due.desc).map (fun d => d.parameters.length) = some 2 := by decide +kernel
theorem hv_X5_due : yX5_due.cls = RX5 ∧ yX5_due.cls ≠ "java/lang/invoke/MethodHandle" ∧ yX5_due.cls ≠ "java/lang/invoke/VarHandle" ∧ (parseMethodDescriptor yX5_due.desc).map (fun d => d.parameters.length) = some 2 := ⟨rfl, hs_X5_due⟩
theorem hs_X5_dueOf : yX5_dueOf.cls ≠ "java/lang/invoke/MethodHandle" ∧ yX5_dueOf.cls ≠ "java/lang/invoke/VarHandle" ∧ (parseMethodDescriptor yX5_dueOf.desc).map (fun d => d.parameters.length) = some 2 := by decide +kernel
theorem hv_X5_dueOf : yX5_dueOf.cls = RX5 ∧ yX5_dueOf.cls ≠ "java/lang/invoke/MethodHandle" ∧ yX5_dueOf.cls ≠ "java/lang/invoke/VarHandle" ∧ (parseMethodDescriptor yX5_dueOf.desc).map (fun d => d.parameters.length) = some 2 := ⟨rfl, hs_X5_dueOf⟩
theorem hs_X5_hush : yX5_hush.cls ≠ "java/lang/invoke/MethodHandle" ∧ yX5_hush.cls ≠ "java/lang/invoke/VarHandle" ∧ (parseMethodDescriptor yX5_hush.desc).map (fun d => d.parameters.length) = some 1 := by decide +kernel
theorem hv_X5_hush : yX5_hush.cls = RX5 ∧ yX5_hush.cls ≠ "java/lang/invoke/MethodHandle" ∧ yX5_hush.cls ≠ "java/lang/invoke/VarHandle" ∧ (parseMethodDescriptor yX5_hush.desc).map (fun d => d.parameters.length) = some 1 := ⟨rfl, hs_X5_hush⟩
theorem hs_X5_hushBy : yX5_hushBy.cls ≠ "java/lang/invoke/MethodHandle" ∧ yX5_hushBy.cls ≠ "java/lang/invoke/VarHandle" ∧ (parseMethodDescriptor yX5_hushBy.desc).map (fun d => d.parameters.length) = some 0 := by decide +kernel
theorem hv_X5_hushBy : yX5_hushBy.cls = RX5 ∧ yX5_hushBy.cls ≠ "java/lang/invoke/MethodHandle" ∧ yX5_hushBy.cls ≠ "java/lang/invoke/VarHandle" ∧ (parseMethodDescriptor yX5_hushBy.desc).map (fun d => d.parameters.length) = some 0 := ⟨rfl, hs_X5_hushBy⟩
theorem hs_X5_isHushed : yX5_isHushed.cls ≠ "java/lang/invoke/MethodHandle" ∧ yX5_isHushed.cls ≠ "java/lang/invoke/VarHandle" ∧ (parseMethodDescriptor yX5_isHushed.desc).map (fun d => d.parameters.length) = some 1 := by decide +kernel
theorem hv_X5_isHushed : yX5_isHushed.cls = RX5 ∧ yX5_isHushed.cls ≠ "java/lang/invoke/MethodHandle" ∧ yX5_isHushed.cls ≠ "java/lang/invoke/VarHandle" ∧ (parseMethodDescriptor yX5_isHushed.desc).map (fun d => d.parameters.length) = some 1 := ⟨rfl, hs_X5_isHushed⟩
theorem hs_X5_ofRow : yX5_ofRow.cls ≠ "java/lang/invoke/MethodHandle" ∧ yX5_ofRow.cls ≠ "java/lang/invoke/VarHandle" ∧ (parseMethodDescriptor yX5_ofRow.desc).map (fun d => d.parameters.length) = some 2 := by decide +kernel
theorem hv_X5_ofRow : yX5_ofRow.cls = RX5 ∧ yX5_ofRow.cls ≠ "java/lang/invoke/MethodHandle" ∧ yX5_ofRow.cls ≠ "java/lang/invoke/VarHandle" ∧ (parseMethodDescriptor yX5_ofRow.desc).map (fun d => d.parameters.length) = some 2 := ⟨rfl, hs_X5_ofRow⟩
theorem hs_X5_seen : yX5_seen.cls ≠ "java/lang/invoke/MethodHandle" ∧ yX5_seen.cls ≠ "java/lang/invoke/VarHandle" ∧ (parseMethodDescriptor yX5_seen.desc).map (fun d => d.parameters.length) = some 3 := by decide +kernel
theorem hv_X5_seen : yX5_seen.cls = RX5 ∧ yX5_seen.cls ≠ "java/lang/invoke/MethodHandle" ∧ yX5_seen.cls ≠ "java/lang/invoke/VarHandle" ∧ (parseMethodDescriptor yX5_seen.desc).map (fun d => d.parameters.length) = some 3 := ⟨rfl, hs_X5_seen⟩
theorem hs_X5_forget : yX5_forget.cls ≠ "java/lang/invoke/MethodHandle" ∧ yX5_forget.cls ≠ "java/lang/invoke/VarHandle" ∧ (parseMethodDescriptor yX5_forget.desc).map (fun d => d.parameters.length) = some 0 := by decide +kernel
theorem hv_X5_forget : yX5_forget.cls = RX5 ∧ yX5_forget.cls ≠ "java/lang/invoke/MethodHandle" ∧ yX5_forget.cls ≠ "java/lang/invoke/VarHandle" ∧ (parseMethodDescriptor yX5_forget.desc).map (fun d => d.parameters.length) = some 0 := ⟨rfl, hs_X5_forget⟩
theorem hs_X5_never : yX5_never.cls ≠ "java/lang/invoke/MethodHandle" ∧ yX5_never.cls ≠ "java/lang/invoke/VarHandle" ∧ (parseMethodDescriptor yX5_never.desc).map (fun d => d.parameters.length) = some 0 := by decide +kernel
theorem hv_X5_never : yX5_never.cls = RX5 ∧ yX5_never.cls ≠ "java/lang/invoke/MethodHandle" ∧ yX5_never.cls ≠ "java/lang/invoke/VarHandle" ∧ (parseMethodDescriptor yX5_never.desc).map (fun d => d.parameters.length) = some 0 := ⟨rfl, hs_X5_never⟩
theorem hs_X5_neverNow : yX5_neverNow.cls ≠ "java/lang/invoke/MethodHandle" ∧ yX5_neverNow.cls ≠ "java/lang/invoke/VarHandle" ∧ (parseMethodDescriptor yX5_neverNow.desc).map (fun d => d.parameters.length) = some 0 := by decide +kernel
theorem hv_X5_neverNow : yX5_neverNow.cls = RX5 ∧ yX5_neverNow.cls ≠ "java/lang/invoke/MethodHandle" ∧ yX5_neverNow.cls ≠ "java/lang/invoke/VarHandle" ∧ (parseMethodDescriptor yX5_neverNow.desc).map (fun d => d.parameters.length) = some 0 := ⟨rfl, hs_X5_neverNow⟩
theorem hs_X5_isSeen : yX5_isSeen.cls ≠ "java/lang/invoke/MethodHandle" ∧ yX5_isSeen.cls ≠ "java/lang/invoke/VarHandle" ∧ (parseMethodDescriptor yX5_isSeen.desc).map (fun d => d.parameters.length) = some 0 := by decide +kernel
theorem hv_X5_isSeen : yX5_isSeen.cls = RX5 ∧ yX5_isSeen.cls ≠ "java/lang/invoke/MethodHandle" ∧ yX5_isSeen.cls ≠ "java/lang/invoke/VarHandle" ∧ (parseMethodDescriptor yX5_isSeen.desc).map (fun d => d.parameters.length) = some 0 := ⟨rfl, hs_X5_isSeen⟩
theorem hs_X5_was : yX5_was.cls ≠ "java/lang/invoke/MethodHandle" ∧ yX5_was.cls ≠ "java/lang/invoke/VarHandle" ∧ (parseMethodDescriptor yX5_was.desc).map (fun d => d.parameters.length) = some 2 := by decide +kernel
theorem hv_X5_was : yX5_was.cls = RX5 ∧ yX5_was.cls ≠ "java/lang/invoke/MethodHandle" ∧ yX5_was.cls ≠ "java/lang/invoke/VarHandle" ∧ (parseMethodDescriptor yX5_was.desc).map (fun d => d.parameters.length) = some 2 := ⟨rfl, hs_X5_was⟩
theorem hs_X5_sizesBy : yX5_sizesBy.cls ≠ "java/lang/invoke/MethodHandle" ∧ yX5_sizesBy.cls ≠ "java/lang/invoke/VarHandle" ∧ (parseMethodDescriptor yX5_sizesBy.desc).map (fun d => d.parameters.length) = some 1 := by decide +kernel
theorem hv_X5_sizesBy : yX5_sizesBy.cls = RX5 ∧ yX5_sizesBy.cls ≠ "java/lang/invoke/MethodHandle" ∧ yX5_sizesBy.cls ≠ "java/lang/invoke/VarHandle" ∧ (parseMethodDescriptor yX5_sizesBy.desc).map (fun d => d.parameters.length) = some 1 := ⟨rfl, hs_X5_sizesBy⟩
theorem hs_X5_sortsBy : yX5_sortsBy.cls ≠ "java/lang/invoke/MethodHandle" ∧ yX5_sortsBy.cls ≠ "java/lang/invoke/VarHandle" ∧ (parseMethodDescriptor yX5_sortsBy.desc).map (fun d => d.parameters.length) = some 1 := by decide +kernel
theorem hv_X5_sortsBy : yX5_sortsBy.cls = RX5 ∧ yX5_sortsBy.cls ≠ "java/lang/invoke/MethodHandle" ∧ yX5_sortsBy.cls ≠ "java/lang/invoke/VarHandle" ∧ (parseMethodDescriptor yX5_sortsBy.desc).map (fun d => d.parameters.length) = some 1 := ⟨rfl, hs_X5_sortsBy⟩
theorem hs_X5_ask : yX5_ask.cls ≠ "java/lang/invoke/MethodHandle" ∧ yX5_ask.cls ≠ "java/lang/invoke/VarHandle" ∧ (parseMethodDescriptor yX5_ask.desc).map (fun d => d.parameters.length) = some 1 := by decide +kernel
theorem hv_X5_ask : yX5_ask.cls = RX5 ∧ yX5_ask.cls ≠ "java/lang/invoke/MethodHandle" ∧ yX5_ask.cls ≠ "java/lang/invoke/VarHandle" ∧ (parseMethodDescriptor yX5_ask.desc).map (fun d => d.parameters.length) = some 1 := ⟨rfl, hs_X5_ask⟩
theorem hs_X5_askOf : yX5_askOf.cls ≠ "java/lang/invoke/MethodHandle" ∧ yX5_askOf.cls ≠ "java/lang/invoke/VarHandle" ∧ (parseMethodDescriptor yX5_askOf.desc).map (fun d => d.parameters.length) = some 1 := by decide +kernel
theorem hv_X5_askOf : yX5_askOf.cls = RX5 ∧ yX5_askOf.cls ≠ "java/lang/invoke/MethodHandle" ∧ yX5_askOf.cls ≠ "java/lang/invoke/VarHandle" ∧ (parseMethodDescriptor yX5_askOf.desc).map (fun d => d.parameters.length) = some 1 := ⟨rfl, hs_X5_askOf⟩
theorem hs_X5_word : yX5_word.cls ≠ "java/lang/invoke/MethodHandle" ∧ yX5_word.cls ≠ "java/lang/invoke/VarHandle" ∧ (parseMethodDescriptor yX5_word.desc).map (fun d => d.parameters.length) = some 4 := by decide +kernel
theorem hv_X5_word : yX5_word.cls = RX5 ∧ yX5_word.cls ≠ "java/lang/invoke/MethodHandle" ∧ yX5_word.cls ≠ "java/lang/invoke/VarHandle" ∧ (parseMethodDescriptor yX5_word.desc).map (fun d => d.parameters.length) = some 4 := ⟨rfl, hs_X5_word⟩
theorem hs_X5_wordOf : yX5_wordOf.cls ≠ "java/lang/invoke/MethodHandle" ∧ yX5_wordOf.cls ≠ "java/lang/invoke/VarHandle" ∧ (parseMethodDescriptor yX5_wordOf.desc).map (fun d => d.parameters.length) = some 4 := by decide +kernel
theorem hv_X5_wordOf : yX5_wordOf.cls = RX5 ∧ yX5_wordOf.cls ≠ "java/lang/invoke/MethodHandle" ∧ yX5_wordOf.cls ≠ "java/lang/invoke/VarHandle" ∧ (parseMethodDescriptor yX5_wordOf.desc).map (fun d => d.parameters.length) = some 4 := ⟨rfl, hs_X5_wordOf⟩
theorem hs_X5_lowest : yX5_lowest.cls ≠ "java/lang/invoke/MethodHandle" ∧ yX5_lowest.cls ≠ "java/lang/invoke/VarHandle" ∧ (parseMethodDescriptor yX5_lowest.desc).map (fun d => d.parameters.length) = some 3 := by decide +kernel
theorem hv_X5_lowest : yX5_lowest.cls = RX5 ∧ yX5_lowest.cls ≠ "java/lang/invoke/MethodHandle" ∧ yX5_lowest.cls ≠ "java/lang/invoke/VarHandle" ∧ (parseMethodDescriptor yX5_lowest.desc).map (fun d => d.parameters.length) = some 3 := ⟨rfl, hs_X5_lowest⟩
theorem hs_X5_no : yX5_no.cls ≠ "java/lang/invoke/MethodHandle" ∧ yX5_no.cls ≠ "java/lang/invoke/VarHandle" ∧ (parseMethodDescriptor yX5_no.desc).map (fun d => d.parameters.length) = some 1 := by decide +kernel
theorem hv_X5_no : yX5_no.cls = RX5 ∧ yX5_no.cls ≠ "java/lang/invoke/MethodHandle" ∧ yX5_no.cls ≠ "java/lang/invoke/VarHandle" ∧ (parseMethodDescriptor yX5_no.desc).map (fun d => d.parameters.length) = some 1 := ⟨rfl, hs_X5_no⟩
theorem hs_X5_year : yX5_year.cls ≠ "java/lang/invoke/MethodHandle" ∧ yX5_year.cls ≠ "java/lang/invoke/VarHandle" ∧ (parseMethodDescriptor yX5_year.desc).map (fun d => d.parameters.length) = some 3 := by decide +kernel
theorem hv_X5_year : yX5_year.cls = RX5 ∧ yX5_year.cls ≠ "java/lang/invoke/MethodHandle" ∧ yX5_year.cls ≠ "java/lang/invoke/VarHandle" ∧ (parseMethodDescriptor yX5_year.desc).map (fun d => d.parameters.length) = some 3 := ⟨rfl, hs_X5_year⟩
theorem hs_X5_yearOf : yX5_yearOf.cls ≠ "java/lang/invoke/MethodHandle" ∧ yX5_yearOf.cls ≠ "java/lang/invoke/VarHandle" ∧ (parseMethodDescriptor yX5_yearOf.desc).map (fun d => d.parameters.length) = some 3 := by decide +kernel
theorem hv_X5_yearOf : yX5_yearOf.cls = RX5 ∧ yX5_yearOf.cls ≠ "java/lang/invoke/MethodHandle" ∧ yX5_yearOf.cls ≠ "java/lang/invoke/VarHandle" ∧ (parseMethodDescriptor yX5_yearOf.desc).map (fun d => d.parameters.length) = some 3 := ⟨rfl, hs_X5_yearOf⟩
theorem hs_X5_sheet : yX5_sheet.cls ≠ "java/lang/invoke/MethodHandle" ∧ yX5_sheet.cls ≠ "java/lang/invoke/VarHandle" ∧ (parseMethodDescriptor yX5_sheet.desc).map (fun d => d.parameters.length) = some 3 := by decide +kernel
theorem hv_X5_sheet : yX5_sheet.cls = RX5 ∧ yX5_sheet.cls ≠ "java/lang/invoke/MethodHandle" ∧ yX5_sheet.cls ≠ "java/lang/invoke/VarHandle" ∧ (parseMethodDescriptor yX5_sheet.desc).map (fun d => d.parameters.length) = some 3 := ⟨rfl, hs_X5_sheet⟩
theorem hs_X5_lose : yX5_lose.cls ≠ "java/lang/invoke/MethodHandle" ∧ yX5_lose.cls ≠ "java/lang/invoke/VarHandle" ∧ (parseMethodDescriptor yX5_lose.desc).map (fun d => d.parameters.length) = some 1 := by decide +kernel
theorem hv_X5_lose : yX5_lose.cls = RX5 ∧ yX5_lose.cls ≠ "java/lang/invoke/MethodHandle" ∧ yX5_lose.cls ≠ "java/lang/invoke/VarHandle" ∧ (parseMethodDescriptor yX5_lose.desc).map (fun d => d.parameters.length) = some 1 := ⟨rfl, hs_X5_lose⟩
theorem hs_X5_put : yX5_put.cls ≠ "java/lang/invoke/MethodHandle" ∧ yX5_put.cls ≠ "java/lang/invoke/VarHandle" ∧ (parseMethodDescriptor yX5_put.desc).map (fun d => d.parameters.length) = some 4 := by decide +kernel
theorem hv_X5_put : yX5_put.cls = RX5 ∧ yX5_put.cls ≠ "java/lang/invoke/MethodHandle" ∧ yX5_put.cls ≠ "java/lang/invoke/VarHandle" ∧ (parseMethodDescriptor yX5_put.desc).map (fun d => d.parameters.length) = some 4 := ⟨rfl, hs_X5_put⟩
theorem hs_X5_lacks : yX5_lacks.cls ≠ "java/lang/invoke/MethodHandle" ∧ yX5_lacks.cls ≠ "java/lang/invoke/VarHandle" ∧ (parseMethodDescriptor yX5_lacks.desc).map (fun d => d.parameters.length) = some 3 := by decide +kernel
theorem hv_X5_lacks : yX5_lacks.cls = RX5 ∧ yX5_lacks.cls ≠ "java/lang/invoke/MethodHandle" ∧ yX5_lacks.cls ≠ "java/lang/invoke/VarHandle" ∧ (parseMethodDescriptor yX5_lacks.desc).map (fun d => d.parameters.length) = some 3 := ⟨rfl, hs_X5_lacks⟩
theorem hs_X5_lays : yX5_lays.cls ≠ "java/lang/invoke/MethodHandle" ∧ yX5_lays.cls ≠ "java/lang/invoke/VarHandle" ∧ (parseMethodDescriptor yX5_lays.desc).map (fun d => d.parameters.length) = some 3 := by decide +kernel
theorem hv_X5_lays : yX5_lays.cls = RX5 ∧ yX5_lays.cls ≠ "java/lang/invoke/MethodHandle" ∧ yX5_lays.cls ≠ "java/lang/invoke/VarHandle" ∧ (parseMethodDescriptor yX5_lays.desc).map (fun d => d.parameters.length) = some 3 := ⟨rfl, hs_X5_lays⟩
theorem hs_X5_get : yX5_get.cls ≠ "java/lang/invoke/MethodHandle" ∧ yX5_get.cls ≠ "java/lang/invoke/VarHandle" ∧ (parseMethodDescriptor yX5_get.desc).map (fun d => d.parameters.length) = some 3 := by decide +kernel
theorem hv_X5_get : yX5_get.cls = RX5 ∧ yX5_get.cls ≠ "java/lang/invoke/MethodHandle" ∧ yX5_get.cls ≠ "java/lang/invoke/VarHandle" ∧ (parseMethodDescriptor yX5_get.desc).map (fun d => d.parameters.length) = some 3 := ⟨rfl, hs_X5_get⟩
theorem hs_X5_copy : yX5_copy.cls ≠ "java/lang/invoke/MethodHandle" ∧ yX5_copy.cls ≠ "java/lang/invoke/VarHandle" ∧ (parseMethodDescriptor yX5_copy.desc).map (fun d => d.parameters.length) = some 5 := by decide +kernel
theorem hv_X5_copy : yX5_copy.cls = RX5 ∧ yX5_copy.cls ≠ "java/lang/invoke/MethodHandle" ∧ yX5_copy.cls ≠ "java/lang/invoke/VarHandle" ∧ (parseMethodDescriptor yX5_copy.desc).map (fun d => d.parameters.length) = some 5 := ⟨rfl, hs_X5_copy⟩
theorem hs_X5_write : yX5_write.cls ≠ "java/lang/invoke/MethodHandle" ∧ yX5_write.cls ≠ "java/lang/invoke/VarHandle" ∧ (parseMethodDescriptor yX5_write.desc).map (fun d => d.parameters.length) = some 2 := by decide +kernel
theorem hv_X5_write : yX5_write.cls = RX5 ∧ yX5_write.cls ≠ "java/lang/invoke/MethodHandle" ∧ yX5_write.cls ≠ "java/lang/invoke/VarHandle" ∧ (parseMethodDescriptor yX5_write.desc).map (fun d => d.parameters.length) = some 2 := ⟨rfl, hs_X5_write⟩
theorem hs_X5_count : yX5_count.cls ≠ "java/lang/invoke/MethodHandle" ∧ yX5_count.cls ≠ "java/lang/invoke/VarHandle" ∧ (parseMethodDescriptor yX5_count.desc).map (fun d => d.parameters.length) = some 1 := by decide +kernel
theorem hv_X5_count : yX5_count.cls = RX5 ∧ yX5_count.cls ≠ "java/lang/invoke/MethodHandle" ∧ yX5_count.cls ≠ "java/lang/invoke/VarHandle" ∧ (parseMethodDescriptor yX5_count.desc).map (fun d => d.parameters.length) = some 1 := ⟨rfl, hs_X5_count⟩
theorem hs_X5_sumOf : yX5_sumOf.cls ≠ "java/lang/invoke/MethodHandle" ∧ yX5_sumOf.cls ≠ "java/lang/invoke/VarHandle" ∧ (parseMethodDescriptor yX5_sumOf.desc).map (fun d => d.parameters.length) = some 1 := by decide +kernel
theorem hv_X5_sumOf : yX5_sumOf.cls = RX5 ∧ yX5_sumOf.cls ≠ "java/lang/invoke/MethodHandle" ∧ yX5_sumOf.cls ≠ "java/lang/invoke/VarHandle" ∧ (parseMethodDescriptor yX5_sumOf.desc).map (fun d => d.parameters.length) = some 1 := ⟨rfl, hs_X5_sumOf⟩
theorem hs_X5_digest : yX5_digest.cls ≠ "java/lang/invoke/MethodHandle" ∧ yX5_digest.cls ≠ "java/lang/invoke/VarHandle" ∧ (parseMethodDescriptor yX5_digest.desc).map (fun d => d.parameters.length) = some 0 := by decide +kernel
theorem hv_X5_digest : yX5_digest.cls = RX5 ∧ yX5_digest.cls ≠ "java/lang/invoke/MethodHandle" ∧ yX5_digest.cls ≠ "java/lang/invoke/VarHandle" ∧ (parseMethodDescriptor yX5_digest.desc).map (fun d => d.parameters.length) = some 0 := ⟨rfl, hs_X5_digest⟩
theorem hs_X5_promiseDigest : yX5_promiseDigest.cls ≠ "java/lang/invoke/MethodHandle" ∧ yX5_promiseDigest.cls ≠ "java/lang/invoke/VarHandle" ∧ (parseMethodDescriptor yX5_promiseDigest.desc).map (fun d => d.parameters.length) = some 2 := by decide +kernel
theorem hv_X5_promiseDigest : yX5_promiseDigest.cls = RX5 ∧ yX5_promiseDigest.cls ≠ "java/lang/invoke/MethodHandle" ∧ yX5_promiseDigest.cls ≠ "java/lang/invoke/VarHandle" ∧ (parseMethodDescriptor yX5_promiseDigest.desc).map (fun d => d.parameters.length) = some 2 := ⟨rfl, hs_X5_promiseDigest⟩
theorem hs_X5_personDigest : yX5_personDigest.cls ≠ "java/lang/invoke/MethodHandle" ∧ yX5_personDigest.cls ≠ "java/lang/invoke/VarHandle" ∧ (parseMethodDescriptor yX5_personDigest.desc).map (fun d => d.parameters.length) = some 2 := by decide +kernel
theorem hv_X5_personDigest : yX5_personDigest.cls = RX5 ∧ yX5_personDigest.cls ≠ "java/lang/invoke/MethodHandle" ∧ yX5_personDigest.cls ≠ "java/lang/invoke/VarHandle" ∧ (parseMethodDescriptor yX5_personDigest.desc).map (fun d => d.parameters.length) = some 2 := ⟨rfl, hs_X5_personDigest⟩
theorem hs_X5_coatDigest : yX5_coatDigest.cls ≠ "java/lang/invoke/MethodHandle" ∧ yX5_coatDigest.cls ≠ "java/lang/invoke/VarHandle" ∧ (parseMethodDescriptor yX5_coatDigest.desc).map (fun d => d.parameters.length) = some 3 := by decide +kernel
theorem hv_X5_coatDigest : yX5_coatDigest.cls = RX5 ∧ yX5_coatDigest.cls ≠ "java/lang/invoke/MethodHandle" ∧ yX5_coatDigest.cls ≠ "java/lang/invoke/VarHandle" ∧ (parseMethodDescriptor yX5_coatDigest.desc).map (fun d => d.parameters.length) = some 3 := ⟨rfl, hs_X5_coatDigest⟩
