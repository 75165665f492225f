set_option maxRecDepth 100000
abbrev cX7_init : ByteArray := prog_14_method_1_code
def yX7_init : MethodName := ⟨RX7, "<init>", "()V"⟩
def dkwX7_init_10 : List UInt8 := [181, 0, 97, 42, 16, 24, 188, 10, 181, 0, 100, 177]
abbrev dktX7_init_10 : List UInt8 := dkwX7_init_10 ++ []
def dkwX7_init_9 : List UInt8 := [42, 17, 2, 64, 188, 11, 181, 0, 91, 42, 16, 24, 188, 10, 181, 0, 94, 42, 16, 24, 188, 10]
abbrev dktX7_init_9 : List UInt8 := dkwX7_init_9 ++ dktX7_init_10
def dkwX7_init_8 : List UInt8 := [16, 24, 188, 10, 181, 0, 81, 42, 16, 24, 188, 10, 181, 0, 84, 42, 17, 2, 64, 188, 11, 181, 0, 87]
abbrev dktX7_init_8 : List UInt8 := dkwX7_init_8 ++ dktX7_init_9
def dkwX7_init_7 : List UInt8 := [188, 10, 181, 0, 71, 42, 16, 24, 188, 10, 181, 0, 74, 42, 17, 16, 0, 188, 4, 181, 0, 77, 42]
abbrev dktX7_init_7 : List UInt8 := dkwX7_init_7 ++ dktX7_init_8
def dkwX7_init_6 : List UInt8 := [188, 10, 181, 0, 62, 42, 16, 24, 188, 10, 181, 0, 65, 42, 16, 24, 188, 10, 181, 0, 68, 42, 16, 24]
abbrev dktX7_init_6 : List UInt8 := dkwX7_init_6 ++ dktX7_init_7
def dkwX7_init_5 : List UInt8 := [188, 10, 181, 0, 53, 42, 16, 24, 188, 10, 181, 0, 56, 42, 16, 24, 188, 10, 181, 0, 59, 42, 16, 24]
abbrev dktX7_init_5 : List UInt8 := dkwX7_init_5 ++ dktX7_init_6
def dkwX7_init_4 : List UInt8 := [188, 10, 181, 0, 44, 42, 16, 8, 188, 10, 181, 0, 47, 42, 16, 24, 188, 10, 181, 0, 50, 42, 16, 24]
abbrev dktX7_init_4 : List UInt8 := dkwX7_init_4 ++ dktX7_init_5
def dkwX7_init_3 : List UInt8 := [188, 10, 181, 0, 35, 42, 16, 13, 188, 10, 181, 0, 38, 42, 16, 13, 188, 10, 181, 0, 41, 42, 16, 8]
abbrev dktX7_init_3 : List UInt8 := dkwX7_init_3 ++ dktX7_init_4
def dkwX7_init_2 : List UInt8 := [188, 10, 181, 0, 26, 42, 16, 48, 188, 10, 181, 0, 29, 42, 16, 24, 188, 10, 181, 0, 32, 42, 16, 72]
abbrev dktX7_init_2 : List UInt8 := dkwX7_init_2 ++ dktX7_init_3
def dkwX7_init_1 : List UInt8 := [181, 0, 17, 42, 16, 96, 188, 10, 181, 0, 20, 42, 17, 1, 128, 188, 10, 181, 0, 23, 42, 17, 1, 32]
abbrev dktX7_init_1 : List UInt8 := dkwX7_init_1 ++ dktX7_init_2
def dkwX7_init_0 : List UInt8 := [42, 183, 0, 1, 42, 2, 181, 0, 9, 42, 17, 1, 244, 188, 10, 181, 0, 13, 42, 16, 16, 188, 10]
abbrev dktX7_init_0 : List UInt8 := dkwX7_init_0 ++ dktX7_init_1
theorem dksX7_init_0 : cX7_init.data.toList.drop 0 = dktX7_init_0 := by decide +kernel
theorem dksX7_init_1 : cX7_init.data.toList.drop 23 = dktX7_init_1 := dk_seg dksX7_init_0 23 rfl rfl
theorem dksX7_init_2 : cX7_init.data.toList.drop 47 = dktX7_init_2 := dk_seg dksX7_init_1 24 rfl rfl
theorem dksX7_init_3 : cX7_init.data.toList.drop 71 = dktX7_init_3 := dk_seg dksX7_init_2 24 rfl rfl
theorem dksX7_init_4 : cX7_init.data.toList.drop 95 = dktX7_init_4 := dk_seg dksX7_init_3 24 rfl rfl
theorem dksX7_init_5 : cX7_init.data.toList.drop 119 = dktX7_init_5 := dk_seg dksX7_init_4 24 rfl rfl
theorem dksX7_init_6 : cX7_init.data.toList.drop 143 = dktX7_init_6 := dk_seg dksX7_init_5 24 rfl rfl
theorem dksX7_init_7 : cX7_init.data.toList.drop 167 = dktX7_init_7 := dk_seg dksX7_init_6 24 rfl rfl
theorem dksX7_init_8 : cX7_init.data.toList.drop 190 = dktX7_init_8 := dk_seg dksX7_init_7 23 rfl rfl
theorem dksX7_init_9 : cX7_init.data.toList.drop 214 = dktX7_init_9 := dk_seg dksX7_init_8 24 rfl rfl
theorem dksX7_init_10 : cX7_init.data.toList.drop 236 = dktX7_init_10 := dk_seg dksX7_init_9 22 rfl rfl
theorem dX7_init_0 : decode cX7_init 0 = .ok (.aload_n 0, 1) := dk_42 (dk_at dksX7_init_0 0 rfl rfl)
theorem dX7_init_1 : decode cX7_init 1 = .ok (.invokespecial 1, 3) := dk_183 0 1 (dk_at dksX7_init_0 1 rfl rfl)
theorem dX7_init_4 : decode cX7_init 4 = .ok (.aload_n 0, 1) := dk_42 (dk_at dksX7_init_0 4 rfl rfl)
theorem dX7_init_5 : decode cX7_init 5 = .ok (.iconst (-1), 1) := dk_2 (dk_at dksX7_init_0 5 rfl rfl)
theorem dX7_init_6 : decode cX7_init 6 = .ok (.putfield 9, 3) := dk_181 0 9 (dk_at dksX7_init_0 6 rfl rfl)
theorem dX7_init_9 : decode cX7_init 9 = .ok (.aload_n 0, 1) := dk_42 (dk_at dksX7_init_0 9 rfl rfl)
theorem dX7_init_10 : decode cX7_init 10 = .ok (.sipush 500, 3) := dk_17 1 244 (dk_at dksX7_init_0 10 rfl rfl)
theorem dX7_init_13 : decode cX7_init 13 = .ok (.newarray .int, 2) := dk_188_10 (dk_at dksX7_init_0 13 rfl rfl)
theorem dX7_init_15 : decode cX7_init 15 = .ok (.putfield 13, 3) := dk_181 0 13 (dk_at dksX7_init_0 15 rfl rfl)
theorem dX7_init_18 : decode cX7_init 18 = .ok (.aload_n 0, 1) := dk_42 (dk_at dksX7_init_0 18 rfl rfl)
theorem dX7_init_19 : decode cX7_init 19 = .ok (.bipush 16, 2) := dk_16 16 (dk_at dksX7_init_0 19 rfl rfl)
theorem dX7_init_21 : decode cX7_init 21 = .ok (.newarray .int, 2) := dk_188_10 (dk_at dksX7_init_0 21 rfl rfl)
theorem dX7_init_23 : decode cX7_init 23 = .ok (.putfield 17, 3) := dk_181 0 17 (dk_at dksX7_init_1 0 rfl rfl)
theorem dX7_init_26 : decode cX7_init 26 = .ok (.aload_n 0, 1) := dk_42 (dk_at dksX7_init_1 3 rfl rfl)
theorem dX7_init_27 : decode cX7_init 27 = .ok (.bipush 96, 2) := dk_16 96 (dk_at dksX7_init_1 4 rfl rfl)
theorem dX7_init_29 : decode cX7_init 29 = .ok (.newarray .int, 2) := dk_188_10 (dk_at dksX7_init_1 6 rfl rfl)
theorem dX7_init_31 : decode cX7_init 31 = .ok (.putfield 20, 3) := dk_181 0 20 (dk_at dksX7_init_1 8 rfl rfl)
theorem dX7_init_34 : decode cX7_init 34 = .ok (.aload_n 0, 1) := dk_42 (dk_at dksX7_init_1 11 rfl rfl)
theorem dX7_init_35 : decode cX7_init 35 = .ok (.sipush 384, 3) := dk_17 1 128 (dk_at dksX7_init_1 12 rfl rfl)
theorem dX7_init_38 : decode cX7_init 38 = .ok (.newarray .int, 2) := dk_188_10 (dk_at dksX7_init_1 15 rfl rfl)
theorem dX7_init_40 : decode cX7_init 40 = .ok (.putfield 23, 3) := dk_181 0 23 (dk_at dksX7_init_1 17 rfl rfl)
theorem dX7_init_43 : decode cX7_init 43 = .ok (.aload_n 0, 1) := dk_42 (dk_at dksX7_init_1 20 rfl rfl)
theorem dX7_init_44 : decode cX7_init 44 = .ok (.sipush 288, 3) := dk_17 1 32 (dk_at dksX7_init_1 21 rfl rfl)
theorem dX7_init_47 : decode cX7_init 47 = .ok (.newarray .int, 2) := dk_188_10 (dk_at dksX7_init_2 0 rfl rfl)
theorem dX7_init_49 : decode cX7_init 49 = .ok (.putfield 26, 3) := dk_181 0 26 (dk_at dksX7_init_2 2 rfl rfl)
theorem dX7_init_52 : decode cX7_init 52 = .ok (.aload_n 0, 1) := dk_42 (dk_at dksX7_init_2 5 rfl rfl)
theorem dX7_init_53 : decode cX7_init 53 = .ok (.bipush 48, 2) := dk_16 48 (dk_at dksX7_init_2 6 rfl rfl)
theorem dX7_init_55 : decode cX7_init 55 = .ok (.newarray .int, 2) := dk_188_10 (dk_at dksX7_init_2 8 rfl rfl)
theorem dX7_init_57 : decode cX7_init 57 = .ok (.putfield 29, 3) := dk_181 0 29 (dk_at dksX7_init_2 10 rfl rfl)
theorem dX7_init_60 : decode cX7_init 60 = .ok (.aload_n 0, 1) := dk_42 (dk_at dksX7_init_2 13 rfl rfl)
theorem dX7_init_61 : decode cX7_init 61 = .ok (.bipush 24, 2) := dk_16 24 (dk_at dksX7_init_2 14 rfl rfl)
theorem dX7_init_63 : decode cX7_init 63 = .ok (.newarray .int, 2) := dk_188_10 (dk_at dksX7_init_2 16 rfl rfl)
theorem dX7_init_65 : decode cX7_init 65 = .ok (.putfield 32, 3) := dk_181 0 32 (dk_at dksX7_init_2 18 rfl rfl)
theorem dX7_init_68 : decode cX7_init 68 = .ok (.aload_n 0, 1) := dk_42 (dk_at dksX7_init_2 21 rfl rfl)
theorem dX7_init_69 : decode cX7_init 69 = .ok (.bipush 72, 2) := dk_16 72 (dk_at dksX7_init_2 22 rfl rfl)
theorem dX7_init_71 : decode cX7_init 71 = .ok (.newarray .int, 2) := dk_188_10 (dk_at dksX7_init_3 0 rfl rfl)
theorem dX7_init_73 : decode cX7_init 73 = .ok (.putfield 35, 3) := dk_181 0 35 (dk_at dksX7_init_3 2 rfl rfl)
theorem dX7_init_76 : decode cX7_init 76 = .ok (.aload_n 0, 1) := dk_42 (dk_at dksX7_init_3 5 rfl rfl)
theorem dX7_init_77 : decode cX7_init 77 = .ok (.bipush 13, 2) := dk_16 13 (dk_at dksX7_init_3 6 rfl rfl)
theorem dX7_init_79 : decode cX7_init 79 = .ok (.newarray .int, 2) := dk_188_10 (dk_at dksX7_init_3 8 rfl rfl)
theorem dX7_init_81 : decode cX7_init 81 = .ok (.putfield 38, 3) := dk_181 0 38 (dk_at dksX7_init_3 10 rfl rfl)
theorem dX7_init_84 : decode cX7_init 84 = .ok (.aload_n 0, 1) := dk_42 (dk_at dksX7_init_3 13 rfl rfl)
theorem dX7_init_85 : decode cX7_init 85 = .ok (.bipush 13, 2) := dk_16 13 (dk_at dksX7_init_3 14 rfl rfl)
theorem dX7_init_87 : decode cX7_init 87 = .ok (.newarray .int, 2) := dk_188_10 (dk_at dksX7_init_3 16 rfl rfl)
theorem dX7_init_89 : decode cX7_init 89 = .ok (.putfield 41, 3) := dk_181 0 41 (dk_at dksX7_init_3 18 rfl rfl)
theorem dX7_init_92 : decode cX7_init 92 = .ok (.aload_n 0, 1) := dk_42 (dk_at dksX7_init_3 21 rfl rfl)
theorem dX7_init_93 : decode cX7_init 93 = .ok (.bipush 8, 2) := dk_16 8 (dk_at dksX7_init_3 22 rfl rfl)
theorem dX7_init_95 : decode cX7_init 95 = .ok (.newarray .int, 2) := dk_188_10 (dk_at dksX7_init_4 0 rfl rfl)
theorem dX7_init_97 : decode cX7_init 97 = .ok (.putfield 44, 3) := dk_181 0 44 (dk_at dksX7_init_4 2 rfl rfl)
theorem dX7_init_100 : decode cX7_init 100 = .ok (.aload_n 0, 1) := dk_42 (dk_at dksX7_init_4 5 rfl rfl)
theorem dX7_init_101 : decode cX7_init 101 = .ok (.bipush 8, 2) := dk_16 8 (dk_at dksX7_init_4 6 rfl rfl)
theorem dX7_init_103 : decode cX7_init 103 = .ok (.newarray .int, 2) := dk_188_10 (dk_at dksX7_init_4 8 rfl rfl)
theorem dX7_init_105 : decode cX7_init 105 = .ok (.putfield 47, 3) := dk_181 0 47 (dk_at dksX7_init_4 10 rfl rfl)
theorem dX7_init_108 : decode cX7_init 108 = .ok (.aload_n 0, 1) := dk_42 (dk_at dksX7_init_4 13 rfl rfl)
theorem dX7_init_109 : decode cX7_init 109 = .ok (.bipush 24, 2) := dk_16 24 (dk_at dksX7_init_4 14 rfl rfl)
theorem dX7_init_111 : decode cX7_init 111 = .ok (.newarray .int, 2) := dk_188_10 (dk_at dksX7_init_4 16 rfl rfl)
theorem dX7_init_113 : decode cX7_init 113 = .ok (.putfield 50, 3) := dk_181 0 50 (dk_at dksX7_init_4 18 rfl rfl)
theorem dX7_init_116 : decode cX7_init 116 = .ok (.aload_n 0, 1) := dk_42 (dk_at dksX7_init_4 21 rfl rfl)
theorem dX7_init_117 : decode cX7_init 117 = .ok (.bipush 24, 2) := dk_16 24 (dk_at dksX7_init_4 22 rfl rfl)
theorem dX7_init_119 : decode cX7_init 119 = .ok (.newarray .int, 2) := dk_188_10 (dk_at dksX7_init_5 0 rfl rfl)
theorem dX7_init_121 : decode cX7_init 121 = .ok (.putfield 53, 3) := dk_181 0 53 (dk_at dksX7_init_5 2 rfl rfl)
theorem dX7_init_124 : decode cX7_init 124 = .ok (.aload_n 0, 1) := dk_42 (dk_at dksX7_init_5 5 rfl rfl)
theorem dX7_init_125 : decode cX7_init 125 = .ok (.bipush 24, 2) := dk_16 24 (dk_at dksX7_init_5 6 rfl rfl)
theorem dX7_init_127 : decode cX7_init 127 = .ok (.newarray .int, 2) := dk_188_10 (dk_at dksX7_init_5 8 rfl rfl)
theorem dX7_init_129 : decode cX7_init 129 = .ok (.putfield 56, 3) := dk_181 0 56 (dk_at dksX7_init_5 10 rfl rfl)
theorem dX7_init_132 : decode cX7_init 132 = .ok (.aload_n 0, 1) := dk_42 (dk_at dksX7_init_5 13 rfl rfl)
theorem dX7_init_133 : decode cX7_init 133 = .ok (.bipush 24, 2) := dk_16 24 (dk_at dksX7_init_5 14 rfl rfl)
theorem dX7_init_135 : decode cX7_init 135 = .ok (.newarray .int, 2) := dk_188_10 (dk_at dksX7_init_5 16 rfl rfl)
theorem dX7_init_137 : decode cX7_init 137 = .ok (.putfield 59, 3) := dk_181 0 59 (dk_at dksX7_init_5 18 rfl rfl)
theorem dX7_init_140 : decode cX7_init 140 = .ok (.aload_n 0, 1) := dk_42 (dk_at dksX7_init_5 21 rfl rfl)
theorem dX7_init_141 : decode cX7_init 141 = .ok (.bipush 24, 2) := dk_16 24 (dk_at dksX7_init_5 22 rfl rfl)
theorem dX7_init_143 : decode cX7_init 143 = .ok (.newarray .int, 2) := dk_188_10 (dk_at dksX7_init_6 0 rfl rfl)
theorem dX7_init_145 : decode cX7_init 145 = .ok (.putfield 62, 3) := dk_181 0 62 (dk_at dksX7_init_6 2 rfl rfl)
theorem dX7_init_148 : decode cX7_init 148 = .ok (.aload_n 0, 1) := dk_42 (dk_at dksX7_init_6 5 rfl rfl)
theorem dX7_init_149 : decode cX7_init 149 = .ok (.bipush 24, 2) := dk_16 24 (dk_at dksX7_init_6 6 rfl rfl)
theorem dX7_init_151 : decode cX7_init 151 = .ok (.newarray .int, 2) := dk_188_10 (dk_at dksX7_init_6 8 rfl rfl)
theorem dX7_init_153 : decode cX7_init 153 = .ok (.putfield 65, 3) := dk_181 0 65 (dk_at dksX7_init_6 10 rfl rfl)
theorem dX7_init_156 : decode cX7_init 156 = .ok (.aload_n 0, 1) := dk_42 (dk_at dksX7_init_6 13 rfl rfl)
theorem dX7_init_157 : decode cX7_init 157 = .ok (.bipush 24, 2) := dk_16 24 (dk_at dksX7_init_6 14 rfl rfl)
theorem dX7_init_159 : decode cX7_init 159 = .ok (.newarray .int, 2) := dk_188_10 (dk_at dksX7_init_6 16 rfl rfl)
theorem dX7_init_161 : decode cX7_init 161 = .ok (.putfield 68, 3) := dk_181 0 68 (dk_at dksX7_init_6 18 rfl rfl)
theorem dX7_init_164 : decode cX7_init 164 = .ok (.aload_n 0, 1) := dk_42 (dk_at dksX7_init_6 21 rfl rfl)
theorem dX7_init_165 : decode cX7_init 165 = .ok (.bipush 24, 2) := dk_16 24 (dk_at dksX7_init_6 22 rfl rfl)
theorem dX7_init_167 : decode cX7_init 167 = .ok (.newarray .int, 2) := dk_188_10 (dk_at dksX7_init_7 0 rfl rfl)
theorem dX7_init_169 : decode cX7_init 169 = .ok (.putfield 71, 3) := dk_181 0 71 (dk_at dksX7_init_7 2 rfl rfl)
theorem dX7_init_172 : decode cX7_init 172 = .ok (.aload_n 0, 1) := dk_42 (dk_at dksX7_init_7 5 rfl rfl)
theorem dX7_init_173 : decode cX7_init 173 = .ok (.bipush 24, 2) := dk_16 24 (dk_at dksX7_init_7 6 rfl rfl)
theorem dX7_init_175 : decode cX7_init 175 = .ok (.newarray .int, 2) := dk_188_10 (dk_at dksX7_init_7 8 rfl rfl)
theorem dX7_init_177 : decode cX7_init 177 = .ok (.putfield 74, 3) := dk_181 0 74 (dk_at dksX7_init_7 10 rfl rfl)
theorem dX7_init_180 : decode cX7_init 180 = .ok (.aload_n 0, 1) := dk_42 (dk_at dksX7_init_7 13 rfl rfl)
theorem dX7_init_181 : decode cX7_init 181 = .ok (.sipush 4096, 3) := dk_17 16 0 (dk_at dksX7_init_7 14 rfl rfl)
theorem dX7_init_184 : decode cX7_init 184 = .ok (.newarray .boolean, 2) := dk_188_4 (dk_at dksX7_init_7 17 rfl rfl)
theorem dX7_init_186 : decode cX7_init 186 = .ok (.putfield 77, 3) := dk_181 0 77 (dk_at dksX7_init_7 19 rfl rfl)
theorem dX7_init_189 : decode cX7_init 189 = .ok (.aload_n 0, 1) := dk_42 (dk_at dksX7_init_7 22 rfl rfl)
theorem dX7_init_190 : decode cX7_init 190 = .ok (.bipush 24, 2) := dk_16 24 (dk_at dksX7_init_8 0 rfl rfl)
theorem dX7_init_192 : decode cX7_init 192 = .ok (.newarray .int, 2) := dk_188_10 (dk_at dksX7_init_8 2 rfl rfl)
theorem dX7_init_194 : decode cX7_init 194 = .ok (.putfield 81, 3) := dk_181 0 81 (dk_at dksX7_init_8 4 rfl rfl)
theorem dX7_init_197 : decode cX7_init 197 = .ok (.aload_n 0, 1) := dk_42 (dk_at dksX7_init_8 7 rfl rfl)
theorem dX7_init_198 : decode cX7_init 198 = .ok (.bipush 24, 2) := dk_16 24 (dk_at dksX7_init_8 8 rfl rfl)
theorem dX7_init_200 : decode cX7_init 200 = .ok (.newarray .int, 2) := dk_188_10 (dk_at dksX7_init_8 10 rfl rfl)
theorem dX7_init_202 : decode cX7_init 202 = .ok (.putfield 84, 3) := dk_181 0 84 (dk_at dksX7_init_8 12 rfl rfl)
theorem dX7_init_205 : decode cX7_init 205 = .ok (.aload_n 0, 1) := dk_42 (dk_at dksX7_init_8 15 rfl rfl)
theorem dX7_init_206 : decode cX7_init 206 = .ok (.sipush 576, 3) := dk_17 2 64 (dk_at dksX7_init_8 16 rfl rfl)
theorem dX7_init_209 : decode cX7_init 209 = .ok (.newarray .long, 2) := dk_188_11 (dk_at dksX7_init_8 19 rfl rfl)
theorem dX7_init_211 : decode cX7_init 211 = .ok (.putfield 87, 3) := dk_181 0 87 (dk_at dksX7_init_8 21 rfl rfl)
theorem dX7_init_214 : decode cX7_init 214 = .ok (.aload_n 0, 1) := dk_42 (dk_at dksX7_init_9 0 rfl rfl)
theorem dX7_init_215 : decode cX7_init 215 = .ok (.sipush 576, 3) := dk_17 2 64 (dk_at dksX7_init_9 1 rfl rfl)
theorem dX7_init_218 : decode cX7_init 218 = .ok (.newarray .long, 2) := dk_188_11 (dk_at dksX7_init_9 4 rfl rfl)
theorem dX7_init_220 : decode cX7_init 220 = .ok (.putfield 91, 3) := dk_181 0 91 (dk_at dksX7_init_9 6 rfl rfl)
theorem dX7_init_223 : decode cX7_init 223 = .ok (.aload_n 0, 1) := dk_42 (dk_at dksX7_init_9 9 rfl rfl)
theorem dX7_init_224 : decode cX7_init 224 = .ok (.bipush 24, 2) := dk_16 24 (dk_at dksX7_init_9 10 rfl rfl)
theorem dX7_init_226 : decode cX7_init 226 = .ok (.newarray .int, 2) := dk_188_10 (dk_at dksX7_init_9 12 rfl rfl)
theorem dX7_init_228 : decode cX7_init 228 = .ok (.putfield 94, 3) := dk_181 0 94 (dk_at dksX7_init_9 14 rfl rfl)
theorem dX7_init_231 : decode cX7_init 231 = .ok (.aload_n 0, 1) := dk_42 (dk_at dksX7_init_9 17 rfl rfl)
theorem dX7_init_232 : decode cX7_init 232 = .ok (.bipush 24, 2) := dk_16 24 (dk_at dksX7_init_9 18 rfl rfl)
theorem dX7_init_234 : decode cX7_init 234 = .ok (.newarray .int, 2) := dk_188_10 (dk_at dksX7_init_9 20 rfl rfl)
theorem dX7_init_236 : decode cX7_init 236 = .ok (.putfield 97, 3) := dk_181 0 97 (dk_at dksX7_init_10 0 rfl rfl)
theorem dX7_init_239 : decode cX7_init 239 = .ok (.aload_n 0, 1) := dk_42 (dk_at dksX7_init_10 3 rfl rfl)
theorem dX7_init_240 : decode cX7_init 240 = .ok (.bipush 24, 2) := dk_16 24 (dk_at dksX7_init_10 4 rfl rfl)
theorem dX7_init_242 : decode cX7_init 242 = .ok (.newarray .int, 2) := dk_188_10 (dk_at dksX7_init_10 6 rfl rfl)
theorem dX7_init_244 : decode cX7_init 244 = .ok (.putfield 100, 3) := dk_181 0 100 (dk_at dksX7_init_10 8 rfl rfl)
theorem dX7_init_247 : decode cX7_init 247 = .ok (.return_, 1) := dk_177 (dk_at dksX7_init_10 11 rfl rfl)
abbrev cX7_thrown : ByteArray := prog_14_method_2_code
def yX7_thrown : MethodName := ⟨RX7, "thrown", "()I"⟩
theorem dX7_thrown_0 : decode cX7_thrown 0 = .ok (.aload_n 0, 1) := by decide +kernel
theorem dX7_thrown_1 : decode cX7_thrown 1 = .ok (.getfield 103, 3) := by decide +kernel
theorem dX7_thrown_4 : decode cX7_thrown 4 = .ok (.ireturn, 1) := by decide +kernel
abbrev cX7_feed : ByteArray := prog_14_method_7_code
def yX7_feed : MethodName := ⟨RX7, "feed", "(IIIII)I"⟩
def dkwX7_feed_2 : List UInt8 := [172]
abbrev dktX7_feed_2 : List UInt8 := dkwX7_feed_2 ++ []
def dkwX7_feed_1 : List UInt8 := [182, 0, 112, 42, 29, 182, 0, 112, 42, 21, 4, 182, 0, 112, 42, 21, 5, 182, 0, 112, 42, 180, 0, 109]
abbrev dktX7_feed_1 : List UInt8 := dkwX7_feed_1 ++ dktX7_feed_2
def dkwX7_feed_0 : List UInt8 := [42, 3, 181, 0, 103, 42, 180, 0, 109, 17, 1, 224, 164, 0, 5, 2, 172, 42, 27, 182, 0, 112, 42, 28]
abbrev dktX7_feed_0 : List UInt8 := dkwX7_feed_0 ++ dktX7_feed_1
theorem dksX7_feed_0 : cX7_feed.data.toList.drop 0 = dktX7_feed_0 := by decide +kernel
theorem dksX7_feed_1 : cX7_feed.data.toList.drop 24 = dktX7_feed_1 := dk_seg dksX7_feed_0 24 rfl rfl
theorem dksX7_feed_2 : cX7_feed.data.toList.drop 48 = dktX7_feed_2 := dk_seg dksX7_feed_1 24 rfl rfl
theorem dX7_feed_0 : decode cX7_feed 0 = .ok (.aload_n 0, 1) := dk_42 (dk_at dksX7_feed_0 0 rfl rfl)
theorem dX7_feed_1 : decode cX7_feed 1 = .ok (.iconst 0, 1) := dk_3 (dk_at dksX7_feed_0 1 rfl rfl)
theorem dX7_feed_2 : decode cX7_feed 2 = .ok (.putfield 103, 3) := dk_181 0 103 (dk_at dksX7_feed_0 2 rfl rfl)
theorem dX7_feed_5 : decode cX7_feed 5 = .ok (.aload_n 0, 1) := dk_42 (dk_at dksX7_feed_0 5 rfl rfl)
theorem dX7_feed_6 : decode cX7_feed 6 = .ok (.getfield 109, 3) := dk_180 0 109 (dk_at dksX7_feed_0 6 rfl rfl)
theorem dX7_feed_9 : decode cX7_feed 9 = .ok (.sipush 480, 3) := dk_17 1 224 (dk_at dksX7_feed_0 9 rfl rfl)
theorem dX7_feed_12 : decode cX7_feed 12 = .ok (.if_icmp .le 5, 3) := dk_164 0 5 (dk_at dksX7_feed_0 12 rfl rfl)
theorem dX7_feed_15 : decode cX7_feed 15 = .ok (.iconst (-1), 1) := dk_2 (dk_at dksX7_feed_0 15 rfl rfl)
theorem dX7_feed_16 : decode cX7_feed 16 = .ok (.ireturn, 1) := dk_172 (dk_at dksX7_feed_0 16 rfl rfl)
theorem dX7_feed_17 : decode cX7_feed 17 = .ok (.aload_n 0, 1) := dk_42 (dk_at dksX7_feed_0 17 rfl rfl)
theorem dX7_feed_18 : decode cX7_feed 18 = .ok (.iload_n 1, 1) := dk_27 (dk_at dksX7_feed_0 18 rfl rfl)
theorem dX7_feed_19 : decode cX7_feed 19 = .ok (.invokevirtual 112, 3) := dk_182 0 112 (dk_at dksX7_feed_0 19 rfl rfl)
theorem dX7_feed_22 : decode cX7_feed 22 = .ok (.aload_n 0, 1) := dk_42 (dk_at dksX7_feed_0 22 rfl rfl)
theorem dX7_feed_23 : decode cX7_feed 23 = .ok (.iload_n 2, 1) := dk_28 (dk_at dksX7_feed_0 23 rfl rfl)
theorem dX7_feed_24 : decode cX7_feed 24 = .ok (.invokevirtual 112, 3) := dk_182 0 112 (dk_at dksX7_feed_1 0 rfl rfl)
theorem dX7_feed_27 : decode cX7_feed 27 = .ok (.aload_n 0, 1) := dk_42 (dk_at dksX7_feed_1 3 rfl rfl)
theorem dX7_feed_28 : decode cX7_feed 28 = .ok (.iload_n 3, 1) := dk_29 (dk_at dksX7_feed_1 4 rfl rfl)
theorem dX7_feed_29 : decode cX7_feed 29 = .ok (.invokevirtual 112, 3) := dk_182 0 112 (dk_at dksX7_feed_1 5 rfl rfl)
theorem dX7_feed_32 : decode cX7_feed 32 = .ok (.aload_n 0, 1) := dk_42 (dk_at dksX7_feed_1 8 rfl rfl)
theorem dX7_feed_33 : decode cX7_feed 33 = .ok (.iload 4, 2) := dk_21 4 (dk_at dksX7_feed_1 9 rfl rfl)
theorem dX7_feed_35 : decode cX7_feed 35 = .ok (.invokevirtual 112, 3) := dk_182 0 112 (dk_at dksX7_feed_1 11 rfl rfl)
theorem dX7_feed_38 : decode cX7_feed 38 = .ok (.aload_n 0, 1) := dk_42 (dk_at dksX7_feed_1 14 rfl rfl)
theorem dX7_feed_39 : decode cX7_feed 39 = .ok (.iload 5, 2) := dk_21 5 (dk_at dksX7_feed_1 15 rfl rfl)
theorem dX7_feed_41 : decode cX7_feed 41 = .ok (.invokevirtual 112, 3) := dk_182 0 112 (dk_at dksX7_feed_1 17 rfl rfl)
theorem dX7_feed_44 : decode cX7_feed 44 = .ok (.aload_n 0, 1) := dk_42 (dk_at dksX7_feed_1 20 rfl rfl)
theorem dX7_feed_45 : decode cX7_feed 45 = .ok (.getfield 109, 3) := dk_180 0 109 (dk_at dksX7_feed_1 21 rfl rfl)
theorem dX7_feed_48 : decode cX7_feed 48 = .ok (.ireturn, 1) := dk_172 (dk_at dksX7_feed_2 0 rfl rfl)
abbrev cX7_laysWord : ByteArray := prog_14_method_8_code
def yX7_laysWord : MethodName := ⟨RX7, "laysWord", "(I)V"⟩
def dkwX7_laysWord_1 : List UInt8 := [100, 122, 17, 0, 255, 126, 79, 132, 2, 1, 167, 255, 224, 42, 89, 180, 0, 109, 7, 96, 181, 0, 109, 177]
abbrev dktX7_laysWord_1 : List UInt8 := dkwX7_laysWord_1 ++ []
def dkwX7_laysWord_0 : List UInt8 := [3, 61, 28, 7, 162, 0, 33, 42, 180, 0, 13, 42, 180, 0, 109, 28, 96, 27, 16, 24, 16, 8, 28, 104]
abbrev dktX7_laysWord_0 : List UInt8 := dkwX7_laysWord_0 ++ dktX7_laysWord_1
theorem dksX7_laysWord_0 : cX7_laysWord.data.toList.drop 0 = dktX7_laysWord_0 := by decide +kernel
theorem dksX7_laysWord_1 : cX7_laysWord.data.toList.drop 24 = dktX7_laysWord_1 := dk_seg dksX7_laysWord_0 24 rfl rfl
theorem dX7_laysWord_0 : decode cX7_laysWord 0 = .ok (.iconst 0, 1) := dk_3 (dk_at dksX7_laysWord_0 0 rfl rfl)
theorem dX7_laysWord_1 : decode cX7_laysWord 1 = .ok (.istore_n 2, 1) := dk_61 (dk_at dksX7_laysWord_0 1 rfl rfl)
theorem dX7_laysWord_2 : decode cX7_laysWord 2 = .ok (.iload_n 2, 1) := dk_28 (dk_at dksX7_laysWord_0 2 rfl rfl)
theorem dX7_laysWord_3 : decode cX7_laysWord 3 = .ok (.iconst 4, 1) := dk_7 (dk_at dksX7_laysWord_0 3 rfl rfl)
theorem dX7_laysWord_4 : decode cX7_laysWord 4 = .ok (.if_icmp .ge 33, 3) := dk_162 0 33 (dk_at dksX7_laysWord_0 4 rfl rfl)
theorem dX7_laysWord_7 : decode cX7_laysWord 7 = .ok (.aload_n 0, 1) := dk_42 (dk_at dksX7_laysWord_0 7 rfl rfl)
theorem dX7_laysWord_8 : decode cX7_laysWord 8 = .ok (.getfield 13, 3) := dk_180 0 13 (dk_at dksX7_laysWord_0 8 rfl rfl)
theorem dX7_laysWord_11 : decode cX7_laysWord 11 = .ok (.aload_n 0, 1) := dk_42 (dk_at dksX7_laysWord_0 11 rfl rfl)
theorem dX7_laysWord_12 : decode cX7_laysWord 12 = .ok (.getfield 109, 3) := dk_180 0 109 (dk_at dksX7_laysWord_0 12 rfl rfl)
theorem dX7_laysWord_15 : decode cX7_laysWord 15 = .ok (.iload_n 2, 1) := dk_28 (dk_at dksX7_laysWord_0 15 rfl rfl)
theorem dX7_laysWord_16 : decode cX7_laysWord 16 = .ok (.iadd, 1) := dk_96 (dk_at dksX7_laysWord_0 16 rfl rfl)
theorem dX7_laysWord_17 : decode cX7_laysWord 17 = .ok (.iload_n 1, 1) := dk_27 (dk_at dksX7_laysWord_0 17 rfl rfl)
theorem dX7_laysWord_18 : decode cX7_laysWord 18 = .ok (.bipush 24, 2) := dk_16 24 (dk_at dksX7_laysWord_0 18 rfl rfl)
theorem dX7_laysWord_20 : decode cX7_laysWord 20 = .ok (.bipush 8, 2) := dk_16 8 (dk_at dksX7_laysWord_0 20 rfl rfl)
theorem dX7_laysWord_22 : decode cX7_laysWord 22 = .ok (.iload_n 2, 1) := dk_28 (dk_at dksX7_laysWord_0 22 rfl rfl)
theorem dX7_laysWord_23 : decode cX7_laysWord 23 = .ok (.imul, 1) := dk_104 (dk_at dksX7_laysWord_0 23 rfl rfl)
theorem dX7_laysWord_24 : decode cX7_laysWord 24 = .ok (.isub, 1) := dk_100 (dk_at dksX7_laysWord_1 0 rfl rfl)
theorem dX7_laysWord_25 : decode cX7_laysWord 25 = .ok (.ishr, 1) := dk_122 (dk_at dksX7_laysWord_1 1 rfl rfl)
theorem dX7_laysWord_26 : decode cX7_laysWord 26 = .ok (.sipush 255, 3) := dk_17 0 255 (dk_at dksX7_laysWord_1 2 rfl rfl)
theorem dX7_laysWord_29 : decode cX7_laysWord 29 = .ok (.iand, 1) := dk_126 (dk_at dksX7_laysWord_1 5 rfl rfl)
theorem dX7_laysWord_30 : decode cX7_laysWord 30 = .ok (.iastore, 1) := dk_79 (dk_at dksX7_laysWord_1 6 rfl rfl)
theorem dX7_laysWord_31 : decode cX7_laysWord 31 = .ok (.iinc 2 1, 3) := dk_132 2 1 (dk_at dksX7_laysWord_1 7 rfl rfl)
theorem dX7_laysWord_34 : decode cX7_laysWord 34 = .ok (.goto (-32), 3) := dk_167 255 224 (dk_at dksX7_laysWord_1 10 rfl rfl)
theorem dX7_laysWord_37 : decode cX7_laysWord 37 = .ok (.aload_n 0, 1) := dk_42 (dk_at dksX7_laysWord_1 13 rfl rfl)
theorem dX7_laysWord_38 : decode cX7_laysWord 38 = .ok (.dup, 1) := dk_89 (dk_at dksX7_laysWord_1 14 rfl rfl)
theorem dX7_laysWord_39 : decode cX7_laysWord 39 = .ok (.getfield 109, 3) := dk_180 0 109 (dk_at dksX7_laysWord_1 15 rfl rfl)
theorem dX7_laysWord_42 : decode cX7_laysWord 42 = .ok (.iconst 4, 1) := dk_7 (dk_at dksX7_laysWord_1 18 rfl rfl)
theorem dX7_laysWord_43 : decode cX7_laysWord 43 = .ok (.iadd, 1) := dk_96 (dk_at dksX7_laysWord_1 19 rfl rfl)
theorem dX7_laysWord_44 : decode cX7_laysWord 44 = .ok (.putfield 109, 3) := dk_181 0 109 (dk_at dksX7_laysWord_1 20 rfl rfl)
theorem dX7_laysWord_47 : decode cX7_laysWord 47 = .ok (.return_, 1) := dk_177 (dk_at dksX7_laysWord_1 23 rfl rfl)
abbrev cX7_text : ByteArray := prog_14_method_24_code
def yX7_text : MethodName := ⟨RX7, "text", "(I)I"⟩
def dkwX7_text_10 : List UInt8 := [180, 0, 250, 172]
abbrev dktX7_text_10 : List UInt8 := dkwX7_text_10 ++ []
def dkwX7_text_9 : List UInt8 := [28, 42, 180, 0, 26, 17, 0, 144, 28, 96, 46, 79, 132, 2, 1, 167, 255, 230, 42, 182, 0, 247, 42]
abbrev dktX7_text_9 : List UInt8 := dkwX7_text_9 ++ dktX7_text_10
def dkwX7_text_8 : List UInt8 := [167, 255, 194, 42, 42, 180, 0, 173, 181, 0, 244, 3, 61, 28, 17, 0, 144, 162, 0, 25, 42, 180, 0, 26]
abbrev dktX7_text_8 : List UInt8 := dkwX7_text_8 ++ dktX7_text_9
def dkwX7_text_7 : List UInt8 := [96, 42, 180, 0, 23, 7, 16, 48, 28, 96, 104, 29, 96, 46, 79, 132, 3, 1, 167, 255, 225, 132, 2, 1]
abbrev dktX7_text_7 : List UInt8 := dkwX7_text_7 ++ dktX7_text_8
def dkwX7_text_6 : List UInt8 := [180, 0, 20, 16, 48, 28, 96, 46, 79, 3, 62, 29, 7, 162, 0, 32, 42, 180, 0, 23, 7, 28, 104, 29]
abbrev dktX7_text_6 : List UInt8 := dkwX7_text_6 ++ dktX7_text_7
def dkwX7_text_5 : List UInt8 := [42, 180, 0, 238, 181, 0, 241, 3, 61, 28, 42, 180, 0, 238, 162, 0, 60, 42, 180, 0, 20, 28, 42]
abbrev dktX7_text_5 : List UInt8 := dkwX7_text_5 ++ dktX7_text_6
def dkwX7_text_4 : List UInt8 := [180, 0, 17, 16, 8, 28, 96, 46, 79, 132, 2, 1, 167, 255, 230, 42, 42, 180, 0, 197, 181, 0, 238, 42]
abbrev dktX7_text_4 : List UInt8 := dkwX7_text_4 ++ dktX7_text_5
def dkwX7_text_3 : List UInt8 := [180, 0, 166, 181, 0, 235, 3, 61, 28, 42, 180, 0, 235, 162, 0, 24, 42, 180, 0, 17, 28, 42]
abbrev dktX7_text_3 : List UInt8 := dkwX7_text_3 ++ dktX7_text_4
def dkwX7_text_2 : List UInt8 := [180, 0, 149, 181, 0, 226, 42, 42, 180, 0, 152, 181, 0, 9, 42, 7, 182, 0, 232, 172, 42, 42]
abbrev dktX7_text_2 : List UInt8 := dkwX7_text_2 ++ dktX7_text_3
def dkwX7_text_1 : List UInt8 := [2, 172, 42, 3, 181, 0, 109, 42, 3, 181, 0, 226, 42, 27, 182, 0, 229, 154, 0, 25, 42, 42]
abbrev dktX7_text_1 : List UInt8 := dkwX7_text_1 ++ dktX7_text_2
def dkwX7_text_0 : List UInt8 := [42, 27, 3, 42, 180, 0, 109, 184, 0, 132, 153, 0, 7, 3, 167, 0, 4, 5, 182, 0, 223, 153, 0, 5]
abbrev dktX7_text_0 : List UInt8 := dkwX7_text_0 ++ dktX7_text_1
theorem dksX7_text_0 : cX7_text.data.toList.drop 0 = dktX7_text_0 := by decide +kernel
theorem dksX7_text_1 : cX7_text.data.toList.drop 24 = dktX7_text_1 := dk_seg dksX7_text_0 24 rfl rfl
theorem dksX7_text_2 : cX7_text.data.toList.drop 46 = dktX7_text_2 := dk_seg dksX7_text_1 22 rfl rfl
theorem dksX7_text_3 : cX7_text.data.toList.drop 68 = dktX7_text_3 := dk_seg dksX7_text_2 22 rfl rfl
theorem dksX7_text_4 : cX7_text.data.toList.drop 90 = dktX7_text_4 := dk_seg dksX7_text_3 22 rfl rfl
theorem dksX7_text_5 : cX7_text.data.toList.drop 114 = dktX7_text_5 := dk_seg dksX7_text_4 24 rfl rfl
theorem dksX7_text_6 : cX7_text.data.toList.drop 137 = dktX7_text_6 := dk_seg dksX7_text_5 23 rfl rfl
theorem dksX7_text_7 : cX7_text.data.toList.drop 161 = dktX7_text_7 := dk_seg dksX7_text_6 24 rfl rfl
theorem dksX7_text_8 : cX7_text.data.toList.drop 185 = dktX7_text_8 := dk_seg dksX7_text_7 24 rfl rfl
theorem dksX7_text_9 : cX7_text.data.toList.drop 209 = dktX7_text_9 := dk_seg dksX7_text_8 24 rfl rfl
theorem dksX7_text_10 : cX7_text.data.toList.drop 232 = dktX7_text_10 := dk_seg dksX7_text_9 23 rfl rfl
theorem dX7_text_0 : decode cX7_text 0 = .ok (.aload_n 0, 1) := dk_42 (dk_at dksX7_text_0 0 rfl rfl)
theorem dX7_text_1 : decode cX7_text 1 = .ok (.iload_n 1, 1) := dk_27 (dk_at dksX7_text_0 1 rfl rfl)
theorem dX7_text_2 : decode cX7_text 2 = .ok (.iconst 0, 1) := dk_3 (dk_at dksX7_text_0 2 rfl rfl)
theorem dX7_text_3 : decode cX7_text 3 = .ok (.aload_n 0, 1) := dk_42 (dk_at dksX7_text_0 3 rfl rfl)
theorem dX7_text_4 : decode cX7_text 4 = .ok (.getfield 109, 3) := dk_180 0 109 (dk_at dksX7_text_0 4 rfl rfl)
theorem dX7_text_7 : decode cX7_text 7 = .ok (.invokestatic 132, 3) := dk_184 0 132 (dk_at dksX7_text_0 7 rfl rfl)
theorem dX7_text_10 : decode cX7_text 10 = .ok (.ifCond .eq 7, 3) := dk_153 0 7 (dk_at dksX7_text_0 10 rfl rfl)
theorem dX7_text_13 : decode cX7_text 13 = .ok (.iconst 0, 1) := dk_3 (dk_at dksX7_text_0 13 rfl rfl)
theorem dX7_text_14 : decode cX7_text 14 = .ok (.goto 4, 3) := dk_167 0 4 (dk_at dksX7_text_0 14 rfl rfl)
theorem dX7_text_17 : decode cX7_text 17 = .ok (.iconst 2, 1) := dk_5 (dk_at dksX7_text_0 17 rfl rfl)
theorem dX7_text_18 : decode cX7_text 18 = .ok (.invokevirtual 223, 3) := dk_182 0 223 (dk_at dksX7_text_0 18 rfl rfl)
theorem dX7_text_21 : decode cX7_text 21 = .ok (.ifCond .eq 5, 3) := dk_153 0 5 (dk_at dksX7_text_0 21 rfl rfl)
theorem dX7_text_24 : decode cX7_text 24 = .ok (.iconst (-1), 1) := dk_2 (dk_at dksX7_text_1 0 rfl rfl)
theorem dX7_text_25 : decode cX7_text 25 = .ok (.ireturn, 1) := dk_172 (dk_at dksX7_text_1 1 rfl rfl)
theorem dX7_text_26 : decode cX7_text 26 = .ok (.aload_n 0, 1) := dk_42 (dk_at dksX7_text_1 2 rfl rfl)
theorem dX7_text_27 : decode cX7_text 27 = .ok (.iconst 0, 1) := dk_3 (dk_at dksX7_text_1 3 rfl rfl)
theorem dX7_text_28 : decode cX7_text 28 = .ok (.putfield 109, 3) := dk_181 0 109 (dk_at dksX7_text_1 4 rfl rfl)
theorem dX7_text_31 : decode cX7_text 31 = .ok (.aload_n 0, 1) := dk_42 (dk_at dksX7_text_1 7 rfl rfl)
theorem dX7_text_32 : decode cX7_text 32 = .ok (.iconst 0, 1) := dk_3 (dk_at dksX7_text_1 8 rfl rfl)
theorem dX7_text_33 : decode cX7_text 33 = .ok (.putfield 226, 3) := dk_181 0 226 (dk_at dksX7_text_1 9 rfl rfl)
theorem dX7_text_36 : decode cX7_text 36 = .ok (.aload_n 0, 1) := dk_42 (dk_at dksX7_text_1 12 rfl rfl)
theorem dX7_text_37 : decode cX7_text 37 = .ok (.iload_n 1, 1) := dk_27 (dk_at dksX7_text_1 13 rfl rfl)
theorem dX7_text_38 : decode cX7_text 38 = .ok (.invokevirtual 229, 3) := dk_182 0 229 (dk_at dksX7_text_1 14 rfl rfl)
theorem dX7_text_41 : decode cX7_text 41 = .ok (.ifCond .ne 25, 3) := dk_154 0 25 (dk_at dksX7_text_1 17 rfl rfl)
theorem dX7_text_44 : decode cX7_text 44 = .ok (.aload_n 0, 1) := dk_42 (dk_at dksX7_text_1 20 rfl rfl)
theorem dX7_text_45 : decode cX7_text 45 = .ok (.aload_n 0, 1) := dk_42 (dk_at dksX7_text_1 21 rfl rfl)
theorem dX7_text_46 : decode cX7_text 46 = .ok (.getfield 149, 3) := dk_180 0 149 (dk_at dksX7_text_2 0 rfl rfl)
theorem dX7_text_49 : decode cX7_text 49 = .ok (.putfield 226, 3) := dk_181 0 226 (dk_at dksX7_text_2 3 rfl rfl)
theorem dX7_text_52 : decode cX7_text 52 = .ok (.aload_n 0, 1) := dk_42 (dk_at dksX7_text_2 6 rfl rfl)
theorem dX7_text_53 : decode cX7_text 53 = .ok (.aload_n 0, 1) := dk_42 (dk_at dksX7_text_2 7 rfl rfl)
theorem dX7_text_54 : decode cX7_text 54 = .ok (.getfield 152, 3) := dk_180 0 152 (dk_at dksX7_text_2 8 rfl rfl)
theorem dX7_text_57 : decode cX7_text 57 = .ok (.putfield 9, 3) := dk_181 0 9 (dk_at dksX7_text_2 11 rfl rfl)
theorem dX7_text_60 : decode cX7_text 60 = .ok (.aload_n 0, 1) := dk_42 (dk_at dksX7_text_2 14 rfl rfl)
theorem dX7_text_61 : decode cX7_text 61 = .ok (.iconst 4, 1) := dk_7 (dk_at dksX7_text_2 15 rfl rfl)
theorem dX7_text_62 : decode cX7_text 62 = .ok (.invokevirtual 232, 3) := dk_182 0 232 (dk_at dksX7_text_2 16 rfl rfl)
theorem dX7_text_65 : decode cX7_text 65 = .ok (.ireturn, 1) := dk_172 (dk_at dksX7_text_2 19 rfl rfl)
theorem dX7_text_66 : decode cX7_text 66 = .ok (.aload_n 0, 1) := dk_42 (dk_at dksX7_text_2 20 rfl rfl)
theorem dX7_text_67 : decode cX7_text 67 = .ok (.aload_n 0, 1) := dk_42 (dk_at dksX7_text_2 21 rfl rfl)
theorem dX7_text_68 : decode cX7_text 68 = .ok (.getfield 166, 3) := dk_180 0 166 (dk_at dksX7_text_3 0 rfl rfl)
theorem dX7_text_71 : decode cX7_text 71 = .ok (.putfield 235, 3) := dk_181 0 235 (dk_at dksX7_text_3 3 rfl rfl)
theorem dX7_text_74 : decode cX7_text 74 = .ok (.iconst 0, 1) := dk_3 (dk_at dksX7_text_3 6 rfl rfl)
theorem dX7_text_75 : decode cX7_text 75 = .ok (.istore_n 2, 1) := dk_61 (dk_at dksX7_text_3 7 rfl rfl)
theorem dX7_text_76 : decode cX7_text 76 = .ok (.iload_n 2, 1) := dk_28 (dk_at dksX7_text_3 8 rfl rfl)
theorem dX7_text_77 : decode cX7_text 77 = .ok (.aload_n 0, 1) := dk_42 (dk_at dksX7_text_3 9 rfl rfl)
theorem dX7_text_78 : decode cX7_text 78 = .ok (.getfield 235, 3) := dk_180 0 235 (dk_at dksX7_text_3 10 rfl rfl)
theorem dX7_text_81 : decode cX7_text 81 = .ok (.if_icmp .ge 24, 3) := dk_162 0 24 (dk_at dksX7_text_3 13 rfl rfl)
theorem dX7_text_84 : decode cX7_text 84 = .ok (.aload_n 0, 1) := dk_42 (dk_at dksX7_text_3 16 rfl rfl)
theorem dX7_text_85 : decode cX7_text 85 = .ok (.getfield 17, 3) := dk_180 0 17 (dk_at dksX7_text_3 17 rfl rfl)
theorem dX7_text_88 : decode cX7_text 88 = .ok (.iload_n 2, 1) := dk_28 (dk_at dksX7_text_3 20 rfl rfl)
theorem dX7_text_89 : decode cX7_text 89 = .ok (.aload_n 0, 1) := dk_42 (dk_at dksX7_text_3 21 rfl rfl)
theorem dX7_text_90 : decode cX7_text 90 = .ok (.getfield 17, 3) := dk_180 0 17 (dk_at dksX7_text_4 0 rfl rfl)
theorem dX7_text_93 : decode cX7_text 93 = .ok (.bipush 8, 2) := dk_16 8 (dk_at dksX7_text_4 3 rfl rfl)
theorem dX7_text_95 : decode cX7_text 95 = .ok (.iload_n 2, 1) := dk_28 (dk_at dksX7_text_4 5 rfl rfl)
theorem dX7_text_96 : decode cX7_text 96 = .ok (.iadd, 1) := dk_96 (dk_at dksX7_text_4 6 rfl rfl)
theorem dX7_text_97 : decode cX7_text 97 = .ok (.iaload, 1) := dk_46 (dk_at dksX7_text_4 7 rfl rfl)
theorem dX7_text_98 : decode cX7_text 98 = .ok (.iastore, 1) := dk_79 (dk_at dksX7_text_4 8 rfl rfl)
theorem dX7_text_99 : decode cX7_text 99 = .ok (.iinc 2 1, 3) := dk_132 2 1 (dk_at dksX7_text_4 9 rfl rfl)
theorem dX7_text_102 : decode cX7_text 102 = .ok (.goto (-26), 3) := dk_167 255 230 (dk_at dksX7_text_4 12 rfl rfl)
theorem dX7_text_105 : decode cX7_text 105 = .ok (.aload_n 0, 1) := dk_42 (dk_at dksX7_text_4 15 rfl rfl)
theorem dX7_text_106 : decode cX7_text 106 = .ok (.aload_n 0, 1) := dk_42 (dk_at dksX7_text_4 16 rfl rfl)
theorem dX7_text_107 : decode cX7_text 107 = .ok (.getfield 197, 3) := dk_180 0 197 (dk_at dksX7_text_4 17 rfl rfl)
theorem dX7_text_110 : decode cX7_text 110 = .ok (.putfield 238, 3) := dk_181 0 238 (dk_at dksX7_text_4 20 rfl rfl)
theorem dX7_text_113 : decode cX7_text 113 = .ok (.aload_n 0, 1) := dk_42 (dk_at dksX7_text_4 23 rfl rfl)
theorem dX7_text_114 : decode cX7_text 114 = .ok (.aload_n 0, 1) := dk_42 (dk_at dksX7_text_5 0 rfl rfl)
theorem dX7_text_115 : decode cX7_text 115 = .ok (.getfield 238, 3) := dk_180 0 238 (dk_at dksX7_text_5 1 rfl rfl)
theorem dX7_text_118 : decode cX7_text 118 = .ok (.putfield 241, 3) := dk_181 0 241 (dk_at dksX7_text_5 4 rfl rfl)
theorem dX7_text_121 : decode cX7_text 121 = .ok (.iconst 0, 1) := dk_3 (dk_at dksX7_text_5 7 rfl rfl)
theorem dX7_text_122 : decode cX7_text 122 = .ok (.istore_n 2, 1) := dk_61 (dk_at dksX7_text_5 8 rfl rfl)
theorem dX7_text_123 : decode cX7_text 123 = .ok (.iload_n 2, 1) := dk_28 (dk_at dksX7_text_5 9 rfl rfl)
theorem dX7_text_124 : decode cX7_text 124 = .ok (.aload_n 0, 1) := dk_42 (dk_at dksX7_text_5 10 rfl rfl)
theorem dX7_text_125 : decode cX7_text 125 = .ok (.getfield 238, 3) := dk_180 0 238 (dk_at dksX7_text_5 11 rfl rfl)
theorem dX7_text_128 : decode cX7_text 128 = .ok (.if_icmp .ge 60, 3) := dk_162 0 60 (dk_at dksX7_text_5 14 rfl rfl)
theorem dX7_text_131 : decode cX7_text 131 = .ok (.aload_n 0, 1) := dk_42 (dk_at dksX7_text_5 17 rfl rfl)
theorem dX7_text_132 : decode cX7_text 132 = .ok (.getfield 20, 3) := dk_180 0 20 (dk_at dksX7_text_5 18 rfl rfl)
theorem dX7_text_135 : decode cX7_text 135 = .ok (.iload_n 2, 1) := dk_28 (dk_at dksX7_text_5 21 rfl rfl)
theorem dX7_text_136 : decode cX7_text 136 = .ok (.aload_n 0, 1) := dk_42 (dk_at dksX7_text_5 22 rfl rfl)
theorem dX7_text_137 : decode cX7_text 137 = .ok (.getfield 20, 3) := dk_180 0 20 (dk_at dksX7_text_6 0 rfl rfl)
theorem dX7_text_140 : decode cX7_text 140 = .ok (.bipush 48, 2) := dk_16 48 (dk_at dksX7_text_6 3 rfl rfl)
theorem dX7_text_142 : decode cX7_text 142 = .ok (.iload_n 2, 1) := dk_28 (dk_at dksX7_text_6 5 rfl rfl)
theorem dX7_text_143 : decode cX7_text 143 = .ok (.iadd, 1) := dk_96 (dk_at dksX7_text_6 6 rfl rfl)
theorem dX7_text_144 : decode cX7_text 144 = .ok (.iaload, 1) := dk_46 (dk_at dksX7_text_6 7 rfl rfl)
theorem dX7_text_145 : decode cX7_text 145 = .ok (.iastore, 1) := dk_79 (dk_at dksX7_text_6 8 rfl rfl)
theorem dX7_text_146 : decode cX7_text 146 = .ok (.iconst 0, 1) := dk_3 (dk_at dksX7_text_6 9 rfl rfl)
theorem dX7_text_147 : decode cX7_text 147 = .ok (.istore_n 3, 1) := dk_62 (dk_at dksX7_text_6 10 rfl rfl)
theorem dX7_text_148 : decode cX7_text 148 = .ok (.iload_n 3, 1) := dk_29 (dk_at dksX7_text_6 11 rfl rfl)
theorem dX7_text_149 : decode cX7_text 149 = .ok (.iconst 4, 1) := dk_7 (dk_at dksX7_text_6 12 rfl rfl)
theorem dX7_text_150 : decode cX7_text 150 = .ok (.if_icmp .ge 32, 3) := dk_162 0 32 (dk_at dksX7_text_6 13 rfl rfl)
theorem dX7_text_153 : decode cX7_text 153 = .ok (.aload_n 0, 1) := dk_42 (dk_at dksX7_text_6 16 rfl rfl)
theorem dX7_text_154 : decode cX7_text 154 = .ok (.getfield 23, 3) := dk_180 0 23 (dk_at dksX7_text_6 17 rfl rfl)
theorem dX7_text_157 : decode cX7_text 157 = .ok (.iconst 4, 1) := dk_7 (dk_at dksX7_text_6 20 rfl rfl)
theorem dX7_text_158 : decode cX7_text 158 = .ok (.iload_n 2, 1) := dk_28 (dk_at dksX7_text_6 21 rfl rfl)
theorem dX7_text_159 : decode cX7_text 159 = .ok (.imul, 1) := dk_104 (dk_at dksX7_text_6 22 rfl rfl)
theorem dX7_text_160 : decode cX7_text 160 = .ok (.iload_n 3, 1) := dk_29 (dk_at dksX7_text_6 23 rfl rfl)
theorem dX7_text_161 : decode cX7_text 161 = .ok (.iadd, 1) := dk_96 (dk_at dksX7_text_7 0 rfl rfl)
theorem dX7_text_162 : decode cX7_text 162 = .ok (.aload_n 0, 1) := dk_42 (dk_at dksX7_text_7 1 rfl rfl)
theorem dX7_text_163 : decode cX7_text 163 = .ok (.getfield 23, 3) := dk_180 0 23 (dk_at dksX7_text_7 2 rfl rfl)
theorem dX7_text_166 : decode cX7_text 166 = .ok (.iconst 4, 1) := dk_7 (dk_at dksX7_text_7 5 rfl rfl)
theorem dX7_text_167 : decode cX7_text 167 = .ok (.bipush 48, 2) := dk_16 48 (dk_at dksX7_text_7 6 rfl rfl)
theorem dX7_text_169 : decode cX7_text 169 = .ok (.iload_n 2, 1) := dk_28 (dk_at dksX7_text_7 8 rfl rfl)
theorem dX7_text_170 : decode cX7_text 170 = .ok (.iadd, 1) := dk_96 (dk_at dksX7_text_7 9 rfl rfl)
theorem dX7_text_171 : decode cX7_text 171 = .ok (.imul, 1) := dk_104 (dk_at dksX7_text_7 10 rfl rfl)
theorem dX7_text_172 : decode cX7_text 172 = .ok (.iload_n 3, 1) := dk_29 (dk_at dksX7_text_7 11 rfl rfl)
theorem dX7_text_173 : decode cX7_text 173 = .ok (.iadd, 1) := dk_96 (dk_at dksX7_text_7 12 rfl rfl)
theorem dX7_text_174 : decode cX7_text 174 = .ok (.iaload, 1) := dk_46 (dk_at dksX7_text_7 13 rfl rfl)
theorem dX7_text_175 : decode cX7_text 175 = .ok (.iastore, 1) := dk_79 (dk_at dksX7_text_7 14 rfl rfl)
theorem dX7_text_176 : decode cX7_text 176 = .ok (.iinc 3 1, 3) := dk_132 3 1 (dk_at dksX7_text_7 15 rfl rfl)
theorem dX7_text_179 : decode cX7_text 179 = .ok (.goto (-31), 3) := dk_167 255 225 (dk_at dksX7_text_7 18 rfl rfl)
theorem dX7_text_182 : decode cX7_text 182 = .ok (.iinc 2 1, 3) := dk_132 2 1 (dk_at dksX7_text_7 21 rfl rfl)
theorem dX7_text_185 : decode cX7_text 185 = .ok (.goto (-62), 3) := dk_167 255 194 (dk_at dksX7_text_8 0 rfl rfl)
theorem dX7_text_188 : decode cX7_text 188 = .ok (.aload_n 0, 1) := dk_42 (dk_at dksX7_text_8 3 rfl rfl)
theorem dX7_text_189 : decode cX7_text 189 = .ok (.aload_n 0, 1) := dk_42 (dk_at dksX7_text_8 4 rfl rfl)
theorem dX7_text_190 : decode cX7_text 190 = .ok (.getfield 173, 3) := dk_180 0 173 (dk_at dksX7_text_8 5 rfl rfl)
theorem dX7_text_193 : decode cX7_text 193 = .ok (.putfield 244, 3) := dk_181 0 244 (dk_at dksX7_text_8 8 rfl rfl)
theorem dX7_text_196 : decode cX7_text 196 = .ok (.iconst 0, 1) := dk_3 (dk_at dksX7_text_8 11 rfl rfl)
theorem dX7_text_197 : decode cX7_text 197 = .ok (.istore_n 2, 1) := dk_61 (dk_at dksX7_text_8 12 rfl rfl)
theorem dX7_text_198 : decode cX7_text 198 = .ok (.iload_n 2, 1) := dk_28 (dk_at dksX7_text_8 13 rfl rfl)
theorem dX7_text_199 : decode cX7_text 199 = .ok (.sipush 144, 3) := dk_17 0 144 (dk_at dksX7_text_8 14 rfl rfl)
theorem dX7_text_202 : decode cX7_text 202 = .ok (.if_icmp .ge 25, 3) := dk_162 0 25 (dk_at dksX7_text_8 17 rfl rfl)
theorem dX7_text_205 : decode cX7_text 205 = .ok (.aload_n 0, 1) := dk_42 (dk_at dksX7_text_8 20 rfl rfl)
theorem dX7_text_206 : decode cX7_text 206 = .ok (.getfield 26, 3) := dk_180 0 26 (dk_at dksX7_text_8 21 rfl rfl)
theorem dX7_text_209 : decode cX7_text 209 = .ok (.iload_n 2, 1) := dk_28 (dk_at dksX7_text_9 0 rfl rfl)
theorem dX7_text_210 : decode cX7_text 210 = .ok (.aload_n 0, 1) := dk_42 (dk_at dksX7_text_9 1 rfl rfl)
theorem dX7_text_211 : decode cX7_text 211 = .ok (.getfield 26, 3) := dk_180 0 26 (dk_at dksX7_text_9 2 rfl rfl)
theorem dX7_text_214 : decode cX7_text 214 = .ok (.sipush 144, 3) := dk_17 0 144 (dk_at dksX7_text_9 5 rfl rfl)
theorem dX7_text_217 : decode cX7_text 217 = .ok (.iload_n 2, 1) := dk_28 (dk_at dksX7_text_9 8 rfl rfl)
theorem dX7_text_218 : decode cX7_text 218 = .ok (.iadd, 1) := dk_96 (dk_at dksX7_text_9 9 rfl rfl)
theorem dX7_text_219 : decode cX7_text 219 = .ok (.iaload, 1) := dk_46 (dk_at dksX7_text_9 10 rfl rfl)
theorem dX7_text_220 : decode cX7_text 220 = .ok (.iastore, 1) := dk_79 (dk_at dksX7_text_9 11 rfl rfl)
theorem dX7_text_221 : decode cX7_text 221 = .ok (.iinc 2 1, 3) := dk_132 2 1 (dk_at dksX7_text_9 12 rfl rfl)
theorem dX7_text_224 : decode cX7_text 224 = .ok (.goto (-26), 3) := dk_167 255 230 (dk_at dksX7_text_9 15 rfl rfl)
theorem dX7_text_227 : decode cX7_text 227 = .ok (.aload_n 0, 1) := dk_42 (dk_at dksX7_text_9 18 rfl rfl)
theorem dX7_text_228 : decode cX7_text 228 = .ok (.invokevirtual 247, 3) := dk_182 0 247 (dk_at dksX7_text_9 19 rfl rfl)
theorem dX7_text_231 : decode cX7_text 231 = .ok (.aload_n 0, 1) := dk_42 (dk_at dksX7_text_9 22 rfl rfl)
theorem dX7_text_232 : decode cX7_text 232 = .ok (.getfield 250, 3) := dk_180 0 250 (dk_at dksX7_text_10 0 rfl rfl)
theorem dX7_text_235 : decode cX7_text 235 = .ok (.ireturn, 1) := dk_172 (dk_at dksX7_text_10 3 rfl rfl)
abbrev cX7_in : ByteArray := prog_14_method_3_code
def yX7_in : MethodName := ⟨RX7, "in", "(III)Z"⟩
def dkwX7_in_0 : List UInt8 := [26, 27, 161, 0, 12, 26, 28, 163, 0, 7, 4, 167, 0, 4, 3, 172]
abbrev dktX7_in_0 : List UInt8 := dkwX7_in_0 ++ []
theorem dksX7_in_0 : cX7_in.data.toList.drop 0 = dktX7_in_0 := by decide +kernel
theorem dX7_in_0 : decode cX7_in 0 = .ok (.iload_n 0, 1) := dk_26 (dk_at dksX7_in_0 0 rfl rfl)
theorem dX7_in_1 : decode cX7_in 1 = .ok (.iload_n 1, 1) := dk_27 (dk_at dksX7_in_0 1 rfl rfl)
theorem dX7_in_2 : decode cX7_in 2 = .ok (.if_icmp .lt 12, 3) := dk_161 0 12 (dk_at dksX7_in_0 2 rfl rfl)
theorem dX7_in_5 : decode cX7_in 5 = .ok (.iload_n 0, 1) := dk_26 (dk_at dksX7_in_0 5 rfl rfl)
theorem dX7_in_6 : decode cX7_in 6 = .ok (.iload_n 2, 1) := dk_28 (dk_at dksX7_in_0 6 rfl rfl)
theorem dX7_in_7 : decode cX7_in 7 = .ok (.if_icmp .gt 7, 3) := dk_163 0 7 (dk_at dksX7_in_0 7 rfl rfl)
theorem dX7_in_10 : decode cX7_in 10 = .ok (.iconst 1, 1) := dk_4 (dk_at dksX7_in_0 10 rfl rfl)
theorem dX7_in_11 : decode cX7_in 11 = .ok (.goto 4, 3) := dk_167 0 4 (dk_at dksX7_in_0 11 rfl rfl)
theorem dX7_in_14 : decode cX7_in 14 = .ok (.iconst 0, 1) := dk_3 (dk_at dksX7_in_0 14 rfl rfl)
theorem dX7_in_15 : decode cX7_in 15 = .ok (.ireturn, 1) := dk_172 (dk_at dksX7_in_0 15 rfl rfl)
abbrev cX7_isRefused : ByteArray := prog_14_method_5_code
def yX7_isRefused : MethodName := ⟨RX7, "isRefused", "(I)Z"⟩
def dkwX7_isRefused_1 : List UInt8 := [172]
abbrev dktX7_isRefused_1 : List UInt8 := dkwX7_isRefused_1 ++ []
def dkwX7_isRefused_0 : List UInt8 := [42, 3, 181, 0, 103, 42, 2, 181, 0, 9, 42, 27, 181, 0, 106, 27, 153, 0, 7, 4, 167, 0, 4, 3]
abbrev dktX7_isRefused_0 : List UInt8 := dkwX7_isRefused_0 ++ dktX7_isRefused_1
theorem dksX7_isRefused_0 : cX7_isRefused.data.toList.drop 0 = dktX7_isRefused_0 := by decide +kernel
theorem dksX7_isRefused_1 : cX7_isRefused.data.toList.drop 24 = dktX7_isRefused_1 := dk_seg dksX7_isRefused_0 24 rfl rfl
theorem dX7_isRefused_0 : decode cX7_isRefused 0 = .ok (.aload_n 0, 1) := dk_42 (dk_at dksX7_isRefused_0 0 rfl rfl)
theorem dX7_isRefused_1 : decode cX7_isRefused 1 = .ok (.iconst 0, 1) := dk_3 (dk_at dksX7_isRefused_0 1 rfl rfl)
theorem dX7_isRefused_2 : decode cX7_isRefused 2 = .ok (.putfield 103, 3) := dk_181 0 103 (dk_at dksX7_isRefused_0 2 rfl rfl)
theorem dX7_isRefused_5 : decode cX7_isRefused 5 = .ok (.aload_n 0, 1) := dk_42 (dk_at dksX7_isRefused_0 5 rfl rfl)
theorem dX7_isRefused_6 : decode cX7_isRefused 6 = .ok (.iconst (-1), 1) := dk_2 (dk_at dksX7_isRefused_0 6 rfl rfl)
theorem dX7_isRefused_7 : decode cX7_isRefused 7 = .ok (.putfield 9, 3) := dk_181 0 9 (dk_at dksX7_isRefused_0 7 rfl rfl)
theorem dX7_isRefused_10 : decode cX7_isRefused 10 = .ok (.aload_n 0, 1) := dk_42 (dk_at dksX7_isRefused_0 10 rfl rfl)
theorem dX7_isRefused_11 : decode cX7_isRefused 11 = .ok (.iload_n 1, 1) := dk_27 (dk_at dksX7_isRefused_0 11 rfl rfl)
theorem dX7_isRefused_12 : decode cX7_isRefused 12 = .ok (.putfield 106, 3) := dk_181 0 106 (dk_at dksX7_isRefused_0 12 rfl rfl)
theorem dX7_isRefused_15 : decode cX7_isRefused 15 = .ok (.iload_n 1, 1) := dk_27 (dk_at dksX7_isRefused_0 15 rfl rfl)
theorem dX7_isRefused_16 : decode cX7_isRefused 16 = .ok (.ifCond .eq 7, 3) := dk_153 0 7 (dk_at dksX7_isRefused_0 16 rfl rfl)
theorem dX7_isRefused_19 : decode cX7_isRefused 19 = .ok (.iconst 1, 1) := dk_4 (dk_at dksX7_isRefused_0 19 rfl rfl)
theorem dX7_isRefused_20 : decode cX7_isRefused 20 = .ok (.goto 4, 3) := dk_167 0 4 (dk_at dksX7_isRefused_0 20 rfl rfl)
theorem dX7_isRefused_23 : decode cX7_isRefused 23 = .ok (.iconst 0, 1) := dk_3 (dk_at dksX7_isRefused_0 23 rfl rfl)
theorem dX7_isRefused_24 : decode cX7_isRefused 24 = .ok (.ireturn, 1) := dk_172 (dk_at dksX7_isRefused_1 0 rfl rfl)
abbrev cX7_readAll : ByteArray := prog_14_method_23_code
def yX7_readAll : MethodName := ⟨RX7, "readAll", "(I)Z"⟩
def dkwX7_readAll_3 : List UInt8 := [42, 180, 0, 129, 153, 0, 11, 42, 4, 182, 0, 176, 153, 0, 7, 4, 167, 0, 4, 3, 172]
abbrev dktX7_readAll_3 : List UInt8 := dkwX7_readAll_3 ++ []
def dkwX7_readAll_2 : List UInt8 := [3, 172, 42, 180, 0, 129, 16, 59, 160, 0, 16, 42, 182, 0, 180, 42, 182, 0, 220, 154, 255, 239, 3, 172]
abbrev dktX7_readAll_2 : List UInt8 := dkwX7_readAll_2 ++ dktX7_readAll_3
def dkwX7_readAll_1 : List UInt8 := [181, 0, 204, 42, 3, 181, 0, 207, 42, 3, 181, 0, 197, 42, 182, 0, 180, 42, 182, 0, 220, 154, 0, 5]
abbrev dktX7_readAll_1 : List UInt8 := dkwX7_readAll_1 ++ dktX7_readAll_2
def dkwX7_readAll_0 : List UInt8 := [42, 27, 181, 0, 116, 42, 3, 181, 0, 119, 42, 3, 181, 0, 166, 42, 3, 181, 0, 173, 42, 3]
abbrev dktX7_readAll_0 : List UInt8 := dkwX7_readAll_0 ++ dktX7_readAll_1
theorem dksX7_readAll_0 : cX7_readAll.data.toList.drop 0 = dktX7_readAll_0 := by decide +kernel
theorem dksX7_readAll_1 : cX7_readAll.data.toList.drop 22 = dktX7_readAll_1 := dk_seg dksX7_readAll_0 22 rfl rfl
theorem dksX7_readAll_2 : cX7_readAll.data.toList.drop 46 = dktX7_readAll_2 := dk_seg dksX7_readAll_1 24 rfl rfl
theorem dksX7_readAll_3 : cX7_readAll.data.toList.drop 70 = dktX7_readAll_3 := dk_seg dksX7_readAll_2 24 rfl rfl
theorem dX7_readAll_0 : decode cX7_readAll 0 = .ok (.aload_n 0, 1) := dk_42 (dk_at dksX7_readAll_0 0 rfl rfl)
theorem dX7_readAll_1 : decode cX7_readAll 1 = .ok (.iload_n 1, 1) := dk_27 (dk_at dksX7_readAll_0 1 rfl rfl)
theorem dX7_readAll_2 : decode cX7_readAll 2 = .ok (.putfield 116, 3) := dk_181 0 116 (dk_at dksX7_readAll_0 2 rfl rfl)
theorem dX7_readAll_5 : decode cX7_readAll 5 = .ok (.aload_n 0, 1) := dk_42 (dk_at dksX7_readAll_0 5 rfl rfl)
theorem dX7_readAll_6 : decode cX7_readAll 6 = .ok (.iconst 0, 1) := dk_3 (dk_at dksX7_readAll_0 6 rfl rfl)
theorem dX7_readAll_7 : decode cX7_readAll 7 = .ok (.putfield 119, 3) := dk_181 0 119 (dk_at dksX7_readAll_0 7 rfl rfl)
theorem dX7_readAll_10 : decode cX7_readAll 10 = .ok (.aload_n 0, 1) := dk_42 (dk_at dksX7_readAll_0 10 rfl rfl)
theorem dX7_readAll_11 : decode cX7_readAll 11 = .ok (.iconst 0, 1) := dk_3 (dk_at dksX7_readAll_0 11 rfl rfl)
theorem dX7_readAll_12 : decode cX7_readAll 12 = .ok (.putfield 166, 3) := dk_181 0 166 (dk_at dksX7_readAll_0 12 rfl rfl)
theorem dX7_readAll_15 : decode cX7_readAll 15 = .ok (.aload_n 0, 1) := dk_42 (dk_at dksX7_readAll_0 15 rfl rfl)
theorem dX7_readAll_16 : decode cX7_readAll 16 = .ok (.iconst 0, 1) := dk_3 (dk_at dksX7_readAll_0 16 rfl rfl)
theorem dX7_readAll_17 : decode cX7_readAll 17 = .ok (.putfield 173, 3) := dk_181 0 173 (dk_at dksX7_readAll_0 17 rfl rfl)
theorem dX7_readAll_20 : decode cX7_readAll 20 = .ok (.aload_n 0, 1) := dk_42 (dk_at dksX7_readAll_0 20 rfl rfl)
theorem dX7_readAll_21 : decode cX7_readAll 21 = .ok (.iconst 0, 1) := dk_3 (dk_at dksX7_readAll_0 21 rfl rfl)
theorem dX7_readAll_22 : decode cX7_readAll 22 = .ok (.putfield 204, 3) := dk_181 0 204 (dk_at dksX7_readAll_1 0 rfl rfl)
theorem dX7_readAll_25 : decode cX7_readAll 25 = .ok (.aload_n 0, 1) := dk_42 (dk_at dksX7_readAll_1 3 rfl rfl)
theorem dX7_readAll_26 : decode cX7_readAll 26 = .ok (.iconst 0, 1) := dk_3 (dk_at dksX7_readAll_1 4 rfl rfl)
theorem dX7_readAll_27 : decode cX7_readAll 27 = .ok (.putfield 207, 3) := dk_181 0 207 (dk_at dksX7_readAll_1 5 rfl rfl)
theorem dX7_readAll_30 : decode cX7_readAll 30 = .ok (.aload_n 0, 1) := dk_42 (dk_at dksX7_readAll_1 8 rfl rfl)
theorem dX7_readAll_31 : decode cX7_readAll 31 = .ok (.iconst 0, 1) := dk_3 (dk_at dksX7_readAll_1 9 rfl rfl)
theorem dX7_readAll_32 : decode cX7_readAll 32 = .ok (.putfield 197, 3) := dk_181 0 197 (dk_at dksX7_readAll_1 10 rfl rfl)
theorem dX7_readAll_35 : decode cX7_readAll 35 = .ok (.aload_n 0, 1) := dk_42 (dk_at dksX7_readAll_1 13 rfl rfl)
theorem dX7_readAll_36 : decode cX7_readAll 36 = .ok (.invokevirtual 180, 3) := dk_182 0 180 (dk_at dksX7_readAll_1 14 rfl rfl)
theorem dX7_readAll_39 : decode cX7_readAll 39 = .ok (.aload_n 0, 1) := dk_42 (dk_at dksX7_readAll_1 17 rfl rfl)
theorem dX7_readAll_40 : decode cX7_readAll 40 = .ok (.invokevirtual 220, 3) := dk_182 0 220 (dk_at dksX7_readAll_1 18 rfl rfl)
theorem dX7_readAll_43 : decode cX7_readAll 43 = .ok (.ifCond .ne 5, 3) := dk_154 0 5 (dk_at dksX7_readAll_1 21 rfl rfl)
theorem dX7_readAll_46 : decode cX7_readAll 46 = .ok (.iconst 0, 1) := dk_3 (dk_at dksX7_readAll_2 0 rfl rfl)
theorem dX7_readAll_47 : decode cX7_readAll 47 = .ok (.ireturn, 1) := dk_172 (dk_at dksX7_readAll_2 1 rfl rfl)
theorem dX7_readAll_48 : decode cX7_readAll 48 = .ok (.aload_n 0, 1) := dk_42 (dk_at dksX7_readAll_2 2 rfl rfl)
theorem dX7_readAll_49 : decode cX7_readAll 49 = .ok (.getfield 129, 3) := dk_180 0 129 (dk_at dksX7_readAll_2 3 rfl rfl)
theorem dX7_readAll_52 : decode cX7_readAll 52 = .ok (.bipush 59, 2) := dk_16 59 (dk_at dksX7_readAll_2 6 rfl rfl)
theorem dX7_readAll_54 : decode cX7_readAll 54 = .ok (.if_icmp .ne 16, 3) := dk_160 0 16 (dk_at dksX7_readAll_2 8 rfl rfl)
theorem dX7_readAll_57 : decode cX7_readAll 57 = .ok (.aload_n 0, 1) := dk_42 (dk_at dksX7_readAll_2 11 rfl rfl)
theorem dX7_readAll_58 : decode cX7_readAll 58 = .ok (.invokevirtual 180, 3) := dk_182 0 180 (dk_at dksX7_readAll_2 12 rfl rfl)
theorem dX7_readAll_61 : decode cX7_readAll 61 = .ok (.aload_n 0, 1) := dk_42 (dk_at dksX7_readAll_2 15 rfl rfl)
theorem dX7_readAll_62 : decode cX7_readAll 62 = .ok (.invokevirtual 220, 3) := dk_182 0 220 (dk_at dksX7_readAll_2 16 rfl rfl)
theorem dX7_readAll_65 : decode cX7_readAll 65 = .ok (.ifCond .ne (-17), 3) := dk_154 255 239 (dk_at dksX7_readAll_2 19 rfl rfl)
theorem dX7_readAll_68 : decode cX7_readAll 68 = .ok (.iconst 0, 1) := dk_3 (dk_at dksX7_readAll_2 22 rfl rfl)
theorem dX7_readAll_69 : decode cX7_readAll 69 = .ok (.ireturn, 1) := dk_172 (dk_at dksX7_readAll_2 23 rfl rfl)
theorem dX7_readAll_70 : decode cX7_readAll 70 = .ok (.aload_n 0, 1) := dk_42 (dk_at dksX7_readAll_3 0 rfl rfl)
theorem dX7_readAll_71 : decode cX7_readAll 71 = .ok (.getfield 129, 3) := dk_180 0 129 (dk_at dksX7_readAll_3 1 rfl rfl)
theorem dX7_readAll_74 : decode cX7_readAll 74 = .ok (.ifCond .eq 11, 3) := dk_153 0 11 (dk_at dksX7_readAll_3 4 rfl rfl)
theorem dX7_readAll_77 : decode cX7_readAll 77 = .ok (.aload_n 0, 1) := dk_42 (dk_at dksX7_readAll_3 7 rfl rfl)
theorem dX7_readAll_78 : decode cX7_readAll 78 = .ok (.iconst 1, 1) := dk_4 (dk_at dksX7_readAll_3 8 rfl rfl)
theorem dX7_readAll_79 : decode cX7_readAll 79 = .ok (.invokevirtual 176, 3) := dk_182 0 176 (dk_at dksX7_readAll_3 9 rfl rfl)
theorem dX7_readAll_82 : decode cX7_readAll 82 = .ok (.ifCond .eq 7, 3) := dk_153 0 7 (dk_at dksX7_readAll_3 12 rfl rfl)
theorem dX7_readAll_85 : decode cX7_readAll 85 = .ok (.iconst 1, 1) := dk_4 (dk_at dksX7_readAll_3 15 rfl rfl)
theorem dX7_readAll_86 : decode cX7_readAll 86 = .ok (.goto 4, 3) := dk_167 0 4 (dk_at dksX7_readAll_3 16 rfl rfl)
theorem dX7_readAll_89 : decode cX7_readAll 89 = .ok (.iconst 0, 1) := dk_3 (dk_at dksX7_readAll_3 19 rfl rfl)
theorem dX7_readAll_90 : decode cX7_readAll 90 = .ok (.ireturn, 1) := dk_172 (dk_at dksX7_readAll_3 20 rfl rfl)
abbrev cX7_goesOn : ByteArray := prog_14_method_10_code
def yX7_goesOn : MethodName := ⟨RX7, "goesOn", "()V"⟩
def dkwX7_goesOn_10 : List UInt8 := [16, 41, 160, 0, 7, 27, 167, 0, 4, 4, 181, 0, 129, 177]
abbrev dktX7_goesOn_10 : List UInt8 := dkwX7_goesOn_10 ++ []
def dkwX7_goesOn_9 : List UInt8 := [16, 59, 159, 0, 27, 27, 16, 44, 159, 0, 21, 27, 16, 61, 159, 0, 15, 27, 16, 40, 159, 0, 9, 27]
abbrev dktX7_goesOn_9 : List UInt8 := dkwX7_goesOn_9 ++ dktX7_goesOn_10
def dkwX7_goesOn_8 : List UInt8 := [164, 0, 7, 4, 167, 0, 4, 6, 181, 0, 129, 177, 42, 89, 180, 0, 119, 4, 96, 181, 0, 119, 42, 27]
abbrev dktX7_goesOn_8 : List UInt8 := dkwX7_goesOn_8 ++ dktX7_goesOn_9
def dkwX7_goesOn_7 : List UInt8 := [180, 0, 119, 4, 96, 181, 0, 119, 167, 255, 228, 42, 42, 180, 0, 119, 42, 180, 0, 126, 100, 4]
abbrev dktX7_goesOn_7 : List UInt8 := dkwX7_goesOn_7 ++ dktX7_goesOn_8
def dkwX7_goesOn_6 : List UInt8 := [181, 0, 136, 42, 42, 180, 0, 119, 182, 0, 122, 16, 48, 16, 57, 184, 0, 132, 153, 0, 16, 42, 89]
abbrev dktX7_goesOn_6 : List UInt8 := dkwX7_goesOn_6 ++ dktX7_goesOn_7
def dkwX7_goesOn_5 : List UInt8 := [167, 0, 4, 5, 181, 0, 129, 177, 27, 16, 48, 16, 57, 184, 0, 132, 153, 0, 65, 42, 27, 16, 48, 100]
abbrev dktX7_goesOn_5 : List UInt8 := dkwX7_goesOn_5 ++ dktX7_goesOn_6
def dkwX7_goesOn_4 : List UInt8 := [181, 0, 119, 167, 255, 228, 42, 42, 180, 0, 119, 42, 180, 0, 126, 100, 16, 6, 164, 0, 7, 4]
abbrev dktX7_goesOn_4 : List UInt8 := dkwX7_goesOn_4 ++ dktX7_goesOn_5
def dkwX7_goesOn_3 : List UInt8 := [180, 0, 119, 182, 0, 122, 16, 97, 16, 122, 184, 0, 132, 153, 0, 16, 42, 89, 180, 0, 119, 4, 96]
abbrev dktX7_goesOn_3 : List UInt8 := dkwX7_goesOn_3 ++ dktX7_goesOn_4
def dkwX7_goesOn_2 : List UInt8 := [160, 0, 9, 42, 3, 181, 0, 129, 177, 27, 16, 97, 16, 122, 184, 0, 132, 153, 0, 58, 42, 42]
abbrev dktX7_goesOn_2 : List UInt8 := dkwX7_goesOn_2 ++ dktX7_goesOn_3
def dkwX7_goesOn_1 : List UInt8 := [167, 255, 233, 42, 42, 180, 0, 119, 181, 0, 126, 42, 42, 180, 0, 119, 182, 0, 122, 60, 27, 2]
abbrev dktX7_goesOn_1 : List UInt8 := dkwX7_goesOn_1 ++ dktX7_goesOn_2
def dkwX7_goesOn_0 : List UInt8 := [42, 42, 180, 0, 119, 182, 0, 122, 16, 32, 160, 0, 16, 42, 89, 180, 0, 119, 4, 96, 181, 0, 119]
abbrev dktX7_goesOn_0 : List UInt8 := dkwX7_goesOn_0 ++ dktX7_goesOn_1
theorem dksX7_goesOn_0 : cX7_goesOn.data.toList.drop 0 = dktX7_goesOn_0 := by decide +kernel
theorem dksX7_goesOn_1 : cX7_goesOn.data.toList.drop 23 = dktX7_goesOn_1 := dk_seg dksX7_goesOn_0 23 rfl rfl
theorem dksX7_goesOn_2 : cX7_goesOn.data.toList.drop 45 = dktX7_goesOn_2 := dk_seg dksX7_goesOn_1 22 rfl rfl
theorem dksX7_goesOn_3 : cX7_goesOn.data.toList.drop 67 = dktX7_goesOn_3 := dk_seg dksX7_goesOn_2 22 rfl rfl
theorem dksX7_goesOn_4 : cX7_goesOn.data.toList.drop 90 = dktX7_goesOn_4 := dk_seg dksX7_goesOn_3 23 rfl rfl
theorem dksX7_goesOn_5 : cX7_goesOn.data.toList.drop 112 = dktX7_goesOn_5 := dk_seg dksX7_goesOn_4 22 rfl rfl
theorem dksX7_goesOn_6 : cX7_goesOn.data.toList.drop 136 = dktX7_goesOn_6 := dk_seg dksX7_goesOn_5 24 rfl rfl
theorem dksX7_goesOn_7 : cX7_goesOn.data.toList.drop 159 = dktX7_goesOn_7 := dk_seg dksX7_goesOn_6 23 rfl rfl
theorem dksX7_goesOn_8 : cX7_goesOn.data.toList.drop 181 = dktX7_goesOn_8 := dk_seg dksX7_goesOn_7 22 rfl rfl
theorem dksX7_goesOn_9 : cX7_goesOn.data.toList.drop 205 = dktX7_goesOn_9 := dk_seg dksX7_goesOn_8 24 rfl rfl
theorem dksX7_goesOn_10 : cX7_goesOn.data.toList.drop 229 = dktX7_goesOn_10 := dk_seg dksX7_goesOn_9 24 rfl rfl
theorem dX7_goesOn_0 : decode cX7_goesOn 0 = .ok (.aload_n 0, 1) := dk_42 (dk_at dksX7_goesOn_0 0 rfl rfl)
theorem dX7_goesOn_1 : decode cX7_goesOn 1 = .ok (.aload_n 0, 1) := dk_42 (dk_at dksX7_goesOn_0 1 rfl rfl)
theorem dX7_goesOn_2 : decode cX7_goesOn 2 = .ok (.getfield 119, 3) := dk_180 0 119 (dk_at dksX7_goesOn_0 2 rfl rfl)
theorem dX7_goesOn_5 : decode cX7_goesOn 5 = .ok (.invokevirtual 122, 3) := dk_182 0 122 (dk_at dksX7_goesOn_0 5 rfl rfl)
theorem dX7_goesOn_8 : decode cX7_goesOn 8 = .ok (.bipush 32, 2) := dk_16 32 (dk_at dksX7_goesOn_0 8 rfl rfl)
theorem dX7_goesOn_10 : decode cX7_goesOn 10 = .ok (.if_icmp .ne 16, 3) := dk_160 0 16 (dk_at dksX7_goesOn_0 10 rfl rfl)
theorem dX7_goesOn_13 : decode cX7_goesOn 13 = .ok (.aload_n 0, 1) := dk_42 (dk_at dksX7_goesOn_0 13 rfl rfl)
theorem dX7_goesOn_14 : decode cX7_goesOn 14 = .ok (.dup, 1) := dk_89 (dk_at dksX7_goesOn_0 14 rfl rfl)
theorem dX7_goesOn_15 : decode cX7_goesOn 15 = .ok (.getfield 119, 3) := dk_180 0 119 (dk_at dksX7_goesOn_0 15 rfl rfl)
theorem dX7_goesOn_18 : decode cX7_goesOn 18 = .ok (.iconst 1, 1) := dk_4 (dk_at dksX7_goesOn_0 18 rfl rfl)
theorem dX7_goesOn_19 : decode cX7_goesOn 19 = .ok (.iadd, 1) := dk_96 (dk_at dksX7_goesOn_0 19 rfl rfl)
theorem dX7_goesOn_20 : decode cX7_goesOn 20 = .ok (.putfield 119, 3) := dk_181 0 119 (dk_at dksX7_goesOn_0 20 rfl rfl)
theorem dX7_goesOn_23 : decode cX7_goesOn 23 = .ok (.goto (-23), 3) := dk_167 255 233 (dk_at dksX7_goesOn_1 0 rfl rfl)
theorem dX7_goesOn_26 : decode cX7_goesOn 26 = .ok (.aload_n 0, 1) := dk_42 (dk_at dksX7_goesOn_1 3 rfl rfl)
theorem dX7_goesOn_27 : decode cX7_goesOn 27 = .ok (.aload_n 0, 1) := dk_42 (dk_at dksX7_goesOn_1 4 rfl rfl)
theorem dX7_goesOn_28 : decode cX7_goesOn 28 = .ok (.getfield 119, 3) := dk_180 0 119 (dk_at dksX7_goesOn_1 5 rfl rfl)
theorem dX7_goesOn_31 : decode cX7_goesOn 31 = .ok (.putfield 126, 3) := dk_181 0 126 (dk_at dksX7_goesOn_1 8 rfl rfl)
theorem dX7_goesOn_34 : decode cX7_goesOn 34 = .ok (.aload_n 0, 1) := dk_42 (dk_at dksX7_goesOn_1 11 rfl rfl)
theorem dX7_goesOn_35 : decode cX7_goesOn 35 = .ok (.aload_n 0, 1) := dk_42 (dk_at dksX7_goesOn_1 12 rfl rfl)
theorem dX7_goesOn_36 : decode cX7_goesOn 36 = .ok (.getfield 119, 3) := dk_180 0 119 (dk_at dksX7_goesOn_1 13 rfl rfl)
theorem dX7_goesOn_39 : decode cX7_goesOn 39 = .ok (.invokevirtual 122, 3) := dk_182 0 122 (dk_at dksX7_goesOn_1 16 rfl rfl)
theorem dX7_goesOn_42 : decode cX7_goesOn 42 = .ok (.istore_n 1, 1) := dk_60 (dk_at dksX7_goesOn_1 19 rfl rfl)
theorem dX7_goesOn_43 : decode cX7_goesOn 43 = .ok (.iload_n 1, 1) := dk_27 (dk_at dksX7_goesOn_1 20 rfl rfl)
theorem dX7_goesOn_44 : decode cX7_goesOn 44 = .ok (.iconst (-1), 1) := dk_2 (dk_at dksX7_goesOn_1 21 rfl rfl)
theorem dX7_goesOn_45 : decode cX7_goesOn 45 = .ok (.if_icmp .ne 9, 3) := dk_160 0 9 (dk_at dksX7_goesOn_2 0 rfl rfl)
theorem dX7_goesOn_48 : decode cX7_goesOn 48 = .ok (.aload_n 0, 1) := dk_42 (dk_at dksX7_goesOn_2 3 rfl rfl)
theorem dX7_goesOn_49 : decode cX7_goesOn 49 = .ok (.iconst 0, 1) := dk_3 (dk_at dksX7_goesOn_2 4 rfl rfl)
theorem dX7_goesOn_50 : decode cX7_goesOn 50 = .ok (.putfield 129, 3) := dk_181 0 129 (dk_at dksX7_goesOn_2 5 rfl rfl)
theorem dX7_goesOn_53 : decode cX7_goesOn 53 = .ok (.return_, 1) := dk_177 (dk_at dksX7_goesOn_2 8 rfl rfl)
theorem dX7_goesOn_54 : decode cX7_goesOn 54 = .ok (.iload_n 1, 1) := dk_27 (dk_at dksX7_goesOn_2 9 rfl rfl)
theorem dX7_goesOn_55 : decode cX7_goesOn 55 = .ok (.bipush 97, 2) := dk_16 97 (dk_at dksX7_goesOn_2 10 rfl rfl)
theorem dX7_goesOn_57 : decode cX7_goesOn 57 = .ok (.bipush 122, 2) := dk_16 122 (dk_at dksX7_goesOn_2 12 rfl rfl)
theorem dX7_goesOn_59 : decode cX7_goesOn 59 = .ok (.invokestatic 132, 3) := dk_184 0 132 (dk_at dksX7_goesOn_2 14 rfl rfl)
theorem dX7_goesOn_62 : decode cX7_goesOn 62 = .ok (.ifCond .eq 58, 3) := dk_153 0 58 (dk_at dksX7_goesOn_2 17 rfl rfl)
theorem dX7_goesOn_65 : decode cX7_goesOn 65 = .ok (.aload_n 0, 1) := dk_42 (dk_at dksX7_goesOn_2 20 rfl rfl)
theorem dX7_goesOn_66 : decode cX7_goesOn 66 = .ok (.aload_n 0, 1) := dk_42 (dk_at dksX7_goesOn_2 21 rfl rfl)
theorem dX7_goesOn_67 : decode cX7_goesOn 67 = .ok (.getfield 119, 3) := dk_180 0 119 (dk_at dksX7_goesOn_3 0 rfl rfl)
theorem dX7_goesOn_70 : decode cX7_goesOn 70 = .ok (.invokevirtual 122, 3) := dk_182 0 122 (dk_at dksX7_goesOn_3 3 rfl rfl)
theorem dX7_goesOn_73 : decode cX7_goesOn 73 = .ok (.bipush 97, 2) := dk_16 97 (dk_at dksX7_goesOn_3 6 rfl rfl)
theorem dX7_goesOn_75 : decode cX7_goesOn 75 = .ok (.bipush 122, 2) := dk_16 122 (dk_at dksX7_goesOn_3 8 rfl rfl)
theorem dX7_goesOn_77 : decode cX7_goesOn 77 = .ok (.invokestatic 132, 3) := dk_184 0 132 (dk_at dksX7_goesOn_3 10 rfl rfl)
theorem dX7_goesOn_80 : decode cX7_goesOn 80 = .ok (.ifCond .eq 16, 3) := dk_153 0 16 (dk_at dksX7_goesOn_3 13 rfl rfl)
theorem dX7_goesOn_83 : decode cX7_goesOn 83 = .ok (.aload_n 0, 1) := dk_42 (dk_at dksX7_goesOn_3 16 rfl rfl)
theorem dX7_goesOn_84 : decode cX7_goesOn 84 = .ok (.dup, 1) := dk_89 (dk_at dksX7_goesOn_3 17 rfl rfl)
theorem dX7_goesOn_85 : decode cX7_goesOn 85 = .ok (.getfield 119, 3) := dk_180 0 119 (dk_at dksX7_goesOn_3 18 rfl rfl)
theorem dX7_goesOn_88 : decode cX7_goesOn 88 = .ok (.iconst 1, 1) := dk_4 (dk_at dksX7_goesOn_3 21 rfl rfl)
theorem dX7_goesOn_89 : decode cX7_goesOn 89 = .ok (.iadd, 1) := dk_96 (dk_at dksX7_goesOn_3 22 rfl rfl)
theorem dX7_goesOn_90 : decode cX7_goesOn 90 = .ok (.putfield 119, 3) := dk_181 0 119 (dk_at dksX7_goesOn_4 0 rfl rfl)
theorem dX7_goesOn_93 : decode cX7_goesOn 93 = .ok (.goto (-28), 3) := dk_167 255 228 (dk_at dksX7_goesOn_4 3 rfl rfl)
theorem dX7_goesOn_96 : decode cX7_goesOn 96 = .ok (.aload_n 0, 1) := dk_42 (dk_at dksX7_goesOn_4 6 rfl rfl)
theorem dX7_goesOn_97 : decode cX7_goesOn 97 = .ok (.aload_n 0, 1) := dk_42 (dk_at dksX7_goesOn_4 7 rfl rfl)
theorem dX7_goesOn_98 : decode cX7_goesOn 98 = .ok (.getfield 119, 3) := dk_180 0 119 (dk_at dksX7_goesOn_4 8 rfl rfl)
theorem dX7_goesOn_101 : decode cX7_goesOn 101 = .ok (.aload_n 0, 1) := dk_42 (dk_at dksX7_goesOn_4 11 rfl rfl)
theorem dX7_goesOn_102 : decode cX7_goesOn 102 = .ok (.getfield 126, 3) := dk_180 0 126 (dk_at dksX7_goesOn_4 12 rfl rfl)
theorem dX7_goesOn_105 : decode cX7_goesOn 105 = .ok (.isub, 1) := dk_100 (dk_at dksX7_goesOn_4 15 rfl rfl)
theorem dX7_goesOn_106 : decode cX7_goesOn 106 = .ok (.bipush 6, 2) := dk_16 6 (dk_at dksX7_goesOn_4 16 rfl rfl)
theorem dX7_goesOn_108 : decode cX7_goesOn 108 = .ok (.if_icmp .le 7, 3) := dk_164 0 7 (dk_at dksX7_goesOn_4 18 rfl rfl)
theorem dX7_goesOn_111 : decode cX7_goesOn 111 = .ok (.iconst 1, 1) := dk_4 (dk_at dksX7_goesOn_4 21 rfl rfl)
theorem dX7_goesOn_112 : decode cX7_goesOn 112 = .ok (.goto 4, 3) := dk_167 0 4 (dk_at dksX7_goesOn_5 0 rfl rfl)
theorem dX7_goesOn_115 : decode cX7_goesOn 115 = .ok (.iconst 2, 1) := dk_5 (dk_at dksX7_goesOn_5 3 rfl rfl)
theorem dX7_goesOn_116 : decode cX7_goesOn 116 = .ok (.putfield 129, 3) := dk_181 0 129 (dk_at dksX7_goesOn_5 4 rfl rfl)
theorem dX7_goesOn_119 : decode cX7_goesOn 119 = .ok (.return_, 1) := dk_177 (dk_at dksX7_goesOn_5 7 rfl rfl)
theorem dX7_goesOn_120 : decode cX7_goesOn 120 = .ok (.iload_n 1, 1) := dk_27 (dk_at dksX7_goesOn_5 8 rfl rfl)
theorem dX7_goesOn_121 : decode cX7_goesOn 121 = .ok (.bipush 48, 2) := dk_16 48 (dk_at dksX7_goesOn_5 9 rfl rfl)
theorem dX7_goesOn_123 : decode cX7_goesOn 123 = .ok (.bipush 57, 2) := dk_16 57 (dk_at dksX7_goesOn_5 11 rfl rfl)
theorem dX7_goesOn_125 : decode cX7_goesOn 125 = .ok (.invokestatic 132, 3) := dk_184 0 132 (dk_at dksX7_goesOn_5 13 rfl rfl)
theorem dX7_goesOn_128 : decode cX7_goesOn 128 = .ok (.ifCond .eq 65, 3) := dk_153 0 65 (dk_at dksX7_goesOn_5 16 rfl rfl)
theorem dX7_goesOn_131 : decode cX7_goesOn 131 = .ok (.aload_n 0, 1) := dk_42 (dk_at dksX7_goesOn_5 19 rfl rfl)
theorem dX7_goesOn_132 : decode cX7_goesOn 132 = .ok (.iload_n 1, 1) := dk_27 (dk_at dksX7_goesOn_5 20 rfl rfl)
theorem dX7_goesOn_133 : decode cX7_goesOn 133 = .ok (.bipush 48, 2) := dk_16 48 (dk_at dksX7_goesOn_5 21 rfl rfl)
theorem dX7_goesOn_135 : decode cX7_goesOn 135 = .ok (.isub, 1) := dk_100 (dk_at dksX7_goesOn_5 23 rfl rfl)
theorem dX7_goesOn_136 : decode cX7_goesOn 136 = .ok (.putfield 136, 3) := dk_181 0 136 (dk_at dksX7_goesOn_6 0 rfl rfl)
theorem dX7_goesOn_139 : decode cX7_goesOn 139 = .ok (.aload_n 0, 1) := dk_42 (dk_at dksX7_goesOn_6 3 rfl rfl)
theorem dX7_goesOn_140 : decode cX7_goesOn 140 = .ok (.aload_n 0, 1) := dk_42 (dk_at dksX7_goesOn_6 4 rfl rfl)
theorem dX7_goesOn_141 : decode cX7_goesOn 141 = .ok (.getfield 119, 3) := dk_180 0 119 (dk_at dksX7_goesOn_6 5 rfl rfl)
theorem dX7_goesOn_144 : decode cX7_goesOn 144 = .ok (.invokevirtual 122, 3) := dk_182 0 122 (dk_at dksX7_goesOn_6 8 rfl rfl)
theorem dX7_goesOn_147 : decode cX7_goesOn 147 = .ok (.bipush 48, 2) := dk_16 48 (dk_at dksX7_goesOn_6 11 rfl rfl)
theorem dX7_goesOn_149 : decode cX7_goesOn 149 = .ok (.bipush 57, 2) := dk_16 57 (dk_at dksX7_goesOn_6 13 rfl rfl)
theorem dX7_goesOn_151 : decode cX7_goesOn 151 = .ok (.invokestatic 132, 3) := dk_184 0 132 (dk_at dksX7_goesOn_6 15 rfl rfl)
theorem dX7_goesOn_154 : decode cX7_goesOn 154 = .ok (.ifCond .eq 16, 3) := dk_153 0 16 (dk_at dksX7_goesOn_6 18 rfl rfl)
theorem dX7_goesOn_157 : decode cX7_goesOn 157 = .ok (.aload_n 0, 1) := dk_42 (dk_at dksX7_goesOn_6 21 rfl rfl)
theorem dX7_goesOn_158 : decode cX7_goesOn 158 = .ok (.dup, 1) := dk_89 (dk_at dksX7_goesOn_6 22 rfl rfl)
theorem dX7_goesOn_159 : decode cX7_goesOn 159 = .ok (.getfield 119, 3) := dk_180 0 119 (dk_at dksX7_goesOn_7 0 rfl rfl)
theorem dX7_goesOn_162 : decode cX7_goesOn 162 = .ok (.iconst 1, 1) := dk_4 (dk_at dksX7_goesOn_7 3 rfl rfl)
theorem dX7_goesOn_163 : decode cX7_goesOn 163 = .ok (.iadd, 1) := dk_96 (dk_at dksX7_goesOn_7 4 rfl rfl)
theorem dX7_goesOn_164 : decode cX7_goesOn 164 = .ok (.putfield 119, 3) := dk_181 0 119 (dk_at dksX7_goesOn_7 5 rfl rfl)
theorem dX7_goesOn_167 : decode cX7_goesOn 167 = .ok (.goto (-28), 3) := dk_167 255 228 (dk_at dksX7_goesOn_7 8 rfl rfl)
theorem dX7_goesOn_170 : decode cX7_goesOn 170 = .ok (.aload_n 0, 1) := dk_42 (dk_at dksX7_goesOn_7 11 rfl rfl)
theorem dX7_goesOn_171 : decode cX7_goesOn 171 = .ok (.aload_n 0, 1) := dk_42 (dk_at dksX7_goesOn_7 12 rfl rfl)
theorem dX7_goesOn_172 : decode cX7_goesOn 172 = .ok (.getfield 119, 3) := dk_180 0 119 (dk_at dksX7_goesOn_7 13 rfl rfl)
theorem dX7_goesOn_175 : decode cX7_goesOn 175 = .ok (.aload_n 0, 1) := dk_42 (dk_at dksX7_goesOn_7 16 rfl rfl)
theorem dX7_goesOn_176 : decode cX7_goesOn 176 = .ok (.getfield 126, 3) := dk_180 0 126 (dk_at dksX7_goesOn_7 17 rfl rfl)
theorem dX7_goesOn_179 : decode cX7_goesOn 179 = .ok (.isub, 1) := dk_100 (dk_at dksX7_goesOn_7 20 rfl rfl)
theorem dX7_goesOn_180 : decode cX7_goesOn 180 = .ok (.iconst 1, 1) := dk_4 (dk_at dksX7_goesOn_7 21 rfl rfl)
theorem dX7_goesOn_181 : decode cX7_goesOn 181 = .ok (.if_icmp .le 7, 3) := dk_164 0 7 (dk_at dksX7_goesOn_8 0 rfl rfl)
theorem dX7_goesOn_184 : decode cX7_goesOn 184 = .ok (.iconst 1, 1) := dk_4 (dk_at dksX7_goesOn_8 3 rfl rfl)
theorem dX7_goesOn_185 : decode cX7_goesOn 185 = .ok (.goto 4, 3) := dk_167 0 4 (dk_at dksX7_goesOn_8 4 rfl rfl)
theorem dX7_goesOn_188 : decode cX7_goesOn 188 = .ok (.iconst 3, 1) := dk_6 (dk_at dksX7_goesOn_8 7 rfl rfl)
theorem dX7_goesOn_189 : decode cX7_goesOn 189 = .ok (.putfield 129, 3) := dk_181 0 129 (dk_at dksX7_goesOn_8 8 rfl rfl)
theorem dX7_goesOn_192 : decode cX7_goesOn 192 = .ok (.return_, 1) := dk_177 (dk_at dksX7_goesOn_8 11 rfl rfl)
theorem dX7_goesOn_193 : decode cX7_goesOn 193 = .ok (.aload_n 0, 1) := dk_42 (dk_at dksX7_goesOn_8 12 rfl rfl)
theorem dX7_goesOn_194 : decode cX7_goesOn 194 = .ok (.dup, 1) := dk_89 (dk_at dksX7_goesOn_8 13 rfl rfl)
theorem dX7_goesOn_195 : decode cX7_goesOn 195 = .ok (.getfield 119, 3) := dk_180 0 119 (dk_at dksX7_goesOn_8 14 rfl rfl)
theorem dX7_goesOn_198 : decode cX7_goesOn 198 = .ok (.iconst 1, 1) := dk_4 (dk_at dksX7_goesOn_8 17 rfl rfl)
theorem dX7_goesOn_199 : decode cX7_goesOn 199 = .ok (.iadd, 1) := dk_96 (dk_at dksX7_goesOn_8 18 rfl rfl)
theorem dX7_goesOn_200 : decode cX7_goesOn 200 = .ok (.putfield 119, 3) := dk_181 0 119 (dk_at dksX7_goesOn_8 19 rfl rfl)
theorem dX7_goesOn_203 : decode cX7_goesOn 203 = .ok (.aload_n 0, 1) := dk_42 (dk_at dksX7_goesOn_8 22 rfl rfl)
theorem dX7_goesOn_204 : decode cX7_goesOn 204 = .ok (.iload_n 1, 1) := dk_27 (dk_at dksX7_goesOn_8 23 rfl rfl)
theorem dX7_goesOn_205 : decode cX7_goesOn 205 = .ok (.bipush 59, 2) := dk_16 59 (dk_at dksX7_goesOn_9 0 rfl rfl)
theorem dX7_goesOn_207 : decode cX7_goesOn 207 = .ok (.if_icmp .eq 27, 3) := dk_159 0 27 (dk_at dksX7_goesOn_9 2 rfl rfl)
theorem dX7_goesOn_210 : decode cX7_goesOn 210 = .ok (.iload_n 1, 1) := dk_27 (dk_at dksX7_goesOn_9 5 rfl rfl)
theorem dX7_goesOn_211 : decode cX7_goesOn 211 = .ok (.bipush 44, 2) := dk_16 44 (dk_at dksX7_goesOn_9 6 rfl rfl)
theorem dX7_goesOn_213 : decode cX7_goesOn 213 = .ok (.if_icmp .eq 21, 3) := dk_159 0 21 (dk_at dksX7_goesOn_9 8 rfl rfl)
theorem dX7_goesOn_216 : decode cX7_goesOn 216 = .ok (.iload_n 1, 1) := dk_27 (dk_at dksX7_goesOn_9 11 rfl rfl)
theorem dX7_goesOn_217 : decode cX7_goesOn 217 = .ok (.bipush 61, 2) := dk_16 61 (dk_at dksX7_goesOn_9 12 rfl rfl)
theorem dX7_goesOn_219 : decode cX7_goesOn 219 = .ok (.if_icmp .eq 15, 3) := dk_159 0 15 (dk_at dksX7_goesOn_9 14 rfl rfl)
theorem dX7_goesOn_222 : decode cX7_goesOn 222 = .ok (.iload_n 1, 1) := dk_27 (dk_at dksX7_goesOn_9 17 rfl rfl)
theorem dX7_goesOn_223 : decode cX7_goesOn 223 = .ok (.bipush 40, 2) := dk_16 40 (dk_at dksX7_goesOn_9 18 rfl rfl)
theorem dX7_goesOn_225 : decode cX7_goesOn 225 = .ok (.if_icmp .eq 9, 3) := dk_159 0 9 (dk_at dksX7_goesOn_9 20 rfl rfl)
theorem dX7_goesOn_228 : decode cX7_goesOn 228 = .ok (.iload_n 1, 1) := dk_27 (dk_at dksX7_goesOn_9 23 rfl rfl)
theorem dX7_goesOn_229 : decode cX7_goesOn 229 = .ok (.bipush 41, 2) := dk_16 41 (dk_at dksX7_goesOn_10 0 rfl rfl)
theorem dX7_goesOn_231 : decode cX7_goesOn 231 = .ok (.if_icmp .ne 7, 3) := dk_160 0 7 (dk_at dksX7_goesOn_10 2 rfl rfl)
theorem dX7_goesOn_234 : decode cX7_goesOn 234 = .ok (.iload_n 1, 1) := dk_27 (dk_at dksX7_goesOn_10 5 rfl rfl)
theorem dX7_goesOn_235 : decode cX7_goesOn 235 = .ok (.goto 4, 3) := dk_167 0 4 (dk_at dksX7_goesOn_10 6 rfl rfl)
theorem dX7_goesOn_238 : decode cX7_goesOn 238 = .ok (.iconst 1, 1) := dk_4 (dk_at dksX7_goesOn_10 9 rfl rfl)
theorem dX7_goesOn_239 : decode cX7_goesOn 239 = .ok (.putfield 129, 3) := dk_181 0 129 (dk_at dksX7_goesOn_10 10 rfl rfl)
theorem dX7_goesOn_242 : decode cX7_goesOn 242 = .ok (.return_, 1) := dk_177 (dk_at dksX7_goesOn_10 13 rfl rfl)
abbrev cX7_see : ByteArray := prog_14_method_9_code
def yX7_see : MethodName := ⟨RX7, "see", "(I)I"⟩
def dkwX7_see_0 : List UInt8 := [27, 42, 180, 0, 116, 162, 0, 12, 42, 180, 0, 13, 27, 46, 167, 0, 4, 2, 172]
abbrev dktX7_see_0 : List UInt8 := dkwX7_see_0 ++ []
theorem dksX7_see_0 : cX7_see.data.toList.drop 0 = dktX7_see_0 := by decide +kernel
theorem dX7_see_0 : decode cX7_see 0 = .ok (.iload_n 1, 1) := dk_27 (dk_at dksX7_see_0 0 rfl rfl)
theorem dX7_see_1 : decode cX7_see 1 = .ok (.aload_n 0, 1) := dk_42 (dk_at dksX7_see_0 1 rfl rfl)
theorem dX7_see_2 : decode cX7_see 2 = .ok (.getfield 116, 3) := dk_180 0 116 (dk_at dksX7_see_0 2 rfl rfl)
theorem dX7_see_5 : decode cX7_see 5 = .ok (.if_icmp .ge 12, 3) := dk_162 0 12 (dk_at dksX7_see_0 5 rfl rfl)
theorem dX7_see_8 : decode cX7_see 8 = .ok (.aload_n 0, 1) := dk_42 (dk_at dksX7_see_0 8 rfl rfl)
theorem dX7_see_9 : decode cX7_see 9 = .ok (.getfield 13, 3) := dk_180 0 13 (dk_at dksX7_see_0 9 rfl rfl)
theorem dX7_see_12 : decode cX7_see 12 = .ok (.iload_n 1, 1) := dk_27 (dk_at dksX7_see_0 12 rfl rfl)
theorem dX7_see_13 : decode cX7_see 13 = .ok (.iaload, 1) := dk_46 (dk_at dksX7_see_0 13 rfl rfl)
theorem dX7_see_14 : decode cX7_see 14 = .ok (.goto 4, 3) := dk_167 0 4 (dk_at dksX7_see_0 14 rfl rfl)
theorem dX7_see_17 : decode cX7_see 17 = .ok (.iconst (-1), 1) := dk_2 (dk_at dksX7_see_0 17 rfl rfl)
theorem dX7_see_18 : decode cX7_see 18 = .ok (.ireturn, 1) := dk_172 (dk_at dksX7_see_0 18 rfl rfl)
abbrev cX7_readLine : ByteArray := prog_14_method_22_code
def yX7_readLine : MethodName := ⟨RX7, "readLine", "()Z"⟩
def dkwX7_readLine_2 : List UInt8 := [182, 0, 156, 153, 0, 11, 42, 3, 182, 0, 216, 167, 0, 8, 42, 4, 182, 0, 176, 172]
abbrev dktX7_readLine_2 : List UInt8 := dkwX7_readLine_2 ++ []
def dkwX7_readLine_1 : List UInt8 := [182, 0, 213, 172, 42, 18, 162, 182, 0, 156, 153, 0, 11, 42, 4, 182, 0, 216, 167, 0, 25, 42, 18, 164]
abbrev dktX7_readLine_1 : List UInt8 := dkwX7_readLine_1 ++ dktX7_readLine_2
def dkwX7_readLine_0 : List UInt8 := [42, 18, 155, 182, 0, 156, 153, 0, 8, 42, 182, 0, 210, 172, 42, 18, 160, 182, 0, 156, 153, 0, 8, 42]
abbrev dktX7_readLine_0 : List UInt8 := dkwX7_readLine_0 ++ dktX7_readLine_1
theorem dksX7_readLine_0 : cX7_readLine.data.toList.drop 0 = dktX7_readLine_0 := by decide +kernel
theorem dksX7_readLine_1 : cX7_readLine.data.toList.drop 24 = dktX7_readLine_1 := dk_seg dksX7_readLine_0 24 rfl rfl
theorem dksX7_readLine_2 : cX7_readLine.data.toList.drop 48 = dktX7_readLine_2 := dk_seg dksX7_readLine_1 24 rfl rfl
theorem dX7_readLine_0 : decode cX7_readLine 0 = .ok (.aload_n 0, 1) := dk_42 (dk_at dksX7_readLine_0 0 rfl rfl)
theorem dX7_readLine_1 : decode cX7_readLine 1 = .ok (.ldc 155, 2) := dk_18 155 (dk_at dksX7_readLine_0 1 rfl rfl)
theorem dX7_readLine_3 : decode cX7_readLine 3 = .ok (.invokevirtual 156, 3) := dk_182 0 156 (dk_at dksX7_readLine_0 3 rfl rfl)
theorem dX7_readLine_6 : decode cX7_readLine 6 = .ok (.ifCond .eq 8, 3) := dk_153 0 8 (dk_at dksX7_readLine_0 6 rfl rfl)
theorem dX7_readLine_9 : decode cX7_readLine 9 = .ok (.aload_n 0, 1) := dk_42 (dk_at dksX7_readLine_0 9 rfl rfl)
theorem dX7_readLine_10 : decode cX7_readLine 10 = .ok (.invokevirtual 210, 3) := dk_182 0 210 (dk_at dksX7_readLine_0 10 rfl rfl)
theorem dX7_readLine_13 : decode cX7_readLine 13 = .ok (.ireturn, 1) := dk_172 (dk_at dksX7_readLine_0 13 rfl rfl)
theorem dX7_readLine_14 : decode cX7_readLine 14 = .ok (.aload_n 0, 1) := dk_42 (dk_at dksX7_readLine_0 14 rfl rfl)
theorem dX7_readLine_15 : decode cX7_readLine 15 = .ok (.ldc 160, 2) := dk_18 160 (dk_at dksX7_readLine_0 15 rfl rfl)
theorem dX7_readLine_17 : decode cX7_readLine 17 = .ok (.invokevirtual 156, 3) := dk_182 0 156 (dk_at dksX7_readLine_0 17 rfl rfl)
theorem dX7_readLine_20 : decode cX7_readLine 20 = .ok (.ifCond .eq 8, 3) := dk_153 0 8 (dk_at dksX7_readLine_0 20 rfl rfl)
theorem dX7_readLine_23 : decode cX7_readLine 23 = .ok (.aload_n 0, 1) := dk_42 (dk_at dksX7_readLine_0 23 rfl rfl)
theorem dX7_readLine_24 : decode cX7_readLine 24 = .ok (.invokevirtual 213, 3) := dk_182 0 213 (dk_at dksX7_readLine_1 0 rfl rfl)
theorem dX7_readLine_27 : decode cX7_readLine 27 = .ok (.ireturn, 1) := dk_172 (dk_at dksX7_readLine_1 3 rfl rfl)
theorem dX7_readLine_28 : decode cX7_readLine 28 = .ok (.aload_n 0, 1) := dk_42 (dk_at dksX7_readLine_1 4 rfl rfl)
theorem dX7_readLine_29 : decode cX7_readLine 29 = .ok (.ldc 162, 2) := dk_18 162 (dk_at dksX7_readLine_1 5 rfl rfl)
theorem dX7_readLine_31 : decode cX7_readLine 31 = .ok (.invokevirtual 156, 3) := dk_182 0 156 (dk_at dksX7_readLine_1 7 rfl rfl)
theorem dX7_readLine_34 : decode cX7_readLine 34 = .ok (.ifCond .eq 11, 3) := dk_153 0 11 (dk_at dksX7_readLine_1 10 rfl rfl)
theorem dX7_readLine_37 : decode cX7_readLine 37 = .ok (.aload_n 0, 1) := dk_42 (dk_at dksX7_readLine_1 13 rfl rfl)
theorem dX7_readLine_38 : decode cX7_readLine 38 = .ok (.iconst 1, 1) := dk_4 (dk_at dksX7_readLine_1 14 rfl rfl)
theorem dX7_readLine_39 : decode cX7_readLine 39 = .ok (.invokevirtual 216, 3) := dk_182 0 216 (dk_at dksX7_readLine_1 15 rfl rfl)
theorem dX7_readLine_42 : decode cX7_readLine 42 = .ok (.goto 25, 3) := dk_167 0 25 (dk_at dksX7_readLine_1 18 rfl rfl)
theorem dX7_readLine_45 : decode cX7_readLine 45 = .ok (.aload_n 0, 1) := dk_42 (dk_at dksX7_readLine_1 21 rfl rfl)
theorem dX7_readLine_46 : decode cX7_readLine 46 = .ok (.ldc 164, 2) := dk_18 164 (dk_at dksX7_readLine_1 22 rfl rfl)
theorem dX7_readLine_48 : decode cX7_readLine 48 = .ok (.invokevirtual 156, 3) := dk_182 0 156 (dk_at dksX7_readLine_2 0 rfl rfl)
theorem dX7_readLine_51 : decode cX7_readLine 51 = .ok (.ifCond .eq 11, 3) := dk_153 0 11 (dk_at dksX7_readLine_2 3 rfl rfl)
theorem dX7_readLine_54 : decode cX7_readLine 54 = .ok (.aload_n 0, 1) := dk_42 (dk_at dksX7_readLine_2 6 rfl rfl)
theorem dX7_readLine_55 : decode cX7_readLine 55 = .ok (.iconst 0, 1) := dk_3 (dk_at dksX7_readLine_2 7 rfl rfl)
theorem dX7_readLine_56 : decode cX7_readLine 56 = .ok (.invokevirtual 216, 3) := dk_182 0 216 (dk_at dksX7_readLine_2 8 rfl rfl)
theorem dX7_readLine_59 : decode cX7_readLine 59 = .ok (.goto 8, 3) := dk_167 0 8 (dk_at dksX7_readLine_2 11 rfl rfl)
theorem dX7_readLine_62 : decode cX7_readLine 62 = .ok (.aload_n 0, 1) := dk_42 (dk_at dksX7_readLine_2 14 rfl rfl)
theorem dX7_readLine_63 : decode cX7_readLine 63 = .ok (.iconst 1, 1) := dk_4 (dk_at dksX7_readLine_2 15 rfl rfl)
theorem dX7_readLine_64 : decode cX7_readLine 64 = .ok (.invokevirtual 176, 3) := dk_182 0 176 (dk_at dksX7_readLine_2 16 rfl rfl)
theorem dX7_readLine_67 : decode cX7_readLine 67 = .ok (.ireturn, 1) := dk_172 (dk_at dksX7_readLine_2 19 rfl rfl)
abbrev cX7_isWord : ByteArray := prog_14_method_11_code
def yX7_isWord : MethodName := ⟨RX7, "isWord", "(Ljava/lang/String;)Z"⟩
def dkwX7_isWord_2 : List UInt8 := [28, 182, 0, 145, 159, 0, 5, 3, 172, 132, 2, 1, 167, 255, 224, 4, 172]
abbrev dktX7_isWord_2 : List UInt8 := dkwX7_isWord_2 ++ []
def dkwX7_isWord_1 : List UInt8 := [3, 172, 3, 61, 28, 43, 182, 0, 139, 162, 0, 30, 42, 180, 0, 13, 42, 180, 0, 126, 28, 96, 46, 43]
abbrev dktX7_isWord_1 : List UInt8 := dkwX7_isWord_1 ++ dktX7_isWord_2
def dkwX7_isWord_0 : List UInt8 := [42, 180, 0, 129, 5, 160, 0, 19, 42, 180, 0, 119, 42, 180, 0, 126, 100, 43, 182, 0, 139, 159, 0, 5]
abbrev dktX7_isWord_0 : List UInt8 := dkwX7_isWord_0 ++ dktX7_isWord_1
theorem dksX7_isWord_0 : cX7_isWord.data.toList.drop 0 = dktX7_isWord_0 := by decide +kernel
theorem dksX7_isWord_1 : cX7_isWord.data.toList.drop 24 = dktX7_isWord_1 := dk_seg dksX7_isWord_0 24 rfl rfl
theorem dksX7_isWord_2 : cX7_isWord.data.toList.drop 48 = dktX7_isWord_2 := dk_seg dksX7_isWord_1 24 rfl rfl
theorem dX7_isWord_0 : decode cX7_isWord 0 = .ok (.aload_n 0, 1) := dk_42 (dk_at dksX7_isWord_0 0 rfl rfl)
theorem dX7_isWord_1 : decode cX7_isWord 1 = .ok (.getfield 129, 3) := dk_180 0 129 (dk_at dksX7_isWord_0 1 rfl rfl)
theorem dX7_isWord_4 : decode cX7_isWord 4 = .ok (.iconst 2, 1) := dk_5 (dk_at dksX7_isWord_0 4 rfl rfl)
theorem dX7_isWord_5 : decode cX7_isWord 5 = .ok (.if_icmp .ne 19, 3) := dk_160 0 19 (dk_at dksX7_isWord_0 5 rfl rfl)
theorem dX7_isWord_8 : decode cX7_isWord 8 = .ok (.aload_n 0, 1) := dk_42 (dk_at dksX7_isWord_0 8 rfl rfl)
theorem dX7_isWord_9 : decode cX7_isWord 9 = .ok (.getfield 119, 3) := dk_180 0 119 (dk_at dksX7_isWord_0 9 rfl rfl)
theorem dX7_isWord_12 : decode cX7_isWord 12 = .ok (.aload_n 0, 1) := dk_42 (dk_at dksX7_isWord_0 12 rfl rfl)
theorem dX7_isWord_13 : decode cX7_isWord 13 = .ok (.getfield 126, 3) := dk_180 0 126 (dk_at dksX7_isWord_0 13 rfl rfl)
theorem dX7_isWord_16 : decode cX7_isWord 16 = .ok (.isub, 1) := dk_100 (dk_at dksX7_isWord_0 16 rfl rfl)
theorem dX7_isWord_17 : decode cX7_isWord 17 = .ok (.aload_n 1, 1) := dk_43 (dk_at dksX7_isWord_0 17 rfl rfl)
theorem dX7_isWord_18 : decode cX7_isWord 18 = .ok (.invokevirtual 139, 3) := dk_182 0 139 (dk_at dksX7_isWord_0 18 rfl rfl)
theorem dX7_isWord_21 : decode cX7_isWord 21 = .ok (.if_icmp .eq 5, 3) := dk_159 0 5 (dk_at dksX7_isWord_0 21 rfl rfl)
theorem dX7_isWord_24 : decode cX7_isWord 24 = .ok (.iconst 0, 1) := dk_3 (dk_at dksX7_isWord_1 0 rfl rfl)
theorem dX7_isWord_25 : decode cX7_isWord 25 = .ok (.ireturn, 1) := dk_172 (dk_at dksX7_isWord_1 1 rfl rfl)
theorem dX7_isWord_26 : decode cX7_isWord 26 = .ok (.iconst 0, 1) := dk_3 (dk_at dksX7_isWord_1 2 rfl rfl)
theorem dX7_isWord_27 : decode cX7_isWord 27 = .ok (.istore_n 2, 1) := dk_61 (dk_at dksX7_isWord_1 3 rfl rfl)
theorem dX7_isWord_28 : decode cX7_isWord 28 = .ok (.iload_n 2, 1) := dk_28 (dk_at dksX7_isWord_1 4 rfl rfl)
theorem dX7_isWord_29 : decode cX7_isWord 29 = .ok (.aload_n 1, 1) := dk_43 (dk_at dksX7_isWord_1 5 rfl rfl)
theorem dX7_isWord_30 : decode cX7_isWord 30 = .ok (.invokevirtual 139, 3) := dk_182 0 139 (dk_at dksX7_isWord_1 6 rfl rfl)
theorem dX7_isWord_33 : decode cX7_isWord 33 = .ok (.if_icmp .ge 30, 3) := dk_162 0 30 (dk_at dksX7_isWord_1 9 rfl rfl)
theorem dX7_isWord_36 : decode cX7_isWord 36 = .ok (.aload_n 0, 1) := dk_42 (dk_at dksX7_isWord_1 12 rfl rfl)
theorem dX7_isWord_37 : decode cX7_isWord 37 = .ok (.getfield 13, 3) := dk_180 0 13 (dk_at dksX7_isWord_1 13 rfl rfl)
theorem dX7_isWord_40 : decode cX7_isWord 40 = .ok (.aload_n 0, 1) := dk_42 (dk_at dksX7_isWord_1 16 rfl rfl)
theorem dX7_isWord_41 : decode cX7_isWord 41 = .ok (.getfield 126, 3) := dk_180 0 126 (dk_at dksX7_isWord_1 17 rfl rfl)
theorem dX7_isWord_44 : decode cX7_isWord 44 = .ok (.iload_n 2, 1) := dk_28 (dk_at dksX7_isWord_1 20 rfl rfl)
theorem dX7_isWord_45 : decode cX7_isWord 45 = .ok (.iadd, 1) := dk_96 (dk_at dksX7_isWord_1 21 rfl rfl)
theorem dX7_isWord_46 : decode cX7_isWord 46 = .ok (.iaload, 1) := dk_46 (dk_at dksX7_isWord_1 22 rfl rfl)
theorem dX7_isWord_47 : decode cX7_isWord 47 = .ok (.aload_n 1, 1) := dk_43 (dk_at dksX7_isWord_1 23 rfl rfl)
theorem dX7_isWord_48 : decode cX7_isWord 48 = .ok (.iload_n 2, 1) := dk_28 (dk_at dksX7_isWord_2 0 rfl rfl)
theorem dX7_isWord_49 : decode cX7_isWord 49 = .ok (.invokevirtual 145, 3) := dk_182 0 145 (dk_at dksX7_isWord_2 1 rfl rfl)
theorem dX7_isWord_52 : decode cX7_isWord 52 = .ok (.if_icmp .eq 5, 3) := dk_159 0 5 (dk_at dksX7_isWord_2 4 rfl rfl)
theorem dX7_isWord_55 : decode cX7_isWord 55 = .ok (.iconst 0, 1) := dk_3 (dk_at dksX7_isWord_2 7 rfl rfl)
theorem dX7_isWord_56 : decode cX7_isWord 56 = .ok (.ireturn, 1) := dk_172 (dk_at dksX7_isWord_2 8 rfl rfl)
theorem dX7_isWord_57 : decode cX7_isWord 57 = .ok (.iinc 2 1, 3) := dk_132 2 1 (dk_at dksX7_isWord_2 9 rfl rfl)
theorem dX7_isWord_60 : decode cX7_isWord 60 = .ok (.goto (-32), 3) := dk_167 255 224 (dk_at dksX7_isWord_2 12 rfl rfl)
theorem dX7_isWord_63 : decode cX7_isWord 63 = .ok (.iconst 1, 1) := dk_4 (dk_at dksX7_isWord_2 15 rfl rfl)
theorem dX7_isWord_64 : decode cX7_isWord 64 = .ok (.ireturn, 1) := dk_172 (dk_at dksX7_isWord_2 16 rfl rfl)
abbrev cX7_readFun : ByteArray := prog_14_method_18_code
def yX7_readFun : MethodName := ⟨RX7, "readFun", "()Z"⟩
def dkwX7_readFun_5 : List UInt8 := [79, 42, 89, 180, 0, 166, 4, 96, 181, 0, 166, 42, 182, 0, 180, 4, 172]
abbrev dktX7_readFun_5 : List UInt8 := dkwX7_readFun_5 ++ []
def dkwX7_readFun_4 : List UInt8 := [164, 0, 9, 42, 5, 182, 0, 176, 172, 42, 180, 0, 17, 16, 8, 42, 180, 0, 166, 96, 42, 180, 0, 136]
abbrev dktX7_readFun_4 : List UInt8 := dkwX7_readFun_4 ++ dktX7_readFun_5
def dkwX7_readFun_3 : List UInt8 := [42, 182, 0, 180, 42, 180, 0, 129, 6, 159, 0, 9, 42, 4, 182, 0, 176, 172, 42, 180, 0, 136, 6]
abbrev dktX7_readFun_3 : List UInt8 := dkwX7_readFun_3 ++ dktX7_readFun_4
def dkwX7_readFun_2 : List UInt8 := [159, 0, 9, 42, 6, 182, 0, 176, 172, 42, 42, 180, 0, 29, 16, 6, 42, 180, 0, 166, 104, 182, 0, 193]
abbrev dktX7_readFun_2 : List UInt8 := dkwX7_readFun_2 ++ dktX7_readFun_3
def dkwX7_readFun_1 : List UInt8 := [154, 0, 9, 42, 4, 182, 0, 176, 172, 42, 182, 0, 187, 2, 160, 0, 11, 42, 182, 0, 190, 2]
abbrev dktX7_readFun_1 : List UInt8 := dkwX7_readFun_1 ++ dktX7_readFun_2
def dkwX7_readFun_0 : List UInt8 := [42, 180, 0, 166, 16, 8, 160, 0, 9, 42, 7, 182, 0, 176, 172, 42, 182, 0, 180, 42, 182, 0, 183]
abbrev dktX7_readFun_0 : List UInt8 := dkwX7_readFun_0 ++ dktX7_readFun_1
theorem dksX7_readFun_0 : cX7_readFun.data.toList.drop 0 = dktX7_readFun_0 := by decide +kernel
theorem dksX7_readFun_1 : cX7_readFun.data.toList.drop 23 = dktX7_readFun_1 := dk_seg dksX7_readFun_0 23 rfl rfl
theorem dksX7_readFun_2 : cX7_readFun.data.toList.drop 45 = dktX7_readFun_2 := dk_seg dksX7_readFun_1 22 rfl rfl
theorem dksX7_readFun_3 : cX7_readFun.data.toList.drop 69 = dktX7_readFun_3 := dk_seg dksX7_readFun_2 24 rfl rfl
theorem dksX7_readFun_4 : cX7_readFun.data.toList.drop 92 = dktX7_readFun_4 := dk_seg dksX7_readFun_3 23 rfl rfl
theorem dksX7_readFun_5 : cX7_readFun.data.toList.drop 116 = dktX7_readFun_5 := dk_seg dksX7_readFun_4 24 rfl rfl
theorem dX7_readFun_0 : decode cX7_readFun 0 = .ok (.aload_n 0, 1) := dk_42 (dk_at dksX7_readFun_0 0 rfl rfl)
theorem dX7_readFun_1 : decode cX7_readFun 1 = .ok (.getfield 166, 3) := dk_180 0 166 (dk_at dksX7_readFun_0 1 rfl rfl)
theorem dX7_readFun_4 : decode cX7_readFun 4 = .ok (.bipush 8, 2) := dk_16 8 (dk_at dksX7_readFun_0 4 rfl rfl)
theorem dX7_readFun_6 : decode cX7_readFun 6 = .ok (.if_icmp .ne 9, 3) := dk_160 0 9 (dk_at dksX7_readFun_0 6 rfl rfl)
theorem dX7_readFun_9 : decode cX7_readFun 9 = .ok (.aload_n 0, 1) := dk_42 (dk_at dksX7_readFun_0 9 rfl rfl)
theorem dX7_readFun_10 : decode cX7_readFun 10 = .ok (.iconst 4, 1) := dk_7 (dk_at dksX7_readFun_0 10 rfl rfl)
theorem dX7_readFun_11 : decode cX7_readFun 11 = .ok (.invokevirtual 176, 3) := dk_182 0 176 (dk_at dksX7_readFun_0 11 rfl rfl)
theorem dX7_readFun_14 : decode cX7_readFun 14 = .ok (.ireturn, 1) := dk_172 (dk_at dksX7_readFun_0 14 rfl rfl)
theorem dX7_readFun_15 : decode cX7_readFun 15 = .ok (.aload_n 0, 1) := dk_42 (dk_at dksX7_readFun_0 15 rfl rfl)
theorem dX7_readFun_16 : decode cX7_readFun 16 = .ok (.invokevirtual 180, 3) := dk_182 0 180 (dk_at dksX7_readFun_0 16 rfl rfl)
theorem dX7_readFun_19 : decode cX7_readFun 19 = .ok (.aload_n 0, 1) := dk_42 (dk_at dksX7_readFun_0 19 rfl rfl)
theorem dX7_readFun_20 : decode cX7_readFun 20 = .ok (.invokevirtual 183, 3) := dk_182 0 183 (dk_at dksX7_readFun_0 20 rfl rfl)
theorem dX7_readFun_23 : decode cX7_readFun 23 = .ok (.ifCond .ne 9, 3) := dk_154 0 9 (dk_at dksX7_readFun_1 0 rfl rfl)
theorem dX7_readFun_26 : decode cX7_readFun 26 = .ok (.aload_n 0, 1) := dk_42 (dk_at dksX7_readFun_1 3 rfl rfl)
theorem dX7_readFun_27 : decode cX7_readFun 27 = .ok (.iconst 1, 1) := dk_4 (dk_at dksX7_readFun_1 4 rfl rfl)
theorem dX7_readFun_28 : decode cX7_readFun 28 = .ok (.invokevirtual 176, 3) := dk_182 0 176 (dk_at dksX7_readFun_1 5 rfl rfl)
theorem dX7_readFun_31 : decode cX7_readFun 31 = .ok (.ireturn, 1) := dk_172 (dk_at dksX7_readFun_1 8 rfl rfl)
theorem dX7_readFun_32 : decode cX7_readFun 32 = .ok (.aload_n 0, 1) := dk_42 (dk_at dksX7_readFun_1 9 rfl rfl)
theorem dX7_readFun_33 : decode cX7_readFun 33 = .ok (.invokevirtual 187, 3) := dk_182 0 187 (dk_at dksX7_readFun_1 10 rfl rfl)
theorem dX7_readFun_36 : decode cX7_readFun 36 = .ok (.iconst (-1), 1) := dk_2 (dk_at dksX7_readFun_1 13 rfl rfl)
theorem dX7_readFun_37 : decode cX7_readFun 37 = .ok (.if_icmp .ne 11, 3) := dk_160 0 11 (dk_at dksX7_readFun_1 14 rfl rfl)
theorem dX7_readFun_40 : decode cX7_readFun 40 = .ok (.aload_n 0, 1) := dk_42 (dk_at dksX7_readFun_1 17 rfl rfl)
theorem dX7_readFun_41 : decode cX7_readFun 41 = .ok (.invokevirtual 190, 3) := dk_182 0 190 (dk_at dksX7_readFun_1 18 rfl rfl)
theorem dX7_readFun_44 : decode cX7_readFun 44 = .ok (.iconst (-1), 1) := dk_2 (dk_at dksX7_readFun_1 21 rfl rfl)
theorem dX7_readFun_45 : decode cX7_readFun 45 = .ok (.if_icmp .eq 9, 3) := dk_159 0 9 (dk_at dksX7_readFun_2 0 rfl rfl)
theorem dX7_readFun_48 : decode cX7_readFun 48 = .ok (.aload_n 0, 1) := dk_42 (dk_at dksX7_readFun_2 3 rfl rfl)
theorem dX7_readFun_49 : decode cX7_readFun 49 = .ok (.iconst 3, 1) := dk_6 (dk_at dksX7_readFun_2 4 rfl rfl)
theorem dX7_readFun_50 : decode cX7_readFun 50 = .ok (.invokevirtual 176, 3) := dk_182 0 176 (dk_at dksX7_readFun_2 5 rfl rfl)
theorem dX7_readFun_53 : decode cX7_readFun 53 = .ok (.ireturn, 1) := dk_172 (dk_at dksX7_readFun_2 8 rfl rfl)
theorem dX7_readFun_54 : decode cX7_readFun 54 = .ok (.aload_n 0, 1) := dk_42 (dk_at dksX7_readFun_2 9 rfl rfl)
theorem dX7_readFun_55 : decode cX7_readFun 55 = .ok (.aload_n 0, 1) := dk_42 (dk_at dksX7_readFun_2 10 rfl rfl)
theorem dX7_readFun_56 : decode cX7_readFun 56 = .ok (.getfield 29, 3) := dk_180 0 29 (dk_at dksX7_readFun_2 11 rfl rfl)
theorem dX7_readFun_59 : decode cX7_readFun 59 = .ok (.bipush 6, 2) := dk_16 6 (dk_at dksX7_readFun_2 14 rfl rfl)
theorem dX7_readFun_61 : decode cX7_readFun 61 = .ok (.aload_n 0, 1) := dk_42 (dk_at dksX7_readFun_2 16 rfl rfl)
theorem dX7_readFun_62 : decode cX7_readFun 62 = .ok (.getfield 166, 3) := dk_180 0 166 (dk_at dksX7_readFun_2 17 rfl rfl)
theorem dX7_readFun_65 : decode cX7_readFun 65 = .ok (.imul, 1) := dk_104 (dk_at dksX7_readFun_2 20 rfl rfl)
theorem dX7_readFun_66 : decode cX7_readFun 66 = .ok (.invokevirtual 193, 3) := dk_182 0 193 (dk_at dksX7_readFun_2 21 rfl rfl)
theorem dX7_readFun_69 : decode cX7_readFun 69 = .ok (.aload_n 0, 1) := dk_42 (dk_at dksX7_readFun_3 0 rfl rfl)
theorem dX7_readFun_70 : decode cX7_readFun 70 = .ok (.invokevirtual 180, 3) := dk_182 0 180 (dk_at dksX7_readFun_3 1 rfl rfl)
theorem dX7_readFun_73 : decode cX7_readFun 73 = .ok (.aload_n 0, 1) := dk_42 (dk_at dksX7_readFun_3 4 rfl rfl)
theorem dX7_readFun_74 : decode cX7_readFun 74 = .ok (.getfield 129, 3) := dk_180 0 129 (dk_at dksX7_readFun_3 5 rfl rfl)
theorem dX7_readFun_77 : decode cX7_readFun 77 = .ok (.iconst 3, 1) := dk_6 (dk_at dksX7_readFun_3 8 rfl rfl)
theorem dX7_readFun_78 : decode cX7_readFun 78 = .ok (.if_icmp .eq 9, 3) := dk_159 0 9 (dk_at dksX7_readFun_3 9 rfl rfl)
theorem dX7_readFun_81 : decode cX7_readFun 81 = .ok (.aload_n 0, 1) := dk_42 (dk_at dksX7_readFun_3 12 rfl rfl)
theorem dX7_readFun_82 : decode cX7_readFun 82 = .ok (.iconst 1, 1) := dk_4 (dk_at dksX7_readFun_3 13 rfl rfl)
theorem dX7_readFun_83 : decode cX7_readFun 83 = .ok (.invokevirtual 176, 3) := dk_182 0 176 (dk_at dksX7_readFun_3 14 rfl rfl)
theorem dX7_readFun_86 : decode cX7_readFun 86 = .ok (.ireturn, 1) := dk_172 (dk_at dksX7_readFun_3 17 rfl rfl)
theorem dX7_readFun_87 : decode cX7_readFun 87 = .ok (.aload_n 0, 1) := dk_42 (dk_at dksX7_readFun_3 18 rfl rfl)
theorem dX7_readFun_88 : decode cX7_readFun 88 = .ok (.getfield 136, 3) := dk_180 0 136 (dk_at dksX7_readFun_3 19 rfl rfl)
theorem dX7_readFun_91 : decode cX7_readFun 91 = .ok (.iconst 3, 1) := dk_6 (dk_at dksX7_readFun_3 22 rfl rfl)
theorem dX7_readFun_92 : decode cX7_readFun 92 = .ok (.if_icmp .le 9, 3) := dk_164 0 9 (dk_at dksX7_readFun_4 0 rfl rfl)
theorem dX7_readFun_95 : decode cX7_readFun 95 = .ok (.aload_n 0, 1) := dk_42 (dk_at dksX7_readFun_4 3 rfl rfl)
theorem dX7_readFun_96 : decode cX7_readFun 96 = .ok (.iconst 2, 1) := dk_5 (dk_at dksX7_readFun_4 4 rfl rfl)
theorem dX7_readFun_97 : decode cX7_readFun 97 = .ok (.invokevirtual 176, 3) := dk_182 0 176 (dk_at dksX7_readFun_4 5 rfl rfl)
theorem dX7_readFun_100 : decode cX7_readFun 100 = .ok (.ireturn, 1) := dk_172 (dk_at dksX7_readFun_4 8 rfl rfl)
theorem dX7_readFun_101 : decode cX7_readFun 101 = .ok (.aload_n 0, 1) := dk_42 (dk_at dksX7_readFun_4 9 rfl rfl)
theorem dX7_readFun_102 : decode cX7_readFun 102 = .ok (.getfield 17, 3) := dk_180 0 17 (dk_at dksX7_readFun_4 10 rfl rfl)
theorem dX7_readFun_105 : decode cX7_readFun 105 = .ok (.bipush 8, 2) := dk_16 8 (dk_at dksX7_readFun_4 13 rfl rfl)
theorem dX7_readFun_107 : decode cX7_readFun 107 = .ok (.aload_n 0, 1) := dk_42 (dk_at dksX7_readFun_4 15 rfl rfl)
theorem dX7_readFun_108 : decode cX7_readFun 108 = .ok (.getfield 166, 3) := dk_180 0 166 (dk_at dksX7_readFun_4 16 rfl rfl)
theorem dX7_readFun_111 : decode cX7_readFun 111 = .ok (.iadd, 1) := dk_96 (dk_at dksX7_readFun_4 19 rfl rfl)
theorem dX7_readFun_112 : decode cX7_readFun 112 = .ok (.aload_n 0, 1) := dk_42 (dk_at dksX7_readFun_4 20 rfl rfl)
theorem dX7_readFun_113 : decode cX7_readFun 113 = .ok (.getfield 136, 3) := dk_180 0 136 (dk_at dksX7_readFun_4 21 rfl rfl)
theorem dX7_readFun_116 : decode cX7_readFun 116 = .ok (.iastore, 1) := dk_79 (dk_at dksX7_readFun_5 0 rfl rfl)
theorem dX7_readFun_117 : decode cX7_readFun 117 = .ok (.aload_n 0, 1) := dk_42 (dk_at dksX7_readFun_5 1 rfl rfl)
theorem dX7_readFun_118 : decode cX7_readFun 118 = .ok (.dup, 1) := dk_89 (dk_at dksX7_readFun_5 2 rfl rfl)
theorem dX7_readFun_119 : decode cX7_readFun 119 = .ok (.getfield 166, 3) := dk_180 0 166 (dk_at dksX7_readFun_5 3 rfl rfl)
theorem dX7_readFun_122 : decode cX7_readFun 122 = .ok (.iconst 1, 1) := dk_4 (dk_at dksX7_readFun_5 6 rfl rfl)
theorem dX7_readFun_123 : decode cX7_readFun 123 = .ok (.iadd, 1) := dk_96 (dk_at dksX7_readFun_5 7 rfl rfl)
theorem dX7_readFun_124 : decode cX7_readFun 124 = .ok (.putfield 166, 3) := dk_181 0 166 (dk_at dksX7_readFun_5 8 rfl rfl)
theorem dX7_readFun_127 : decode cX7_readFun 127 = .ok (.aload_n 0, 1) := dk_42 (dk_at dksX7_readFun_5 11 rfl rfl)
theorem dX7_readFun_128 : decode cX7_readFun 128 = .ok (.invokevirtual 180, 3) := dk_182 0 180 (dk_at dksX7_readFun_5 12 rfl rfl)
theorem dX7_readFun_131 : decode cX7_readFun 131 = .ok (.iconst 1, 1) := dk_4 (dk_at dksX7_readFun_5 15 rfl rfl)
theorem dX7_readFun_132 : decode cX7_readFun 132 = .ok (.ireturn, 1) := dk_172 (dk_at dksX7_readFun_5 16 rfl rfl)
abbrev cX7_errs : ByteArray := prog_14_method_12_code
def yX7_errs : MethodName := ⟨RX7, "errs", "(I)Z"⟩
def dkwX7_errs_0 : List UInt8 := [42, 27, 181, 0, 149, 42, 42, 180, 0, 126, 181, 0, 152, 3, 172]
abbrev dktX7_errs_0 : List UInt8 := dkwX7_errs_0 ++ []
theorem dksX7_errs_0 : cX7_errs.data.toList.drop 0 = dktX7_errs_0 := by decide +kernel
theorem dX7_errs_0 : decode cX7_errs 0 = .ok (.aload_n 0, 1) := dk_42 (dk_at dksX7_errs_0 0 rfl rfl)
theorem dX7_errs_1 : decode cX7_errs 1 = .ok (.iload_n 1, 1) := dk_27 (dk_at dksX7_errs_0 1 rfl rfl)
theorem dX7_errs_2 : decode cX7_errs 2 = .ok (.putfield 149, 3) := dk_181 0 149 (dk_at dksX7_errs_0 2 rfl rfl)
theorem dX7_errs_5 : decode cX7_errs 5 = .ok (.aload_n 0, 1) := dk_42 (dk_at dksX7_errs_0 5 rfl rfl)
theorem dX7_errs_6 : decode cX7_errs 6 = .ok (.aload_n 0, 1) := dk_42 (dk_at dksX7_errs_0 6 rfl rfl)
theorem dX7_errs_7 : decode cX7_errs 7 = .ok (.getfield 126, 3) := dk_180 0 126 (dk_at dksX7_errs_0 7 rfl rfl)
theorem dX7_errs_10 : decode cX7_errs 10 = .ok (.putfield 152, 3) := dk_181 0 152 (dk_at dksX7_errs_0 10 rfl rfl)
theorem dX7_errs_13 : decode cX7_errs 13 = .ok (.iconst 0, 1) := dk_3 (dk_at dksX7_errs_0 13 rfl rfl)
theorem dX7_errs_14 : decode cX7_errs 14 = .ok (.ireturn, 1) := dk_172 (dk_at dksX7_errs_0 14 rfl rfl)
abbrev cX7_isName : ByteArray := prog_14_method_13_code
def yX7_isName : MethodName := ⟨RX7, "isName", "()Z"⟩
def dkwX7_isName_2 : List UInt8 := [167, 0, 4, 3, 172]
abbrev dktX7_isName_2 : List UInt8 := dkwX7_isName_2 ++ []
def dkwX7_isName_1 : List UInt8 := [154, 0, 25, 42, 18, 162, 182, 0, 156, 154, 0, 16, 42, 18, 164, 182, 0, 156, 154, 0, 7, 4]
abbrev dktX7_isName_1 : List UInt8 := dkwX7_isName_1 ++ dktX7_isName_2
def dkwX7_isName_0 : List UInt8 := [42, 180, 0, 129, 5, 160, 0, 43, 42, 18, 155, 182, 0, 156, 154, 0, 34, 42, 18, 160, 182, 0, 156]
abbrev dktX7_isName_0 : List UInt8 := dkwX7_isName_0 ++ dktX7_isName_1
theorem dksX7_isName_0 : cX7_isName.data.toList.drop 0 = dktX7_isName_0 := by decide +kernel
theorem dksX7_isName_1 : cX7_isName.data.toList.drop 23 = dktX7_isName_1 := dk_seg dksX7_isName_0 23 rfl rfl
theorem dksX7_isName_2 : cX7_isName.data.toList.drop 45 = dktX7_isName_2 := dk_seg dksX7_isName_1 22 rfl rfl
theorem dX7_isName_0 : decode cX7_isName 0 = .ok (.aload_n 0, 1) := dk_42 (dk_at dksX7_isName_0 0 rfl rfl)
theorem dX7_isName_1 : decode cX7_isName 1 = .ok (.getfield 129, 3) := dk_180 0 129 (dk_at dksX7_isName_0 1 rfl rfl)
theorem dX7_isName_4 : decode cX7_isName 4 = .ok (.iconst 2, 1) := dk_5 (dk_at dksX7_isName_0 4 rfl rfl)
theorem dX7_isName_5 : decode cX7_isName 5 = .ok (.if_icmp .ne 43, 3) := dk_160 0 43 (dk_at dksX7_isName_0 5 rfl rfl)
theorem dX7_isName_8 : decode cX7_isName 8 = .ok (.aload_n 0, 1) := dk_42 (dk_at dksX7_isName_0 8 rfl rfl)
theorem dX7_isName_9 : decode cX7_isName 9 = .ok (.ldc 155, 2) := dk_18 155 (dk_at dksX7_isName_0 9 rfl rfl)
theorem dX7_isName_11 : decode cX7_isName 11 = .ok (.invokevirtual 156, 3) := dk_182 0 156 (dk_at dksX7_isName_0 11 rfl rfl)
theorem dX7_isName_14 : decode cX7_isName 14 = .ok (.ifCond .ne 34, 3) := dk_154 0 34 (dk_at dksX7_isName_0 14 rfl rfl)
theorem dX7_isName_17 : decode cX7_isName 17 = .ok (.aload_n 0, 1) := dk_42 (dk_at dksX7_isName_0 17 rfl rfl)
theorem dX7_isName_18 : decode cX7_isName 18 = .ok (.ldc 160, 2) := dk_18 160 (dk_at dksX7_isName_0 18 rfl rfl)
theorem dX7_isName_20 : decode cX7_isName 20 = .ok (.invokevirtual 156, 3) := dk_182 0 156 (dk_at dksX7_isName_0 20 rfl rfl)
theorem dX7_isName_23 : decode cX7_isName 23 = .ok (.ifCond .ne 25, 3) := dk_154 0 25 (dk_at dksX7_isName_1 0 rfl rfl)
theorem dX7_isName_26 : decode cX7_isName 26 = .ok (.aload_n 0, 1) := dk_42 (dk_at dksX7_isName_1 3 rfl rfl)
theorem dX7_isName_27 : decode cX7_isName 27 = .ok (.ldc 162, 2) := dk_18 162 (dk_at dksX7_isName_1 4 rfl rfl)
theorem dX7_isName_29 : decode cX7_isName 29 = .ok (.invokevirtual 156, 3) := dk_182 0 156 (dk_at dksX7_isName_1 6 rfl rfl)
theorem dX7_isName_32 : decode cX7_isName 32 = .ok (.ifCond .ne 16, 3) := dk_154 0 16 (dk_at dksX7_isName_1 9 rfl rfl)
theorem dX7_isName_35 : decode cX7_isName 35 = .ok (.aload_n 0, 1) := dk_42 (dk_at dksX7_isName_1 12 rfl rfl)
theorem dX7_isName_36 : decode cX7_isName 36 = .ok (.ldc 164, 2) := dk_18 164 (dk_at dksX7_isName_1 13 rfl rfl)
theorem dX7_isName_38 : decode cX7_isName 38 = .ok (.invokevirtual 156, 3) := dk_182 0 156 (dk_at dksX7_isName_1 15 rfl rfl)
theorem dX7_isName_41 : decode cX7_isName 41 = .ok (.ifCond .ne 7, 3) := dk_154 0 7 (dk_at dksX7_isName_1 18 rfl rfl)
theorem dX7_isName_44 : decode cX7_isName 44 = .ok (.iconst 1, 1) := dk_4 (dk_at dksX7_isName_1 21 rfl rfl)
theorem dX7_isName_45 : decode cX7_isName 45 = .ok (.goto 4, 3) := dk_167 0 4 (dk_at dksX7_isName_2 0 rfl rfl)
theorem dX7_isName_48 : decode cX7_isName 48 = .ok (.iconst 0, 1) := dk_3 (dk_at dksX7_isName_2 3 rfl rfl)
theorem dX7_isName_49 : decode cX7_isName 49 = .ok (.ireturn, 1) := dk_172 (dk_at dksX7_isName_2 4 rfl rfl)
abbrev cX7_funHere : ByteArray := prog_14_method_16_code
def yX7_funHere : MethodName := ⟨RX7, "funHere", "()I"⟩
def dkwX7_funHere_1 : List UInt8 := [180, 0, 119, 182, 0, 169, 153, 0, 5, 27, 172, 132, 1, 1, 167, 255, 220, 2, 172]
abbrev dktX7_funHere_1 : List UInt8 := dkwX7_funHere_1 ++ []
def dkwX7_funHere_0 : List UInt8 := [3, 60, 27, 42, 180, 0, 166, 162, 0, 34, 42, 42, 180, 0, 29, 16, 6, 27, 104, 42, 180, 0, 126, 42]
abbrev dktX7_funHere_0 : List UInt8 := dkwX7_funHere_0 ++ dktX7_funHere_1
theorem dksX7_funHere_0 : cX7_funHere.data.toList.drop 0 = dktX7_funHere_0 := by decide +kernel
theorem dksX7_funHere_1 : cX7_funHere.data.toList.drop 24 = dktX7_funHere_1 := dk_seg dksX7_funHere_0 24 rfl rfl
theorem dX7_funHere_0 : decode cX7_funHere 0 = .ok (.iconst 0, 1) := dk_3 (dk_at dksX7_funHere_0 0 rfl rfl)
theorem dX7_funHere_1 : decode cX7_funHere 1 = .ok (.istore_n 1, 1) := dk_60 (dk_at dksX7_funHere_0 1 rfl rfl)
theorem dX7_funHere_2 : decode cX7_funHere 2 = .ok (.iload_n 1, 1) := dk_27 (dk_at dksX7_funHere_0 2 rfl rfl)
theorem dX7_funHere_3 : decode cX7_funHere 3 = .ok (.aload_n 0, 1) := dk_42 (dk_at dksX7_funHere_0 3 rfl rfl)
theorem dX7_funHere_4 : decode cX7_funHere 4 = .ok (.getfield 166, 3) := dk_180 0 166 (dk_at dksX7_funHere_0 4 rfl rfl)
theorem dX7_funHere_7 : decode cX7_funHere 7 = .ok (.if_icmp .ge 34, 3) := dk_162 0 34 (dk_at dksX7_funHere_0 7 rfl rfl)
theorem dX7_funHere_10 : decode cX7_funHere 10 = .ok (.aload_n 0, 1) := dk_42 (dk_at dksX7_funHere_0 10 rfl rfl)
theorem dX7_funHere_11 : decode cX7_funHere 11 = .ok (.aload_n 0, 1) := dk_42 (dk_at dksX7_funHere_0 11 rfl rfl)
theorem dX7_funHere_12 : decode cX7_funHere 12 = .ok (.getfield 29, 3) := dk_180 0 29 (dk_at dksX7_funHere_0 12 rfl rfl)
theorem dX7_funHere_15 : decode cX7_funHere 15 = .ok (.bipush 6, 2) := dk_16 6 (dk_at dksX7_funHere_0 15 rfl rfl)
theorem dX7_funHere_17 : decode cX7_funHere 17 = .ok (.iload_n 1, 1) := dk_27 (dk_at dksX7_funHere_0 17 rfl rfl)
theorem dX7_funHere_18 : decode cX7_funHere 18 = .ok (.imul, 1) := dk_104 (dk_at dksX7_funHere_0 18 rfl rfl)
theorem dX7_funHere_19 : decode cX7_funHere 19 = .ok (.aload_n 0, 1) := dk_42 (dk_at dksX7_funHere_0 19 rfl rfl)
theorem dX7_funHere_20 : decode cX7_funHere 20 = .ok (.getfield 126, 3) := dk_180 0 126 (dk_at dksX7_funHere_0 20 rfl rfl)
theorem dX7_funHere_23 : decode cX7_funHere 23 = .ok (.aload_n 0, 1) := dk_42 (dk_at dksX7_funHere_0 23 rfl rfl)
theorem dX7_funHere_24 : decode cX7_funHere 24 = .ok (.getfield 119, 3) := dk_180 0 119 (dk_at dksX7_funHere_1 0 rfl rfl)
theorem dX7_funHere_27 : decode cX7_funHere 27 = .ok (.invokevirtual 169, 3) := dk_182 0 169 (dk_at dksX7_funHere_1 3 rfl rfl)
theorem dX7_funHere_30 : decode cX7_funHere 30 = .ok (.ifCond .eq 5, 3) := dk_153 0 5 (dk_at dksX7_funHere_1 6 rfl rfl)
theorem dX7_funHere_33 : decode cX7_funHere 33 = .ok (.iload_n 1, 1) := dk_27 (dk_at dksX7_funHere_1 9 rfl rfl)
theorem dX7_funHere_34 : decode cX7_funHere 34 = .ok (.ireturn, 1) := dk_172 (dk_at dksX7_funHere_1 10 rfl rfl)
theorem dX7_funHere_35 : decode cX7_funHere 35 = .ok (.iinc 1 1, 3) := dk_132 1 1 (dk_at dksX7_funHere_1 11 rfl rfl)
theorem dX7_funHere_38 : decode cX7_funHere 38 = .ok (.goto (-36), 3) := dk_167 255 220 (dk_at dksX7_funHere_1 14 rfl rfl)
theorem dX7_funHere_41 : decode cX7_funHere 41 = .ok (.iconst (-1), 1) := dk_2 (dk_at dksX7_funHere_1 17 rfl rfl)
theorem dX7_funHere_42 : decode cX7_funHere 42 = .ok (.ireturn, 1) := dk_172 (dk_at dksX7_funHere_1 18 rfl rfl)
abbrev cX7_isAt : ByteArray := prog_14_method_14_code
def yX7_isAt : MethodName := ⟨RX7, "isAt", "([IIII)Z"⟩
def dkwX7_isAt_4 : List UInt8 := [163, 0, 7, 4, 167, 0, 4, 3, 172]
abbrev dktX7_isAt_4 : List UInt8 := dkwX7_isAt_4 ++ []
def dkwX7_isAt_3 : List UInt8 := [4, 167, 0, 4, 3, 54, 5, 132, 6, 1, 167, 255, 182, 21, 5, 153, 0, 16, 21, 4, 29, 100, 16, 6]
abbrev dktX7_isAt_3 : List UInt8 := dkwX7_isAt_3 ++ dktX7_isAt_4
def dkwX7_isAt_2 : List UInt8 := [160, 0, 28, 29, 21, 6, 96, 21, 4, 162, 0, 15, 42, 180, 0, 13, 29, 21, 6, 96, 46, 153, 0, 7]
abbrev dktX7_isAt_2 : List UInt8 := dkwX7_isAt_2 ++ dktX7_isAt_3
def dkwX7_isAt_1 : List UInt8 := [29, 21, 6, 96, 21, 4, 162, 0, 15, 42, 180, 0, 13, 29, 21, 6, 96, 46, 167, 0, 4, 3]
abbrev dktX7_isAt_1 : List UInt8 := dkwX7_isAt_1 ++ dktX7_isAt_2
def dkwX7_isAt_0 : List UInt8 := [4, 54, 5, 3, 54, 6, 21, 6, 16, 6, 162, 0, 73, 21, 5, 153, 0, 59, 43, 28, 21, 6, 96, 46]
abbrev dktX7_isAt_0 : List UInt8 := dkwX7_isAt_0 ++ dktX7_isAt_1
theorem dksX7_isAt_0 : cX7_isAt.data.toList.drop 0 = dktX7_isAt_0 := by decide +kernel
theorem dksX7_isAt_1 : cX7_isAt.data.toList.drop 24 = dktX7_isAt_1 := dk_seg dksX7_isAt_0 24 rfl rfl
theorem dksX7_isAt_2 : cX7_isAt.data.toList.drop 46 = dktX7_isAt_2 := dk_seg dksX7_isAt_1 22 rfl rfl
theorem dksX7_isAt_3 : cX7_isAt.data.toList.drop 70 = dktX7_isAt_3 := dk_seg dksX7_isAt_2 24 rfl rfl
theorem dksX7_isAt_4 : cX7_isAt.data.toList.drop 94 = dktX7_isAt_4 := dk_seg dksX7_isAt_3 24 rfl rfl
theorem dX7_isAt_0 : decode cX7_isAt 0 = .ok (.iconst 1, 1) := dk_4 (dk_at dksX7_isAt_0 0 rfl rfl)
theorem dX7_isAt_1 : decode cX7_isAt 1 = .ok (.istore 5, 2) := dk_54 5 (dk_at dksX7_isAt_0 1 rfl rfl)
theorem dX7_isAt_3 : decode cX7_isAt 3 = .ok (.iconst 0, 1) := dk_3 (dk_at dksX7_isAt_0 3 rfl rfl)
theorem dX7_isAt_4 : decode cX7_isAt 4 = .ok (.istore 6, 2) := dk_54 6 (dk_at dksX7_isAt_0 4 rfl rfl)
theorem dX7_isAt_6 : decode cX7_isAt 6 = .ok (.iload 6, 2) := dk_21 6 (dk_at dksX7_isAt_0 6 rfl rfl)
theorem dX7_isAt_8 : decode cX7_isAt 8 = .ok (.bipush 6, 2) := dk_16 6 (dk_at dksX7_isAt_0 8 rfl rfl)
theorem dX7_isAt_10 : decode cX7_isAt 10 = .ok (.if_icmp .ge 73, 3) := dk_162 0 73 (dk_at dksX7_isAt_0 10 rfl rfl)
theorem dX7_isAt_13 : decode cX7_isAt 13 = .ok (.iload 5, 2) := dk_21 5 (dk_at dksX7_isAt_0 13 rfl rfl)
theorem dX7_isAt_15 : decode cX7_isAt 15 = .ok (.ifCond .eq 59, 3) := dk_153 0 59 (dk_at dksX7_isAt_0 15 rfl rfl)
theorem dX7_isAt_18 : decode cX7_isAt 18 = .ok (.aload_n 1, 1) := dk_43 (dk_at dksX7_isAt_0 18 rfl rfl)
theorem dX7_isAt_19 : decode cX7_isAt 19 = .ok (.iload_n 2, 1) := dk_28 (dk_at dksX7_isAt_0 19 rfl rfl)
theorem dX7_isAt_20 : decode cX7_isAt 20 = .ok (.iload 6, 2) := dk_21 6 (dk_at dksX7_isAt_0 20 rfl rfl)
theorem dX7_isAt_22 : decode cX7_isAt 22 = .ok (.iadd, 1) := dk_96 (dk_at dksX7_isAt_0 22 rfl rfl)
theorem dX7_isAt_23 : decode cX7_isAt 23 = .ok (.iaload, 1) := dk_46 (dk_at dksX7_isAt_0 23 rfl rfl)
theorem dX7_isAt_24 : decode cX7_isAt 24 = .ok (.iload_n 3, 1) := dk_29 (dk_at dksX7_isAt_1 0 rfl rfl)
theorem dX7_isAt_25 : decode cX7_isAt 25 = .ok (.iload 6, 2) := dk_21 6 (dk_at dksX7_isAt_1 1 rfl rfl)
theorem dX7_isAt_27 : decode cX7_isAt 27 = .ok (.iadd, 1) := dk_96 (dk_at dksX7_isAt_1 3 rfl rfl)
theorem dX7_isAt_28 : decode cX7_isAt 28 = .ok (.iload 4, 2) := dk_21 4 (dk_at dksX7_isAt_1 4 rfl rfl)
theorem dX7_isAt_30 : decode cX7_isAt 30 = .ok (.if_icmp .ge 15, 3) := dk_162 0 15 (dk_at dksX7_isAt_1 6 rfl rfl)
theorem dX7_isAt_33 : decode cX7_isAt 33 = .ok (.aload_n 0, 1) := dk_42 (dk_at dksX7_isAt_1 9 rfl rfl)
theorem dX7_isAt_34 : decode cX7_isAt 34 = .ok (.getfield 13, 3) := dk_180 0 13 (dk_at dksX7_isAt_1 10 rfl rfl)
theorem dX7_isAt_37 : decode cX7_isAt 37 = .ok (.iload_n 3, 1) := dk_29 (dk_at dksX7_isAt_1 13 rfl rfl)
theorem dX7_isAt_38 : decode cX7_isAt 38 = .ok (.iload 6, 2) := dk_21 6 (dk_at dksX7_isAt_1 14 rfl rfl)
theorem dX7_isAt_40 : decode cX7_isAt 40 = .ok (.iadd, 1) := dk_96 (dk_at dksX7_isAt_1 16 rfl rfl)
theorem dX7_isAt_41 : decode cX7_isAt 41 = .ok (.iaload, 1) := dk_46 (dk_at dksX7_isAt_1 17 rfl rfl)
theorem dX7_isAt_42 : decode cX7_isAt 42 = .ok (.goto 4, 3) := dk_167 0 4 (dk_at dksX7_isAt_1 18 rfl rfl)
theorem dX7_isAt_45 : decode cX7_isAt 45 = .ok (.iconst 0, 1) := dk_3 (dk_at dksX7_isAt_1 21 rfl rfl)
theorem dX7_isAt_46 : decode cX7_isAt 46 = .ok (.if_icmp .ne 28, 3) := dk_160 0 28 (dk_at dksX7_isAt_2 0 rfl rfl)
theorem dX7_isAt_49 : decode cX7_isAt 49 = .ok (.iload_n 3, 1) := dk_29 (dk_at dksX7_isAt_2 3 rfl rfl)
theorem dX7_isAt_50 : decode cX7_isAt 50 = .ok (.iload 6, 2) := dk_21 6 (dk_at dksX7_isAt_2 4 rfl rfl)
theorem dX7_isAt_52 : decode cX7_isAt 52 = .ok (.iadd, 1) := dk_96 (dk_at dksX7_isAt_2 6 rfl rfl)
theorem dX7_isAt_53 : decode cX7_isAt 53 = .ok (.iload 4, 2) := dk_21 4 (dk_at dksX7_isAt_2 7 rfl rfl)
theorem dX7_isAt_55 : decode cX7_isAt 55 = .ok (.if_icmp .ge 15, 3) := dk_162 0 15 (dk_at dksX7_isAt_2 9 rfl rfl)
theorem dX7_isAt_58 : decode cX7_isAt 58 = .ok (.aload_n 0, 1) := dk_42 (dk_at dksX7_isAt_2 12 rfl rfl)
theorem dX7_isAt_59 : decode cX7_isAt 59 = .ok (.getfield 13, 3) := dk_180 0 13 (dk_at dksX7_isAt_2 13 rfl rfl)
theorem dX7_isAt_62 : decode cX7_isAt 62 = .ok (.iload_n 3, 1) := dk_29 (dk_at dksX7_isAt_2 16 rfl rfl)
theorem dX7_isAt_63 : decode cX7_isAt 63 = .ok (.iload 6, 2) := dk_21 6 (dk_at dksX7_isAt_2 17 rfl rfl)
theorem dX7_isAt_65 : decode cX7_isAt 65 = .ok (.iadd, 1) := dk_96 (dk_at dksX7_isAt_2 19 rfl rfl)
theorem dX7_isAt_66 : decode cX7_isAt 66 = .ok (.iaload, 1) := dk_46 (dk_at dksX7_isAt_2 20 rfl rfl)
theorem dX7_isAt_67 : decode cX7_isAt 67 = .ok (.ifCond .eq 7, 3) := dk_153 0 7 (dk_at dksX7_isAt_2 21 rfl rfl)
theorem dX7_isAt_70 : decode cX7_isAt 70 = .ok (.iconst 1, 1) := dk_4 (dk_at dksX7_isAt_3 0 rfl rfl)
theorem dX7_isAt_71 : decode cX7_isAt 71 = .ok (.goto 4, 3) := dk_167 0 4 (dk_at dksX7_isAt_3 1 rfl rfl)
theorem dX7_isAt_74 : decode cX7_isAt 74 = .ok (.iconst 0, 1) := dk_3 (dk_at dksX7_isAt_3 4 rfl rfl)
theorem dX7_isAt_75 : decode cX7_isAt 75 = .ok (.istore 5, 2) := dk_54 5 (dk_at dksX7_isAt_3 5 rfl rfl)
theorem dX7_isAt_77 : decode cX7_isAt 77 = .ok (.iinc 6 1, 3) := dk_132 6 1 (dk_at dksX7_isAt_3 7 rfl rfl)
theorem dX7_isAt_80 : decode cX7_isAt 80 = .ok (.goto (-74), 3) := dk_167 255 182 (dk_at dksX7_isAt_3 10 rfl rfl)
theorem dX7_isAt_83 : decode cX7_isAt 83 = .ok (.iload 5, 2) := dk_21 5 (dk_at dksX7_isAt_3 13 rfl rfl)
theorem dX7_isAt_85 : decode cX7_isAt 85 = .ok (.ifCond .eq 16, 3) := dk_153 0 16 (dk_at dksX7_isAt_3 15 rfl rfl)
theorem dX7_isAt_88 : decode cX7_isAt 88 = .ok (.iload 4, 2) := dk_21 4 (dk_at dksX7_isAt_3 18 rfl rfl)
theorem dX7_isAt_90 : decode cX7_isAt 90 = .ok (.iload_n 3, 1) := dk_29 (dk_at dksX7_isAt_3 20 rfl rfl)
theorem dX7_isAt_91 : decode cX7_isAt 91 = .ok (.isub, 1) := dk_100 (dk_at dksX7_isAt_3 21 rfl rfl)
theorem dX7_isAt_92 : decode cX7_isAt 92 = .ok (.bipush 6, 2) := dk_16 6 (dk_at dksX7_isAt_3 22 rfl rfl)
theorem dX7_isAt_94 : decode cX7_isAt 94 = .ok (.if_icmp .gt 7, 3) := dk_163 0 7 (dk_at dksX7_isAt_4 0 rfl rfl)
theorem dX7_isAt_97 : decode cX7_isAt 97 = .ok (.iconst 1, 1) := dk_4 (dk_at dksX7_isAt_4 3 rfl rfl)
theorem dX7_isAt_98 : decode cX7_isAt 98 = .ok (.goto 4, 3) := dk_167 0 4 (dk_at dksX7_isAt_4 4 rfl rfl)
theorem dX7_isAt_101 : decode cX7_isAt 101 = .ok (.iconst 0, 1) := dk_3 (dk_at dksX7_isAt_4 7 rfl rfl)
theorem dX7_isAt_102 : decode cX7_isAt 102 = .ok (.ireturn, 1) := dk_172 (dk_at dksX7_isAt_4 8 rfl rfl)
abbrev cX7_termHere : ByteArray := prog_14_method_17_code
def yX7_termHere : MethodName := ⟨RX7, "termHere", "()I"⟩
def dkwX7_termHere_1 : List UInt8 := [180, 0, 126, 42, 180, 0, 119, 182, 0, 169, 153, 0, 5, 27, 172, 132, 1, 1, 167, 255, 217, 2, 172]
abbrev dktX7_termHere_1 : List UInt8 := dkwX7_termHere_1 ++ []
def dkwX7_termHere_0 : List UInt8 := [3, 60, 27, 42, 180, 0, 173, 162, 0, 37, 42, 42, 180, 0, 26, 16, 6, 16, 24, 27, 96, 104, 42]
abbrev dktX7_termHere_0 : List UInt8 := dkwX7_termHere_0 ++ dktX7_termHere_1
theorem dksX7_termHere_0 : cX7_termHere.data.toList.drop 0 = dktX7_termHere_0 := by decide +kernel
theorem dksX7_termHere_1 : cX7_termHere.data.toList.drop 23 = dktX7_termHere_1 := dk_seg dksX7_termHere_0 23 rfl rfl
theorem dX7_termHere_0 : decode cX7_termHere 0 = .ok (.iconst 0, 1) := dk_3 (dk_at dksX7_termHere_0 0 rfl rfl)
theorem dX7_termHere_1 : decode cX7_termHere 1 = .ok (.istore_n 1, 1) := dk_60 (dk_at dksX7_termHere_0 1 rfl rfl)
theorem dX7_termHere_2 : decode cX7_termHere 2 = .ok (.iload_n 1, 1) := dk_27 (dk_at dksX7_termHere_0 2 rfl rfl)
theorem dX7_termHere_3 : decode cX7_termHere 3 = .ok (.aload_n 0, 1) := dk_42 (dk_at dksX7_termHere_0 3 rfl rfl)
theorem dX7_termHere_4 : decode cX7_termHere 4 = .ok (.getfield 173, 3) := dk_180 0 173 (dk_at dksX7_termHere_0 4 rfl rfl)
theorem dX7_termHere_7 : decode cX7_termHere 7 = .ok (.if_icmp .ge 37, 3) := dk_162 0 37 (dk_at dksX7_termHere_0 7 rfl rfl)
theorem dX7_termHere_10 : decode cX7_termHere 10 = .ok (.aload_n 0, 1) := dk_42 (dk_at dksX7_termHere_0 10 rfl rfl)
theorem dX7_termHere_11 : decode cX7_termHere 11 = .ok (.aload_n 0, 1) := dk_42 (dk_at dksX7_termHere_0 11 rfl rfl)
theorem dX7_termHere_12 : decode cX7_termHere 12 = .ok (.getfield 26, 3) := dk_180 0 26 (dk_at dksX7_termHere_0 12 rfl rfl)
theorem dX7_termHere_15 : decode cX7_termHere 15 = .ok (.bipush 6, 2) := dk_16 6 (dk_at dksX7_termHere_0 15 rfl rfl)
theorem dX7_termHere_17 : decode cX7_termHere 17 = .ok (.bipush 24, 2) := dk_16 24 (dk_at dksX7_termHere_0 17 rfl rfl)
theorem dX7_termHere_19 : decode cX7_termHere 19 = .ok (.iload_n 1, 1) := dk_27 (dk_at dksX7_termHere_0 19 rfl rfl)
theorem dX7_termHere_20 : decode cX7_termHere 20 = .ok (.iadd, 1) := dk_96 (dk_at dksX7_termHere_0 20 rfl rfl)
theorem dX7_termHere_21 : decode cX7_termHere 21 = .ok (.imul, 1) := dk_104 (dk_at dksX7_termHere_0 21 rfl rfl)
theorem dX7_termHere_22 : decode cX7_termHere 22 = .ok (.aload_n 0, 1) := dk_42 (dk_at dksX7_termHere_0 22 rfl rfl)
theorem dX7_termHere_23 : decode cX7_termHere 23 = .ok (.getfield 126, 3) := dk_180 0 126 (dk_at dksX7_termHere_1 0 rfl rfl)
theorem dX7_termHere_26 : decode cX7_termHere 26 = .ok (.aload_n 0, 1) := dk_42 (dk_at dksX7_termHere_1 3 rfl rfl)
theorem dX7_termHere_27 : decode cX7_termHere 27 = .ok (.getfield 119, 3) := dk_180 0 119 (dk_at dksX7_termHere_1 4 rfl rfl)
theorem dX7_termHere_30 : decode cX7_termHere 30 = .ok (.invokevirtual 169, 3) := dk_182 0 169 (dk_at dksX7_termHere_1 7 rfl rfl)
theorem dX7_termHere_33 : decode cX7_termHere 33 = .ok (.ifCond .eq 5, 3) := dk_153 0 5 (dk_at dksX7_termHere_1 10 rfl rfl)
theorem dX7_termHere_36 : decode cX7_termHere 36 = .ok (.iload_n 1, 1) := dk_27 (dk_at dksX7_termHere_1 13 rfl rfl)
theorem dX7_termHere_37 : decode cX7_termHere 37 = .ok (.ireturn, 1) := dk_172 (dk_at dksX7_termHere_1 14 rfl rfl)
theorem dX7_termHere_38 : decode cX7_termHere 38 = .ok (.iinc 1 1, 3) := dk_132 1 1 (dk_at dksX7_termHere_1 15 rfl rfl)
theorem dX7_termHere_41 : decode cX7_termHere 41 = .ok (.goto (-39), 3) := dk_167 255 217 (dk_at dksX7_termHere_1 18 rfl rfl)
theorem dX7_termHere_44 : decode cX7_termHere 44 = .ok (.iconst (-1), 1) := dk_2 (dk_at dksX7_termHere_1 21 rfl rfl)
theorem dX7_termHere_45 : decode cX7_termHere 45 = .ok (.ireturn, 1) := dk_172 (dk_at dksX7_termHere_1 22 rfl rfl)
abbrev cX7_keeps : ByteArray := prog_14_method_15_code
def yX7_keeps : MethodName := ⟨RX7, "keeps", "([II)V"⟩
def dkwX7_keeps_2 : List UInt8 := [167, 255, 214, 177]
abbrev dktX7_keeps_2 : List UInt8 := dkwX7_keeps_2 ++ []
def dkwX7_keeps_1 : List UInt8 := [162, 0, 17, 42, 180, 0, 13, 42, 180, 0, 126, 29, 96, 46, 167, 0, 4, 3, 79, 132, 3, 1]
abbrev dktX7_keeps_1 : List UInt8 := dkwX7_keeps_1 ++ dktX7_keeps_2
def dkwX7_keeps_0 : List UInt8 := [3, 62, 29, 16, 6, 162, 0, 42, 43, 28, 29, 96, 42, 180, 0, 126, 29, 96, 42, 180, 0, 119]
abbrev dktX7_keeps_0 : List UInt8 := dkwX7_keeps_0 ++ dktX7_keeps_1
theorem dksX7_keeps_0 : cX7_keeps.data.toList.drop 0 = dktX7_keeps_0 := by decide +kernel
theorem dksX7_keeps_1 : cX7_keeps.data.toList.drop 22 = dktX7_keeps_1 := dk_seg dksX7_keeps_0 22 rfl rfl
theorem dksX7_keeps_2 : cX7_keeps.data.toList.drop 44 = dktX7_keeps_2 := dk_seg dksX7_keeps_1 22 rfl rfl
theorem dX7_keeps_0 : decode cX7_keeps 0 = .ok (.iconst 0, 1) := dk_3 (dk_at dksX7_keeps_0 0 rfl rfl)
theorem dX7_keeps_1 : decode cX7_keeps 1 = .ok (.istore_n 3, 1) := dk_62 (dk_at dksX7_keeps_0 1 rfl rfl)
theorem dX7_keeps_2 : decode cX7_keeps 2 = .ok (.iload_n 3, 1) := dk_29 (dk_at dksX7_keeps_0 2 rfl rfl)
theorem dX7_keeps_3 : decode cX7_keeps 3 = .ok (.bipush 6, 2) := dk_16 6 (dk_at dksX7_keeps_0 3 rfl rfl)
theorem dX7_keeps_5 : decode cX7_keeps 5 = .ok (.if_icmp .ge 42, 3) := dk_162 0 42 (dk_at dksX7_keeps_0 5 rfl rfl)
theorem dX7_keeps_8 : decode cX7_keeps 8 = .ok (.aload_n 1, 1) := dk_43 (dk_at dksX7_keeps_0 8 rfl rfl)
theorem dX7_keeps_9 : decode cX7_keeps 9 = .ok (.iload_n 2, 1) := dk_28 (dk_at dksX7_keeps_0 9 rfl rfl)
theorem dX7_keeps_10 : decode cX7_keeps 10 = .ok (.iload_n 3, 1) := dk_29 (dk_at dksX7_keeps_0 10 rfl rfl)
theorem dX7_keeps_11 : decode cX7_keeps 11 = .ok (.iadd, 1) := dk_96 (dk_at dksX7_keeps_0 11 rfl rfl)
theorem dX7_keeps_12 : decode cX7_keeps 12 = .ok (.aload_n 0, 1) := dk_42 (dk_at dksX7_keeps_0 12 rfl rfl)
theorem dX7_keeps_13 : decode cX7_keeps 13 = .ok (.getfield 126, 3) := dk_180 0 126 (dk_at dksX7_keeps_0 13 rfl rfl)
theorem dX7_keeps_16 : decode cX7_keeps 16 = .ok (.iload_n 3, 1) := dk_29 (dk_at dksX7_keeps_0 16 rfl rfl)
theorem dX7_keeps_17 : decode cX7_keeps 17 = .ok (.iadd, 1) := dk_96 (dk_at dksX7_keeps_0 17 rfl rfl)
theorem dX7_keeps_18 : decode cX7_keeps 18 = .ok (.aload_n 0, 1) := dk_42 (dk_at dksX7_keeps_0 18 rfl rfl)
theorem dX7_keeps_19 : decode cX7_keeps 19 = .ok (.getfield 119, 3) := dk_180 0 119 (dk_at dksX7_keeps_0 19 rfl rfl)
theorem dX7_keeps_22 : decode cX7_keeps 22 = .ok (.if_icmp .ge 17, 3) := dk_162 0 17 (dk_at dksX7_keeps_1 0 rfl rfl)
theorem dX7_keeps_25 : decode cX7_keeps 25 = .ok (.aload_n 0, 1) := dk_42 (dk_at dksX7_keeps_1 3 rfl rfl)
theorem dX7_keeps_26 : decode cX7_keeps 26 = .ok (.getfield 13, 3) := dk_180 0 13 (dk_at dksX7_keeps_1 4 rfl rfl)
theorem dX7_keeps_29 : decode cX7_keeps 29 = .ok (.aload_n 0, 1) := dk_42 (dk_at dksX7_keeps_1 7 rfl rfl)
theorem dX7_keeps_30 : decode cX7_keeps 30 = .ok (.getfield 126, 3) := dk_180 0 126 (dk_at dksX7_keeps_1 8 rfl rfl)
theorem dX7_keeps_33 : decode cX7_keeps 33 = .ok (.iload_n 3, 1) := dk_29 (dk_at dksX7_keeps_1 11 rfl rfl)
theorem dX7_keeps_34 : decode cX7_keeps 34 = .ok (.iadd, 1) := dk_96 (dk_at dksX7_keeps_1 12 rfl rfl)
theorem dX7_keeps_35 : decode cX7_keeps 35 = .ok (.iaload, 1) := dk_46 (dk_at dksX7_keeps_1 13 rfl rfl)
theorem dX7_keeps_36 : decode cX7_keeps 36 = .ok (.goto 4, 3) := dk_167 0 4 (dk_at dksX7_keeps_1 14 rfl rfl)
theorem dX7_keeps_39 : decode cX7_keeps 39 = .ok (.iconst 0, 1) := dk_3 (dk_at dksX7_keeps_1 17 rfl rfl)
theorem dX7_keeps_40 : decode cX7_keeps 40 = .ok (.iastore, 1) := dk_79 (dk_at dksX7_keeps_1 18 rfl rfl)
theorem dX7_keeps_41 : decode cX7_keeps 41 = .ok (.iinc 3 1, 3) := dk_132 3 1 (dk_at dksX7_keeps_1 19 rfl rfl)
theorem dX7_keeps_44 : decode cX7_keeps 44 = .ok (.goto (-42), 3) := dk_167 255 214 (dk_at dksX7_keeps_2 0 rfl rfl)
theorem dX7_keeps_47 : decode cX7_keeps 47 = .ok (.return_, 1) := dk_177 (dk_at dksX7_keeps_2 3 rfl rfl)
abbrev cX7_readTerm : ByteArray := prog_14_method_20_code
def yX7_readTerm : MethodName := ⟨RX7, "readTerm", "()Z"⟩
def dkwX7_readTerm_8 : List UInt8 := [42, 89, 180, 0, 173, 4, 96, 181, 0, 173, 4, 172]
abbrev dktX7_readTerm_8 : List UInt8 := dkwX7_readTerm_8 ++ []
def dkwX7_readTerm_7 : List UInt8 := [172, 42, 180, 0, 20, 16, 48, 42, 180, 0, 197, 96, 3, 79, 42, 89, 180, 0, 197, 4, 96, 181, 0, 197]
abbrev dktX7_readTerm_7 : List UInt8 := dkwX7_readTerm_7 ++ dktX7_readTerm_8
def dkwX7_readTerm_6 : List UInt8 := [180, 0, 23, 28, 27, 79, 42, 28, 42, 180, 0, 17, 16, 8, 27, 96, 46, 182, 0, 200, 154, 0, 5, 3]
abbrev dktX7_readTerm_6 : List UInt8 := dkwX7_readTerm_6 ++ dktX7_readTerm_7
def dkwX7_readTerm_5 : List UInt8 := [160, 0, 9, 42, 6, 182, 0, 176, 172, 42, 182, 0, 180, 7, 16, 48, 42, 180, 0, 197, 96, 104, 61, 42]
abbrev dktX7_readTerm_5 : List UInt8 := dkwX7_readTerm_5 ++ dktX7_readTerm_6
def dkwX7_readTerm_4 : List UInt8 := [182, 0, 180, 42, 182, 0, 183, 154, 0, 9, 42, 4, 182, 0, 176, 172, 42, 182, 0, 187, 60, 27, 2]
abbrev dktX7_readTerm_4 : List UInt8 := dkwX7_readTerm_4 ++ dktX7_readTerm_5
def dkwX7_readTerm_3 : List UInt8 := [182, 0, 193, 42, 182, 0, 180, 42, 180, 0, 129, 16, 61, 159, 0, 9, 42, 4, 182, 0, 176, 172, 42]
abbrev dktX7_readTerm_3 : List UInt8 := dkwX7_readTerm_3 ++ dktX7_readTerm_4
def dkwX7_readTerm_2 : List UInt8 := [159, 0, 9, 42, 6, 182, 0, 176, 172, 42, 42, 180, 0, 26, 16, 6, 16, 24, 42, 180, 0, 173, 96, 104]
abbrev dktX7_readTerm_2 : List UInt8 := dkwX7_readTerm_2 ++ dktX7_readTerm_3
def dkwX7_readTerm_1 : List UInt8 := [154, 0, 9, 42, 4, 182, 0, 176, 172, 42, 182, 0, 187, 2, 160, 0, 11, 42, 182, 0, 190, 2]
abbrev dktX7_readTerm_1 : List UInt8 := dkwX7_readTerm_1 ++ dktX7_readTerm_2
def dkwX7_readTerm_0 : List UInt8 := [42, 180, 0, 173, 16, 24, 160, 0, 9, 42, 7, 182, 0, 176, 172, 42, 182, 0, 180, 42, 182, 0, 183]
abbrev dktX7_readTerm_0 : List UInt8 := dkwX7_readTerm_0 ++ dktX7_readTerm_1
theorem dksX7_readTerm_0 : cX7_readTerm.data.toList.drop 0 = dktX7_readTerm_0 := by decide +kernel
theorem dksX7_readTerm_1 : cX7_readTerm.data.toList.drop 23 = dktX7_readTerm_1 := dk_seg dksX7_readTerm_0 23 rfl rfl
theorem dksX7_readTerm_2 : cX7_readTerm.data.toList.drop 45 = dktX7_readTerm_2 := dk_seg dksX7_readTerm_1 22 rfl rfl
theorem dksX7_readTerm_3 : cX7_readTerm.data.toList.drop 69 = dktX7_readTerm_3 := dk_seg dksX7_readTerm_2 24 rfl rfl
theorem dksX7_readTerm_4 : cX7_readTerm.data.toList.drop 92 = dktX7_readTerm_4 := dk_seg dksX7_readTerm_3 23 rfl rfl
theorem dksX7_readTerm_5 : cX7_readTerm.data.toList.drop 115 = dktX7_readTerm_5 := dk_seg dksX7_readTerm_4 23 rfl rfl
theorem dksX7_readTerm_6 : cX7_readTerm.data.toList.drop 139 = dktX7_readTerm_6 := dk_seg dksX7_readTerm_5 24 rfl rfl
theorem dksX7_readTerm_7 : cX7_readTerm.data.toList.drop 163 = dktX7_readTerm_7 := dk_seg dksX7_readTerm_6 24 rfl rfl
theorem dksX7_readTerm_8 : cX7_readTerm.data.toList.drop 187 = dktX7_readTerm_8 := dk_seg dksX7_readTerm_7 24 rfl rfl
theorem dX7_readTerm_0 : decode cX7_readTerm 0 = .ok (.aload_n 0, 1) := dk_42 (dk_at dksX7_readTerm_0 0 rfl rfl)
theorem dX7_readTerm_1 : decode cX7_readTerm 1 = .ok (.getfield 173, 3) := dk_180 0 173 (dk_at dksX7_readTerm_0 1 rfl rfl)
theorem dX7_readTerm_4 : decode cX7_readTerm 4 = .ok (.bipush 24, 2) := dk_16 24 (dk_at dksX7_readTerm_0 4 rfl rfl)
theorem dX7_readTerm_6 : decode cX7_readTerm 6 = .ok (.if_icmp .ne 9, 3) := dk_160 0 9 (dk_at dksX7_readTerm_0 6 rfl rfl)
theorem dX7_readTerm_9 : decode cX7_readTerm 9 = .ok (.aload_n 0, 1) := dk_42 (dk_at dksX7_readTerm_0 9 rfl rfl)
theorem dX7_readTerm_10 : decode cX7_readTerm 10 = .ok (.iconst 4, 1) := dk_7 (dk_at dksX7_readTerm_0 10 rfl rfl)
theorem dX7_readTerm_11 : decode cX7_readTerm 11 = .ok (.invokevirtual 176, 3) := dk_182 0 176 (dk_at dksX7_readTerm_0 11 rfl rfl)
theorem dX7_readTerm_14 : decode cX7_readTerm 14 = .ok (.ireturn, 1) := dk_172 (dk_at dksX7_readTerm_0 14 rfl rfl)
theorem dX7_readTerm_15 : decode cX7_readTerm 15 = .ok (.aload_n 0, 1) := dk_42 (dk_at dksX7_readTerm_0 15 rfl rfl)
theorem dX7_readTerm_16 : decode cX7_readTerm 16 = .ok (.invokevirtual 180, 3) := dk_182 0 180 (dk_at dksX7_readTerm_0 16 rfl rfl)
theorem dX7_readTerm_19 : decode cX7_readTerm 19 = .ok (.aload_n 0, 1) := dk_42 (dk_at dksX7_readTerm_0 19 rfl rfl)
theorem dX7_readTerm_20 : decode cX7_readTerm 20 = .ok (.invokevirtual 183, 3) := dk_182 0 183 (dk_at dksX7_readTerm_0 20 rfl rfl)
theorem dX7_readTerm_23 : decode cX7_readTerm 23 = .ok (.ifCond .ne 9, 3) := dk_154 0 9 (dk_at dksX7_readTerm_1 0 rfl rfl)
theorem dX7_readTerm_26 : decode cX7_readTerm 26 = .ok (.aload_n 0, 1) := dk_42 (dk_at dksX7_readTerm_1 3 rfl rfl)
theorem dX7_readTerm_27 : decode cX7_readTerm 27 = .ok (.iconst 1, 1) := dk_4 (dk_at dksX7_readTerm_1 4 rfl rfl)
theorem dX7_readTerm_28 : decode cX7_readTerm 28 = .ok (.invokevirtual 176, 3) := dk_182 0 176 (dk_at dksX7_readTerm_1 5 rfl rfl)
theorem dX7_readTerm_31 : decode cX7_readTerm 31 = .ok (.ireturn, 1) := dk_172 (dk_at dksX7_readTerm_1 8 rfl rfl)
theorem dX7_readTerm_32 : decode cX7_readTerm 32 = .ok (.aload_n 0, 1) := dk_42 (dk_at dksX7_readTerm_1 9 rfl rfl)
theorem dX7_readTerm_33 : decode cX7_readTerm 33 = .ok (.invokevirtual 187, 3) := dk_182 0 187 (dk_at dksX7_readTerm_1 10 rfl rfl)
theorem dX7_readTerm_36 : decode cX7_readTerm 36 = .ok (.iconst (-1), 1) := dk_2 (dk_at dksX7_readTerm_1 13 rfl rfl)
theorem dX7_readTerm_37 : decode cX7_readTerm 37 = .ok (.if_icmp .ne 11, 3) := dk_160 0 11 (dk_at dksX7_readTerm_1 14 rfl rfl)
theorem dX7_readTerm_40 : decode cX7_readTerm 40 = .ok (.aload_n 0, 1) := dk_42 (dk_at dksX7_readTerm_1 17 rfl rfl)
theorem dX7_readTerm_41 : decode cX7_readTerm 41 = .ok (.invokevirtual 190, 3) := dk_182 0 190 (dk_at dksX7_readTerm_1 18 rfl rfl)
theorem dX7_readTerm_44 : decode cX7_readTerm 44 = .ok (.iconst (-1), 1) := dk_2 (dk_at dksX7_readTerm_1 21 rfl rfl)
theorem dX7_readTerm_45 : decode cX7_readTerm 45 = .ok (.if_icmp .eq 9, 3) := dk_159 0 9 (dk_at dksX7_readTerm_2 0 rfl rfl)
theorem dX7_readTerm_48 : decode cX7_readTerm 48 = .ok (.aload_n 0, 1) := dk_42 (dk_at dksX7_readTerm_2 3 rfl rfl)
theorem dX7_readTerm_49 : decode cX7_readTerm 49 = .ok (.iconst 3, 1) := dk_6 (dk_at dksX7_readTerm_2 4 rfl rfl)
theorem dX7_readTerm_50 : decode cX7_readTerm 50 = .ok (.invokevirtual 176, 3) := dk_182 0 176 (dk_at dksX7_readTerm_2 5 rfl rfl)
theorem dX7_readTerm_53 : decode cX7_readTerm 53 = .ok (.ireturn, 1) := dk_172 (dk_at dksX7_readTerm_2 8 rfl rfl)
theorem dX7_readTerm_54 : decode cX7_readTerm 54 = .ok (.aload_n 0, 1) := dk_42 (dk_at dksX7_readTerm_2 9 rfl rfl)
theorem dX7_readTerm_55 : decode cX7_readTerm 55 = .ok (.aload_n 0, 1) := dk_42 (dk_at dksX7_readTerm_2 10 rfl rfl)
theorem dX7_readTerm_56 : decode cX7_readTerm 56 = .ok (.getfield 26, 3) := dk_180 0 26 (dk_at dksX7_readTerm_2 11 rfl rfl)
theorem dX7_readTerm_59 : decode cX7_readTerm 59 = .ok (.bipush 6, 2) := dk_16 6 (dk_at dksX7_readTerm_2 14 rfl rfl)
theorem dX7_readTerm_61 : decode cX7_readTerm 61 = .ok (.bipush 24, 2) := dk_16 24 (dk_at dksX7_readTerm_2 16 rfl rfl)
theorem dX7_readTerm_63 : decode cX7_readTerm 63 = .ok (.aload_n 0, 1) := dk_42 (dk_at dksX7_readTerm_2 18 rfl rfl)
theorem dX7_readTerm_64 : decode cX7_readTerm 64 = .ok (.getfield 173, 3) := dk_180 0 173 (dk_at dksX7_readTerm_2 19 rfl rfl)
theorem dX7_readTerm_67 : decode cX7_readTerm 67 = .ok (.iadd, 1) := dk_96 (dk_at dksX7_readTerm_2 22 rfl rfl)
theorem dX7_readTerm_68 : decode cX7_readTerm 68 = .ok (.imul, 1) := dk_104 (dk_at dksX7_readTerm_2 23 rfl rfl)
theorem dX7_readTerm_69 : decode cX7_readTerm 69 = .ok (.invokevirtual 193, 3) := dk_182 0 193 (dk_at dksX7_readTerm_3 0 rfl rfl)
theorem dX7_readTerm_72 : decode cX7_readTerm 72 = .ok (.aload_n 0, 1) := dk_42 (dk_at dksX7_readTerm_3 3 rfl rfl)
theorem dX7_readTerm_73 : decode cX7_readTerm 73 = .ok (.invokevirtual 180, 3) := dk_182 0 180 (dk_at dksX7_readTerm_3 4 rfl rfl)
theorem dX7_readTerm_76 : decode cX7_readTerm 76 = .ok (.aload_n 0, 1) := dk_42 (dk_at dksX7_readTerm_3 7 rfl rfl)
theorem dX7_readTerm_77 : decode cX7_readTerm 77 = .ok (.getfield 129, 3) := dk_180 0 129 (dk_at dksX7_readTerm_3 8 rfl rfl)
theorem dX7_readTerm_80 : decode cX7_readTerm 80 = .ok (.bipush 61, 2) := dk_16 61 (dk_at dksX7_readTerm_3 11 rfl rfl)
theorem dX7_readTerm_82 : decode cX7_readTerm 82 = .ok (.if_icmp .eq 9, 3) := dk_159 0 9 (dk_at dksX7_readTerm_3 13 rfl rfl)
theorem dX7_readTerm_85 : decode cX7_readTerm 85 = .ok (.aload_n 0, 1) := dk_42 (dk_at dksX7_readTerm_3 16 rfl rfl)
theorem dX7_readTerm_86 : decode cX7_readTerm 86 = .ok (.iconst 1, 1) := dk_4 (dk_at dksX7_readTerm_3 17 rfl rfl)
theorem dX7_readTerm_87 : decode cX7_readTerm 87 = .ok (.invokevirtual 176, 3) := dk_182 0 176 (dk_at dksX7_readTerm_3 18 rfl rfl)
theorem dX7_readTerm_90 : decode cX7_readTerm 90 = .ok (.ireturn, 1) := dk_172 (dk_at dksX7_readTerm_3 21 rfl rfl)
theorem dX7_readTerm_91 : decode cX7_readTerm 91 = .ok (.aload_n 0, 1) := dk_42 (dk_at dksX7_readTerm_3 22 rfl rfl)
theorem dX7_readTerm_92 : decode cX7_readTerm 92 = .ok (.invokevirtual 180, 3) := dk_182 0 180 (dk_at dksX7_readTerm_4 0 rfl rfl)
theorem dX7_readTerm_95 : decode cX7_readTerm 95 = .ok (.aload_n 0, 1) := dk_42 (dk_at dksX7_readTerm_4 3 rfl rfl)
theorem dX7_readTerm_96 : decode cX7_readTerm 96 = .ok (.invokevirtual 183, 3) := dk_182 0 183 (dk_at dksX7_readTerm_4 4 rfl rfl)
theorem dX7_readTerm_99 : decode cX7_readTerm 99 = .ok (.ifCond .ne 9, 3) := dk_154 0 9 (dk_at dksX7_readTerm_4 7 rfl rfl)
theorem dX7_readTerm_102 : decode cX7_readTerm 102 = .ok (.aload_n 0, 1) := dk_42 (dk_at dksX7_readTerm_4 10 rfl rfl)
theorem dX7_readTerm_103 : decode cX7_readTerm 103 = .ok (.iconst 1, 1) := dk_4 (dk_at dksX7_readTerm_4 11 rfl rfl)
theorem dX7_readTerm_104 : decode cX7_readTerm 104 = .ok (.invokevirtual 176, 3) := dk_182 0 176 (dk_at dksX7_readTerm_4 12 rfl rfl)
theorem dX7_readTerm_107 : decode cX7_readTerm 107 = .ok (.ireturn, 1) := dk_172 (dk_at dksX7_readTerm_4 15 rfl rfl)
theorem dX7_readTerm_108 : decode cX7_readTerm 108 = .ok (.aload_n 0, 1) := dk_42 (dk_at dksX7_readTerm_4 16 rfl rfl)
theorem dX7_readTerm_109 : decode cX7_readTerm 109 = .ok (.invokevirtual 187, 3) := dk_182 0 187 (dk_at dksX7_readTerm_4 17 rfl rfl)
theorem dX7_readTerm_112 : decode cX7_readTerm 112 = .ok (.istore_n 1, 1) := dk_60 (dk_at dksX7_readTerm_4 20 rfl rfl)
theorem dX7_readTerm_113 : decode cX7_readTerm 113 = .ok (.iload_n 1, 1) := dk_27 (dk_at dksX7_readTerm_4 21 rfl rfl)
theorem dX7_readTerm_114 : decode cX7_readTerm 114 = .ok (.iconst (-1), 1) := dk_2 (dk_at dksX7_readTerm_4 22 rfl rfl)
theorem dX7_readTerm_115 : decode cX7_readTerm 115 = .ok (.if_icmp .ne 9, 3) := dk_160 0 9 (dk_at dksX7_readTerm_5 0 rfl rfl)
theorem dX7_readTerm_118 : decode cX7_readTerm 118 = .ok (.aload_n 0, 1) := dk_42 (dk_at dksX7_readTerm_5 3 rfl rfl)
theorem dX7_readTerm_119 : decode cX7_readTerm 119 = .ok (.iconst 3, 1) := dk_6 (dk_at dksX7_readTerm_5 4 rfl rfl)
theorem dX7_readTerm_120 : decode cX7_readTerm 120 = .ok (.invokevirtual 176, 3) := dk_182 0 176 (dk_at dksX7_readTerm_5 5 rfl rfl)
theorem dX7_readTerm_123 : decode cX7_readTerm 123 = .ok (.ireturn, 1) := dk_172 (dk_at dksX7_readTerm_5 8 rfl rfl)
theorem dX7_readTerm_124 : decode cX7_readTerm 124 = .ok (.aload_n 0, 1) := dk_42 (dk_at dksX7_readTerm_5 9 rfl rfl)
theorem dX7_readTerm_125 : decode cX7_readTerm 125 = .ok (.invokevirtual 180, 3) := dk_182 0 180 (dk_at dksX7_readTerm_5 10 rfl rfl)
theorem dX7_readTerm_128 : decode cX7_readTerm 128 = .ok (.iconst 4, 1) := dk_7 (dk_at dksX7_readTerm_5 13 rfl rfl)
theorem dX7_readTerm_129 : decode cX7_readTerm 129 = .ok (.bipush 48, 2) := dk_16 48 (dk_at dksX7_readTerm_5 14 rfl rfl)
theorem dX7_readTerm_131 : decode cX7_readTerm 131 = .ok (.aload_n 0, 1) := dk_42 (dk_at dksX7_readTerm_5 16 rfl rfl)
theorem dX7_readTerm_132 : decode cX7_readTerm 132 = .ok (.getfield 197, 3) := dk_180 0 197 (dk_at dksX7_readTerm_5 17 rfl rfl)
theorem dX7_readTerm_135 : decode cX7_readTerm 135 = .ok (.iadd, 1) := dk_96 (dk_at dksX7_readTerm_5 20 rfl rfl)
theorem dX7_readTerm_136 : decode cX7_readTerm 136 = .ok (.imul, 1) := dk_104 (dk_at dksX7_readTerm_5 21 rfl rfl)
theorem dX7_readTerm_137 : decode cX7_readTerm 137 = .ok (.istore_n 2, 1) := dk_61 (dk_at dksX7_readTerm_5 22 rfl rfl)
theorem dX7_readTerm_138 : decode cX7_readTerm 138 = .ok (.aload_n 0, 1) := dk_42 (dk_at dksX7_readTerm_5 23 rfl rfl)
theorem dX7_readTerm_139 : decode cX7_readTerm 139 = .ok (.getfield 23, 3) := dk_180 0 23 (dk_at dksX7_readTerm_6 0 rfl rfl)
theorem dX7_readTerm_142 : decode cX7_readTerm 142 = .ok (.iload_n 2, 1) := dk_28 (dk_at dksX7_readTerm_6 3 rfl rfl)
theorem dX7_readTerm_143 : decode cX7_readTerm 143 = .ok (.iload_n 1, 1) := dk_27 (dk_at dksX7_readTerm_6 4 rfl rfl)
theorem dX7_readTerm_144 : decode cX7_readTerm 144 = .ok (.iastore, 1) := dk_79 (dk_at dksX7_readTerm_6 5 rfl rfl)
theorem dX7_readTerm_145 : decode cX7_readTerm 145 = .ok (.aload_n 0, 1) := dk_42 (dk_at dksX7_readTerm_6 6 rfl rfl)
theorem dX7_readTerm_146 : decode cX7_readTerm 146 = .ok (.iload_n 2, 1) := dk_28 (dk_at dksX7_readTerm_6 7 rfl rfl)
theorem dX7_readTerm_147 : decode cX7_readTerm 147 = .ok (.aload_n 0, 1) := dk_42 (dk_at dksX7_readTerm_6 8 rfl rfl)
theorem dX7_readTerm_148 : decode cX7_readTerm 148 = .ok (.getfield 17, 3) := dk_180 0 17 (dk_at dksX7_readTerm_6 9 rfl rfl)
theorem dX7_readTerm_151 : decode cX7_readTerm 151 = .ok (.bipush 8, 2) := dk_16 8 (dk_at dksX7_readTerm_6 12 rfl rfl)
theorem dX7_readTerm_153 : decode cX7_readTerm 153 = .ok (.iload_n 1, 1) := dk_27 (dk_at dksX7_readTerm_6 14 rfl rfl)
theorem dX7_readTerm_154 : decode cX7_readTerm 154 = .ok (.iadd, 1) := dk_96 (dk_at dksX7_readTerm_6 15 rfl rfl)
theorem dX7_readTerm_155 : decode cX7_readTerm 155 = .ok (.iaload, 1) := dk_46 (dk_at dksX7_readTerm_6 16 rfl rfl)
theorem dX7_readTerm_156 : decode cX7_readTerm 156 = .ok (.invokevirtual 200, 3) := dk_182 0 200 (dk_at dksX7_readTerm_6 17 rfl rfl)
theorem dX7_readTerm_159 : decode cX7_readTerm 159 = .ok (.ifCond .ne 5, 3) := dk_154 0 5 (dk_at dksX7_readTerm_6 20 rfl rfl)
theorem dX7_readTerm_162 : decode cX7_readTerm 162 = .ok (.iconst 0, 1) := dk_3 (dk_at dksX7_readTerm_6 23 rfl rfl)
theorem dX7_readTerm_163 : decode cX7_readTerm 163 = .ok (.ireturn, 1) := dk_172 (dk_at dksX7_readTerm_7 0 rfl rfl)
theorem dX7_readTerm_164 : decode cX7_readTerm 164 = .ok (.aload_n 0, 1) := dk_42 (dk_at dksX7_readTerm_7 1 rfl rfl)
theorem dX7_readTerm_165 : decode cX7_readTerm 165 = .ok (.getfield 20, 3) := dk_180 0 20 (dk_at dksX7_readTerm_7 2 rfl rfl)
theorem dX7_readTerm_168 : decode cX7_readTerm 168 = .ok (.bipush 48, 2) := dk_16 48 (dk_at dksX7_readTerm_7 5 rfl rfl)
theorem dX7_readTerm_170 : decode cX7_readTerm 170 = .ok (.aload_n 0, 1) := dk_42 (dk_at dksX7_readTerm_7 7 rfl rfl)
theorem dX7_readTerm_171 : decode cX7_readTerm 171 = .ok (.getfield 197, 3) := dk_180 0 197 (dk_at dksX7_readTerm_7 8 rfl rfl)
theorem dX7_readTerm_174 : decode cX7_readTerm 174 = .ok (.iadd, 1) := dk_96 (dk_at dksX7_readTerm_7 11 rfl rfl)
theorem dX7_readTerm_175 : decode cX7_readTerm 175 = .ok (.iconst 0, 1) := dk_3 (dk_at dksX7_readTerm_7 12 rfl rfl)
theorem dX7_readTerm_176 : decode cX7_readTerm 176 = .ok (.iastore, 1) := dk_79 (dk_at dksX7_readTerm_7 13 rfl rfl)
theorem dX7_readTerm_177 : decode cX7_readTerm 177 = .ok (.aload_n 0, 1) := dk_42 (dk_at dksX7_readTerm_7 14 rfl rfl)
theorem dX7_readTerm_178 : decode cX7_readTerm 178 = .ok (.dup, 1) := dk_89 (dk_at dksX7_readTerm_7 15 rfl rfl)
theorem dX7_readTerm_179 : decode cX7_readTerm 179 = .ok (.getfield 197, 3) := dk_180 0 197 (dk_at dksX7_readTerm_7 16 rfl rfl)
theorem dX7_readTerm_182 : decode cX7_readTerm 182 = .ok (.iconst 1, 1) := dk_4 (dk_at dksX7_readTerm_7 19 rfl rfl)
theorem dX7_readTerm_183 : decode cX7_readTerm 183 = .ok (.iadd, 1) := dk_96 (dk_at dksX7_readTerm_7 20 rfl rfl)
theorem dX7_readTerm_184 : decode cX7_readTerm 184 = .ok (.putfield 197, 3) := dk_181 0 197 (dk_at dksX7_readTerm_7 21 rfl rfl)
theorem dX7_readTerm_187 : decode cX7_readTerm 187 = .ok (.aload_n 0, 1) := dk_42 (dk_at dksX7_readTerm_8 0 rfl rfl)
theorem dX7_readTerm_188 : decode cX7_readTerm 188 = .ok (.dup, 1) := dk_89 (dk_at dksX7_readTerm_8 1 rfl rfl)
theorem dX7_readTerm_189 : decode cX7_readTerm 189 = .ok (.getfield 173, 3) := dk_180 0 173 (dk_at dksX7_readTerm_8 2 rfl rfl)
theorem dX7_readTerm_192 : decode cX7_readTerm 192 = .ok (.iconst 1, 1) := dk_4 (dk_at dksX7_readTerm_8 5 rfl rfl)
theorem dX7_readTerm_193 : decode cX7_readTerm 193 = .ok (.iadd, 1) := dk_96 (dk_at dksX7_readTerm_8 6 rfl rfl)
theorem dX7_readTerm_194 : decode cX7_readTerm 194 = .ok (.putfield 173, 3) := dk_181 0 173 (dk_at dksX7_readTerm_8 7 rfl rfl)
theorem dX7_readTerm_197 : decode cX7_readTerm 197 = .ok (.iconst 1, 1) := dk_4 (dk_at dksX7_readTerm_8 10 rfl rfl)
theorem dX7_readTerm_198 : decode cX7_readTerm 198 = .ok (.ireturn, 1) := dk_172 (dk_at dksX7_readTerm_8 11 rfl rfl)
abbrev cX7_readParts : ByteArray := prog_14_method_19_code
def yX7_readParts : MethodName := ⟨RX7, "readParts", "(II)Z"⟩
def dkwX7_readParts_7 : List UInt8 := [182, 0, 176, 172, 132, 3, 1, 167, 255, 140, 42, 182, 0, 180, 4, 172]
abbrev dktX7_readParts_7 : List UInt8 := dkwX7_readParts_7 ++ []
def dkwX7_readParts_6 : List UInt8 := [42, 42, 180, 0, 129, 16, 44, 159, 0, 12, 42, 180, 0, 129, 16, 41, 160, 0, 7, 8, 167, 0, 4, 4]
abbrev dktX7_readParts_6 : List UInt8 := dkwX7_readParts_6 ++ dktX7_readParts_7
def dkwX7_readParts_5 : List UInt8 := [28, 4, 100, 160, 0, 8, 16, 41, 167, 0, 5, 16, 44, 54, 4, 42, 180, 0, 129, 21, 4, 159, 0, 31]
abbrev dktX7_readParts_5 : List UInt8 := dkwX7_readParts_5 ++ dktX7_readParts_6
def dkwX7_readParts_4 : List UInt8 := [180, 0, 23, 27, 4, 96, 29, 96, 46, 2, 160, 0, 9, 42, 6, 182, 0, 176, 172, 42, 182, 0, 180, 29]
abbrev dktX7_readParts_4 : List UInt8 := dkwX7_readParts_4 ++ dktX7_readParts_5
def dkwX7_readParts_3 : List UInt8 := [154, 0, 9, 42, 4, 182, 0, 176, 172, 42, 180, 0, 23, 27, 4, 96, 29, 96, 42, 182, 0, 190, 79, 42]
abbrev dktX7_readParts_3 : List UInt8 := dkwX7_readParts_3 ++ dktX7_readParts_4
def dkwX7_readParts_2 : List UInt8 := [154, 0, 9, 42, 8, 182, 0, 176, 172, 3, 62, 29, 28, 162, 0, 117, 42, 182, 0, 180, 42, 182, 0, 183]
abbrev dktX7_readParts_2 : List UInt8 := dkwX7_readParts_2 ++ dktX7_readParts_3
def dkwX7_readParts_1 : List UInt8 := [180, 0, 129, 154, 0, 7, 8, 167, 0, 4, 4, 182, 0, 176, 153, 0, 7, 4, 167, 0, 4, 3, 172, 28]
abbrev dktX7_readParts_1 : List UInt8 := dkwX7_readParts_1 ++ dktX7_readParts_2
def dkwX7_readParts_0 : List UInt8 := [42, 180, 0, 129, 16, 40, 159, 0, 41, 28, 153, 0, 31, 42, 42, 180, 0, 129, 16, 59, 159, 0, 10, 42]
abbrev dktX7_readParts_0 : List UInt8 := dkwX7_readParts_0 ++ dktX7_readParts_1
theorem dksX7_readParts_0 : cX7_readParts.data.toList.drop 0 = dktX7_readParts_0 := by decide +kernel
theorem dksX7_readParts_1 : cX7_readParts.data.toList.drop 24 = dktX7_readParts_1 := dk_seg dksX7_readParts_0 24 rfl rfl
theorem dksX7_readParts_2 : cX7_readParts.data.toList.drop 48 = dktX7_readParts_2 := dk_seg dksX7_readParts_1 24 rfl rfl
theorem dksX7_readParts_3 : cX7_readParts.data.toList.drop 72 = dktX7_readParts_3 := dk_seg dksX7_readParts_2 24 rfl rfl
theorem dksX7_readParts_4 : cX7_readParts.data.toList.drop 96 = dktX7_readParts_4 := dk_seg dksX7_readParts_3 24 rfl rfl
theorem dksX7_readParts_5 : cX7_readParts.data.toList.drop 120 = dktX7_readParts_5 := dk_seg dksX7_readParts_4 24 rfl rfl
theorem dksX7_readParts_6 : cX7_readParts.data.toList.drop 144 = dktX7_readParts_6 := dk_seg dksX7_readParts_5 24 rfl rfl
theorem dksX7_readParts_7 : cX7_readParts.data.toList.drop 168 = dktX7_readParts_7 := dk_seg dksX7_readParts_6 24 rfl rfl
theorem dX7_readParts_0 : decode cX7_readParts 0 = .ok (.aload_n 0, 1) := dk_42 (dk_at dksX7_readParts_0 0 rfl rfl)
theorem dX7_readParts_1 : decode cX7_readParts 1 = .ok (.getfield 129, 3) := dk_180 0 129 (dk_at dksX7_readParts_0 1 rfl rfl)
theorem dX7_readParts_4 : decode cX7_readParts 4 = .ok (.bipush 40, 2) := dk_16 40 (dk_at dksX7_readParts_0 4 rfl rfl)
theorem dX7_readParts_6 : decode cX7_readParts 6 = .ok (.if_icmp .eq 41, 3) := dk_159 0 41 (dk_at dksX7_readParts_0 6 rfl rfl)
theorem dX7_readParts_9 : decode cX7_readParts 9 = .ok (.iload_n 2, 1) := dk_28 (dk_at dksX7_readParts_0 9 rfl rfl)
theorem dX7_readParts_10 : decode cX7_readParts 10 = .ok (.ifCond .eq 31, 3) := dk_153 0 31 (dk_at dksX7_readParts_0 10 rfl rfl)
theorem dX7_readParts_13 : decode cX7_readParts 13 = .ok (.aload_n 0, 1) := dk_42 (dk_at dksX7_readParts_0 13 rfl rfl)
theorem dX7_readParts_14 : decode cX7_readParts 14 = .ok (.aload_n 0, 1) := dk_42 (dk_at dksX7_readParts_0 14 rfl rfl)
theorem dX7_readParts_15 : decode cX7_readParts 15 = .ok (.getfield 129, 3) := dk_180 0 129 (dk_at dksX7_readParts_0 15 rfl rfl)
theorem dX7_readParts_18 : decode cX7_readParts 18 = .ok (.bipush 59, 2) := dk_16 59 (dk_at dksX7_readParts_0 18 rfl rfl)
theorem dX7_readParts_20 : decode cX7_readParts 20 = .ok (.if_icmp .eq 10, 3) := dk_159 0 10 (dk_at dksX7_readParts_0 20 rfl rfl)
theorem dX7_readParts_23 : decode cX7_readParts 23 = .ok (.aload_n 0, 1) := dk_42 (dk_at dksX7_readParts_0 23 rfl rfl)
theorem dX7_readParts_24 : decode cX7_readParts 24 = .ok (.getfield 129, 3) := dk_180 0 129 (dk_at dksX7_readParts_1 0 rfl rfl)
theorem dX7_readParts_27 : decode cX7_readParts 27 = .ok (.ifCond .ne 7, 3) := dk_154 0 7 (dk_at dksX7_readParts_1 3 rfl rfl)
theorem dX7_readParts_30 : decode cX7_readParts 30 = .ok (.iconst 5, 1) := dk_8 (dk_at dksX7_readParts_1 6 rfl rfl)
theorem dX7_readParts_31 : decode cX7_readParts 31 = .ok (.goto 4, 3) := dk_167 0 4 (dk_at dksX7_readParts_1 7 rfl rfl)
theorem dX7_readParts_34 : decode cX7_readParts 34 = .ok (.iconst 1, 1) := dk_4 (dk_at dksX7_readParts_1 10 rfl rfl)
theorem dX7_readParts_35 : decode cX7_readParts 35 = .ok (.invokevirtual 176, 3) := dk_182 0 176 (dk_at dksX7_readParts_1 11 rfl rfl)
theorem dX7_readParts_38 : decode cX7_readParts 38 = .ok (.ifCond .eq 7, 3) := dk_153 0 7 (dk_at dksX7_readParts_1 14 rfl rfl)
theorem dX7_readParts_41 : decode cX7_readParts 41 = .ok (.iconst 1, 1) := dk_4 (dk_at dksX7_readParts_1 17 rfl rfl)
theorem dX7_readParts_42 : decode cX7_readParts 42 = .ok (.goto 4, 3) := dk_167 0 4 (dk_at dksX7_readParts_1 18 rfl rfl)
theorem dX7_readParts_45 : decode cX7_readParts 45 = .ok (.iconst 0, 1) := dk_3 (dk_at dksX7_readParts_1 21 rfl rfl)
theorem dX7_readParts_46 : decode cX7_readParts 46 = .ok (.ireturn, 1) := dk_172 (dk_at dksX7_readParts_1 22 rfl rfl)
theorem dX7_readParts_47 : decode cX7_readParts 47 = .ok (.iload_n 2, 1) := dk_28 (dk_at dksX7_readParts_1 23 rfl rfl)
theorem dX7_readParts_48 : decode cX7_readParts 48 = .ok (.ifCond .ne 9, 3) := dk_154 0 9 (dk_at dksX7_readParts_2 0 rfl rfl)
theorem dX7_readParts_51 : decode cX7_readParts 51 = .ok (.aload_n 0, 1) := dk_42 (dk_at dksX7_readParts_2 3 rfl rfl)
theorem dX7_readParts_52 : decode cX7_readParts 52 = .ok (.iconst 5, 1) := dk_8 (dk_at dksX7_readParts_2 4 rfl rfl)
theorem dX7_readParts_53 : decode cX7_readParts 53 = .ok (.invokevirtual 176, 3) := dk_182 0 176 (dk_at dksX7_readParts_2 5 rfl rfl)
theorem dX7_readParts_56 : decode cX7_readParts 56 = .ok (.ireturn, 1) := dk_172 (dk_at dksX7_readParts_2 8 rfl rfl)
theorem dX7_readParts_57 : decode cX7_readParts 57 = .ok (.iconst 0, 1) := dk_3 (dk_at dksX7_readParts_2 9 rfl rfl)
theorem dX7_readParts_58 : decode cX7_readParts 58 = .ok (.istore_n 3, 1) := dk_62 (dk_at dksX7_readParts_2 10 rfl rfl)
theorem dX7_readParts_59 : decode cX7_readParts 59 = .ok (.iload_n 3, 1) := dk_29 (dk_at dksX7_readParts_2 11 rfl rfl)
theorem dX7_readParts_60 : decode cX7_readParts 60 = .ok (.iload_n 2, 1) := dk_28 (dk_at dksX7_readParts_2 12 rfl rfl)
theorem dX7_readParts_61 : decode cX7_readParts 61 = .ok (.if_icmp .ge 117, 3) := dk_162 0 117 (dk_at dksX7_readParts_2 13 rfl rfl)
theorem dX7_readParts_64 : decode cX7_readParts 64 = .ok (.aload_n 0, 1) := dk_42 (dk_at dksX7_readParts_2 16 rfl rfl)
theorem dX7_readParts_65 : decode cX7_readParts 65 = .ok (.invokevirtual 180, 3) := dk_182 0 180 (dk_at dksX7_readParts_2 17 rfl rfl)
theorem dX7_readParts_68 : decode cX7_readParts 68 = .ok (.aload_n 0, 1) := dk_42 (dk_at dksX7_readParts_2 20 rfl rfl)
theorem dX7_readParts_69 : decode cX7_readParts 69 = .ok (.invokevirtual 183, 3) := dk_182 0 183 (dk_at dksX7_readParts_2 21 rfl rfl)
theorem dX7_readParts_72 : decode cX7_readParts 72 = .ok (.ifCond .ne 9, 3) := dk_154 0 9 (dk_at dksX7_readParts_3 0 rfl rfl)
theorem dX7_readParts_75 : decode cX7_readParts 75 = .ok (.aload_n 0, 1) := dk_42 (dk_at dksX7_readParts_3 3 rfl rfl)
theorem dX7_readParts_76 : decode cX7_readParts 76 = .ok (.iconst 1, 1) := dk_4 (dk_at dksX7_readParts_3 4 rfl rfl)
theorem dX7_readParts_77 : decode cX7_readParts 77 = .ok (.invokevirtual 176, 3) := dk_182 0 176 (dk_at dksX7_readParts_3 5 rfl rfl)
theorem dX7_readParts_80 : decode cX7_readParts 80 = .ok (.ireturn, 1) := dk_172 (dk_at dksX7_readParts_3 8 rfl rfl)
theorem dX7_readParts_81 : decode cX7_readParts 81 = .ok (.aload_n 0, 1) := dk_42 (dk_at dksX7_readParts_3 9 rfl rfl)
theorem dX7_readParts_82 : decode cX7_readParts 82 = .ok (.getfield 23, 3) := dk_180 0 23 (dk_at dksX7_readParts_3 10 rfl rfl)
theorem dX7_readParts_85 : decode cX7_readParts 85 = .ok (.iload_n 1, 1) := dk_27 (dk_at dksX7_readParts_3 13 rfl rfl)
theorem dX7_readParts_86 : decode cX7_readParts 86 = .ok (.iconst 1, 1) := dk_4 (dk_at dksX7_readParts_3 14 rfl rfl)
theorem dX7_readParts_87 : decode cX7_readParts 87 = .ok (.iadd, 1) := dk_96 (dk_at dksX7_readParts_3 15 rfl rfl)
theorem dX7_readParts_88 : decode cX7_readParts 88 = .ok (.iload_n 3, 1) := dk_29 (dk_at dksX7_readParts_3 16 rfl rfl)
theorem dX7_readParts_89 : decode cX7_readParts 89 = .ok (.iadd, 1) := dk_96 (dk_at dksX7_readParts_3 17 rfl rfl)
theorem dX7_readParts_90 : decode cX7_readParts 90 = .ok (.aload_n 0, 1) := dk_42 (dk_at dksX7_readParts_3 18 rfl rfl)
theorem dX7_readParts_91 : decode cX7_readParts 91 = .ok (.invokevirtual 190, 3) := dk_182 0 190 (dk_at dksX7_readParts_3 19 rfl rfl)
theorem dX7_readParts_94 : decode cX7_readParts 94 = .ok (.iastore, 1) := dk_79 (dk_at dksX7_readParts_3 22 rfl rfl)
theorem dX7_readParts_95 : decode cX7_readParts 95 = .ok (.aload_n 0, 1) := dk_42 (dk_at dksX7_readParts_3 23 rfl rfl)
theorem dX7_readParts_96 : decode cX7_readParts 96 = .ok (.getfield 23, 3) := dk_180 0 23 (dk_at dksX7_readParts_4 0 rfl rfl)
theorem dX7_readParts_99 : decode cX7_readParts 99 = .ok (.iload_n 1, 1) := dk_27 (dk_at dksX7_readParts_4 3 rfl rfl)
theorem dX7_readParts_100 : decode cX7_readParts 100 = .ok (.iconst 1, 1) := dk_4 (dk_at dksX7_readParts_4 4 rfl rfl)
theorem dX7_readParts_101 : decode cX7_readParts 101 = .ok (.iadd, 1) := dk_96 (dk_at dksX7_readParts_4 5 rfl rfl)
theorem dX7_readParts_102 : decode cX7_readParts 102 = .ok (.iload_n 3, 1) := dk_29 (dk_at dksX7_readParts_4 6 rfl rfl)
theorem dX7_readParts_103 : decode cX7_readParts 103 = .ok (.iadd, 1) := dk_96 (dk_at dksX7_readParts_4 7 rfl rfl)
theorem dX7_readParts_104 : decode cX7_readParts 104 = .ok (.iaload, 1) := dk_46 (dk_at dksX7_readParts_4 8 rfl rfl)
theorem dX7_readParts_105 : decode cX7_readParts 105 = .ok (.iconst (-1), 1) := dk_2 (dk_at dksX7_readParts_4 9 rfl rfl)
theorem dX7_readParts_106 : decode cX7_readParts 106 = .ok (.if_icmp .ne 9, 3) := dk_160 0 9 (dk_at dksX7_readParts_4 10 rfl rfl)
theorem dX7_readParts_109 : decode cX7_readParts 109 = .ok (.aload_n 0, 1) := dk_42 (dk_at dksX7_readParts_4 13 rfl rfl)
theorem dX7_readParts_110 : decode cX7_readParts 110 = .ok (.iconst 3, 1) := dk_6 (dk_at dksX7_readParts_4 14 rfl rfl)
theorem dX7_readParts_111 : decode cX7_readParts 111 = .ok (.invokevirtual 176, 3) := dk_182 0 176 (dk_at dksX7_readParts_4 15 rfl rfl)
theorem dX7_readParts_114 : decode cX7_readParts 114 = .ok (.ireturn, 1) := dk_172 (dk_at dksX7_readParts_4 18 rfl rfl)
theorem dX7_readParts_115 : decode cX7_readParts 115 = .ok (.aload_n 0, 1) := dk_42 (dk_at dksX7_readParts_4 19 rfl rfl)
theorem dX7_readParts_116 : decode cX7_readParts 116 = .ok (.invokevirtual 180, 3) := dk_182 0 180 (dk_at dksX7_readParts_4 20 rfl rfl)
theorem dX7_readParts_119 : decode cX7_readParts 119 = .ok (.iload_n 3, 1) := dk_29 (dk_at dksX7_readParts_4 23 rfl rfl)
theorem dX7_readParts_120 : decode cX7_readParts 120 = .ok (.iload_n 2, 1) := dk_28 (dk_at dksX7_readParts_5 0 rfl rfl)
theorem dX7_readParts_121 : decode cX7_readParts 121 = .ok (.iconst 1, 1) := dk_4 (dk_at dksX7_readParts_5 1 rfl rfl)
theorem dX7_readParts_122 : decode cX7_readParts 122 = .ok (.isub, 1) := dk_100 (dk_at dksX7_readParts_5 2 rfl rfl)
theorem dX7_readParts_123 : decode cX7_readParts 123 = .ok (.if_icmp .ne 8, 3) := dk_160 0 8 (dk_at dksX7_readParts_5 3 rfl rfl)
theorem dX7_readParts_126 : decode cX7_readParts 126 = .ok (.bipush 41, 2) := dk_16 41 (dk_at dksX7_readParts_5 6 rfl rfl)
theorem dX7_readParts_128 : decode cX7_readParts 128 = .ok (.goto 5, 3) := dk_167 0 5 (dk_at dksX7_readParts_5 8 rfl rfl)
theorem dX7_readParts_131 : decode cX7_readParts 131 = .ok (.bipush 44, 2) := dk_16 44 (dk_at dksX7_readParts_5 11 rfl rfl)
theorem dX7_readParts_133 : decode cX7_readParts 133 = .ok (.istore 4, 2) := dk_54 4 (dk_at dksX7_readParts_5 13 rfl rfl)
theorem dX7_readParts_135 : decode cX7_readParts 135 = .ok (.aload_n 0, 1) := dk_42 (dk_at dksX7_readParts_5 15 rfl rfl)
theorem dX7_readParts_136 : decode cX7_readParts 136 = .ok (.getfield 129, 3) := dk_180 0 129 (dk_at dksX7_readParts_5 16 rfl rfl)
theorem dX7_readParts_139 : decode cX7_readParts 139 = .ok (.iload 4, 2) := dk_21 4 (dk_at dksX7_readParts_5 19 rfl rfl)
theorem dX7_readParts_141 : decode cX7_readParts 141 = .ok (.if_icmp .eq 31, 3) := dk_159 0 31 (dk_at dksX7_readParts_5 21 rfl rfl)
theorem dX7_readParts_144 : decode cX7_readParts 144 = .ok (.aload_n 0, 1) := dk_42 (dk_at dksX7_readParts_6 0 rfl rfl)
theorem dX7_readParts_145 : decode cX7_readParts 145 = .ok (.aload_n 0, 1) := dk_42 (dk_at dksX7_readParts_6 1 rfl rfl)
theorem dX7_readParts_146 : decode cX7_readParts 146 = .ok (.getfield 129, 3) := dk_180 0 129 (dk_at dksX7_readParts_6 2 rfl rfl)
theorem dX7_readParts_149 : decode cX7_readParts 149 = .ok (.bipush 44, 2) := dk_16 44 (dk_at dksX7_readParts_6 5 rfl rfl)
theorem dX7_readParts_151 : decode cX7_readParts 151 = .ok (.if_icmp .eq 12, 3) := dk_159 0 12 (dk_at dksX7_readParts_6 7 rfl rfl)
theorem dX7_readParts_154 : decode cX7_readParts 154 = .ok (.aload_n 0, 1) := dk_42 (dk_at dksX7_readParts_6 10 rfl rfl)
theorem dX7_readParts_155 : decode cX7_readParts 155 = .ok (.getfield 129, 3) := dk_180 0 129 (dk_at dksX7_readParts_6 11 rfl rfl)
theorem dX7_readParts_158 : decode cX7_readParts 158 = .ok (.bipush 41, 2) := dk_16 41 (dk_at dksX7_readParts_6 14 rfl rfl)
theorem dX7_readParts_160 : decode cX7_readParts 160 = .ok (.if_icmp .ne 7, 3) := dk_160 0 7 (dk_at dksX7_readParts_6 16 rfl rfl)
theorem dX7_readParts_163 : decode cX7_readParts 163 = .ok (.iconst 5, 1) := dk_8 (dk_at dksX7_readParts_6 19 rfl rfl)
theorem dX7_readParts_164 : decode cX7_readParts 164 = .ok (.goto 4, 3) := dk_167 0 4 (dk_at dksX7_readParts_6 20 rfl rfl)
theorem dX7_readParts_167 : decode cX7_readParts 167 = .ok (.iconst 1, 1) := dk_4 (dk_at dksX7_readParts_6 23 rfl rfl)
theorem dX7_readParts_168 : decode cX7_readParts 168 = .ok (.invokevirtual 176, 3) := dk_182 0 176 (dk_at dksX7_readParts_7 0 rfl rfl)
theorem dX7_readParts_171 : decode cX7_readParts 171 = .ok (.ireturn, 1) := dk_172 (dk_at dksX7_readParts_7 3 rfl rfl)
theorem dX7_readParts_172 : decode cX7_readParts 172 = .ok (.iinc 3 1, 3) := dk_132 3 1 (dk_at dksX7_readParts_7 4 rfl rfl)
theorem dX7_readParts_175 : decode cX7_readParts 175 = .ok (.goto (-116), 3) := dk_167 255 140 (dk_at dksX7_readParts_7 7 rfl rfl)
theorem dX7_readParts_178 : decode cX7_readParts 178 = .ok (.aload_n 0, 1) := dk_42 (dk_at dksX7_readParts_7 10 rfl rfl)
theorem dX7_readParts_179 : decode cX7_readParts 179 = .ok (.invokevirtual 180, 3) := dk_182 0 180 (dk_at dksX7_readParts_7 11 rfl rfl)
theorem dX7_readParts_182 : decode cX7_readParts 182 = .ok (.iconst 1, 1) := dk_4 (dk_at dksX7_readParts_7 14 rfl rfl)
theorem dX7_readParts_183 : decode cX7_readParts 183 = .ok (.ireturn, 1) := dk_172 (dk_at dksX7_readParts_7 15 rfl rfl)
abbrev cX7_readPair : ByteArray := prog_14_method_21_code
def yX7_readPair : MethodName := ⟨RX7, "readPair", "(Z)Z"⟩
def dkwX7_readPair_7 : List UInt8 := [153, 0, 7, 3, 167, 0, 4, 4, 96, 181, 0, 207, 4, 172]
abbrev dktX7_readPair_7 : List UInt8 := dkwX7_readPair_7 ++ []
def dkwX7_readPair_6 : List UInt8 := [180, 0, 204, 27, 153, 0, 7, 4, 167, 0, 4, 3, 96, 181, 0, 204, 42, 89, 180, 0, 207, 27]
abbrev dktX7_readPair_6 : List UInt8 := dkwX7_readPair_6 ++ dktX7_readPair_7
def dkwX7_readPair_5 : List UInt8 := [96, 27, 153, 0, 7, 4, 167, 0, 4, 5, 79, 42, 89, 180, 0, 197, 4, 96, 181, 0, 197, 42, 89]
abbrev dktX7_readPair_5 : List UInt8 := dkwX7_readPair_5 ++ dktX7_readPair_6
def dkwX7_readPair_4 : List UInt8 := [182, 0, 176, 172, 132, 3, 1, 167, 255, 201, 42, 182, 0, 180, 42, 180, 0, 20, 16, 48, 42, 180, 0, 197]
abbrev dktX7_readPair_4 : List UInt8 := dkwX7_readPair_4 ++ dktX7_readPair_5
def dkwX7_readPair_3 : List UInt8 := [28, 29, 96, 42, 182, 0, 190, 79, 42, 180, 0, 23, 28, 29, 96, 46, 2, 160, 0, 9, 42, 6]
abbrev dktX7_readPair_3 : List UInt8 := dkwX7_readPair_3 ++ dktX7_readPair_4
def dkwX7_readPair_2 : List UInt8 := [162, 0, 56, 42, 182, 0, 180, 42, 182, 0, 183, 154, 0, 9, 42, 4, 182, 0, 176, 172, 42, 180, 0, 23]
abbrev dktX7_readPair_2 : List UInt8 := dkwX7_readPair_2 ++ dktX7_readPair_3
def dkwX7_readPair_1 : List UInt8 := [160, 0, 9, 42, 7, 182, 0, 176, 172, 7, 16, 48, 42, 180, 0, 197, 96, 104, 61, 3, 62, 29, 5]
abbrev dktX7_readPair_1 : List UInt8 := dkwX7_readPair_1 ++ dktX7_readPair_2
def dkwX7_readPair_0 : List UInt8 := [27, 153, 0, 15, 42, 180, 0, 204, 16, 12, 160, 0, 21, 167, 0, 12, 42, 180, 0, 207, 16, 8]
abbrev dktX7_readPair_0 : List UInt8 := dkwX7_readPair_0 ++ dktX7_readPair_1
theorem dksX7_readPair_0 : cX7_readPair.data.toList.drop 0 = dktX7_readPair_0 := by decide +kernel
theorem dksX7_readPair_1 : cX7_readPair.data.toList.drop 22 = dktX7_readPair_1 := dk_seg dksX7_readPair_0 22 rfl rfl
theorem dksX7_readPair_2 : cX7_readPair.data.toList.drop 45 = dktX7_readPair_2 := dk_seg dksX7_readPair_1 23 rfl rfl
theorem dksX7_readPair_3 : cX7_readPair.data.toList.drop 69 = dktX7_readPair_3 := dk_seg dksX7_readPair_2 24 rfl rfl
theorem dksX7_readPair_4 : cX7_readPair.data.toList.drop 91 = dktX7_readPair_4 := dk_seg dksX7_readPair_3 22 rfl rfl
theorem dksX7_readPair_5 : cX7_readPair.data.toList.drop 115 = dktX7_readPair_5 := dk_seg dksX7_readPair_4 24 rfl rfl
theorem dksX7_readPair_6 : cX7_readPair.data.toList.drop 138 = dktX7_readPair_6 := dk_seg dksX7_readPair_5 23 rfl rfl
theorem dksX7_readPair_7 : cX7_readPair.data.toList.drop 160 = dktX7_readPair_7 := dk_seg dksX7_readPair_6 22 rfl rfl
theorem dX7_readPair_0 : decode cX7_readPair 0 = .ok (.iload_n 1, 1) := dk_27 (dk_at dksX7_readPair_0 0 rfl rfl)
theorem dX7_readPair_1 : decode cX7_readPair 1 = .ok (.ifCond .eq 15, 3) := dk_153 0 15 (dk_at dksX7_readPair_0 1 rfl rfl)
theorem dX7_readPair_4 : decode cX7_readPair 4 = .ok (.aload_n 0, 1) := dk_42 (dk_at dksX7_readPair_0 4 rfl rfl)
theorem dX7_readPair_5 : decode cX7_readPair 5 = .ok (.getfield 204, 3) := dk_180 0 204 (dk_at dksX7_readPair_0 5 rfl rfl)
theorem dX7_readPair_8 : decode cX7_readPair 8 = .ok (.bipush 12, 2) := dk_16 12 (dk_at dksX7_readPair_0 8 rfl rfl)
theorem dX7_readPair_10 : decode cX7_readPair 10 = .ok (.if_icmp .ne 21, 3) := dk_160 0 21 (dk_at dksX7_readPair_0 10 rfl rfl)
theorem dX7_readPair_13 : decode cX7_readPair 13 = .ok (.goto 12, 3) := dk_167 0 12 (dk_at dksX7_readPair_0 13 rfl rfl)
theorem dX7_readPair_16 : decode cX7_readPair 16 = .ok (.aload_n 0, 1) := dk_42 (dk_at dksX7_readPair_0 16 rfl rfl)
theorem dX7_readPair_17 : decode cX7_readPair 17 = .ok (.getfield 207, 3) := dk_180 0 207 (dk_at dksX7_readPair_0 17 rfl rfl)
theorem dX7_readPair_20 : decode cX7_readPair 20 = .ok (.bipush 8, 2) := dk_16 8 (dk_at dksX7_readPair_0 20 rfl rfl)
theorem dX7_readPair_22 : decode cX7_readPair 22 = .ok (.if_icmp .ne 9, 3) := dk_160 0 9 (dk_at dksX7_readPair_1 0 rfl rfl)
theorem dX7_readPair_25 : decode cX7_readPair 25 = .ok (.aload_n 0, 1) := dk_42 (dk_at dksX7_readPair_1 3 rfl rfl)
theorem dX7_readPair_26 : decode cX7_readPair 26 = .ok (.iconst 4, 1) := dk_7 (dk_at dksX7_readPair_1 4 rfl rfl)
theorem dX7_readPair_27 : decode cX7_readPair 27 = .ok (.invokevirtual 176, 3) := dk_182 0 176 (dk_at dksX7_readPair_1 5 rfl rfl)
theorem dX7_readPair_30 : decode cX7_readPair 30 = .ok (.ireturn, 1) := dk_172 (dk_at dksX7_readPair_1 8 rfl rfl)
theorem dX7_readPair_31 : decode cX7_readPair 31 = .ok (.iconst 4, 1) := dk_7 (dk_at dksX7_readPair_1 9 rfl rfl)
theorem dX7_readPair_32 : decode cX7_readPair 32 = .ok (.bipush 48, 2) := dk_16 48 (dk_at dksX7_readPair_1 10 rfl rfl)
theorem dX7_readPair_34 : decode cX7_readPair 34 = .ok (.aload_n 0, 1) := dk_42 (dk_at dksX7_readPair_1 12 rfl rfl)
theorem dX7_readPair_35 : decode cX7_readPair 35 = .ok (.getfield 197, 3) := dk_180 0 197 (dk_at dksX7_readPair_1 13 rfl rfl)
theorem dX7_readPair_38 : decode cX7_readPair 38 = .ok (.iadd, 1) := dk_96 (dk_at dksX7_readPair_1 16 rfl rfl)
theorem dX7_readPair_39 : decode cX7_readPair 39 = .ok (.imul, 1) := dk_104 (dk_at dksX7_readPair_1 17 rfl rfl)
theorem dX7_readPair_40 : decode cX7_readPair 40 = .ok (.istore_n 2, 1) := dk_61 (dk_at dksX7_readPair_1 18 rfl rfl)
theorem dX7_readPair_41 : decode cX7_readPair 41 = .ok (.iconst 0, 1) := dk_3 (dk_at dksX7_readPair_1 19 rfl rfl)
theorem dX7_readPair_42 : decode cX7_readPair 42 = .ok (.istore_n 3, 1) := dk_62 (dk_at dksX7_readPair_1 20 rfl rfl)
theorem dX7_readPair_43 : decode cX7_readPair 43 = .ok (.iload_n 3, 1) := dk_29 (dk_at dksX7_readPair_1 21 rfl rfl)
theorem dX7_readPair_44 : decode cX7_readPair 44 = .ok (.iconst 2, 1) := dk_5 (dk_at dksX7_readPair_1 22 rfl rfl)
theorem dX7_readPair_45 : decode cX7_readPair 45 = .ok (.if_icmp .ge 56, 3) := dk_162 0 56 (dk_at dksX7_readPair_2 0 rfl rfl)
theorem dX7_readPair_48 : decode cX7_readPair 48 = .ok (.aload_n 0, 1) := dk_42 (dk_at dksX7_readPair_2 3 rfl rfl)
theorem dX7_readPair_49 : decode cX7_readPair 49 = .ok (.invokevirtual 180, 3) := dk_182 0 180 (dk_at dksX7_readPair_2 4 rfl rfl)
theorem dX7_readPair_52 : decode cX7_readPair 52 = .ok (.aload_n 0, 1) := dk_42 (dk_at dksX7_readPair_2 7 rfl rfl)
theorem dX7_readPair_53 : decode cX7_readPair 53 = .ok (.invokevirtual 183, 3) := dk_182 0 183 (dk_at dksX7_readPair_2 8 rfl rfl)
theorem dX7_readPair_56 : decode cX7_readPair 56 = .ok (.ifCond .ne 9, 3) := dk_154 0 9 (dk_at dksX7_readPair_2 11 rfl rfl)
theorem dX7_readPair_59 : decode cX7_readPair 59 = .ok (.aload_n 0, 1) := dk_42 (dk_at dksX7_readPair_2 14 rfl rfl)
theorem dX7_readPair_60 : decode cX7_readPair 60 = .ok (.iconst 1, 1) := dk_4 (dk_at dksX7_readPair_2 15 rfl rfl)
theorem dX7_readPair_61 : decode cX7_readPair 61 = .ok (.invokevirtual 176, 3) := dk_182 0 176 (dk_at dksX7_readPair_2 16 rfl rfl)
theorem dX7_readPair_64 : decode cX7_readPair 64 = .ok (.ireturn, 1) := dk_172 (dk_at dksX7_readPair_2 19 rfl rfl)
theorem dX7_readPair_65 : decode cX7_readPair 65 = .ok (.aload_n 0, 1) := dk_42 (dk_at dksX7_readPair_2 20 rfl rfl)
theorem dX7_readPair_66 : decode cX7_readPair 66 = .ok (.getfield 23, 3) := dk_180 0 23 (dk_at dksX7_readPair_2 21 rfl rfl)
theorem dX7_readPair_69 : decode cX7_readPair 69 = .ok (.iload_n 2, 1) := dk_28 (dk_at dksX7_readPair_3 0 rfl rfl)
theorem dX7_readPair_70 : decode cX7_readPair 70 = .ok (.iload_n 3, 1) := dk_29 (dk_at dksX7_readPair_3 1 rfl rfl)
theorem dX7_readPair_71 : decode cX7_readPair 71 = .ok (.iadd, 1) := dk_96 (dk_at dksX7_readPair_3 2 rfl rfl)
theorem dX7_readPair_72 : decode cX7_readPair 72 = .ok (.aload_n 0, 1) := dk_42 (dk_at dksX7_readPair_3 3 rfl rfl)
theorem dX7_readPair_73 : decode cX7_readPair 73 = .ok (.invokevirtual 190, 3) := dk_182 0 190 (dk_at dksX7_readPair_3 4 rfl rfl)
theorem dX7_readPair_76 : decode cX7_readPair 76 = .ok (.iastore, 1) := dk_79 (dk_at dksX7_readPair_3 7 rfl rfl)
theorem dX7_readPair_77 : decode cX7_readPair 77 = .ok (.aload_n 0, 1) := dk_42 (dk_at dksX7_readPair_3 8 rfl rfl)
theorem dX7_readPair_78 : decode cX7_readPair 78 = .ok (.getfield 23, 3) := dk_180 0 23 (dk_at dksX7_readPair_3 9 rfl rfl)
theorem dX7_readPair_81 : decode cX7_readPair 81 = .ok (.iload_n 2, 1) := dk_28 (dk_at dksX7_readPair_3 12 rfl rfl)
theorem dX7_readPair_82 : decode cX7_readPair 82 = .ok (.iload_n 3, 1) := dk_29 (dk_at dksX7_readPair_3 13 rfl rfl)
theorem dX7_readPair_83 : decode cX7_readPair 83 = .ok (.iadd, 1) := dk_96 (dk_at dksX7_readPair_3 14 rfl rfl)
theorem dX7_readPair_84 : decode cX7_readPair 84 = .ok (.iaload, 1) := dk_46 (dk_at dksX7_readPair_3 15 rfl rfl)
theorem dX7_readPair_85 : decode cX7_readPair 85 = .ok (.iconst (-1), 1) := dk_2 (dk_at dksX7_readPair_3 16 rfl rfl)
theorem dX7_readPair_86 : decode cX7_readPair 86 = .ok (.if_icmp .ne 9, 3) := dk_160 0 9 (dk_at dksX7_readPair_3 17 rfl rfl)
theorem dX7_readPair_89 : decode cX7_readPair 89 = .ok (.aload_n 0, 1) := dk_42 (dk_at dksX7_readPair_3 20 rfl rfl)
theorem dX7_readPair_90 : decode cX7_readPair 90 = .ok (.iconst 3, 1) := dk_6 (dk_at dksX7_readPair_3 21 rfl rfl)
theorem dX7_readPair_91 : decode cX7_readPair 91 = .ok (.invokevirtual 176, 3) := dk_182 0 176 (dk_at dksX7_readPair_4 0 rfl rfl)
theorem dX7_readPair_94 : decode cX7_readPair 94 = .ok (.ireturn, 1) := dk_172 (dk_at dksX7_readPair_4 3 rfl rfl)
theorem dX7_readPair_95 : decode cX7_readPair 95 = .ok (.iinc 3 1, 3) := dk_132 3 1 (dk_at dksX7_readPair_4 4 rfl rfl)
theorem dX7_readPair_98 : decode cX7_readPair 98 = .ok (.goto (-55), 3) := dk_167 255 201 (dk_at dksX7_readPair_4 7 rfl rfl)
theorem dX7_readPair_101 : decode cX7_readPair 101 = .ok (.aload_n 0, 1) := dk_42 (dk_at dksX7_readPair_4 10 rfl rfl)
theorem dX7_readPair_102 : decode cX7_readPair 102 = .ok (.invokevirtual 180, 3) := dk_182 0 180 (dk_at dksX7_readPair_4 11 rfl rfl)
theorem dX7_readPair_105 : decode cX7_readPair 105 = .ok (.aload_n 0, 1) := dk_42 (dk_at dksX7_readPair_4 14 rfl rfl)
theorem dX7_readPair_106 : decode cX7_readPair 106 = .ok (.getfield 20, 3) := dk_180 0 20 (dk_at dksX7_readPair_4 15 rfl rfl)
theorem dX7_readPair_109 : decode cX7_readPair 109 = .ok (.bipush 48, 2) := dk_16 48 (dk_at dksX7_readPair_4 18 rfl rfl)
theorem dX7_readPair_111 : decode cX7_readPair 111 = .ok (.aload_n 0, 1) := dk_42 (dk_at dksX7_readPair_4 20 rfl rfl)
theorem dX7_readPair_112 : decode cX7_readPair 112 = .ok (.getfield 197, 3) := dk_180 0 197 (dk_at dksX7_readPair_4 21 rfl rfl)
theorem dX7_readPair_115 : decode cX7_readPair 115 = .ok (.iadd, 1) := dk_96 (dk_at dksX7_readPair_5 0 rfl rfl)
theorem dX7_readPair_116 : decode cX7_readPair 116 = .ok (.iload_n 1, 1) := dk_27 (dk_at dksX7_readPair_5 1 rfl rfl)
theorem dX7_readPair_117 : decode cX7_readPair 117 = .ok (.ifCond .eq 7, 3) := dk_153 0 7 (dk_at dksX7_readPair_5 2 rfl rfl)
theorem dX7_readPair_120 : decode cX7_readPair 120 = .ok (.iconst 1, 1) := dk_4 (dk_at dksX7_readPair_5 5 rfl rfl)
theorem dX7_readPair_121 : decode cX7_readPair 121 = .ok (.goto 4, 3) := dk_167 0 4 (dk_at dksX7_readPair_5 6 rfl rfl)
theorem dX7_readPair_124 : decode cX7_readPair 124 = .ok (.iconst 2, 1) := dk_5 (dk_at dksX7_readPair_5 9 rfl rfl)
theorem dX7_readPair_125 : decode cX7_readPair 125 = .ok (.iastore, 1) := dk_79 (dk_at dksX7_readPair_5 10 rfl rfl)
theorem dX7_readPair_126 : decode cX7_readPair 126 = .ok (.aload_n 0, 1) := dk_42 (dk_at dksX7_readPair_5 11 rfl rfl)
theorem dX7_readPair_127 : decode cX7_readPair 127 = .ok (.dup, 1) := dk_89 (dk_at dksX7_readPair_5 12 rfl rfl)
theorem dX7_readPair_128 : decode cX7_readPair 128 = .ok (.getfield 197, 3) := dk_180 0 197 (dk_at dksX7_readPair_5 13 rfl rfl)
theorem dX7_readPair_131 : decode cX7_readPair 131 = .ok (.iconst 1, 1) := dk_4 (dk_at dksX7_readPair_5 16 rfl rfl)
theorem dX7_readPair_132 : decode cX7_readPair 132 = .ok (.iadd, 1) := dk_96 (dk_at dksX7_readPair_5 17 rfl rfl)
theorem dX7_readPair_133 : decode cX7_readPair 133 = .ok (.putfield 197, 3) := dk_181 0 197 (dk_at dksX7_readPair_5 18 rfl rfl)
theorem dX7_readPair_136 : decode cX7_readPair 136 = .ok (.aload_n 0, 1) := dk_42 (dk_at dksX7_readPair_5 21 rfl rfl)
theorem dX7_readPair_137 : decode cX7_readPair 137 = .ok (.dup, 1) := dk_89 (dk_at dksX7_readPair_5 22 rfl rfl)
theorem dX7_readPair_138 : decode cX7_readPair 138 = .ok (.getfield 204, 3) := dk_180 0 204 (dk_at dksX7_readPair_6 0 rfl rfl)
theorem dX7_readPair_141 : decode cX7_readPair 141 = .ok (.iload_n 1, 1) := dk_27 (dk_at dksX7_readPair_6 3 rfl rfl)
theorem dX7_readPair_142 : decode cX7_readPair 142 = .ok (.ifCond .eq 7, 3) := dk_153 0 7 (dk_at dksX7_readPair_6 4 rfl rfl)
theorem dX7_readPair_145 : decode cX7_readPair 145 = .ok (.iconst 1, 1) := dk_4 (dk_at dksX7_readPair_6 7 rfl rfl)
theorem dX7_readPair_146 : decode cX7_readPair 146 = .ok (.goto 4, 3) := dk_167 0 4 (dk_at dksX7_readPair_6 8 rfl rfl)
theorem dX7_readPair_149 : decode cX7_readPair 149 = .ok (.iconst 0, 1) := dk_3 (dk_at dksX7_readPair_6 11 rfl rfl)
theorem dX7_readPair_150 : decode cX7_readPair 150 = .ok (.iadd, 1) := dk_96 (dk_at dksX7_readPair_6 12 rfl rfl)
theorem dX7_readPair_151 : decode cX7_readPair 151 = .ok (.putfield 204, 3) := dk_181 0 204 (dk_at dksX7_readPair_6 13 rfl rfl)
theorem dX7_readPair_154 : decode cX7_readPair 154 = .ok (.aload_n 0, 1) := dk_42 (dk_at dksX7_readPair_6 16 rfl rfl)
theorem dX7_readPair_155 : decode cX7_readPair 155 = .ok (.dup, 1) := dk_89 (dk_at dksX7_readPair_6 17 rfl rfl)
theorem dX7_readPair_156 : decode cX7_readPair 156 = .ok (.getfield 207, 3) := dk_180 0 207 (dk_at dksX7_readPair_6 18 rfl rfl)
theorem dX7_readPair_159 : decode cX7_readPair 159 = .ok (.iload_n 1, 1) := dk_27 (dk_at dksX7_readPair_6 21 rfl rfl)
theorem dX7_readPair_160 : decode cX7_readPair 160 = .ok (.ifCond .eq 7, 3) := dk_153 0 7 (dk_at dksX7_readPair_7 0 rfl rfl)
theorem dX7_readPair_163 : decode cX7_readPair 163 = .ok (.iconst 0, 1) := dk_3 (dk_at dksX7_readPair_7 3 rfl rfl)
theorem dX7_readPair_164 : decode cX7_readPair 164 = .ok (.goto 4, 3) := dk_167 0 4 (dk_at dksX7_readPair_7 4 rfl rfl)
theorem dX7_readPair_167 : decode cX7_readPair 167 = .ok (.iconst 1, 1) := dk_4 (dk_at dksX7_readPair_7 7 rfl rfl)
theorem dX7_readPair_168 : decode cX7_readPair 168 = .ok (.iadd, 1) := dk_96 (dk_at dksX7_readPair_7 8 rfl rfl)
theorem dX7_readPair_169 : decode cX7_readPair 169 = .ok (.putfield 207, 3) := dk_181 0 207 (dk_at dksX7_readPair_7 9 rfl rfl)
theorem dX7_readPair_172 : decode cX7_readPair 172 = .ok (.iconst 1, 1) := dk_4 (dk_at dksX7_readPair_7 12 rfl rfl)
theorem dX7_readPair_173 : decode cX7_readPair 173 = .ok (.ireturn, 1) := dk_172 (dk_at dksX7_readPair_7 13 rfl rfl)
abbrev cX7_no : ByteArray := prog_14_method_4_code
def yX7_no : MethodName := ⟨RX7, "no", "(I)I"⟩
def dkwX7_no_0 : List UInt8 := [42, 27, 181, 0, 106, 2, 172]
abbrev dktX7_no_0 : List UInt8 := dkwX7_no_0 ++ []
theorem dksX7_no_0 : cX7_no.data.toList.drop 0 = dktX7_no_0 := by decide +kernel
theorem dX7_no_0 : decode cX7_no 0 = .ok (.aload_n 0, 1) := dk_42 (dk_at dksX7_no_0 0 rfl rfl)
theorem dX7_no_1 : decode cX7_no 1 = .ok (.iload_n 1, 1) := dk_27 (dk_at dksX7_no_0 1 rfl rfl)
theorem dX7_no_2 : decode cX7_no 2 = .ok (.putfield 106, 3) := dk_181 0 106 (dk_at dksX7_no_0 2 rfl rfl)
theorem dX7_no_5 : decode cX7_no 5 = .ok (.iconst (-1), 1) := dk_2 (dk_at dksX7_no_0 5 rfl rfl)
theorem dX7_no_6 : decode cX7_no 6 = .ok (.ireturn, 1) := dk_172 (dk_at dksX7_no_0 6 rfl rfl)
abbrev cX7_makes : ByteArray := prog_14_method_39_code
def yX7_makes : MethodName := ⟨RX7, "makes", "()V"⟩
def dkwX7_makes_1 : List UInt8 := [180, 0, 238, 162, 0, 14, 42, 27, 182, 1, 44, 132, 1, 1, 167, 255, 240, 177]
abbrev dktX7_makes_1 : List UInt8 := dkwX7_makes_1 ++ []
def dkwX7_makes_0 : List UInt8 := [42, 3, 181, 0, 250, 42, 3, 181, 1, 31, 42, 3, 181, 1, 41, 42, 3, 181, 1, 3, 3, 60, 27, 42]
abbrev dktX7_makes_0 : List UInt8 := dkwX7_makes_0 ++ dktX7_makes_1
theorem dksX7_makes_0 : cX7_makes.data.toList.drop 0 = dktX7_makes_0 := by decide +kernel
theorem dksX7_makes_1 : cX7_makes.data.toList.drop 24 = dktX7_makes_1 := dk_seg dksX7_makes_0 24 rfl rfl
theorem dX7_makes_0 : decode cX7_makes 0 = .ok (.aload_n 0, 1) := dk_42 (dk_at dksX7_makes_0 0 rfl rfl)
theorem dX7_makes_1 : decode cX7_makes 1 = .ok (.iconst 0, 1) := dk_3 (dk_at dksX7_makes_0 1 rfl rfl)
theorem dX7_makes_2 : decode cX7_makes 2 = .ok (.putfield 250, 3) := dk_181 0 250 (dk_at dksX7_makes_0 2 rfl rfl)
theorem dX7_makes_5 : decode cX7_makes 5 = .ok (.aload_n 0, 1) := dk_42 (dk_at dksX7_makes_0 5 rfl rfl)
theorem dX7_makes_6 : decode cX7_makes 6 = .ok (.iconst 0, 1) := dk_3 (dk_at dksX7_makes_0 6 rfl rfl)
theorem dX7_makes_7 : decode cX7_makes 7 = .ok (.putfield 287, 3) := dk_181 1 31 (dk_at dksX7_makes_0 7 rfl rfl)
theorem dX7_makes_10 : decode cX7_makes 10 = .ok (.aload_n 0, 1) := dk_42 (dk_at dksX7_makes_0 10 rfl rfl)
theorem dX7_makes_11 : decode cX7_makes 11 = .ok (.iconst 0, 1) := dk_3 (dk_at dksX7_makes_0 11 rfl rfl)
theorem dX7_makes_12 : decode cX7_makes 12 = .ok (.putfield 297, 3) := dk_181 1 41 (dk_at dksX7_makes_0 12 rfl rfl)
theorem dX7_makes_15 : decode cX7_makes 15 = .ok (.aload_n 0, 1) := dk_42 (dk_at dksX7_makes_0 15 rfl rfl)
theorem dX7_makes_16 : decode cX7_makes 16 = .ok (.iconst 0, 1) := dk_3 (dk_at dksX7_makes_0 16 rfl rfl)
theorem dX7_makes_17 : decode cX7_makes 17 = .ok (.putfield 259, 3) := dk_181 1 3 (dk_at dksX7_makes_0 17 rfl rfl)
theorem dX7_makes_20 : decode cX7_makes 20 = .ok (.iconst 0, 1) := dk_3 (dk_at dksX7_makes_0 20 rfl rfl)
theorem dX7_makes_21 : decode cX7_makes 21 = .ok (.istore_n 1, 1) := dk_60 (dk_at dksX7_makes_0 21 rfl rfl)
theorem dX7_makes_22 : decode cX7_makes 22 = .ok (.iload_n 1, 1) := dk_27 (dk_at dksX7_makes_0 22 rfl rfl)
theorem dX7_makes_23 : decode cX7_makes 23 = .ok (.aload_n 0, 1) := dk_42 (dk_at dksX7_makes_0 23 rfl rfl)
theorem dX7_makes_24 : decode cX7_makes 24 = .ok (.getfield 238, 3) := dk_180 0 238 (dk_at dksX7_makes_1 0 rfl rfl)
theorem dX7_makes_27 : decode cX7_makes 27 = .ok (.if_icmp .ge 14, 3) := dk_162 0 14 (dk_at dksX7_makes_1 3 rfl rfl)
theorem dX7_makes_30 : decode cX7_makes 30 = .ok (.aload_n 0, 1) := dk_42 (dk_at dksX7_makes_1 6 rfl rfl)
theorem dX7_makes_31 : decode cX7_makes 31 = .ok (.iload_n 1, 1) := dk_27 (dk_at dksX7_makes_1 7 rfl rfl)
theorem dX7_makes_32 : decode cX7_makes 32 = .ok (.invokevirtual 300, 3) := dk_182 1 44 (dk_at dksX7_makes_1 8 rfl rfl)
theorem dX7_makes_35 : decode cX7_makes 35 = .ok (.iinc 1 1, 3) := dk_132 1 1 (dk_at dksX7_makes_1 11 rfl rfl)
theorem dX7_makes_38 : decode cX7_makes 38 = .ok (.goto (-16), 3) := dk_167 255 240 (dk_at dksX7_makes_1 14 rfl rfl)
theorem dX7_makes_41 : decode cX7_makes 41 = .ok (.return_, 1) := dk_177 (dk_at dksX7_makes_1 17 rfl rfl)
abbrev cX7_comes : ByteArray := prog_14_method_38_code
def yX7_comes : MethodName := ⟨RX7, "comes", "(I)V"⟩
def dkwX7_comes_4 : List UInt8 := [181, 1, 41, 177]
abbrev dktX7_comes_4 : List UInt8 := dkwX7_comes_4 ++ []
def dkwX7_comes_3 : List UInt8 := [180, 0, 47, 42, 180, 1, 41, 42, 180, 0, 23, 28, 4, 96, 46, 79, 42, 89, 180, 1, 41, 4, 96]
abbrev dktX7_comes_3 : List UInt8 := dkwX7_comes_3 ++ dktX7_comes_4
def dkwX7_comes_2 : List UInt8 := [182, 1, 37, 167, 0, 45, 42, 180, 0, 44, 42, 180, 1, 41, 42, 180, 0, 23, 28, 46, 79, 42]
abbrev dktX7_comes_2 : List UInt8 := dkwX7_comes_2 ++ dktX7_comes_3
def dkwX7_comes_1 : List UInt8 := [180, 0, 20, 27, 46, 4, 160, 0, 24, 42, 42, 180, 0, 23, 28, 46, 42, 180, 0, 23, 28, 4, 96, 46]
abbrev dktX7_comes_1 : List UInt8 := dkwX7_comes_1 ++ dktX7_comes_2
def dkwX7_comes_0 : List UInt8 := [7, 27, 104, 61, 42, 180, 0, 20, 27, 46, 154, 0, 11, 42, 28, 182, 1, 34, 167, 0, 76, 42]
abbrev dktX7_comes_0 : List UInt8 := dkwX7_comes_0 ++ dktX7_comes_1
theorem dksX7_comes_0 : cX7_comes.data.toList.drop 0 = dktX7_comes_0 := by decide +kernel
theorem dksX7_comes_1 : cX7_comes.data.toList.drop 22 = dktX7_comes_1 := dk_seg dksX7_comes_0 22 rfl rfl
theorem dksX7_comes_2 : cX7_comes.data.toList.drop 46 = dktX7_comes_2 := dk_seg dksX7_comes_1 24 rfl rfl
theorem dksX7_comes_3 : cX7_comes.data.toList.drop 68 = dktX7_comes_3 := dk_seg dksX7_comes_2 22 rfl rfl
theorem dksX7_comes_4 : cX7_comes.data.toList.drop 91 = dktX7_comes_4 := dk_seg dksX7_comes_3 23 rfl rfl
theorem dX7_comes_0 : decode cX7_comes 0 = .ok (.iconst 4, 1) := dk_7 (dk_at dksX7_comes_0 0 rfl rfl)
theorem dX7_comes_1 : decode cX7_comes 1 = .ok (.iload_n 1, 1) := dk_27 (dk_at dksX7_comes_0 1 rfl rfl)
theorem dX7_comes_2 : decode cX7_comes 2 = .ok (.imul, 1) := dk_104 (dk_at dksX7_comes_0 2 rfl rfl)
theorem dX7_comes_3 : decode cX7_comes 3 = .ok (.istore_n 2, 1) := dk_61 (dk_at dksX7_comes_0 3 rfl rfl)
theorem dX7_comes_4 : decode cX7_comes 4 = .ok (.aload_n 0, 1) := dk_42 (dk_at dksX7_comes_0 4 rfl rfl)
theorem dX7_comes_5 : decode cX7_comes 5 = .ok (.getfield 20, 3) := dk_180 0 20 (dk_at dksX7_comes_0 5 rfl rfl)
theorem dX7_comes_8 : decode cX7_comes 8 = .ok (.iload_n 1, 1) := dk_27 (dk_at dksX7_comes_0 8 rfl rfl)
theorem dX7_comes_9 : decode cX7_comes 9 = .ok (.iaload, 1) := dk_46 (dk_at dksX7_comes_0 9 rfl rfl)
theorem dX7_comes_10 : decode cX7_comes 10 = .ok (.ifCond .ne 11, 3) := dk_154 0 11 (dk_at dksX7_comes_0 10 rfl rfl)
theorem dX7_comes_13 : decode cX7_comes 13 = .ok (.aload_n 0, 1) := dk_42 (dk_at dksX7_comes_0 13 rfl rfl)
theorem dX7_comes_14 : decode cX7_comes 14 = .ok (.iload_n 2, 1) := dk_28 (dk_at dksX7_comes_0 14 rfl rfl)
theorem dX7_comes_15 : decode cX7_comes 15 = .ok (.invokevirtual 290, 3) := dk_182 1 34 (dk_at dksX7_comes_0 15 rfl rfl)
theorem dX7_comes_18 : decode cX7_comes 18 = .ok (.goto 76, 3) := dk_167 0 76 (dk_at dksX7_comes_0 18 rfl rfl)
theorem dX7_comes_21 : decode cX7_comes 21 = .ok (.aload_n 0, 1) := dk_42 (dk_at dksX7_comes_0 21 rfl rfl)
theorem dX7_comes_22 : decode cX7_comes 22 = .ok (.getfield 20, 3) := dk_180 0 20 (dk_at dksX7_comes_1 0 rfl rfl)
theorem dX7_comes_25 : decode cX7_comes 25 = .ok (.iload_n 1, 1) := dk_27 (dk_at dksX7_comes_1 3 rfl rfl)
theorem dX7_comes_26 : decode cX7_comes 26 = .ok (.iaload, 1) := dk_46 (dk_at dksX7_comes_1 4 rfl rfl)
theorem dX7_comes_27 : decode cX7_comes 27 = .ok (.iconst 1, 1) := dk_4 (dk_at dksX7_comes_1 5 rfl rfl)
theorem dX7_comes_28 : decode cX7_comes 28 = .ok (.if_icmp .ne 24, 3) := dk_160 0 24 (dk_at dksX7_comes_1 6 rfl rfl)
theorem dX7_comes_31 : decode cX7_comes 31 = .ok (.aload_n 0, 1) := dk_42 (dk_at dksX7_comes_1 9 rfl rfl)
theorem dX7_comes_32 : decode cX7_comes 32 = .ok (.aload_n 0, 1) := dk_42 (dk_at dksX7_comes_1 10 rfl rfl)
theorem dX7_comes_33 : decode cX7_comes 33 = .ok (.getfield 23, 3) := dk_180 0 23 (dk_at dksX7_comes_1 11 rfl rfl)
theorem dX7_comes_36 : decode cX7_comes 36 = .ok (.iload_n 2, 1) := dk_28 (dk_at dksX7_comes_1 14 rfl rfl)
theorem dX7_comes_37 : decode cX7_comes 37 = .ok (.iaload, 1) := dk_46 (dk_at dksX7_comes_1 15 rfl rfl)
theorem dX7_comes_38 : decode cX7_comes 38 = .ok (.aload_n 0, 1) := dk_42 (dk_at dksX7_comes_1 16 rfl rfl)
theorem dX7_comes_39 : decode cX7_comes 39 = .ok (.getfield 23, 3) := dk_180 0 23 (dk_at dksX7_comes_1 17 rfl rfl)
theorem dX7_comes_42 : decode cX7_comes 42 = .ok (.iload_n 2, 1) := dk_28 (dk_at dksX7_comes_1 20 rfl rfl)
theorem dX7_comes_43 : decode cX7_comes 43 = .ok (.iconst 1, 1) := dk_4 (dk_at dksX7_comes_1 21 rfl rfl)
theorem dX7_comes_44 : decode cX7_comes 44 = .ok (.iadd, 1) := dk_96 (dk_at dksX7_comes_1 22 rfl rfl)
theorem dX7_comes_45 : decode cX7_comes 45 = .ok (.iaload, 1) := dk_46 (dk_at dksX7_comes_1 23 rfl rfl)
theorem dX7_comes_46 : decode cX7_comes 46 = .ok (.invokevirtual 293, 3) := dk_182 1 37 (dk_at dksX7_comes_2 0 rfl rfl)
theorem dX7_comes_49 : decode cX7_comes 49 = .ok (.goto 45, 3) := dk_167 0 45 (dk_at dksX7_comes_2 3 rfl rfl)
theorem dX7_comes_52 : decode cX7_comes 52 = .ok (.aload_n 0, 1) := dk_42 (dk_at dksX7_comes_2 6 rfl rfl)
theorem dX7_comes_53 : decode cX7_comes 53 = .ok (.getfield 44, 3) := dk_180 0 44 (dk_at dksX7_comes_2 7 rfl rfl)
theorem dX7_comes_56 : decode cX7_comes 56 = .ok (.aload_n 0, 1) := dk_42 (dk_at dksX7_comes_2 10 rfl rfl)
theorem dX7_comes_57 : decode cX7_comes 57 = .ok (.getfield 297, 3) := dk_180 1 41 (dk_at dksX7_comes_2 11 rfl rfl)
theorem dX7_comes_60 : decode cX7_comes 60 = .ok (.aload_n 0, 1) := dk_42 (dk_at dksX7_comes_2 14 rfl rfl)
theorem dX7_comes_61 : decode cX7_comes 61 = .ok (.getfield 23, 3) := dk_180 0 23 (dk_at dksX7_comes_2 15 rfl rfl)
theorem dX7_comes_64 : decode cX7_comes 64 = .ok (.iload_n 2, 1) := dk_28 (dk_at dksX7_comes_2 18 rfl rfl)
theorem dX7_comes_65 : decode cX7_comes 65 = .ok (.iaload, 1) := dk_46 (dk_at dksX7_comes_2 19 rfl rfl)
theorem dX7_comes_66 : decode cX7_comes 66 = .ok (.iastore, 1) := dk_79 (dk_at dksX7_comes_2 20 rfl rfl)
theorem dX7_comes_67 : decode cX7_comes 67 = .ok (.aload_n 0, 1) := dk_42 (dk_at dksX7_comes_2 21 rfl rfl)
theorem dX7_comes_68 : decode cX7_comes 68 = .ok (.getfield 47, 3) := dk_180 0 47 (dk_at dksX7_comes_3 0 rfl rfl)
theorem dX7_comes_71 : decode cX7_comes 71 = .ok (.aload_n 0, 1) := dk_42 (dk_at dksX7_comes_3 3 rfl rfl)
theorem dX7_comes_72 : decode cX7_comes 72 = .ok (.getfield 297, 3) := dk_180 1 41 (dk_at dksX7_comes_3 4 rfl rfl)
theorem dX7_comes_75 : decode cX7_comes 75 = .ok (.aload_n 0, 1) := dk_42 (dk_at dksX7_comes_3 7 rfl rfl)
theorem dX7_comes_76 : decode cX7_comes 76 = .ok (.getfield 23, 3) := dk_180 0 23 (dk_at dksX7_comes_3 8 rfl rfl)
theorem dX7_comes_79 : decode cX7_comes 79 = .ok (.iload_n 2, 1) := dk_28 (dk_at dksX7_comes_3 11 rfl rfl)
theorem dX7_comes_80 : decode cX7_comes 80 = .ok (.iconst 1, 1) := dk_4 (dk_at dksX7_comes_3 12 rfl rfl)
theorem dX7_comes_81 : decode cX7_comes 81 = .ok (.iadd, 1) := dk_96 (dk_at dksX7_comes_3 13 rfl rfl)
theorem dX7_comes_82 : decode cX7_comes 82 = .ok (.iaload, 1) := dk_46 (dk_at dksX7_comes_3 14 rfl rfl)
theorem dX7_comes_83 : decode cX7_comes 83 = .ok (.iastore, 1) := dk_79 (dk_at dksX7_comes_3 15 rfl rfl)
theorem dX7_comes_84 : decode cX7_comes 84 = .ok (.aload_n 0, 1) := dk_42 (dk_at dksX7_comes_3 16 rfl rfl)
theorem dX7_comes_85 : decode cX7_comes 85 = .ok (.dup, 1) := dk_89 (dk_at dksX7_comes_3 17 rfl rfl)
theorem dX7_comes_86 : decode cX7_comes 86 = .ok (.getfield 297, 3) := dk_180 1 41 (dk_at dksX7_comes_3 18 rfl rfl)
theorem dX7_comes_89 : decode cX7_comes 89 = .ok (.iconst 1, 1) := dk_4 (dk_at dksX7_comes_3 21 rfl rfl)
theorem dX7_comes_90 : decode cX7_comes 90 = .ok (.iadd, 1) := dk_96 (dk_at dksX7_comes_3 22 rfl rfl)
theorem dX7_comes_91 : decode cX7_comes 91 = .ok (.putfield 297, 3) := dk_181 1 41 (dk_at dksX7_comes_4 0 rfl rfl)
theorem dX7_comes_94 : decode cX7_comes 94 = .ok (.return_, 1) := dk_177 (dk_at dksX7_comes_4 3 rfl rfl)
abbrev cX7_comesTerm : ByteArray := prog_14_method_36_code
def yX7_comesTerm : MethodName := ⟨RX7, "comesTerm", "(I)V"⟩
def dkwX7_comesTerm_5 : List UInt8 := [177]
abbrev dktX7_comesTerm_5 : List UInt8 := dkwX7_comesTerm_5 ++ []
def dkwX7_comesTerm_4 : List UInt8 := [42, 180, 0, 56, 42, 180, 0, 250, 2, 79, 42, 89, 180, 0, 250, 4, 96, 181, 0, 250, 42, 182, 1, 28]
abbrev dktX7_comesTerm_4 : List UInt8 := dkwX7_comesTerm_4 ++ dktX7_comesTerm_5
def dkwX7_comesTerm_3 : List UInt8 := [42, 180, 0, 50, 42, 180, 0, 250, 42, 180, 0, 250, 79, 42, 180, 0, 53, 42, 180, 0, 250, 16, 254, 79]
abbrev dktX7_comesTerm_3 : List UInt8 := dkwX7_comesTerm_3 ++ dktX7_comesTerm_4
def dkwX7_comesTerm_2 : List UInt8 := [162, 0, 16, 42, 180, 0, 23, 27, 4, 96, 28, 96, 46, 167, 0, 4, 3, 79, 132, 2, 1, 167, 255, 206]
abbrev dktX7_comesTerm_2 : List UInt8 := dkwX7_comesTerm_2 ++ dktX7_comesTerm_3
def dkwX7_comesTerm_1 : List UInt8 := [180, 0, 35, 6, 42, 180, 0, 250, 104, 28, 96, 28, 42, 180, 0, 17, 42, 180, 0, 23, 27, 46, 46]
abbrev dktX7_comesTerm_1 : List UInt8 := dkwX7_comesTerm_1 ++ dktX7_comesTerm_2
def dkwX7_comesTerm_0 : List UInt8 := [42, 180, 0, 32, 42, 180, 0, 250, 42, 180, 0, 23, 27, 46, 79, 3, 61, 28, 6, 162, 0, 51, 42]
abbrev dktX7_comesTerm_0 : List UInt8 := dkwX7_comesTerm_0 ++ dktX7_comesTerm_1
theorem dksX7_comesTerm_0 : cX7_comesTerm.data.toList.drop 0 = dktX7_comesTerm_0 := by decide +kernel
theorem dksX7_comesTerm_1 : cX7_comesTerm.data.toList.drop 23 = dktX7_comesTerm_1 := dk_seg dksX7_comesTerm_0 23 rfl rfl
theorem dksX7_comesTerm_2 : cX7_comesTerm.data.toList.drop 46 = dktX7_comesTerm_2 := dk_seg dksX7_comesTerm_1 23 rfl rfl
theorem dksX7_comesTerm_3 : cX7_comesTerm.data.toList.drop 70 = dktX7_comesTerm_3 := dk_seg dksX7_comesTerm_2 24 rfl rfl
theorem dksX7_comesTerm_4 : cX7_comesTerm.data.toList.drop 94 = dktX7_comesTerm_4 := dk_seg dksX7_comesTerm_3 24 rfl rfl
theorem dksX7_comesTerm_5 : cX7_comesTerm.data.toList.drop 118 = dktX7_comesTerm_5 := dk_seg dksX7_comesTerm_4 24 rfl rfl
theorem dX7_comesTerm_0 : decode cX7_comesTerm 0 = .ok (.aload_n 0, 1) := dk_42 (dk_at dksX7_comesTerm_0 0 rfl rfl)
theorem dX7_comesTerm_1 : decode cX7_comesTerm 1 = .ok (.getfield 32, 3) := dk_180 0 32 (dk_at dksX7_comesTerm_0 1 rfl rfl)
theorem dX7_comesTerm_4 : decode cX7_comesTerm 4 = .ok (.aload_n 0, 1) := dk_42 (dk_at dksX7_comesTerm_0 4 rfl rfl)
theorem dX7_comesTerm_5 : decode cX7_comesTerm 5 = .ok (.getfield 250, 3) := dk_180 0 250 (dk_at dksX7_comesTerm_0 5 rfl rfl)
theorem dX7_comesTerm_8 : decode cX7_comesTerm 8 = .ok (.aload_n 0, 1) := dk_42 (dk_at dksX7_comesTerm_0 8 rfl rfl)
theorem dX7_comesTerm_9 : decode cX7_comesTerm 9 = .ok (.getfield 23, 3) := dk_180 0 23 (dk_at dksX7_comesTerm_0 9 rfl rfl)
theorem dX7_comesTerm_12 : decode cX7_comesTerm 12 = .ok (.iload_n 1, 1) := dk_27 (dk_at dksX7_comesTerm_0 12 rfl rfl)
theorem dX7_comesTerm_13 : decode cX7_comesTerm 13 = .ok (.iaload, 1) := dk_46 (dk_at dksX7_comesTerm_0 13 rfl rfl)
theorem dX7_comesTerm_14 : decode cX7_comesTerm 14 = .ok (.iastore, 1) := dk_79 (dk_at dksX7_comesTerm_0 14 rfl rfl)
theorem dX7_comesTerm_15 : decode cX7_comesTerm 15 = .ok (.iconst 0, 1) := dk_3 (dk_at dksX7_comesTerm_0 15 rfl rfl)
theorem dX7_comesTerm_16 : decode cX7_comesTerm 16 = .ok (.istore_n 2, 1) := dk_61 (dk_at dksX7_comesTerm_0 16 rfl rfl)
theorem dX7_comesTerm_17 : decode cX7_comesTerm 17 = .ok (.iload_n 2, 1) := dk_28 (dk_at dksX7_comesTerm_0 17 rfl rfl)
theorem dX7_comesTerm_18 : decode cX7_comesTerm 18 = .ok (.iconst 3, 1) := dk_6 (dk_at dksX7_comesTerm_0 18 rfl rfl)
theorem dX7_comesTerm_19 : decode cX7_comesTerm 19 = .ok (.if_icmp .ge 51, 3) := dk_162 0 51 (dk_at dksX7_comesTerm_0 19 rfl rfl)
theorem dX7_comesTerm_22 : decode cX7_comesTerm 22 = .ok (.aload_n 0, 1) := dk_42 (dk_at dksX7_comesTerm_0 22 rfl rfl)
theorem dX7_comesTerm_23 : decode cX7_comesTerm 23 = .ok (.getfield 35, 3) := dk_180 0 35 (dk_at dksX7_comesTerm_1 0 rfl rfl)
theorem dX7_comesTerm_26 : decode cX7_comesTerm 26 = .ok (.iconst 3, 1) := dk_6 (dk_at dksX7_comesTerm_1 3 rfl rfl)
theorem dX7_comesTerm_27 : decode cX7_comesTerm 27 = .ok (.aload_n 0, 1) := dk_42 (dk_at dksX7_comesTerm_1 4 rfl rfl)
theorem dX7_comesTerm_28 : decode cX7_comesTerm 28 = .ok (.getfield 250, 3) := dk_180 0 250 (dk_at dksX7_comesTerm_1 5 rfl rfl)
theorem dX7_comesTerm_31 : decode cX7_comesTerm 31 = .ok (.imul, 1) := dk_104 (dk_at dksX7_comesTerm_1 8 rfl rfl)
theorem dX7_comesTerm_32 : decode cX7_comesTerm 32 = .ok (.iload_n 2, 1) := dk_28 (dk_at dksX7_comesTerm_1 9 rfl rfl)
theorem dX7_comesTerm_33 : decode cX7_comesTerm 33 = .ok (.iadd, 1) := dk_96 (dk_at dksX7_comesTerm_1 10 rfl rfl)
theorem dX7_comesTerm_34 : decode cX7_comesTerm 34 = .ok (.iload_n 2, 1) := dk_28 (dk_at dksX7_comesTerm_1 11 rfl rfl)
theorem dX7_comesTerm_35 : decode cX7_comesTerm 35 = .ok (.aload_n 0, 1) := dk_42 (dk_at dksX7_comesTerm_1 12 rfl rfl)
theorem dX7_comesTerm_36 : decode cX7_comesTerm 36 = .ok (.getfield 17, 3) := dk_180 0 17 (dk_at dksX7_comesTerm_1 13 rfl rfl)
theorem dX7_comesTerm_39 : decode cX7_comesTerm 39 = .ok (.aload_n 0, 1) := dk_42 (dk_at dksX7_comesTerm_1 16 rfl rfl)
theorem dX7_comesTerm_40 : decode cX7_comesTerm 40 = .ok (.getfield 23, 3) := dk_180 0 23 (dk_at dksX7_comesTerm_1 17 rfl rfl)
theorem dX7_comesTerm_43 : decode cX7_comesTerm 43 = .ok (.iload_n 1, 1) := dk_27 (dk_at dksX7_comesTerm_1 20 rfl rfl)
theorem dX7_comesTerm_44 : decode cX7_comesTerm 44 = .ok (.iaload, 1) := dk_46 (dk_at dksX7_comesTerm_1 21 rfl rfl)
theorem dX7_comesTerm_45 : decode cX7_comesTerm 45 = .ok (.iaload, 1) := dk_46 (dk_at dksX7_comesTerm_1 22 rfl rfl)
theorem dX7_comesTerm_46 : decode cX7_comesTerm 46 = .ok (.if_icmp .ge 16, 3) := dk_162 0 16 (dk_at dksX7_comesTerm_2 0 rfl rfl)
theorem dX7_comesTerm_49 : decode cX7_comesTerm 49 = .ok (.aload_n 0, 1) := dk_42 (dk_at dksX7_comesTerm_2 3 rfl rfl)
theorem dX7_comesTerm_50 : decode cX7_comesTerm 50 = .ok (.getfield 23, 3) := dk_180 0 23 (dk_at dksX7_comesTerm_2 4 rfl rfl)
theorem dX7_comesTerm_53 : decode cX7_comesTerm 53 = .ok (.iload_n 1, 1) := dk_27 (dk_at dksX7_comesTerm_2 7 rfl rfl)
theorem dX7_comesTerm_54 : decode cX7_comesTerm 54 = .ok (.iconst 1, 1) := dk_4 (dk_at dksX7_comesTerm_2 8 rfl rfl)
theorem dX7_comesTerm_55 : decode cX7_comesTerm 55 = .ok (.iadd, 1) := dk_96 (dk_at dksX7_comesTerm_2 9 rfl rfl)
theorem dX7_comesTerm_56 : decode cX7_comesTerm 56 = .ok (.iload_n 2, 1) := dk_28 (dk_at dksX7_comesTerm_2 10 rfl rfl)
theorem dX7_comesTerm_57 : decode cX7_comesTerm 57 = .ok (.iadd, 1) := dk_96 (dk_at dksX7_comesTerm_2 11 rfl rfl)
theorem dX7_comesTerm_58 : decode cX7_comesTerm 58 = .ok (.iaload, 1) := dk_46 (dk_at dksX7_comesTerm_2 12 rfl rfl)
theorem dX7_comesTerm_59 : decode cX7_comesTerm 59 = .ok (.goto 4, 3) := dk_167 0 4 (dk_at dksX7_comesTerm_2 13 rfl rfl)
theorem dX7_comesTerm_62 : decode cX7_comesTerm 62 = .ok (.iconst 0, 1) := dk_3 (dk_at dksX7_comesTerm_2 16 rfl rfl)
theorem dX7_comesTerm_63 : decode cX7_comesTerm 63 = .ok (.iastore, 1) := dk_79 (dk_at dksX7_comesTerm_2 17 rfl rfl)
theorem dX7_comesTerm_64 : decode cX7_comesTerm 64 = .ok (.iinc 2 1, 3) := dk_132 2 1 (dk_at dksX7_comesTerm_2 18 rfl rfl)
theorem dX7_comesTerm_67 : decode cX7_comesTerm 67 = .ok (.goto (-50), 3) := dk_167 255 206 (dk_at dksX7_comesTerm_2 21 rfl rfl)
theorem dX7_comesTerm_70 : decode cX7_comesTerm 70 = .ok (.aload_n 0, 1) := dk_42 (dk_at dksX7_comesTerm_3 0 rfl rfl)
theorem dX7_comesTerm_71 : decode cX7_comesTerm 71 = .ok (.getfield 50, 3) := dk_180 0 50 (dk_at dksX7_comesTerm_3 1 rfl rfl)
theorem dX7_comesTerm_74 : decode cX7_comesTerm 74 = .ok (.aload_n 0, 1) := dk_42 (dk_at dksX7_comesTerm_3 4 rfl rfl)
theorem dX7_comesTerm_75 : decode cX7_comesTerm 75 = .ok (.getfield 250, 3) := dk_180 0 250 (dk_at dksX7_comesTerm_3 5 rfl rfl)
theorem dX7_comesTerm_78 : decode cX7_comesTerm 78 = .ok (.aload_n 0, 1) := dk_42 (dk_at dksX7_comesTerm_3 8 rfl rfl)
theorem dX7_comesTerm_79 : decode cX7_comesTerm 79 = .ok (.getfield 250, 3) := dk_180 0 250 (dk_at dksX7_comesTerm_3 9 rfl rfl)
theorem dX7_comesTerm_82 : decode cX7_comesTerm 82 = .ok (.iastore, 1) := dk_79 (dk_at dksX7_comesTerm_3 12 rfl rfl)
theorem dX7_comesTerm_83 : decode cX7_comesTerm 83 = .ok (.aload_n 0, 1) := dk_42 (dk_at dksX7_comesTerm_3 13 rfl rfl)
theorem dX7_comesTerm_84 : decode cX7_comesTerm 84 = .ok (.getfield 53, 3) := dk_180 0 53 (dk_at dksX7_comesTerm_3 14 rfl rfl)
theorem dX7_comesTerm_87 : decode cX7_comesTerm 87 = .ok (.aload_n 0, 1) := dk_42 (dk_at dksX7_comesTerm_3 17 rfl rfl)
theorem dX7_comesTerm_88 : decode cX7_comesTerm 88 = .ok (.getfield 250, 3) := dk_180 0 250 (dk_at dksX7_comesTerm_3 18 rfl rfl)
theorem dX7_comesTerm_91 : decode cX7_comesTerm 91 = .ok (.bipush (-2), 2) := dk_16 254 (dk_at dksX7_comesTerm_3 21 rfl rfl)
theorem dX7_comesTerm_93 : decode cX7_comesTerm 93 = .ok (.iastore, 1) := dk_79 (dk_at dksX7_comesTerm_3 23 rfl rfl)
theorem dX7_comesTerm_94 : decode cX7_comesTerm 94 = .ok (.aload_n 0, 1) := dk_42 (dk_at dksX7_comesTerm_4 0 rfl rfl)
theorem dX7_comesTerm_95 : decode cX7_comesTerm 95 = .ok (.getfield 56, 3) := dk_180 0 56 (dk_at dksX7_comesTerm_4 1 rfl rfl)
theorem dX7_comesTerm_98 : decode cX7_comesTerm 98 = .ok (.aload_n 0, 1) := dk_42 (dk_at dksX7_comesTerm_4 4 rfl rfl)
theorem dX7_comesTerm_99 : decode cX7_comesTerm 99 = .ok (.getfield 250, 3) := dk_180 0 250 (dk_at dksX7_comesTerm_4 5 rfl rfl)
theorem dX7_comesTerm_102 : decode cX7_comesTerm 102 = .ok (.iconst (-1), 1) := dk_2 (dk_at dksX7_comesTerm_4 8 rfl rfl)
theorem dX7_comesTerm_103 : decode cX7_comesTerm 103 = .ok (.iastore, 1) := dk_79 (dk_at dksX7_comesTerm_4 9 rfl rfl)
theorem dX7_comesTerm_104 : decode cX7_comesTerm 104 = .ok (.aload_n 0, 1) := dk_42 (dk_at dksX7_comesTerm_4 10 rfl rfl)
theorem dX7_comesTerm_105 : decode cX7_comesTerm 105 = .ok (.dup, 1) := dk_89 (dk_at dksX7_comesTerm_4 11 rfl rfl)
theorem dX7_comesTerm_106 : decode cX7_comesTerm 106 = .ok (.getfield 250, 3) := dk_180 0 250 (dk_at dksX7_comesTerm_4 12 rfl rfl)
theorem dX7_comesTerm_109 : decode cX7_comesTerm 109 = .ok (.iconst 1, 1) := dk_4 (dk_at dksX7_comesTerm_4 15 rfl rfl)
theorem dX7_comesTerm_110 : decode cX7_comesTerm 110 = .ok (.iadd, 1) := dk_96 (dk_at dksX7_comesTerm_4 16 rfl rfl)
theorem dX7_comesTerm_111 : decode cX7_comesTerm 111 = .ok (.putfield 250, 3) := dk_181 0 250 (dk_at dksX7_comesTerm_4 17 rfl rfl)
theorem dX7_comesTerm_114 : decode cX7_comesTerm 114 = .ok (.aload_n 0, 1) := dk_42 (dk_at dksX7_comesTerm_4 20 rfl rfl)
theorem dX7_comesTerm_115 : decode cX7_comesTerm 115 = .ok (.invokevirtual 284, 3) := dk_182 1 28 (dk_at dksX7_comesTerm_4 21 rfl rfl)
theorem dX7_comesTerm_118 : decode cX7_comesTerm 118 = .ok (.return_, 1) := dk_177 (dk_at dksX7_comesTerm_5 0 rfl rfl)
abbrev cX7_closes : ByteArray := prog_14_method_35_code
def yX7_closes : MethodName := ⟨RX7, "closes", "()V"⟩
def dkwX7_closes_0 : List UInt8 := [42, 182, 1, 25, 153, 0, 11, 42, 3, 181, 0, 103, 167, 255, 244, 177]
abbrev dktX7_closes_0 : List UInt8 := dkwX7_closes_0 ++ []
theorem dksX7_closes_0 : cX7_closes.data.toList.drop 0 = dktX7_closes_0 := by decide +kernel
theorem dX7_closes_0 : decode cX7_closes 0 = .ok (.aload_n 0, 1) := dk_42 (dk_at dksX7_closes_0 0 rfl rfl)
theorem dX7_closes_1 : decode cX7_closes 1 = .ok (.invokevirtual 281, 3) := dk_182 1 25 (dk_at dksX7_closes_0 1 rfl rfl)
theorem dX7_closes_4 : decode cX7_closes 4 = .ok (.ifCond .eq 11, 3) := dk_153 0 11 (dk_at dksX7_closes_0 4 rfl rfl)
theorem dX7_closes_7 : decode cX7_closes 7 = .ok (.aload_n 0, 1) := dk_42 (dk_at dksX7_closes_0 7 rfl rfl)
theorem dX7_closes_8 : decode cX7_closes 8 = .ok (.iconst 0, 1) := dk_3 (dk_at dksX7_closes_0 8 rfl rfl)
theorem dX7_closes_9 : decode cX7_closes 9 = .ok (.putfield 103, 3) := dk_181 0 103 (dk_at dksX7_closes_0 9 rfl rfl)
theorem dX7_closes_12 : decode cX7_closes 12 = .ok (.goto (-12), 3) := dk_167 255 244 (dk_at dksX7_closes_0 12 rfl rfl)
theorem dX7_closes_15 : decode cX7_closes 15 = .ok (.return_, 1) := dk_177 (dk_at dksX7_closes_0 15 rfl rfl)
abbrev cX7_joinsNext : ByteArray := prog_14_method_34_code
def yX7_joinsNext : MethodName := ⟨RX7, "joinsNext", "()Z"⟩
def dkwX7_joinsNext_3 : List UInt8 := [167, 255, 189, 3, 172]
abbrev dktX7_joinsNext_3 : List UInt8 := dkwX7_joinsNext_3 ++ []
def dkwX7_joinsNext_2 : List UInt8 := [153, 0, 13, 42, 27, 28, 16, 254, 182, 1, 21, 4, 172, 132, 2, 1, 167, 255, 207, 132, 1, 1]
abbrev dktX7_joinsNext_2 : List UInt8 := dkwX7_joinsNext_2 ++ dktX7_joinsNext_3
def dkwX7_joinsNext_1 : List UInt8 := [180, 0, 50, 27, 46, 42, 180, 0, 50, 28, 46, 159, 0, 26, 42, 42, 180, 0, 50, 27, 28, 182, 1, 17]
abbrev dktX7_joinsNext_1 : List UInt8 := dkwX7_joinsNext_1 ++ dktX7_joinsNext_2
def dkwX7_joinsNext_0 : List UInt8 := [3, 60, 27, 42, 180, 0, 250, 162, 0, 65, 27, 4, 96, 61, 28, 42, 180, 0, 250, 162, 0, 47, 42]
abbrev dktX7_joinsNext_0 : List UInt8 := dkwX7_joinsNext_0 ++ dktX7_joinsNext_1
theorem dksX7_joinsNext_0 : cX7_joinsNext.data.toList.drop 0 = dktX7_joinsNext_0 := by decide +kernel
theorem dksX7_joinsNext_1 : cX7_joinsNext.data.toList.drop 23 = dktX7_joinsNext_1 := dk_seg dksX7_joinsNext_0 23 rfl rfl
theorem dksX7_joinsNext_2 : cX7_joinsNext.data.toList.drop 47 = dktX7_joinsNext_2 := dk_seg dksX7_joinsNext_1 24 rfl rfl
theorem dksX7_joinsNext_3 : cX7_joinsNext.data.toList.drop 69 = dktX7_joinsNext_3 := dk_seg dksX7_joinsNext_2 22 rfl rfl
theorem dX7_joinsNext_0 : decode cX7_joinsNext 0 = .ok (.iconst 0, 1) := dk_3 (dk_at dksX7_joinsNext_0 0 rfl rfl)
theorem dX7_joinsNext_1 : decode cX7_joinsNext 1 = .ok (.istore_n 1, 1) := dk_60 (dk_at dksX7_joinsNext_0 1 rfl rfl)
theorem dX7_joinsNext_2 : decode cX7_joinsNext 2 = .ok (.iload_n 1, 1) := dk_27 (dk_at dksX7_joinsNext_0 2 rfl rfl)
theorem dX7_joinsNext_3 : decode cX7_joinsNext 3 = .ok (.aload_n 0, 1) := dk_42 (dk_at dksX7_joinsNext_0 3 rfl rfl)
theorem dX7_joinsNext_4 : decode cX7_joinsNext 4 = .ok (.getfield 250, 3) := dk_180 0 250 (dk_at dksX7_joinsNext_0 4 rfl rfl)
theorem dX7_joinsNext_7 : decode cX7_joinsNext 7 = .ok (.if_icmp .ge 65, 3) := dk_162 0 65 (dk_at dksX7_joinsNext_0 7 rfl rfl)
theorem dX7_joinsNext_10 : decode cX7_joinsNext 10 = .ok (.iload_n 1, 1) := dk_27 (dk_at dksX7_joinsNext_0 10 rfl rfl)
theorem dX7_joinsNext_11 : decode cX7_joinsNext 11 = .ok (.iconst 1, 1) := dk_4 (dk_at dksX7_joinsNext_0 11 rfl rfl)
theorem dX7_joinsNext_12 : decode cX7_joinsNext 12 = .ok (.iadd, 1) := dk_96 (dk_at dksX7_joinsNext_0 12 rfl rfl)
theorem dX7_joinsNext_13 : decode cX7_joinsNext 13 = .ok (.istore_n 2, 1) := dk_61 (dk_at dksX7_joinsNext_0 13 rfl rfl)
theorem dX7_joinsNext_14 : decode cX7_joinsNext 14 = .ok (.iload_n 2, 1) := dk_28 (dk_at dksX7_joinsNext_0 14 rfl rfl)
theorem dX7_joinsNext_15 : decode cX7_joinsNext 15 = .ok (.aload_n 0, 1) := dk_42 (dk_at dksX7_joinsNext_0 15 rfl rfl)
theorem dX7_joinsNext_16 : decode cX7_joinsNext 16 = .ok (.getfield 250, 3) := dk_180 0 250 (dk_at dksX7_joinsNext_0 16 rfl rfl)
theorem dX7_joinsNext_19 : decode cX7_joinsNext 19 = .ok (.if_icmp .ge 47, 3) := dk_162 0 47 (dk_at dksX7_joinsNext_0 19 rfl rfl)
theorem dX7_joinsNext_22 : decode cX7_joinsNext 22 = .ok (.aload_n 0, 1) := dk_42 (dk_at dksX7_joinsNext_0 22 rfl rfl)
theorem dX7_joinsNext_23 : decode cX7_joinsNext 23 = .ok (.getfield 50, 3) := dk_180 0 50 (dk_at dksX7_joinsNext_1 0 rfl rfl)
theorem dX7_joinsNext_26 : decode cX7_joinsNext 26 = .ok (.iload_n 1, 1) := dk_27 (dk_at dksX7_joinsNext_1 3 rfl rfl)
theorem dX7_joinsNext_27 : decode cX7_joinsNext 27 = .ok (.iaload, 1) := dk_46 (dk_at dksX7_joinsNext_1 4 rfl rfl)
theorem dX7_joinsNext_28 : decode cX7_joinsNext 28 = .ok (.aload_n 0, 1) := dk_42 (dk_at dksX7_joinsNext_1 5 rfl rfl)
theorem dX7_joinsNext_29 : decode cX7_joinsNext 29 = .ok (.getfield 50, 3) := dk_180 0 50 (dk_at dksX7_joinsNext_1 6 rfl rfl)
theorem dX7_joinsNext_32 : decode cX7_joinsNext 32 = .ok (.iload_n 2, 1) := dk_28 (dk_at dksX7_joinsNext_1 9 rfl rfl)
theorem dX7_joinsNext_33 : decode cX7_joinsNext 33 = .ok (.iaload, 1) := dk_46 (dk_at dksX7_joinsNext_1 10 rfl rfl)
theorem dX7_joinsNext_34 : decode cX7_joinsNext 34 = .ok (.if_icmp .eq 26, 3) := dk_159 0 26 (dk_at dksX7_joinsNext_1 11 rfl rfl)
theorem dX7_joinsNext_37 : decode cX7_joinsNext 37 = .ok (.aload_n 0, 1) := dk_42 (dk_at dksX7_joinsNext_1 14 rfl rfl)
theorem dX7_joinsNext_38 : decode cX7_joinsNext 38 = .ok (.aload_n 0, 1) := dk_42 (dk_at dksX7_joinsNext_1 15 rfl rfl)
theorem dX7_joinsNext_39 : decode cX7_joinsNext 39 = .ok (.getfield 50, 3) := dk_180 0 50 (dk_at dksX7_joinsNext_1 16 rfl rfl)
theorem dX7_joinsNext_42 : decode cX7_joinsNext 42 = .ok (.iload_n 1, 1) := dk_27 (dk_at dksX7_joinsNext_1 19 rfl rfl)
theorem dX7_joinsNext_43 : decode cX7_joinsNext 43 = .ok (.iload_n 2, 1) := dk_28 (dk_at dksX7_joinsNext_1 20 rfl rfl)
theorem dX7_joinsNext_44 : decode cX7_joinsNext 44 = .ok (.invokevirtual 273, 3) := dk_182 1 17 (dk_at dksX7_joinsNext_1 21 rfl rfl)
theorem dX7_joinsNext_47 : decode cX7_joinsNext 47 = .ok (.ifCond .eq 13, 3) := dk_153 0 13 (dk_at dksX7_joinsNext_2 0 rfl rfl)
theorem dX7_joinsNext_50 : decode cX7_joinsNext 50 = .ok (.aload_n 0, 1) := dk_42 (dk_at dksX7_joinsNext_2 3 rfl rfl)
theorem dX7_joinsNext_51 : decode cX7_joinsNext 51 = .ok (.iload_n 1, 1) := dk_27 (dk_at dksX7_joinsNext_2 4 rfl rfl)
theorem dX7_joinsNext_52 : decode cX7_joinsNext 52 = .ok (.iload_n 2, 1) := dk_28 (dk_at dksX7_joinsNext_2 5 rfl rfl)
theorem dX7_joinsNext_53 : decode cX7_joinsNext 53 = .ok (.bipush (-2), 2) := dk_16 254 (dk_at dksX7_joinsNext_2 6 rfl rfl)
theorem dX7_joinsNext_55 : decode cX7_joinsNext 55 = .ok (.invokevirtual 277, 3) := dk_182 1 21 (dk_at dksX7_joinsNext_2 8 rfl rfl)
theorem dX7_joinsNext_58 : decode cX7_joinsNext 58 = .ok (.iconst 1, 1) := dk_4 (dk_at dksX7_joinsNext_2 11 rfl rfl)
theorem dX7_joinsNext_59 : decode cX7_joinsNext 59 = .ok (.ireturn, 1) := dk_172 (dk_at dksX7_joinsNext_2 12 rfl rfl)
theorem dX7_joinsNext_60 : decode cX7_joinsNext 60 = .ok (.iinc 2 1, 3) := dk_132 2 1 (dk_at dksX7_joinsNext_2 13 rfl rfl)
theorem dX7_joinsNext_63 : decode cX7_joinsNext 63 = .ok (.goto (-49), 3) := dk_167 255 207 (dk_at dksX7_joinsNext_2 16 rfl rfl)
theorem dX7_joinsNext_66 : decode cX7_joinsNext 66 = .ok (.iinc 1 1, 3) := dk_132 1 1 (dk_at dksX7_joinsNext_2 19 rfl rfl)
theorem dX7_joinsNext_69 : decode cX7_joinsNext 69 = .ok (.goto (-67), 3) := dk_167 255 189 (dk_at dksX7_joinsNext_3 0 rfl rfl)
theorem dX7_joinsNext_72 : decode cX7_joinsNext 72 = .ok (.iconst 0, 1) := dk_3 (dk_at dksX7_joinsNext_3 3 rfl rfl)
theorem dX7_joinsNext_73 : decode cX7_joinsNext 73 = .ok (.ireturn, 1) := dk_172 (dk_at dksX7_joinsNext_3 4 rfl rfl)
abbrev cX7_isAlike : ByteArray := prog_14_method_29_code
def yX7_isAlike : MethodName := ⟨RX7, "isAlike", "([III)Z"⟩
def dkwX7_isAlike_2 : List UInt8 := [6, 29, 104, 21, 4, 96, 46, 46, 159, 0, 5, 3, 172, 132, 4, 1, 167, 255, 212, 4, 172]
abbrev dktX7_isAlike_2 : List UInt8 := dkwX7_isAlike_2 ++ []
def dkwX7_isAlike_1 : List UInt8 := [182, 0, 253, 162, 0, 40, 43, 42, 180, 0, 35, 6, 28, 104, 21, 4, 96, 46, 46, 43, 42, 180, 0, 35]
abbrev dktX7_isAlike_1 : List UInt8 := dkwX7_isAlike_1 ++ dktX7_isAlike_2
def dkwX7_isAlike_0 : List UInt8 := [42, 180, 0, 32, 28, 46, 42, 180, 0, 32, 29, 46, 159, 0, 5, 3, 172, 3, 54, 4, 21, 4, 42, 28]
abbrev dktX7_isAlike_0 : List UInt8 := dkwX7_isAlike_0 ++ dktX7_isAlike_1
theorem dksX7_isAlike_0 : cX7_isAlike.data.toList.drop 0 = dktX7_isAlike_0 := by decide +kernel
theorem dksX7_isAlike_1 : cX7_isAlike.data.toList.drop 24 = dktX7_isAlike_1 := dk_seg dksX7_isAlike_0 24 rfl rfl
theorem dksX7_isAlike_2 : cX7_isAlike.data.toList.drop 48 = dktX7_isAlike_2 := dk_seg dksX7_isAlike_1 24 rfl rfl
theorem dX7_isAlike_0 : decode cX7_isAlike 0 = .ok (.aload_n 0, 1) := dk_42 (dk_at dksX7_isAlike_0 0 rfl rfl)
theorem dX7_isAlike_1 : decode cX7_isAlike 1 = .ok (.getfield 32, 3) := dk_180 0 32 (dk_at dksX7_isAlike_0 1 rfl rfl)
theorem dX7_isAlike_4 : decode cX7_isAlike 4 = .ok (.iload_n 2, 1) := dk_28 (dk_at dksX7_isAlike_0 4 rfl rfl)
theorem dX7_isAlike_5 : decode cX7_isAlike 5 = .ok (.iaload, 1) := dk_46 (dk_at dksX7_isAlike_0 5 rfl rfl)
theorem dX7_isAlike_6 : decode cX7_isAlike 6 = .ok (.aload_n 0, 1) := dk_42 (dk_at dksX7_isAlike_0 6 rfl rfl)
theorem dX7_isAlike_7 : decode cX7_isAlike 7 = .ok (.getfield 32, 3) := dk_180 0 32 (dk_at dksX7_isAlike_0 7 rfl rfl)
theorem dX7_isAlike_10 : decode cX7_isAlike 10 = .ok (.iload_n 3, 1) := dk_29 (dk_at dksX7_isAlike_0 10 rfl rfl)
theorem dX7_isAlike_11 : decode cX7_isAlike 11 = .ok (.iaload, 1) := dk_46 (dk_at dksX7_isAlike_0 11 rfl rfl)
theorem dX7_isAlike_12 : decode cX7_isAlike 12 = .ok (.if_icmp .eq 5, 3) := dk_159 0 5 (dk_at dksX7_isAlike_0 12 rfl rfl)
theorem dX7_isAlike_15 : decode cX7_isAlike 15 = .ok (.iconst 0, 1) := dk_3 (dk_at dksX7_isAlike_0 15 rfl rfl)
theorem dX7_isAlike_16 : decode cX7_isAlike 16 = .ok (.ireturn, 1) := dk_172 (dk_at dksX7_isAlike_0 16 rfl rfl)
theorem dX7_isAlike_17 : decode cX7_isAlike 17 = .ok (.iconst 0, 1) := dk_3 (dk_at dksX7_isAlike_0 17 rfl rfl)
theorem dX7_isAlike_18 : decode cX7_isAlike 18 = .ok (.istore 4, 2) := dk_54 4 (dk_at dksX7_isAlike_0 18 rfl rfl)
theorem dX7_isAlike_20 : decode cX7_isAlike 20 = .ok (.iload 4, 2) := dk_21 4 (dk_at dksX7_isAlike_0 20 rfl rfl)
theorem dX7_isAlike_22 : decode cX7_isAlike 22 = .ok (.aload_n 0, 1) := dk_42 (dk_at dksX7_isAlike_0 22 rfl rfl)
theorem dX7_isAlike_23 : decode cX7_isAlike 23 = .ok (.iload_n 2, 1) := dk_28 (dk_at dksX7_isAlike_0 23 rfl rfl)
theorem dX7_isAlike_24 : decode cX7_isAlike 24 = .ok (.invokevirtual 253, 3) := dk_182 0 253 (dk_at dksX7_isAlike_1 0 rfl rfl)
theorem dX7_isAlike_27 : decode cX7_isAlike 27 = .ok (.if_icmp .ge 40, 3) := dk_162 0 40 (dk_at dksX7_isAlike_1 3 rfl rfl)
theorem dX7_isAlike_30 : decode cX7_isAlike 30 = .ok (.aload_n 1, 1) := dk_43 (dk_at dksX7_isAlike_1 6 rfl rfl)
theorem dX7_isAlike_31 : decode cX7_isAlike 31 = .ok (.aload_n 0, 1) := dk_42 (dk_at dksX7_isAlike_1 7 rfl rfl)
theorem dX7_isAlike_32 : decode cX7_isAlike 32 = .ok (.getfield 35, 3) := dk_180 0 35 (dk_at dksX7_isAlike_1 8 rfl rfl)
theorem dX7_isAlike_35 : decode cX7_isAlike 35 = .ok (.iconst 3, 1) := dk_6 (dk_at dksX7_isAlike_1 11 rfl rfl)
theorem dX7_isAlike_36 : decode cX7_isAlike 36 = .ok (.iload_n 2, 1) := dk_28 (dk_at dksX7_isAlike_1 12 rfl rfl)
theorem dX7_isAlike_37 : decode cX7_isAlike 37 = .ok (.imul, 1) := dk_104 (dk_at dksX7_isAlike_1 13 rfl rfl)
theorem dX7_isAlike_38 : decode cX7_isAlike 38 = .ok (.iload 4, 2) := dk_21 4 (dk_at dksX7_isAlike_1 14 rfl rfl)
theorem dX7_isAlike_40 : decode cX7_isAlike 40 = .ok (.iadd, 1) := dk_96 (dk_at dksX7_isAlike_1 16 rfl rfl)
theorem dX7_isAlike_41 : decode cX7_isAlike 41 = .ok (.iaload, 1) := dk_46 (dk_at dksX7_isAlike_1 17 rfl rfl)
theorem dX7_isAlike_42 : decode cX7_isAlike 42 = .ok (.iaload, 1) := dk_46 (dk_at dksX7_isAlike_1 18 rfl rfl)
theorem dX7_isAlike_43 : decode cX7_isAlike 43 = .ok (.aload_n 1, 1) := dk_43 (dk_at dksX7_isAlike_1 19 rfl rfl)
theorem dX7_isAlike_44 : decode cX7_isAlike 44 = .ok (.aload_n 0, 1) := dk_42 (dk_at dksX7_isAlike_1 20 rfl rfl)
theorem dX7_isAlike_45 : decode cX7_isAlike 45 = .ok (.getfield 35, 3) := dk_180 0 35 (dk_at dksX7_isAlike_1 21 rfl rfl)
theorem dX7_isAlike_48 : decode cX7_isAlike 48 = .ok (.iconst 3, 1) := dk_6 (dk_at dksX7_isAlike_2 0 rfl rfl)
theorem dX7_isAlike_49 : decode cX7_isAlike 49 = .ok (.iload_n 3, 1) := dk_29 (dk_at dksX7_isAlike_2 1 rfl rfl)
theorem dX7_isAlike_50 : decode cX7_isAlike 50 = .ok (.imul, 1) := dk_104 (dk_at dksX7_isAlike_2 2 rfl rfl)
theorem dX7_isAlike_51 : decode cX7_isAlike 51 = .ok (.iload 4, 2) := dk_21 4 (dk_at dksX7_isAlike_2 3 rfl rfl)
theorem dX7_isAlike_53 : decode cX7_isAlike 53 = .ok (.iadd, 1) := dk_96 (dk_at dksX7_isAlike_2 5 rfl rfl)
theorem dX7_isAlike_54 : decode cX7_isAlike 54 = .ok (.iaload, 1) := dk_46 (dk_at dksX7_isAlike_2 6 rfl rfl)
theorem dX7_isAlike_55 : decode cX7_isAlike 55 = .ok (.iaload, 1) := dk_46 (dk_at dksX7_isAlike_2 7 rfl rfl)
theorem dX7_isAlike_56 : decode cX7_isAlike 56 = .ok (.if_icmp .eq 5, 3) := dk_159 0 5 (dk_at dksX7_isAlike_2 8 rfl rfl)
theorem dX7_isAlike_59 : decode cX7_isAlike 59 = .ok (.iconst 0, 1) := dk_3 (dk_at dksX7_isAlike_2 11 rfl rfl)
theorem dX7_isAlike_60 : decode cX7_isAlike 60 = .ok (.ireturn, 1) := dk_172 (dk_at dksX7_isAlike_2 12 rfl rfl)
theorem dX7_isAlike_61 : decode cX7_isAlike 61 = .ok (.iinc 4 1, 3) := dk_132 4 1 (dk_at dksX7_isAlike_2 13 rfl rfl)
theorem dX7_isAlike_64 : decode cX7_isAlike 64 = .ok (.goto (-44), 3) := dk_167 255 212 (dk_at dksX7_isAlike_2 16 rfl rfl)
theorem dX7_isAlike_67 : decode cX7_isAlike 67 = .ok (.iconst 1, 1) := dk_4 (dk_at dksX7_isAlike_2 19 rfl rfl)
theorem dX7_isAlike_68 : decode cX7_isAlike 68 = .ok (.ireturn, 1) := dk_172 (dk_at dksX7_isAlike_2 20 rfl rfl)
abbrev cX7_takesOf : ByteArray := prog_14_method_27_code
def yX7_takesOf : MethodName := ⟨RX7, "takesOf", "(I)I"⟩
def dkwX7_takesOf_0 : List UInt8 := [42, 180, 0, 17, 42, 180, 0, 32, 27, 46, 46, 172]
abbrev dktX7_takesOf_0 : List UInt8 := dkwX7_takesOf_0 ++ []
theorem dksX7_takesOf_0 : cX7_takesOf.data.toList.drop 0 = dktX7_takesOf_0 := by decide +kernel
theorem dX7_takesOf_0 : decode cX7_takesOf 0 = .ok (.aload_n 0, 1) := dk_42 (dk_at dksX7_takesOf_0 0 rfl rfl)
theorem dX7_takesOf_1 : decode cX7_takesOf 1 = .ok (.getfield 17, 3) := dk_180 0 17 (dk_at dksX7_takesOf_0 1 rfl rfl)
theorem dX7_takesOf_4 : decode cX7_takesOf 4 = .ok (.aload_n 0, 1) := dk_42 (dk_at dksX7_takesOf_0 4 rfl rfl)
theorem dX7_takesOf_5 : decode cX7_takesOf 5 = .ok (.getfield 32, 3) := dk_180 0 32 (dk_at dksX7_takesOf_0 5 rfl rfl)
theorem dX7_takesOf_8 : decode cX7_takesOf 8 = .ok (.iload_n 1, 1) := dk_27 (dk_at dksX7_takesOf_0 8 rfl rfl)
theorem dX7_takesOf_9 : decode cX7_takesOf 9 = .ok (.iaload, 1) := dk_46 (dk_at dksX7_takesOf_0 9 rfl rfl)
theorem dX7_takesOf_10 : decode cX7_takesOf 10 = .ok (.iaload, 1) := dk_46 (dk_at dksX7_takesOf_0 10 rfl rfl)
theorem dX7_takesOf_11 : decode cX7_takesOf 11 = .ok (.ireturn, 1) := dk_172 (dk_at dksX7_takesOf_0 11 rfl rfl)
abbrev cX7_joinsTwo : ByteArray := prog_14_method_33_code
def yX7_joinsTwo : MethodName := ⟨RX7, "joinsTwo", "(III)V"⟩
def dkwX7_joinsTwo_6 : List UInt8 := [180, 1, 3, 4, 96, 181, 1, 3, 42, 42, 180, 0, 50, 27, 28, 182, 1, 13, 177]
abbrev dktX7_joinsTwo_6 : List UInt8 := dkwX7_joinsTwo_6 ++ []
def dkwX7_joinsTwo_5 : List UInt8 := [182, 1, 10, 42, 180, 0, 53, 28, 27, 79, 42, 180, 0, 56, 28, 42, 180, 1, 3, 79, 42, 89]
abbrev dktX7_joinsTwo_5 : List UInt8 := dkwX7_joinsTwo_5 ++ dktX7_joinsTwo_6
def dkwX7_joinsTwo_4 : List UInt8 := [180, 0, 35, 6, 28, 104, 21, 4, 96, 46, 182, 1, 6, 128, 79, 132, 4, 1, 167, 255, 199, 42, 28]
abbrev dktX7_joinsTwo_4 : List UInt8 := dkwX7_joinsTwo_4 ++ dktX7_joinsTwo_5
def dkwX7_joinsTwo_3 : List UInt8 := [42, 180, 0, 68, 42, 180, 1, 3, 92, 46, 42, 42, 180, 0, 35, 6, 27, 104, 21, 4, 96, 46, 42]
abbrev dktX7_joinsTwo_3 : List UInt8 := dkwX7_joinsTwo_3 ++ dktX7_joinsTwo_4
def dkwX7_joinsTwo_2 : List UInt8 := [167, 0, 4, 3, 79, 3, 54, 4, 29, 16, 254, 160, 0, 57, 21, 4, 42, 27, 182, 0, 253, 162, 0, 47]
abbrev dktX7_joinsTwo_2 : List UInt8 := dkwX7_joinsTwo_2 ++ dktX7_joinsTwo_3
def dkwX7_joinsTwo_1 : List UInt8 := [42, 180, 1, 3, 29, 79, 42, 180, 0, 68, 42, 180, 1, 3, 29, 16, 254, 159, 0, 9, 4, 29, 120]
abbrev dktX7_joinsTwo_1 : List UInt8 := dkwX7_joinsTwo_1 ++ dktX7_joinsTwo_2
def dkwX7_joinsTwo_0 : List UInt8 := [42, 180, 0, 59, 42, 180, 1, 3, 27, 79, 42, 180, 0, 62, 42, 180, 1, 3, 28, 79, 42, 180, 0, 65]
abbrev dktX7_joinsTwo_0 : List UInt8 := dkwX7_joinsTwo_0 ++ dktX7_joinsTwo_1
theorem dksX7_joinsTwo_0 : cX7_joinsTwo.data.toList.drop 0 = dktX7_joinsTwo_0 := by decide +kernel
theorem dksX7_joinsTwo_1 : cX7_joinsTwo.data.toList.drop 24 = dktX7_joinsTwo_1 := dk_seg dksX7_joinsTwo_0 24 rfl rfl
theorem dksX7_joinsTwo_2 : cX7_joinsTwo.data.toList.drop 47 = dktX7_joinsTwo_2 := dk_seg dksX7_joinsTwo_1 23 rfl rfl
theorem dksX7_joinsTwo_3 : cX7_joinsTwo.data.toList.drop 71 = dktX7_joinsTwo_3 := dk_seg dksX7_joinsTwo_2 24 rfl rfl
theorem dksX7_joinsTwo_4 : cX7_joinsTwo.data.toList.drop 94 = dktX7_joinsTwo_4 := dk_seg dksX7_joinsTwo_3 23 rfl rfl
theorem dksX7_joinsTwo_5 : cX7_joinsTwo.data.toList.drop 117 = dktX7_joinsTwo_5 := dk_seg dksX7_joinsTwo_4 23 rfl rfl
theorem dksX7_joinsTwo_6 : cX7_joinsTwo.data.toList.drop 139 = dktX7_joinsTwo_6 := dk_seg dksX7_joinsTwo_5 22 rfl rfl
theorem dX7_joinsTwo_0 : decode cX7_joinsTwo 0 = .ok (.aload_n 0, 1) := dk_42 (dk_at dksX7_joinsTwo_0 0 rfl rfl)
theorem dX7_joinsTwo_1 : decode cX7_joinsTwo 1 = .ok (.getfield 59, 3) := dk_180 0 59 (dk_at dksX7_joinsTwo_0 1 rfl rfl)
theorem dX7_joinsTwo_4 : decode cX7_joinsTwo 4 = .ok (.aload_n 0, 1) := dk_42 (dk_at dksX7_joinsTwo_0 4 rfl rfl)
theorem dX7_joinsTwo_5 : decode cX7_joinsTwo 5 = .ok (.getfield 259, 3) := dk_180 1 3 (dk_at dksX7_joinsTwo_0 5 rfl rfl)
theorem dX7_joinsTwo_8 : decode cX7_joinsTwo 8 = .ok (.iload_n 1, 1) := dk_27 (dk_at dksX7_joinsTwo_0 8 rfl rfl)
theorem dX7_joinsTwo_9 : decode cX7_joinsTwo 9 = .ok (.iastore, 1) := dk_79 (dk_at dksX7_joinsTwo_0 9 rfl rfl)
theorem dX7_joinsTwo_10 : decode cX7_joinsTwo 10 = .ok (.aload_n 0, 1) := dk_42 (dk_at dksX7_joinsTwo_0 10 rfl rfl)
theorem dX7_joinsTwo_11 : decode cX7_joinsTwo 11 = .ok (.getfield 62, 3) := dk_180 0 62 (dk_at dksX7_joinsTwo_0 11 rfl rfl)
theorem dX7_joinsTwo_14 : decode cX7_joinsTwo 14 = .ok (.aload_n 0, 1) := dk_42 (dk_at dksX7_joinsTwo_0 14 rfl rfl)
theorem dX7_joinsTwo_15 : decode cX7_joinsTwo 15 = .ok (.getfield 259, 3) := dk_180 1 3 (dk_at dksX7_joinsTwo_0 15 rfl rfl)
theorem dX7_joinsTwo_18 : decode cX7_joinsTwo 18 = .ok (.iload_n 2, 1) := dk_28 (dk_at dksX7_joinsTwo_0 18 rfl rfl)
theorem dX7_joinsTwo_19 : decode cX7_joinsTwo 19 = .ok (.iastore, 1) := dk_79 (dk_at dksX7_joinsTwo_0 19 rfl rfl)
theorem dX7_joinsTwo_20 : decode cX7_joinsTwo 20 = .ok (.aload_n 0, 1) := dk_42 (dk_at dksX7_joinsTwo_0 20 rfl rfl)
theorem dX7_joinsTwo_21 : decode cX7_joinsTwo 21 = .ok (.getfield 65, 3) := dk_180 0 65 (dk_at dksX7_joinsTwo_0 21 rfl rfl)
theorem dX7_joinsTwo_24 : decode cX7_joinsTwo 24 = .ok (.aload_n 0, 1) := dk_42 (dk_at dksX7_joinsTwo_1 0 rfl rfl)
theorem dX7_joinsTwo_25 : decode cX7_joinsTwo 25 = .ok (.getfield 259, 3) := dk_180 1 3 (dk_at dksX7_joinsTwo_1 1 rfl rfl)
theorem dX7_joinsTwo_28 : decode cX7_joinsTwo 28 = .ok (.iload_n 3, 1) := dk_29 (dk_at dksX7_joinsTwo_1 4 rfl rfl)
theorem dX7_joinsTwo_29 : decode cX7_joinsTwo 29 = .ok (.iastore, 1) := dk_79 (dk_at dksX7_joinsTwo_1 5 rfl rfl)
theorem dX7_joinsTwo_30 : decode cX7_joinsTwo 30 = .ok (.aload_n 0, 1) := dk_42 (dk_at dksX7_joinsTwo_1 6 rfl rfl)
theorem dX7_joinsTwo_31 : decode cX7_joinsTwo 31 = .ok (.getfield 68, 3) := dk_180 0 68 (dk_at dksX7_joinsTwo_1 7 rfl rfl)
theorem dX7_joinsTwo_34 : decode cX7_joinsTwo 34 = .ok (.aload_n 0, 1) := dk_42 (dk_at dksX7_joinsTwo_1 10 rfl rfl)
theorem dX7_joinsTwo_35 : decode cX7_joinsTwo 35 = .ok (.getfield 259, 3) := dk_180 1 3 (dk_at dksX7_joinsTwo_1 11 rfl rfl)
theorem dX7_joinsTwo_38 : decode cX7_joinsTwo 38 = .ok (.iload_n 3, 1) := dk_29 (dk_at dksX7_joinsTwo_1 14 rfl rfl)
theorem dX7_joinsTwo_39 : decode cX7_joinsTwo 39 = .ok (.bipush (-2), 2) := dk_16 254 (dk_at dksX7_joinsTwo_1 15 rfl rfl)
theorem dX7_joinsTwo_41 : decode cX7_joinsTwo 41 = .ok (.if_icmp .eq 9, 3) := dk_159 0 9 (dk_at dksX7_joinsTwo_1 17 rfl rfl)
theorem dX7_joinsTwo_44 : decode cX7_joinsTwo 44 = .ok (.iconst 1, 1) := dk_4 (dk_at dksX7_joinsTwo_1 20 rfl rfl)
theorem dX7_joinsTwo_45 : decode cX7_joinsTwo 45 = .ok (.iload_n 3, 1) := dk_29 (dk_at dksX7_joinsTwo_1 21 rfl rfl)
theorem dX7_joinsTwo_46 : decode cX7_joinsTwo 46 = .ok (.ishl, 1) := dk_120 (dk_at dksX7_joinsTwo_1 22 rfl rfl)
theorem dX7_joinsTwo_47 : decode cX7_joinsTwo 47 = .ok (.goto 4, 3) := dk_167 0 4 (dk_at dksX7_joinsTwo_2 0 rfl rfl)
theorem dX7_joinsTwo_50 : decode cX7_joinsTwo 50 = .ok (.iconst 0, 1) := dk_3 (dk_at dksX7_joinsTwo_2 3 rfl rfl)
theorem dX7_joinsTwo_51 : decode cX7_joinsTwo 51 = .ok (.iastore, 1) := dk_79 (dk_at dksX7_joinsTwo_2 4 rfl rfl)
theorem dX7_joinsTwo_52 : decode cX7_joinsTwo 52 = .ok (.iconst 0, 1) := dk_3 (dk_at dksX7_joinsTwo_2 5 rfl rfl)
theorem dX7_joinsTwo_53 : decode cX7_joinsTwo 53 = .ok (.istore 4, 2) := dk_54 4 (dk_at dksX7_joinsTwo_2 6 rfl rfl)
theorem dX7_joinsTwo_55 : decode cX7_joinsTwo 55 = .ok (.iload_n 3, 1) := dk_29 (dk_at dksX7_joinsTwo_2 8 rfl rfl)
theorem dX7_joinsTwo_56 : decode cX7_joinsTwo 56 = .ok (.bipush (-2), 2) := dk_16 254 (dk_at dksX7_joinsTwo_2 9 rfl rfl)
theorem dX7_joinsTwo_58 : decode cX7_joinsTwo 58 = .ok (.if_icmp .ne 57, 3) := dk_160 0 57 (dk_at dksX7_joinsTwo_2 11 rfl rfl)
theorem dX7_joinsTwo_61 : decode cX7_joinsTwo 61 = .ok (.iload 4, 2) := dk_21 4 (dk_at dksX7_joinsTwo_2 14 rfl rfl)
theorem dX7_joinsTwo_63 : decode cX7_joinsTwo 63 = .ok (.aload_n 0, 1) := dk_42 (dk_at dksX7_joinsTwo_2 16 rfl rfl)
theorem dX7_joinsTwo_64 : decode cX7_joinsTwo 64 = .ok (.iload_n 1, 1) := dk_27 (dk_at dksX7_joinsTwo_2 17 rfl rfl)
theorem dX7_joinsTwo_65 : decode cX7_joinsTwo 65 = .ok (.invokevirtual 253, 3) := dk_182 0 253 (dk_at dksX7_joinsTwo_2 18 rfl rfl)
theorem dX7_joinsTwo_68 : decode cX7_joinsTwo 68 = .ok (.if_icmp .ge 47, 3) := dk_162 0 47 (dk_at dksX7_joinsTwo_2 21 rfl rfl)
theorem dX7_joinsTwo_71 : decode cX7_joinsTwo 71 = .ok (.aload_n 0, 1) := dk_42 (dk_at dksX7_joinsTwo_3 0 rfl rfl)
theorem dX7_joinsTwo_72 : decode cX7_joinsTwo 72 = .ok (.getfield 68, 3) := dk_180 0 68 (dk_at dksX7_joinsTwo_3 1 rfl rfl)
theorem dX7_joinsTwo_75 : decode cX7_joinsTwo 75 = .ok (.aload_n 0, 1) := dk_42 (dk_at dksX7_joinsTwo_3 4 rfl rfl)
theorem dX7_joinsTwo_76 : decode cX7_joinsTwo 76 = .ok (.getfield 259, 3) := dk_180 1 3 (dk_at dksX7_joinsTwo_3 5 rfl rfl)
theorem dX7_joinsTwo_79 : decode cX7_joinsTwo 79 = .ok (.dup2, 1) := dk_92 (dk_at dksX7_joinsTwo_3 8 rfl rfl)
theorem dX7_joinsTwo_80 : decode cX7_joinsTwo 80 = .ok (.iaload, 1) := dk_46 (dk_at dksX7_joinsTwo_3 9 rfl rfl)
theorem dX7_joinsTwo_81 : decode cX7_joinsTwo 81 = .ok (.aload_n 0, 1) := dk_42 (dk_at dksX7_joinsTwo_3 10 rfl rfl)
theorem dX7_joinsTwo_82 : decode cX7_joinsTwo 82 = .ok (.aload_n 0, 1) := dk_42 (dk_at dksX7_joinsTwo_3 11 rfl rfl)
theorem dX7_joinsTwo_83 : decode cX7_joinsTwo 83 = .ok (.getfield 35, 3) := dk_180 0 35 (dk_at dksX7_joinsTwo_3 12 rfl rfl)
theorem dX7_joinsTwo_86 : decode cX7_joinsTwo 86 = .ok (.iconst 3, 1) := dk_6 (dk_at dksX7_joinsTwo_3 15 rfl rfl)
theorem dX7_joinsTwo_87 : decode cX7_joinsTwo 87 = .ok (.iload_n 1, 1) := dk_27 (dk_at dksX7_joinsTwo_3 16 rfl rfl)
theorem dX7_joinsTwo_88 : decode cX7_joinsTwo 88 = .ok (.imul, 1) := dk_104 (dk_at dksX7_joinsTwo_3 17 rfl rfl)
theorem dX7_joinsTwo_89 : decode cX7_joinsTwo 89 = .ok (.iload 4, 2) := dk_21 4 (dk_at dksX7_joinsTwo_3 18 rfl rfl)
theorem dX7_joinsTwo_91 : decode cX7_joinsTwo 91 = .ok (.iadd, 1) := dk_96 (dk_at dksX7_joinsTwo_3 20 rfl rfl)
theorem dX7_joinsTwo_92 : decode cX7_joinsTwo 92 = .ok (.iaload, 1) := dk_46 (dk_at dksX7_joinsTwo_3 21 rfl rfl)
theorem dX7_joinsTwo_93 : decode cX7_joinsTwo 93 = .ok (.aload_n 0, 1) := dk_42 (dk_at dksX7_joinsTwo_3 22 rfl rfl)
theorem dX7_joinsTwo_94 : decode cX7_joinsTwo 94 = .ok (.getfield 35, 3) := dk_180 0 35 (dk_at dksX7_joinsTwo_4 0 rfl rfl)
theorem dX7_joinsTwo_97 : decode cX7_joinsTwo 97 = .ok (.iconst 3, 1) := dk_6 (dk_at dksX7_joinsTwo_4 3 rfl rfl)
theorem dX7_joinsTwo_98 : decode cX7_joinsTwo 98 = .ok (.iload_n 2, 1) := dk_28 (dk_at dksX7_joinsTwo_4 4 rfl rfl)
theorem dX7_joinsTwo_99 : decode cX7_joinsTwo 99 = .ok (.imul, 1) := dk_104 (dk_at dksX7_joinsTwo_4 5 rfl rfl)
theorem dX7_joinsTwo_100 : decode cX7_joinsTwo 100 = .ok (.iload 4, 2) := dk_21 4 (dk_at dksX7_joinsTwo_4 6 rfl rfl)
theorem dX7_joinsTwo_102 : decode cX7_joinsTwo 102 = .ok (.iadd, 1) := dk_96 (dk_at dksX7_joinsTwo_4 8 rfl rfl)
theorem dX7_joinsTwo_103 : decode cX7_joinsTwo 103 = .ok (.iaload, 1) := dk_46 (dk_at dksX7_joinsTwo_4 9 rfl rfl)
theorem dX7_joinsTwo_104 : decode cX7_joinsTwo 104 = .ok (.invokevirtual 262, 3) := dk_182 1 6 (dk_at dksX7_joinsTwo_4 10 rfl rfl)
theorem dX7_joinsTwo_107 : decode cX7_joinsTwo 107 = .ok (.ior, 1) := dk_128 (dk_at dksX7_joinsTwo_4 13 rfl rfl)
theorem dX7_joinsTwo_108 : decode cX7_joinsTwo 108 = .ok (.iastore, 1) := dk_79 (dk_at dksX7_joinsTwo_4 14 rfl rfl)
theorem dX7_joinsTwo_109 : decode cX7_joinsTwo 109 = .ok (.iinc 4 1, 3) := dk_132 4 1 (dk_at dksX7_joinsTwo_4 15 rfl rfl)
theorem dX7_joinsTwo_112 : decode cX7_joinsTwo 112 = .ok (.goto (-57), 3) := dk_167 255 199 (dk_at dksX7_joinsTwo_4 18 rfl rfl)
theorem dX7_joinsTwo_115 : decode cX7_joinsTwo 115 = .ok (.aload_n 0, 1) := dk_42 (dk_at dksX7_joinsTwo_4 21 rfl rfl)
theorem dX7_joinsTwo_116 : decode cX7_joinsTwo 116 = .ok (.iload_n 2, 1) := dk_28 (dk_at dksX7_joinsTwo_4 22 rfl rfl)
theorem dX7_joinsTwo_117 : decode cX7_joinsTwo 117 = .ok (.invokevirtual 266, 3) := dk_182 1 10 (dk_at dksX7_joinsTwo_5 0 rfl rfl)
theorem dX7_joinsTwo_120 : decode cX7_joinsTwo 120 = .ok (.aload_n 0, 1) := dk_42 (dk_at dksX7_joinsTwo_5 3 rfl rfl)
theorem dX7_joinsTwo_121 : decode cX7_joinsTwo 121 = .ok (.getfield 53, 3) := dk_180 0 53 (dk_at dksX7_joinsTwo_5 4 rfl rfl)
theorem dX7_joinsTwo_124 : decode cX7_joinsTwo 124 = .ok (.iload_n 2, 1) := dk_28 (dk_at dksX7_joinsTwo_5 7 rfl rfl)
theorem dX7_joinsTwo_125 : decode cX7_joinsTwo 125 = .ok (.iload_n 1, 1) := dk_27 (dk_at dksX7_joinsTwo_5 8 rfl rfl)
theorem dX7_joinsTwo_126 : decode cX7_joinsTwo 126 = .ok (.iastore, 1) := dk_79 (dk_at dksX7_joinsTwo_5 9 rfl rfl)
theorem dX7_joinsTwo_127 : decode cX7_joinsTwo 127 = .ok (.aload_n 0, 1) := dk_42 (dk_at dksX7_joinsTwo_5 10 rfl rfl)
theorem dX7_joinsTwo_128 : decode cX7_joinsTwo 128 = .ok (.getfield 56, 3) := dk_180 0 56 (dk_at dksX7_joinsTwo_5 11 rfl rfl)
theorem dX7_joinsTwo_131 : decode cX7_joinsTwo 131 = .ok (.iload_n 2, 1) := dk_28 (dk_at dksX7_joinsTwo_5 14 rfl rfl)
theorem dX7_joinsTwo_132 : decode cX7_joinsTwo 132 = .ok (.aload_n 0, 1) := dk_42 (dk_at dksX7_joinsTwo_5 15 rfl rfl)
theorem dX7_joinsTwo_133 : decode cX7_joinsTwo 133 = .ok (.getfield 259, 3) := dk_180 1 3 (dk_at dksX7_joinsTwo_5 16 rfl rfl)
theorem dX7_joinsTwo_136 : decode cX7_joinsTwo 136 = .ok (.iastore, 1) := dk_79 (dk_at dksX7_joinsTwo_5 19 rfl rfl)
theorem dX7_joinsTwo_137 : decode cX7_joinsTwo 137 = .ok (.aload_n 0, 1) := dk_42 (dk_at dksX7_joinsTwo_5 20 rfl rfl)
theorem dX7_joinsTwo_138 : decode cX7_joinsTwo 138 = .ok (.dup, 1) := dk_89 (dk_at dksX7_joinsTwo_5 21 rfl rfl)
theorem dX7_joinsTwo_139 : decode cX7_joinsTwo 139 = .ok (.getfield 259, 3) := dk_180 1 3 (dk_at dksX7_joinsTwo_6 0 rfl rfl)
theorem dX7_joinsTwo_142 : decode cX7_joinsTwo 142 = .ok (.iconst 1, 1) := dk_4 (dk_at dksX7_joinsTwo_6 3 rfl rfl)
theorem dX7_joinsTwo_143 : decode cX7_joinsTwo 143 = .ok (.iadd, 1) := dk_96 (dk_at dksX7_joinsTwo_6 4 rfl rfl)
theorem dX7_joinsTwo_144 : decode cX7_joinsTwo 144 = .ok (.putfield 259, 3) := dk_181 1 3 (dk_at dksX7_joinsTwo_6 5 rfl rfl)
theorem dX7_joinsTwo_147 : decode cX7_joinsTwo 147 = .ok (.aload_n 0, 1) := dk_42 (dk_at dksX7_joinsTwo_6 8 rfl rfl)
theorem dX7_joinsTwo_148 : decode cX7_joinsTwo 148 = .ok (.aload_n 0, 1) := dk_42 (dk_at dksX7_joinsTwo_6 9 rfl rfl)
theorem dX7_joinsTwo_149 : decode cX7_joinsTwo 149 = .ok (.getfield 50, 3) := dk_180 0 50 (dk_at dksX7_joinsTwo_6 10 rfl rfl)
theorem dX7_joinsTwo_152 : decode cX7_joinsTwo 152 = .ok (.iload_n 1, 1) := dk_27 (dk_at dksX7_joinsTwo_6 13 rfl rfl)
theorem dX7_joinsTwo_153 : decode cX7_joinsTwo 153 = .ok (.iload_n 2, 1) := dk_28 (dk_at dksX7_joinsTwo_6 14 rfl rfl)
theorem dX7_joinsTwo_154 : decode cX7_joinsTwo 154 = .ok (.invokevirtual 269, 3) := dk_182 1 13 (dk_at dksX7_joinsTwo_6 15 rfl rfl)
theorem dX7_joinsTwo_157 : decode cX7_joinsTwo 157 = .ok (.return_, 1) := dk_177 (dk_at dksX7_joinsTwo_6 18 rfl rfl)
abbrev cX7_reasonsOf : ByteArray := prog_14_method_31_code
def yX7_reasonsOf : MethodName := ⟨RX7, "reasonsOf", "(II)I"⟩
def dkwX7_reasonsOf_3 : List UInt8 := [128, 62, 42, 180, 0, 53, 21, 5, 46, 54, 5, 167, 255, 183, 29, 172]
abbrev dktX7_reasonsOf_3 : List UInt8 := dkwX7_reasonsOf_3 ++ []
def dkwX7_reasonsOf_2 : List UInt8 := [180, 0, 53, 21, 4, 46, 54, 4, 167, 255, 210, 29, 42, 180, 0, 68, 42, 180, 0, 56, 21, 5, 46, 46]
abbrev dktX7_reasonsOf_2 : List UInt8 := dkwX7_reasonsOf_2 ++ dktX7_reasonsOf_3
def dkwX7_reasonsOf_1 : List UInt8 := [182, 1, 0, 161, 0, 30, 29, 42, 180, 0, 68, 42, 180, 0, 56, 21, 4, 46, 46, 128, 62, 42]
abbrev dktX7_reasonsOf_1 : List UInt8 := dkwX7_reasonsOf_1 ++ dktX7_reasonsOf_2
def dkwX7_reasonsOf_0 : List UInt8 := [3, 62, 27, 54, 4, 28, 54, 5, 21, 4, 21, 5, 159, 0, 72, 42, 21, 4, 182, 1, 0, 42, 21, 5]
abbrev dktX7_reasonsOf_0 : List UInt8 := dkwX7_reasonsOf_0 ++ dktX7_reasonsOf_1
theorem dksX7_reasonsOf_0 : cX7_reasonsOf.data.toList.drop 0 = dktX7_reasonsOf_0 := by decide +kernel
theorem dksX7_reasonsOf_1 : cX7_reasonsOf.data.toList.drop 24 = dktX7_reasonsOf_1 := dk_seg dksX7_reasonsOf_0 24 rfl rfl
theorem dksX7_reasonsOf_2 : cX7_reasonsOf.data.toList.drop 46 = dktX7_reasonsOf_2 := dk_seg dksX7_reasonsOf_1 22 rfl rfl
theorem dksX7_reasonsOf_3 : cX7_reasonsOf.data.toList.drop 70 = dktX7_reasonsOf_3 := dk_seg dksX7_reasonsOf_2 24 rfl rfl
theorem dX7_reasonsOf_0 : decode cX7_reasonsOf 0 = .ok (.iconst 0, 1) := dk_3 (dk_at dksX7_reasonsOf_0 0 rfl rfl)
theorem dX7_reasonsOf_1 : decode cX7_reasonsOf 1 = .ok (.istore_n 3, 1) := dk_62 (dk_at dksX7_reasonsOf_0 1 rfl rfl)
theorem dX7_reasonsOf_2 : decode cX7_reasonsOf 2 = .ok (.iload_n 1, 1) := dk_27 (dk_at dksX7_reasonsOf_0 2 rfl rfl)
theorem dX7_reasonsOf_3 : decode cX7_reasonsOf 3 = .ok (.istore 4, 2) := dk_54 4 (dk_at dksX7_reasonsOf_0 3 rfl rfl)
theorem dX7_reasonsOf_5 : decode cX7_reasonsOf 5 = .ok (.iload_n 2, 1) := dk_28 (dk_at dksX7_reasonsOf_0 5 rfl rfl)
theorem dX7_reasonsOf_6 : decode cX7_reasonsOf 6 = .ok (.istore 5, 2) := dk_54 5 (dk_at dksX7_reasonsOf_0 6 rfl rfl)
theorem dX7_reasonsOf_8 : decode cX7_reasonsOf 8 = .ok (.iload 4, 2) := dk_21 4 (dk_at dksX7_reasonsOf_0 8 rfl rfl)
theorem dX7_reasonsOf_10 : decode cX7_reasonsOf 10 = .ok (.iload 5, 2) := dk_21 5 (dk_at dksX7_reasonsOf_0 10 rfl rfl)
theorem dX7_reasonsOf_12 : decode cX7_reasonsOf 12 = .ok (.if_icmp .eq 72, 3) := dk_159 0 72 (dk_at dksX7_reasonsOf_0 12 rfl rfl)
theorem dX7_reasonsOf_15 : decode cX7_reasonsOf 15 = .ok (.aload_n 0, 1) := dk_42 (dk_at dksX7_reasonsOf_0 15 rfl rfl)
theorem dX7_reasonsOf_16 : decode cX7_reasonsOf 16 = .ok (.iload 4, 2) := dk_21 4 (dk_at dksX7_reasonsOf_0 16 rfl rfl)
theorem dX7_reasonsOf_18 : decode cX7_reasonsOf 18 = .ok (.invokevirtual 256, 3) := dk_182 1 0 (dk_at dksX7_reasonsOf_0 18 rfl rfl)
theorem dX7_reasonsOf_21 : decode cX7_reasonsOf 21 = .ok (.aload_n 0, 1) := dk_42 (dk_at dksX7_reasonsOf_0 21 rfl rfl)
theorem dX7_reasonsOf_22 : decode cX7_reasonsOf 22 = .ok (.iload 5, 2) := dk_21 5 (dk_at dksX7_reasonsOf_0 22 rfl rfl)
theorem dX7_reasonsOf_24 : decode cX7_reasonsOf 24 = .ok (.invokevirtual 256, 3) := dk_182 1 0 (dk_at dksX7_reasonsOf_1 0 rfl rfl)
theorem dX7_reasonsOf_27 : decode cX7_reasonsOf 27 = .ok (.if_icmp .lt 30, 3) := dk_161 0 30 (dk_at dksX7_reasonsOf_1 3 rfl rfl)
theorem dX7_reasonsOf_30 : decode cX7_reasonsOf 30 = .ok (.iload_n 3, 1) := dk_29 (dk_at dksX7_reasonsOf_1 6 rfl rfl)
theorem dX7_reasonsOf_31 : decode cX7_reasonsOf 31 = .ok (.aload_n 0, 1) := dk_42 (dk_at dksX7_reasonsOf_1 7 rfl rfl)
theorem dX7_reasonsOf_32 : decode cX7_reasonsOf 32 = .ok (.getfield 68, 3) := dk_180 0 68 (dk_at dksX7_reasonsOf_1 8 rfl rfl)
theorem dX7_reasonsOf_35 : decode cX7_reasonsOf 35 = .ok (.aload_n 0, 1) := dk_42 (dk_at dksX7_reasonsOf_1 11 rfl rfl)
theorem dX7_reasonsOf_36 : decode cX7_reasonsOf 36 = .ok (.getfield 56, 3) := dk_180 0 56 (dk_at dksX7_reasonsOf_1 12 rfl rfl)
theorem dX7_reasonsOf_39 : decode cX7_reasonsOf 39 = .ok (.iload 4, 2) := dk_21 4 (dk_at dksX7_reasonsOf_1 15 rfl rfl)
theorem dX7_reasonsOf_41 : decode cX7_reasonsOf 41 = .ok (.iaload, 1) := dk_46 (dk_at dksX7_reasonsOf_1 17 rfl rfl)
theorem dX7_reasonsOf_42 : decode cX7_reasonsOf 42 = .ok (.iaload, 1) := dk_46 (dk_at dksX7_reasonsOf_1 18 rfl rfl)
theorem dX7_reasonsOf_43 : decode cX7_reasonsOf 43 = .ok (.ior, 1) := dk_128 (dk_at dksX7_reasonsOf_1 19 rfl rfl)
theorem dX7_reasonsOf_44 : decode cX7_reasonsOf 44 = .ok (.istore_n 3, 1) := dk_62 (dk_at dksX7_reasonsOf_1 20 rfl rfl)
theorem dX7_reasonsOf_45 : decode cX7_reasonsOf 45 = .ok (.aload_n 0, 1) := dk_42 (dk_at dksX7_reasonsOf_1 21 rfl rfl)
theorem dX7_reasonsOf_46 : decode cX7_reasonsOf 46 = .ok (.getfield 53, 3) := dk_180 0 53 (dk_at dksX7_reasonsOf_2 0 rfl rfl)
theorem dX7_reasonsOf_49 : decode cX7_reasonsOf 49 = .ok (.iload 4, 2) := dk_21 4 (dk_at dksX7_reasonsOf_2 3 rfl rfl)
theorem dX7_reasonsOf_51 : decode cX7_reasonsOf 51 = .ok (.iaload, 1) := dk_46 (dk_at dksX7_reasonsOf_2 5 rfl rfl)
theorem dX7_reasonsOf_52 : decode cX7_reasonsOf 52 = .ok (.istore 4, 2) := dk_54 4 (dk_at dksX7_reasonsOf_2 6 rfl rfl)
theorem dX7_reasonsOf_54 : decode cX7_reasonsOf 54 = .ok (.goto (-46), 3) := dk_167 255 210 (dk_at dksX7_reasonsOf_2 8 rfl rfl)
theorem dX7_reasonsOf_57 : decode cX7_reasonsOf 57 = .ok (.iload_n 3, 1) := dk_29 (dk_at dksX7_reasonsOf_2 11 rfl rfl)
theorem dX7_reasonsOf_58 : decode cX7_reasonsOf 58 = .ok (.aload_n 0, 1) := dk_42 (dk_at dksX7_reasonsOf_2 12 rfl rfl)
theorem dX7_reasonsOf_59 : decode cX7_reasonsOf 59 = .ok (.getfield 68, 3) := dk_180 0 68 (dk_at dksX7_reasonsOf_2 13 rfl rfl)
theorem dX7_reasonsOf_62 : decode cX7_reasonsOf 62 = .ok (.aload_n 0, 1) := dk_42 (dk_at dksX7_reasonsOf_2 16 rfl rfl)
theorem dX7_reasonsOf_63 : decode cX7_reasonsOf 63 = .ok (.getfield 56, 3) := dk_180 0 56 (dk_at dksX7_reasonsOf_2 17 rfl rfl)
theorem dX7_reasonsOf_66 : decode cX7_reasonsOf 66 = .ok (.iload 5, 2) := dk_21 5 (dk_at dksX7_reasonsOf_2 20 rfl rfl)
theorem dX7_reasonsOf_68 : decode cX7_reasonsOf 68 = .ok (.iaload, 1) := dk_46 (dk_at dksX7_reasonsOf_2 22 rfl rfl)
theorem dX7_reasonsOf_69 : decode cX7_reasonsOf 69 = .ok (.iaload, 1) := dk_46 (dk_at dksX7_reasonsOf_2 23 rfl rfl)
theorem dX7_reasonsOf_70 : decode cX7_reasonsOf 70 = .ok (.ior, 1) := dk_128 (dk_at dksX7_reasonsOf_3 0 rfl rfl)
theorem dX7_reasonsOf_71 : decode cX7_reasonsOf 71 = .ok (.istore_n 3, 1) := dk_62 (dk_at dksX7_reasonsOf_3 1 rfl rfl)
theorem dX7_reasonsOf_72 : decode cX7_reasonsOf 72 = .ok (.aload_n 0, 1) := dk_42 (dk_at dksX7_reasonsOf_3 2 rfl rfl)
theorem dX7_reasonsOf_73 : decode cX7_reasonsOf 73 = .ok (.getfield 53, 3) := dk_180 0 53 (dk_at dksX7_reasonsOf_3 3 rfl rfl)
theorem dX7_reasonsOf_76 : decode cX7_reasonsOf 76 = .ok (.iload 5, 2) := dk_21 5 (dk_at dksX7_reasonsOf_3 6 rfl rfl)
theorem dX7_reasonsOf_78 : decode cX7_reasonsOf 78 = .ok (.iaload, 1) := dk_46 (dk_at dksX7_reasonsOf_3 8 rfl rfl)
theorem dX7_reasonsOf_79 : decode cX7_reasonsOf 79 = .ok (.istore 5, 2) := dk_54 5 (dk_at dksX7_reasonsOf_3 9 rfl rfl)
theorem dX7_reasonsOf_81 : decode cX7_reasonsOf 81 = .ok (.goto (-73), 3) := dk_167 255 183 (dk_at dksX7_reasonsOf_3 11 rfl rfl)
theorem dX7_reasonsOf_84 : decode cX7_reasonsOf 84 = .ok (.iload_n 3, 1) := dk_29 (dk_at dksX7_reasonsOf_3 14 rfl rfl)
theorem dX7_reasonsOf_85 : decode cX7_reasonsOf 85 = .ok (.ireturn, 1) := dk_172 (dk_at dksX7_reasonsOf_3 15 rfl rfl)
abbrev cX7_depthOf : ByteArray := prog_14_method_30_code
def yX7_depthOf : MethodName := ⟨RX7, "depthOf", "(I)I"⟩
def dkwX7_depthOf_1 : List UInt8 := [62, 167, 255, 235, 28, 172]
abbrev dktX7_depthOf_1 : List UInt8 := dkwX7_depthOf_1 ++ []
def dkwX7_depthOf_0 : List UInt8 := [3, 61, 27, 62, 42, 180, 0, 53, 29, 46, 16, 254, 159, 0, 16, 132, 2, 1, 42, 180, 0, 53, 29, 46]
abbrev dktX7_depthOf_0 : List UInt8 := dkwX7_depthOf_0 ++ dktX7_depthOf_1
theorem dksX7_depthOf_0 : cX7_depthOf.data.toList.drop 0 = dktX7_depthOf_0 := by decide +kernel
theorem dksX7_depthOf_1 : cX7_depthOf.data.toList.drop 24 = dktX7_depthOf_1 := dk_seg dksX7_depthOf_0 24 rfl rfl
theorem dX7_depthOf_0 : decode cX7_depthOf 0 = .ok (.iconst 0, 1) := dk_3 (dk_at dksX7_depthOf_0 0 rfl rfl)
theorem dX7_depthOf_1 : decode cX7_depthOf 1 = .ok (.istore_n 2, 1) := dk_61 (dk_at dksX7_depthOf_0 1 rfl rfl)
theorem dX7_depthOf_2 : decode cX7_depthOf 2 = .ok (.iload_n 1, 1) := dk_27 (dk_at dksX7_depthOf_0 2 rfl rfl)
theorem dX7_depthOf_3 : decode cX7_depthOf 3 = .ok (.istore_n 3, 1) := dk_62 (dk_at dksX7_depthOf_0 3 rfl rfl)
theorem dX7_depthOf_4 : decode cX7_depthOf 4 = .ok (.aload_n 0, 1) := dk_42 (dk_at dksX7_depthOf_0 4 rfl rfl)
theorem dX7_depthOf_5 : decode cX7_depthOf 5 = .ok (.getfield 53, 3) := dk_180 0 53 (dk_at dksX7_depthOf_0 5 rfl rfl)
theorem dX7_depthOf_8 : decode cX7_depthOf 8 = .ok (.iload_n 3, 1) := dk_29 (dk_at dksX7_depthOf_0 8 rfl rfl)
theorem dX7_depthOf_9 : decode cX7_depthOf 9 = .ok (.iaload, 1) := dk_46 (dk_at dksX7_depthOf_0 9 rfl rfl)
theorem dX7_depthOf_10 : decode cX7_depthOf 10 = .ok (.bipush (-2), 2) := dk_16 254 (dk_at dksX7_depthOf_0 10 rfl rfl)
theorem dX7_depthOf_12 : decode cX7_depthOf 12 = .ok (.if_icmp .eq 16, 3) := dk_159 0 16 (dk_at dksX7_depthOf_0 12 rfl rfl)
theorem dX7_depthOf_15 : decode cX7_depthOf 15 = .ok (.iinc 2 1, 3) := dk_132 2 1 (dk_at dksX7_depthOf_0 15 rfl rfl)
theorem dX7_depthOf_18 : decode cX7_depthOf 18 = .ok (.aload_n 0, 1) := dk_42 (dk_at dksX7_depthOf_0 18 rfl rfl)
theorem dX7_depthOf_19 : decode cX7_depthOf 19 = .ok (.getfield 53, 3) := dk_180 0 53 (dk_at dksX7_depthOf_0 19 rfl rfl)
theorem dX7_depthOf_22 : decode cX7_depthOf 22 = .ok (.iload_n 3, 1) := dk_29 (dk_at dksX7_depthOf_0 22 rfl rfl)
theorem dX7_depthOf_23 : decode cX7_depthOf 23 = .ok (.iaload, 1) := dk_46 (dk_at dksX7_depthOf_0 23 rfl rfl)
theorem dX7_depthOf_24 : decode cX7_depthOf 24 = .ok (.istore_n 3, 1) := dk_62 (dk_at dksX7_depthOf_1 0 rfl rfl)
theorem dX7_depthOf_25 : decode cX7_depthOf 25 = .ok (.goto (-21), 3) := dk_167 255 235 (dk_at dksX7_depthOf_1 1 rfl rfl)
theorem dX7_depthOf_28 : decode cX7_depthOf 28 = .ok (.iload_n 2, 1) := dk_28 (dk_at dksX7_depthOf_1 4 rfl rfl)
theorem dX7_depthOf_29 : decode cX7_depthOf 29 = .ok (.ireturn, 1) := dk_172 (dk_at dksX7_depthOf_1 5 rfl rfl)
abbrev cX7_turns : ByteArray := prog_14_method_32_code
def yX7_turns : MethodName := ⟨RX7, "turns", "(I)V"⟩
def dkwX7_turns_2 : List UInt8 := [21, 6, 54, 4, 21, 5, 61, 167, 255, 210, 177]
abbrev dktX7_turns_2 : List UInt8 := dkwX7_turns_2 ++ []
def dkwX7_turns_1 : List UInt8 := [180, 0, 56, 28, 46, 54, 6, 42, 180, 0, 53, 28, 29, 79, 42, 180, 0, 56, 28, 21, 4, 79, 28, 62]
abbrev dktX7_turns_1 : List UInt8 := dkwX7_turns_1 ++ dktX7_turns_2
def dkwX7_turns_0 : List UInt8 := [27, 61, 16, 254, 62, 2, 54, 4, 28, 16, 254, 159, 0, 46, 42, 180, 0, 53, 28, 46, 54, 5, 42]
abbrev dktX7_turns_0 : List UInt8 := dkwX7_turns_0 ++ dktX7_turns_1
theorem dksX7_turns_0 : cX7_turns.data.toList.drop 0 = dktX7_turns_0 := by decide +kernel
theorem dksX7_turns_1 : cX7_turns.data.toList.drop 23 = dktX7_turns_1 := dk_seg dksX7_turns_0 23 rfl rfl
theorem dksX7_turns_2 : cX7_turns.data.toList.drop 47 = dktX7_turns_2 := dk_seg dksX7_turns_1 24 rfl rfl
theorem dX7_turns_0 : decode cX7_turns 0 = .ok (.iload_n 1, 1) := dk_27 (dk_at dksX7_turns_0 0 rfl rfl)
theorem dX7_turns_1 : decode cX7_turns 1 = .ok (.istore_n 2, 1) := dk_61 (dk_at dksX7_turns_0 1 rfl rfl)
theorem dX7_turns_2 : decode cX7_turns 2 = .ok (.bipush (-2), 2) := dk_16 254 (dk_at dksX7_turns_0 2 rfl rfl)
theorem dX7_turns_4 : decode cX7_turns 4 = .ok (.istore_n 3, 1) := dk_62 (dk_at dksX7_turns_0 4 rfl rfl)
theorem dX7_turns_5 : decode cX7_turns 5 = .ok (.iconst (-1), 1) := dk_2 (dk_at dksX7_turns_0 5 rfl rfl)
theorem dX7_turns_6 : decode cX7_turns 6 = .ok (.istore 4, 2) := dk_54 4 (dk_at dksX7_turns_0 6 rfl rfl)
theorem dX7_turns_8 : decode cX7_turns 8 = .ok (.iload_n 2, 1) := dk_28 (dk_at dksX7_turns_0 8 rfl rfl)
theorem dX7_turns_9 : decode cX7_turns 9 = .ok (.bipush (-2), 2) := dk_16 254 (dk_at dksX7_turns_0 9 rfl rfl)
theorem dX7_turns_11 : decode cX7_turns 11 = .ok (.if_icmp .eq 46, 3) := dk_159 0 46 (dk_at dksX7_turns_0 11 rfl rfl)
theorem dX7_turns_14 : decode cX7_turns 14 = .ok (.aload_n 0, 1) := dk_42 (dk_at dksX7_turns_0 14 rfl rfl)
theorem dX7_turns_15 : decode cX7_turns 15 = .ok (.getfield 53, 3) := dk_180 0 53 (dk_at dksX7_turns_0 15 rfl rfl)
theorem dX7_turns_18 : decode cX7_turns 18 = .ok (.iload_n 2, 1) := dk_28 (dk_at dksX7_turns_0 18 rfl rfl)
theorem dX7_turns_19 : decode cX7_turns 19 = .ok (.iaload, 1) := dk_46 (dk_at dksX7_turns_0 19 rfl rfl)
theorem dX7_turns_20 : decode cX7_turns 20 = .ok (.istore 5, 2) := dk_54 5 (dk_at dksX7_turns_0 20 rfl rfl)
theorem dX7_turns_22 : decode cX7_turns 22 = .ok (.aload_n 0, 1) := dk_42 (dk_at dksX7_turns_0 22 rfl rfl)
theorem dX7_turns_23 : decode cX7_turns 23 = .ok (.getfield 56, 3) := dk_180 0 56 (dk_at dksX7_turns_1 0 rfl rfl)
theorem dX7_turns_26 : decode cX7_turns 26 = .ok (.iload_n 2, 1) := dk_28 (dk_at dksX7_turns_1 3 rfl rfl)
theorem dX7_turns_27 : decode cX7_turns 27 = .ok (.iaload, 1) := dk_46 (dk_at dksX7_turns_1 4 rfl rfl)
theorem dX7_turns_28 : decode cX7_turns 28 = .ok (.istore 6, 2) := dk_54 6 (dk_at dksX7_turns_1 5 rfl rfl)
theorem dX7_turns_30 : decode cX7_turns 30 = .ok (.aload_n 0, 1) := dk_42 (dk_at dksX7_turns_1 7 rfl rfl)
theorem dX7_turns_31 : decode cX7_turns 31 = .ok (.getfield 53, 3) := dk_180 0 53 (dk_at dksX7_turns_1 8 rfl rfl)
theorem dX7_turns_34 : decode cX7_turns 34 = .ok (.iload_n 2, 1) := dk_28 (dk_at dksX7_turns_1 11 rfl rfl)
theorem dX7_turns_35 : decode cX7_turns 35 = .ok (.iload_n 3, 1) := dk_29 (dk_at dksX7_turns_1 12 rfl rfl)
theorem dX7_turns_36 : decode cX7_turns 36 = .ok (.iastore, 1) := dk_79 (dk_at dksX7_turns_1 13 rfl rfl)
theorem dX7_turns_37 : decode cX7_turns 37 = .ok (.aload_n 0, 1) := dk_42 (dk_at dksX7_turns_1 14 rfl rfl)
theorem dX7_turns_38 : decode cX7_turns 38 = .ok (.getfield 56, 3) := dk_180 0 56 (dk_at dksX7_turns_1 15 rfl rfl)
theorem dX7_turns_41 : decode cX7_turns 41 = .ok (.iload_n 2, 1) := dk_28 (dk_at dksX7_turns_1 18 rfl rfl)
theorem dX7_turns_42 : decode cX7_turns 42 = .ok (.iload 4, 2) := dk_21 4 (dk_at dksX7_turns_1 19 rfl rfl)
theorem dX7_turns_44 : decode cX7_turns 44 = .ok (.iastore, 1) := dk_79 (dk_at dksX7_turns_1 21 rfl rfl)
theorem dX7_turns_45 : decode cX7_turns 45 = .ok (.iload_n 2, 1) := dk_28 (dk_at dksX7_turns_1 22 rfl rfl)
theorem dX7_turns_46 : decode cX7_turns 46 = .ok (.istore_n 3, 1) := dk_62 (dk_at dksX7_turns_1 23 rfl rfl)
theorem dX7_turns_47 : decode cX7_turns 47 = .ok (.iload 6, 2) := dk_21 6 (dk_at dksX7_turns_2 0 rfl rfl)
theorem dX7_turns_49 : decode cX7_turns 49 = .ok (.istore 4, 2) := dk_54 4 (dk_at dksX7_turns_2 2 rfl rfl)
theorem dX7_turns_51 : decode cX7_turns 51 = .ok (.iload 5, 2) := dk_21 5 (dk_at dksX7_turns_2 4 rfl rfl)
theorem dX7_turns_53 : decode cX7_turns 53 = .ok (.istore_n 2, 1) := dk_61 (dk_at dksX7_turns_2 6 rfl rfl)
theorem dX7_turns_54 : decode cX7_turns 54 = .ok (.goto (-46), 3) := dk_167 255 210 (dk_at dksX7_turns_2 7 rfl rfl)
theorem dX7_turns_57 : decode cX7_turns 57 = .ok (.return_, 1) := dk_177 (dk_at dksX7_turns_2 10 rfl rfl)
abbrev cX7_unites : ByteArray := prog_14_method_28_code
def yX7_unites : MethodName := ⟨RX7, "unites", "([III)V"⟩
def dkwX7_unites_3 : List UInt8 := [132, 7, 1, 167, 255, 213, 177]
abbrev dktX7_unites_3 : List UInt8 := dkwX7_unites_3 ++ []
def dkwX7_unites_2 : List UInt8 := [159, 0, 12, 43, 21, 7, 46, 21, 5, 160, 0, 8, 21, 6, 167, 0, 7, 43, 21, 7, 46, 79]
abbrev dktX7_unites_2 : List UInt8 := dkwX7_unites_2 ++ dktX7_unites_3
def dkwX7_unites_1 : List UInt8 := [54, 6, 3, 54, 7, 21, 7, 42, 180, 0, 250, 162, 0, 40, 43, 21, 7, 43, 21, 7, 46, 21, 4]
abbrev dktX7_unites_1 : List UInt8 := dkwX7_unites_1 ++ dktX7_unites_2
def dkwX7_unites_0 : List UInt8 := [43, 28, 46, 54, 4, 43, 29, 46, 54, 5, 21, 4, 21, 5, 162, 0, 8, 21, 4, 167, 0, 5, 21, 5]
abbrev dktX7_unites_0 : List UInt8 := dkwX7_unites_0 ++ dktX7_unites_1
theorem dksX7_unites_0 : cX7_unites.data.toList.drop 0 = dktX7_unites_0 := by decide +kernel
theorem dksX7_unites_1 : cX7_unites.data.toList.drop 24 = dktX7_unites_1 := dk_seg dksX7_unites_0 24 rfl rfl
theorem dksX7_unites_2 : cX7_unites.data.toList.drop 47 = dktX7_unites_2 := dk_seg dksX7_unites_1 23 rfl rfl
theorem dksX7_unites_3 : cX7_unites.data.toList.drop 69 = dktX7_unites_3 := dk_seg dksX7_unites_2 22 rfl rfl
theorem dX7_unites_0 : decode cX7_unites 0 = .ok (.aload_n 1, 1) := dk_43 (dk_at dksX7_unites_0 0 rfl rfl)
theorem dX7_unites_1 : decode cX7_unites 1 = .ok (.iload_n 2, 1) := dk_28 (dk_at dksX7_unites_0 1 rfl rfl)
theorem dX7_unites_2 : decode cX7_unites 2 = .ok (.iaload, 1) := dk_46 (dk_at dksX7_unites_0 2 rfl rfl)
theorem dX7_unites_3 : decode cX7_unites 3 = .ok (.istore 4, 2) := dk_54 4 (dk_at dksX7_unites_0 3 rfl rfl)
theorem dX7_unites_5 : decode cX7_unites 5 = .ok (.aload_n 1, 1) := dk_43 (dk_at dksX7_unites_0 5 rfl rfl)
theorem dX7_unites_6 : decode cX7_unites 6 = .ok (.iload_n 3, 1) := dk_29 (dk_at dksX7_unites_0 6 rfl rfl)
theorem dX7_unites_7 : decode cX7_unites 7 = .ok (.iaload, 1) := dk_46 (dk_at dksX7_unites_0 7 rfl rfl)
theorem dX7_unites_8 : decode cX7_unites 8 = .ok (.istore 5, 2) := dk_54 5 (dk_at dksX7_unites_0 8 rfl rfl)
theorem dX7_unites_10 : decode cX7_unites 10 = .ok (.iload 4, 2) := dk_21 4 (dk_at dksX7_unites_0 10 rfl rfl)
theorem dX7_unites_12 : decode cX7_unites 12 = .ok (.iload 5, 2) := dk_21 5 (dk_at dksX7_unites_0 12 rfl rfl)
theorem dX7_unites_14 : decode cX7_unites 14 = .ok (.if_icmp .ge 8, 3) := dk_162 0 8 (dk_at dksX7_unites_0 14 rfl rfl)
theorem dX7_unites_17 : decode cX7_unites 17 = .ok (.iload 4, 2) := dk_21 4 (dk_at dksX7_unites_0 17 rfl rfl)
theorem dX7_unites_19 : decode cX7_unites 19 = .ok (.goto 5, 3) := dk_167 0 5 (dk_at dksX7_unites_0 19 rfl rfl)
theorem dX7_unites_22 : decode cX7_unites 22 = .ok (.iload 5, 2) := dk_21 5 (dk_at dksX7_unites_0 22 rfl rfl)
theorem dX7_unites_24 : decode cX7_unites 24 = .ok (.istore 6, 2) := dk_54 6 (dk_at dksX7_unites_1 0 rfl rfl)
theorem dX7_unites_26 : decode cX7_unites 26 = .ok (.iconst 0, 1) := dk_3 (dk_at dksX7_unites_1 2 rfl rfl)
theorem dX7_unites_27 : decode cX7_unites 27 = .ok (.istore 7, 2) := dk_54 7 (dk_at dksX7_unites_1 3 rfl rfl)
theorem dX7_unites_29 : decode cX7_unites 29 = .ok (.iload 7, 2) := dk_21 7 (dk_at dksX7_unites_1 5 rfl rfl)
theorem dX7_unites_31 : decode cX7_unites 31 = .ok (.aload_n 0, 1) := dk_42 (dk_at dksX7_unites_1 7 rfl rfl)
theorem dX7_unites_32 : decode cX7_unites 32 = .ok (.getfield 250, 3) := dk_180 0 250 (dk_at dksX7_unites_1 8 rfl rfl)
theorem dX7_unites_35 : decode cX7_unites 35 = .ok (.if_icmp .ge 40, 3) := dk_162 0 40 (dk_at dksX7_unites_1 11 rfl rfl)
theorem dX7_unites_38 : decode cX7_unites 38 = .ok (.aload_n 1, 1) := dk_43 (dk_at dksX7_unites_1 14 rfl rfl)
theorem dX7_unites_39 : decode cX7_unites 39 = .ok (.iload 7, 2) := dk_21 7 (dk_at dksX7_unites_1 15 rfl rfl)
theorem dX7_unites_41 : decode cX7_unites 41 = .ok (.aload_n 1, 1) := dk_43 (dk_at dksX7_unites_1 17 rfl rfl)
theorem dX7_unites_42 : decode cX7_unites 42 = .ok (.iload 7, 2) := dk_21 7 (dk_at dksX7_unites_1 18 rfl rfl)
theorem dX7_unites_44 : decode cX7_unites 44 = .ok (.iaload, 1) := dk_46 (dk_at dksX7_unites_1 20 rfl rfl)
theorem dX7_unites_45 : decode cX7_unites 45 = .ok (.iload 4, 2) := dk_21 4 (dk_at dksX7_unites_1 21 rfl rfl)
theorem dX7_unites_47 : decode cX7_unites 47 = .ok (.if_icmp .eq 12, 3) := dk_159 0 12 (dk_at dksX7_unites_2 0 rfl rfl)
theorem dX7_unites_50 : decode cX7_unites 50 = .ok (.aload_n 1, 1) := dk_43 (dk_at dksX7_unites_2 3 rfl rfl)
theorem dX7_unites_51 : decode cX7_unites 51 = .ok (.iload 7, 2) := dk_21 7 (dk_at dksX7_unites_2 4 rfl rfl)
theorem dX7_unites_53 : decode cX7_unites 53 = .ok (.iaload, 1) := dk_46 (dk_at dksX7_unites_2 6 rfl rfl)
theorem dX7_unites_54 : decode cX7_unites 54 = .ok (.iload 5, 2) := dk_21 5 (dk_at dksX7_unites_2 7 rfl rfl)
theorem dX7_unites_56 : decode cX7_unites 56 = .ok (.if_icmp .ne 8, 3) := dk_160 0 8 (dk_at dksX7_unites_2 9 rfl rfl)
theorem dX7_unites_59 : decode cX7_unites 59 = .ok (.iload 6, 2) := dk_21 6 (dk_at dksX7_unites_2 12 rfl rfl)
theorem dX7_unites_61 : decode cX7_unites 61 = .ok (.goto 7, 3) := dk_167 0 7 (dk_at dksX7_unites_2 14 rfl rfl)
theorem dX7_unites_64 : decode cX7_unites 64 = .ok (.aload_n 1, 1) := dk_43 (dk_at dksX7_unites_2 17 rfl rfl)
theorem dX7_unites_65 : decode cX7_unites 65 = .ok (.iload 7, 2) := dk_21 7 (dk_at dksX7_unites_2 18 rfl rfl)
theorem dX7_unites_67 : decode cX7_unites 67 = .ok (.iaload, 1) := dk_46 (dk_at dksX7_unites_2 20 rfl rfl)
theorem dX7_unites_68 : decode cX7_unites 68 = .ok (.iastore, 1) := dk_79 (dk_at dksX7_unites_2 21 rfl rfl)
theorem dX7_unites_69 : decode cX7_unites 69 = .ok (.iinc 7 1, 3) := dk_132 7 1 (dk_at dksX7_unites_3 0 rfl rfl)
theorem dX7_unites_72 : decode cX7_unites 72 = .ok (.goto (-43), 3) := dk_167 255 213 (dk_at dksX7_unites_3 3 rfl rfl)
theorem dX7_unites_75 : decode cX7_unites 75 = .ok (.return_, 1) := dk_177 (dk_at dksX7_unites_3 6 rfl rfl)
abbrev cX7_comesSame : ByteArray := prog_14_method_37_code
def yX7_comesSame : MethodName := ⟨RX7, "comesSame", "(II)V"⟩
def dkwX7_comesSame_2 : List UInt8 := [27, 28, 42, 180, 1, 31, 4, 100, 182, 1, 21, 42, 182, 1, 28, 177]
abbrev dktX7_comesSame_2 : List UInt8 := dkwX7_comesSame_2 ++ []
def dkwX7_comesSame_1 : List UInt8 := [180, 1, 31, 4, 96, 181, 1, 31, 42, 180, 0, 50, 27, 46, 42, 180, 0, 50, 28, 46, 159, 0, 19, 42]
abbrev dktX7_comesSame_1 : List UInt8 := dkwX7_comesSame_1 ++ dktX7_comesSame_2
def dkwX7_comesSame_0 : List UInt8 := [42, 180, 0, 38, 42, 180, 1, 31, 27, 79, 42, 180, 0, 41, 42, 180, 1, 31, 28, 79, 42, 89]
abbrev dktX7_comesSame_0 : List UInt8 := dkwX7_comesSame_0 ++ dktX7_comesSame_1
theorem dksX7_comesSame_0 : cX7_comesSame.data.toList.drop 0 = dktX7_comesSame_0 := by decide +kernel
theorem dksX7_comesSame_1 : cX7_comesSame.data.toList.drop 22 = dktX7_comesSame_1 := dk_seg dksX7_comesSame_0 22 rfl rfl
theorem dksX7_comesSame_2 : cX7_comesSame.data.toList.drop 46 = dktX7_comesSame_2 := dk_seg dksX7_comesSame_1 24 rfl rfl
theorem dX7_comesSame_0 : decode cX7_comesSame 0 = .ok (.aload_n 0, 1) := dk_42 (dk_at dksX7_comesSame_0 0 rfl rfl)
theorem dX7_comesSame_1 : decode cX7_comesSame 1 = .ok (.getfield 38, 3) := dk_180 0 38 (dk_at dksX7_comesSame_0 1 rfl rfl)
theorem dX7_comesSame_4 : decode cX7_comesSame 4 = .ok (.aload_n 0, 1) := dk_42 (dk_at dksX7_comesSame_0 4 rfl rfl)
theorem dX7_comesSame_5 : decode cX7_comesSame 5 = .ok (.getfield 287, 3) := dk_180 1 31 (dk_at dksX7_comesSame_0 5 rfl rfl)
theorem dX7_comesSame_8 : decode cX7_comesSame 8 = .ok (.iload_n 1, 1) := dk_27 (dk_at dksX7_comesSame_0 8 rfl rfl)
theorem dX7_comesSame_9 : decode cX7_comesSame 9 = .ok (.iastore, 1) := dk_79 (dk_at dksX7_comesSame_0 9 rfl rfl)
theorem dX7_comesSame_10 : decode cX7_comesSame 10 = .ok (.aload_n 0, 1) := dk_42 (dk_at dksX7_comesSame_0 10 rfl rfl)
theorem dX7_comesSame_11 : decode cX7_comesSame 11 = .ok (.getfield 41, 3) := dk_180 0 41 (dk_at dksX7_comesSame_0 11 rfl rfl)
theorem dX7_comesSame_14 : decode cX7_comesSame 14 = .ok (.aload_n 0, 1) := dk_42 (dk_at dksX7_comesSame_0 14 rfl rfl)
theorem dX7_comesSame_15 : decode cX7_comesSame 15 = .ok (.getfield 287, 3) := dk_180 1 31 (dk_at dksX7_comesSame_0 15 rfl rfl)
theorem dX7_comesSame_18 : decode cX7_comesSame 18 = .ok (.iload_n 2, 1) := dk_28 (dk_at dksX7_comesSame_0 18 rfl rfl)
theorem dX7_comesSame_19 : decode cX7_comesSame 19 = .ok (.iastore, 1) := dk_79 (dk_at dksX7_comesSame_0 19 rfl rfl)
theorem dX7_comesSame_20 : decode cX7_comesSame 20 = .ok (.aload_n 0, 1) := dk_42 (dk_at dksX7_comesSame_0 20 rfl rfl)
theorem dX7_comesSame_21 : decode cX7_comesSame 21 = .ok (.dup, 1) := dk_89 (dk_at dksX7_comesSame_0 21 rfl rfl)
theorem dX7_comesSame_22 : decode cX7_comesSame 22 = .ok (.getfield 287, 3) := dk_180 1 31 (dk_at dksX7_comesSame_1 0 rfl rfl)
theorem dX7_comesSame_25 : decode cX7_comesSame 25 = .ok (.iconst 1, 1) := dk_4 (dk_at dksX7_comesSame_1 3 rfl rfl)
theorem dX7_comesSame_26 : decode cX7_comesSame 26 = .ok (.iadd, 1) := dk_96 (dk_at dksX7_comesSame_1 4 rfl rfl)
theorem dX7_comesSame_27 : decode cX7_comesSame 27 = .ok (.putfield 287, 3) := dk_181 1 31 (dk_at dksX7_comesSame_1 5 rfl rfl)
theorem dX7_comesSame_30 : decode cX7_comesSame 30 = .ok (.aload_n 0, 1) := dk_42 (dk_at dksX7_comesSame_1 8 rfl rfl)
theorem dX7_comesSame_31 : decode cX7_comesSame 31 = .ok (.getfield 50, 3) := dk_180 0 50 (dk_at dksX7_comesSame_1 9 rfl rfl)
theorem dX7_comesSame_34 : decode cX7_comesSame 34 = .ok (.iload_n 1, 1) := dk_27 (dk_at dksX7_comesSame_1 12 rfl rfl)
theorem dX7_comesSame_35 : decode cX7_comesSame 35 = .ok (.iaload, 1) := dk_46 (dk_at dksX7_comesSame_1 13 rfl rfl)
theorem dX7_comesSame_36 : decode cX7_comesSame 36 = .ok (.aload_n 0, 1) := dk_42 (dk_at dksX7_comesSame_1 14 rfl rfl)
theorem dX7_comesSame_37 : decode cX7_comesSame 37 = .ok (.getfield 50, 3) := dk_180 0 50 (dk_at dksX7_comesSame_1 15 rfl rfl)
theorem dX7_comesSame_40 : decode cX7_comesSame 40 = .ok (.iload_n 2, 1) := dk_28 (dk_at dksX7_comesSame_1 18 rfl rfl)
theorem dX7_comesSame_41 : decode cX7_comesSame 41 = .ok (.iaload, 1) := dk_46 (dk_at dksX7_comesSame_1 19 rfl rfl)
theorem dX7_comesSame_42 : decode cX7_comesSame 42 = .ok (.if_icmp .eq 19, 3) := dk_159 0 19 (dk_at dksX7_comesSame_1 20 rfl rfl)
theorem dX7_comesSame_45 : decode cX7_comesSame 45 = .ok (.aload_n 0, 1) := dk_42 (dk_at dksX7_comesSame_1 23 rfl rfl)
theorem dX7_comesSame_46 : decode cX7_comesSame 46 = .ok (.iload_n 1, 1) := dk_27 (dk_at dksX7_comesSame_2 0 rfl rfl)
theorem dX7_comesSame_47 : decode cX7_comesSame 47 = .ok (.iload_n 2, 1) := dk_28 (dk_at dksX7_comesSame_2 1 rfl rfl)
theorem dX7_comesSame_48 : decode cX7_comesSame 48 = .ok (.aload_n 0, 1) := dk_42 (dk_at dksX7_comesSame_2 2 rfl rfl)
theorem dX7_comesSame_49 : decode cX7_comesSame 49 = .ok (.getfield 287, 3) := dk_180 1 31 (dk_at dksX7_comesSame_2 3 rfl rfl)
theorem dX7_comesSame_52 : decode cX7_comesSame 52 = .ok (.iconst 1, 1) := dk_4 (dk_at dksX7_comesSame_2 6 rfl rfl)
theorem dX7_comesSame_53 : decode cX7_comesSame 53 = .ok (.isub, 1) := dk_100 (dk_at dksX7_comesSame_2 7 rfl rfl)
theorem dX7_comesSame_54 : decode cX7_comesSame 54 = .ok (.invokevirtual 277, 3) := dk_182 1 21 (dk_at dksX7_comesSame_2 8 rfl rfl)
theorem dX7_comesSame_57 : decode cX7_comesSame 57 = .ok (.aload_n 0, 1) := dk_42 (dk_at dksX7_comesSame_2 11 rfl rfl)
theorem dX7_comesSame_58 : decode cX7_comesSame 58 = .ok (.invokevirtual 284, 3) := dk_182 1 28 (dk_at dksX7_comesSame_2 12 rfl rfl)
theorem dX7_comesSame_61 : decode cX7_comesSame 61 = .ok (.return_, 1) := dk_177 (dk_at dksX7_comesSame_2 15 rfl rfl)
abbrev cX7_fault : ByteArray := prog_14_method_25_code
def yX7_fault : MethodName := ⟨RX7, "fault", "()I"⟩
def dkwX7_fault_0 : List UInt8 := [42, 3, 181, 0, 103, 42, 180, 0, 226, 172]
abbrev dktX7_fault_0 : List UInt8 := dkwX7_fault_0 ++ []
theorem dksX7_fault_0 : cX7_fault.data.toList.drop 0 = dktX7_fault_0 := by decide +kernel
theorem dX7_fault_0 : decode cX7_fault 0 = .ok (.aload_n 0, 1) := dk_42 (dk_at dksX7_fault_0 0 rfl rfl)
theorem dX7_fault_1 : decode cX7_fault 1 = .ok (.iconst 0, 1) := dk_3 (dk_at dksX7_fault_0 1 rfl rfl)
theorem dX7_fault_2 : decode cX7_fault 2 = .ok (.putfield 103, 3) := dk_181 0 103 (dk_at dksX7_fault_0 2 rfl rfl)
theorem dX7_fault_5 : decode cX7_fault 5 = .ok (.aload_n 0, 1) := dk_42 (dk_at dksX7_fault_0 5 rfl rfl)
theorem dX7_fault_6 : decode cX7_fault 6 = .ok (.getfield 226, 3) := dk_180 0 226 (dk_at dksX7_fault_0 6 rfl rfl)
theorem dX7_fault_9 : decode cX7_fault 9 = .ok (.ireturn, 1) := dk_172 (dk_at dksX7_fault_0 9 rfl rfl)
abbrev cX7_where : ByteArray := prog_14_method_26_code
def yX7_where : MethodName := ⟨RX7, "where", "()I"⟩
def dkwX7_where_0 : List UInt8 := [42, 3, 181, 0, 103, 42, 180, 0, 106, 7, 160, 0, 10, 42, 180, 0, 9, 167, 0, 4, 2, 172]
abbrev dktX7_where_0 : List UInt8 := dkwX7_where_0 ++ []
theorem dksX7_where_0 : cX7_where.data.toList.drop 0 = dktX7_where_0 := by decide +kernel
theorem dX7_where_0 : decode cX7_where 0 = .ok (.aload_n 0, 1) := dk_42 (dk_at dksX7_where_0 0 rfl rfl)
theorem dX7_where_1 : decode cX7_where 1 = .ok (.iconst 0, 1) := dk_3 (dk_at dksX7_where_0 1 rfl rfl)
theorem dX7_where_2 : decode cX7_where 2 = .ok (.putfield 103, 3) := dk_181 0 103 (dk_at dksX7_where_0 2 rfl rfl)
theorem dX7_where_5 : decode cX7_where 5 = .ok (.aload_n 0, 1) := dk_42 (dk_at dksX7_where_0 5 rfl rfl)
theorem dX7_where_6 : decode cX7_where 6 = .ok (.getfield 106, 3) := dk_180 0 106 (dk_at dksX7_where_0 6 rfl rfl)
theorem dX7_where_9 : decode cX7_where 9 = .ok (.iconst 4, 1) := dk_7 (dk_at dksX7_where_0 9 rfl rfl)
theorem dX7_where_10 : decode cX7_where 10 = .ok (.if_icmp .ne 10, 3) := dk_160 0 10 (dk_at dksX7_where_0 10 rfl rfl)
theorem dX7_where_13 : decode cX7_where 13 = .ok (.aload_n 0, 1) := dk_42 (dk_at dksX7_where_0 13 rfl rfl)
theorem dX7_where_14 : decode cX7_where 14 = .ok (.getfield 9, 3) := dk_180 0 9 (dk_at dksX7_where_0 14 rfl rfl)
theorem dX7_where_17 : decode cX7_where 17 = .ok (.goto 4, 3) := dk_167 0 4 (dk_at dksX7_where_0 17 rfl rfl)
theorem dX7_where_20 : decode cX7_where 20 = .ok (.iconst (-1), 1) := dk_2 (dk_at dksX7_where_0 20 rfl rfl)
theorem dX7_where_21 : decode cX7_where 21 = .ok (.ireturn, 1) := dk_172 (dk_at dksX7_where_0 21 rfl rfl)
abbrev cX7_about : ByteArray := prog_14_method_46_code
def yX7_about : MethodName := ⟨RX7, "about", "(I)I"⟩
def dkwX7_about_4 : List UInt8 := [180, 0, 50, 182, 1, 58, 172]
abbrev dktX7_about_4 : List UInt8 := dkwX7_about_4 ++ []
def dkwX7_about_3 : List UInt8 := [180, 0, 50, 182, 1, 54, 172, 42, 180, 0, 238, 42, 180, 0, 241, 100, 172, 42, 180, 1, 3, 172, 42, 42]
abbrev dktX7_about_3 : List UInt8 := dkwX7_about_3 ++ dktX7_about_4
def dkwX7_about_2 : List UInt8 := [42, 180, 0, 235, 172, 42, 180, 0, 250, 172, 42, 180, 1, 31, 172, 42, 180, 1, 41, 172, 42, 42]
abbrev dktX7_about_2 : List UInt8 := dkwX7_about_2 ++ dktX7_about_3
def dkwX7_about_1 : List UInt8 := [170, 0, 0, 0, 0, 0, 0, 88, 0, 0, 0, 0, 0, 0, 0, 6, 0, 0, 0, 44, 0, 0, 0, 49, 0, 0, 0, 54, 0, 0, 0, 59, 0, 0, 0, 64, 0, 0, 0, 73, 0, 0, 0, 83]
abbrev dktX7_about_1 : List UInt8 := dkwX7_about_1 ++ dktX7_about_2
def dkwX7_about_0 : List UInt8 := [42, 27, 3, 16, 7, 184, 0, 132, 184, 1, 50, 182, 0, 223, 153, 0, 5, 2, 172, 27]
abbrev dktX7_about_0 : List UInt8 := dkwX7_about_0 ++ dktX7_about_1
theorem dksX7_about_0 : cX7_about.data.toList.drop 0 = dktX7_about_0 := by decide +kernel
theorem dksX7_about_1 : cX7_about.data.toList.drop 20 = dktX7_about_1 := dk_seg dksX7_about_0 20 rfl rfl
theorem dksX7_about_2 : cX7_about.data.toList.drop 64 = dktX7_about_2 := dk_seg dksX7_about_1 44 rfl rfl
theorem dksX7_about_3 : cX7_about.data.toList.drop 86 = dktX7_about_3 := dk_seg dksX7_about_2 22 rfl rfl
theorem dksX7_about_4 : cX7_about.data.toList.drop 110 = dktX7_about_4 := dk_seg dksX7_about_3 24 rfl rfl
theorem dX7_about_0 : decode cX7_about 0 = .ok (.aload_n 0, 1) := dk_42 (dk_at dksX7_about_0 0 rfl rfl)
theorem dX7_about_1 : decode cX7_about 1 = .ok (.iload_n 1, 1) := dk_27 (dk_at dksX7_about_0 1 rfl rfl)
theorem dX7_about_2 : decode cX7_about 2 = .ok (.iconst 0, 1) := dk_3 (dk_at dksX7_about_0 2 rfl rfl)
theorem dX7_about_3 : decode cX7_about 3 = .ok (.bipush 7, 2) := dk_16 7 (dk_at dksX7_about_0 3 rfl rfl)
theorem dX7_about_5 : decode cX7_about 5 = .ok (.invokestatic 132, 3) := dk_184 0 132 (dk_at dksX7_about_0 5 rfl rfl)
theorem dX7_about_8 : decode cX7_about 8 = .ok (.invokestatic 306, 3) := dk_184 1 50 (dk_at dksX7_about_0 8 rfl rfl)
theorem dX7_about_11 : decode cX7_about 11 = .ok (.invokevirtual 223, 3) := dk_182 0 223 (dk_at dksX7_about_0 11 rfl rfl)
theorem dX7_about_14 : decode cX7_about 14 = .ok (.ifCond .eq 5, 3) := dk_153 0 5 (dk_at dksX7_about_0 14 rfl rfl)
theorem dX7_about_17 : decode cX7_about 17 = .ok (.iconst (-1), 1) := dk_2 (dk_at dksX7_about_0 17 rfl rfl)
theorem dX7_about_18 : decode cX7_about 18 = .ok (.ireturn, 1) := dk_172 (dk_at dksX7_about_0 18 rfl rfl)
theorem dX7_about_19 : decode cX7_about 19 = .ok (.iload_n 1, 1) := dk_27 (dk_at dksX7_about_0 19 rfl rfl)
theorem dX7_about_20 : decode cX7_about 20 = .ok (.tableswitch 88 0 6 #[44, 49, 54, 59, 64, 73, 83], 44) := by decide +kernel
theorem dX7_about_64 : decode cX7_about 64 = .ok (.aload_n 0, 1) := dk_42 (dk_at dksX7_about_2 0 rfl rfl)
theorem dX7_about_65 : decode cX7_about 65 = .ok (.getfield 235, 3) := dk_180 0 235 (dk_at dksX7_about_2 1 rfl rfl)
theorem dX7_about_68 : decode cX7_about 68 = .ok (.ireturn, 1) := dk_172 (dk_at dksX7_about_2 4 rfl rfl)
theorem dX7_about_69 : decode cX7_about 69 = .ok (.aload_n 0, 1) := dk_42 (dk_at dksX7_about_2 5 rfl rfl)
theorem dX7_about_70 : decode cX7_about 70 = .ok (.getfield 250, 3) := dk_180 0 250 (dk_at dksX7_about_2 6 rfl rfl)
theorem dX7_about_73 : decode cX7_about 73 = .ok (.ireturn, 1) := dk_172 (dk_at dksX7_about_2 9 rfl rfl)
theorem dX7_about_74 : decode cX7_about 74 = .ok (.aload_n 0, 1) := dk_42 (dk_at dksX7_about_2 10 rfl rfl)
theorem dX7_about_75 : decode cX7_about 75 = .ok (.getfield 287, 3) := dk_180 1 31 (dk_at dksX7_about_2 11 rfl rfl)
theorem dX7_about_78 : decode cX7_about 78 = .ok (.ireturn, 1) := dk_172 (dk_at dksX7_about_2 14 rfl rfl)
theorem dX7_about_79 : decode cX7_about 79 = .ok (.aload_n 0, 1) := dk_42 (dk_at dksX7_about_2 15 rfl rfl)
theorem dX7_about_80 : decode cX7_about 80 = .ok (.getfield 297, 3) := dk_180 1 41 (dk_at dksX7_about_2 16 rfl rfl)
theorem dX7_about_83 : decode cX7_about 83 = .ok (.ireturn, 1) := dk_172 (dk_at dksX7_about_2 19 rfl rfl)
theorem dX7_about_84 : decode cX7_about 84 = .ok (.aload_n 0, 1) := dk_42 (dk_at dksX7_about_2 20 rfl rfl)
theorem dX7_about_85 : decode cX7_about 85 = .ok (.aload_n 0, 1) := dk_42 (dk_at dksX7_about_2 21 rfl rfl)
theorem dX7_about_86 : decode cX7_about 86 = .ok (.getfield 50, 3) := dk_180 0 50 (dk_at dksX7_about_3 0 rfl rfl)
theorem dX7_about_89 : decode cX7_about 89 = .ok (.invokevirtual 310, 3) := dk_182 1 54 (dk_at dksX7_about_3 3 rfl rfl)
theorem dX7_about_92 : decode cX7_about 92 = .ok (.ireturn, 1) := dk_172 (dk_at dksX7_about_3 6 rfl rfl)
theorem dX7_about_93 : decode cX7_about 93 = .ok (.aload_n 0, 1) := dk_42 (dk_at dksX7_about_3 7 rfl rfl)
theorem dX7_about_94 : decode cX7_about 94 = .ok (.getfield 238, 3) := dk_180 0 238 (dk_at dksX7_about_3 8 rfl rfl)
theorem dX7_about_97 : decode cX7_about 97 = .ok (.aload_n 0, 1) := dk_42 (dk_at dksX7_about_3 11 rfl rfl)
theorem dX7_about_98 : decode cX7_about 98 = .ok (.getfield 241, 3) := dk_180 0 241 (dk_at dksX7_about_3 12 rfl rfl)
theorem dX7_about_101 : decode cX7_about 101 = .ok (.isub, 1) := dk_100 (dk_at dksX7_about_3 15 rfl rfl)
theorem dX7_about_102 : decode cX7_about 102 = .ok (.ireturn, 1) := dk_172 (dk_at dksX7_about_3 16 rfl rfl)
theorem dX7_about_103 : decode cX7_about 103 = .ok (.aload_n 0, 1) := dk_42 (dk_at dksX7_about_3 17 rfl rfl)
theorem dX7_about_104 : decode cX7_about 104 = .ok (.getfield 259, 3) := dk_180 1 3 (dk_at dksX7_about_3 18 rfl rfl)
theorem dX7_about_107 : decode cX7_about 107 = .ok (.ireturn, 1) := dk_172 (dk_at dksX7_about_3 21 rfl rfl)
theorem dX7_about_108 : decode cX7_about 108 = .ok (.aload_n 0, 1) := dk_42 (dk_at dksX7_about_3 22 rfl rfl)
theorem dX7_about_109 : decode cX7_about 109 = .ok (.aload_n 0, 1) := dk_42 (dk_at dksX7_about_3 23 rfl rfl)
theorem dX7_about_110 : decode cX7_about 110 = .ok (.getfield 50, 3) := dk_180 0 50 (dk_at dksX7_about_4 0 rfl rfl)
theorem dX7_about_113 : decode cX7_about 113 = .ok (.invokevirtual 314, 3) := dk_182 1 58 (dk_at dksX7_about_4 3 rfl rfl)
theorem dX7_about_116 : decode cX7_about 116 = .ok (.ireturn, 1) := dk_172 (dk_at dksX7_about_4 6 rfl rfl)
abbrev cX7_unless : ByteArray := prog_14_method_6_code
def yX7_unless : MethodName := ⟨RX7, "unless", "(Z)I"⟩
def dkwX7_unless_0 : List UInt8 := [26, 153, 0, 7, 3, 167, 0, 4, 4, 172]
abbrev dktX7_unless_0 : List UInt8 := dkwX7_unless_0 ++ []
theorem dksX7_unless_0 : cX7_unless.data.toList.drop 0 = dktX7_unless_0 := by decide +kernel
theorem dX7_unless_0 : decode cX7_unless 0 = .ok (.iload_n 0, 1) := dk_26 (dk_at dksX7_unless_0 0 rfl rfl)
theorem dX7_unless_1 : decode cX7_unless 1 = .ok (.ifCond .eq 7, 3) := dk_153 0 7 (dk_at dksX7_unless_0 1 rfl rfl)
theorem dX7_unless_4 : decode cX7_unless 4 = .ok (.iconst 0, 1) := dk_3 (dk_at dksX7_unless_0 4 rfl rfl)
theorem dX7_unless_5 : decode cX7_unless 5 = .ok (.goto 4, 3) := dk_167 0 4 (dk_at dksX7_unless_0 5 rfl rfl)
theorem dX7_unless_8 : decode cX7_unless 8 = .ok (.iconst 1, 1) := dk_4 (dk_at dksX7_unless_0 8 rfl rfl)
theorem dX7_unless_9 : decode cX7_unless 9 = .ok (.ireturn, 1) := dk_172 (dk_at dksX7_unless_0 9 rfl rfl)
abbrev cX7_groupsIn : ByteArray := prog_14_method_42_code
def yX7_groupsIn : MethodName := ⟨RX7, "groupsIn", "([I)I"⟩
def dkwX7_groupsIn_1 : List UInt8 := [3, 96, 61, 132, 3, 1, 167, 255, 230, 28, 172]
abbrev dktX7_groupsIn_1 : List UInt8 := dkwX7_groupsIn_1 ++ []
def dkwX7_groupsIn_0 : List UInt8 := [3, 61, 3, 62, 29, 42, 180, 0, 250, 162, 0, 24, 28, 43, 29, 46, 29, 160, 0, 7, 4, 167, 0, 4]
abbrev dktX7_groupsIn_0 : List UInt8 := dkwX7_groupsIn_0 ++ dktX7_groupsIn_1
theorem dksX7_groupsIn_0 : cX7_groupsIn.data.toList.drop 0 = dktX7_groupsIn_0 := by decide +kernel
theorem dksX7_groupsIn_1 : cX7_groupsIn.data.toList.drop 24 = dktX7_groupsIn_1 := dk_seg dksX7_groupsIn_0 24 rfl rfl
theorem dX7_groupsIn_0 : decode cX7_groupsIn 0 = .ok (.iconst 0, 1) := dk_3 (dk_at dksX7_groupsIn_0 0 rfl rfl)
theorem dX7_groupsIn_1 : decode cX7_groupsIn 1 = .ok (.istore_n 2, 1) := dk_61 (dk_at dksX7_groupsIn_0 1 rfl rfl)
theorem dX7_groupsIn_2 : decode cX7_groupsIn 2 = .ok (.iconst 0, 1) := dk_3 (dk_at dksX7_groupsIn_0 2 rfl rfl)
theorem dX7_groupsIn_3 : decode cX7_groupsIn 3 = .ok (.istore_n 3, 1) := dk_62 (dk_at dksX7_groupsIn_0 3 rfl rfl)
theorem dX7_groupsIn_4 : decode cX7_groupsIn 4 = .ok (.iload_n 3, 1) := dk_29 (dk_at dksX7_groupsIn_0 4 rfl rfl)
theorem dX7_groupsIn_5 : decode cX7_groupsIn 5 = .ok (.aload_n 0, 1) := dk_42 (dk_at dksX7_groupsIn_0 5 rfl rfl)
theorem dX7_groupsIn_6 : decode cX7_groupsIn 6 = .ok (.getfield 250, 3) := dk_180 0 250 (dk_at dksX7_groupsIn_0 6 rfl rfl)
theorem dX7_groupsIn_9 : decode cX7_groupsIn 9 = .ok (.if_icmp .ge 24, 3) := dk_162 0 24 (dk_at dksX7_groupsIn_0 9 rfl rfl)
theorem dX7_groupsIn_12 : decode cX7_groupsIn 12 = .ok (.iload_n 2, 1) := dk_28 (dk_at dksX7_groupsIn_0 12 rfl rfl)
theorem dX7_groupsIn_13 : decode cX7_groupsIn 13 = .ok (.aload_n 1, 1) := dk_43 (dk_at dksX7_groupsIn_0 13 rfl rfl)
theorem dX7_groupsIn_14 : decode cX7_groupsIn 14 = .ok (.iload_n 3, 1) := dk_29 (dk_at dksX7_groupsIn_0 14 rfl rfl)
theorem dX7_groupsIn_15 : decode cX7_groupsIn 15 = .ok (.iaload, 1) := dk_46 (dk_at dksX7_groupsIn_0 15 rfl rfl)
theorem dX7_groupsIn_16 : decode cX7_groupsIn 16 = .ok (.iload_n 3, 1) := dk_29 (dk_at dksX7_groupsIn_0 16 rfl rfl)
theorem dX7_groupsIn_17 : decode cX7_groupsIn 17 = .ok (.if_icmp .ne 7, 3) := dk_160 0 7 (dk_at dksX7_groupsIn_0 17 rfl rfl)
theorem dX7_groupsIn_20 : decode cX7_groupsIn 20 = .ok (.iconst 1, 1) := dk_4 (dk_at dksX7_groupsIn_0 20 rfl rfl)
theorem dX7_groupsIn_21 : decode cX7_groupsIn 21 = .ok (.goto 4, 3) := dk_167 0 4 (dk_at dksX7_groupsIn_0 21 rfl rfl)
theorem dX7_groupsIn_24 : decode cX7_groupsIn 24 = .ok (.iconst 0, 1) := dk_3 (dk_at dksX7_groupsIn_1 0 rfl rfl)
theorem dX7_groupsIn_25 : decode cX7_groupsIn 25 = .ok (.iadd, 1) := dk_96 (dk_at dksX7_groupsIn_1 1 rfl rfl)
theorem dX7_groupsIn_26 : decode cX7_groupsIn 26 = .ok (.istore_n 2, 1) := dk_61 (dk_at dksX7_groupsIn_1 2 rfl rfl)
theorem dX7_groupsIn_27 : decode cX7_groupsIn 27 = .ok (.iinc 3 1, 3) := dk_132 3 1 (dk_at dksX7_groupsIn_1 3 rfl rfl)
theorem dX7_groupsIn_30 : decode cX7_groupsIn 30 = .ok (.goto (-26), 3) := dk_167 255 230 (dk_at dksX7_groupsIn_1 6 rfl rfl)
theorem dX7_groupsIn_33 : decode cX7_groupsIn 33 = .ok (.iload_n 2, 1) := dk_28 (dk_at dksX7_groupsIn_1 9 rfl rfl)
theorem dX7_groupsIn_34 : decode cX7_groupsIn 34 = .ok (.ireturn, 1) := dk_172 (dk_at dksX7_groupsIn_1 10 rfl rfl)
abbrev cX7_clashIn : ByteArray := prog_14_method_43_code
def yX7_clashIn : MethodName := ⟨RX7, "clashIn", "([I)I"⟩
def dkwX7_clashIn_1 : List UInt8 := [46, 46, 160, 0, 5, 28, 172, 132, 2, 1, 167, 255, 224, 16, 254, 172]
abbrev dktX7_clashIn_1 : List UInt8 := dkwX7_clashIn_1 ++ []
def dkwX7_clashIn_0 : List UInt8 := [3, 61, 28, 42, 180, 1, 41, 162, 0, 30, 43, 42, 180, 0, 44, 28, 46, 46, 43, 42, 180, 0, 47, 28]
abbrev dktX7_clashIn_0 : List UInt8 := dkwX7_clashIn_0 ++ dktX7_clashIn_1
theorem dksX7_clashIn_0 : cX7_clashIn.data.toList.drop 0 = dktX7_clashIn_0 := by decide +kernel
theorem dksX7_clashIn_1 : cX7_clashIn.data.toList.drop 24 = dktX7_clashIn_1 := dk_seg dksX7_clashIn_0 24 rfl rfl
theorem dX7_clashIn_0 : decode cX7_clashIn 0 = .ok (.iconst 0, 1) := dk_3 (dk_at dksX7_clashIn_0 0 rfl rfl)
theorem dX7_clashIn_1 : decode cX7_clashIn 1 = .ok (.istore_n 2, 1) := dk_61 (dk_at dksX7_clashIn_0 1 rfl rfl)
theorem dX7_clashIn_2 : decode cX7_clashIn 2 = .ok (.iload_n 2, 1) := dk_28 (dk_at dksX7_clashIn_0 2 rfl rfl)
theorem dX7_clashIn_3 : decode cX7_clashIn 3 = .ok (.aload_n 0, 1) := dk_42 (dk_at dksX7_clashIn_0 3 rfl rfl)
theorem dX7_clashIn_4 : decode cX7_clashIn 4 = .ok (.getfield 297, 3) := dk_180 1 41 (dk_at dksX7_clashIn_0 4 rfl rfl)
theorem dX7_clashIn_7 : decode cX7_clashIn 7 = .ok (.if_icmp .ge 30, 3) := dk_162 0 30 (dk_at dksX7_clashIn_0 7 rfl rfl)
theorem dX7_clashIn_10 : decode cX7_clashIn 10 = .ok (.aload_n 1, 1) := dk_43 (dk_at dksX7_clashIn_0 10 rfl rfl)
theorem dX7_clashIn_11 : decode cX7_clashIn 11 = .ok (.aload_n 0, 1) := dk_42 (dk_at dksX7_clashIn_0 11 rfl rfl)
theorem dX7_clashIn_12 : decode cX7_clashIn 12 = .ok (.getfield 44, 3) := dk_180 0 44 (dk_at dksX7_clashIn_0 12 rfl rfl)
theorem dX7_clashIn_15 : decode cX7_clashIn 15 = .ok (.iload_n 2, 1) := dk_28 (dk_at dksX7_clashIn_0 15 rfl rfl)
theorem dX7_clashIn_16 : decode cX7_clashIn 16 = .ok (.iaload, 1) := dk_46 (dk_at dksX7_clashIn_0 16 rfl rfl)
theorem dX7_clashIn_17 : decode cX7_clashIn 17 = .ok (.iaload, 1) := dk_46 (dk_at dksX7_clashIn_0 17 rfl rfl)
theorem dX7_clashIn_18 : decode cX7_clashIn 18 = .ok (.aload_n 1, 1) := dk_43 (dk_at dksX7_clashIn_0 18 rfl rfl)
theorem dX7_clashIn_19 : decode cX7_clashIn 19 = .ok (.aload_n 0, 1) := dk_42 (dk_at dksX7_clashIn_0 19 rfl rfl)
theorem dX7_clashIn_20 : decode cX7_clashIn 20 = .ok (.getfield 47, 3) := dk_180 0 47 (dk_at dksX7_clashIn_0 20 rfl rfl)
theorem dX7_clashIn_23 : decode cX7_clashIn 23 = .ok (.iload_n 2, 1) := dk_28 (dk_at dksX7_clashIn_0 23 rfl rfl)
theorem dX7_clashIn_24 : decode cX7_clashIn 24 = .ok (.iaload, 1) := dk_46 (dk_at dksX7_clashIn_1 0 rfl rfl)
theorem dX7_clashIn_25 : decode cX7_clashIn 25 = .ok (.iaload, 1) := dk_46 (dk_at dksX7_clashIn_1 1 rfl rfl)
theorem dX7_clashIn_26 : decode cX7_clashIn 26 = .ok (.if_icmp .ne 5, 3) := dk_160 0 5 (dk_at dksX7_clashIn_1 2 rfl rfl)
theorem dX7_clashIn_29 : decode cX7_clashIn 29 = .ok (.iload_n 2, 1) := dk_28 (dk_at dksX7_clashIn_1 5 rfl rfl)
theorem dX7_clashIn_30 : decode cX7_clashIn 30 = .ok (.ireturn, 1) := dk_172 (dk_at dksX7_clashIn_1 6 rfl rfl)
theorem dX7_clashIn_31 : decode cX7_clashIn 31 = .ok (.iinc 2 1, 3) := dk_132 2 1 (dk_at dksX7_clashIn_1 7 rfl rfl)
theorem dX7_clashIn_34 : decode cX7_clashIn 34 = .ok (.goto (-32), 3) := dk_167 255 224 (dk_at dksX7_clashIn_1 10 rfl rfl)
theorem dX7_clashIn_37 : decode cX7_clashIn 37 = .ok (.bipush (-2), 2) := dk_16 254 (dk_at dksX7_clashIn_1 13 rfl rfl)
theorem dX7_clashIn_39 : decode cX7_clashIn 39 = .ok (.ireturn, 1) := dk_172 (dk_at dksX7_clashIn_1 15 rfl rfl)
abbrev cX7_function : ByteArray := prog_14_method_47_code
def yX7_function : MethodName := ⟨RX7, "function", "(II)I"⟩
def dkwX7_function_6 : List UInt8 := [172]
abbrev dktX7_function_6 : List UInt8 := dkwX7_function_6 ++ []
def dkwX7_function_5 : List UInt8 := [28, 154, 0, 12, 42, 180, 0, 17, 27, 46, 167, 0, 14, 28, 4, 160, 0, 7, 29, 167, 0, 5, 21, 4]
abbrev dktX7_function_5 : List UInt8 := dkwX7_function_5 ++ dktX7_function_6
def dkwX7_function_4 : List UInt8 := [3, 96, 54, 4, 21, 5, 4, 42, 180, 0, 50, 21, 6, 46, 120, 128, 54, 5, 132, 6, 1, 167, 255, 191]
abbrev dktX7_function_4 : List UInt8 := dkwX7_function_4 ++ dktX7_function_5
def dkwX7_function_3 : List UInt8 := [132, 3, 1, 21, 4, 21, 5, 42, 180, 0, 50, 21, 6, 46, 122, 4, 126, 154, 0, 7, 4, 167, 0, 4]
abbrev dktX7_function_3 : List UInt8 := dkwX7_function_3 ++ dktX7_function_4
def dkwX7_function_2 : List UInt8 := [3, 54, 6, 21, 6, 42, 180, 0, 250, 162, 0, 62, 42, 180, 0, 32, 21, 6, 46, 27, 160, 0, 45]
abbrev dktX7_function_2 : List UInt8 := dkwX7_function_2 ++ dktX7_function_3
def dkwX7_function_1 : List UInt8 := [4, 167, 0, 4, 3, 184, 1, 50, 182, 0, 223, 153, 0, 5, 2, 172, 3, 62, 3, 54, 4, 3, 54, 5]
abbrev dktX7_function_1 : List UInt8 := dkwX7_function_1 ++ dktX7_function_2
def dkwX7_function_0 : List UInt8 := [42, 27, 3, 42, 180, 0, 235, 4, 100, 184, 0, 132, 153, 0, 16, 28, 3, 5, 184, 0, 132, 153, 0, 7]
abbrev dktX7_function_0 : List UInt8 := dkwX7_function_0 ++ dktX7_function_1
theorem dksX7_function_0 : cX7_function.data.toList.drop 0 = dktX7_function_0 := by decide +kernel
theorem dksX7_function_1 : cX7_function.data.toList.drop 24 = dktX7_function_1 := dk_seg dksX7_function_0 24 rfl rfl
theorem dksX7_function_2 : cX7_function.data.toList.drop 48 = dktX7_function_2 := dk_seg dksX7_function_1 24 rfl rfl
theorem dksX7_function_3 : cX7_function.data.toList.drop 71 = dktX7_function_3 := dk_seg dksX7_function_2 23 rfl rfl
theorem dksX7_function_4 : cX7_function.data.toList.drop 95 = dktX7_function_4 := dk_seg dksX7_function_3 24 rfl rfl
theorem dksX7_function_5 : cX7_function.data.toList.drop 119 = dktX7_function_5 := dk_seg dksX7_function_4 24 rfl rfl
theorem dksX7_function_6 : cX7_function.data.toList.drop 143 = dktX7_function_6 := dk_seg dksX7_function_5 24 rfl rfl
theorem dX7_function_0 : decode cX7_function 0 = .ok (.aload_n 0, 1) := dk_42 (dk_at dksX7_function_0 0 rfl rfl)
theorem dX7_function_1 : decode cX7_function 1 = .ok (.iload_n 1, 1) := dk_27 (dk_at dksX7_function_0 1 rfl rfl)
theorem dX7_function_2 : decode cX7_function 2 = .ok (.iconst 0, 1) := dk_3 (dk_at dksX7_function_0 2 rfl rfl)
theorem dX7_function_3 : decode cX7_function 3 = .ok (.aload_n 0, 1) := dk_42 (dk_at dksX7_function_0 3 rfl rfl)
theorem dX7_function_4 : decode cX7_function 4 = .ok (.getfield 235, 3) := dk_180 0 235 (dk_at dksX7_function_0 4 rfl rfl)
theorem dX7_function_7 : decode cX7_function 7 = .ok (.iconst 1, 1) := dk_4 (dk_at dksX7_function_0 7 rfl rfl)
theorem dX7_function_8 : decode cX7_function 8 = .ok (.isub, 1) := dk_100 (dk_at dksX7_function_0 8 rfl rfl)
theorem dX7_function_9 : decode cX7_function 9 = .ok (.invokestatic 132, 3) := dk_184 0 132 (dk_at dksX7_function_0 9 rfl rfl)
theorem dX7_function_12 : decode cX7_function 12 = .ok (.ifCond .eq 16, 3) := dk_153 0 16 (dk_at dksX7_function_0 12 rfl rfl)
theorem dX7_function_15 : decode cX7_function 15 = .ok (.iload_n 2, 1) := dk_28 (dk_at dksX7_function_0 15 rfl rfl)
theorem dX7_function_16 : decode cX7_function 16 = .ok (.iconst 0, 1) := dk_3 (dk_at dksX7_function_0 16 rfl rfl)
theorem dX7_function_17 : decode cX7_function 17 = .ok (.iconst 2, 1) := dk_5 (dk_at dksX7_function_0 17 rfl rfl)
theorem dX7_function_18 : decode cX7_function 18 = .ok (.invokestatic 132, 3) := dk_184 0 132 (dk_at dksX7_function_0 18 rfl rfl)
theorem dX7_function_21 : decode cX7_function 21 = .ok (.ifCond .eq 7, 3) := dk_153 0 7 (dk_at dksX7_function_0 21 rfl rfl)
theorem dX7_function_24 : decode cX7_function 24 = .ok (.iconst 1, 1) := dk_4 (dk_at dksX7_function_1 0 rfl rfl)
theorem dX7_function_25 : decode cX7_function 25 = .ok (.goto 4, 3) := dk_167 0 4 (dk_at dksX7_function_1 1 rfl rfl)
theorem dX7_function_28 : decode cX7_function 28 = .ok (.iconst 0, 1) := dk_3 (dk_at dksX7_function_1 4 rfl rfl)
theorem dX7_function_29 : decode cX7_function 29 = .ok (.invokestatic 306, 3) := dk_184 1 50 (dk_at dksX7_function_1 5 rfl rfl)
theorem dX7_function_32 : decode cX7_function 32 = .ok (.invokevirtual 223, 3) := dk_182 0 223 (dk_at dksX7_function_1 8 rfl rfl)
theorem dX7_function_35 : decode cX7_function 35 = .ok (.ifCond .eq 5, 3) := dk_153 0 5 (dk_at dksX7_function_1 11 rfl rfl)
theorem dX7_function_38 : decode cX7_function 38 = .ok (.iconst (-1), 1) := dk_2 (dk_at dksX7_function_1 14 rfl rfl)
theorem dX7_function_39 : decode cX7_function 39 = .ok (.ireturn, 1) := dk_172 (dk_at dksX7_function_1 15 rfl rfl)
theorem dX7_function_40 : decode cX7_function 40 = .ok (.iconst 0, 1) := dk_3 (dk_at dksX7_function_1 16 rfl rfl)
theorem dX7_function_41 : decode cX7_function 41 = .ok (.istore_n 3, 1) := dk_62 (dk_at dksX7_function_1 17 rfl rfl)
theorem dX7_function_42 : decode cX7_function 42 = .ok (.iconst 0, 1) := dk_3 (dk_at dksX7_function_1 18 rfl rfl)
theorem dX7_function_43 : decode cX7_function 43 = .ok (.istore 4, 2) := dk_54 4 (dk_at dksX7_function_1 19 rfl rfl)
theorem dX7_function_45 : decode cX7_function 45 = .ok (.iconst 0, 1) := dk_3 (dk_at dksX7_function_1 21 rfl rfl)
theorem dX7_function_46 : decode cX7_function 46 = .ok (.istore 5, 2) := dk_54 5 (dk_at dksX7_function_1 22 rfl rfl)
theorem dX7_function_48 : decode cX7_function 48 = .ok (.iconst 0, 1) := dk_3 (dk_at dksX7_function_2 0 rfl rfl)
theorem dX7_function_49 : decode cX7_function 49 = .ok (.istore 6, 2) := dk_54 6 (dk_at dksX7_function_2 1 rfl rfl)
theorem dX7_function_51 : decode cX7_function 51 = .ok (.iload 6, 2) := dk_21 6 (dk_at dksX7_function_2 3 rfl rfl)
theorem dX7_function_53 : decode cX7_function 53 = .ok (.aload_n 0, 1) := dk_42 (dk_at dksX7_function_2 5 rfl rfl)
theorem dX7_function_54 : decode cX7_function 54 = .ok (.getfield 250, 3) := dk_180 0 250 (dk_at dksX7_function_2 6 rfl rfl)
theorem dX7_function_57 : decode cX7_function 57 = .ok (.if_icmp .ge 62, 3) := dk_162 0 62 (dk_at dksX7_function_2 9 rfl rfl)
theorem dX7_function_60 : decode cX7_function 60 = .ok (.aload_n 0, 1) := dk_42 (dk_at dksX7_function_2 12 rfl rfl)
theorem dX7_function_61 : decode cX7_function 61 = .ok (.getfield 32, 3) := dk_180 0 32 (dk_at dksX7_function_2 13 rfl rfl)
theorem dX7_function_64 : decode cX7_function 64 = .ok (.iload 6, 2) := dk_21 6 (dk_at dksX7_function_2 16 rfl rfl)
theorem dX7_function_66 : decode cX7_function 66 = .ok (.iaload, 1) := dk_46 (dk_at dksX7_function_2 18 rfl rfl)
theorem dX7_function_67 : decode cX7_function 67 = .ok (.iload_n 1, 1) := dk_27 (dk_at dksX7_function_2 19 rfl rfl)
theorem dX7_function_68 : decode cX7_function 68 = .ok (.if_icmp .ne 45, 3) := dk_160 0 45 (dk_at dksX7_function_2 20 rfl rfl)
theorem dX7_function_71 : decode cX7_function 71 = .ok (.iinc 3 1, 3) := dk_132 3 1 (dk_at dksX7_function_3 0 rfl rfl)
theorem dX7_function_74 : decode cX7_function 74 = .ok (.iload 4, 2) := dk_21 4 (dk_at dksX7_function_3 3 rfl rfl)
theorem dX7_function_76 : decode cX7_function 76 = .ok (.iload 5, 2) := dk_21 5 (dk_at dksX7_function_3 5 rfl rfl)
theorem dX7_function_78 : decode cX7_function 78 = .ok (.aload_n 0, 1) := dk_42 (dk_at dksX7_function_3 7 rfl rfl)
theorem dX7_function_79 : decode cX7_function 79 = .ok (.getfield 50, 3) := dk_180 0 50 (dk_at dksX7_function_3 8 rfl rfl)
theorem dX7_function_82 : decode cX7_function 82 = .ok (.iload 6, 2) := dk_21 6 (dk_at dksX7_function_3 11 rfl rfl)
theorem dX7_function_84 : decode cX7_function 84 = .ok (.iaload, 1) := dk_46 (dk_at dksX7_function_3 13 rfl rfl)
theorem dX7_function_85 : decode cX7_function 85 = .ok (.ishr, 1) := dk_122 (dk_at dksX7_function_3 14 rfl rfl)
theorem dX7_function_86 : decode cX7_function 86 = .ok (.iconst 1, 1) := dk_4 (dk_at dksX7_function_3 15 rfl rfl)
theorem dX7_function_87 : decode cX7_function 87 = .ok (.iand, 1) := dk_126 (dk_at dksX7_function_3 16 rfl rfl)
theorem dX7_function_88 : decode cX7_function 88 = .ok (.ifCond .ne 7, 3) := dk_154 0 7 (dk_at dksX7_function_3 17 rfl rfl)
theorem dX7_function_91 : decode cX7_function 91 = .ok (.iconst 1, 1) := dk_4 (dk_at dksX7_function_3 20 rfl rfl)
theorem dX7_function_92 : decode cX7_function 92 = .ok (.goto 4, 3) := dk_167 0 4 (dk_at dksX7_function_3 21 rfl rfl)
theorem dX7_function_95 : decode cX7_function 95 = .ok (.iconst 0, 1) := dk_3 (dk_at dksX7_function_4 0 rfl rfl)
theorem dX7_function_96 : decode cX7_function 96 = .ok (.iadd, 1) := dk_96 (dk_at dksX7_function_4 1 rfl rfl)
theorem dX7_function_97 : decode cX7_function 97 = .ok (.istore 4, 2) := dk_54 4 (dk_at dksX7_function_4 2 rfl rfl)
theorem dX7_function_99 : decode cX7_function 99 = .ok (.iload 5, 2) := dk_21 5 (dk_at dksX7_function_4 4 rfl rfl)
theorem dX7_function_101 : decode cX7_function 101 = .ok (.iconst 1, 1) := dk_4 (dk_at dksX7_function_4 6 rfl rfl)
theorem dX7_function_102 : decode cX7_function 102 = .ok (.aload_n 0, 1) := dk_42 (dk_at dksX7_function_4 7 rfl rfl)
theorem dX7_function_103 : decode cX7_function 103 = .ok (.getfield 50, 3) := dk_180 0 50 (dk_at dksX7_function_4 8 rfl rfl)
theorem dX7_function_106 : decode cX7_function 106 = .ok (.iload 6, 2) := dk_21 6 (dk_at dksX7_function_4 11 rfl rfl)
theorem dX7_function_108 : decode cX7_function 108 = .ok (.iaload, 1) := dk_46 (dk_at dksX7_function_4 13 rfl rfl)
theorem dX7_function_109 : decode cX7_function 109 = .ok (.ishl, 1) := dk_120 (dk_at dksX7_function_4 14 rfl rfl)
theorem dX7_function_110 : decode cX7_function 110 = .ok (.ior, 1) := dk_128 (dk_at dksX7_function_4 15 rfl rfl)
theorem dX7_function_111 : decode cX7_function 111 = .ok (.istore 5, 2) := dk_54 5 (dk_at dksX7_function_4 16 rfl rfl)
theorem dX7_function_113 : decode cX7_function 113 = .ok (.iinc 6 1, 3) := dk_132 6 1 (dk_at dksX7_function_4 18 rfl rfl)
theorem dX7_function_116 : decode cX7_function 116 = .ok (.goto (-65), 3) := dk_167 255 191 (dk_at dksX7_function_4 21 rfl rfl)
theorem dX7_function_119 : decode cX7_function 119 = .ok (.iload_n 2, 1) := dk_28 (dk_at dksX7_function_5 0 rfl rfl)
theorem dX7_function_120 : decode cX7_function 120 = .ok (.ifCond .ne 12, 3) := dk_154 0 12 (dk_at dksX7_function_5 1 rfl rfl)
theorem dX7_function_123 : decode cX7_function 123 = .ok (.aload_n 0, 1) := dk_42 (dk_at dksX7_function_5 4 rfl rfl)
theorem dX7_function_124 : decode cX7_function 124 = .ok (.getfield 17, 3) := dk_180 0 17 (dk_at dksX7_function_5 5 rfl rfl)
theorem dX7_function_127 : decode cX7_function 127 = .ok (.iload_n 1, 1) := dk_27 (dk_at dksX7_function_5 8 rfl rfl)
theorem dX7_function_128 : decode cX7_function 128 = .ok (.iaload, 1) := dk_46 (dk_at dksX7_function_5 9 rfl rfl)
theorem dX7_function_129 : decode cX7_function 129 = .ok (.goto 14, 3) := dk_167 0 14 (dk_at dksX7_function_5 10 rfl rfl)
theorem dX7_function_132 : decode cX7_function 132 = .ok (.iload_n 2, 1) := dk_28 (dk_at dksX7_function_5 13 rfl rfl)
theorem dX7_function_133 : decode cX7_function 133 = .ok (.iconst 1, 1) := dk_4 (dk_at dksX7_function_5 14 rfl rfl)
theorem dX7_function_134 : decode cX7_function 134 = .ok (.if_icmp .ne 7, 3) := dk_160 0 7 (dk_at dksX7_function_5 15 rfl rfl)
theorem dX7_function_137 : decode cX7_function 137 = .ok (.iload_n 3, 1) := dk_29 (dk_at dksX7_function_5 18 rfl rfl)
theorem dX7_function_138 : decode cX7_function 138 = .ok (.goto 5, 3) := dk_167 0 5 (dk_at dksX7_function_5 19 rfl rfl)
theorem dX7_function_141 : decode cX7_function 141 = .ok (.iload 4, 2) := dk_21 4 (dk_at dksX7_function_5 22 rfl rfl)
theorem dX7_function_143 : decode cX7_function 143 = .ok (.ireturn, 1) := dk_172 (dk_at dksX7_function_6 0 rfl rfl)
abbrev cX7_term : ByteArray := prog_14_method_51_code
def yX7_term : MethodName := ⟨RX7, "term", "(II)I"⟩
def dkwX7_term_4 : List UInt8 := [182, 1, 67, 172, 42, 27, 182, 1, 70, 172, 42, 180, 0, 53, 27, 46, 172]
abbrev dktX7_term_4 : List UInt8 := dkwX7_term_4 ++ []
def dkwX7_term_3 : List UInt8 := [42, 180, 0, 32, 27, 46, 172, 42, 180, 0, 50, 27, 46, 172, 42, 27, 182, 1, 64, 172, 42, 27]
abbrev dktX7_term_3 : List UInt8 := dkwX7_term_3 ++ dktX7_term_4
def dkwX7_term_2 : List UInt8 := [170, 0, 0, 0, 65, 0, 0, 0, 0, 0, 0, 0, 4, 0, 0, 0, 33, 0, 0, 0, 40, 0, 0, 0, 47, 0, 0, 0, 53, 0, 0, 0, 59]
abbrev dktX7_term_2 : List UInt8 := dkwX7_term_2 ++ dktX7_term_3
def dkwX7_term_1 : List UInt8 := [184, 1, 50, 182, 0, 223, 153, 0, 5, 2, 172, 28]
abbrev dktX7_term_1 : List UInt8 := dkwX7_term_1 ++ dktX7_term_2
def dkwX7_term_0 : List UInt8 := [42, 42, 27, 182, 1, 61, 153, 0, 16, 28, 3, 8, 184, 0, 132, 153, 0, 7, 4, 167, 0, 4, 3]
abbrev dktX7_term_0 : List UInt8 := dkwX7_term_0 ++ dktX7_term_1
theorem dksX7_term_0 : cX7_term.data.toList.drop 0 = dktX7_term_0 := by decide +kernel
theorem dksX7_term_1 : cX7_term.data.toList.drop 23 = dktX7_term_1 := dk_seg dksX7_term_0 23 rfl rfl
theorem dksX7_term_2 : cX7_term.data.toList.drop 35 = dktX7_term_2 := dk_seg dksX7_term_1 12 rfl rfl
theorem dksX7_term_3 : cX7_term.data.toList.drop 68 = dktX7_term_3 := dk_seg dksX7_term_2 33 rfl rfl
theorem dksX7_term_4 : cX7_term.data.toList.drop 90 = dktX7_term_4 := dk_seg dksX7_term_3 22 rfl rfl
theorem dX7_term_0 : decode cX7_term 0 = .ok (.aload_n 0, 1) := dk_42 (dk_at dksX7_term_0 0 rfl rfl)
theorem dX7_term_1 : decode cX7_term 1 = .ok (.aload_n 0, 1) := dk_42 (dk_at dksX7_term_0 1 rfl rfl)
theorem dX7_term_2 : decode cX7_term 2 = .ok (.iload_n 1, 1) := dk_27 (dk_at dksX7_term_0 2 rfl rfl)
theorem dX7_term_3 : decode cX7_term 3 = .ok (.invokevirtual 317, 3) := dk_182 1 61 (dk_at dksX7_term_0 3 rfl rfl)
theorem dX7_term_6 : decode cX7_term 6 = .ok (.ifCond .eq 16, 3) := dk_153 0 16 (dk_at dksX7_term_0 6 rfl rfl)
theorem dX7_term_9 : decode cX7_term 9 = .ok (.iload_n 2, 1) := dk_28 (dk_at dksX7_term_0 9 rfl rfl)
theorem dX7_term_10 : decode cX7_term 10 = .ok (.iconst 0, 1) := dk_3 (dk_at dksX7_term_0 10 rfl rfl)
theorem dX7_term_11 : decode cX7_term 11 = .ok (.iconst 5, 1) := dk_8 (dk_at dksX7_term_0 11 rfl rfl)
theorem dX7_term_12 : decode cX7_term 12 = .ok (.invokestatic 132, 3) := dk_184 0 132 (dk_at dksX7_term_0 12 rfl rfl)
theorem dX7_term_15 : decode cX7_term 15 = .ok (.ifCond .eq 7, 3) := dk_153 0 7 (dk_at dksX7_term_0 15 rfl rfl)
theorem dX7_term_18 : decode cX7_term 18 = .ok (.iconst 1, 1) := dk_4 (dk_at dksX7_term_0 18 rfl rfl)
theorem dX7_term_19 : decode cX7_term 19 = .ok (.goto 4, 3) := dk_167 0 4 (dk_at dksX7_term_0 19 rfl rfl)
theorem dX7_term_22 : decode cX7_term 22 = .ok (.iconst 0, 1) := dk_3 (dk_at dksX7_term_0 22 rfl rfl)
theorem dX7_term_23 : decode cX7_term 23 = .ok (.invokestatic 306, 3) := dk_184 1 50 (dk_at dksX7_term_1 0 rfl rfl)
theorem dX7_term_26 : decode cX7_term 26 = .ok (.invokevirtual 223, 3) := dk_182 0 223 (dk_at dksX7_term_1 3 rfl rfl)
theorem dX7_term_29 : decode cX7_term 29 = .ok (.ifCond .eq 5, 3) := dk_153 0 5 (dk_at dksX7_term_1 6 rfl rfl)
theorem dX7_term_32 : decode cX7_term 32 = .ok (.iconst (-1), 1) := dk_2 (dk_at dksX7_term_1 9 rfl rfl)
theorem dX7_term_33 : decode cX7_term 33 = .ok (.ireturn, 1) := dk_172 (dk_at dksX7_term_1 10 rfl rfl)
theorem dX7_term_34 : decode cX7_term 34 = .ok (.iload_n 2, 1) := dk_28 (dk_at dksX7_term_1 11 rfl rfl)
theorem dX7_term_35 : decode cX7_term 35 = .ok (.tableswitch 65 0 4 #[33, 40, 47, 53, 59], 33) := by decide +kernel
theorem dX7_term_68 : decode cX7_term 68 = .ok (.aload_n 0, 1) := dk_42 (dk_at dksX7_term_3 0 rfl rfl)
theorem dX7_term_69 : decode cX7_term 69 = .ok (.getfield 32, 3) := dk_180 0 32 (dk_at dksX7_term_3 1 rfl rfl)
theorem dX7_term_72 : decode cX7_term 72 = .ok (.iload_n 1, 1) := dk_27 (dk_at dksX7_term_3 4 rfl rfl)
theorem dX7_term_73 : decode cX7_term 73 = .ok (.iaload, 1) := dk_46 (dk_at dksX7_term_3 5 rfl rfl)
theorem dX7_term_74 : decode cX7_term 74 = .ok (.ireturn, 1) := dk_172 (dk_at dksX7_term_3 6 rfl rfl)
theorem dX7_term_75 : decode cX7_term 75 = .ok (.aload_n 0, 1) := dk_42 (dk_at dksX7_term_3 7 rfl rfl)
theorem dX7_term_76 : decode cX7_term 76 = .ok (.getfield 50, 3) := dk_180 0 50 (dk_at dksX7_term_3 8 rfl rfl)
theorem dX7_term_79 : decode cX7_term 79 = .ok (.iload_n 1, 1) := dk_27 (dk_at dksX7_term_3 11 rfl rfl)
theorem dX7_term_80 : decode cX7_term 80 = .ok (.iaload, 1) := dk_46 (dk_at dksX7_term_3 12 rfl rfl)
theorem dX7_term_81 : decode cX7_term 81 = .ok (.ireturn, 1) := dk_172 (dk_at dksX7_term_3 13 rfl rfl)
theorem dX7_term_82 : decode cX7_term 82 = .ok (.aload_n 0, 1) := dk_42 (dk_at dksX7_term_3 14 rfl rfl)
theorem dX7_term_83 : decode cX7_term 83 = .ok (.iload_n 1, 1) := dk_27 (dk_at dksX7_term_3 15 rfl rfl)
theorem dX7_term_84 : decode cX7_term 84 = .ok (.invokevirtual 320, 3) := dk_182 1 64 (dk_at dksX7_term_3 16 rfl rfl)
theorem dX7_term_87 : decode cX7_term 87 = .ok (.ireturn, 1) := dk_172 (dk_at dksX7_term_3 19 rfl rfl)
theorem dX7_term_88 : decode cX7_term 88 = .ok (.aload_n 0, 1) := dk_42 (dk_at dksX7_term_3 20 rfl rfl)
theorem dX7_term_89 : decode cX7_term 89 = .ok (.iload_n 1, 1) := dk_27 (dk_at dksX7_term_3 21 rfl rfl)
theorem dX7_term_90 : decode cX7_term 90 = .ok (.invokevirtual 323, 3) := dk_182 1 67 (dk_at dksX7_term_4 0 rfl rfl)
theorem dX7_term_93 : decode cX7_term 93 = .ok (.ireturn, 1) := dk_172 (dk_at dksX7_term_4 3 rfl rfl)
theorem dX7_term_94 : decode cX7_term 94 = .ok (.aload_n 0, 1) := dk_42 (dk_at dksX7_term_4 4 rfl rfl)
theorem dX7_term_95 : decode cX7_term 95 = .ok (.iload_n 1, 1) := dk_27 (dk_at dksX7_term_4 5 rfl rfl)
theorem dX7_term_96 : decode cX7_term 96 = .ok (.invokevirtual 326, 3) := dk_182 1 70 (dk_at dksX7_term_4 6 rfl rfl)
theorem dX7_term_99 : decode cX7_term 99 = .ok (.ireturn, 1) := dk_172 (dk_at dksX7_term_4 9 rfl rfl)
theorem dX7_term_100 : decode cX7_term 100 = .ok (.aload_n 0, 1) := dk_42 (dk_at dksX7_term_4 10 rfl rfl)
theorem dX7_term_101 : decode cX7_term 101 = .ok (.getfield 53, 3) := dk_180 0 53 (dk_at dksX7_term_4 11 rfl rfl)
theorem dX7_term_104 : decode cX7_term 104 = .ok (.iload_n 1, 1) := dk_27 (dk_at dksX7_term_4 14 rfl rfl)
theorem dX7_term_105 : decode cX7_term 105 = .ok (.iaload, 1) := dk_46 (dk_at dksX7_term_4 15 rfl rfl)
theorem dX7_term_106 : decode cX7_term 106 = .ok (.ireturn, 1) := dk_172 (dk_at dksX7_term_4 16 rfl rfl)
abbrev cX7_isTerm : ByteArray := prog_14_method_45_code
def yX7_isTerm : MethodName := ⟨RX7, "isTerm", "(I)Z"⟩
def dkwX7_isTerm_0 : List UInt8 := [27, 3, 42, 180, 0, 250, 4, 100, 184, 0, 132, 172]
abbrev dktX7_isTerm_0 : List UInt8 := dkwX7_isTerm_0 ++ []
theorem dksX7_isTerm_0 : cX7_isTerm.data.toList.drop 0 = dktX7_isTerm_0 := by decide +kernel
theorem dX7_isTerm_0 : decode cX7_isTerm 0 = .ok (.iload_n 1, 1) := dk_27 (dk_at dksX7_isTerm_0 0 rfl rfl)
theorem dX7_isTerm_1 : decode cX7_isTerm 1 = .ok (.iconst 0, 1) := dk_3 (dk_at dksX7_isTerm_0 1 rfl rfl)
theorem dX7_isTerm_2 : decode cX7_isTerm 2 = .ok (.aload_n 0, 1) := dk_42 (dk_at dksX7_isTerm_0 2 rfl rfl)
theorem dX7_isTerm_3 : decode cX7_isTerm 3 = .ok (.getfield 250, 3) := dk_180 0 250 (dk_at dksX7_isTerm_0 3 rfl rfl)
theorem dX7_isTerm_6 : decode cX7_isTerm 6 = .ok (.iconst 1, 1) := dk_4 (dk_at dksX7_isTerm_0 6 rfl rfl)
theorem dX7_isTerm_7 : decode cX7_isTerm 7 = .ok (.isub, 1) := dk_100 (dk_at dksX7_isTerm_0 7 rfl rfl)
theorem dX7_isTerm_8 : decode cX7_isTerm 8 = .ok (.invokestatic 132, 3) := dk_184 0 132 (dk_at dksX7_isTerm_0 8 rfl rfl)
theorem dX7_isTerm_11 : decode cX7_isTerm 11 = .ok (.ireturn, 1) := dk_172 (dk_at dksX7_isTerm_0 11 rfl rfl)
abbrev cX7_groupMany : ByteArray := prog_14_method_48_code
def yX7_groupMany : MethodName := ⟨RX7, "groupMany", "(I)I"⟩
def dkwX7_groupMany_1 : List UInt8 := [46, 160, 0, 7, 4, 167, 0, 4, 3, 96, 61, 132, 3, 1, 167, 255, 222, 28, 172]
abbrev dktX7_groupMany_1 : List UInt8 := dkwX7_groupMany_1 ++ []
def dkwX7_groupMany_0 : List UInt8 := [3, 61, 3, 62, 29, 42, 180, 0, 250, 162, 0, 32, 28, 42, 180, 0, 50, 29, 46, 42, 180, 0, 50, 27]
abbrev dktX7_groupMany_0 : List UInt8 := dkwX7_groupMany_0 ++ dktX7_groupMany_1
theorem dksX7_groupMany_0 : cX7_groupMany.data.toList.drop 0 = dktX7_groupMany_0 := by decide +kernel
theorem dksX7_groupMany_1 : cX7_groupMany.data.toList.drop 24 = dktX7_groupMany_1 := dk_seg dksX7_groupMany_0 24 rfl rfl
theorem dX7_groupMany_0 : decode cX7_groupMany 0 = .ok (.iconst 0, 1) := dk_3 (dk_at dksX7_groupMany_0 0 rfl rfl)
theorem dX7_groupMany_1 : decode cX7_groupMany 1 = .ok (.istore_n 2, 1) := dk_61 (dk_at dksX7_groupMany_0 1 rfl rfl)
theorem dX7_groupMany_2 : decode cX7_groupMany 2 = .ok (.iconst 0, 1) := dk_3 (dk_at dksX7_groupMany_0 2 rfl rfl)
theorem dX7_groupMany_3 : decode cX7_groupMany 3 = .ok (.istore_n 3, 1) := dk_62 (dk_at dksX7_groupMany_0 3 rfl rfl)
theorem dX7_groupMany_4 : decode cX7_groupMany 4 = .ok (.iload_n 3, 1) := dk_29 (dk_at dksX7_groupMany_0 4 rfl rfl)
theorem dX7_groupMany_5 : decode cX7_groupMany 5 = .ok (.aload_n 0, 1) := dk_42 (dk_at dksX7_groupMany_0 5 rfl rfl)
theorem dX7_groupMany_6 : decode cX7_groupMany 6 = .ok (.getfield 250, 3) := dk_180 0 250 (dk_at dksX7_groupMany_0 6 rfl rfl)
theorem dX7_groupMany_9 : decode cX7_groupMany 9 = .ok (.if_icmp .ge 32, 3) := dk_162 0 32 (dk_at dksX7_groupMany_0 9 rfl rfl)
theorem dX7_groupMany_12 : decode cX7_groupMany 12 = .ok (.iload_n 2, 1) := dk_28 (dk_at dksX7_groupMany_0 12 rfl rfl)
theorem dX7_groupMany_13 : decode cX7_groupMany 13 = .ok (.aload_n 0, 1) := dk_42 (dk_at dksX7_groupMany_0 13 rfl rfl)
theorem dX7_groupMany_14 : decode cX7_groupMany 14 = .ok (.getfield 50, 3) := dk_180 0 50 (dk_at dksX7_groupMany_0 14 rfl rfl)
theorem dX7_groupMany_17 : decode cX7_groupMany 17 = .ok (.iload_n 3, 1) := dk_29 (dk_at dksX7_groupMany_0 17 rfl rfl)
theorem dX7_groupMany_18 : decode cX7_groupMany 18 = .ok (.iaload, 1) := dk_46 (dk_at dksX7_groupMany_0 18 rfl rfl)
theorem dX7_groupMany_19 : decode cX7_groupMany 19 = .ok (.aload_n 0, 1) := dk_42 (dk_at dksX7_groupMany_0 19 rfl rfl)
theorem dX7_groupMany_20 : decode cX7_groupMany 20 = .ok (.getfield 50, 3) := dk_180 0 50 (dk_at dksX7_groupMany_0 20 rfl rfl)
theorem dX7_groupMany_23 : decode cX7_groupMany 23 = .ok (.iload_n 1, 1) := dk_27 (dk_at dksX7_groupMany_0 23 rfl rfl)
theorem dX7_groupMany_24 : decode cX7_groupMany 24 = .ok (.iaload, 1) := dk_46 (dk_at dksX7_groupMany_1 0 rfl rfl)
theorem dX7_groupMany_25 : decode cX7_groupMany 25 = .ok (.if_icmp .ne 7, 3) := dk_160 0 7 (dk_at dksX7_groupMany_1 1 rfl rfl)
theorem dX7_groupMany_28 : decode cX7_groupMany 28 = .ok (.iconst 1, 1) := dk_4 (dk_at dksX7_groupMany_1 4 rfl rfl)
theorem dX7_groupMany_29 : decode cX7_groupMany 29 = .ok (.goto 4, 3) := dk_167 0 4 (dk_at dksX7_groupMany_1 5 rfl rfl)
theorem dX7_groupMany_32 : decode cX7_groupMany 32 = .ok (.iconst 0, 1) := dk_3 (dk_at dksX7_groupMany_1 8 rfl rfl)
theorem dX7_groupMany_33 : decode cX7_groupMany 33 = .ok (.iadd, 1) := dk_96 (dk_at dksX7_groupMany_1 9 rfl rfl)
theorem dX7_groupMany_34 : decode cX7_groupMany 34 = .ok (.istore_n 2, 1) := dk_61 (dk_at dksX7_groupMany_1 10 rfl rfl)
theorem dX7_groupMany_35 : decode cX7_groupMany 35 = .ok (.iinc 3 1, 3) := dk_132 3 1 (dk_at dksX7_groupMany_1 11 rfl rfl)
theorem dX7_groupMany_38 : decode cX7_groupMany 38 = .ok (.goto (-34), 3) := dk_167 255 222 (dk_at dksX7_groupMany_1 14 rfl rfl)
theorem dX7_groupMany_41 : decode cX7_groupMany 41 = .ok (.iload_n 2, 1) := dk_28 (dk_at dksX7_groupMany_1 17 rfl rfl)
theorem dX7_groupMany_42 : decode cX7_groupMany 42 = .ok (.ireturn, 1) := dk_172 (dk_at dksX7_groupMany_1 18 rfl rfl)
abbrev cX7_usersOf : ByteArray := prog_14_method_49_code
def yX7_usersOf : MethodName := ⟨RX7, "usersOf", "(I)I"⟩
def dkwX7_usersOf_3 : List UInt8 := [167, 255, 206, 28, 21, 4, 153, 0, 7, 4, 167, 0, 4, 3, 96, 61, 132, 3, 1, 167, 255, 173, 28, 172]
abbrev dktX7_usersOf_3 : List UInt8 := dkwX7_usersOf_3 ++ []
def dkwX7_usersOf_2 : List UInt8 := [96, 46, 46, 42, 180, 0, 50, 27, 46, 160, 0, 7, 4, 167, 0, 4, 3, 54, 4, 132, 5, 1]
abbrev dktX7_usersOf_2 : List UInt8 := dkwX7_usersOf_2 ++ dktX7_usersOf_3
def dkwX7_usersOf_1 : List UInt8 := [182, 0, 253, 162, 0, 46, 21, 4, 154, 0, 28, 42, 180, 0, 50, 42, 180, 0, 35, 6, 29, 104, 21, 5]
abbrev dktX7_usersOf_1 : List UInt8 := dkwX7_usersOf_1 ++ dktX7_usersOf_2
def dkwX7_usersOf_0 : List UInt8 := [3, 61, 3, 62, 29, 42, 180, 0, 250, 162, 0, 81, 3, 54, 4, 3, 54, 5, 21, 5, 42, 29]
abbrev dktX7_usersOf_0 : List UInt8 := dkwX7_usersOf_0 ++ dktX7_usersOf_1
theorem dksX7_usersOf_0 : cX7_usersOf.data.toList.drop 0 = dktX7_usersOf_0 := by decide +kernel
theorem dksX7_usersOf_1 : cX7_usersOf.data.toList.drop 22 = dktX7_usersOf_1 := dk_seg dksX7_usersOf_0 22 rfl rfl
theorem dksX7_usersOf_2 : cX7_usersOf.data.toList.drop 46 = dktX7_usersOf_2 := dk_seg dksX7_usersOf_1 24 rfl rfl
theorem dksX7_usersOf_3 : cX7_usersOf.data.toList.drop 68 = dktX7_usersOf_3 := dk_seg dksX7_usersOf_2 22 rfl rfl
theorem dX7_usersOf_0 : decode cX7_usersOf 0 = .ok (.iconst 0, 1) := dk_3 (dk_at dksX7_usersOf_0 0 rfl rfl)
theorem dX7_usersOf_1 : decode cX7_usersOf 1 = .ok (.istore_n 2, 1) := dk_61 (dk_at dksX7_usersOf_0 1 rfl rfl)
theorem dX7_usersOf_2 : decode cX7_usersOf 2 = .ok (.iconst 0, 1) := dk_3 (dk_at dksX7_usersOf_0 2 rfl rfl)
theorem dX7_usersOf_3 : decode cX7_usersOf 3 = .ok (.istore_n 3, 1) := dk_62 (dk_at dksX7_usersOf_0 3 rfl rfl)
theorem dX7_usersOf_4 : decode cX7_usersOf 4 = .ok (.iload_n 3, 1) := dk_29 (dk_at dksX7_usersOf_0 4 rfl rfl)
theorem dX7_usersOf_5 : decode cX7_usersOf 5 = .ok (.aload_n 0, 1) := dk_42 (dk_at dksX7_usersOf_0 5 rfl rfl)
theorem dX7_usersOf_6 : decode cX7_usersOf 6 = .ok (.getfield 250, 3) := dk_180 0 250 (dk_at dksX7_usersOf_0 6 rfl rfl)
theorem dX7_usersOf_9 : decode cX7_usersOf 9 = .ok (.if_icmp .ge 81, 3) := dk_162 0 81 (dk_at dksX7_usersOf_0 9 rfl rfl)
theorem dX7_usersOf_12 : decode cX7_usersOf 12 = .ok (.iconst 0, 1) := dk_3 (dk_at dksX7_usersOf_0 12 rfl rfl)
theorem dX7_usersOf_13 : decode cX7_usersOf 13 = .ok (.istore 4, 2) := dk_54 4 (dk_at dksX7_usersOf_0 13 rfl rfl)
theorem dX7_usersOf_15 : decode cX7_usersOf 15 = .ok (.iconst 0, 1) := dk_3 (dk_at dksX7_usersOf_0 15 rfl rfl)
theorem dX7_usersOf_16 : decode cX7_usersOf 16 = .ok (.istore 5, 2) := dk_54 5 (dk_at dksX7_usersOf_0 16 rfl rfl)
theorem dX7_usersOf_18 : decode cX7_usersOf 18 = .ok (.iload 5, 2) := dk_21 5 (dk_at dksX7_usersOf_0 18 rfl rfl)
theorem dX7_usersOf_20 : decode cX7_usersOf 20 = .ok (.aload_n 0, 1) := dk_42 (dk_at dksX7_usersOf_0 20 rfl rfl)
theorem dX7_usersOf_21 : decode cX7_usersOf 21 = .ok (.iload_n 3, 1) := dk_29 (dk_at dksX7_usersOf_0 21 rfl rfl)
theorem dX7_usersOf_22 : decode cX7_usersOf 22 = .ok (.invokevirtual 253, 3) := dk_182 0 253 (dk_at dksX7_usersOf_1 0 rfl rfl)
theorem dX7_usersOf_25 : decode cX7_usersOf 25 = .ok (.if_icmp .ge 46, 3) := dk_162 0 46 (dk_at dksX7_usersOf_1 3 rfl rfl)
theorem dX7_usersOf_28 : decode cX7_usersOf 28 = .ok (.iload 4, 2) := dk_21 4 (dk_at dksX7_usersOf_1 6 rfl rfl)
theorem dX7_usersOf_30 : decode cX7_usersOf 30 = .ok (.ifCond .ne 28, 3) := dk_154 0 28 (dk_at dksX7_usersOf_1 8 rfl rfl)
theorem dX7_usersOf_33 : decode cX7_usersOf 33 = .ok (.aload_n 0, 1) := dk_42 (dk_at dksX7_usersOf_1 11 rfl rfl)
theorem dX7_usersOf_34 : decode cX7_usersOf 34 = .ok (.getfield 50, 3) := dk_180 0 50 (dk_at dksX7_usersOf_1 12 rfl rfl)
theorem dX7_usersOf_37 : decode cX7_usersOf 37 = .ok (.aload_n 0, 1) := dk_42 (dk_at dksX7_usersOf_1 15 rfl rfl)
theorem dX7_usersOf_38 : decode cX7_usersOf 38 = .ok (.getfield 35, 3) := dk_180 0 35 (dk_at dksX7_usersOf_1 16 rfl rfl)
theorem dX7_usersOf_41 : decode cX7_usersOf 41 = .ok (.iconst 3, 1) := dk_6 (dk_at dksX7_usersOf_1 19 rfl rfl)
theorem dX7_usersOf_42 : decode cX7_usersOf 42 = .ok (.iload_n 3, 1) := dk_29 (dk_at dksX7_usersOf_1 20 rfl rfl)
theorem dX7_usersOf_43 : decode cX7_usersOf 43 = .ok (.imul, 1) := dk_104 (dk_at dksX7_usersOf_1 21 rfl rfl)
theorem dX7_usersOf_44 : decode cX7_usersOf 44 = .ok (.iload 5, 2) := dk_21 5 (dk_at dksX7_usersOf_1 22 rfl rfl)
theorem dX7_usersOf_46 : decode cX7_usersOf 46 = .ok (.iadd, 1) := dk_96 (dk_at dksX7_usersOf_2 0 rfl rfl)
theorem dX7_usersOf_47 : decode cX7_usersOf 47 = .ok (.iaload, 1) := dk_46 (dk_at dksX7_usersOf_2 1 rfl rfl)
theorem dX7_usersOf_48 : decode cX7_usersOf 48 = .ok (.iaload, 1) := dk_46 (dk_at dksX7_usersOf_2 2 rfl rfl)
theorem dX7_usersOf_49 : decode cX7_usersOf 49 = .ok (.aload_n 0, 1) := dk_42 (dk_at dksX7_usersOf_2 3 rfl rfl)
theorem dX7_usersOf_50 : decode cX7_usersOf 50 = .ok (.getfield 50, 3) := dk_180 0 50 (dk_at dksX7_usersOf_2 4 rfl rfl)
theorem dX7_usersOf_53 : decode cX7_usersOf 53 = .ok (.iload_n 1, 1) := dk_27 (dk_at dksX7_usersOf_2 7 rfl rfl)
theorem dX7_usersOf_54 : decode cX7_usersOf 54 = .ok (.iaload, 1) := dk_46 (dk_at dksX7_usersOf_2 8 rfl rfl)
theorem dX7_usersOf_55 : decode cX7_usersOf 55 = .ok (.if_icmp .ne 7, 3) := dk_160 0 7 (dk_at dksX7_usersOf_2 9 rfl rfl)
theorem dX7_usersOf_58 : decode cX7_usersOf 58 = .ok (.iconst 1, 1) := dk_4 (dk_at dksX7_usersOf_2 12 rfl rfl)
theorem dX7_usersOf_59 : decode cX7_usersOf 59 = .ok (.goto 4, 3) := dk_167 0 4 (dk_at dksX7_usersOf_2 13 rfl rfl)
theorem dX7_usersOf_62 : decode cX7_usersOf 62 = .ok (.iconst 0, 1) := dk_3 (dk_at dksX7_usersOf_2 16 rfl rfl)
theorem dX7_usersOf_63 : decode cX7_usersOf 63 = .ok (.istore 4, 2) := dk_54 4 (dk_at dksX7_usersOf_2 17 rfl rfl)
theorem dX7_usersOf_65 : decode cX7_usersOf 65 = .ok (.iinc 5 1, 3) := dk_132 5 1 (dk_at dksX7_usersOf_2 19 rfl rfl)
theorem dX7_usersOf_68 : decode cX7_usersOf 68 = .ok (.goto (-50), 3) := dk_167 255 206 (dk_at dksX7_usersOf_3 0 rfl rfl)
theorem dX7_usersOf_71 : decode cX7_usersOf 71 = .ok (.iload_n 2, 1) := dk_28 (dk_at dksX7_usersOf_3 3 rfl rfl)
theorem dX7_usersOf_72 : decode cX7_usersOf 72 = .ok (.iload 4, 2) := dk_21 4 (dk_at dksX7_usersOf_3 4 rfl rfl)
theorem dX7_usersOf_74 : decode cX7_usersOf 74 = .ok (.ifCond .eq 7, 3) := dk_153 0 7 (dk_at dksX7_usersOf_3 6 rfl rfl)
theorem dX7_usersOf_77 : decode cX7_usersOf 77 = .ok (.iconst 1, 1) := dk_4 (dk_at dksX7_usersOf_3 9 rfl rfl)
theorem dX7_usersOf_78 : decode cX7_usersOf 78 = .ok (.goto 4, 3) := dk_167 0 4 (dk_at dksX7_usersOf_3 10 rfl rfl)
theorem dX7_usersOf_81 : decode cX7_usersOf 81 = .ok (.iconst 0, 1) := dk_3 (dk_at dksX7_usersOf_3 13 rfl rfl)
theorem dX7_usersOf_82 : decode cX7_usersOf 82 = .ok (.iadd, 1) := dk_96 (dk_at dksX7_usersOf_3 14 rfl rfl)
theorem dX7_usersOf_83 : decode cX7_usersOf 83 = .ok (.istore_n 2, 1) := dk_61 (dk_at dksX7_usersOf_3 15 rfl rfl)
theorem dX7_usersOf_84 : decode cX7_usersOf 84 = .ok (.iinc 3 1, 3) := dk_132 3 1 (dk_at dksX7_usersOf_3 16 rfl rfl)
theorem dX7_usersOf_87 : decode cX7_usersOf 87 = .ok (.goto (-83), 3) := dk_167 255 173 (dk_at dksX7_usersOf_3 19 rfl rfl)
theorem dX7_usersOf_90 : decode cX7_usersOf 90 = .ok (.iload_n 2, 1) := dk_28 (dk_at dksX7_usersOf_3 22 rfl rfl)
theorem dX7_usersOf_91 : decode cX7_usersOf 91 = .ok (.ireturn, 1) := dk_172 (dk_at dksX7_usersOf_3 23 rfl rfl)
abbrev cX7_deepOf : ByteArray := prog_14_method_50_code
def yX7_deepOf : MethodName := ⟨RX7, "deepOf", "(I)I"⟩
def dkwX7_deepOf_3 : List UInt8 := [28, 46, 79, 132, 3, 1, 167, 255, 197, 132, 2, 1, 167, 255, 177, 42, 180, 0, 74, 27, 46, 172]
abbrev dktX7_deepOf_3 : List UInt8 := dkwX7_deepOf_3 ++ []
def dkwX7_deepOf_2 : List UInt8 := [180, 0, 74, 28, 21, 4, 42, 180, 0, 74, 28, 46, 164, 0, 8, 21, 4, 167, 0, 9, 42, 180, 0, 74]
abbrev dktX7_deepOf_2 : List UInt8 := dkwX7_deepOf_2 ++ dktX7_deepOf_3
def dkwX7_deepOf_1 : List UInt8 := [162, 0, 56, 42, 180, 0, 74, 42, 180, 0, 35, 6, 28, 104, 29, 96, 46, 46, 4, 96, 54, 4, 42]
abbrev dktX7_deepOf_1 : List UInt8 := dkwX7_deepOf_1 ++ dktX7_deepOf_2
def dkwX7_deepOf_0 : List UInt8 := [3, 61, 28, 27, 163, 0, 80, 42, 180, 0, 74, 28, 3, 79, 3, 62, 29, 42, 28, 182, 0, 253]
abbrev dktX7_deepOf_0 : List UInt8 := dkwX7_deepOf_0 ++ dktX7_deepOf_1
theorem dksX7_deepOf_0 : cX7_deepOf.data.toList.drop 0 = dktX7_deepOf_0 := by decide +kernel
theorem dksX7_deepOf_1 : cX7_deepOf.data.toList.drop 22 = dktX7_deepOf_1 := dk_seg dksX7_deepOf_0 22 rfl rfl
theorem dksX7_deepOf_2 : cX7_deepOf.data.toList.drop 45 = dktX7_deepOf_2 := dk_seg dksX7_deepOf_1 23 rfl rfl
theorem dksX7_deepOf_3 : cX7_deepOf.data.toList.drop 69 = dktX7_deepOf_3 := dk_seg dksX7_deepOf_2 24 rfl rfl
theorem dX7_deepOf_0 : decode cX7_deepOf 0 = .ok (.iconst 0, 1) := dk_3 (dk_at dksX7_deepOf_0 0 rfl rfl)
theorem dX7_deepOf_1 : decode cX7_deepOf 1 = .ok (.istore_n 2, 1) := dk_61 (dk_at dksX7_deepOf_0 1 rfl rfl)
theorem dX7_deepOf_2 : decode cX7_deepOf 2 = .ok (.iload_n 2, 1) := dk_28 (dk_at dksX7_deepOf_0 2 rfl rfl)
theorem dX7_deepOf_3 : decode cX7_deepOf 3 = .ok (.iload_n 1, 1) := dk_27 (dk_at dksX7_deepOf_0 3 rfl rfl)
theorem dX7_deepOf_4 : decode cX7_deepOf 4 = .ok (.if_icmp .gt 80, 3) := dk_163 0 80 (dk_at dksX7_deepOf_0 4 rfl rfl)
theorem dX7_deepOf_7 : decode cX7_deepOf 7 = .ok (.aload_n 0, 1) := dk_42 (dk_at dksX7_deepOf_0 7 rfl rfl)
theorem dX7_deepOf_8 : decode cX7_deepOf 8 = .ok (.getfield 74, 3) := dk_180 0 74 (dk_at dksX7_deepOf_0 8 rfl rfl)
theorem dX7_deepOf_11 : decode cX7_deepOf 11 = .ok (.iload_n 2, 1) := dk_28 (dk_at dksX7_deepOf_0 11 rfl rfl)
theorem dX7_deepOf_12 : decode cX7_deepOf 12 = .ok (.iconst 0, 1) := dk_3 (dk_at dksX7_deepOf_0 12 rfl rfl)
theorem dX7_deepOf_13 : decode cX7_deepOf 13 = .ok (.iastore, 1) := dk_79 (dk_at dksX7_deepOf_0 13 rfl rfl)
theorem dX7_deepOf_14 : decode cX7_deepOf 14 = .ok (.iconst 0, 1) := dk_3 (dk_at dksX7_deepOf_0 14 rfl rfl)
theorem dX7_deepOf_15 : decode cX7_deepOf 15 = .ok (.istore_n 3, 1) := dk_62 (dk_at dksX7_deepOf_0 15 rfl rfl)
theorem dX7_deepOf_16 : decode cX7_deepOf 16 = .ok (.iload_n 3, 1) := dk_29 (dk_at dksX7_deepOf_0 16 rfl rfl)
theorem dX7_deepOf_17 : decode cX7_deepOf 17 = .ok (.aload_n 0, 1) := dk_42 (dk_at dksX7_deepOf_0 17 rfl rfl)
theorem dX7_deepOf_18 : decode cX7_deepOf 18 = .ok (.iload_n 2, 1) := dk_28 (dk_at dksX7_deepOf_0 18 rfl rfl)
theorem dX7_deepOf_19 : decode cX7_deepOf 19 = .ok (.invokevirtual 253, 3) := dk_182 0 253 (dk_at dksX7_deepOf_0 19 rfl rfl)
theorem dX7_deepOf_22 : decode cX7_deepOf 22 = .ok (.if_icmp .ge 56, 3) := dk_162 0 56 (dk_at dksX7_deepOf_1 0 rfl rfl)
theorem dX7_deepOf_25 : decode cX7_deepOf 25 = .ok (.aload_n 0, 1) := dk_42 (dk_at dksX7_deepOf_1 3 rfl rfl)
theorem dX7_deepOf_26 : decode cX7_deepOf 26 = .ok (.getfield 74, 3) := dk_180 0 74 (dk_at dksX7_deepOf_1 4 rfl rfl)
theorem dX7_deepOf_29 : decode cX7_deepOf 29 = .ok (.aload_n 0, 1) := dk_42 (dk_at dksX7_deepOf_1 7 rfl rfl)
theorem dX7_deepOf_30 : decode cX7_deepOf 30 = .ok (.getfield 35, 3) := dk_180 0 35 (dk_at dksX7_deepOf_1 8 rfl rfl)
theorem dX7_deepOf_33 : decode cX7_deepOf 33 = .ok (.iconst 3, 1) := dk_6 (dk_at dksX7_deepOf_1 11 rfl rfl)
theorem dX7_deepOf_34 : decode cX7_deepOf 34 = .ok (.iload_n 2, 1) := dk_28 (dk_at dksX7_deepOf_1 12 rfl rfl)
theorem dX7_deepOf_35 : decode cX7_deepOf 35 = .ok (.imul, 1) := dk_104 (dk_at dksX7_deepOf_1 13 rfl rfl)
theorem dX7_deepOf_36 : decode cX7_deepOf 36 = .ok (.iload_n 3, 1) := dk_29 (dk_at dksX7_deepOf_1 14 rfl rfl)
theorem dX7_deepOf_37 : decode cX7_deepOf 37 = .ok (.iadd, 1) := dk_96 (dk_at dksX7_deepOf_1 15 rfl rfl)
theorem dX7_deepOf_38 : decode cX7_deepOf 38 = .ok (.iaload, 1) := dk_46 (dk_at dksX7_deepOf_1 16 rfl rfl)
theorem dX7_deepOf_39 : decode cX7_deepOf 39 = .ok (.iaload, 1) := dk_46 (dk_at dksX7_deepOf_1 17 rfl rfl)
theorem dX7_deepOf_40 : decode cX7_deepOf 40 = .ok (.iconst 1, 1) := dk_4 (dk_at dksX7_deepOf_1 18 rfl rfl)
theorem dX7_deepOf_41 : decode cX7_deepOf 41 = .ok (.iadd, 1) := dk_96 (dk_at dksX7_deepOf_1 19 rfl rfl)
theorem dX7_deepOf_42 : decode cX7_deepOf 42 = .ok (.istore 4, 2) := dk_54 4 (dk_at dksX7_deepOf_1 20 rfl rfl)
theorem dX7_deepOf_44 : decode cX7_deepOf 44 = .ok (.aload_n 0, 1) := dk_42 (dk_at dksX7_deepOf_1 22 rfl rfl)
theorem dX7_deepOf_45 : decode cX7_deepOf 45 = .ok (.getfield 74, 3) := dk_180 0 74 (dk_at dksX7_deepOf_2 0 rfl rfl)
theorem dX7_deepOf_48 : decode cX7_deepOf 48 = .ok (.iload_n 2, 1) := dk_28 (dk_at dksX7_deepOf_2 3 rfl rfl)
theorem dX7_deepOf_49 : decode cX7_deepOf 49 = .ok (.iload 4, 2) := dk_21 4 (dk_at dksX7_deepOf_2 4 rfl rfl)
theorem dX7_deepOf_51 : decode cX7_deepOf 51 = .ok (.aload_n 0, 1) := dk_42 (dk_at dksX7_deepOf_2 6 rfl rfl)
theorem dX7_deepOf_52 : decode cX7_deepOf 52 = .ok (.getfield 74, 3) := dk_180 0 74 (dk_at dksX7_deepOf_2 7 rfl rfl)
theorem dX7_deepOf_55 : decode cX7_deepOf 55 = .ok (.iload_n 2, 1) := dk_28 (dk_at dksX7_deepOf_2 10 rfl rfl)
theorem dX7_deepOf_56 : decode cX7_deepOf 56 = .ok (.iaload, 1) := dk_46 (dk_at dksX7_deepOf_2 11 rfl rfl)
theorem dX7_deepOf_57 : decode cX7_deepOf 57 = .ok (.if_icmp .le 8, 3) := dk_164 0 8 (dk_at dksX7_deepOf_2 12 rfl rfl)
theorem dX7_deepOf_60 : decode cX7_deepOf 60 = .ok (.iload 4, 2) := dk_21 4 (dk_at dksX7_deepOf_2 15 rfl rfl)
theorem dX7_deepOf_62 : decode cX7_deepOf 62 = .ok (.goto 9, 3) := dk_167 0 9 (dk_at dksX7_deepOf_2 17 rfl rfl)
theorem dX7_deepOf_65 : decode cX7_deepOf 65 = .ok (.aload_n 0, 1) := dk_42 (dk_at dksX7_deepOf_2 20 rfl rfl)
theorem dX7_deepOf_66 : decode cX7_deepOf 66 = .ok (.getfield 74, 3) := dk_180 0 74 (dk_at dksX7_deepOf_2 21 rfl rfl)
theorem dX7_deepOf_69 : decode cX7_deepOf 69 = .ok (.iload_n 2, 1) := dk_28 (dk_at dksX7_deepOf_3 0 rfl rfl)
theorem dX7_deepOf_70 : decode cX7_deepOf 70 = .ok (.iaload, 1) := dk_46 (dk_at dksX7_deepOf_3 1 rfl rfl)
theorem dX7_deepOf_71 : decode cX7_deepOf 71 = .ok (.iastore, 1) := dk_79 (dk_at dksX7_deepOf_3 2 rfl rfl)
theorem dX7_deepOf_72 : decode cX7_deepOf 72 = .ok (.iinc 3 1, 3) := dk_132 3 1 (dk_at dksX7_deepOf_3 3 rfl rfl)
theorem dX7_deepOf_75 : decode cX7_deepOf 75 = .ok (.goto (-59), 3) := dk_167 255 197 (dk_at dksX7_deepOf_3 6 rfl rfl)
theorem dX7_deepOf_78 : decode cX7_deepOf 78 = .ok (.iinc 2 1, 3) := dk_132 2 1 (dk_at dksX7_deepOf_3 9 rfl rfl)
theorem dX7_deepOf_81 : decode cX7_deepOf 81 = .ok (.goto (-79), 3) := dk_167 255 177 (dk_at dksX7_deepOf_3 12 rfl rfl)
theorem dX7_deepOf_84 : decode cX7_deepOf 84 = .ok (.aload_n 0, 1) := dk_42 (dk_at dksX7_deepOf_3 15 rfl rfl)
theorem dX7_deepOf_85 : decode cX7_deepOf 85 = .ok (.getfield 74, 3) := dk_180 0 74 (dk_at dksX7_deepOf_3 16 rfl rfl)
theorem dX7_deepOf_88 : decode cX7_deepOf 88 = .ok (.iload_n 1, 1) := dk_27 (dk_at dksX7_deepOf_3 19 rfl rfl)
theorem dX7_deepOf_89 : decode cX7_deepOf 89 = .ok (.iaload, 1) := dk_46 (dk_at dksX7_deepOf_3 20 rfl rfl)
theorem dX7_deepOf_90 : decode cX7_deepOf 90 = .ok (.ireturn, 1) := dk_172 (dk_at dksX7_deepOf_3 21 rfl rfl)
abbrev cX7_height : ByteArray := prog_14_method_52_code
def yX7_height : MethodName := ⟨RX7, "height", "(I)I"⟩
def dkwX7_height_1 : List UInt8 := [172]
abbrev dktX7_height_1 : List UInt8 := dkwX7_height_1 ++ []
def dkwX7_height_0 : List UInt8 := [42, 42, 27, 182, 1, 61, 184, 1, 50, 182, 0, 223, 153, 0, 7, 2, 167, 0, 8, 42, 27, 182, 1, 0]
abbrev dktX7_height_0 : List UInt8 := dkwX7_height_0 ++ dktX7_height_1
theorem dksX7_height_0 : cX7_height.data.toList.drop 0 = dktX7_height_0 := by decide +kernel
theorem dksX7_height_1 : cX7_height.data.toList.drop 24 = dktX7_height_1 := dk_seg dksX7_height_0 24 rfl rfl
theorem dX7_height_0 : decode cX7_height 0 = .ok (.aload_n 0, 1) := dk_42 (dk_at dksX7_height_0 0 rfl rfl)
theorem dX7_height_1 : decode cX7_height 1 = .ok (.aload_n 0, 1) := dk_42 (dk_at dksX7_height_0 1 rfl rfl)
theorem dX7_height_2 : decode cX7_height 2 = .ok (.iload_n 1, 1) := dk_27 (dk_at dksX7_height_0 2 rfl rfl)
theorem dX7_height_3 : decode cX7_height 3 = .ok (.invokevirtual 317, 3) := dk_182 1 61 (dk_at dksX7_height_0 3 rfl rfl)
theorem dX7_height_6 : decode cX7_height 6 = .ok (.invokestatic 306, 3) := dk_184 1 50 (dk_at dksX7_height_0 6 rfl rfl)
theorem dX7_height_9 : decode cX7_height 9 = .ok (.invokevirtual 223, 3) := dk_182 0 223 (dk_at dksX7_height_0 9 rfl rfl)
theorem dX7_height_12 : decode cX7_height 12 = .ok (.ifCond .eq 7, 3) := dk_153 0 7 (dk_at dksX7_height_0 12 rfl rfl)
theorem dX7_height_15 : decode cX7_height 15 = .ok (.iconst (-1), 1) := dk_2 (dk_at dksX7_height_0 15 rfl rfl)
theorem dX7_height_16 : decode cX7_height 16 = .ok (.goto 8, 3) := dk_167 0 8 (dk_at dksX7_height_0 16 rfl rfl)
theorem dX7_height_19 : decode cX7_height 19 = .ok (.aload_n 0, 1) := dk_42 (dk_at dksX7_height_0 19 rfl rfl)
theorem dX7_height_20 : decode cX7_height 20 = .ok (.iload_n 1, 1) := dk_27 (dk_at dksX7_height_0 20 rfl rfl)
theorem dX7_height_21 : decode cX7_height 21 = .ok (.invokevirtual 256, 3) := dk_182 1 0 (dk_at dksX7_height_0 21 rfl rfl)
theorem dX7_height_24 : decode cX7_height 24 = .ok (.ireturn, 1) := dk_172 (dk_at dksX7_height_1 0 rfl rfl)
abbrev cX7_hung : ByteArray := prog_14_method_53_code
def yX7_hung : MethodName := ⟨RX7, "hung", "(II)I"⟩
def dkwX7_hung_3 : List UInt8 := [16, 254, 172]
abbrev dktX7_hung_3 : List UInt8 := dkwX7_hung_3 ++ []
def dkwX7_hung_2 : List UInt8 := [21, 4, 46, 27, 160, 0, 13, 29, 154, 0, 6, 21, 4, 172, 132, 3, 255, 132, 4, 1, 167, 255, 223]
abbrev dktX7_hung_2 : List UInt8 := dkwX7_hung_2 ++ dktX7_hung_3
def dkwX7_hung_1 : List UInt8 := [153, 0, 5, 2, 172, 28, 62, 3, 54, 4, 21, 4, 42, 180, 0, 250, 162, 0, 30, 42, 180, 0, 53]
abbrev dktX7_hung_1 : List UInt8 := dkwX7_hung_1 ++ dktX7_hung_2
def dkwX7_hung_0 : List UInt8 := [42, 42, 27, 182, 1, 61, 153, 0, 11, 28, 155, 0, 7, 4, 167, 0, 4, 3, 184, 1, 50, 182, 0, 223]
abbrev dktX7_hung_0 : List UInt8 := dkwX7_hung_0 ++ dktX7_hung_1
theorem dksX7_hung_0 : cX7_hung.data.toList.drop 0 = dktX7_hung_0 := by decide +kernel
theorem dksX7_hung_1 : cX7_hung.data.toList.drop 24 = dktX7_hung_1 := dk_seg dksX7_hung_0 24 rfl rfl
theorem dksX7_hung_2 : cX7_hung.data.toList.drop 47 = dktX7_hung_2 := dk_seg dksX7_hung_1 23 rfl rfl
theorem dksX7_hung_3 : cX7_hung.data.toList.drop 70 = dktX7_hung_3 := dk_seg dksX7_hung_2 23 rfl rfl
theorem dX7_hung_0 : decode cX7_hung 0 = .ok (.aload_n 0, 1) := dk_42 (dk_at dksX7_hung_0 0 rfl rfl)
theorem dX7_hung_1 : decode cX7_hung 1 = .ok (.aload_n 0, 1) := dk_42 (dk_at dksX7_hung_0 1 rfl rfl)
theorem dX7_hung_2 : decode cX7_hung 2 = .ok (.iload_n 1, 1) := dk_27 (dk_at dksX7_hung_0 2 rfl rfl)
theorem dX7_hung_3 : decode cX7_hung 3 = .ok (.invokevirtual 317, 3) := dk_182 1 61 (dk_at dksX7_hung_0 3 rfl rfl)
theorem dX7_hung_6 : decode cX7_hung 6 = .ok (.ifCond .eq 11, 3) := dk_153 0 11 (dk_at dksX7_hung_0 6 rfl rfl)
theorem dX7_hung_9 : decode cX7_hung 9 = .ok (.iload_n 2, 1) := dk_28 (dk_at dksX7_hung_0 9 rfl rfl)
theorem dX7_hung_10 : decode cX7_hung 10 = .ok (.ifCond .lt 7, 3) := dk_155 0 7 (dk_at dksX7_hung_0 10 rfl rfl)
theorem dX7_hung_13 : decode cX7_hung 13 = .ok (.iconst 1, 1) := dk_4 (dk_at dksX7_hung_0 13 rfl rfl)
theorem dX7_hung_14 : decode cX7_hung 14 = .ok (.goto 4, 3) := dk_167 0 4 (dk_at dksX7_hung_0 14 rfl rfl)
theorem dX7_hung_17 : decode cX7_hung 17 = .ok (.iconst 0, 1) := dk_3 (dk_at dksX7_hung_0 17 rfl rfl)
theorem dX7_hung_18 : decode cX7_hung 18 = .ok (.invokestatic 306, 3) := dk_184 1 50 (dk_at dksX7_hung_0 18 rfl rfl)
theorem dX7_hung_21 : decode cX7_hung 21 = .ok (.invokevirtual 223, 3) := dk_182 0 223 (dk_at dksX7_hung_0 21 rfl rfl)
theorem dX7_hung_24 : decode cX7_hung 24 = .ok (.ifCond .eq 5, 3) := dk_153 0 5 (dk_at dksX7_hung_1 0 rfl rfl)
theorem dX7_hung_27 : decode cX7_hung 27 = .ok (.iconst (-1), 1) := dk_2 (dk_at dksX7_hung_1 3 rfl rfl)
theorem dX7_hung_28 : decode cX7_hung 28 = .ok (.ireturn, 1) := dk_172 (dk_at dksX7_hung_1 4 rfl rfl)
theorem dX7_hung_29 : decode cX7_hung 29 = .ok (.iload_n 2, 1) := dk_28 (dk_at dksX7_hung_1 5 rfl rfl)
theorem dX7_hung_30 : decode cX7_hung 30 = .ok (.istore_n 3, 1) := dk_62 (dk_at dksX7_hung_1 6 rfl rfl)
theorem dX7_hung_31 : decode cX7_hung 31 = .ok (.iconst 0, 1) := dk_3 (dk_at dksX7_hung_1 7 rfl rfl)
theorem dX7_hung_32 : decode cX7_hung 32 = .ok (.istore 4, 2) := dk_54 4 (dk_at dksX7_hung_1 8 rfl rfl)
theorem dX7_hung_34 : decode cX7_hung 34 = .ok (.iload 4, 2) := dk_21 4 (dk_at dksX7_hung_1 10 rfl rfl)
theorem dX7_hung_36 : decode cX7_hung 36 = .ok (.aload_n 0, 1) := dk_42 (dk_at dksX7_hung_1 12 rfl rfl)
theorem dX7_hung_37 : decode cX7_hung 37 = .ok (.getfield 250, 3) := dk_180 0 250 (dk_at dksX7_hung_1 13 rfl rfl)
theorem dX7_hung_40 : decode cX7_hung 40 = .ok (.if_icmp .ge 30, 3) := dk_162 0 30 (dk_at dksX7_hung_1 16 rfl rfl)
theorem dX7_hung_43 : decode cX7_hung 43 = .ok (.aload_n 0, 1) := dk_42 (dk_at dksX7_hung_1 19 rfl rfl)
theorem dX7_hung_44 : decode cX7_hung 44 = .ok (.getfield 53, 3) := dk_180 0 53 (dk_at dksX7_hung_1 20 rfl rfl)
theorem dX7_hung_47 : decode cX7_hung 47 = .ok (.iload 4, 2) := dk_21 4 (dk_at dksX7_hung_2 0 rfl rfl)
theorem dX7_hung_49 : decode cX7_hung 49 = .ok (.iaload, 1) := dk_46 (dk_at dksX7_hung_2 2 rfl rfl)
theorem dX7_hung_50 : decode cX7_hung 50 = .ok (.iload_n 1, 1) := dk_27 (dk_at dksX7_hung_2 3 rfl rfl)
theorem dX7_hung_51 : decode cX7_hung 51 = .ok (.if_icmp .ne 13, 3) := dk_160 0 13 (dk_at dksX7_hung_2 4 rfl rfl)
theorem dX7_hung_54 : decode cX7_hung 54 = .ok (.iload_n 3, 1) := dk_29 (dk_at dksX7_hung_2 7 rfl rfl)
theorem dX7_hung_55 : decode cX7_hung 55 = .ok (.ifCond .ne 6, 3) := dk_154 0 6 (dk_at dksX7_hung_2 8 rfl rfl)
theorem dX7_hung_58 : decode cX7_hung 58 = .ok (.iload 4, 2) := dk_21 4 (dk_at dksX7_hung_2 11 rfl rfl)
theorem dX7_hung_60 : decode cX7_hung 60 = .ok (.ireturn, 1) := dk_172 (dk_at dksX7_hung_2 13 rfl rfl)
theorem dX7_hung_61 : decode cX7_hung 61 = .ok (.iinc 3 (-1), 3) := dk_132 3 255 (dk_at dksX7_hung_2 14 rfl rfl)
theorem dX7_hung_64 : decode cX7_hung 64 = .ok (.iinc 4 1, 3) := dk_132 4 1 (dk_at dksX7_hung_2 17 rfl rfl)
theorem dX7_hung_67 : decode cX7_hung 67 = .ok (.goto (-33), 3) := dk_167 255 223 (dk_at dksX7_hung_2 20 rfl rfl)
theorem dX7_hung_70 : decode cX7_hung 70 = .ok (.bipush (-2), 2) := dk_16 254 (dk_at dksX7_hung_3 0 rfl rfl)
theorem dX7_hung_72 : decode cX7_hung 72 = .ok (.ireturn, 1) := dk_172 (dk_at dksX7_hung_3 2 rfl rfl)
abbrev cX7_partOf : ByteArray := prog_14_method_54_code
def yX7_partOf : MethodName := ⟨RX7, "partOf", "(II)I"⟩
def dkwX7_partOf_2 : List UInt8 := [167, 0, 5, 16, 254, 172]
abbrev dktX7_partOf_2 : List UInt8 := dkwX7_partOf_2 ++ []
def dkwX7_partOf_1 : List UInt8 := [153, 0, 5, 2, 172, 28, 42, 27, 182, 0, 253, 162, 0, 16, 42, 180, 0, 35, 6, 27, 104, 28, 96, 46]
abbrev dktX7_partOf_1 : List UInt8 := dkwX7_partOf_1 ++ dktX7_partOf_2
def dkwX7_partOf_0 : List UInt8 := [42, 42, 27, 182, 1, 61, 153, 0, 11, 28, 155, 0, 7, 4, 167, 0, 4, 3, 184, 1, 50, 182, 0, 223]
abbrev dktX7_partOf_0 : List UInt8 := dkwX7_partOf_0 ++ dktX7_partOf_1
theorem dksX7_partOf_0 : cX7_partOf.data.toList.drop 0 = dktX7_partOf_0 := by decide +kernel
theorem dksX7_partOf_1 : cX7_partOf.data.toList.drop 24 = dktX7_partOf_1 := dk_seg dksX7_partOf_0 24 rfl rfl
theorem dksX7_partOf_2 : cX7_partOf.data.toList.drop 48 = dktX7_partOf_2 := dk_seg dksX7_partOf_1 24 rfl rfl
theorem dX7_partOf_0 : decode cX7_partOf 0 = .ok (.aload_n 0, 1) := dk_42 (dk_at dksX7_partOf_0 0 rfl rfl)
theorem dX7_partOf_1 : decode cX7_partOf 1 = .ok (.aload_n 0, 1) := dk_42 (dk_at dksX7_partOf_0 1 rfl rfl)
theorem dX7_partOf_2 : decode cX7_partOf 2 = .ok (.iload_n 1, 1) := dk_27 (dk_at dksX7_partOf_0 2 rfl rfl)
theorem dX7_partOf_3 : decode cX7_partOf 3 = .ok (.invokevirtual 317, 3) := dk_182 1 61 (dk_at dksX7_partOf_0 3 rfl rfl)
theorem dX7_partOf_6 : decode cX7_partOf 6 = .ok (.ifCond .eq 11, 3) := dk_153 0 11 (dk_at dksX7_partOf_0 6 rfl rfl)
theorem dX7_partOf_9 : decode cX7_partOf 9 = .ok (.iload_n 2, 1) := dk_28 (dk_at dksX7_partOf_0 9 rfl rfl)
theorem dX7_partOf_10 : decode cX7_partOf 10 = .ok (.ifCond .lt 7, 3) := dk_155 0 7 (dk_at dksX7_partOf_0 10 rfl rfl)
theorem dX7_partOf_13 : decode cX7_partOf 13 = .ok (.iconst 1, 1) := dk_4 (dk_at dksX7_partOf_0 13 rfl rfl)
theorem dX7_partOf_14 : decode cX7_partOf 14 = .ok (.goto 4, 3) := dk_167 0 4 (dk_at dksX7_partOf_0 14 rfl rfl)
theorem dX7_partOf_17 : decode cX7_partOf 17 = .ok (.iconst 0, 1) := dk_3 (dk_at dksX7_partOf_0 17 rfl rfl)
theorem dX7_partOf_18 : decode cX7_partOf 18 = .ok (.invokestatic 306, 3) := dk_184 1 50 (dk_at dksX7_partOf_0 18 rfl rfl)
theorem dX7_partOf_21 : decode cX7_partOf 21 = .ok (.invokevirtual 223, 3) := dk_182 0 223 (dk_at dksX7_partOf_0 21 rfl rfl)
theorem dX7_partOf_24 : decode cX7_partOf 24 = .ok (.ifCond .eq 5, 3) := dk_153 0 5 (dk_at dksX7_partOf_1 0 rfl rfl)
theorem dX7_partOf_27 : decode cX7_partOf 27 = .ok (.iconst (-1), 1) := dk_2 (dk_at dksX7_partOf_1 3 rfl rfl)
theorem dX7_partOf_28 : decode cX7_partOf 28 = .ok (.ireturn, 1) := dk_172 (dk_at dksX7_partOf_1 4 rfl rfl)
theorem dX7_partOf_29 : decode cX7_partOf 29 = .ok (.iload_n 2, 1) := dk_28 (dk_at dksX7_partOf_1 5 rfl rfl)
theorem dX7_partOf_30 : decode cX7_partOf 30 = .ok (.aload_n 0, 1) := dk_42 (dk_at dksX7_partOf_1 6 rfl rfl)
theorem dX7_partOf_31 : decode cX7_partOf 31 = .ok (.iload_n 1, 1) := dk_27 (dk_at dksX7_partOf_1 7 rfl rfl)
theorem dX7_partOf_32 : decode cX7_partOf 32 = .ok (.invokevirtual 253, 3) := dk_182 0 253 (dk_at dksX7_partOf_1 8 rfl rfl)
theorem dX7_partOf_35 : decode cX7_partOf 35 = .ok (.if_icmp .ge 16, 3) := dk_162 0 16 (dk_at dksX7_partOf_1 11 rfl rfl)
theorem dX7_partOf_38 : decode cX7_partOf 38 = .ok (.aload_n 0, 1) := dk_42 (dk_at dksX7_partOf_1 14 rfl rfl)
theorem dX7_partOf_39 : decode cX7_partOf 39 = .ok (.getfield 35, 3) := dk_180 0 35 (dk_at dksX7_partOf_1 15 rfl rfl)
theorem dX7_partOf_42 : decode cX7_partOf 42 = .ok (.iconst 3, 1) := dk_6 (dk_at dksX7_partOf_1 18 rfl rfl)
theorem dX7_partOf_43 : decode cX7_partOf 43 = .ok (.iload_n 1, 1) := dk_27 (dk_at dksX7_partOf_1 19 rfl rfl)
theorem dX7_partOf_44 : decode cX7_partOf 44 = .ok (.imul, 1) := dk_104 (dk_at dksX7_partOf_1 20 rfl rfl)
theorem dX7_partOf_45 : decode cX7_partOf 45 = .ok (.iload_n 2, 1) := dk_28 (dk_at dksX7_partOf_1 21 rfl rfl)
theorem dX7_partOf_46 : decode cX7_partOf 46 = .ok (.iadd, 1) := dk_96 (dk_at dksX7_partOf_1 22 rfl rfl)
theorem dX7_partOf_47 : decode cX7_partOf 47 = .ok (.iaload, 1) := dk_46 (dk_at dksX7_partOf_1 23 rfl rfl)
theorem dX7_partOf_48 : decode cX7_partOf 48 = .ok (.goto 5, 3) := dk_167 0 5 (dk_at dksX7_partOf_2 0 rfl rfl)
theorem dX7_partOf_51 : decode cX7_partOf 51 = .ok (.bipush (-2), 2) := dk_16 254 (dk_at dksX7_partOf_2 3 rfl rfl)
theorem dX7_partOf_53 : decode cX7_partOf 53 = .ok (.ireturn, 1) := dk_172 (dk_at dksX7_partOf_2 5 rfl rfl)
abbrev cX7_sameOf : ByteArray := prog_14_method_55_code
def yX7_sameOf : MethodName := ⟨RX7, "sameOf", "(II)I"⟩
def dkwX7_sameOf_4 : List UInt8 := [4, 167, 0, 4, 3, 172]
abbrev dktX7_sameOf_4 : List UInt8 := dkwX7_sameOf_4 ++ []
def dkwX7_sameOf_3 : List UInt8 := [4, 27, 120, 2, 130, 126, 42, 180, 0, 38, 27, 46, 42, 180, 0, 41, 27, 46, 182, 1, 76, 153, 0, 7]
abbrev dktX7_sameOf_3 : List UInt8 := dkwX7_sameOf_3 ++ dktX7_sameOf_4
def dkwX7_sameOf_2 : List UInt8 := [154, 0, 12, 42, 180, 0, 38, 27, 46, 167, 0, 9, 42, 180, 0, 41, 27, 46, 172, 42, 42, 182, 1, 73]
abbrev dktX7_sameOf_2 : List UInt8 := dkwX7_sameOf_2 ++ dktX7_sameOf_3
def dkwX7_sameOf_1 : List UInt8 := [4, 167, 0, 4, 3, 184, 1, 50, 182, 0, 223, 153, 0, 5, 2, 172, 28, 5, 162, 0, 23, 28]
abbrev dktX7_sameOf_1 : List UInt8 := dkwX7_sameOf_1 ++ dktX7_sameOf_2
def dkwX7_sameOf_0 : List UInt8 := [42, 27, 3, 42, 180, 1, 31, 4, 100, 184, 0, 132, 153, 0, 16, 28, 3, 5, 184, 0, 132, 153, 0, 7]
abbrev dktX7_sameOf_0 : List UInt8 := dkwX7_sameOf_0 ++ dktX7_sameOf_1
theorem dksX7_sameOf_0 : cX7_sameOf.data.toList.drop 0 = dktX7_sameOf_0 := by decide +kernel
theorem dksX7_sameOf_1 : cX7_sameOf.data.toList.drop 24 = dktX7_sameOf_1 := dk_seg dksX7_sameOf_0 24 rfl rfl
theorem dksX7_sameOf_2 : cX7_sameOf.data.toList.drop 46 = dktX7_sameOf_2 := dk_seg dksX7_sameOf_1 22 rfl rfl
theorem dksX7_sameOf_3 : cX7_sameOf.data.toList.drop 70 = dktX7_sameOf_3 := dk_seg dksX7_sameOf_2 24 rfl rfl
theorem dksX7_sameOf_4 : cX7_sameOf.data.toList.drop 94 = dktX7_sameOf_4 := dk_seg dksX7_sameOf_3 24 rfl rfl
theorem dX7_sameOf_0 : decode cX7_sameOf 0 = .ok (.aload_n 0, 1) := dk_42 (dk_at dksX7_sameOf_0 0 rfl rfl)
theorem dX7_sameOf_1 : decode cX7_sameOf 1 = .ok (.iload_n 1, 1) := dk_27 (dk_at dksX7_sameOf_0 1 rfl rfl)
theorem dX7_sameOf_2 : decode cX7_sameOf 2 = .ok (.iconst 0, 1) := dk_3 (dk_at dksX7_sameOf_0 2 rfl rfl)
theorem dX7_sameOf_3 : decode cX7_sameOf 3 = .ok (.aload_n 0, 1) := dk_42 (dk_at dksX7_sameOf_0 3 rfl rfl)
theorem dX7_sameOf_4 : decode cX7_sameOf 4 = .ok (.getfield 287, 3) := dk_180 1 31 (dk_at dksX7_sameOf_0 4 rfl rfl)
theorem dX7_sameOf_7 : decode cX7_sameOf 7 = .ok (.iconst 1, 1) := dk_4 (dk_at dksX7_sameOf_0 7 rfl rfl)
theorem dX7_sameOf_8 : decode cX7_sameOf 8 = .ok (.isub, 1) := dk_100 (dk_at dksX7_sameOf_0 8 rfl rfl)
theorem dX7_sameOf_9 : decode cX7_sameOf 9 = .ok (.invokestatic 132, 3) := dk_184 0 132 (dk_at dksX7_sameOf_0 9 rfl rfl)
theorem dX7_sameOf_12 : decode cX7_sameOf 12 = .ok (.ifCond .eq 16, 3) := dk_153 0 16 (dk_at dksX7_sameOf_0 12 rfl rfl)
theorem dX7_sameOf_15 : decode cX7_sameOf 15 = .ok (.iload_n 2, 1) := dk_28 (dk_at dksX7_sameOf_0 15 rfl rfl)
theorem dX7_sameOf_16 : decode cX7_sameOf 16 = .ok (.iconst 0, 1) := dk_3 (dk_at dksX7_sameOf_0 16 rfl rfl)
theorem dX7_sameOf_17 : decode cX7_sameOf 17 = .ok (.iconst 2, 1) := dk_5 (dk_at dksX7_sameOf_0 17 rfl rfl)
theorem dX7_sameOf_18 : decode cX7_sameOf 18 = .ok (.invokestatic 132, 3) := dk_184 0 132 (dk_at dksX7_sameOf_0 18 rfl rfl)
theorem dX7_sameOf_21 : decode cX7_sameOf 21 = .ok (.ifCond .eq 7, 3) := dk_153 0 7 (dk_at dksX7_sameOf_0 21 rfl rfl)
theorem dX7_sameOf_24 : decode cX7_sameOf 24 = .ok (.iconst 1, 1) := dk_4 (dk_at dksX7_sameOf_1 0 rfl rfl)
theorem dX7_sameOf_25 : decode cX7_sameOf 25 = .ok (.goto 4, 3) := dk_167 0 4 (dk_at dksX7_sameOf_1 1 rfl rfl)
theorem dX7_sameOf_28 : decode cX7_sameOf 28 = .ok (.iconst 0, 1) := dk_3 (dk_at dksX7_sameOf_1 4 rfl rfl)
theorem dX7_sameOf_29 : decode cX7_sameOf 29 = .ok (.invokestatic 306, 3) := dk_184 1 50 (dk_at dksX7_sameOf_1 5 rfl rfl)
theorem dX7_sameOf_32 : decode cX7_sameOf 32 = .ok (.invokevirtual 223, 3) := dk_182 0 223 (dk_at dksX7_sameOf_1 8 rfl rfl)
theorem dX7_sameOf_35 : decode cX7_sameOf 35 = .ok (.ifCond .eq 5, 3) := dk_153 0 5 (dk_at dksX7_sameOf_1 11 rfl rfl)
theorem dX7_sameOf_38 : decode cX7_sameOf 38 = .ok (.iconst (-1), 1) := dk_2 (dk_at dksX7_sameOf_1 14 rfl rfl)
theorem dX7_sameOf_39 : decode cX7_sameOf 39 = .ok (.ireturn, 1) := dk_172 (dk_at dksX7_sameOf_1 15 rfl rfl)
theorem dX7_sameOf_40 : decode cX7_sameOf 40 = .ok (.iload_n 2, 1) := dk_28 (dk_at dksX7_sameOf_1 16 rfl rfl)
theorem dX7_sameOf_41 : decode cX7_sameOf 41 = .ok (.iconst 2, 1) := dk_5 (dk_at dksX7_sameOf_1 17 rfl rfl)
theorem dX7_sameOf_42 : decode cX7_sameOf 42 = .ok (.if_icmp .ge 23, 3) := dk_162 0 23 (dk_at dksX7_sameOf_1 18 rfl rfl)
theorem dX7_sameOf_45 : decode cX7_sameOf 45 = .ok (.iload_n 2, 1) := dk_28 (dk_at dksX7_sameOf_1 21 rfl rfl)
theorem dX7_sameOf_46 : decode cX7_sameOf 46 = .ok (.ifCond .ne 12, 3) := dk_154 0 12 (dk_at dksX7_sameOf_2 0 rfl rfl)
theorem dX7_sameOf_49 : decode cX7_sameOf 49 = .ok (.aload_n 0, 1) := dk_42 (dk_at dksX7_sameOf_2 3 rfl rfl)
theorem dX7_sameOf_50 : decode cX7_sameOf 50 = .ok (.getfield 38, 3) := dk_180 0 38 (dk_at dksX7_sameOf_2 4 rfl rfl)
theorem dX7_sameOf_53 : decode cX7_sameOf 53 = .ok (.iload_n 1, 1) := dk_27 (dk_at dksX7_sameOf_2 7 rfl rfl)
theorem dX7_sameOf_54 : decode cX7_sameOf 54 = .ok (.iaload, 1) := dk_46 (dk_at dksX7_sameOf_2 8 rfl rfl)
theorem dX7_sameOf_55 : decode cX7_sameOf 55 = .ok (.goto 9, 3) := dk_167 0 9 (dk_at dksX7_sameOf_2 9 rfl rfl)
theorem dX7_sameOf_58 : decode cX7_sameOf 58 = .ok (.aload_n 0, 1) := dk_42 (dk_at dksX7_sameOf_2 12 rfl rfl)
theorem dX7_sameOf_59 : decode cX7_sameOf 59 = .ok (.getfield 41, 3) := dk_180 0 41 (dk_at dksX7_sameOf_2 13 rfl rfl)
theorem dX7_sameOf_62 : decode cX7_sameOf 62 = .ok (.iload_n 1, 1) := dk_27 (dk_at dksX7_sameOf_2 16 rfl rfl)
theorem dX7_sameOf_63 : decode cX7_sameOf 63 = .ok (.iaload, 1) := dk_46 (dk_at dksX7_sameOf_2 17 rfl rfl)
theorem dX7_sameOf_64 : decode cX7_sameOf 64 = .ok (.ireturn, 1) := dk_172 (dk_at dksX7_sameOf_2 18 rfl rfl)
theorem dX7_sameOf_65 : decode cX7_sameOf 65 = .ok (.aload_n 0, 1) := dk_42 (dk_at dksX7_sameOf_2 19 rfl rfl)
theorem dX7_sameOf_66 : decode cX7_sameOf 66 = .ok (.aload_n 0, 1) := dk_42 (dk_at dksX7_sameOf_2 20 rfl rfl)
theorem dX7_sameOf_67 : decode cX7_sameOf 67 = .ok (.invokevirtual 329, 3) := dk_182 1 73 (dk_at dksX7_sameOf_2 21 rfl rfl)
theorem dX7_sameOf_70 : decode cX7_sameOf 70 = .ok (.iconst 1, 1) := dk_4 (dk_at dksX7_sameOf_3 0 rfl rfl)
theorem dX7_sameOf_71 : decode cX7_sameOf 71 = .ok (.iload_n 1, 1) := dk_27 (dk_at dksX7_sameOf_3 1 rfl rfl)
theorem dX7_sameOf_72 : decode cX7_sameOf 72 = .ok (.ishl, 1) := dk_120 (dk_at dksX7_sameOf_3 2 rfl rfl)
theorem dX7_sameOf_73 : decode cX7_sameOf 73 = .ok (.iconst (-1), 1) := dk_2 (dk_at dksX7_sameOf_3 3 rfl rfl)
theorem dX7_sameOf_74 : decode cX7_sameOf 74 = .ok (.ixor, 1) := dk_130 (dk_at dksX7_sameOf_3 4 rfl rfl)
theorem dX7_sameOf_75 : decode cX7_sameOf 75 = .ok (.iand, 1) := dk_126 (dk_at dksX7_sameOf_3 5 rfl rfl)
theorem dX7_sameOf_76 : decode cX7_sameOf 76 = .ok (.aload_n 0, 1) := dk_42 (dk_at dksX7_sameOf_3 6 rfl rfl)
theorem dX7_sameOf_77 : decode cX7_sameOf 77 = .ok (.getfield 38, 3) := dk_180 0 38 (dk_at dksX7_sameOf_3 7 rfl rfl)
theorem dX7_sameOf_80 : decode cX7_sameOf 80 = .ok (.iload_n 1, 1) := dk_27 (dk_at dksX7_sameOf_3 10 rfl rfl)
theorem dX7_sameOf_81 : decode cX7_sameOf 81 = .ok (.iaload, 1) := dk_46 (dk_at dksX7_sameOf_3 11 rfl rfl)
theorem dX7_sameOf_82 : decode cX7_sameOf 82 = .ok (.aload_n 0, 1) := dk_42 (dk_at dksX7_sameOf_3 12 rfl rfl)
theorem dX7_sameOf_83 : decode cX7_sameOf 83 = .ok (.getfield 41, 3) := dk_180 0 41 (dk_at dksX7_sameOf_3 13 rfl rfl)
theorem dX7_sameOf_86 : decode cX7_sameOf 86 = .ok (.iload_n 1, 1) := dk_27 (dk_at dksX7_sameOf_3 16 rfl rfl)
theorem dX7_sameOf_87 : decode cX7_sameOf 87 = .ok (.iaload, 1) := dk_46 (dk_at dksX7_sameOf_3 17 rfl rfl)
theorem dX7_sameOf_88 : decode cX7_sameOf 88 = .ok (.invokevirtual 332, 3) := dk_182 1 76 (dk_at dksX7_sameOf_3 18 rfl rfl)
theorem dX7_sameOf_91 : decode cX7_sameOf 91 = .ok (.ifCond .eq 7, 3) := dk_153 0 7 (dk_at dksX7_sameOf_3 21 rfl rfl)
theorem dX7_sameOf_94 : decode cX7_sameOf 94 = .ok (.iconst 1, 1) := dk_4 (dk_at dksX7_sameOf_4 0 rfl rfl)
theorem dX7_sameOf_95 : decode cX7_sameOf 95 = .ok (.goto 4, 3) := dk_167 0 4 (dk_at dksX7_sameOf_4 1 rfl rfl)
theorem dX7_sameOf_98 : decode cX7_sameOf 98 = .ok (.iconst 0, 1) := dk_3 (dk_at dksX7_sameOf_4 4 rfl rfl)
theorem dX7_sameOf_99 : decode cX7_sameOf 99 = .ok (.ireturn, 1) := dk_172 (dk_at dksX7_sameOf_4 5 rfl rfl)
abbrev cX7_allSames : ByteArray := prog_14_method_44_code
def yX7_allSames : MethodName := ⟨RX7, "allSames", "()I"⟩
def dkwX7_allSames_0 : List UInt8 := [4, 42, 180, 1, 31, 120, 4, 100, 172]
abbrev dktX7_allSames_0 : List UInt8 := dkwX7_allSames_0 ++ []
theorem dksX7_allSames_0 : cX7_allSames.data.toList.drop 0 = dktX7_allSames_0 := by decide +kernel
theorem dX7_allSames_0 : decode cX7_allSames 0 = .ok (.iconst 1, 1) := dk_4 (dk_at dksX7_allSames_0 0 rfl rfl)
theorem dX7_allSames_1 : decode cX7_allSames 1 = .ok (.aload_n 0, 1) := dk_42 (dk_at dksX7_allSames_0 1 rfl rfl)
theorem dX7_allSames_2 : decode cX7_allSames 2 = .ok (.getfield 287, 3) := dk_180 1 31 (dk_at dksX7_allSames_0 2 rfl rfl)
theorem dX7_allSames_5 : decode cX7_allSames 5 = .ok (.ishl, 1) := dk_120 (dk_at dksX7_allSames_0 5 rfl rfl)
theorem dX7_allSames_6 : decode cX7_allSames 6 = .ok (.iconst 1, 1) := dk_4 (dk_at dksX7_allSames_0 6 rfl rfl)
theorem dX7_allSames_7 : decode cX7_allSames 7 = .ok (.isub, 1) := dk_100 (dk_at dksX7_allSames_0 7 rfl rfl)
theorem dX7_allSames_8 : decode cX7_allSames 8 = .ok (.ireturn, 1) := dk_172 (dk_at dksX7_allSames_0 8 rfl rfl)
abbrev cX7_isOneBy : ByteArray := prog_14_method_41_code
def yX7_isOneBy : MethodName := ⟨RX7, "isOneBy", "(III)Z"⟩
def dkwX7_isOneBy_1 : List UInt8 := [3, 172]
abbrev dktX7_isOneBy_1 : List UInt8 := dkwX7_isOneBy_1 ++ []
def dkwX7_isOneBy_0 : List UInt8 := [42, 27, 182, 1, 47, 42, 180, 0, 71, 28, 46, 42, 180, 0, 71, 29, 46, 160, 0, 7, 4, 167, 0, 4]
abbrev dktX7_isOneBy_0 : List UInt8 := dkwX7_isOneBy_0 ++ dktX7_isOneBy_1
theorem dksX7_isOneBy_0 : cX7_isOneBy.data.toList.drop 0 = dktX7_isOneBy_0 := by decide +kernel
theorem dksX7_isOneBy_1 : cX7_isOneBy.data.toList.drop 24 = dktX7_isOneBy_1 := dk_seg dksX7_isOneBy_0 24 rfl rfl
theorem dX7_isOneBy_0 : decode cX7_isOneBy 0 = .ok (.aload_n 0, 1) := dk_42 (dk_at dksX7_isOneBy_0 0 rfl rfl)
theorem dX7_isOneBy_1 : decode cX7_isOneBy 1 = .ok (.iload_n 1, 1) := dk_27 (dk_at dksX7_isOneBy_0 1 rfl rfl)
theorem dX7_isOneBy_2 : decode cX7_isOneBy 2 = .ok (.invokevirtual 303, 3) := dk_182 1 47 (dk_at dksX7_isOneBy_0 2 rfl rfl)
theorem dX7_isOneBy_5 : decode cX7_isOneBy 5 = .ok (.aload_n 0, 1) := dk_42 (dk_at dksX7_isOneBy_0 5 rfl rfl)
theorem dX7_isOneBy_6 : decode cX7_isOneBy 6 = .ok (.getfield 71, 3) := dk_180 0 71 (dk_at dksX7_isOneBy_0 6 rfl rfl)
theorem dX7_isOneBy_9 : decode cX7_isOneBy 9 = .ok (.iload_n 2, 1) := dk_28 (dk_at dksX7_isOneBy_0 9 rfl rfl)
theorem dX7_isOneBy_10 : decode cX7_isOneBy 10 = .ok (.iaload, 1) := dk_46 (dk_at dksX7_isOneBy_0 10 rfl rfl)
theorem dX7_isOneBy_11 : decode cX7_isOneBy 11 = .ok (.aload_n 0, 1) := dk_42 (dk_at dksX7_isOneBy_0 11 rfl rfl)
theorem dX7_isOneBy_12 : decode cX7_isOneBy 12 = .ok (.getfield 71, 3) := dk_180 0 71 (dk_at dksX7_isOneBy_0 12 rfl rfl)
theorem dX7_isOneBy_15 : decode cX7_isOneBy 15 = .ok (.iload_n 3, 1) := dk_29 (dk_at dksX7_isOneBy_0 15 rfl rfl)
theorem dX7_isOneBy_16 : decode cX7_isOneBy 16 = .ok (.iaload, 1) := dk_46 (dk_at dksX7_isOneBy_0 16 rfl rfl)
theorem dX7_isOneBy_17 : decode cX7_isOneBy 17 = .ok (.if_icmp .ne 7, 3) := dk_160 0 7 (dk_at dksX7_isOneBy_0 17 rfl rfl)
theorem dX7_isOneBy_20 : decode cX7_isOneBy 20 = .ok (.iconst 1, 1) := dk_4 (dk_at dksX7_isOneBy_0 20 rfl rfl)
theorem dX7_isOneBy_21 : decode cX7_isOneBy 21 = .ok (.goto 4, 3) := dk_167 0 4 (dk_at dksX7_isOneBy_0 21 rfl rfl)
theorem dX7_isOneBy_24 : decode cX7_isOneBy 24 = .ok (.iconst 0, 1) := dk_3 (dk_at dksX7_isOneBy_1 0 rfl rfl)
theorem dX7_isOneBy_25 : decode cX7_isOneBy 25 = .ok (.ireturn, 1) := dk_172 (dk_at dksX7_isOneBy_1 1 rfl rfl)
abbrev cX7_closesBy : ByteArray := prog_14_method_40_code
def yX7_closesBy : MethodName := ⟨RX7, "closesBy", "(I)V"⟩
def dkwX7_closesBy_6 : List UInt8 := [61, 132, 4, 1, 167, 255, 201, 132, 3, 1, 167, 255, 182, 167, 255, 171, 177]
abbrev dktX7_closesBy_6 : List UInt8 := dkwX7_closesBy_6 ++ []
def dkwX7_closesBy_5 : List UInt8 := [180, 0, 71, 29, 21, 4, 182, 1, 17, 153, 0, 16, 42, 42, 180, 0, 71, 29, 21, 4, 182, 1, 13, 4]
abbrev dktX7_closesBy_5 : List UInt8 := dkwX7_closesBy_5 ++ dktX7_closesBy_6
def dkwX7_closesBy_4 : List UInt8 := [180, 0, 250, 162, 0, 52, 42, 180, 0, 71, 29, 46, 42, 180, 0, 71, 21, 4, 46, 159, 0, 30, 42, 42]
abbrev dktX7_closesBy_4 : List UInt8 := dkwX7_closesBy_4 ++ dktX7_closesBy_5
def dkwX7_closesBy_3 : List UInt8 := [153, 0, 87, 3, 61, 3, 62, 29, 42, 180, 0, 250, 162, 0, 72, 29, 4, 96, 54, 4, 21, 4, 42]
abbrev dktX7_closesBy_3 : List UInt8 := dkwX7_closesBy_3 ++ dktX7_closesBy_4
def dkwX7_closesBy_2 : List UInt8 := [180, 0, 38, 28, 46, 42, 180, 0, 41, 28, 46, 182, 1, 13, 132, 2, 1, 167, 255, 218, 4, 61, 28]
abbrev dktX7_closesBy_2 : List UInt8 := dkwX7_closesBy_2 ++ dktX7_closesBy_3
def dkwX7_closesBy_1 : List UInt8 := [61, 28, 16, 12, 163, 0, 38, 27, 28, 122, 4, 126, 4, 160, 0, 23, 42, 42, 180, 0, 71, 42]
abbrev dktX7_closesBy_1 : List UInt8 := dkwX7_closesBy_1 ++ dktX7_closesBy_2
def dkwX7_closesBy_0 : List UInt8 := [3, 61, 28, 42, 180, 0, 250, 162, 0, 16, 42, 180, 0, 71, 28, 28, 79, 132, 2, 1, 167, 255, 238, 3]
abbrev dktX7_closesBy_0 : List UInt8 := dkwX7_closesBy_0 ++ dktX7_closesBy_1
theorem dksX7_closesBy_0 : cX7_closesBy.data.toList.drop 0 = dktX7_closesBy_0 := by decide +kernel
theorem dksX7_closesBy_1 : cX7_closesBy.data.toList.drop 24 = dktX7_closesBy_1 := dk_seg dksX7_closesBy_0 24 rfl rfl
theorem dksX7_closesBy_2 : cX7_closesBy.data.toList.drop 46 = dktX7_closesBy_2 := dk_seg dksX7_closesBy_1 22 rfl rfl
theorem dksX7_closesBy_3 : cX7_closesBy.data.toList.drop 69 = dktX7_closesBy_3 := dk_seg dksX7_closesBy_2 23 rfl rfl
theorem dksX7_closesBy_4 : cX7_closesBy.data.toList.drop 92 = dktX7_closesBy_4 := dk_seg dksX7_closesBy_3 23 rfl rfl
theorem dksX7_closesBy_5 : cX7_closesBy.data.toList.drop 116 = dktX7_closesBy_5 := dk_seg dksX7_closesBy_4 24 rfl rfl
theorem dksX7_closesBy_6 : cX7_closesBy.data.toList.drop 140 = dktX7_closesBy_6 := dk_seg dksX7_closesBy_5 24 rfl rfl
theorem dX7_closesBy_0 : decode cX7_closesBy 0 = .ok (.iconst 0, 1) := dk_3 (dk_at dksX7_closesBy_0 0 rfl rfl)
theorem dX7_closesBy_1 : decode cX7_closesBy 1 = .ok (.istore_n 2, 1) := dk_61 (dk_at dksX7_closesBy_0 1 rfl rfl)
theorem dX7_closesBy_2 : decode cX7_closesBy 2 = .ok (.iload_n 2, 1) := dk_28 (dk_at dksX7_closesBy_0 2 rfl rfl)
theorem dX7_closesBy_3 : decode cX7_closesBy 3 = .ok (.aload_n 0, 1) := dk_42 (dk_at dksX7_closesBy_0 3 rfl rfl)
theorem dX7_closesBy_4 : decode cX7_closesBy 4 = .ok (.getfield 250, 3) := dk_180 0 250 (dk_at dksX7_closesBy_0 4 rfl rfl)
theorem dX7_closesBy_7 : decode cX7_closesBy 7 = .ok (.if_icmp .ge 16, 3) := dk_162 0 16 (dk_at dksX7_closesBy_0 7 rfl rfl)
theorem dX7_closesBy_10 : decode cX7_closesBy 10 = .ok (.aload_n 0, 1) := dk_42 (dk_at dksX7_closesBy_0 10 rfl rfl)
theorem dX7_closesBy_11 : decode cX7_closesBy 11 = .ok (.getfield 71, 3) := dk_180 0 71 (dk_at dksX7_closesBy_0 11 rfl rfl)
theorem dX7_closesBy_14 : decode cX7_closesBy 14 = .ok (.iload_n 2, 1) := dk_28 (dk_at dksX7_closesBy_0 14 rfl rfl)
theorem dX7_closesBy_15 : decode cX7_closesBy 15 = .ok (.iload_n 2, 1) := dk_28 (dk_at dksX7_closesBy_0 15 rfl rfl)
theorem dX7_closesBy_16 : decode cX7_closesBy 16 = .ok (.iastore, 1) := dk_79 (dk_at dksX7_closesBy_0 16 rfl rfl)
theorem dX7_closesBy_17 : decode cX7_closesBy 17 = .ok (.iinc 2 1, 3) := dk_132 2 1 (dk_at dksX7_closesBy_0 17 rfl rfl)
theorem dX7_closesBy_20 : decode cX7_closesBy 20 = .ok (.goto (-18), 3) := dk_167 255 238 (dk_at dksX7_closesBy_0 20 rfl rfl)
theorem dX7_closesBy_23 : decode cX7_closesBy 23 = .ok (.iconst 0, 1) := dk_3 (dk_at dksX7_closesBy_0 23 rfl rfl)
theorem dX7_closesBy_24 : decode cX7_closesBy 24 = .ok (.istore_n 2, 1) := dk_61 (dk_at dksX7_closesBy_1 0 rfl rfl)
theorem dX7_closesBy_25 : decode cX7_closesBy 25 = .ok (.iload_n 2, 1) := dk_28 (dk_at dksX7_closesBy_1 1 rfl rfl)
theorem dX7_closesBy_26 : decode cX7_closesBy 26 = .ok (.bipush 12, 2) := dk_16 12 (dk_at dksX7_closesBy_1 2 rfl rfl)
theorem dX7_closesBy_28 : decode cX7_closesBy 28 = .ok (.if_icmp .gt 38, 3) := dk_163 0 38 (dk_at dksX7_closesBy_1 4 rfl rfl)
theorem dX7_closesBy_31 : decode cX7_closesBy 31 = .ok (.iload_n 1, 1) := dk_27 (dk_at dksX7_closesBy_1 7 rfl rfl)
theorem dX7_closesBy_32 : decode cX7_closesBy 32 = .ok (.iload_n 2, 1) := dk_28 (dk_at dksX7_closesBy_1 8 rfl rfl)
theorem dX7_closesBy_33 : decode cX7_closesBy 33 = .ok (.ishr, 1) := dk_122 (dk_at dksX7_closesBy_1 9 rfl rfl)
theorem dX7_closesBy_34 : decode cX7_closesBy 34 = .ok (.iconst 1, 1) := dk_4 (dk_at dksX7_closesBy_1 10 rfl rfl)
theorem dX7_closesBy_35 : decode cX7_closesBy 35 = .ok (.iand, 1) := dk_126 (dk_at dksX7_closesBy_1 11 rfl rfl)
theorem dX7_closesBy_36 : decode cX7_closesBy 36 = .ok (.iconst 1, 1) := dk_4 (dk_at dksX7_closesBy_1 12 rfl rfl)
theorem dX7_closesBy_37 : decode cX7_closesBy 37 = .ok (.if_icmp .ne 23, 3) := dk_160 0 23 (dk_at dksX7_closesBy_1 13 rfl rfl)
theorem dX7_closesBy_40 : decode cX7_closesBy 40 = .ok (.aload_n 0, 1) := dk_42 (dk_at dksX7_closesBy_1 16 rfl rfl)
theorem dX7_closesBy_41 : decode cX7_closesBy 41 = .ok (.aload_n 0, 1) := dk_42 (dk_at dksX7_closesBy_1 17 rfl rfl)
theorem dX7_closesBy_42 : decode cX7_closesBy 42 = .ok (.getfield 71, 3) := dk_180 0 71 (dk_at dksX7_closesBy_1 18 rfl rfl)
theorem dX7_closesBy_45 : decode cX7_closesBy 45 = .ok (.aload_n 0, 1) := dk_42 (dk_at dksX7_closesBy_1 21 rfl rfl)
theorem dX7_closesBy_46 : decode cX7_closesBy 46 = .ok (.getfield 38, 3) := dk_180 0 38 (dk_at dksX7_closesBy_2 0 rfl rfl)
theorem dX7_closesBy_49 : decode cX7_closesBy 49 = .ok (.iload_n 2, 1) := dk_28 (dk_at dksX7_closesBy_2 3 rfl rfl)
theorem dX7_closesBy_50 : decode cX7_closesBy 50 = .ok (.iaload, 1) := dk_46 (dk_at dksX7_closesBy_2 4 rfl rfl)
theorem dX7_closesBy_51 : decode cX7_closesBy 51 = .ok (.aload_n 0, 1) := dk_42 (dk_at dksX7_closesBy_2 5 rfl rfl)
theorem dX7_closesBy_52 : decode cX7_closesBy 52 = .ok (.getfield 41, 3) := dk_180 0 41 (dk_at dksX7_closesBy_2 6 rfl rfl)
theorem dX7_closesBy_55 : decode cX7_closesBy 55 = .ok (.iload_n 2, 1) := dk_28 (dk_at dksX7_closesBy_2 9 rfl rfl)
theorem dX7_closesBy_56 : decode cX7_closesBy 56 = .ok (.iaload, 1) := dk_46 (dk_at dksX7_closesBy_2 10 rfl rfl)
theorem dX7_closesBy_57 : decode cX7_closesBy 57 = .ok (.invokevirtual 269, 3) := dk_182 1 13 (dk_at dksX7_closesBy_2 11 rfl rfl)
theorem dX7_closesBy_60 : decode cX7_closesBy 60 = .ok (.iinc 2 1, 3) := dk_132 2 1 (dk_at dksX7_closesBy_2 14 rfl rfl)
theorem dX7_closesBy_63 : decode cX7_closesBy 63 = .ok (.goto (-38), 3) := dk_167 255 218 (dk_at dksX7_closesBy_2 17 rfl rfl)
theorem dX7_closesBy_66 : decode cX7_closesBy 66 = .ok (.iconst 1, 1) := dk_4 (dk_at dksX7_closesBy_2 20 rfl rfl)
theorem dX7_closesBy_67 : decode cX7_closesBy 67 = .ok (.istore_n 2, 1) := dk_61 (dk_at dksX7_closesBy_2 21 rfl rfl)
theorem dX7_closesBy_68 : decode cX7_closesBy 68 = .ok (.iload_n 2, 1) := dk_28 (dk_at dksX7_closesBy_2 22 rfl rfl)
theorem dX7_closesBy_69 : decode cX7_closesBy 69 = .ok (.ifCond .eq 87, 3) := dk_153 0 87 (dk_at dksX7_closesBy_3 0 rfl rfl)
theorem dX7_closesBy_72 : decode cX7_closesBy 72 = .ok (.iconst 0, 1) := dk_3 (dk_at dksX7_closesBy_3 3 rfl rfl)
theorem dX7_closesBy_73 : decode cX7_closesBy 73 = .ok (.istore_n 2, 1) := dk_61 (dk_at dksX7_closesBy_3 4 rfl rfl)
theorem dX7_closesBy_74 : decode cX7_closesBy 74 = .ok (.iconst 0, 1) := dk_3 (dk_at dksX7_closesBy_3 5 rfl rfl)
theorem dX7_closesBy_75 : decode cX7_closesBy 75 = .ok (.istore_n 3, 1) := dk_62 (dk_at dksX7_closesBy_3 6 rfl rfl)
theorem dX7_closesBy_76 : decode cX7_closesBy 76 = .ok (.iload_n 3, 1) := dk_29 (dk_at dksX7_closesBy_3 7 rfl rfl)
theorem dX7_closesBy_77 : decode cX7_closesBy 77 = .ok (.aload_n 0, 1) := dk_42 (dk_at dksX7_closesBy_3 8 rfl rfl)
theorem dX7_closesBy_78 : decode cX7_closesBy 78 = .ok (.getfield 250, 3) := dk_180 0 250 (dk_at dksX7_closesBy_3 9 rfl rfl)
theorem dX7_closesBy_81 : decode cX7_closesBy 81 = .ok (.if_icmp .ge 72, 3) := dk_162 0 72 (dk_at dksX7_closesBy_3 12 rfl rfl)
theorem dX7_closesBy_84 : decode cX7_closesBy 84 = .ok (.iload_n 3, 1) := dk_29 (dk_at dksX7_closesBy_3 15 rfl rfl)
theorem dX7_closesBy_85 : decode cX7_closesBy 85 = .ok (.iconst 1, 1) := dk_4 (dk_at dksX7_closesBy_3 16 rfl rfl)
theorem dX7_closesBy_86 : decode cX7_closesBy 86 = .ok (.iadd, 1) := dk_96 (dk_at dksX7_closesBy_3 17 rfl rfl)
theorem dX7_closesBy_87 : decode cX7_closesBy 87 = .ok (.istore 4, 2) := dk_54 4 (dk_at dksX7_closesBy_3 18 rfl rfl)
theorem dX7_closesBy_89 : decode cX7_closesBy 89 = .ok (.iload 4, 2) := dk_21 4 (dk_at dksX7_closesBy_3 20 rfl rfl)
theorem dX7_closesBy_91 : decode cX7_closesBy 91 = .ok (.aload_n 0, 1) := dk_42 (dk_at dksX7_closesBy_3 22 rfl rfl)
theorem dX7_closesBy_92 : decode cX7_closesBy 92 = .ok (.getfield 250, 3) := dk_180 0 250 (dk_at dksX7_closesBy_4 0 rfl rfl)
theorem dX7_closesBy_95 : decode cX7_closesBy 95 = .ok (.if_icmp .ge 52, 3) := dk_162 0 52 (dk_at dksX7_closesBy_4 3 rfl rfl)
theorem dX7_closesBy_98 : decode cX7_closesBy 98 = .ok (.aload_n 0, 1) := dk_42 (dk_at dksX7_closesBy_4 6 rfl rfl)
theorem dX7_closesBy_99 : decode cX7_closesBy 99 = .ok (.getfield 71, 3) := dk_180 0 71 (dk_at dksX7_closesBy_4 7 rfl rfl)
theorem dX7_closesBy_102 : decode cX7_closesBy 102 = .ok (.iload_n 3, 1) := dk_29 (dk_at dksX7_closesBy_4 10 rfl rfl)
theorem dX7_closesBy_103 : decode cX7_closesBy 103 = .ok (.iaload, 1) := dk_46 (dk_at dksX7_closesBy_4 11 rfl rfl)
theorem dX7_closesBy_104 : decode cX7_closesBy 104 = .ok (.aload_n 0, 1) := dk_42 (dk_at dksX7_closesBy_4 12 rfl rfl)
theorem dX7_closesBy_105 : decode cX7_closesBy 105 = .ok (.getfield 71, 3) := dk_180 0 71 (dk_at dksX7_closesBy_4 13 rfl rfl)
theorem dX7_closesBy_108 : decode cX7_closesBy 108 = .ok (.iload 4, 2) := dk_21 4 (dk_at dksX7_closesBy_4 16 rfl rfl)
theorem dX7_closesBy_110 : decode cX7_closesBy 110 = .ok (.iaload, 1) := dk_46 (dk_at dksX7_closesBy_4 18 rfl rfl)
theorem dX7_closesBy_111 : decode cX7_closesBy 111 = .ok (.if_icmp .eq 30, 3) := dk_159 0 30 (dk_at dksX7_closesBy_4 19 rfl rfl)
theorem dX7_closesBy_114 : decode cX7_closesBy 114 = .ok (.aload_n 0, 1) := dk_42 (dk_at dksX7_closesBy_4 22 rfl rfl)
theorem dX7_closesBy_115 : decode cX7_closesBy 115 = .ok (.aload_n 0, 1) := dk_42 (dk_at dksX7_closesBy_4 23 rfl rfl)
theorem dX7_closesBy_116 : decode cX7_closesBy 116 = .ok (.getfield 71, 3) := dk_180 0 71 (dk_at dksX7_closesBy_5 0 rfl rfl)
theorem dX7_closesBy_119 : decode cX7_closesBy 119 = .ok (.iload_n 3, 1) := dk_29 (dk_at dksX7_closesBy_5 3 rfl rfl)
theorem dX7_closesBy_120 : decode cX7_closesBy 120 = .ok (.iload 4, 2) := dk_21 4 (dk_at dksX7_closesBy_5 4 rfl rfl)
theorem dX7_closesBy_122 : decode cX7_closesBy 122 = .ok (.invokevirtual 273, 3) := dk_182 1 17 (dk_at dksX7_closesBy_5 6 rfl rfl)
theorem dX7_closesBy_125 : decode cX7_closesBy 125 = .ok (.ifCond .eq 16, 3) := dk_153 0 16 (dk_at dksX7_closesBy_5 9 rfl rfl)
theorem dX7_closesBy_128 : decode cX7_closesBy 128 = .ok (.aload_n 0, 1) := dk_42 (dk_at dksX7_closesBy_5 12 rfl rfl)
theorem dX7_closesBy_129 : decode cX7_closesBy 129 = .ok (.aload_n 0, 1) := dk_42 (dk_at dksX7_closesBy_5 13 rfl rfl)
theorem dX7_closesBy_130 : decode cX7_closesBy 130 = .ok (.getfield 71, 3) := dk_180 0 71 (dk_at dksX7_closesBy_5 14 rfl rfl)
theorem dX7_closesBy_133 : decode cX7_closesBy 133 = .ok (.iload_n 3, 1) := dk_29 (dk_at dksX7_closesBy_5 17 rfl rfl)
theorem dX7_closesBy_134 : decode cX7_closesBy 134 = .ok (.iload 4, 2) := dk_21 4 (dk_at dksX7_closesBy_5 18 rfl rfl)
theorem dX7_closesBy_136 : decode cX7_closesBy 136 = .ok (.invokevirtual 269, 3) := dk_182 1 13 (dk_at dksX7_closesBy_5 20 rfl rfl)
theorem dX7_closesBy_139 : decode cX7_closesBy 139 = .ok (.iconst 1, 1) := dk_4 (dk_at dksX7_closesBy_5 23 rfl rfl)
theorem dX7_closesBy_140 : decode cX7_closesBy 140 = .ok (.istore_n 2, 1) := dk_61 (dk_at dksX7_closesBy_6 0 rfl rfl)
theorem dX7_closesBy_141 : decode cX7_closesBy 141 = .ok (.iinc 4 1, 3) := dk_132 4 1 (dk_at dksX7_closesBy_6 1 rfl rfl)
theorem dX7_closesBy_144 : decode cX7_closesBy 144 = .ok (.goto (-55), 3) := dk_167 255 201 (dk_at dksX7_closesBy_6 4 rfl rfl)
theorem dX7_closesBy_147 : decode cX7_closesBy 147 = .ok (.iinc 3 1, 3) := dk_132 3 1 (dk_at dksX7_closesBy_6 7 rfl rfl)
theorem dX7_closesBy_150 : decode cX7_closesBy 150 = .ok (.goto (-74), 3) := dk_167 255 182 (dk_at dksX7_closesBy_6 10 rfl rfl)
theorem dX7_closesBy_153 : decode cX7_closesBy 153 = .ok (.goto (-85), 3) := dk_167 255 171 (dk_at dksX7_closesBy_6 13 rfl rfl)
theorem dX7_closesBy_156 : decode cX7_closesBy 156 = .ok (.return_, 1) := dk_177 (dk_at dksX7_closesBy_6 16 rfl rfl)
abbrev cX7_diffOf : ByteArray := prog_14_method_56_code
def yX7_diffOf : MethodName := ⟨RX7, "diffOf", "(II)I"⟩
def dkwX7_diffOf_4 : List UInt8 := [3, 172]
abbrev dktX7_diffOf_4 : List UInt8 := dkwX7_diffOf_4 ++ []
def dkwX7_diffOf_3 : List UInt8 := [180, 0, 44, 27, 46, 46, 42, 180, 0, 50, 42, 180, 0, 47, 27, 46, 46, 160, 0, 7, 4, 167, 0, 4]
abbrev dktX7_diffOf_3 : List UInt8 := dkwX7_diffOf_3 ++ dktX7_diffOf_4
def dkwX7_diffOf_2 : List UInt8 := [154, 0, 12, 42, 180, 0, 44, 27, 46, 167, 0, 9, 42, 180, 0, 47, 27, 46, 172, 42, 180, 0, 50, 42]
abbrev dktX7_diffOf_2 : List UInt8 := dkwX7_diffOf_2 ++ dktX7_diffOf_3
def dkwX7_diffOf_1 : List UInt8 := [4, 167, 0, 4, 3, 184, 1, 50, 182, 0, 223, 153, 0, 5, 2, 172, 28, 5, 162, 0, 23, 28]
abbrev dktX7_diffOf_1 : List UInt8 := dkwX7_diffOf_1 ++ dktX7_diffOf_2
def dkwX7_diffOf_0 : List UInt8 := [42, 27, 3, 42, 180, 1, 41, 4, 100, 184, 0, 132, 153, 0, 16, 28, 3, 5, 184, 0, 132, 153, 0, 7]
abbrev dktX7_diffOf_0 : List UInt8 := dkwX7_diffOf_0 ++ dktX7_diffOf_1
theorem dksX7_diffOf_0 : cX7_diffOf.data.toList.drop 0 = dktX7_diffOf_0 := by decide +kernel
theorem dksX7_diffOf_1 : cX7_diffOf.data.toList.drop 24 = dktX7_diffOf_1 := dk_seg dksX7_diffOf_0 24 rfl rfl
theorem dksX7_diffOf_2 : cX7_diffOf.data.toList.drop 46 = dktX7_diffOf_2 := dk_seg dksX7_diffOf_1 22 rfl rfl
theorem dksX7_diffOf_3 : cX7_diffOf.data.toList.drop 70 = dktX7_diffOf_3 := dk_seg dksX7_diffOf_2 24 rfl rfl
theorem dksX7_diffOf_4 : cX7_diffOf.data.toList.drop 94 = dktX7_diffOf_4 := dk_seg dksX7_diffOf_3 24 rfl rfl
theorem dX7_diffOf_0 : decode cX7_diffOf 0 = .ok (.aload_n 0, 1) := dk_42 (dk_at dksX7_diffOf_0 0 rfl rfl)
theorem dX7_diffOf_1 : decode cX7_diffOf 1 = .ok (.iload_n 1, 1) := dk_27 (dk_at dksX7_diffOf_0 1 rfl rfl)
theorem dX7_diffOf_2 : decode cX7_diffOf 2 = .ok (.iconst 0, 1) := dk_3 (dk_at dksX7_diffOf_0 2 rfl rfl)
theorem dX7_diffOf_3 : decode cX7_diffOf 3 = .ok (.aload_n 0, 1) := dk_42 (dk_at dksX7_diffOf_0 3 rfl rfl)
theorem dX7_diffOf_4 : decode cX7_diffOf 4 = .ok (.getfield 297, 3) := dk_180 1 41 (dk_at dksX7_diffOf_0 4 rfl rfl)
theorem dX7_diffOf_7 : decode cX7_diffOf 7 = .ok (.iconst 1, 1) := dk_4 (dk_at dksX7_diffOf_0 7 rfl rfl)
theorem dX7_diffOf_8 : decode cX7_diffOf 8 = .ok (.isub, 1) := dk_100 (dk_at dksX7_diffOf_0 8 rfl rfl)
theorem dX7_diffOf_9 : decode cX7_diffOf 9 = .ok (.invokestatic 132, 3) := dk_184 0 132 (dk_at dksX7_diffOf_0 9 rfl rfl)
theorem dX7_diffOf_12 : decode cX7_diffOf 12 = .ok (.ifCond .eq 16, 3) := dk_153 0 16 (dk_at dksX7_diffOf_0 12 rfl rfl)
theorem dX7_diffOf_15 : decode cX7_diffOf 15 = .ok (.iload_n 2, 1) := dk_28 (dk_at dksX7_diffOf_0 15 rfl rfl)
theorem dX7_diffOf_16 : decode cX7_diffOf 16 = .ok (.iconst 0, 1) := dk_3 (dk_at dksX7_diffOf_0 16 rfl rfl)
theorem dX7_diffOf_17 : decode cX7_diffOf 17 = .ok (.iconst 2, 1) := dk_5 (dk_at dksX7_diffOf_0 17 rfl rfl)
theorem dX7_diffOf_18 : decode cX7_diffOf 18 = .ok (.invokestatic 132, 3) := dk_184 0 132 (dk_at dksX7_diffOf_0 18 rfl rfl)
theorem dX7_diffOf_21 : decode cX7_diffOf 21 = .ok (.ifCond .eq 7, 3) := dk_153 0 7 (dk_at dksX7_diffOf_0 21 rfl rfl)
theorem dX7_diffOf_24 : decode cX7_diffOf 24 = .ok (.iconst 1, 1) := dk_4 (dk_at dksX7_diffOf_1 0 rfl rfl)
theorem dX7_diffOf_25 : decode cX7_diffOf 25 = .ok (.goto 4, 3) := dk_167 0 4 (dk_at dksX7_diffOf_1 1 rfl rfl)
theorem dX7_diffOf_28 : decode cX7_diffOf 28 = .ok (.iconst 0, 1) := dk_3 (dk_at dksX7_diffOf_1 4 rfl rfl)
theorem dX7_diffOf_29 : decode cX7_diffOf 29 = .ok (.invokestatic 306, 3) := dk_184 1 50 (dk_at dksX7_diffOf_1 5 rfl rfl)
theorem dX7_diffOf_32 : decode cX7_diffOf 32 = .ok (.invokevirtual 223, 3) := dk_182 0 223 (dk_at dksX7_diffOf_1 8 rfl rfl)
theorem dX7_diffOf_35 : decode cX7_diffOf 35 = .ok (.ifCond .eq 5, 3) := dk_153 0 5 (dk_at dksX7_diffOf_1 11 rfl rfl)
theorem dX7_diffOf_38 : decode cX7_diffOf 38 = .ok (.iconst (-1), 1) := dk_2 (dk_at dksX7_diffOf_1 14 rfl rfl)
theorem dX7_diffOf_39 : decode cX7_diffOf 39 = .ok (.ireturn, 1) := dk_172 (dk_at dksX7_diffOf_1 15 rfl rfl)
theorem dX7_diffOf_40 : decode cX7_diffOf 40 = .ok (.iload_n 2, 1) := dk_28 (dk_at dksX7_diffOf_1 16 rfl rfl)
theorem dX7_diffOf_41 : decode cX7_diffOf 41 = .ok (.iconst 2, 1) := dk_5 (dk_at dksX7_diffOf_1 17 rfl rfl)
theorem dX7_diffOf_42 : decode cX7_diffOf 42 = .ok (.if_icmp .ge 23, 3) := dk_162 0 23 (dk_at dksX7_diffOf_1 18 rfl rfl)
theorem dX7_diffOf_45 : decode cX7_diffOf 45 = .ok (.iload_n 2, 1) := dk_28 (dk_at dksX7_diffOf_1 21 rfl rfl)
theorem dX7_diffOf_46 : decode cX7_diffOf 46 = .ok (.ifCond .ne 12, 3) := dk_154 0 12 (dk_at dksX7_diffOf_2 0 rfl rfl)
theorem dX7_diffOf_49 : decode cX7_diffOf 49 = .ok (.aload_n 0, 1) := dk_42 (dk_at dksX7_diffOf_2 3 rfl rfl)
theorem dX7_diffOf_50 : decode cX7_diffOf 50 = .ok (.getfield 44, 3) := dk_180 0 44 (dk_at dksX7_diffOf_2 4 rfl rfl)
theorem dX7_diffOf_53 : decode cX7_diffOf 53 = .ok (.iload_n 1, 1) := dk_27 (dk_at dksX7_diffOf_2 7 rfl rfl)
theorem dX7_diffOf_54 : decode cX7_diffOf 54 = .ok (.iaload, 1) := dk_46 (dk_at dksX7_diffOf_2 8 rfl rfl)
theorem dX7_diffOf_55 : decode cX7_diffOf 55 = .ok (.goto 9, 3) := dk_167 0 9 (dk_at dksX7_diffOf_2 9 rfl rfl)
theorem dX7_diffOf_58 : decode cX7_diffOf 58 = .ok (.aload_n 0, 1) := dk_42 (dk_at dksX7_diffOf_2 12 rfl rfl)
theorem dX7_diffOf_59 : decode cX7_diffOf 59 = .ok (.getfield 47, 3) := dk_180 0 47 (dk_at dksX7_diffOf_2 13 rfl rfl)
theorem dX7_diffOf_62 : decode cX7_diffOf 62 = .ok (.iload_n 1, 1) := dk_27 (dk_at dksX7_diffOf_2 16 rfl rfl)
theorem dX7_diffOf_63 : decode cX7_diffOf 63 = .ok (.iaload, 1) := dk_46 (dk_at dksX7_diffOf_2 17 rfl rfl)
theorem dX7_diffOf_64 : decode cX7_diffOf 64 = .ok (.ireturn, 1) := dk_172 (dk_at dksX7_diffOf_2 18 rfl rfl)
theorem dX7_diffOf_65 : decode cX7_diffOf 65 = .ok (.aload_n 0, 1) := dk_42 (dk_at dksX7_diffOf_2 19 rfl rfl)
theorem dX7_diffOf_66 : decode cX7_diffOf 66 = .ok (.getfield 50, 3) := dk_180 0 50 (dk_at dksX7_diffOf_2 20 rfl rfl)
theorem dX7_diffOf_69 : decode cX7_diffOf 69 = .ok (.aload_n 0, 1) := dk_42 (dk_at dksX7_diffOf_2 23 rfl rfl)
theorem dX7_diffOf_70 : decode cX7_diffOf 70 = .ok (.getfield 44, 3) := dk_180 0 44 (dk_at dksX7_diffOf_3 0 rfl rfl)
theorem dX7_diffOf_73 : decode cX7_diffOf 73 = .ok (.iload_n 1, 1) := dk_27 (dk_at dksX7_diffOf_3 3 rfl rfl)
theorem dX7_diffOf_74 : decode cX7_diffOf 74 = .ok (.iaload, 1) := dk_46 (dk_at dksX7_diffOf_3 4 rfl rfl)
theorem dX7_diffOf_75 : decode cX7_diffOf 75 = .ok (.iaload, 1) := dk_46 (dk_at dksX7_diffOf_3 5 rfl rfl)
theorem dX7_diffOf_76 : decode cX7_diffOf 76 = .ok (.aload_n 0, 1) := dk_42 (dk_at dksX7_diffOf_3 6 rfl rfl)
theorem dX7_diffOf_77 : decode cX7_diffOf 77 = .ok (.getfield 50, 3) := dk_180 0 50 (dk_at dksX7_diffOf_3 7 rfl rfl)
theorem dX7_diffOf_80 : decode cX7_diffOf 80 = .ok (.aload_n 0, 1) := dk_42 (dk_at dksX7_diffOf_3 10 rfl rfl)
theorem dX7_diffOf_81 : decode cX7_diffOf 81 = .ok (.getfield 47, 3) := dk_180 0 47 (dk_at dksX7_diffOf_3 11 rfl rfl)
theorem dX7_diffOf_84 : decode cX7_diffOf 84 = .ok (.iload_n 1, 1) := dk_27 (dk_at dksX7_diffOf_3 14 rfl rfl)
theorem dX7_diffOf_85 : decode cX7_diffOf 85 = .ok (.iaload, 1) := dk_46 (dk_at dksX7_diffOf_3 15 rfl rfl)
theorem dX7_diffOf_86 : decode cX7_diffOf 86 = .ok (.iaload, 1) := dk_46 (dk_at dksX7_diffOf_3 16 rfl rfl)
theorem dX7_diffOf_87 : decode cX7_diffOf 87 = .ok (.if_icmp .ne 7, 3) := dk_160 0 7 (dk_at dksX7_diffOf_3 17 rfl rfl)
theorem dX7_diffOf_90 : decode cX7_diffOf 90 = .ok (.iconst 1, 1) := dk_4 (dk_at dksX7_diffOf_3 20 rfl rfl)
theorem dX7_diffOf_91 : decode cX7_diffOf 91 = .ok (.goto 4, 3) := dk_167 0 4 (dk_at dksX7_diffOf_3 21 rfl rfl)
theorem dX7_diffOf_94 : decode cX7_diffOf 94 = .ok (.iconst 0, 1) := dk_3 (dk_at dksX7_diffOf_4 0 rfl rfl)
theorem dX7_diffOf_95 : decode cX7_diffOf 95 = .ok (.ireturn, 1) := dk_172 (dk_at dksX7_diffOf_4 1 rfl rfl)
abbrev cX7_joinOf : ByteArray := prog_14_method_57_code
def yX7_joinOf : MethodName := ⟨RX7, "joinOf", "(II)I"⟩
def dkwX7_joinOf_3 : List UInt8 := [46, 172]
abbrev dktX7_joinOf_3 : List UInt8 := dkwX7_joinOf_3 ++ []
def dkwX7_joinOf_2 : List UInt8 := [27, 46, 167, 0, 23, 28, 4, 160, 0, 12, 42, 180, 0, 62, 27, 46, 167, 0, 9, 42, 180, 0, 65, 27]
abbrev dktX7_joinOf_2 : List UInt8 := dkwX7_joinOf_2 ++ dktX7_joinOf_3
def dkwX7_joinOf_1 : List UInt8 := [4, 167, 0, 4, 3, 184, 1, 50, 182, 0, 223, 153, 0, 5, 2, 172, 28, 154, 0, 12, 42, 180, 0, 59]
abbrev dktX7_joinOf_1 : List UInt8 := dkwX7_joinOf_1 ++ dktX7_joinOf_2
def dkwX7_joinOf_0 : List UInt8 := [42, 27, 3, 42, 180, 1, 3, 4, 100, 184, 0, 132, 153, 0, 16, 28, 3, 5, 184, 0, 132, 153, 0, 7]
abbrev dktX7_joinOf_0 : List UInt8 := dkwX7_joinOf_0 ++ dktX7_joinOf_1
theorem dksX7_joinOf_0 : cX7_joinOf.data.toList.drop 0 = dktX7_joinOf_0 := by decide +kernel
theorem dksX7_joinOf_1 : cX7_joinOf.data.toList.drop 24 = dktX7_joinOf_1 := dk_seg dksX7_joinOf_0 24 rfl rfl
theorem dksX7_joinOf_2 : cX7_joinOf.data.toList.drop 48 = dktX7_joinOf_2 := dk_seg dksX7_joinOf_1 24 rfl rfl
theorem dksX7_joinOf_3 : cX7_joinOf.data.toList.drop 72 = dktX7_joinOf_3 := dk_seg dksX7_joinOf_2 24 rfl rfl
theorem dX7_joinOf_0 : decode cX7_joinOf 0 = .ok (.aload_n 0, 1) := dk_42 (dk_at dksX7_joinOf_0 0 rfl rfl)
theorem dX7_joinOf_1 : decode cX7_joinOf 1 = .ok (.iload_n 1, 1) := dk_27 (dk_at dksX7_joinOf_0 1 rfl rfl)
theorem dX7_joinOf_2 : decode cX7_joinOf 2 = .ok (.iconst 0, 1) := dk_3 (dk_at dksX7_joinOf_0 2 rfl rfl)
theorem dX7_joinOf_3 : decode cX7_joinOf 3 = .ok (.aload_n 0, 1) := dk_42 (dk_at dksX7_joinOf_0 3 rfl rfl)
theorem dX7_joinOf_4 : decode cX7_joinOf 4 = .ok (.getfield 259, 3) := dk_180 1 3 (dk_at dksX7_joinOf_0 4 rfl rfl)
theorem dX7_joinOf_7 : decode cX7_joinOf 7 = .ok (.iconst 1, 1) := dk_4 (dk_at dksX7_joinOf_0 7 rfl rfl)
theorem dX7_joinOf_8 : decode cX7_joinOf 8 = .ok (.isub, 1) := dk_100 (dk_at dksX7_joinOf_0 8 rfl rfl)
theorem dX7_joinOf_9 : decode cX7_joinOf 9 = .ok (.invokestatic 132, 3) := dk_184 0 132 (dk_at dksX7_joinOf_0 9 rfl rfl)
theorem dX7_joinOf_12 : decode cX7_joinOf 12 = .ok (.ifCond .eq 16, 3) := dk_153 0 16 (dk_at dksX7_joinOf_0 12 rfl rfl)
theorem dX7_joinOf_15 : decode cX7_joinOf 15 = .ok (.iload_n 2, 1) := dk_28 (dk_at dksX7_joinOf_0 15 rfl rfl)
theorem dX7_joinOf_16 : decode cX7_joinOf 16 = .ok (.iconst 0, 1) := dk_3 (dk_at dksX7_joinOf_0 16 rfl rfl)
theorem dX7_joinOf_17 : decode cX7_joinOf 17 = .ok (.iconst 2, 1) := dk_5 (dk_at dksX7_joinOf_0 17 rfl rfl)
theorem dX7_joinOf_18 : decode cX7_joinOf 18 = .ok (.invokestatic 132, 3) := dk_184 0 132 (dk_at dksX7_joinOf_0 18 rfl rfl)
theorem dX7_joinOf_21 : decode cX7_joinOf 21 = .ok (.ifCond .eq 7, 3) := dk_153 0 7 (dk_at dksX7_joinOf_0 21 rfl rfl)
theorem dX7_joinOf_24 : decode cX7_joinOf 24 = .ok (.iconst 1, 1) := dk_4 (dk_at dksX7_joinOf_1 0 rfl rfl)
theorem dX7_joinOf_25 : decode cX7_joinOf 25 = .ok (.goto 4, 3) := dk_167 0 4 (dk_at dksX7_joinOf_1 1 rfl rfl)
theorem dX7_joinOf_28 : decode cX7_joinOf 28 = .ok (.iconst 0, 1) := dk_3 (dk_at dksX7_joinOf_1 4 rfl rfl)
theorem dX7_joinOf_29 : decode cX7_joinOf 29 = .ok (.invokestatic 306, 3) := dk_184 1 50 (dk_at dksX7_joinOf_1 5 rfl rfl)
theorem dX7_joinOf_32 : decode cX7_joinOf 32 = .ok (.invokevirtual 223, 3) := dk_182 0 223 (dk_at dksX7_joinOf_1 8 rfl rfl)
theorem dX7_joinOf_35 : decode cX7_joinOf 35 = .ok (.ifCond .eq 5, 3) := dk_153 0 5 (dk_at dksX7_joinOf_1 11 rfl rfl)
theorem dX7_joinOf_38 : decode cX7_joinOf 38 = .ok (.iconst (-1), 1) := dk_2 (dk_at dksX7_joinOf_1 14 rfl rfl)
theorem dX7_joinOf_39 : decode cX7_joinOf 39 = .ok (.ireturn, 1) := dk_172 (dk_at dksX7_joinOf_1 15 rfl rfl)
theorem dX7_joinOf_40 : decode cX7_joinOf 40 = .ok (.iload_n 2, 1) := dk_28 (dk_at dksX7_joinOf_1 16 rfl rfl)
theorem dX7_joinOf_41 : decode cX7_joinOf 41 = .ok (.ifCond .ne 12, 3) := dk_154 0 12 (dk_at dksX7_joinOf_1 17 rfl rfl)
theorem dX7_joinOf_44 : decode cX7_joinOf 44 = .ok (.aload_n 0, 1) := dk_42 (dk_at dksX7_joinOf_1 20 rfl rfl)
theorem dX7_joinOf_45 : decode cX7_joinOf 45 = .ok (.getfield 59, 3) := dk_180 0 59 (dk_at dksX7_joinOf_1 21 rfl rfl)
theorem dX7_joinOf_48 : decode cX7_joinOf 48 = .ok (.iload_n 1, 1) := dk_27 (dk_at dksX7_joinOf_2 0 rfl rfl)
theorem dX7_joinOf_49 : decode cX7_joinOf 49 = .ok (.iaload, 1) := dk_46 (dk_at dksX7_joinOf_2 1 rfl rfl)
theorem dX7_joinOf_50 : decode cX7_joinOf 50 = .ok (.goto 23, 3) := dk_167 0 23 (dk_at dksX7_joinOf_2 2 rfl rfl)
theorem dX7_joinOf_53 : decode cX7_joinOf 53 = .ok (.iload_n 2, 1) := dk_28 (dk_at dksX7_joinOf_2 5 rfl rfl)
theorem dX7_joinOf_54 : decode cX7_joinOf 54 = .ok (.iconst 1, 1) := dk_4 (dk_at dksX7_joinOf_2 6 rfl rfl)
theorem dX7_joinOf_55 : decode cX7_joinOf 55 = .ok (.if_icmp .ne 12, 3) := dk_160 0 12 (dk_at dksX7_joinOf_2 7 rfl rfl)
theorem dX7_joinOf_58 : decode cX7_joinOf 58 = .ok (.aload_n 0, 1) := dk_42 (dk_at dksX7_joinOf_2 10 rfl rfl)
theorem dX7_joinOf_59 : decode cX7_joinOf 59 = .ok (.getfield 62, 3) := dk_180 0 62 (dk_at dksX7_joinOf_2 11 rfl rfl)
theorem dX7_joinOf_62 : decode cX7_joinOf 62 = .ok (.iload_n 1, 1) := dk_27 (dk_at dksX7_joinOf_2 14 rfl rfl)
theorem dX7_joinOf_63 : decode cX7_joinOf 63 = .ok (.iaload, 1) := dk_46 (dk_at dksX7_joinOf_2 15 rfl rfl)
theorem dX7_joinOf_64 : decode cX7_joinOf 64 = .ok (.goto 9, 3) := dk_167 0 9 (dk_at dksX7_joinOf_2 16 rfl rfl)
theorem dX7_joinOf_67 : decode cX7_joinOf 67 = .ok (.aload_n 0, 1) := dk_42 (dk_at dksX7_joinOf_2 19 rfl rfl)
theorem dX7_joinOf_68 : decode cX7_joinOf 68 = .ok (.getfield 65, 3) := dk_180 0 65 (dk_at dksX7_joinOf_2 20 rfl rfl)
theorem dX7_joinOf_71 : decode cX7_joinOf 71 = .ok (.iload_n 1, 1) := dk_27 (dk_at dksX7_joinOf_2 23 rfl rfl)
theorem dX7_joinOf_72 : decode cX7_joinOf 72 = .ok (.iaload, 1) := dk_46 (dk_at dksX7_joinOf_3 0 rfl rfl)
theorem dX7_joinOf_73 : decode cX7_joinOf 73 = .ok (.ireturn, 1) := dk_172 (dk_at dksX7_joinOf_3 1 rfl rfl)
abbrev cX7_equal : ByteArray := prog_14_method_58_code
def yX7_equal : MethodName := ⟨RX7, "equal", "(II)I"⟩
def dkwX7_equal_2 : List UInt8 := [160, 0, 7, 4, 167, 0, 4, 3, 172]
abbrev dktX7_equal_2 : List UInt8 := dkwX7_equal_2 ++ []
def dkwX7_equal_1 : List UInt8 := [184, 1, 50, 182, 0, 223, 153, 0, 5, 2, 172, 42, 180, 0, 50, 27, 46, 42, 180, 0, 50, 28, 46]
abbrev dktX7_equal_1 : List UInt8 := dkwX7_equal_1 ++ dktX7_equal_2
def dkwX7_equal_0 : List UInt8 := [42, 42, 27, 182, 1, 61, 153, 0, 15, 42, 28, 182, 1, 61, 153, 0, 7, 4, 167, 0, 4, 3]
abbrev dktX7_equal_0 : List UInt8 := dkwX7_equal_0 ++ dktX7_equal_1
theorem dksX7_equal_0 : cX7_equal.data.toList.drop 0 = dktX7_equal_0 := by decide +kernel
theorem dksX7_equal_1 : cX7_equal.data.toList.drop 22 = dktX7_equal_1 := dk_seg dksX7_equal_0 22 rfl rfl
theorem dksX7_equal_2 : cX7_equal.data.toList.drop 45 = dktX7_equal_2 := dk_seg dksX7_equal_1 23 rfl rfl
theorem dX7_equal_0 : decode cX7_equal 0 = .ok (.aload_n 0, 1) := dk_42 (dk_at dksX7_equal_0 0 rfl rfl)
theorem dX7_equal_1 : decode cX7_equal 1 = .ok (.aload_n 0, 1) := dk_42 (dk_at dksX7_equal_0 1 rfl rfl)
theorem dX7_equal_2 : decode cX7_equal 2 = .ok (.iload_n 1, 1) := dk_27 (dk_at dksX7_equal_0 2 rfl rfl)
theorem dX7_equal_3 : decode cX7_equal 3 = .ok (.invokevirtual 317, 3) := dk_182 1 61 (dk_at dksX7_equal_0 3 rfl rfl)
theorem dX7_equal_6 : decode cX7_equal 6 = .ok (.ifCond .eq 15, 3) := dk_153 0 15 (dk_at dksX7_equal_0 6 rfl rfl)
theorem dX7_equal_9 : decode cX7_equal 9 = .ok (.aload_n 0, 1) := dk_42 (dk_at dksX7_equal_0 9 rfl rfl)
theorem dX7_equal_10 : decode cX7_equal 10 = .ok (.iload_n 2, 1) := dk_28 (dk_at dksX7_equal_0 10 rfl rfl)
theorem dX7_equal_11 : decode cX7_equal 11 = .ok (.invokevirtual 317, 3) := dk_182 1 61 (dk_at dksX7_equal_0 11 rfl rfl)
theorem dX7_equal_14 : decode cX7_equal 14 = .ok (.ifCond .eq 7, 3) := dk_153 0 7 (dk_at dksX7_equal_0 14 rfl rfl)
theorem dX7_equal_17 : decode cX7_equal 17 = .ok (.iconst 1, 1) := dk_4 (dk_at dksX7_equal_0 17 rfl rfl)
theorem dX7_equal_18 : decode cX7_equal 18 = .ok (.goto 4, 3) := dk_167 0 4 (dk_at dksX7_equal_0 18 rfl rfl)
theorem dX7_equal_21 : decode cX7_equal 21 = .ok (.iconst 0, 1) := dk_3 (dk_at dksX7_equal_0 21 rfl rfl)
theorem dX7_equal_22 : decode cX7_equal 22 = .ok (.invokestatic 306, 3) := dk_184 1 50 (dk_at dksX7_equal_1 0 rfl rfl)
theorem dX7_equal_25 : decode cX7_equal 25 = .ok (.invokevirtual 223, 3) := dk_182 0 223 (dk_at dksX7_equal_1 3 rfl rfl)
theorem dX7_equal_28 : decode cX7_equal 28 = .ok (.ifCond .eq 5, 3) := dk_153 0 5 (dk_at dksX7_equal_1 6 rfl rfl)
theorem dX7_equal_31 : decode cX7_equal 31 = .ok (.iconst (-1), 1) := dk_2 (dk_at dksX7_equal_1 9 rfl rfl)
theorem dX7_equal_32 : decode cX7_equal 32 = .ok (.ireturn, 1) := dk_172 (dk_at dksX7_equal_1 10 rfl rfl)
theorem dX7_equal_33 : decode cX7_equal 33 = .ok (.aload_n 0, 1) := dk_42 (dk_at dksX7_equal_1 11 rfl rfl)
theorem dX7_equal_34 : decode cX7_equal 34 = .ok (.getfield 50, 3) := dk_180 0 50 (dk_at dksX7_equal_1 12 rfl rfl)
theorem dX7_equal_37 : decode cX7_equal 37 = .ok (.iload_n 1, 1) := dk_27 (dk_at dksX7_equal_1 15 rfl rfl)
theorem dX7_equal_38 : decode cX7_equal 38 = .ok (.iaload, 1) := dk_46 (dk_at dksX7_equal_1 16 rfl rfl)
theorem dX7_equal_39 : decode cX7_equal 39 = .ok (.aload_n 0, 1) := dk_42 (dk_at dksX7_equal_1 17 rfl rfl)
theorem dX7_equal_40 : decode cX7_equal 40 = .ok (.getfield 50, 3) := dk_180 0 50 (dk_at dksX7_equal_1 18 rfl rfl)
theorem dX7_equal_43 : decode cX7_equal 43 = .ok (.iload_n 2, 1) := dk_28 (dk_at dksX7_equal_1 21 rfl rfl)
theorem dX7_equal_44 : decode cX7_equal 44 = .ok (.iaload, 1) := dk_46 (dk_at dksX7_equal_1 22 rfl rfl)
theorem dX7_equal_45 : decode cX7_equal 45 = .ok (.if_icmp .ne 7, 3) := dk_160 0 7 (dk_at dksX7_equal_2 0 rfl rfl)
theorem dX7_equal_48 : decode cX7_equal 48 = .ok (.iconst 1, 1) := dk_4 (dk_at dksX7_equal_2 3 rfl rfl)
theorem dX7_equal_49 : decode cX7_equal 49 = .ok (.goto 4, 3) := dk_167 0 4 (dk_at dksX7_equal_2 4 rfl rfl)
theorem dX7_equal_52 : decode cX7_equal 52 = .ok (.iconst 0, 1) := dk_3 (dk_at dksX7_equal_2 7 rfl rfl)
theorem dX7_equal_53 : decode cX7_equal 53 = .ok (.ireturn, 1) := dk_172 (dk_at dksX7_equal_2 8 rfl rfl)
abbrev cX7_apart : ByteArray := prog_14_method_59_code
def yX7_apart : MethodName := ⟨RX7, "apart", "(II)I"⟩
def dkwX7_apart_5 : List UInt8 := [132, 3, 1, 167, 255, 173, 3, 172]
abbrev dktX7_apart_5 : List UInt8 := dkwX7_apart_5 ++ []
def dkwX7_apart_4 : List UInt8 := [21, 4, 42, 180, 0, 50, 28, 46, 160, 0, 16, 21, 5, 42, 180, 0, 50, 27, 46, 160, 0, 5, 4, 172]
abbrev dktX7_apart_4 : List UInt8 := dkwX7_apart_4 ++ dktX7_apart_5
def dkwX7_apart_3 : List UInt8 := [54, 5, 21, 4, 42, 180, 0, 50, 27, 46, 160, 0, 14, 21, 5, 42, 180, 0, 50, 28, 46, 159, 0, 25]
abbrev dktX7_apart_3 : List UInt8 := dkwX7_apart_3 ++ dktX7_apart_4
def dkwX7_apart_2 : List UInt8 := [180, 0, 50, 42, 180, 0, 44, 29, 46, 46, 54, 4, 42, 180, 0, 50, 42, 180, 0, 47, 29, 46, 46]
abbrev dktX7_apart_2 : List UInt8 := dkwX7_apart_2 ++ dktX7_apart_3
def dkwX7_apart_1 : List UInt8 := [184, 1, 50, 182, 0, 223, 153, 0, 5, 2, 172, 3, 62, 29, 42, 180, 1, 41, 162, 0, 81, 42]
abbrev dktX7_apart_1 : List UInt8 := dkwX7_apart_1 ++ dktX7_apart_2
def dkwX7_apart_0 : List UInt8 := [42, 42, 27, 182, 1, 61, 153, 0, 15, 42, 28, 182, 1, 61, 153, 0, 7, 4, 167, 0, 4, 3]
abbrev dktX7_apart_0 : List UInt8 := dkwX7_apart_0 ++ dktX7_apart_1
theorem dksX7_apart_0 : cX7_apart.data.toList.drop 0 = dktX7_apart_0 := by decide +kernel
theorem dksX7_apart_1 : cX7_apart.data.toList.drop 22 = dktX7_apart_1 := dk_seg dksX7_apart_0 22 rfl rfl
theorem dksX7_apart_2 : cX7_apart.data.toList.drop 44 = dktX7_apart_2 := dk_seg dksX7_apart_1 22 rfl rfl
theorem dksX7_apart_3 : cX7_apart.data.toList.drop 67 = dktX7_apart_3 := dk_seg dksX7_apart_2 23 rfl rfl
theorem dksX7_apart_4 : cX7_apart.data.toList.drop 91 = dktX7_apart_4 := dk_seg dksX7_apart_3 24 rfl rfl
theorem dksX7_apart_5 : cX7_apart.data.toList.drop 115 = dktX7_apart_5 := dk_seg dksX7_apart_4 24 rfl rfl
theorem dX7_apart_0 : decode cX7_apart 0 = .ok (.aload_n 0, 1) := dk_42 (dk_at dksX7_apart_0 0 rfl rfl)
theorem dX7_apart_1 : decode cX7_apart 1 = .ok (.aload_n 0, 1) := dk_42 (dk_at dksX7_apart_0 1 rfl rfl)
theorem dX7_apart_2 : decode cX7_apart 2 = .ok (.iload_n 1, 1) := dk_27 (dk_at dksX7_apart_0 2 rfl rfl)
theorem dX7_apart_3 : decode cX7_apart 3 = .ok (.invokevirtual 317, 3) := dk_182 1 61 (dk_at dksX7_apart_0 3 rfl rfl)
theorem dX7_apart_6 : decode cX7_apart 6 = .ok (.ifCond .eq 15, 3) := dk_153 0 15 (dk_at dksX7_apart_0 6 rfl rfl)
theorem dX7_apart_9 : decode cX7_apart 9 = .ok (.aload_n 0, 1) := dk_42 (dk_at dksX7_apart_0 9 rfl rfl)
theorem dX7_apart_10 : decode cX7_apart 10 = .ok (.iload_n 2, 1) := dk_28 (dk_at dksX7_apart_0 10 rfl rfl)
theorem dX7_apart_11 : decode cX7_apart 11 = .ok (.invokevirtual 317, 3) := dk_182 1 61 (dk_at dksX7_apart_0 11 rfl rfl)
theorem dX7_apart_14 : decode cX7_apart 14 = .ok (.ifCond .eq 7, 3) := dk_153 0 7 (dk_at dksX7_apart_0 14 rfl rfl)
theorem dX7_apart_17 : decode cX7_apart 17 = .ok (.iconst 1, 1) := dk_4 (dk_at dksX7_apart_0 17 rfl rfl)
theorem dX7_apart_18 : decode cX7_apart 18 = .ok (.goto 4, 3) := dk_167 0 4 (dk_at dksX7_apart_0 18 rfl rfl)
theorem dX7_apart_21 : decode cX7_apart 21 = .ok (.iconst 0, 1) := dk_3 (dk_at dksX7_apart_0 21 rfl rfl)
theorem dX7_apart_22 : decode cX7_apart 22 = .ok (.invokestatic 306, 3) := dk_184 1 50 (dk_at dksX7_apart_1 0 rfl rfl)
theorem dX7_apart_25 : decode cX7_apart 25 = .ok (.invokevirtual 223, 3) := dk_182 0 223 (dk_at dksX7_apart_1 3 rfl rfl)
theorem dX7_apart_28 : decode cX7_apart 28 = .ok (.ifCond .eq 5, 3) := dk_153 0 5 (dk_at dksX7_apart_1 6 rfl rfl)
theorem dX7_apart_31 : decode cX7_apart 31 = .ok (.iconst (-1), 1) := dk_2 (dk_at dksX7_apart_1 9 rfl rfl)
theorem dX7_apart_32 : decode cX7_apart 32 = .ok (.ireturn, 1) := dk_172 (dk_at dksX7_apart_1 10 rfl rfl)
theorem dX7_apart_33 : decode cX7_apart 33 = .ok (.iconst 0, 1) := dk_3 (dk_at dksX7_apart_1 11 rfl rfl)
theorem dX7_apart_34 : decode cX7_apart 34 = .ok (.istore_n 3, 1) := dk_62 (dk_at dksX7_apart_1 12 rfl rfl)
theorem dX7_apart_35 : decode cX7_apart 35 = .ok (.iload_n 3, 1) := dk_29 (dk_at dksX7_apart_1 13 rfl rfl)
theorem dX7_apart_36 : decode cX7_apart 36 = .ok (.aload_n 0, 1) := dk_42 (dk_at dksX7_apart_1 14 rfl rfl)
theorem dX7_apart_37 : decode cX7_apart 37 = .ok (.getfield 297, 3) := dk_180 1 41 (dk_at dksX7_apart_1 15 rfl rfl)
theorem dX7_apart_40 : decode cX7_apart 40 = .ok (.if_icmp .ge 81, 3) := dk_162 0 81 (dk_at dksX7_apart_1 18 rfl rfl)
theorem dX7_apart_43 : decode cX7_apart 43 = .ok (.aload_n 0, 1) := dk_42 (dk_at dksX7_apart_1 21 rfl rfl)
theorem dX7_apart_44 : decode cX7_apart 44 = .ok (.getfield 50, 3) := dk_180 0 50 (dk_at dksX7_apart_2 0 rfl rfl)
theorem dX7_apart_47 : decode cX7_apart 47 = .ok (.aload_n 0, 1) := dk_42 (dk_at dksX7_apart_2 3 rfl rfl)
theorem dX7_apart_48 : decode cX7_apart 48 = .ok (.getfield 44, 3) := dk_180 0 44 (dk_at dksX7_apart_2 4 rfl rfl)
theorem dX7_apart_51 : decode cX7_apart 51 = .ok (.iload_n 3, 1) := dk_29 (dk_at dksX7_apart_2 7 rfl rfl)
theorem dX7_apart_52 : decode cX7_apart 52 = .ok (.iaload, 1) := dk_46 (dk_at dksX7_apart_2 8 rfl rfl)
theorem dX7_apart_53 : decode cX7_apart 53 = .ok (.iaload, 1) := dk_46 (dk_at dksX7_apart_2 9 rfl rfl)
theorem dX7_apart_54 : decode cX7_apart 54 = .ok (.istore 4, 2) := dk_54 4 (dk_at dksX7_apart_2 10 rfl rfl)
theorem dX7_apart_56 : decode cX7_apart 56 = .ok (.aload_n 0, 1) := dk_42 (dk_at dksX7_apart_2 12 rfl rfl)
theorem dX7_apart_57 : decode cX7_apart 57 = .ok (.getfield 50, 3) := dk_180 0 50 (dk_at dksX7_apart_2 13 rfl rfl)
theorem dX7_apart_60 : decode cX7_apart 60 = .ok (.aload_n 0, 1) := dk_42 (dk_at dksX7_apart_2 16 rfl rfl)
theorem dX7_apart_61 : decode cX7_apart 61 = .ok (.getfield 47, 3) := dk_180 0 47 (dk_at dksX7_apart_2 17 rfl rfl)
theorem dX7_apart_64 : decode cX7_apart 64 = .ok (.iload_n 3, 1) := dk_29 (dk_at dksX7_apart_2 20 rfl rfl)
theorem dX7_apart_65 : decode cX7_apart 65 = .ok (.iaload, 1) := dk_46 (dk_at dksX7_apart_2 21 rfl rfl)
theorem dX7_apart_66 : decode cX7_apart 66 = .ok (.iaload, 1) := dk_46 (dk_at dksX7_apart_2 22 rfl rfl)
theorem dX7_apart_67 : decode cX7_apart 67 = .ok (.istore 5, 2) := dk_54 5 (dk_at dksX7_apart_3 0 rfl rfl)
theorem dX7_apart_69 : decode cX7_apart 69 = .ok (.iload 4, 2) := dk_21 4 (dk_at dksX7_apart_3 2 rfl rfl)
theorem dX7_apart_71 : decode cX7_apart 71 = .ok (.aload_n 0, 1) := dk_42 (dk_at dksX7_apart_3 4 rfl rfl)
theorem dX7_apart_72 : decode cX7_apart 72 = .ok (.getfield 50, 3) := dk_180 0 50 (dk_at dksX7_apart_3 5 rfl rfl)
theorem dX7_apart_75 : decode cX7_apart 75 = .ok (.iload_n 1, 1) := dk_27 (dk_at dksX7_apart_3 8 rfl rfl)
theorem dX7_apart_76 : decode cX7_apart 76 = .ok (.iaload, 1) := dk_46 (dk_at dksX7_apart_3 9 rfl rfl)
theorem dX7_apart_77 : decode cX7_apart 77 = .ok (.if_icmp .ne 14, 3) := dk_160 0 14 (dk_at dksX7_apart_3 10 rfl rfl)
theorem dX7_apart_80 : decode cX7_apart 80 = .ok (.iload 5, 2) := dk_21 5 (dk_at dksX7_apart_3 13 rfl rfl)
theorem dX7_apart_82 : decode cX7_apart 82 = .ok (.aload_n 0, 1) := dk_42 (dk_at dksX7_apart_3 15 rfl rfl)
theorem dX7_apart_83 : decode cX7_apart 83 = .ok (.getfield 50, 3) := dk_180 0 50 (dk_at dksX7_apart_3 16 rfl rfl)
theorem dX7_apart_86 : decode cX7_apart 86 = .ok (.iload_n 2, 1) := dk_28 (dk_at dksX7_apart_3 19 rfl rfl)
theorem dX7_apart_87 : decode cX7_apart 87 = .ok (.iaload, 1) := dk_46 (dk_at dksX7_apart_3 20 rfl rfl)
theorem dX7_apart_88 : decode cX7_apart 88 = .ok (.if_icmp .eq 25, 3) := dk_159 0 25 (dk_at dksX7_apart_3 21 rfl rfl)
theorem dX7_apart_91 : decode cX7_apart 91 = .ok (.iload 4, 2) := dk_21 4 (dk_at dksX7_apart_4 0 rfl rfl)
theorem dX7_apart_93 : decode cX7_apart 93 = .ok (.aload_n 0, 1) := dk_42 (dk_at dksX7_apart_4 2 rfl rfl)
theorem dX7_apart_94 : decode cX7_apart 94 = .ok (.getfield 50, 3) := dk_180 0 50 (dk_at dksX7_apart_4 3 rfl rfl)
theorem dX7_apart_97 : decode cX7_apart 97 = .ok (.iload_n 2, 1) := dk_28 (dk_at dksX7_apart_4 6 rfl rfl)
theorem dX7_apart_98 : decode cX7_apart 98 = .ok (.iaload, 1) := dk_46 (dk_at dksX7_apart_4 7 rfl rfl)
theorem dX7_apart_99 : decode cX7_apart 99 = .ok (.if_icmp .ne 16, 3) := dk_160 0 16 (dk_at dksX7_apart_4 8 rfl rfl)
theorem dX7_apart_102 : decode cX7_apart 102 = .ok (.iload 5, 2) := dk_21 5 (dk_at dksX7_apart_4 11 rfl rfl)
theorem dX7_apart_104 : decode cX7_apart 104 = .ok (.aload_n 0, 1) := dk_42 (dk_at dksX7_apart_4 13 rfl rfl)
theorem dX7_apart_105 : decode cX7_apart 105 = .ok (.getfield 50, 3) := dk_180 0 50 (dk_at dksX7_apart_4 14 rfl rfl)
theorem dX7_apart_108 : decode cX7_apart 108 = .ok (.iload_n 1, 1) := dk_27 (dk_at dksX7_apart_4 17 rfl rfl)
theorem dX7_apart_109 : decode cX7_apart 109 = .ok (.iaload, 1) := dk_46 (dk_at dksX7_apart_4 18 rfl rfl)
theorem dX7_apart_110 : decode cX7_apart 110 = .ok (.if_icmp .ne 5, 3) := dk_160 0 5 (dk_at dksX7_apart_4 19 rfl rfl)
theorem dX7_apart_113 : decode cX7_apart 113 = .ok (.iconst 1, 1) := dk_4 (dk_at dksX7_apart_4 22 rfl rfl)
theorem dX7_apart_114 : decode cX7_apart 114 = .ok (.ireturn, 1) := dk_172 (dk_at dksX7_apart_4 23 rfl rfl)
theorem dX7_apart_115 : decode cX7_apart 115 = .ok (.iinc 3 1, 3) := dk_132 3 1 (dk_at dksX7_apart_5 0 rfl rfl)
theorem dX7_apart_118 : decode cX7_apart 118 = .ok (.goto (-83), 3) := dk_167 255 173 (dk_at dksX7_apart_5 3 rfl rfl)
theorem dX7_apart_121 : decode cX7_apart 121 = .ok (.iconst 0, 1) := dk_3 (dk_at dksX7_apart_5 6 rfl rfl)
theorem dX7_apart_122 : decode cX7_apart 122 = .ok (.ireturn, 1) := dk_172 (dk_at dksX7_apart_5 7 rfl rfl)
abbrev cX7_reasons : ByteArray := prog_14_method_61_code
def yX7_reasons : MethodName := ⟨RX7, "reasons", "(II)I"⟩
def dkwX7_reasons_0 : List UInt8 := [42, 42, 27, 28, 182, 1, 79, 182, 0, 223, 153, 0, 7, 2, 167, 0, 9, 42, 27, 28, 182, 1, 6, 172]
abbrev dktX7_reasons_0 : List UInt8 := dkwX7_reasons_0 ++ []
theorem dksX7_reasons_0 : cX7_reasons.data.toList.drop 0 = dktX7_reasons_0 := by decide +kernel
theorem dX7_reasons_0 : decode cX7_reasons 0 = .ok (.aload_n 0, 1) := dk_42 (dk_at dksX7_reasons_0 0 rfl rfl)
theorem dX7_reasons_1 : decode cX7_reasons 1 = .ok (.aload_n 0, 1) := dk_42 (dk_at dksX7_reasons_0 1 rfl rfl)
theorem dX7_reasons_2 : decode cX7_reasons 2 = .ok (.iload_n 1, 1) := dk_27 (dk_at dksX7_reasons_0 2 rfl rfl)
theorem dX7_reasons_3 : decode cX7_reasons 3 = .ok (.iload_n 2, 1) := dk_28 (dk_at dksX7_reasons_0 3 rfl rfl)
theorem dX7_reasons_4 : decode cX7_reasons 4 = .ok (.invokevirtual 335, 3) := dk_182 1 79 (dk_at dksX7_reasons_0 4 rfl rfl)
theorem dX7_reasons_7 : decode cX7_reasons 7 = .ok (.invokevirtual 223, 3) := dk_182 0 223 (dk_at dksX7_reasons_0 7 rfl rfl)
theorem dX7_reasons_10 : decode cX7_reasons 10 = .ok (.ifCond .eq 7, 3) := dk_153 0 7 (dk_at dksX7_reasons_0 10 rfl rfl)
theorem dX7_reasons_13 : decode cX7_reasons 13 = .ok (.iconst (-1), 1) := dk_2 (dk_at dksX7_reasons_0 13 rfl rfl)
theorem dX7_reasons_14 : decode cX7_reasons 14 = .ok (.goto 9, 3) := dk_167 0 9 (dk_at dksX7_reasons_0 14 rfl rfl)
theorem dX7_reasons_17 : decode cX7_reasons 17 = .ok (.aload_n 0, 1) := dk_42 (dk_at dksX7_reasons_0 17 rfl rfl)
theorem dX7_reasons_18 : decode cX7_reasons 18 = .ok (.iload_n 1, 1) := dk_27 (dk_at dksX7_reasons_0 18 rfl rfl)
theorem dX7_reasons_19 : decode cX7_reasons 19 = .ok (.iload_n 2, 1) := dk_28 (dk_at dksX7_reasons_0 19 rfl rfl)
theorem dX7_reasons_20 : decode cX7_reasons 20 = .ok (.invokevirtual 262, 3) := dk_182 1 6 (dk_at dksX7_reasons_0 20 rfl rfl)
theorem dX7_reasons_23 : decode cX7_reasons 23 = .ok (.ireturn, 1) := dk_172 (dk_at dksX7_reasons_0 23 rfl rfl)
abbrev cX7_whyNotOne : ByteArray := prog_14_method_60_code
def yX7_whyNotOne : MethodName := ⟨RX7, "whyNotOne", "(II)I"⟩
def dkwX7_whyNotOne_1 : List UInt8 := [27, 46, 42, 180, 0, 50, 28, 46, 160, 0, 7, 3, 167, 0, 4, 8, 172]
abbrev dktX7_whyNotOne_1 : List UInt8 := dkwX7_whyNotOne_1 ++ []
def dkwX7_whyNotOne_0 : List UInt8 := [42, 27, 182, 1, 61, 153, 0, 11, 42, 28, 182, 1, 61, 154, 0, 7, 4, 167, 0, 23, 42, 180, 0, 50]
abbrev dktX7_whyNotOne_0 : List UInt8 := dkwX7_whyNotOne_0 ++ dktX7_whyNotOne_1
theorem dksX7_whyNotOne_0 : cX7_whyNotOne.data.toList.drop 0 = dktX7_whyNotOne_0 := by decide +kernel
theorem dksX7_whyNotOne_1 : cX7_whyNotOne.data.toList.drop 24 = dktX7_whyNotOne_1 := dk_seg dksX7_whyNotOne_0 24 rfl rfl
theorem dX7_whyNotOne_0 : decode cX7_whyNotOne 0 = .ok (.aload_n 0, 1) := dk_42 (dk_at dksX7_whyNotOne_0 0 rfl rfl)
theorem dX7_whyNotOne_1 : decode cX7_whyNotOne 1 = .ok (.iload_n 1, 1) := dk_27 (dk_at dksX7_whyNotOne_0 1 rfl rfl)
theorem dX7_whyNotOne_2 : decode cX7_whyNotOne 2 = .ok (.invokevirtual 317, 3) := dk_182 1 61 (dk_at dksX7_whyNotOne_0 2 rfl rfl)
theorem dX7_whyNotOne_5 : decode cX7_whyNotOne 5 = .ok (.ifCond .eq 11, 3) := dk_153 0 11 (dk_at dksX7_whyNotOne_0 5 rfl rfl)
theorem dX7_whyNotOne_8 : decode cX7_whyNotOne 8 = .ok (.aload_n 0, 1) := dk_42 (dk_at dksX7_whyNotOne_0 8 rfl rfl)
theorem dX7_whyNotOne_9 : decode cX7_whyNotOne 9 = .ok (.iload_n 2, 1) := dk_28 (dk_at dksX7_whyNotOne_0 9 rfl rfl)
theorem dX7_whyNotOne_10 : decode cX7_whyNotOne 10 = .ok (.invokevirtual 317, 3) := dk_182 1 61 (dk_at dksX7_whyNotOne_0 10 rfl rfl)
theorem dX7_whyNotOne_13 : decode cX7_whyNotOne 13 = .ok (.ifCond .ne 7, 3) := dk_154 0 7 (dk_at dksX7_whyNotOne_0 13 rfl rfl)
theorem dX7_whyNotOne_16 : decode cX7_whyNotOne 16 = .ok (.iconst 1, 1) := dk_4 (dk_at dksX7_whyNotOne_0 16 rfl rfl)
theorem dX7_whyNotOne_17 : decode cX7_whyNotOne 17 = .ok (.goto 23, 3) := dk_167 0 23 (dk_at dksX7_whyNotOne_0 17 rfl rfl)
theorem dX7_whyNotOne_20 : decode cX7_whyNotOne 20 = .ok (.aload_n 0, 1) := dk_42 (dk_at dksX7_whyNotOne_0 20 rfl rfl)
theorem dX7_whyNotOne_21 : decode cX7_whyNotOne 21 = .ok (.getfield 50, 3) := dk_180 0 50 (dk_at dksX7_whyNotOne_0 21 rfl rfl)
theorem dX7_whyNotOne_24 : decode cX7_whyNotOne 24 = .ok (.iload_n 1, 1) := dk_27 (dk_at dksX7_whyNotOne_1 0 rfl rfl)
theorem dX7_whyNotOne_25 : decode cX7_whyNotOne 25 = .ok (.iaload, 1) := dk_46 (dk_at dksX7_whyNotOne_1 1 rfl rfl)
theorem dX7_whyNotOne_26 : decode cX7_whyNotOne 26 = .ok (.aload_n 0, 1) := dk_42 (dk_at dksX7_whyNotOne_1 2 rfl rfl)
theorem dX7_whyNotOne_27 : decode cX7_whyNotOne 27 = .ok (.getfield 50, 3) := dk_180 0 50 (dk_at dksX7_whyNotOne_1 3 rfl rfl)
theorem dX7_whyNotOne_30 : decode cX7_whyNotOne 30 = .ok (.iload_n 2, 1) := dk_28 (dk_at dksX7_whyNotOne_1 6 rfl rfl)
theorem dX7_whyNotOne_31 : decode cX7_whyNotOne 31 = .ok (.iaload, 1) := dk_46 (dk_at dksX7_whyNotOne_1 7 rfl rfl)
theorem dX7_whyNotOne_32 : decode cX7_whyNotOne 32 = .ok (.if_icmp .ne 7, 3) := dk_160 0 7 (dk_at dksX7_whyNotOne_1 8 rfl rfl)
theorem dX7_whyNotOne_35 : decode cX7_whyNotOne 35 = .ok (.iconst 0, 1) := dk_3 (dk_at dksX7_whyNotOne_1 11 rfl rfl)
theorem dX7_whyNotOne_36 : decode cX7_whyNotOne 36 = .ok (.goto 4, 3) := dk_167 0 4 (dk_at dksX7_whyNotOne_1 12 rfl rfl)
theorem dX7_whyNotOne_39 : decode cX7_whyNotOne 39 = .ok (.iconst 5, 1) := dk_8 (dk_at dksX7_whyNotOne_1 15 rfl rfl)
theorem dX7_whyNotOne_40 : decode cX7_whyNotOne 40 = .ok (.ireturn, 1) := dk_172 (dk_at dksX7_whyNotOne_1 16 rfl rfl)
abbrev cX7_pruned : ByteArray := prog_14_method_62_code
def yX7_pruned : MethodName := ⟨RX7, "pruned", "(II)I"⟩
def dkwX7_pruned_2 : List UInt8 := [153, 0, 14, 29, 4, 21, 4, 120, 2, 130, 126, 167, 0, 4, 29, 62, 132, 4, 255, 167, 255, 218, 29, 172]
abbrev dktX7_pruned_2 : List UInt8 := dkwX7_pruned_2 ++ []
def dkwX7_pruned_1 : List UInt8 := [4, 100, 54, 4, 21, 4, 155, 0, 39, 42, 29, 4, 21, 4, 120, 2, 130, 126, 27, 28, 182, 1, 76]
abbrev dktX7_pruned_1 : List UInt8 := dkwX7_pruned_1 ++ dktX7_pruned_2
def dkwX7_pruned_0 : List UInt8 := [42, 42, 27, 28, 182, 1, 79, 182, 0, 223, 153, 0, 5, 2, 172, 42, 182, 1, 73, 62, 42, 180, 1, 31]
abbrev dktX7_pruned_0 : List UInt8 := dkwX7_pruned_0 ++ dktX7_pruned_1
theorem dksX7_pruned_0 : cX7_pruned.data.toList.drop 0 = dktX7_pruned_0 := by decide +kernel
theorem dksX7_pruned_1 : cX7_pruned.data.toList.drop 24 = dktX7_pruned_1 := dk_seg dksX7_pruned_0 24 rfl rfl
theorem dksX7_pruned_2 : cX7_pruned.data.toList.drop 47 = dktX7_pruned_2 := dk_seg dksX7_pruned_1 23 rfl rfl
theorem dX7_pruned_0 : decode cX7_pruned 0 = .ok (.aload_n 0, 1) := dk_42 (dk_at dksX7_pruned_0 0 rfl rfl)
theorem dX7_pruned_1 : decode cX7_pruned 1 = .ok (.aload_n 0, 1) := dk_42 (dk_at dksX7_pruned_0 1 rfl rfl)
theorem dX7_pruned_2 : decode cX7_pruned 2 = .ok (.iload_n 1, 1) := dk_27 (dk_at dksX7_pruned_0 2 rfl rfl)
theorem dX7_pruned_3 : decode cX7_pruned 3 = .ok (.iload_n 2, 1) := dk_28 (dk_at dksX7_pruned_0 3 rfl rfl)
theorem dX7_pruned_4 : decode cX7_pruned 4 = .ok (.invokevirtual 335, 3) := dk_182 1 79 (dk_at dksX7_pruned_0 4 rfl rfl)
theorem dX7_pruned_7 : decode cX7_pruned 7 = .ok (.invokevirtual 223, 3) := dk_182 0 223 (dk_at dksX7_pruned_0 7 rfl rfl)
theorem dX7_pruned_10 : decode cX7_pruned 10 = .ok (.ifCond .eq 5, 3) := dk_153 0 5 (dk_at dksX7_pruned_0 10 rfl rfl)
theorem dX7_pruned_13 : decode cX7_pruned 13 = .ok (.iconst (-1), 1) := dk_2 (dk_at dksX7_pruned_0 13 rfl rfl)
theorem dX7_pruned_14 : decode cX7_pruned 14 = .ok (.ireturn, 1) := dk_172 (dk_at dksX7_pruned_0 14 rfl rfl)
theorem dX7_pruned_15 : decode cX7_pruned 15 = .ok (.aload_n 0, 1) := dk_42 (dk_at dksX7_pruned_0 15 rfl rfl)
theorem dX7_pruned_16 : decode cX7_pruned 16 = .ok (.invokevirtual 329, 3) := dk_182 1 73 (dk_at dksX7_pruned_0 16 rfl rfl)
theorem dX7_pruned_19 : decode cX7_pruned 19 = .ok (.istore_n 3, 1) := dk_62 (dk_at dksX7_pruned_0 19 rfl rfl)
theorem dX7_pruned_20 : decode cX7_pruned 20 = .ok (.aload_n 0, 1) := dk_42 (dk_at dksX7_pruned_0 20 rfl rfl)
theorem dX7_pruned_21 : decode cX7_pruned 21 = .ok (.getfield 287, 3) := dk_180 1 31 (dk_at dksX7_pruned_0 21 rfl rfl)
theorem dX7_pruned_24 : decode cX7_pruned 24 = .ok (.iconst 1, 1) := dk_4 (dk_at dksX7_pruned_1 0 rfl rfl)
theorem dX7_pruned_25 : decode cX7_pruned 25 = .ok (.isub, 1) := dk_100 (dk_at dksX7_pruned_1 1 rfl rfl)
theorem dX7_pruned_26 : decode cX7_pruned 26 = .ok (.istore 4, 2) := dk_54 4 (dk_at dksX7_pruned_1 2 rfl rfl)
theorem dX7_pruned_28 : decode cX7_pruned 28 = .ok (.iload 4, 2) := dk_21 4 (dk_at dksX7_pruned_1 4 rfl rfl)
theorem dX7_pruned_30 : decode cX7_pruned 30 = .ok (.ifCond .lt 39, 3) := dk_155 0 39 (dk_at dksX7_pruned_1 6 rfl rfl)
theorem dX7_pruned_33 : decode cX7_pruned 33 = .ok (.aload_n 0, 1) := dk_42 (dk_at dksX7_pruned_1 9 rfl rfl)
theorem dX7_pruned_34 : decode cX7_pruned 34 = .ok (.iload_n 3, 1) := dk_29 (dk_at dksX7_pruned_1 10 rfl rfl)
theorem dX7_pruned_35 : decode cX7_pruned 35 = .ok (.iconst 1, 1) := dk_4 (dk_at dksX7_pruned_1 11 rfl rfl)
theorem dX7_pruned_36 : decode cX7_pruned 36 = .ok (.iload 4, 2) := dk_21 4 (dk_at dksX7_pruned_1 12 rfl rfl)
theorem dX7_pruned_38 : decode cX7_pruned 38 = .ok (.ishl, 1) := dk_120 (dk_at dksX7_pruned_1 14 rfl rfl)
theorem dX7_pruned_39 : decode cX7_pruned 39 = .ok (.iconst (-1), 1) := dk_2 (dk_at dksX7_pruned_1 15 rfl rfl)
theorem dX7_pruned_40 : decode cX7_pruned 40 = .ok (.ixor, 1) := dk_130 (dk_at dksX7_pruned_1 16 rfl rfl)
theorem dX7_pruned_41 : decode cX7_pruned 41 = .ok (.iand, 1) := dk_126 (dk_at dksX7_pruned_1 17 rfl rfl)
theorem dX7_pruned_42 : decode cX7_pruned 42 = .ok (.iload_n 1, 1) := dk_27 (dk_at dksX7_pruned_1 18 rfl rfl)
theorem dX7_pruned_43 : decode cX7_pruned 43 = .ok (.iload_n 2, 1) := dk_28 (dk_at dksX7_pruned_1 19 rfl rfl)
theorem dX7_pruned_44 : decode cX7_pruned 44 = .ok (.invokevirtual 332, 3) := dk_182 1 76 (dk_at dksX7_pruned_1 20 rfl rfl)
theorem dX7_pruned_47 : decode cX7_pruned 47 = .ok (.ifCond .eq 14, 3) := dk_153 0 14 (dk_at dksX7_pruned_2 0 rfl rfl)
theorem dX7_pruned_50 : decode cX7_pruned 50 = .ok (.iload_n 3, 1) := dk_29 (dk_at dksX7_pruned_2 3 rfl rfl)
theorem dX7_pruned_51 : decode cX7_pruned 51 = .ok (.iconst 1, 1) := dk_4 (dk_at dksX7_pruned_2 4 rfl rfl)
theorem dX7_pruned_52 : decode cX7_pruned 52 = .ok (.iload 4, 2) := dk_21 4 (dk_at dksX7_pruned_2 5 rfl rfl)
theorem dX7_pruned_54 : decode cX7_pruned 54 = .ok (.ishl, 1) := dk_120 (dk_at dksX7_pruned_2 7 rfl rfl)
theorem dX7_pruned_55 : decode cX7_pruned 55 = .ok (.iconst (-1), 1) := dk_2 (dk_at dksX7_pruned_2 8 rfl rfl)
theorem dX7_pruned_56 : decode cX7_pruned 56 = .ok (.ixor, 1) := dk_130 (dk_at dksX7_pruned_2 9 rfl rfl)
theorem dX7_pruned_57 : decode cX7_pruned 57 = .ok (.iand, 1) := dk_126 (dk_at dksX7_pruned_2 10 rfl rfl)
theorem dX7_pruned_58 : decode cX7_pruned 58 = .ok (.goto 4, 3) := dk_167 0 4 (dk_at dksX7_pruned_2 11 rfl rfl)
theorem dX7_pruned_61 : decode cX7_pruned 61 = .ok (.iload_n 3, 1) := dk_29 (dk_at dksX7_pruned_2 14 rfl rfl)
theorem dX7_pruned_62 : decode cX7_pruned 62 = .ok (.istore_n 3, 1) := dk_62 (dk_at dksX7_pruned_2 15 rfl rfl)
theorem dX7_pruned_63 : decode cX7_pruned 63 = .ok (.iinc 4 (-1), 3) := dk_132 4 255 (dk_at dksX7_pruned_2 16 rfl rfl)
theorem dX7_pruned_66 : decode cX7_pruned 66 = .ok (.goto (-38), 3) := dk_167 255 218 (dk_at dksX7_pruned_2 19 rfl rfl)
theorem dX7_pruned_69 : decode cX7_pruned 69 = .ok (.iload_n 3, 1) := dk_29 (dk_at dksX7_pruned_2 22 rfl rfl)
theorem dX7_pruned_70 : decode cX7_pruned 70 = .ok (.ireturn, 1) := dk_172 (dk_at dksX7_pruned_2 23 rfl rfl)
abbrev cX7_fewest : ByteArray := prog_14_method_64_code
def yX7_fewest : MethodName := ⟨RX7, "fewest", "(II)I"⟩
def dkwX7_fewest_2 : List UInt8 := [21, 4, 27, 28, 182, 1, 76, 153, 0, 6, 21, 4, 62, 132, 4, 1, 167, 255, 213, 29, 172]
abbrev dktX7_fewest_2 : List UInt8 := dkwX7_fewest_2 ++ []
def dkwX7_fewest_1 : List UInt8 := [182, 1, 73, 163, 0, 40, 29, 2, 159, 0, 15, 21, 4, 184, 1, 82, 29, 184, 1, 82, 162, 0, 17, 42]
abbrev dktX7_fewest_1 : List UInt8 := dkwX7_fewest_1 ++ dktX7_fewest_2
def dkwX7_fewest_0 : List UInt8 := [42, 42, 27, 28, 182, 1, 79, 182, 0, 223, 153, 0, 5, 2, 172, 2, 62, 3, 54, 4, 21, 4, 42]
abbrev dktX7_fewest_0 : List UInt8 := dkwX7_fewest_0 ++ dktX7_fewest_1
theorem dksX7_fewest_0 : cX7_fewest.data.toList.drop 0 = dktX7_fewest_0 := by decide +kernel
theorem dksX7_fewest_1 : cX7_fewest.data.toList.drop 23 = dktX7_fewest_1 := dk_seg dksX7_fewest_0 23 rfl rfl
theorem dksX7_fewest_2 : cX7_fewest.data.toList.drop 47 = dktX7_fewest_2 := dk_seg dksX7_fewest_1 24 rfl rfl
theorem dX7_fewest_0 : decode cX7_fewest 0 = .ok (.aload_n 0, 1) := dk_42 (dk_at dksX7_fewest_0 0 rfl rfl)
theorem dX7_fewest_1 : decode cX7_fewest 1 = .ok (.aload_n 0, 1) := dk_42 (dk_at dksX7_fewest_0 1 rfl rfl)
theorem dX7_fewest_2 : decode cX7_fewest 2 = .ok (.iload_n 1, 1) := dk_27 (dk_at dksX7_fewest_0 2 rfl rfl)
theorem dX7_fewest_3 : decode cX7_fewest 3 = .ok (.iload_n 2, 1) := dk_28 (dk_at dksX7_fewest_0 3 rfl rfl)
theorem dX7_fewest_4 : decode cX7_fewest 4 = .ok (.invokevirtual 335, 3) := dk_182 1 79 (dk_at dksX7_fewest_0 4 rfl rfl)
theorem dX7_fewest_7 : decode cX7_fewest 7 = .ok (.invokevirtual 223, 3) := dk_182 0 223 (dk_at dksX7_fewest_0 7 rfl rfl)
theorem dX7_fewest_10 : decode cX7_fewest 10 = .ok (.ifCond .eq 5, 3) := dk_153 0 5 (dk_at dksX7_fewest_0 10 rfl rfl)
theorem dX7_fewest_13 : decode cX7_fewest 13 = .ok (.iconst (-1), 1) := dk_2 (dk_at dksX7_fewest_0 13 rfl rfl)
theorem dX7_fewest_14 : decode cX7_fewest 14 = .ok (.ireturn, 1) := dk_172 (dk_at dksX7_fewest_0 14 rfl rfl)
theorem dX7_fewest_15 : decode cX7_fewest 15 = .ok (.iconst (-1), 1) := dk_2 (dk_at dksX7_fewest_0 15 rfl rfl)
theorem dX7_fewest_16 : decode cX7_fewest 16 = .ok (.istore_n 3, 1) := dk_62 (dk_at dksX7_fewest_0 16 rfl rfl)
theorem dX7_fewest_17 : decode cX7_fewest 17 = .ok (.iconst 0, 1) := dk_3 (dk_at dksX7_fewest_0 17 rfl rfl)
theorem dX7_fewest_18 : decode cX7_fewest 18 = .ok (.istore 4, 2) := dk_54 4 (dk_at dksX7_fewest_0 18 rfl rfl)
theorem dX7_fewest_20 : decode cX7_fewest 20 = .ok (.iload 4, 2) := dk_21 4 (dk_at dksX7_fewest_0 20 rfl rfl)
theorem dX7_fewest_22 : decode cX7_fewest 22 = .ok (.aload_n 0, 1) := dk_42 (dk_at dksX7_fewest_0 22 rfl rfl)
theorem dX7_fewest_23 : decode cX7_fewest 23 = .ok (.invokevirtual 329, 3) := dk_182 1 73 (dk_at dksX7_fewest_1 0 rfl rfl)
theorem dX7_fewest_26 : decode cX7_fewest 26 = .ok (.if_icmp .gt 40, 3) := dk_163 0 40 (dk_at dksX7_fewest_1 3 rfl rfl)
theorem dX7_fewest_29 : decode cX7_fewest 29 = .ok (.iload_n 3, 1) := dk_29 (dk_at dksX7_fewest_1 6 rfl rfl)
theorem dX7_fewest_30 : decode cX7_fewest 30 = .ok (.iconst (-1), 1) := dk_2 (dk_at dksX7_fewest_1 7 rfl rfl)
theorem dX7_fewest_31 : decode cX7_fewest 31 = .ok (.if_icmp .eq 15, 3) := dk_159 0 15 (dk_at dksX7_fewest_1 8 rfl rfl)
theorem dX7_fewest_34 : decode cX7_fewest 34 = .ok (.iload 4, 2) := dk_21 4 (dk_at dksX7_fewest_1 11 rfl rfl)
theorem dX7_fewest_36 : decode cX7_fewest 36 = .ok (.invokestatic 338, 3) := dk_184 1 82 (dk_at dksX7_fewest_1 13 rfl rfl)
theorem dX7_fewest_39 : decode cX7_fewest 39 = .ok (.iload_n 3, 1) := dk_29 (dk_at dksX7_fewest_1 16 rfl rfl)
theorem dX7_fewest_40 : decode cX7_fewest 40 = .ok (.invokestatic 338, 3) := dk_184 1 82 (dk_at dksX7_fewest_1 17 rfl rfl)
theorem dX7_fewest_43 : decode cX7_fewest 43 = .ok (.if_icmp .ge 17, 3) := dk_162 0 17 (dk_at dksX7_fewest_1 20 rfl rfl)
theorem dX7_fewest_46 : decode cX7_fewest 46 = .ok (.aload_n 0, 1) := dk_42 (dk_at dksX7_fewest_1 23 rfl rfl)
theorem dX7_fewest_47 : decode cX7_fewest 47 = .ok (.iload 4, 2) := dk_21 4 (dk_at dksX7_fewest_2 0 rfl rfl)
theorem dX7_fewest_49 : decode cX7_fewest 49 = .ok (.iload_n 1, 1) := dk_27 (dk_at dksX7_fewest_2 2 rfl rfl)
theorem dX7_fewest_50 : decode cX7_fewest 50 = .ok (.iload_n 2, 1) := dk_28 (dk_at dksX7_fewest_2 3 rfl rfl)
theorem dX7_fewest_51 : decode cX7_fewest 51 = .ok (.invokevirtual 332, 3) := dk_182 1 76 (dk_at dksX7_fewest_2 4 rfl rfl)
theorem dX7_fewest_54 : decode cX7_fewest 54 = .ok (.ifCond .eq 6, 3) := dk_153 0 6 (dk_at dksX7_fewest_2 7 rfl rfl)
theorem dX7_fewest_57 : decode cX7_fewest 57 = .ok (.iload 4, 2) := dk_21 4 (dk_at dksX7_fewest_2 10 rfl rfl)
theorem dX7_fewest_59 : decode cX7_fewest 59 = .ok (.istore_n 3, 1) := dk_62 (dk_at dksX7_fewest_2 12 rfl rfl)
theorem dX7_fewest_60 : decode cX7_fewest 60 = .ok (.iinc 4 1, 3) := dk_132 4 1 (dk_at dksX7_fewest_2 13 rfl rfl)
theorem dX7_fewest_63 : decode cX7_fewest 63 = .ok (.goto (-43), 3) := dk_167 255 213 (dk_at dksX7_fewest_2 16 rfl rfl)
theorem dX7_fewest_66 : decode cX7_fewest 66 = .ok (.iload_n 3, 1) := dk_29 (dk_at dksX7_fewest_2 19 rfl rfl)
theorem dX7_fewest_67 : decode cX7_fewest 67 = .ok (.ireturn, 1) := dk_172 (dk_at dksX7_fewest_2 20 rfl rfl)
abbrev cX7_ones : ByteArray := prog_14_method_63_code
def yX7_ones : MethodName := ⟨RX7, "ones", "(I)I"⟩
def dkwX7_ones_1 : List UInt8 := [27, 172]
abbrev dktX7_ones_1 : List UInt8 := dkwX7_ones_1 ++ []
def dkwX7_ones_0 : List UInt8 := [3, 60, 3, 61, 28, 16, 12, 163, 0, 17, 27, 26, 28, 122, 4, 126, 96, 60, 132, 2, 1, 167, 255, 239]
abbrev dktX7_ones_0 : List UInt8 := dkwX7_ones_0 ++ dktX7_ones_1
theorem dksX7_ones_0 : cX7_ones.data.toList.drop 0 = dktX7_ones_0 := by decide +kernel
theorem dksX7_ones_1 : cX7_ones.data.toList.drop 24 = dktX7_ones_1 := dk_seg dksX7_ones_0 24 rfl rfl
theorem dX7_ones_0 : decode cX7_ones 0 = .ok (.iconst 0, 1) := dk_3 (dk_at dksX7_ones_0 0 rfl rfl)
theorem dX7_ones_1 : decode cX7_ones 1 = .ok (.istore_n 1, 1) := dk_60 (dk_at dksX7_ones_0 1 rfl rfl)
theorem dX7_ones_2 : decode cX7_ones 2 = .ok (.iconst 0, 1) := dk_3 (dk_at dksX7_ones_0 2 rfl rfl)
theorem dX7_ones_3 : decode cX7_ones 3 = .ok (.istore_n 2, 1) := dk_61 (dk_at dksX7_ones_0 3 rfl rfl)
theorem dX7_ones_4 : decode cX7_ones 4 = .ok (.iload_n 2, 1) := dk_28 (dk_at dksX7_ones_0 4 rfl rfl)
theorem dX7_ones_5 : decode cX7_ones 5 = .ok (.bipush 12, 2) := dk_16 12 (dk_at dksX7_ones_0 5 rfl rfl)
theorem dX7_ones_7 : decode cX7_ones 7 = .ok (.if_icmp .gt 17, 3) := dk_163 0 17 (dk_at dksX7_ones_0 7 rfl rfl)
theorem dX7_ones_10 : decode cX7_ones 10 = .ok (.iload_n 1, 1) := dk_27 (dk_at dksX7_ones_0 10 rfl rfl)
theorem dX7_ones_11 : decode cX7_ones 11 = .ok (.iload_n 0, 1) := dk_26 (dk_at dksX7_ones_0 11 rfl rfl)
theorem dX7_ones_12 : decode cX7_ones 12 = .ok (.iload_n 2, 1) := dk_28 (dk_at dksX7_ones_0 12 rfl rfl)
theorem dX7_ones_13 : decode cX7_ones 13 = .ok (.ishr, 1) := dk_122 (dk_at dksX7_ones_0 13 rfl rfl)
theorem dX7_ones_14 : decode cX7_ones 14 = .ok (.iconst 1, 1) := dk_4 (dk_at dksX7_ones_0 14 rfl rfl)
theorem dX7_ones_15 : decode cX7_ones 15 = .ok (.iand, 1) := dk_126 (dk_at dksX7_ones_0 15 rfl rfl)
theorem dX7_ones_16 : decode cX7_ones 16 = .ok (.iadd, 1) := dk_96 (dk_at dksX7_ones_0 16 rfl rfl)
theorem dX7_ones_17 : decode cX7_ones 17 = .ok (.istore_n 1, 1) := dk_60 (dk_at dksX7_ones_0 17 rfl rfl)
theorem dX7_ones_18 : decode cX7_ones 18 = .ok (.iinc 2 1, 3) := dk_132 2 1 (dk_at dksX7_ones_0 18 rfl rfl)
theorem dX7_ones_21 : decode cX7_ones 21 = .ok (.goto (-17), 3) := dk_167 255 239 (dk_at dksX7_ones_0 21 rfl rfl)
theorem dX7_ones_24 : decode cX7_ones 24 = .ok (.iload_n 1, 1) := dk_27 (dk_at dksX7_ones_1 0 rfl rfl)
theorem dX7_ones_25 : decode cX7_ones 25 = .ok (.ireturn, 1) := dk_172 (dk_at dksX7_ones_1 1 rfl rfl)
abbrev cX7_needed : ByteArray := prog_14_method_65_code
def yX7_needed : MethodName := ⟨RX7, "needed", "(II)I"⟩
def dkwX7_needed_2 : List UInt8 := [153, 0, 7, 3, 167, 0, 7, 4, 21, 4, 120, 128, 62, 132, 4, 1, 167, 255, 213, 29, 172]
abbrev dktX7_needed_2 : List UInt8 := dkwX7_needed_2 ++ []
def dkwX7_needed_1 : List UInt8 := [180, 1, 31, 162, 0, 40, 29, 42, 42, 182, 1, 73, 4, 21, 4, 120, 2, 130, 126, 27, 28, 182, 1, 76]
abbrev dktX7_needed_1 : List UInt8 := dkwX7_needed_1 ++ dktX7_needed_2
def dkwX7_needed_0 : List UInt8 := [42, 42, 27, 28, 182, 1, 79, 182, 0, 223, 153, 0, 5, 2, 172, 3, 62, 3, 54, 4, 21, 4, 42]
abbrev dktX7_needed_0 : List UInt8 := dkwX7_needed_0 ++ dktX7_needed_1
theorem dksX7_needed_0 : cX7_needed.data.toList.drop 0 = dktX7_needed_0 := by decide +kernel
theorem dksX7_needed_1 : cX7_needed.data.toList.drop 23 = dktX7_needed_1 := dk_seg dksX7_needed_0 23 rfl rfl
theorem dksX7_needed_2 : cX7_needed.data.toList.drop 47 = dktX7_needed_2 := dk_seg dksX7_needed_1 24 rfl rfl
theorem dX7_needed_0 : decode cX7_needed 0 = .ok (.aload_n 0, 1) := dk_42 (dk_at dksX7_needed_0 0 rfl rfl)
theorem dX7_needed_1 : decode cX7_needed 1 = .ok (.aload_n 0, 1) := dk_42 (dk_at dksX7_needed_0 1 rfl rfl)
theorem dX7_needed_2 : decode cX7_needed 2 = .ok (.iload_n 1, 1) := dk_27 (dk_at dksX7_needed_0 2 rfl rfl)
theorem dX7_needed_3 : decode cX7_needed 3 = .ok (.iload_n 2, 1) := dk_28 (dk_at dksX7_needed_0 3 rfl rfl)
theorem dX7_needed_4 : decode cX7_needed 4 = .ok (.invokevirtual 335, 3) := dk_182 1 79 (dk_at dksX7_needed_0 4 rfl rfl)
theorem dX7_needed_7 : decode cX7_needed 7 = .ok (.invokevirtual 223, 3) := dk_182 0 223 (dk_at dksX7_needed_0 7 rfl rfl)
theorem dX7_needed_10 : decode cX7_needed 10 = .ok (.ifCond .eq 5, 3) := dk_153 0 5 (dk_at dksX7_needed_0 10 rfl rfl)
theorem dX7_needed_13 : decode cX7_needed 13 = .ok (.iconst (-1), 1) := dk_2 (dk_at dksX7_needed_0 13 rfl rfl)
theorem dX7_needed_14 : decode cX7_needed 14 = .ok (.ireturn, 1) := dk_172 (dk_at dksX7_needed_0 14 rfl rfl)
theorem dX7_needed_15 : decode cX7_needed 15 = .ok (.iconst 0, 1) := dk_3 (dk_at dksX7_needed_0 15 rfl rfl)
theorem dX7_needed_16 : decode cX7_needed 16 = .ok (.istore_n 3, 1) := dk_62 (dk_at dksX7_needed_0 16 rfl rfl)
theorem dX7_needed_17 : decode cX7_needed 17 = .ok (.iconst 0, 1) := dk_3 (dk_at dksX7_needed_0 17 rfl rfl)
theorem dX7_needed_18 : decode cX7_needed 18 = .ok (.istore 4, 2) := dk_54 4 (dk_at dksX7_needed_0 18 rfl rfl)
theorem dX7_needed_20 : decode cX7_needed 20 = .ok (.iload 4, 2) := dk_21 4 (dk_at dksX7_needed_0 20 rfl rfl)
theorem dX7_needed_22 : decode cX7_needed 22 = .ok (.aload_n 0, 1) := dk_42 (dk_at dksX7_needed_0 22 rfl rfl)
theorem dX7_needed_23 : decode cX7_needed 23 = .ok (.getfield 287, 3) := dk_180 1 31 (dk_at dksX7_needed_1 0 rfl rfl)
theorem dX7_needed_26 : decode cX7_needed 26 = .ok (.if_icmp .ge 40, 3) := dk_162 0 40 (dk_at dksX7_needed_1 3 rfl rfl)
theorem dX7_needed_29 : decode cX7_needed 29 = .ok (.iload_n 3, 1) := dk_29 (dk_at dksX7_needed_1 6 rfl rfl)
theorem dX7_needed_30 : decode cX7_needed 30 = .ok (.aload_n 0, 1) := dk_42 (dk_at dksX7_needed_1 7 rfl rfl)
theorem dX7_needed_31 : decode cX7_needed 31 = .ok (.aload_n 0, 1) := dk_42 (dk_at dksX7_needed_1 8 rfl rfl)
theorem dX7_needed_32 : decode cX7_needed 32 = .ok (.invokevirtual 329, 3) := dk_182 1 73 (dk_at dksX7_needed_1 9 rfl rfl)
theorem dX7_needed_35 : decode cX7_needed 35 = .ok (.iconst 1, 1) := dk_4 (dk_at dksX7_needed_1 12 rfl rfl)
theorem dX7_needed_36 : decode cX7_needed 36 = .ok (.iload 4, 2) := dk_21 4 (dk_at dksX7_needed_1 13 rfl rfl)
theorem dX7_needed_38 : decode cX7_needed 38 = .ok (.ishl, 1) := dk_120 (dk_at dksX7_needed_1 15 rfl rfl)
theorem dX7_needed_39 : decode cX7_needed 39 = .ok (.iconst (-1), 1) := dk_2 (dk_at dksX7_needed_1 16 rfl rfl)
theorem dX7_needed_40 : decode cX7_needed 40 = .ok (.ixor, 1) := dk_130 (dk_at dksX7_needed_1 17 rfl rfl)
theorem dX7_needed_41 : decode cX7_needed 41 = .ok (.iand, 1) := dk_126 (dk_at dksX7_needed_1 18 rfl rfl)
theorem dX7_needed_42 : decode cX7_needed 42 = .ok (.iload_n 1, 1) := dk_27 (dk_at dksX7_needed_1 19 rfl rfl)
theorem dX7_needed_43 : decode cX7_needed 43 = .ok (.iload_n 2, 1) := dk_28 (dk_at dksX7_needed_1 20 rfl rfl)
theorem dX7_needed_44 : decode cX7_needed 44 = .ok (.invokevirtual 332, 3) := dk_182 1 76 (dk_at dksX7_needed_1 21 rfl rfl)
theorem dX7_needed_47 : decode cX7_needed 47 = .ok (.ifCond .eq 7, 3) := dk_153 0 7 (dk_at dksX7_needed_2 0 rfl rfl)
theorem dX7_needed_50 : decode cX7_needed 50 = .ok (.iconst 0, 1) := dk_3 (dk_at dksX7_needed_2 3 rfl rfl)
theorem dX7_needed_51 : decode cX7_needed 51 = .ok (.goto 7, 3) := dk_167 0 7 (dk_at dksX7_needed_2 4 rfl rfl)
theorem dX7_needed_54 : decode cX7_needed 54 = .ok (.iconst 1, 1) := dk_4 (dk_at dksX7_needed_2 7 rfl rfl)
theorem dX7_needed_55 : decode cX7_needed 55 = .ok (.iload 4, 2) := dk_21 4 (dk_at dksX7_needed_2 8 rfl rfl)
theorem dX7_needed_57 : decode cX7_needed 57 = .ok (.ishl, 1) := dk_120 (dk_at dksX7_needed_2 10 rfl rfl)
theorem dX7_needed_58 : decode cX7_needed 58 = .ok (.ior, 1) := dk_128 (dk_at dksX7_needed_2 11 rfl rfl)
theorem dX7_needed_59 : decode cX7_needed 59 = .ok (.istore_n 3, 1) := dk_62 (dk_at dksX7_needed_2 12 rfl rfl)
theorem dX7_needed_60 : decode cX7_needed 60 = .ok (.iinc 4 1, 3) := dk_132 4 1 (dk_at dksX7_needed_2 13 rfl rfl)
theorem dX7_needed_63 : decode cX7_needed 63 = .ok (.goto (-43), 3) := dk_167 255 213 (dk_at dksX7_needed_2 16 rfl rfl)
theorem dX7_needed_66 : decode cX7_needed 66 = .ok (.iload_n 3, 1) := dk_29 (dk_at dksX7_needed_2 19 rfl rfl)
theorem dX7_needed_67 : decode cX7_needed 67 = .ok (.ireturn, 1) := dk_172 (dk_at dksX7_needed_2 20 rfl rfl)
abbrev cX7_many : ByteArray := prog_14_method_66_code
def yX7_many : MethodName := ⟨RX7, "many", "(II)I"⟩
def dkwX7_many_5 : List UInt8 := [153, 0, 7, 4, 167, 0, 4, 3, 96, 62, 132, 4, 1, 167, 255, 150, 29, 172]
abbrev dktX7_many_5 : List UInt8 := dkwX7_many_5 ++ []
def dkwX7_many_4 : List UInt8 := [130, 126, 51, 154, 0, 7, 4, 167, 0, 4, 3, 54, 5, 132, 6, 1, 167, 255, 205, 29, 21, 5]
abbrev dktX7_many_4 : List UInt8 := dkwX7_many_4 ++ dktX7_many_5
def dkwX7_many_3 : List UInt8 := [153, 0, 34, 21, 4, 21, 6, 122, 4, 126, 153, 0, 20, 42, 180, 0, 77, 21, 4, 4, 21, 6, 120, 2]
abbrev dktX7_many_3 : List UInt8 := dkwX7_many_3 ++ dktX7_many_4
def dkwX7_many_2 : List UInt8 := [180, 0, 77, 21, 4, 51, 54, 5, 3, 54, 6, 21, 6, 42, 180, 1, 31, 162, 0, 48, 21, 5]
abbrev dktX7_many_2 : List UInt8 := dkwX7_many_2 ++ dktX7_many_3
def dkwX7_many_1 : List UInt8 := [182, 1, 73, 163, 0, 103, 42, 180, 0, 77, 21, 4, 42, 21, 4, 27, 28, 182, 1, 76, 84, 42]
abbrev dktX7_many_1 : List UInt8 := dkwX7_many_1 ++ dktX7_many_2
def dkwX7_many_0 : List UInt8 := [42, 42, 27, 28, 182, 1, 79, 182, 0, 223, 153, 0, 5, 2, 172, 3, 62, 3, 54, 4, 21, 4, 42]
abbrev dktX7_many_0 : List UInt8 := dkwX7_many_0 ++ dktX7_many_1
theorem dksX7_many_0 : cX7_many.data.toList.drop 0 = dktX7_many_0 := by decide +kernel
theorem dksX7_many_1 : cX7_many.data.toList.drop 23 = dktX7_many_1 := dk_seg dksX7_many_0 23 rfl rfl
theorem dksX7_many_2 : cX7_many.data.toList.drop 45 = dktX7_many_2 := dk_seg dksX7_many_1 22 rfl rfl
theorem dksX7_many_3 : cX7_many.data.toList.drop 67 = dktX7_many_3 := dk_seg dksX7_many_2 22 rfl rfl
theorem dksX7_many_4 : cX7_many.data.toList.drop 91 = dktX7_many_4 := dk_seg dksX7_many_3 24 rfl rfl
theorem dksX7_many_5 : cX7_many.data.toList.drop 113 = dktX7_many_5 := dk_seg dksX7_many_4 22 rfl rfl
theorem dX7_many_0 : decode cX7_many 0 = .ok (.aload_n 0, 1) := dk_42 (dk_at dksX7_many_0 0 rfl rfl)
theorem dX7_many_1 : decode cX7_many 1 = .ok (.aload_n 0, 1) := dk_42 (dk_at dksX7_many_0 1 rfl rfl)
theorem dX7_many_2 : decode cX7_many 2 = .ok (.iload_n 1, 1) := dk_27 (dk_at dksX7_many_0 2 rfl rfl)
theorem dX7_many_3 : decode cX7_many 3 = .ok (.iload_n 2, 1) := dk_28 (dk_at dksX7_many_0 3 rfl rfl)
theorem dX7_many_4 : decode cX7_many 4 = .ok (.invokevirtual 335, 3) := dk_182 1 79 (dk_at dksX7_many_0 4 rfl rfl)
theorem dX7_many_7 : decode cX7_many 7 = .ok (.invokevirtual 223, 3) := dk_182 0 223 (dk_at dksX7_many_0 7 rfl rfl)
theorem dX7_many_10 : decode cX7_many 10 = .ok (.ifCond .eq 5, 3) := dk_153 0 5 (dk_at dksX7_many_0 10 rfl rfl)
theorem dX7_many_13 : decode cX7_many 13 = .ok (.iconst (-1), 1) := dk_2 (dk_at dksX7_many_0 13 rfl rfl)
theorem dX7_many_14 : decode cX7_many 14 = .ok (.ireturn, 1) := dk_172 (dk_at dksX7_many_0 14 rfl rfl)
theorem dX7_many_15 : decode cX7_many 15 = .ok (.iconst 0, 1) := dk_3 (dk_at dksX7_many_0 15 rfl rfl)
theorem dX7_many_16 : decode cX7_many 16 = .ok (.istore_n 3, 1) := dk_62 (dk_at dksX7_many_0 16 rfl rfl)
theorem dX7_many_17 : decode cX7_many 17 = .ok (.iconst 0, 1) := dk_3 (dk_at dksX7_many_0 17 rfl rfl)
theorem dX7_many_18 : decode cX7_many 18 = .ok (.istore 4, 2) := dk_54 4 (dk_at dksX7_many_0 18 rfl rfl)
theorem dX7_many_20 : decode cX7_many 20 = .ok (.iload 4, 2) := dk_21 4 (dk_at dksX7_many_0 20 rfl rfl)
theorem dX7_many_22 : decode cX7_many 22 = .ok (.aload_n 0, 1) := dk_42 (dk_at dksX7_many_0 22 rfl rfl)
theorem dX7_many_23 : decode cX7_many 23 = .ok (.invokevirtual 329, 3) := dk_182 1 73 (dk_at dksX7_many_1 0 rfl rfl)
theorem dX7_many_26 : decode cX7_many 26 = .ok (.if_icmp .gt 103, 3) := dk_163 0 103 (dk_at dksX7_many_1 3 rfl rfl)
theorem dX7_many_29 : decode cX7_many 29 = .ok (.aload_n 0, 1) := dk_42 (dk_at dksX7_many_1 6 rfl rfl)
theorem dX7_many_30 : decode cX7_many 30 = .ok (.getfield 77, 3) := dk_180 0 77 (dk_at dksX7_many_1 7 rfl rfl)
theorem dX7_many_33 : decode cX7_many 33 = .ok (.iload 4, 2) := dk_21 4 (dk_at dksX7_many_1 10 rfl rfl)
theorem dX7_many_35 : decode cX7_many 35 = .ok (.aload_n 0, 1) := dk_42 (dk_at dksX7_many_1 12 rfl rfl)
theorem dX7_many_36 : decode cX7_many 36 = .ok (.iload 4, 2) := dk_21 4 (dk_at dksX7_many_1 13 rfl rfl)
theorem dX7_many_38 : decode cX7_many 38 = .ok (.iload_n 1, 1) := dk_27 (dk_at dksX7_many_1 15 rfl rfl)
theorem dX7_many_39 : decode cX7_many 39 = .ok (.iload_n 2, 1) := dk_28 (dk_at dksX7_many_1 16 rfl rfl)
theorem dX7_many_40 : decode cX7_many 40 = .ok (.invokevirtual 332, 3) := dk_182 1 76 (dk_at dksX7_many_1 17 rfl rfl)
theorem dX7_many_43 : decode cX7_many 43 = .ok (.bastore, 1) := dk_84 (dk_at dksX7_many_1 20 rfl rfl)
theorem dX7_many_44 : decode cX7_many 44 = .ok (.aload_n 0, 1) := dk_42 (dk_at dksX7_many_1 21 rfl rfl)
theorem dX7_many_45 : decode cX7_many 45 = .ok (.getfield 77, 3) := dk_180 0 77 (dk_at dksX7_many_2 0 rfl rfl)
theorem dX7_many_48 : decode cX7_many 48 = .ok (.iload 4, 2) := dk_21 4 (dk_at dksX7_many_2 3 rfl rfl)
theorem dX7_many_50 : decode cX7_many 50 = .ok (.baload, 1) := dk_51 (dk_at dksX7_many_2 5 rfl rfl)
theorem dX7_many_51 : decode cX7_many 51 = .ok (.istore 5, 2) := dk_54 5 (dk_at dksX7_many_2 6 rfl rfl)
theorem dX7_many_53 : decode cX7_many 53 = .ok (.iconst 0, 1) := dk_3 (dk_at dksX7_many_2 8 rfl rfl)
theorem dX7_many_54 : decode cX7_many 54 = .ok (.istore 6, 2) := dk_54 6 (dk_at dksX7_many_2 9 rfl rfl)
theorem dX7_many_56 : decode cX7_many 56 = .ok (.iload 6, 2) := dk_21 6 (dk_at dksX7_many_2 11 rfl rfl)
theorem dX7_many_58 : decode cX7_many 58 = .ok (.aload_n 0, 1) := dk_42 (dk_at dksX7_many_2 13 rfl rfl)
theorem dX7_many_59 : decode cX7_many 59 = .ok (.getfield 287, 3) := dk_180 1 31 (dk_at dksX7_many_2 14 rfl rfl)
theorem dX7_many_62 : decode cX7_many 62 = .ok (.if_icmp .ge 48, 3) := dk_162 0 48 (dk_at dksX7_many_2 17 rfl rfl)
theorem dX7_many_65 : decode cX7_many 65 = .ok (.iload 5, 2) := dk_21 5 (dk_at dksX7_many_2 20 rfl rfl)
theorem dX7_many_67 : decode cX7_many 67 = .ok (.ifCond .eq 34, 3) := dk_153 0 34 (dk_at dksX7_many_3 0 rfl rfl)
theorem dX7_many_70 : decode cX7_many 70 = .ok (.iload 4, 2) := dk_21 4 (dk_at dksX7_many_3 3 rfl rfl)
theorem dX7_many_72 : decode cX7_many 72 = .ok (.iload 6, 2) := dk_21 6 (dk_at dksX7_many_3 5 rfl rfl)
theorem dX7_many_74 : decode cX7_many 74 = .ok (.ishr, 1) := dk_122 (dk_at dksX7_many_3 7 rfl rfl)
theorem dX7_many_75 : decode cX7_many 75 = .ok (.iconst 1, 1) := dk_4 (dk_at dksX7_many_3 8 rfl rfl)
theorem dX7_many_76 : decode cX7_many 76 = .ok (.iand, 1) := dk_126 (dk_at dksX7_many_3 9 rfl rfl)
theorem dX7_many_77 : decode cX7_many 77 = .ok (.ifCond .eq 20, 3) := dk_153 0 20 (dk_at dksX7_many_3 10 rfl rfl)
theorem dX7_many_80 : decode cX7_many 80 = .ok (.aload_n 0, 1) := dk_42 (dk_at dksX7_many_3 13 rfl rfl)
theorem dX7_many_81 : decode cX7_many 81 = .ok (.getfield 77, 3) := dk_180 0 77 (dk_at dksX7_many_3 14 rfl rfl)
theorem dX7_many_84 : decode cX7_many 84 = .ok (.iload 4, 2) := dk_21 4 (dk_at dksX7_many_3 17 rfl rfl)
theorem dX7_many_86 : decode cX7_many 86 = .ok (.iconst 1, 1) := dk_4 (dk_at dksX7_many_3 19 rfl rfl)
theorem dX7_many_87 : decode cX7_many 87 = .ok (.iload 6, 2) := dk_21 6 (dk_at dksX7_many_3 20 rfl rfl)
theorem dX7_many_89 : decode cX7_many 89 = .ok (.ishl, 1) := dk_120 (dk_at dksX7_many_3 22 rfl rfl)
theorem dX7_many_90 : decode cX7_many 90 = .ok (.iconst (-1), 1) := dk_2 (dk_at dksX7_many_3 23 rfl rfl)
theorem dX7_many_91 : decode cX7_many 91 = .ok (.ixor, 1) := dk_130 (dk_at dksX7_many_4 0 rfl rfl)
theorem dX7_many_92 : decode cX7_many 92 = .ok (.iand, 1) := dk_126 (dk_at dksX7_many_4 1 rfl rfl)
theorem dX7_many_93 : decode cX7_many 93 = .ok (.baload, 1) := dk_51 (dk_at dksX7_many_4 2 rfl rfl)
theorem dX7_many_94 : decode cX7_many 94 = .ok (.ifCond .ne 7, 3) := dk_154 0 7 (dk_at dksX7_many_4 3 rfl rfl)
theorem dX7_many_97 : decode cX7_many 97 = .ok (.iconst 1, 1) := dk_4 (dk_at dksX7_many_4 6 rfl rfl)
theorem dX7_many_98 : decode cX7_many 98 = .ok (.goto 4, 3) := dk_167 0 4 (dk_at dksX7_many_4 7 rfl rfl)
theorem dX7_many_101 : decode cX7_many 101 = .ok (.iconst 0, 1) := dk_3 (dk_at dksX7_many_4 10 rfl rfl)
theorem dX7_many_102 : decode cX7_many 102 = .ok (.istore 5, 2) := dk_54 5 (dk_at dksX7_many_4 11 rfl rfl)
theorem dX7_many_104 : decode cX7_many 104 = .ok (.iinc 6 1, 3) := dk_132 6 1 (dk_at dksX7_many_4 13 rfl rfl)
theorem dX7_many_107 : decode cX7_many 107 = .ok (.goto (-51), 3) := dk_167 255 205 (dk_at dksX7_many_4 16 rfl rfl)
theorem dX7_many_110 : decode cX7_many 110 = .ok (.iload_n 3, 1) := dk_29 (dk_at dksX7_many_4 19 rfl rfl)
theorem dX7_many_111 : decode cX7_many 111 = .ok (.iload 5, 2) := dk_21 5 (dk_at dksX7_many_4 20 rfl rfl)
theorem dX7_many_113 : decode cX7_many 113 = .ok (.ifCond .eq 7, 3) := dk_153 0 7 (dk_at dksX7_many_5 0 rfl rfl)
theorem dX7_many_116 : decode cX7_many 116 = .ok (.iconst 1, 1) := dk_4 (dk_at dksX7_many_5 3 rfl rfl)
theorem dX7_many_117 : decode cX7_many 117 = .ok (.goto 4, 3) := dk_167 0 4 (dk_at dksX7_many_5 4 rfl rfl)
theorem dX7_many_120 : decode cX7_many 120 = .ok (.iconst 0, 1) := dk_3 (dk_at dksX7_many_5 7 rfl rfl)
theorem dX7_many_121 : decode cX7_many 121 = .ok (.iadd, 1) := dk_96 (dk_at dksX7_many_5 8 rfl rfl)
theorem dX7_many_122 : decode cX7_many 122 = .ok (.istore_n 3, 1) := dk_62 (dk_at dksX7_many_5 9 rfl rfl)
theorem dX7_many_123 : decode cX7_many 123 = .ok (.iinc 4 1, 3) := dk_132 4 1 (dk_at dksX7_many_5 10 rfl rfl)
theorem dX7_many_126 : decode cX7_many 126 = .ok (.goto (-106), 3) := dk_167 255 150 (dk_at dksX7_many_5 13 rfl rfl)
theorem dX7_many_129 : decode cX7_many 129 = .ok (.iload_n 3, 1) := dk_29 (dk_at dksX7_many_5 16 rfl rfl)
theorem dX7_many_130 : decode cX7_many 130 = .ok (.ireturn, 1) := dk_172 (dk_at dksX7_many_5 17 rfl rfl)
abbrev cX7_base : ByteArray := prog_14_method_67_code
def yX7_base : MethodName := ⟨RX7, "base", "()I"⟩
def dkwX7_base_2 : List UInt8 := [4, 28, 120, 2, 130, 126, 167, 0, 4, 27, 60, 132, 2, 255, 167, 255, 211, 27, 172]
abbrev dktX7_base_2 : List UInt8 := dkwX7_base_2 ++ []
def dkwX7_base_1 : List UInt8 := [28, 120, 2, 130, 126, 42, 180, 0, 38, 28, 46, 42, 180, 0, 41, 28, 46, 182, 1, 76, 153, 0, 13, 27]
abbrev dktX7_base_1 : List UInt8 := dkwX7_base_1 ++ dktX7_base_2
def dkwX7_base_0 : List UInt8 := [42, 3, 181, 0, 103, 42, 182, 1, 73, 60, 42, 180, 1, 31, 4, 100, 61, 28, 155, 0, 47, 42, 27, 4]
abbrev dktX7_base_0 : List UInt8 := dkwX7_base_0 ++ dktX7_base_1
theorem dksX7_base_0 : cX7_base.data.toList.drop 0 = dktX7_base_0 := by decide +kernel
theorem dksX7_base_1 : cX7_base.data.toList.drop 24 = dktX7_base_1 := dk_seg dksX7_base_0 24 rfl rfl
theorem dksX7_base_2 : cX7_base.data.toList.drop 48 = dktX7_base_2 := dk_seg dksX7_base_1 24 rfl rfl
theorem dX7_base_0 : decode cX7_base 0 = .ok (.aload_n 0, 1) := dk_42 (dk_at dksX7_base_0 0 rfl rfl)
theorem dX7_base_1 : decode cX7_base 1 = .ok (.iconst 0, 1) := dk_3 (dk_at dksX7_base_0 1 rfl rfl)
theorem dX7_base_2 : decode cX7_base 2 = .ok (.putfield 103, 3) := dk_181 0 103 (dk_at dksX7_base_0 2 rfl rfl)
theorem dX7_base_5 : decode cX7_base 5 = .ok (.aload_n 0, 1) := dk_42 (dk_at dksX7_base_0 5 rfl rfl)
theorem dX7_base_6 : decode cX7_base 6 = .ok (.invokevirtual 329, 3) := dk_182 1 73 (dk_at dksX7_base_0 6 rfl rfl)
theorem dX7_base_9 : decode cX7_base 9 = .ok (.istore_n 1, 1) := dk_60 (dk_at dksX7_base_0 9 rfl rfl)
theorem dX7_base_10 : decode cX7_base 10 = .ok (.aload_n 0, 1) := dk_42 (dk_at dksX7_base_0 10 rfl rfl)
theorem dX7_base_11 : decode cX7_base 11 = .ok (.getfield 287, 3) := dk_180 1 31 (dk_at dksX7_base_0 11 rfl rfl)
theorem dX7_base_14 : decode cX7_base 14 = .ok (.iconst 1, 1) := dk_4 (dk_at dksX7_base_0 14 rfl rfl)
theorem dX7_base_15 : decode cX7_base 15 = .ok (.isub, 1) := dk_100 (dk_at dksX7_base_0 15 rfl rfl)
theorem dX7_base_16 : decode cX7_base 16 = .ok (.istore_n 2, 1) := dk_61 (dk_at dksX7_base_0 16 rfl rfl)
theorem dX7_base_17 : decode cX7_base 17 = .ok (.iload_n 2, 1) := dk_28 (dk_at dksX7_base_0 17 rfl rfl)
theorem dX7_base_18 : decode cX7_base 18 = .ok (.ifCond .lt 47, 3) := dk_155 0 47 (dk_at dksX7_base_0 18 rfl rfl)
theorem dX7_base_21 : decode cX7_base 21 = .ok (.aload_n 0, 1) := dk_42 (dk_at dksX7_base_0 21 rfl rfl)
theorem dX7_base_22 : decode cX7_base 22 = .ok (.iload_n 1, 1) := dk_27 (dk_at dksX7_base_0 22 rfl rfl)
theorem dX7_base_23 : decode cX7_base 23 = .ok (.iconst 1, 1) := dk_4 (dk_at dksX7_base_0 23 rfl rfl)
theorem dX7_base_24 : decode cX7_base 24 = .ok (.iload_n 2, 1) := dk_28 (dk_at dksX7_base_1 0 rfl rfl)
theorem dX7_base_25 : decode cX7_base 25 = .ok (.ishl, 1) := dk_120 (dk_at dksX7_base_1 1 rfl rfl)
theorem dX7_base_26 : decode cX7_base 26 = .ok (.iconst (-1), 1) := dk_2 (dk_at dksX7_base_1 2 rfl rfl)
theorem dX7_base_27 : decode cX7_base 27 = .ok (.ixor, 1) := dk_130 (dk_at dksX7_base_1 3 rfl rfl)
theorem dX7_base_28 : decode cX7_base 28 = .ok (.iand, 1) := dk_126 (dk_at dksX7_base_1 4 rfl rfl)
theorem dX7_base_29 : decode cX7_base 29 = .ok (.aload_n 0, 1) := dk_42 (dk_at dksX7_base_1 5 rfl rfl)
theorem dX7_base_30 : decode cX7_base 30 = .ok (.getfield 38, 3) := dk_180 0 38 (dk_at dksX7_base_1 6 rfl rfl)
theorem dX7_base_33 : decode cX7_base 33 = .ok (.iload_n 2, 1) := dk_28 (dk_at dksX7_base_1 9 rfl rfl)
theorem dX7_base_34 : decode cX7_base 34 = .ok (.iaload, 1) := dk_46 (dk_at dksX7_base_1 10 rfl rfl)
theorem dX7_base_35 : decode cX7_base 35 = .ok (.aload_n 0, 1) := dk_42 (dk_at dksX7_base_1 11 rfl rfl)
theorem dX7_base_36 : decode cX7_base 36 = .ok (.getfield 41, 3) := dk_180 0 41 (dk_at dksX7_base_1 12 rfl rfl)
theorem dX7_base_39 : decode cX7_base 39 = .ok (.iload_n 2, 1) := dk_28 (dk_at dksX7_base_1 15 rfl rfl)
theorem dX7_base_40 : decode cX7_base 40 = .ok (.iaload, 1) := dk_46 (dk_at dksX7_base_1 16 rfl rfl)
theorem dX7_base_41 : decode cX7_base 41 = .ok (.invokevirtual 332, 3) := dk_182 1 76 (dk_at dksX7_base_1 17 rfl rfl)
theorem dX7_base_44 : decode cX7_base 44 = .ok (.ifCond .eq 13, 3) := dk_153 0 13 (dk_at dksX7_base_1 20 rfl rfl)
theorem dX7_base_47 : decode cX7_base 47 = .ok (.iload_n 1, 1) := dk_27 (dk_at dksX7_base_1 23 rfl rfl)
theorem dX7_base_48 : decode cX7_base 48 = .ok (.iconst 1, 1) := dk_4 (dk_at dksX7_base_2 0 rfl rfl)
theorem dX7_base_49 : decode cX7_base 49 = .ok (.iload_n 2, 1) := dk_28 (dk_at dksX7_base_2 1 rfl rfl)
theorem dX7_base_50 : decode cX7_base 50 = .ok (.ishl, 1) := dk_120 (dk_at dksX7_base_2 2 rfl rfl)
theorem dX7_base_51 : decode cX7_base 51 = .ok (.iconst (-1), 1) := dk_2 (dk_at dksX7_base_2 3 rfl rfl)
theorem dX7_base_52 : decode cX7_base 52 = .ok (.ixor, 1) := dk_130 (dk_at dksX7_base_2 4 rfl rfl)
theorem dX7_base_53 : decode cX7_base 53 = .ok (.iand, 1) := dk_126 (dk_at dksX7_base_2 5 rfl rfl)
theorem dX7_base_54 : decode cX7_base 54 = .ok (.goto 4, 3) := dk_167 0 4 (dk_at dksX7_base_2 6 rfl rfl)
theorem dX7_base_57 : decode cX7_base 57 = .ok (.iload_n 1, 1) := dk_27 (dk_at dksX7_base_2 9 rfl rfl)
theorem dX7_base_58 : decode cX7_base 58 = .ok (.istore_n 1, 1) := dk_60 (dk_at dksX7_base_2 10 rfl rfl)
theorem dX7_base_59 : decode cX7_base 59 = .ok (.iinc 2 (-1), 3) := dk_132 2 255 (dk_at dksX7_base_2 11 rfl rfl)
theorem dX7_base_62 : decode cX7_base 62 = .ok (.goto (-45), 3) := dk_167 255 211 (dk_at dksX7_base_2 14 rfl rfl)
theorem dX7_base_65 : decode cX7_base 65 = .ok (.iload_n 1, 1) := dk_27 (dk_at dksX7_base_2 17 rfl rfl)
theorem dX7_base_66 : decode cX7_base 66 = .ok (.ireturn, 1) := dk_172 (dk_at dksX7_base_2 18 rfl rfl)
abbrev cX7_proves : ByteArray := prog_14_method_68_code
def yX7_proves : MethodName := ⟨RX7, "proves", "(III)I"⟩
def dkwX7_proves_3 : List UInt8 := [167, 0, 4, 3, 172]
abbrev dktX7_proves_3 : List UInt8 := dkwX7_proves_3 ++ []
def dkwX7_proves_2 : List UInt8 := [167, 0, 4, 5, 182, 0, 223, 153, 0, 5, 2, 172, 42, 27, 28, 29, 182, 1, 76, 153, 0, 7, 4]
abbrev dktX7_proves_2 : List UInt8 := dkwX7_proves_2 ++ dktX7_proves_3
def dkwX7_proves_1 : List UInt8 := [21, 4, 154, 0, 7, 4, 167, 0, 20, 27, 3, 42, 182, 1, 73, 184, 0, 132, 153, 0, 7, 3]
abbrev dktX7_proves_1 : List UInt8 := dkwX7_proves_1 ++ dktX7_proves_2
def dkwX7_proves_0 : List UInt8 := [42, 28, 182, 1, 61, 153, 0, 15, 42, 29, 182, 1, 61, 153, 0, 7, 4, 167, 0, 4, 3, 54, 4, 42]
abbrev dktX7_proves_0 : List UInt8 := dkwX7_proves_0 ++ dktX7_proves_1
theorem dksX7_proves_0 : cX7_proves.data.toList.drop 0 = dktX7_proves_0 := by decide +kernel
theorem dksX7_proves_1 : cX7_proves.data.toList.drop 24 = dktX7_proves_1 := dk_seg dksX7_proves_0 24 rfl rfl
theorem dksX7_proves_2 : cX7_proves.data.toList.drop 46 = dktX7_proves_2 := dk_seg dksX7_proves_1 22 rfl rfl
theorem dksX7_proves_3 : cX7_proves.data.toList.drop 69 = dktX7_proves_3 := dk_seg dksX7_proves_2 23 rfl rfl
theorem dX7_proves_0 : decode cX7_proves 0 = .ok (.aload_n 0, 1) := dk_42 (dk_at dksX7_proves_0 0 rfl rfl)
theorem dX7_proves_1 : decode cX7_proves 1 = .ok (.iload_n 2, 1) := dk_28 (dk_at dksX7_proves_0 1 rfl rfl)
theorem dX7_proves_2 : decode cX7_proves 2 = .ok (.invokevirtual 317, 3) := dk_182 1 61 (dk_at dksX7_proves_0 2 rfl rfl)
theorem dX7_proves_5 : decode cX7_proves 5 = .ok (.ifCond .eq 15, 3) := dk_153 0 15 (dk_at dksX7_proves_0 5 rfl rfl)
theorem dX7_proves_8 : decode cX7_proves 8 = .ok (.aload_n 0, 1) := dk_42 (dk_at dksX7_proves_0 8 rfl rfl)
theorem dX7_proves_9 : decode cX7_proves 9 = .ok (.iload_n 3, 1) := dk_29 (dk_at dksX7_proves_0 9 rfl rfl)
theorem dX7_proves_10 : decode cX7_proves 10 = .ok (.invokevirtual 317, 3) := dk_182 1 61 (dk_at dksX7_proves_0 10 rfl rfl)
theorem dX7_proves_13 : decode cX7_proves 13 = .ok (.ifCond .eq 7, 3) := dk_153 0 7 (dk_at dksX7_proves_0 13 rfl rfl)
theorem dX7_proves_16 : decode cX7_proves 16 = .ok (.iconst 1, 1) := dk_4 (dk_at dksX7_proves_0 16 rfl rfl)
theorem dX7_proves_17 : decode cX7_proves 17 = .ok (.goto 4, 3) := dk_167 0 4 (dk_at dksX7_proves_0 17 rfl rfl)
theorem dX7_proves_20 : decode cX7_proves 20 = .ok (.iconst 0, 1) := dk_3 (dk_at dksX7_proves_0 20 rfl rfl)
theorem dX7_proves_21 : decode cX7_proves 21 = .ok (.istore 4, 2) := dk_54 4 (dk_at dksX7_proves_0 21 rfl rfl)
theorem dX7_proves_23 : decode cX7_proves 23 = .ok (.aload_n 0, 1) := dk_42 (dk_at dksX7_proves_0 23 rfl rfl)
theorem dX7_proves_24 : decode cX7_proves 24 = .ok (.iload 4, 2) := dk_21 4 (dk_at dksX7_proves_1 0 rfl rfl)
theorem dX7_proves_26 : decode cX7_proves 26 = .ok (.ifCond .ne 7, 3) := dk_154 0 7 (dk_at dksX7_proves_1 2 rfl rfl)
theorem dX7_proves_29 : decode cX7_proves 29 = .ok (.iconst 1, 1) := dk_4 (dk_at dksX7_proves_1 5 rfl rfl)
theorem dX7_proves_30 : decode cX7_proves 30 = .ok (.goto 20, 3) := dk_167 0 20 (dk_at dksX7_proves_1 6 rfl rfl)
theorem dX7_proves_33 : decode cX7_proves 33 = .ok (.iload_n 1, 1) := dk_27 (dk_at dksX7_proves_1 9 rfl rfl)
theorem dX7_proves_34 : decode cX7_proves 34 = .ok (.iconst 0, 1) := dk_3 (dk_at dksX7_proves_1 10 rfl rfl)
theorem dX7_proves_35 : decode cX7_proves 35 = .ok (.aload_n 0, 1) := dk_42 (dk_at dksX7_proves_1 11 rfl rfl)
theorem dX7_proves_36 : decode cX7_proves 36 = .ok (.invokevirtual 329, 3) := dk_182 1 73 (dk_at dksX7_proves_1 12 rfl rfl)
theorem dX7_proves_39 : decode cX7_proves 39 = .ok (.invokestatic 132, 3) := dk_184 0 132 (dk_at dksX7_proves_1 15 rfl rfl)
theorem dX7_proves_42 : decode cX7_proves 42 = .ok (.ifCond .eq 7, 3) := dk_153 0 7 (dk_at dksX7_proves_1 18 rfl rfl)
theorem dX7_proves_45 : decode cX7_proves 45 = .ok (.iconst 0, 1) := dk_3 (dk_at dksX7_proves_1 21 rfl rfl)
theorem dX7_proves_46 : decode cX7_proves 46 = .ok (.goto 4, 3) := dk_167 0 4 (dk_at dksX7_proves_2 0 rfl rfl)
theorem dX7_proves_49 : decode cX7_proves 49 = .ok (.iconst 2, 1) := dk_5 (dk_at dksX7_proves_2 3 rfl rfl)
theorem dX7_proves_50 : decode cX7_proves 50 = .ok (.invokevirtual 223, 3) := dk_182 0 223 (dk_at dksX7_proves_2 4 rfl rfl)
theorem dX7_proves_53 : decode cX7_proves 53 = .ok (.ifCond .eq 5, 3) := dk_153 0 5 (dk_at dksX7_proves_2 7 rfl rfl)
theorem dX7_proves_56 : decode cX7_proves 56 = .ok (.iconst (-1), 1) := dk_2 (dk_at dksX7_proves_2 10 rfl rfl)
theorem dX7_proves_57 : decode cX7_proves 57 = .ok (.ireturn, 1) := dk_172 (dk_at dksX7_proves_2 11 rfl rfl)
theorem dX7_proves_58 : decode cX7_proves 58 = .ok (.aload_n 0, 1) := dk_42 (dk_at dksX7_proves_2 12 rfl rfl)
theorem dX7_proves_59 : decode cX7_proves 59 = .ok (.iload_n 1, 1) := dk_27 (dk_at dksX7_proves_2 13 rfl rfl)
theorem dX7_proves_60 : decode cX7_proves 60 = .ok (.iload_n 2, 1) := dk_28 (dk_at dksX7_proves_2 14 rfl rfl)
theorem dX7_proves_61 : decode cX7_proves 61 = .ok (.iload_n 3, 1) := dk_29 (dk_at dksX7_proves_2 15 rfl rfl)
theorem dX7_proves_62 : decode cX7_proves 62 = .ok (.invokevirtual 332, 3) := dk_182 1 76 (dk_at dksX7_proves_2 16 rfl rfl)
theorem dX7_proves_65 : decode cX7_proves 65 = .ok (.ifCond .eq 7, 3) := dk_153 0 7 (dk_at dksX7_proves_2 19 rfl rfl)
theorem dX7_proves_68 : decode cX7_proves 68 = .ok (.iconst 1, 1) := dk_4 (dk_at dksX7_proves_2 22 rfl rfl)
theorem dX7_proves_69 : decode cX7_proves 69 = .ok (.goto 4, 3) := dk_167 0 4 (dk_at dksX7_proves_3 0 rfl rfl)
theorem dX7_proves_72 : decode cX7_proves 72 = .ok (.iconst 0, 1) := dk_3 (dk_at dksX7_proves_3 3 rfl rfl)
theorem dX7_proves_73 : decode cX7_proves 73 = .ok (.ireturn, 1) := dk_172 (dk_at dksX7_proves_3 4 rfl rfl)
abbrev cX7_since : ByteArray := prog_14_method_69_code
def yX7_since : MethodName := ⟨RX7, "since", "(II)I"⟩
def dkwX7_since_1 : List UInt8 := [28, 182, 1, 76, 154, 0, 9, 132, 3, 1, 167, 255, 239, 29, 172]
abbrev dktX7_since_1 : List UInt8 := dkwX7_since_1 ++ []
def dkwX7_since_0 : List UInt8 := [42, 42, 27, 28, 182, 1, 79, 182, 0, 223, 153, 0, 5, 2, 172, 3, 62, 42, 4, 29, 120, 4, 100, 27]
abbrev dktX7_since_0 : List UInt8 := dkwX7_since_0 ++ dktX7_since_1
theorem dksX7_since_0 : cX7_since.data.toList.drop 0 = dktX7_since_0 := by decide +kernel
theorem dksX7_since_1 : cX7_since.data.toList.drop 24 = dktX7_since_1 := dk_seg dksX7_since_0 24 rfl rfl
theorem dX7_since_0 : decode cX7_since 0 = .ok (.aload_n 0, 1) := dk_42 (dk_at dksX7_since_0 0 rfl rfl)
theorem dX7_since_1 : decode cX7_since 1 = .ok (.aload_n 0, 1) := dk_42 (dk_at dksX7_since_0 1 rfl rfl)
theorem dX7_since_2 : decode cX7_since 2 = .ok (.iload_n 1, 1) := dk_27 (dk_at dksX7_since_0 2 rfl rfl)
theorem dX7_since_3 : decode cX7_since 3 = .ok (.iload_n 2, 1) := dk_28 (dk_at dksX7_since_0 3 rfl rfl)
theorem dX7_since_4 : decode cX7_since 4 = .ok (.invokevirtual 335, 3) := dk_182 1 79 (dk_at dksX7_since_0 4 rfl rfl)
theorem dX7_since_7 : decode cX7_since 7 = .ok (.invokevirtual 223, 3) := dk_182 0 223 (dk_at dksX7_since_0 7 rfl rfl)
theorem dX7_since_10 : decode cX7_since 10 = .ok (.ifCond .eq 5, 3) := dk_153 0 5 (dk_at dksX7_since_0 10 rfl rfl)
theorem dX7_since_13 : decode cX7_since 13 = .ok (.iconst (-1), 1) := dk_2 (dk_at dksX7_since_0 13 rfl rfl)
theorem dX7_since_14 : decode cX7_since 14 = .ok (.ireturn, 1) := dk_172 (dk_at dksX7_since_0 14 rfl rfl)
theorem dX7_since_15 : decode cX7_since 15 = .ok (.iconst 0, 1) := dk_3 (dk_at dksX7_since_0 15 rfl rfl)
theorem dX7_since_16 : decode cX7_since 16 = .ok (.istore_n 3, 1) := dk_62 (dk_at dksX7_since_0 16 rfl rfl)
theorem dX7_since_17 : decode cX7_since 17 = .ok (.aload_n 0, 1) := dk_42 (dk_at dksX7_since_0 17 rfl rfl)
theorem dX7_since_18 : decode cX7_since 18 = .ok (.iconst 1, 1) := dk_4 (dk_at dksX7_since_0 18 rfl rfl)
theorem dX7_since_19 : decode cX7_since 19 = .ok (.iload_n 3, 1) := dk_29 (dk_at dksX7_since_0 19 rfl rfl)
theorem dX7_since_20 : decode cX7_since 20 = .ok (.ishl, 1) := dk_120 (dk_at dksX7_since_0 20 rfl rfl)
theorem dX7_since_21 : decode cX7_since 21 = .ok (.iconst 1, 1) := dk_4 (dk_at dksX7_since_0 21 rfl rfl)
theorem dX7_since_22 : decode cX7_since 22 = .ok (.isub, 1) := dk_100 (dk_at dksX7_since_0 22 rfl rfl)
theorem dX7_since_23 : decode cX7_since 23 = .ok (.iload_n 1, 1) := dk_27 (dk_at dksX7_since_0 23 rfl rfl)
theorem dX7_since_24 : decode cX7_since 24 = .ok (.iload_n 2, 1) := dk_28 (dk_at dksX7_since_1 0 rfl rfl)
theorem dX7_since_25 : decode cX7_since 25 = .ok (.invokevirtual 332, 3) := dk_182 1 76 (dk_at dksX7_since_1 1 rfl rfl)
theorem dX7_since_28 : decode cX7_since 28 = .ok (.ifCond .ne 9, 3) := dk_154 0 9 (dk_at dksX7_since_1 4 rfl rfl)
theorem dX7_since_31 : decode cX7_since 31 = .ok (.iinc 3 1, 3) := dk_132 3 1 (dk_at dksX7_since_1 7 rfl rfl)
theorem dX7_since_34 : decode cX7_since 34 = .ok (.goto (-17), 3) := dk_167 255 239 (dk_at dksX7_since_1 10 rfl rfl)
theorem dX7_since_37 : decode cX7_since 37 = .ok (.iload_n 3, 1) := dk_29 (dk_at dksX7_since_1 13 rfl rfl)
theorem dX7_since_38 : decode cX7_since 38 = .ok (.ireturn, 1) := dk_172 (dk_at dksX7_since_1 14 rfl rfl)
abbrev cX7_level : ByteArray := prog_14_method_70_code
def yX7_level : MethodName := ⟨RX7, "level", "(II)I"⟩
def dkwX7_level_8 : List UInt8 := [167, 255, 196, 132, 3, 1, 167, 255, 140, 29, 172]
abbrev dktX7_level_8 : List UInt8 := dkwX7_level_8 ++ []
def dkwX7_level_7 : List UInt8 := [153, 0, 15, 42, 42, 180, 0, 81, 21, 4, 21, 5, 182, 1, 13, 132, 5, 1, 167, 255, 217, 132, 4, 1]
abbrev dktX7_level_7 : List UInt8 := dkwX7_level_7 ++ dktX7_level_8
def dkwX7_level_6 : List UInt8 := [54, 5, 21, 5, 42, 180, 0, 250, 162, 0, 36, 42, 42, 180, 0, 84, 21, 4, 21, 5, 182, 1, 17]
abbrev dktX7_level_6 : List UInt8 := dkwX7_level_6 ++ dktX7_level_7
def dkwX7_level_5 : List UInt8 := [79, 132, 4, 1, 167, 255, 230, 3, 54, 4, 21, 4, 42, 180, 0, 250, 162, 0, 57, 21, 4, 4, 96]
abbrev dktX7_level_5 : List UInt8 := dkwX7_level_5 ++ dktX7_level_6
def dkwX7_level_4 : List UInt8 := [54, 4, 21, 4, 42, 180, 0, 250, 162, 0, 23, 42, 180, 0, 84, 21, 4, 42, 180, 0, 81, 21, 4, 46]
abbrev dktX7_level_4 : List UInt8 := dkwX7_level_4 ++ dktX7_level_5
def dkwX7_level_3 : List UInt8 := [132, 3, 1, 167, 255, 225, 3, 62, 42, 180, 0, 81, 27, 46, 42, 180, 0, 81, 28, 46, 159, 0, 107, 3]
abbrev dktX7_level_3 : List UInt8 := dkwX7_level_3 ++ dktX7_level_4
def dkwX7_level_2 : List UInt8 := [162, 0, 29, 42, 42, 180, 0, 81, 42, 180, 0, 38, 29, 46, 42, 180, 0, 41, 29, 46, 182, 1, 13]
abbrev dktX7_level_2 : List UInt8 := dkwX7_level_2 ++ dktX7_level_3
def dkwX7_level_1 : List UInt8 := [162, 0, 16, 42, 180, 0, 81, 29, 29, 79, 132, 3, 1, 167, 255, 238, 3, 62, 29, 42, 180, 1, 31]
abbrev dktX7_level_1 : List UInt8 := dkwX7_level_1 ++ dktX7_level_2
def dkwX7_level_0 : List UInt8 := [42, 42, 27, 28, 182, 1, 79, 182, 0, 223, 153, 0, 5, 2, 172, 3, 62, 29, 42, 180, 0, 250]
abbrev dktX7_level_0 : List UInt8 := dkwX7_level_0 ++ dktX7_level_1
theorem dksX7_level_0 : cX7_level.data.toList.drop 0 = dktX7_level_0 := by decide +kernel
theorem dksX7_level_1 : cX7_level.data.toList.drop 22 = dktX7_level_1 := dk_seg dksX7_level_0 22 rfl rfl
theorem dksX7_level_2 : cX7_level.data.toList.drop 45 = dktX7_level_2 := dk_seg dksX7_level_1 23 rfl rfl
theorem dksX7_level_3 : cX7_level.data.toList.drop 68 = dktX7_level_3 := dk_seg dksX7_level_2 23 rfl rfl
theorem dksX7_level_4 : cX7_level.data.toList.drop 92 = dktX7_level_4 := dk_seg dksX7_level_3 24 rfl rfl
theorem dksX7_level_5 : cX7_level.data.toList.drop 116 = dktX7_level_5 := dk_seg dksX7_level_4 24 rfl rfl
theorem dksX7_level_6 : cX7_level.data.toList.drop 139 = dktX7_level_6 := dk_seg dksX7_level_5 23 rfl rfl
theorem dksX7_level_7 : cX7_level.data.toList.drop 162 = dktX7_level_7 := dk_seg dksX7_level_6 23 rfl rfl
theorem dksX7_level_8 : cX7_level.data.toList.drop 186 = dktX7_level_8 := dk_seg dksX7_level_7 24 rfl rfl
theorem dX7_level_0 : decode cX7_level 0 = .ok (.aload_n 0, 1) := dk_42 (dk_at dksX7_level_0 0 rfl rfl)
theorem dX7_level_1 : decode cX7_level 1 = .ok (.aload_n 0, 1) := dk_42 (dk_at dksX7_level_0 1 rfl rfl)
theorem dX7_level_2 : decode cX7_level 2 = .ok (.iload_n 1, 1) := dk_27 (dk_at dksX7_level_0 2 rfl rfl)
theorem dX7_level_3 : decode cX7_level 3 = .ok (.iload_n 2, 1) := dk_28 (dk_at dksX7_level_0 3 rfl rfl)
theorem dX7_level_4 : decode cX7_level 4 = .ok (.invokevirtual 335, 3) := dk_182 1 79 (dk_at dksX7_level_0 4 rfl rfl)
theorem dX7_level_7 : decode cX7_level 7 = .ok (.invokevirtual 223, 3) := dk_182 0 223 (dk_at dksX7_level_0 7 rfl rfl)
theorem dX7_level_10 : decode cX7_level 10 = .ok (.ifCond .eq 5, 3) := dk_153 0 5 (dk_at dksX7_level_0 10 rfl rfl)
theorem dX7_level_13 : decode cX7_level 13 = .ok (.iconst (-1), 1) := dk_2 (dk_at dksX7_level_0 13 rfl rfl)
theorem dX7_level_14 : decode cX7_level 14 = .ok (.ireturn, 1) := dk_172 (dk_at dksX7_level_0 14 rfl rfl)
theorem dX7_level_15 : decode cX7_level 15 = .ok (.iconst 0, 1) := dk_3 (dk_at dksX7_level_0 15 rfl rfl)
theorem dX7_level_16 : decode cX7_level 16 = .ok (.istore_n 3, 1) := dk_62 (dk_at dksX7_level_0 16 rfl rfl)
theorem dX7_level_17 : decode cX7_level 17 = .ok (.iload_n 3, 1) := dk_29 (dk_at dksX7_level_0 17 rfl rfl)
theorem dX7_level_18 : decode cX7_level 18 = .ok (.aload_n 0, 1) := dk_42 (dk_at dksX7_level_0 18 rfl rfl)
theorem dX7_level_19 : decode cX7_level 19 = .ok (.getfield 250, 3) := dk_180 0 250 (dk_at dksX7_level_0 19 rfl rfl)
theorem dX7_level_22 : decode cX7_level 22 = .ok (.if_icmp .ge 16, 3) := dk_162 0 16 (dk_at dksX7_level_1 0 rfl rfl)
theorem dX7_level_25 : decode cX7_level 25 = .ok (.aload_n 0, 1) := dk_42 (dk_at dksX7_level_1 3 rfl rfl)
theorem dX7_level_26 : decode cX7_level 26 = .ok (.getfield 81, 3) := dk_180 0 81 (dk_at dksX7_level_1 4 rfl rfl)
theorem dX7_level_29 : decode cX7_level 29 = .ok (.iload_n 3, 1) := dk_29 (dk_at dksX7_level_1 7 rfl rfl)
theorem dX7_level_30 : decode cX7_level 30 = .ok (.iload_n 3, 1) := dk_29 (dk_at dksX7_level_1 8 rfl rfl)
theorem dX7_level_31 : decode cX7_level 31 = .ok (.iastore, 1) := dk_79 (dk_at dksX7_level_1 9 rfl rfl)
theorem dX7_level_32 : decode cX7_level 32 = .ok (.iinc 3 1, 3) := dk_132 3 1 (dk_at dksX7_level_1 10 rfl rfl)
theorem dX7_level_35 : decode cX7_level 35 = .ok (.goto (-18), 3) := dk_167 255 238 (dk_at dksX7_level_1 13 rfl rfl)
theorem dX7_level_38 : decode cX7_level 38 = .ok (.iconst 0, 1) := dk_3 (dk_at dksX7_level_1 16 rfl rfl)
theorem dX7_level_39 : decode cX7_level 39 = .ok (.istore_n 3, 1) := dk_62 (dk_at dksX7_level_1 17 rfl rfl)
theorem dX7_level_40 : decode cX7_level 40 = .ok (.iload_n 3, 1) := dk_29 (dk_at dksX7_level_1 18 rfl rfl)
theorem dX7_level_41 : decode cX7_level 41 = .ok (.aload_n 0, 1) := dk_42 (dk_at dksX7_level_1 19 rfl rfl)
theorem dX7_level_42 : decode cX7_level 42 = .ok (.getfield 287, 3) := dk_180 1 31 (dk_at dksX7_level_1 20 rfl rfl)
theorem dX7_level_45 : decode cX7_level 45 = .ok (.if_icmp .ge 29, 3) := dk_162 0 29 (dk_at dksX7_level_2 0 rfl rfl)
theorem dX7_level_48 : decode cX7_level 48 = .ok (.aload_n 0, 1) := dk_42 (dk_at dksX7_level_2 3 rfl rfl)
theorem dX7_level_49 : decode cX7_level 49 = .ok (.aload_n 0, 1) := dk_42 (dk_at dksX7_level_2 4 rfl rfl)
theorem dX7_level_50 : decode cX7_level 50 = .ok (.getfield 81, 3) := dk_180 0 81 (dk_at dksX7_level_2 5 rfl rfl)
theorem dX7_level_53 : decode cX7_level 53 = .ok (.aload_n 0, 1) := dk_42 (dk_at dksX7_level_2 8 rfl rfl)
theorem dX7_level_54 : decode cX7_level 54 = .ok (.getfield 38, 3) := dk_180 0 38 (dk_at dksX7_level_2 9 rfl rfl)
theorem dX7_level_57 : decode cX7_level 57 = .ok (.iload_n 3, 1) := dk_29 (dk_at dksX7_level_2 12 rfl rfl)
theorem dX7_level_58 : decode cX7_level 58 = .ok (.iaload, 1) := dk_46 (dk_at dksX7_level_2 13 rfl rfl)
theorem dX7_level_59 : decode cX7_level 59 = .ok (.aload_n 0, 1) := dk_42 (dk_at dksX7_level_2 14 rfl rfl)
theorem dX7_level_60 : decode cX7_level 60 = .ok (.getfield 41, 3) := dk_180 0 41 (dk_at dksX7_level_2 15 rfl rfl)
theorem dX7_level_63 : decode cX7_level 63 = .ok (.iload_n 3, 1) := dk_29 (dk_at dksX7_level_2 18 rfl rfl)
theorem dX7_level_64 : decode cX7_level 64 = .ok (.iaload, 1) := dk_46 (dk_at dksX7_level_2 19 rfl rfl)
theorem dX7_level_65 : decode cX7_level 65 = .ok (.invokevirtual 269, 3) := dk_182 1 13 (dk_at dksX7_level_2 20 rfl rfl)
theorem dX7_level_68 : decode cX7_level 68 = .ok (.iinc 3 1, 3) := dk_132 3 1 (dk_at dksX7_level_3 0 rfl rfl)
theorem dX7_level_71 : decode cX7_level 71 = .ok (.goto (-31), 3) := dk_167 255 225 (dk_at dksX7_level_3 3 rfl rfl)
theorem dX7_level_74 : decode cX7_level 74 = .ok (.iconst 0, 1) := dk_3 (dk_at dksX7_level_3 6 rfl rfl)
theorem dX7_level_75 : decode cX7_level 75 = .ok (.istore_n 3, 1) := dk_62 (dk_at dksX7_level_3 7 rfl rfl)
theorem dX7_level_76 : decode cX7_level 76 = .ok (.aload_n 0, 1) := dk_42 (dk_at dksX7_level_3 8 rfl rfl)
theorem dX7_level_77 : decode cX7_level 77 = .ok (.getfield 81, 3) := dk_180 0 81 (dk_at dksX7_level_3 9 rfl rfl)
theorem dX7_level_80 : decode cX7_level 80 = .ok (.iload_n 1, 1) := dk_27 (dk_at dksX7_level_3 12 rfl rfl)
theorem dX7_level_81 : decode cX7_level 81 = .ok (.iaload, 1) := dk_46 (dk_at dksX7_level_3 13 rfl rfl)
theorem dX7_level_82 : decode cX7_level 82 = .ok (.aload_n 0, 1) := dk_42 (dk_at dksX7_level_3 14 rfl rfl)
theorem dX7_level_83 : decode cX7_level 83 = .ok (.getfield 81, 3) := dk_180 0 81 (dk_at dksX7_level_3 15 rfl rfl)
theorem dX7_level_86 : decode cX7_level 86 = .ok (.iload_n 2, 1) := dk_28 (dk_at dksX7_level_3 18 rfl rfl)
theorem dX7_level_87 : decode cX7_level 87 = .ok (.iaload, 1) := dk_46 (dk_at dksX7_level_3 19 rfl rfl)
theorem dX7_level_88 : decode cX7_level 88 = .ok (.if_icmp .eq 107, 3) := dk_159 0 107 (dk_at dksX7_level_3 20 rfl rfl)
theorem dX7_level_91 : decode cX7_level 91 = .ok (.iconst 0, 1) := dk_3 (dk_at dksX7_level_3 23 rfl rfl)
theorem dX7_level_92 : decode cX7_level 92 = .ok (.istore 4, 2) := dk_54 4 (dk_at dksX7_level_4 0 rfl rfl)
theorem dX7_level_94 : decode cX7_level 94 = .ok (.iload 4, 2) := dk_21 4 (dk_at dksX7_level_4 2 rfl rfl)
theorem dX7_level_96 : decode cX7_level 96 = .ok (.aload_n 0, 1) := dk_42 (dk_at dksX7_level_4 4 rfl rfl)
theorem dX7_level_97 : decode cX7_level 97 = .ok (.getfield 250, 3) := dk_180 0 250 (dk_at dksX7_level_4 5 rfl rfl)
theorem dX7_level_100 : decode cX7_level 100 = .ok (.if_icmp .ge 23, 3) := dk_162 0 23 (dk_at dksX7_level_4 8 rfl rfl)
theorem dX7_level_103 : decode cX7_level 103 = .ok (.aload_n 0, 1) := dk_42 (dk_at dksX7_level_4 11 rfl rfl)
theorem dX7_level_104 : decode cX7_level 104 = .ok (.getfield 84, 3) := dk_180 0 84 (dk_at dksX7_level_4 12 rfl rfl)
theorem dX7_level_107 : decode cX7_level 107 = .ok (.iload 4, 2) := dk_21 4 (dk_at dksX7_level_4 15 rfl rfl)
theorem dX7_level_109 : decode cX7_level 109 = .ok (.aload_n 0, 1) := dk_42 (dk_at dksX7_level_4 17 rfl rfl)
theorem dX7_level_110 : decode cX7_level 110 = .ok (.getfield 81, 3) := dk_180 0 81 (dk_at dksX7_level_4 18 rfl rfl)
theorem dX7_level_113 : decode cX7_level 113 = .ok (.iload 4, 2) := dk_21 4 (dk_at dksX7_level_4 21 rfl rfl)
theorem dX7_level_115 : decode cX7_level 115 = .ok (.iaload, 1) := dk_46 (dk_at dksX7_level_4 23 rfl rfl)
theorem dX7_level_116 : decode cX7_level 116 = .ok (.iastore, 1) := dk_79 (dk_at dksX7_level_5 0 rfl rfl)
theorem dX7_level_117 : decode cX7_level 117 = .ok (.iinc 4 1, 3) := dk_132 4 1 (dk_at dksX7_level_5 1 rfl rfl)
theorem dX7_level_120 : decode cX7_level 120 = .ok (.goto (-26), 3) := dk_167 255 230 (dk_at dksX7_level_5 4 rfl rfl)
theorem dX7_level_123 : decode cX7_level 123 = .ok (.iconst 0, 1) := dk_3 (dk_at dksX7_level_5 7 rfl rfl)
theorem dX7_level_124 : decode cX7_level 124 = .ok (.istore 4, 2) := dk_54 4 (dk_at dksX7_level_5 8 rfl rfl)
theorem dX7_level_126 : decode cX7_level 126 = .ok (.iload 4, 2) := dk_21 4 (dk_at dksX7_level_5 10 rfl rfl)
theorem dX7_level_128 : decode cX7_level 128 = .ok (.aload_n 0, 1) := dk_42 (dk_at dksX7_level_5 12 rfl rfl)
theorem dX7_level_129 : decode cX7_level 129 = .ok (.getfield 250, 3) := dk_180 0 250 (dk_at dksX7_level_5 13 rfl rfl)
theorem dX7_level_132 : decode cX7_level 132 = .ok (.if_icmp .ge 57, 3) := dk_162 0 57 (dk_at dksX7_level_5 16 rfl rfl)
theorem dX7_level_135 : decode cX7_level 135 = .ok (.iload 4, 2) := dk_21 4 (dk_at dksX7_level_5 19 rfl rfl)
theorem dX7_level_137 : decode cX7_level 137 = .ok (.iconst 1, 1) := dk_4 (dk_at dksX7_level_5 21 rfl rfl)
theorem dX7_level_138 : decode cX7_level 138 = .ok (.iadd, 1) := dk_96 (dk_at dksX7_level_5 22 rfl rfl)
theorem dX7_level_139 : decode cX7_level 139 = .ok (.istore 5, 2) := dk_54 5 (dk_at dksX7_level_6 0 rfl rfl)
theorem dX7_level_141 : decode cX7_level 141 = .ok (.iload 5, 2) := dk_21 5 (dk_at dksX7_level_6 2 rfl rfl)
theorem dX7_level_143 : decode cX7_level 143 = .ok (.aload_n 0, 1) := dk_42 (dk_at dksX7_level_6 4 rfl rfl)
theorem dX7_level_144 : decode cX7_level 144 = .ok (.getfield 250, 3) := dk_180 0 250 (dk_at dksX7_level_6 5 rfl rfl)
theorem dX7_level_147 : decode cX7_level 147 = .ok (.if_icmp .ge 36, 3) := dk_162 0 36 (dk_at dksX7_level_6 8 rfl rfl)
theorem dX7_level_150 : decode cX7_level 150 = .ok (.aload_n 0, 1) := dk_42 (dk_at dksX7_level_6 11 rfl rfl)
theorem dX7_level_151 : decode cX7_level 151 = .ok (.aload_n 0, 1) := dk_42 (dk_at dksX7_level_6 12 rfl rfl)
theorem dX7_level_152 : decode cX7_level 152 = .ok (.getfield 84, 3) := dk_180 0 84 (dk_at dksX7_level_6 13 rfl rfl)
theorem dX7_level_155 : decode cX7_level 155 = .ok (.iload 4, 2) := dk_21 4 (dk_at dksX7_level_6 16 rfl rfl)
theorem dX7_level_157 : decode cX7_level 157 = .ok (.iload 5, 2) := dk_21 5 (dk_at dksX7_level_6 18 rfl rfl)
theorem dX7_level_159 : decode cX7_level 159 = .ok (.invokevirtual 273, 3) := dk_182 1 17 (dk_at dksX7_level_6 20 rfl rfl)
theorem dX7_level_162 : decode cX7_level 162 = .ok (.ifCond .eq 15, 3) := dk_153 0 15 (dk_at dksX7_level_7 0 rfl rfl)
theorem dX7_level_165 : decode cX7_level 165 = .ok (.aload_n 0, 1) := dk_42 (dk_at dksX7_level_7 3 rfl rfl)
theorem dX7_level_166 : decode cX7_level 166 = .ok (.aload_n 0, 1) := dk_42 (dk_at dksX7_level_7 4 rfl rfl)
theorem dX7_level_167 : decode cX7_level 167 = .ok (.getfield 81, 3) := dk_180 0 81 (dk_at dksX7_level_7 5 rfl rfl)
theorem dX7_level_170 : decode cX7_level 170 = .ok (.iload 4, 2) := dk_21 4 (dk_at dksX7_level_7 8 rfl rfl)
theorem dX7_level_172 : decode cX7_level 172 = .ok (.iload 5, 2) := dk_21 5 (dk_at dksX7_level_7 10 rfl rfl)
theorem dX7_level_174 : decode cX7_level 174 = .ok (.invokevirtual 269, 3) := dk_182 1 13 (dk_at dksX7_level_7 12 rfl rfl)
theorem dX7_level_177 : decode cX7_level 177 = .ok (.iinc 5 1, 3) := dk_132 5 1 (dk_at dksX7_level_7 15 rfl rfl)
theorem dX7_level_180 : decode cX7_level 180 = .ok (.goto (-39), 3) := dk_167 255 217 (dk_at dksX7_level_7 18 rfl rfl)
theorem dX7_level_183 : decode cX7_level 183 = .ok (.iinc 4 1, 3) := dk_132 4 1 (dk_at dksX7_level_7 21 rfl rfl)
theorem dX7_level_186 : decode cX7_level 186 = .ok (.goto (-60), 3) := dk_167 255 196 (dk_at dksX7_level_8 0 rfl rfl)
theorem dX7_level_189 : decode cX7_level 189 = .ok (.iinc 3 1, 3) := dk_132 3 1 (dk_at dksX7_level_8 3 rfl rfl)
theorem dX7_level_192 : decode cX7_level 192 = .ok (.goto (-116), 3) := dk_167 255 140 (dk_at dksX7_level_8 6 rfl rfl)
theorem dX7_level_195 : decode cX7_level 195 = .ok (.iload_n 3, 1) := dk_29 (dk_at dksX7_level_8 9 rfl rfl)
theorem dX7_level_196 : decode cX7_level 196 = .ok (.ireturn, 1) := dk_172 (dk_at dksX7_level_8 10 rfl rfl)
abbrev cX7_cost : ByteArray := prog_14_method_76_code
def yX7_cost : MethodName := ⟨RX7, "cost", "(II)I"⟩
def dkwX7_cost_1 : List UInt8 := [28, 184, 1, 89, 47, 136, 172]
abbrev dktX7_cost_1 : List UInt8 := dkwX7_cost_1 ++ []
def dkwX7_cost_0 : List UInt8 := [42, 42, 27, 28, 182, 1, 79, 182, 0, 223, 153, 0, 5, 2, 172, 42, 182, 1, 103, 42, 180, 0, 87, 27]
abbrev dktX7_cost_0 : List UInt8 := dkwX7_cost_0 ++ dktX7_cost_1
theorem dksX7_cost_0 : cX7_cost.data.toList.drop 0 = dktX7_cost_0 := by decide +kernel
theorem dksX7_cost_1 : cX7_cost.data.toList.drop 24 = dktX7_cost_1 := dk_seg dksX7_cost_0 24 rfl rfl
theorem dX7_cost_0 : decode cX7_cost 0 = .ok (.aload_n 0, 1) := dk_42 (dk_at dksX7_cost_0 0 rfl rfl)
theorem dX7_cost_1 : decode cX7_cost 1 = .ok (.aload_n 0, 1) := dk_42 (dk_at dksX7_cost_0 1 rfl rfl)
theorem dX7_cost_2 : decode cX7_cost 2 = .ok (.iload_n 1, 1) := dk_27 (dk_at dksX7_cost_0 2 rfl rfl)
theorem dX7_cost_3 : decode cX7_cost 3 = .ok (.iload_n 2, 1) := dk_28 (dk_at dksX7_cost_0 3 rfl rfl)
theorem dX7_cost_4 : decode cX7_cost 4 = .ok (.invokevirtual 335, 3) := dk_182 1 79 (dk_at dksX7_cost_0 4 rfl rfl)
theorem dX7_cost_7 : decode cX7_cost 7 = .ok (.invokevirtual 223, 3) := dk_182 0 223 (dk_at dksX7_cost_0 7 rfl rfl)
theorem dX7_cost_10 : decode cX7_cost 10 = .ok (.ifCond .eq 5, 3) := dk_153 0 5 (dk_at dksX7_cost_0 10 rfl rfl)
theorem dX7_cost_13 : decode cX7_cost 13 = .ok (.iconst (-1), 1) := dk_2 (dk_at dksX7_cost_0 13 rfl rfl)
theorem dX7_cost_14 : decode cX7_cost 14 = .ok (.ireturn, 1) := dk_172 (dk_at dksX7_cost_0 14 rfl rfl)
theorem dX7_cost_15 : decode cX7_cost 15 = .ok (.aload_n 0, 1) := dk_42 (dk_at dksX7_cost_0 15 rfl rfl)
theorem dX7_cost_16 : decode cX7_cost 16 = .ok (.invokevirtual 359, 3) := dk_182 1 103 (dk_at dksX7_cost_0 16 rfl rfl)
theorem dX7_cost_19 : decode cX7_cost 19 = .ok (.aload_n 0, 1) := dk_42 (dk_at dksX7_cost_0 19 rfl rfl)
theorem dX7_cost_20 : decode cX7_cost 20 = .ok (.getfield 87, 3) := dk_180 0 87 (dk_at dksX7_cost_0 20 rfl rfl)
theorem dX7_cost_23 : decode cX7_cost 23 = .ok (.iload_n 1, 1) := dk_27 (dk_at dksX7_cost_0 23 rfl rfl)
theorem dX7_cost_24 : decode cX7_cost 24 = .ok (.iload_n 2, 1) := dk_28 (dk_at dksX7_cost_1 0 rfl rfl)
theorem dX7_cost_25 : decode cX7_cost 25 = .ok (.invokestatic 345, 3) := dk_184 1 89 (dk_at dksX7_cost_1 1 rfl rfl)
theorem dX7_cost_28 : decode cX7_cost 28 = .ok (.laload, 1) := dk_47 (dk_at dksX7_cost_1 4 rfl rfl)
theorem dX7_cost_29 : decode cX7_cost 29 = .ok (.l2i, 1) := dk_136 (dk_at dksX7_cost_1 5 rfl rfl)
theorem dX7_cost_30 : decode cX7_cost 30 = .ok (.ireturn, 1) := dk_172 (dk_at dksX7_cost_1 6 rfl rfl)
abbrev cX7_laysCosts : ByteArray := prog_14_method_75_code
def yX7_laysCosts : MethodName := ⟨RX7, "laysCosts", "()V"⟩
def dkwX7_laysCosts_2 : List UInt8 := [132, 1, 1, 167, 255, 207, 4, 60, 27, 153, 0, 11, 42, 182, 1, 100, 60, 167, 255, 247, 177]
abbrev dktX7_laysCosts_2 : List UInt8 := dkwX7_laysCosts_2 ++ []
def dkwX7_laysCosts_1 : List UInt8 := [27, 28, 184, 1, 89, 27, 28, 160, 0, 7, 9, 167, 0, 6, 20, 1, 85, 80, 132, 2, 1, 167, 255, 223]
abbrev dktX7_laysCosts_1 : List UInt8 := dkwX7_laysCosts_1 ++ dktX7_laysCosts_2
def dkwX7_laysCosts_0 : List UInt8 := [3, 60, 27, 42, 180, 0, 250, 162, 0, 47, 3, 61, 28, 42, 180, 0, 250, 162, 0, 31, 42, 180, 0, 87]
abbrev dktX7_laysCosts_0 : List UInt8 := dkwX7_laysCosts_0 ++ dktX7_laysCosts_1
theorem dksX7_laysCosts_0 : cX7_laysCosts.data.toList.drop 0 = dktX7_laysCosts_0 := by decide +kernel
theorem dksX7_laysCosts_1 : cX7_laysCosts.data.toList.drop 24 = dktX7_laysCosts_1 := dk_seg dksX7_laysCosts_0 24 rfl rfl
theorem dksX7_laysCosts_2 : cX7_laysCosts.data.toList.drop 48 = dktX7_laysCosts_2 := dk_seg dksX7_laysCosts_1 24 rfl rfl
theorem dX7_laysCosts_0 : decode cX7_laysCosts 0 = .ok (.iconst 0, 1) := dk_3 (dk_at dksX7_laysCosts_0 0 rfl rfl)
theorem dX7_laysCosts_1 : decode cX7_laysCosts 1 = .ok (.istore_n 1, 1) := dk_60 (dk_at dksX7_laysCosts_0 1 rfl rfl)
theorem dX7_laysCosts_2 : decode cX7_laysCosts 2 = .ok (.iload_n 1, 1) := dk_27 (dk_at dksX7_laysCosts_0 2 rfl rfl)
theorem dX7_laysCosts_3 : decode cX7_laysCosts 3 = .ok (.aload_n 0, 1) := dk_42 (dk_at dksX7_laysCosts_0 3 rfl rfl)
theorem dX7_laysCosts_4 : decode cX7_laysCosts 4 = .ok (.getfield 250, 3) := dk_180 0 250 (dk_at dksX7_laysCosts_0 4 rfl rfl)
theorem dX7_laysCosts_7 : decode cX7_laysCosts 7 = .ok (.if_icmp .ge 47, 3) := dk_162 0 47 (dk_at dksX7_laysCosts_0 7 rfl rfl)
theorem dX7_laysCosts_10 : decode cX7_laysCosts 10 = .ok (.iconst 0, 1) := dk_3 (dk_at dksX7_laysCosts_0 10 rfl rfl)
theorem dX7_laysCosts_11 : decode cX7_laysCosts 11 = .ok (.istore_n 2, 1) := dk_61 (dk_at dksX7_laysCosts_0 11 rfl rfl)
theorem dX7_laysCosts_12 : decode cX7_laysCosts 12 = .ok (.iload_n 2, 1) := dk_28 (dk_at dksX7_laysCosts_0 12 rfl rfl)
theorem dX7_laysCosts_13 : decode cX7_laysCosts 13 = .ok (.aload_n 0, 1) := dk_42 (dk_at dksX7_laysCosts_0 13 rfl rfl)
theorem dX7_laysCosts_14 : decode cX7_laysCosts 14 = .ok (.getfield 250, 3) := dk_180 0 250 (dk_at dksX7_laysCosts_0 14 rfl rfl)
theorem dX7_laysCosts_17 : decode cX7_laysCosts 17 = .ok (.if_icmp .ge 31, 3) := dk_162 0 31 (dk_at dksX7_laysCosts_0 17 rfl rfl)
theorem dX7_laysCosts_20 : decode cX7_laysCosts 20 = .ok (.aload_n 0, 1) := dk_42 (dk_at dksX7_laysCosts_0 20 rfl rfl)
theorem dX7_laysCosts_21 : decode cX7_laysCosts 21 = .ok (.getfield 87, 3) := dk_180 0 87 (dk_at dksX7_laysCosts_0 21 rfl rfl)
theorem dX7_laysCosts_24 : decode cX7_laysCosts 24 = .ok (.iload_n 1, 1) := dk_27 (dk_at dksX7_laysCosts_1 0 rfl rfl)
theorem dX7_laysCosts_25 : decode cX7_laysCosts 25 = .ok (.iload_n 2, 1) := dk_28 (dk_at dksX7_laysCosts_1 1 rfl rfl)
theorem dX7_laysCosts_26 : decode cX7_laysCosts 26 = .ok (.invokestatic 345, 3) := dk_184 1 89 (dk_at dksX7_laysCosts_1 2 rfl rfl)
theorem dX7_laysCosts_29 : decode cX7_laysCosts 29 = .ok (.iload_n 1, 1) := dk_27 (dk_at dksX7_laysCosts_1 5 rfl rfl)
theorem dX7_laysCosts_30 : decode cX7_laysCosts 30 = .ok (.iload_n 2, 1) := dk_28 (dk_at dksX7_laysCosts_1 6 rfl rfl)
theorem dX7_laysCosts_31 : decode cX7_laysCosts 31 = .ok (.if_icmp .ne 7, 3) := dk_160 0 7 (dk_at dksX7_laysCosts_1 7 rfl rfl)
theorem dX7_laysCosts_34 : decode cX7_laysCosts 34 = .ok (.lconst 0, 1) := dk_9 (dk_at dksX7_laysCosts_1 10 rfl rfl)
theorem dX7_laysCosts_35 : decode cX7_laysCosts 35 = .ok (.goto 6, 3) := dk_167 0 6 (dk_at dksX7_laysCosts_1 11 rfl rfl)
theorem dX7_laysCosts_38 : decode cX7_laysCosts 38 = .ok (.ldc2_w 341, 3) := dk_20 1 85 (dk_at dksX7_laysCosts_1 14 rfl rfl)
theorem dX7_laysCosts_41 : decode cX7_laysCosts 41 = .ok (.lastore, 1) := dk_80 (dk_at dksX7_laysCosts_1 17 rfl rfl)
theorem dX7_laysCosts_42 : decode cX7_laysCosts 42 = .ok (.iinc 2 1, 3) := dk_132 2 1 (dk_at dksX7_laysCosts_1 18 rfl rfl)
theorem dX7_laysCosts_45 : decode cX7_laysCosts 45 = .ok (.goto (-33), 3) := dk_167 255 223 (dk_at dksX7_laysCosts_1 21 rfl rfl)
theorem dX7_laysCosts_48 : decode cX7_laysCosts 48 = .ok (.iinc 1 1, 3) := dk_132 1 1 (dk_at dksX7_laysCosts_2 0 rfl rfl)
theorem dX7_laysCosts_51 : decode cX7_laysCosts 51 = .ok (.goto (-49), 3) := dk_167 255 207 (dk_at dksX7_laysCosts_2 3 rfl rfl)
theorem dX7_laysCosts_54 : decode cX7_laysCosts 54 = .ok (.iconst 1, 1) := dk_4 (dk_at dksX7_laysCosts_2 6 rfl rfl)
theorem dX7_laysCosts_55 : decode cX7_laysCosts 55 = .ok (.istore_n 1, 1) := dk_60 (dk_at dksX7_laysCosts_2 7 rfl rfl)
theorem dX7_laysCosts_56 : decode cX7_laysCosts 56 = .ok (.iload_n 1, 1) := dk_27 (dk_at dksX7_laysCosts_2 8 rfl rfl)
theorem dX7_laysCosts_57 : decode cX7_laysCosts 57 = .ok (.ifCond .eq 11, 3) := dk_153 0 11 (dk_at dksX7_laysCosts_2 9 rfl rfl)
theorem dX7_laysCosts_60 : decode cX7_laysCosts 60 = .ok (.aload_n 0, 1) := dk_42 (dk_at dksX7_laysCosts_2 12 rfl rfl)
theorem dX7_laysCosts_61 : decode cX7_laysCosts 61 = .ok (.invokevirtual 356, 3) := dk_182 1 100 (dk_at dksX7_laysCosts_2 13 rfl rfl)
theorem dX7_laysCosts_64 : decode cX7_laysCosts 64 = .ok (.istore_n 1, 1) := dk_60 (dk_at dksX7_laysCosts_2 16 rfl rfl)
theorem dX7_laysCosts_65 : decode cX7_laysCosts 65 = .ok (.goto (-9), 3) := dk_167 255 247 (dk_at dksX7_laysCosts_2 17 rfl rfl)
theorem dX7_laysCosts_68 : decode cX7_laysCosts 68 = .ok (.return_, 1) := dk_177 (dk_at dksX7_laysCosts_2 20 rfl rfl)
abbrev cX7_pair : ByteArray := prog_14_method_71_code
def yX7_pair : MethodName := ⟨RX7, "pair", "(II)I"⟩
def dkwX7_pair_0 : List UInt8 := [16, 24, 26, 104, 27, 96, 172]
abbrev dktX7_pair_0 : List UInt8 := dkwX7_pair_0 ++ []
theorem dksX7_pair_0 : cX7_pair.data.toList.drop 0 = dktX7_pair_0 := by decide +kernel
theorem dX7_pair_0 : decode cX7_pair 0 = .ok (.bipush 24, 2) := dk_16 24 (dk_at dksX7_pair_0 0 rfl rfl)
theorem dX7_pair_2 : decode cX7_pair 2 = .ok (.iload_n 0, 1) := dk_26 (dk_at dksX7_pair_0 2 rfl rfl)
theorem dX7_pair_3 : decode cX7_pair 3 = .ok (.imul, 1) := dk_104 (dk_at dksX7_pair_0 3 rfl rfl)
theorem dX7_pair_4 : decode cX7_pair 4 = .ok (.iload_n 1, 1) := dk_27 (dk_at dksX7_pair_0 4 rfl rfl)
theorem dX7_pair_5 : decode cX7_pair 5 = .ok (.iadd, 1) := dk_96 (dk_at dksX7_pair_0 5 rfl rfl)
theorem dX7_pair_6 : decode cX7_pair 6 = .ok (.ireturn, 1) := dk_172 (dk_at dksX7_pair_0 6 rfl rfl)
abbrev cX7_lessens : ByteArray := prog_14_method_74_code
def yX7_lessens : MethodName := ⟨RX7, "lessens", "()Z"⟩
def dkwX7_lessens_10 : List UInt8 := [132, 3, 1, 167, 255, 136, 132, 2, 1, 167, 255, 120, 27, 172]
abbrev dktX7_lessens_10 : List UInt8 := dkwX7_lessens_10 ++ []
def dkwX7_lessens_9 : List UInt8 := [156, 0, 18, 42, 180, 0, 87, 29, 21, 4, 184, 1, 89, 22, 9, 80, 4, 60, 132, 4, 1, 167, 255, 153]
abbrev dktX7_lessens_9 : List UInt8 := dkwX7_lessens_9 ++ dktX7_lessens_10
def dkwX7_lessens_8 : List UInt8 := [22, 7, 97, 184, 1, 92, 55, 9, 22, 9, 42, 180, 0, 87, 29, 21, 4, 184, 1, 89, 47, 148]
abbrev dktX7_lessens_8 : List UInt8 := dkwX7_lessens_8 ++ dktX7_lessens_9
def dkwX7_lessens_7 : List UInt8 := [20, 1, 85, 148, 156, 0, 12, 22, 7, 20, 1, 85, 148, 155, 0, 9, 20, 1, 85, 167, 0, 11, 22, 5]
abbrev dktX7_lessens_7 : List UInt8 := dkwX7_lessens_7 ++ dktX7_lessens_8
def dkwX7_lessens_6 : List UInt8 := [29, 28, 184, 1, 89, 47, 55, 5, 42, 180, 0, 87, 28, 21, 4, 184, 1, 89, 47, 55, 7, 22, 5]
abbrev dktX7_lessens_6 : List UInt8 := dkwX7_lessens_6 ++ dktX7_lessens_7
def dkwX7_lessens_5 : List UInt8 := [29, 42, 180, 0, 250, 162, 0, 118, 3, 54, 4, 21, 4, 42, 180, 0, 250, 162, 0, 100, 42, 180, 0, 87]
abbrev dktX7_lessens_5 : List UInt8 := dkwX7_lessens_5 ++ dktX7_lessens_6
def dkwX7_lessens_4 : List UInt8 := [132, 3, 1, 167, 255, 174, 132, 2, 1, 167, 255, 158, 3, 61, 28, 42, 180, 0, 250, 162, 0, 134, 3, 62]
abbrev dktX7_lessens_4 : List UInt8 := dkwX7_lessens_4 ++ dktX7_lessens_5
def dkwX7_lessens_3 : List UInt8 := [42, 180, 0, 87, 28, 29, 184, 1, 89, 42, 180, 0, 91, 28, 29, 184, 1, 89, 47, 80, 4, 60]
abbrev dktX7_lessens_3 : List UInt8 := dkwX7_lessens_3 ++ dktX7_lessens_4
def dkwX7_lessens_2 : List UInt8 := [42, 180, 0, 91, 28, 29, 184, 1, 89, 47, 42, 180, 0, 87, 28, 29, 184, 1, 89, 47, 148, 156, 0, 25]
abbrev dktX7_lessens_2 : List UInt8 := dkwX7_lessens_2 ++ dktX7_lessens_3
def dkwX7_lessens_1 : List UInt8 := [180, 0, 91, 28, 29, 184, 1, 89, 28, 29, 160, 0, 7, 9, 167, 0, 9, 42, 28, 29, 182, 1, 96, 80]
abbrev dktX7_lessens_1 : List UInt8 := dkwX7_lessens_1 ++ dktX7_lessens_2
def dkwX7_lessens_0 : List UInt8 := [3, 60, 3, 61, 28, 42, 180, 0, 250, 162, 0, 96, 3, 62, 29, 42, 180, 0, 250, 162, 0, 80, 42]
abbrev dktX7_lessens_0 : List UInt8 := dkwX7_lessens_0 ++ dktX7_lessens_1
theorem dksX7_lessens_0 : cX7_lessens.data.toList.drop 0 = dktX7_lessens_0 := by decide +kernel
theorem dksX7_lessens_1 : cX7_lessens.data.toList.drop 23 = dktX7_lessens_1 := dk_seg dksX7_lessens_0 23 rfl rfl
theorem dksX7_lessens_2 : cX7_lessens.data.toList.drop 47 = dktX7_lessens_2 := dk_seg dksX7_lessens_1 24 rfl rfl
theorem dksX7_lessens_3 : cX7_lessens.data.toList.drop 71 = dktX7_lessens_3 := dk_seg dksX7_lessens_2 24 rfl rfl
theorem dksX7_lessens_4 : cX7_lessens.data.toList.drop 93 = dktX7_lessens_4 := dk_seg dksX7_lessens_3 22 rfl rfl
theorem dksX7_lessens_5 : cX7_lessens.data.toList.drop 117 = dktX7_lessens_5 := dk_seg dksX7_lessens_4 24 rfl rfl
theorem dksX7_lessens_6 : cX7_lessens.data.toList.drop 141 = dktX7_lessens_6 := dk_seg dksX7_lessens_5 24 rfl rfl
theorem dksX7_lessens_7 : cX7_lessens.data.toList.drop 164 = dktX7_lessens_7 := dk_seg dksX7_lessens_6 23 rfl rfl
theorem dksX7_lessens_8 : cX7_lessens.data.toList.drop 188 = dktX7_lessens_8 := dk_seg dksX7_lessens_7 24 rfl rfl
theorem dksX7_lessens_9 : cX7_lessens.data.toList.drop 210 = dktX7_lessens_9 := dk_seg dksX7_lessens_8 22 rfl rfl
theorem dksX7_lessens_10 : cX7_lessens.data.toList.drop 234 = dktX7_lessens_10 := dk_seg dksX7_lessens_9 24 rfl rfl
theorem dX7_lessens_0 : decode cX7_lessens 0 = .ok (.iconst 0, 1) := dk_3 (dk_at dksX7_lessens_0 0 rfl rfl)
theorem dX7_lessens_1 : decode cX7_lessens 1 = .ok (.istore_n 1, 1) := dk_60 (dk_at dksX7_lessens_0 1 rfl rfl)
theorem dX7_lessens_2 : decode cX7_lessens 2 = .ok (.iconst 0, 1) := dk_3 (dk_at dksX7_lessens_0 2 rfl rfl)
theorem dX7_lessens_3 : decode cX7_lessens 3 = .ok (.istore_n 2, 1) := dk_61 (dk_at dksX7_lessens_0 3 rfl rfl)
theorem dX7_lessens_4 : decode cX7_lessens 4 = .ok (.iload_n 2, 1) := dk_28 (dk_at dksX7_lessens_0 4 rfl rfl)
theorem dX7_lessens_5 : decode cX7_lessens 5 = .ok (.aload_n 0, 1) := dk_42 (dk_at dksX7_lessens_0 5 rfl rfl)
theorem dX7_lessens_6 : decode cX7_lessens 6 = .ok (.getfield 250, 3) := dk_180 0 250 (dk_at dksX7_lessens_0 6 rfl rfl)
theorem dX7_lessens_9 : decode cX7_lessens 9 = .ok (.if_icmp .ge 96, 3) := dk_162 0 96 (dk_at dksX7_lessens_0 9 rfl rfl)
theorem dX7_lessens_12 : decode cX7_lessens 12 = .ok (.iconst 0, 1) := dk_3 (dk_at dksX7_lessens_0 12 rfl rfl)
theorem dX7_lessens_13 : decode cX7_lessens 13 = .ok (.istore_n 3, 1) := dk_62 (dk_at dksX7_lessens_0 13 rfl rfl)
theorem dX7_lessens_14 : decode cX7_lessens 14 = .ok (.iload_n 3, 1) := dk_29 (dk_at dksX7_lessens_0 14 rfl rfl)
theorem dX7_lessens_15 : decode cX7_lessens 15 = .ok (.aload_n 0, 1) := dk_42 (dk_at dksX7_lessens_0 15 rfl rfl)
theorem dX7_lessens_16 : decode cX7_lessens 16 = .ok (.getfield 250, 3) := dk_180 0 250 (dk_at dksX7_lessens_0 16 rfl rfl)
theorem dX7_lessens_19 : decode cX7_lessens 19 = .ok (.if_icmp .ge 80, 3) := dk_162 0 80 (dk_at dksX7_lessens_0 19 rfl rfl)
theorem dX7_lessens_22 : decode cX7_lessens 22 = .ok (.aload_n 0, 1) := dk_42 (dk_at dksX7_lessens_0 22 rfl rfl)
theorem dX7_lessens_23 : decode cX7_lessens 23 = .ok (.getfield 91, 3) := dk_180 0 91 (dk_at dksX7_lessens_1 0 rfl rfl)
theorem dX7_lessens_26 : decode cX7_lessens 26 = .ok (.iload_n 2, 1) := dk_28 (dk_at dksX7_lessens_1 3 rfl rfl)
theorem dX7_lessens_27 : decode cX7_lessens 27 = .ok (.iload_n 3, 1) := dk_29 (dk_at dksX7_lessens_1 4 rfl rfl)
theorem dX7_lessens_28 : decode cX7_lessens 28 = .ok (.invokestatic 345, 3) := dk_184 1 89 (dk_at dksX7_lessens_1 5 rfl rfl)
theorem dX7_lessens_31 : decode cX7_lessens 31 = .ok (.iload_n 2, 1) := dk_28 (dk_at dksX7_lessens_1 8 rfl rfl)
theorem dX7_lessens_32 : decode cX7_lessens 32 = .ok (.iload_n 3, 1) := dk_29 (dk_at dksX7_lessens_1 9 rfl rfl)
theorem dX7_lessens_33 : decode cX7_lessens 33 = .ok (.if_icmp .ne 7, 3) := dk_160 0 7 (dk_at dksX7_lessens_1 10 rfl rfl)
theorem dX7_lessens_36 : decode cX7_lessens 36 = .ok (.lconst 0, 1) := dk_9 (dk_at dksX7_lessens_1 13 rfl rfl)
theorem dX7_lessens_37 : decode cX7_lessens 37 = .ok (.goto 9, 3) := dk_167 0 9 (dk_at dksX7_lessens_1 14 rfl rfl)
theorem dX7_lessens_40 : decode cX7_lessens 40 = .ok (.aload_n 0, 1) := dk_42 (dk_at dksX7_lessens_1 17 rfl rfl)
theorem dX7_lessens_41 : decode cX7_lessens 41 = .ok (.iload_n 2, 1) := dk_28 (dk_at dksX7_lessens_1 18 rfl rfl)
theorem dX7_lessens_42 : decode cX7_lessens 42 = .ok (.iload_n 3, 1) := dk_29 (dk_at dksX7_lessens_1 19 rfl rfl)
theorem dX7_lessens_43 : decode cX7_lessens 43 = .ok (.invokevirtual 352, 3) := dk_182 1 96 (dk_at dksX7_lessens_1 20 rfl rfl)
theorem dX7_lessens_46 : decode cX7_lessens 46 = .ok (.lastore, 1) := dk_80 (dk_at dksX7_lessens_1 23 rfl rfl)
theorem dX7_lessens_47 : decode cX7_lessens 47 = .ok (.aload_n 0, 1) := dk_42 (dk_at dksX7_lessens_2 0 rfl rfl)
theorem dX7_lessens_48 : decode cX7_lessens 48 = .ok (.getfield 91, 3) := dk_180 0 91 (dk_at dksX7_lessens_2 1 rfl rfl)
theorem dX7_lessens_51 : decode cX7_lessens 51 = .ok (.iload_n 2, 1) := dk_28 (dk_at dksX7_lessens_2 4 rfl rfl)
theorem dX7_lessens_52 : decode cX7_lessens 52 = .ok (.iload_n 3, 1) := dk_29 (dk_at dksX7_lessens_2 5 rfl rfl)
theorem dX7_lessens_53 : decode cX7_lessens 53 = .ok (.invokestatic 345, 3) := dk_184 1 89 (dk_at dksX7_lessens_2 6 rfl rfl)
theorem dX7_lessens_56 : decode cX7_lessens 56 = .ok (.laload, 1) := dk_47 (dk_at dksX7_lessens_2 9 rfl rfl)
theorem dX7_lessens_57 : decode cX7_lessens 57 = .ok (.aload_n 0, 1) := dk_42 (dk_at dksX7_lessens_2 10 rfl rfl)
theorem dX7_lessens_58 : decode cX7_lessens 58 = .ok (.getfield 87, 3) := dk_180 0 87 (dk_at dksX7_lessens_2 11 rfl rfl)
theorem dX7_lessens_61 : decode cX7_lessens 61 = .ok (.iload_n 2, 1) := dk_28 (dk_at dksX7_lessens_2 14 rfl rfl)
theorem dX7_lessens_62 : decode cX7_lessens 62 = .ok (.iload_n 3, 1) := dk_29 (dk_at dksX7_lessens_2 15 rfl rfl)
theorem dX7_lessens_63 : decode cX7_lessens 63 = .ok (.invokestatic 345, 3) := dk_184 1 89 (dk_at dksX7_lessens_2 16 rfl rfl)
theorem dX7_lessens_66 : decode cX7_lessens 66 = .ok (.laload, 1) := dk_47 (dk_at dksX7_lessens_2 19 rfl rfl)
theorem dX7_lessens_67 : decode cX7_lessens 67 = .ok (.lcmp, 1) := dk_148 (dk_at dksX7_lessens_2 20 rfl rfl)
theorem dX7_lessens_68 : decode cX7_lessens 68 = .ok (.ifCond .ge 25, 3) := dk_156 0 25 (dk_at dksX7_lessens_2 21 rfl rfl)
theorem dX7_lessens_71 : decode cX7_lessens 71 = .ok (.aload_n 0, 1) := dk_42 (dk_at dksX7_lessens_3 0 rfl rfl)
theorem dX7_lessens_72 : decode cX7_lessens 72 = .ok (.getfield 87, 3) := dk_180 0 87 (dk_at dksX7_lessens_3 1 rfl rfl)
theorem dX7_lessens_75 : decode cX7_lessens 75 = .ok (.iload_n 2, 1) := dk_28 (dk_at dksX7_lessens_3 4 rfl rfl)
theorem dX7_lessens_76 : decode cX7_lessens 76 = .ok (.iload_n 3, 1) := dk_29 (dk_at dksX7_lessens_3 5 rfl rfl)
theorem dX7_lessens_77 : decode cX7_lessens 77 = .ok (.invokestatic 345, 3) := dk_184 1 89 (dk_at dksX7_lessens_3 6 rfl rfl)
theorem dX7_lessens_80 : decode cX7_lessens 80 = .ok (.aload_n 0, 1) := dk_42 (dk_at dksX7_lessens_3 9 rfl rfl)
theorem dX7_lessens_81 : decode cX7_lessens 81 = .ok (.getfield 91, 3) := dk_180 0 91 (dk_at dksX7_lessens_3 10 rfl rfl)
theorem dX7_lessens_84 : decode cX7_lessens 84 = .ok (.iload_n 2, 1) := dk_28 (dk_at dksX7_lessens_3 13 rfl rfl)
theorem dX7_lessens_85 : decode cX7_lessens 85 = .ok (.iload_n 3, 1) := dk_29 (dk_at dksX7_lessens_3 14 rfl rfl)
theorem dX7_lessens_86 : decode cX7_lessens 86 = .ok (.invokestatic 345, 3) := dk_184 1 89 (dk_at dksX7_lessens_3 15 rfl rfl)
theorem dX7_lessens_89 : decode cX7_lessens 89 = .ok (.laload, 1) := dk_47 (dk_at dksX7_lessens_3 18 rfl rfl)
theorem dX7_lessens_90 : decode cX7_lessens 90 = .ok (.lastore, 1) := dk_80 (dk_at dksX7_lessens_3 19 rfl rfl)
theorem dX7_lessens_91 : decode cX7_lessens 91 = .ok (.iconst 1, 1) := dk_4 (dk_at dksX7_lessens_3 20 rfl rfl)
theorem dX7_lessens_92 : decode cX7_lessens 92 = .ok (.istore_n 1, 1) := dk_60 (dk_at dksX7_lessens_3 21 rfl rfl)
theorem dX7_lessens_93 : decode cX7_lessens 93 = .ok (.iinc 3 1, 3) := dk_132 3 1 (dk_at dksX7_lessens_4 0 rfl rfl)
theorem dX7_lessens_96 : decode cX7_lessens 96 = .ok (.goto (-82), 3) := dk_167 255 174 (dk_at dksX7_lessens_4 3 rfl rfl)
theorem dX7_lessens_99 : decode cX7_lessens 99 = .ok (.iinc 2 1, 3) := dk_132 2 1 (dk_at dksX7_lessens_4 6 rfl rfl)
theorem dX7_lessens_102 : decode cX7_lessens 102 = .ok (.goto (-98), 3) := dk_167 255 158 (dk_at dksX7_lessens_4 9 rfl rfl)
theorem dX7_lessens_105 : decode cX7_lessens 105 = .ok (.iconst 0, 1) := dk_3 (dk_at dksX7_lessens_4 12 rfl rfl)
theorem dX7_lessens_106 : decode cX7_lessens 106 = .ok (.istore_n 2, 1) := dk_61 (dk_at dksX7_lessens_4 13 rfl rfl)
theorem dX7_lessens_107 : decode cX7_lessens 107 = .ok (.iload_n 2, 1) := dk_28 (dk_at dksX7_lessens_4 14 rfl rfl)
theorem dX7_lessens_108 : decode cX7_lessens 108 = .ok (.aload_n 0, 1) := dk_42 (dk_at dksX7_lessens_4 15 rfl rfl)
theorem dX7_lessens_109 : decode cX7_lessens 109 = .ok (.getfield 250, 3) := dk_180 0 250 (dk_at dksX7_lessens_4 16 rfl rfl)
theorem dX7_lessens_112 : decode cX7_lessens 112 = .ok (.if_icmp .ge 134, 3) := dk_162 0 134 (dk_at dksX7_lessens_4 19 rfl rfl)
theorem dX7_lessens_115 : decode cX7_lessens 115 = .ok (.iconst 0, 1) := dk_3 (dk_at dksX7_lessens_4 22 rfl rfl)
theorem dX7_lessens_116 : decode cX7_lessens 116 = .ok (.istore_n 3, 1) := dk_62 (dk_at dksX7_lessens_4 23 rfl rfl)
theorem dX7_lessens_117 : decode cX7_lessens 117 = .ok (.iload_n 3, 1) := dk_29 (dk_at dksX7_lessens_5 0 rfl rfl)
theorem dX7_lessens_118 : decode cX7_lessens 118 = .ok (.aload_n 0, 1) := dk_42 (dk_at dksX7_lessens_5 1 rfl rfl)
theorem dX7_lessens_119 : decode cX7_lessens 119 = .ok (.getfield 250, 3) := dk_180 0 250 (dk_at dksX7_lessens_5 2 rfl rfl)
theorem dX7_lessens_122 : decode cX7_lessens 122 = .ok (.if_icmp .ge 118, 3) := dk_162 0 118 (dk_at dksX7_lessens_5 5 rfl rfl)
theorem dX7_lessens_125 : decode cX7_lessens 125 = .ok (.iconst 0, 1) := dk_3 (dk_at dksX7_lessens_5 8 rfl rfl)
theorem dX7_lessens_126 : decode cX7_lessens 126 = .ok (.istore 4, 2) := dk_54 4 (dk_at dksX7_lessens_5 9 rfl rfl)
theorem dX7_lessens_128 : decode cX7_lessens 128 = .ok (.iload 4, 2) := dk_21 4 (dk_at dksX7_lessens_5 11 rfl rfl)
theorem dX7_lessens_130 : decode cX7_lessens 130 = .ok (.aload_n 0, 1) := dk_42 (dk_at dksX7_lessens_5 13 rfl rfl)
theorem dX7_lessens_131 : decode cX7_lessens 131 = .ok (.getfield 250, 3) := dk_180 0 250 (dk_at dksX7_lessens_5 14 rfl rfl)
theorem dX7_lessens_134 : decode cX7_lessens 134 = .ok (.if_icmp .ge 100, 3) := dk_162 0 100 (dk_at dksX7_lessens_5 17 rfl rfl)
theorem dX7_lessens_137 : decode cX7_lessens 137 = .ok (.aload_n 0, 1) := dk_42 (dk_at dksX7_lessens_5 20 rfl rfl)
theorem dX7_lessens_138 : decode cX7_lessens 138 = .ok (.getfield 87, 3) := dk_180 0 87 (dk_at dksX7_lessens_5 21 rfl rfl)
theorem dX7_lessens_141 : decode cX7_lessens 141 = .ok (.iload_n 3, 1) := dk_29 (dk_at dksX7_lessens_6 0 rfl rfl)
theorem dX7_lessens_142 : decode cX7_lessens 142 = .ok (.iload_n 2, 1) := dk_28 (dk_at dksX7_lessens_6 1 rfl rfl)
theorem dX7_lessens_143 : decode cX7_lessens 143 = .ok (.invokestatic 345, 3) := dk_184 1 89 (dk_at dksX7_lessens_6 2 rfl rfl)
theorem dX7_lessens_146 : decode cX7_lessens 146 = .ok (.laload, 1) := dk_47 (dk_at dksX7_lessens_6 5 rfl rfl)
theorem dX7_lessens_147 : decode cX7_lessens 147 = .ok (.lstore 5, 2) := dk_55 5 (dk_at dksX7_lessens_6 6 rfl rfl)
theorem dX7_lessens_149 : decode cX7_lessens 149 = .ok (.aload_n 0, 1) := dk_42 (dk_at dksX7_lessens_6 8 rfl rfl)
theorem dX7_lessens_150 : decode cX7_lessens 150 = .ok (.getfield 87, 3) := dk_180 0 87 (dk_at dksX7_lessens_6 9 rfl rfl)
theorem dX7_lessens_153 : decode cX7_lessens 153 = .ok (.iload_n 2, 1) := dk_28 (dk_at dksX7_lessens_6 12 rfl rfl)
theorem dX7_lessens_154 : decode cX7_lessens 154 = .ok (.iload 4, 2) := dk_21 4 (dk_at dksX7_lessens_6 13 rfl rfl)
theorem dX7_lessens_156 : decode cX7_lessens 156 = .ok (.invokestatic 345, 3) := dk_184 1 89 (dk_at dksX7_lessens_6 15 rfl rfl)
theorem dX7_lessens_159 : decode cX7_lessens 159 = .ok (.laload, 1) := dk_47 (dk_at dksX7_lessens_6 18 rfl rfl)
theorem dX7_lessens_160 : decode cX7_lessens 160 = .ok (.lstore 7, 2) := dk_55 7 (dk_at dksX7_lessens_6 19 rfl rfl)
theorem dX7_lessens_162 : decode cX7_lessens 162 = .ok (.lload 5, 2) := dk_22 5 (dk_at dksX7_lessens_6 21 rfl rfl)
theorem dX7_lessens_164 : decode cX7_lessens 164 = .ok (.ldc2_w 341, 3) := dk_20 1 85 (dk_at dksX7_lessens_7 0 rfl rfl)
theorem dX7_lessens_167 : decode cX7_lessens 167 = .ok (.lcmp, 1) := dk_148 (dk_at dksX7_lessens_7 3 rfl rfl)
theorem dX7_lessens_168 : decode cX7_lessens 168 = .ok (.ifCond .ge 12, 3) := dk_156 0 12 (dk_at dksX7_lessens_7 4 rfl rfl)
theorem dX7_lessens_171 : decode cX7_lessens 171 = .ok (.lload 7, 2) := dk_22 7 (dk_at dksX7_lessens_7 7 rfl rfl)
theorem dX7_lessens_173 : decode cX7_lessens 173 = .ok (.ldc2_w 341, 3) := dk_20 1 85 (dk_at dksX7_lessens_7 9 rfl rfl)
theorem dX7_lessens_176 : decode cX7_lessens 176 = .ok (.lcmp, 1) := dk_148 (dk_at dksX7_lessens_7 12 rfl rfl)
theorem dX7_lessens_177 : decode cX7_lessens 177 = .ok (.ifCond .lt 9, 3) := dk_155 0 9 (dk_at dksX7_lessens_7 13 rfl rfl)
theorem dX7_lessens_180 : decode cX7_lessens 180 = .ok (.ldc2_w 341, 3) := dk_20 1 85 (dk_at dksX7_lessens_7 16 rfl rfl)
theorem dX7_lessens_183 : decode cX7_lessens 183 = .ok (.goto 11, 3) := dk_167 0 11 (dk_at dksX7_lessens_7 19 rfl rfl)
theorem dX7_lessens_186 : decode cX7_lessens 186 = .ok (.lload 5, 2) := dk_22 5 (dk_at dksX7_lessens_7 22 rfl rfl)
theorem dX7_lessens_188 : decode cX7_lessens 188 = .ok (.lload 7, 2) := dk_22 7 (dk_at dksX7_lessens_8 0 rfl rfl)
theorem dX7_lessens_190 : decode cX7_lessens 190 = .ok (.ladd, 1) := dk_97 (dk_at dksX7_lessens_8 2 rfl rfl)
theorem dX7_lessens_191 : decode cX7_lessens 191 = .ok (.invokestatic 348, 3) := dk_184 1 92 (dk_at dksX7_lessens_8 3 rfl rfl)
theorem dX7_lessens_194 : decode cX7_lessens 194 = .ok (.lstore 9, 2) := dk_55 9 (dk_at dksX7_lessens_8 6 rfl rfl)
theorem dX7_lessens_196 : decode cX7_lessens 196 = .ok (.lload 9, 2) := dk_22 9 (dk_at dksX7_lessens_8 8 rfl rfl)
theorem dX7_lessens_198 : decode cX7_lessens 198 = .ok (.aload_n 0, 1) := dk_42 (dk_at dksX7_lessens_8 10 rfl rfl)
theorem dX7_lessens_199 : decode cX7_lessens 199 = .ok (.getfield 87, 3) := dk_180 0 87 (dk_at dksX7_lessens_8 11 rfl rfl)
theorem dX7_lessens_202 : decode cX7_lessens 202 = .ok (.iload_n 3, 1) := dk_29 (dk_at dksX7_lessens_8 14 rfl rfl)
theorem dX7_lessens_203 : decode cX7_lessens 203 = .ok (.iload 4, 2) := dk_21 4 (dk_at dksX7_lessens_8 15 rfl rfl)
theorem dX7_lessens_205 : decode cX7_lessens 205 = .ok (.invokestatic 345, 3) := dk_184 1 89 (dk_at dksX7_lessens_8 17 rfl rfl)
theorem dX7_lessens_208 : decode cX7_lessens 208 = .ok (.laload, 1) := dk_47 (dk_at dksX7_lessens_8 20 rfl rfl)
theorem dX7_lessens_209 : decode cX7_lessens 209 = .ok (.lcmp, 1) := dk_148 (dk_at dksX7_lessens_8 21 rfl rfl)
theorem dX7_lessens_210 : decode cX7_lessens 210 = .ok (.ifCond .ge 18, 3) := dk_156 0 18 (dk_at dksX7_lessens_9 0 rfl rfl)
theorem dX7_lessens_213 : decode cX7_lessens 213 = .ok (.aload_n 0, 1) := dk_42 (dk_at dksX7_lessens_9 3 rfl rfl)
theorem dX7_lessens_214 : decode cX7_lessens 214 = .ok (.getfield 87, 3) := dk_180 0 87 (dk_at dksX7_lessens_9 4 rfl rfl)
theorem dX7_lessens_217 : decode cX7_lessens 217 = .ok (.iload_n 3, 1) := dk_29 (dk_at dksX7_lessens_9 7 rfl rfl)
theorem dX7_lessens_218 : decode cX7_lessens 218 = .ok (.iload 4, 2) := dk_21 4 (dk_at dksX7_lessens_9 8 rfl rfl)
theorem dX7_lessens_220 : decode cX7_lessens 220 = .ok (.invokestatic 345, 3) := dk_184 1 89 (dk_at dksX7_lessens_9 10 rfl rfl)
theorem dX7_lessens_223 : decode cX7_lessens 223 = .ok (.lload 9, 2) := dk_22 9 (dk_at dksX7_lessens_9 13 rfl rfl)
theorem dX7_lessens_225 : decode cX7_lessens 225 = .ok (.lastore, 1) := dk_80 (dk_at dksX7_lessens_9 15 rfl rfl)
theorem dX7_lessens_226 : decode cX7_lessens 226 = .ok (.iconst 1, 1) := dk_4 (dk_at dksX7_lessens_9 16 rfl rfl)
theorem dX7_lessens_227 : decode cX7_lessens 227 = .ok (.istore_n 1, 1) := dk_60 (dk_at dksX7_lessens_9 17 rfl rfl)
theorem dX7_lessens_228 : decode cX7_lessens 228 = .ok (.iinc 4 1, 3) := dk_132 4 1 (dk_at dksX7_lessens_9 18 rfl rfl)
theorem dX7_lessens_231 : decode cX7_lessens 231 = .ok (.goto (-103), 3) := dk_167 255 153 (dk_at dksX7_lessens_9 21 rfl rfl)
theorem dX7_lessens_234 : decode cX7_lessens 234 = .ok (.iinc 3 1, 3) := dk_132 3 1 (dk_at dksX7_lessens_10 0 rfl rfl)
theorem dX7_lessens_237 : decode cX7_lessens 237 = .ok (.goto (-120), 3) := dk_167 255 136 (dk_at dksX7_lessens_10 3 rfl rfl)
theorem dX7_lessens_240 : decode cX7_lessens 240 = .ok (.iinc 2 1, 3) := dk_132 2 1 (dk_at dksX7_lessens_10 6 rfl rfl)
theorem dX7_lessens_243 : decode cX7_lessens 243 = .ok (.goto (-136), 3) := dk_167 255 120 (dk_at dksX7_lessens_10 9 rfl rfl)
theorem dX7_lessens_246 : decode cX7_lessens 246 = .ok (.iload_n 1, 1) := dk_27 (dk_at dksX7_lessens_10 12 rfl rfl)
theorem dX7_lessens_247 : decode cX7_lessens 247 = .ok (.ireturn, 1) := dk_172 (dk_at dksX7_lessens_10 13 rfl rfl)
abbrev cX7_sideOf : ByteArray := prog_14_method_73_code
def yX7_sideOf : MethodName := ⟨RX7, "sideOf", "(II)J"⟩
def dkwX7_sideOf_8 : List UInt8 := [132, 7, 1, 167, 255, 177, 22, 5, 33, 148, 156, 0, 8, 22, 5, 167, 0, 4, 33, 173]
abbrev dktX7_sideOf_8 : List UInt8 := dkwX7_sideOf_8 ++ []
def dkwX7_sideOf_7 : List UInt8 := [20, 1, 85, 148, 155, 0, 9, 20, 1, 85, 167, 0, 11, 22, 5, 22, 8, 97, 184, 1, 92, 55, 5]
abbrev dktX7_sideOf_7 : List UInt8 := dkwX7_sideOf_7 ++ dktX7_sideOf_8
def dkwX7_sideOf_6 : List UInt8 := [21, 7, 96, 46, 42, 180, 0, 35, 6, 28, 104, 21, 7, 96, 46, 184, 1, 89, 47, 55, 8, 22, 8]
abbrev dktX7_sideOf_6 : List UInt8 := dkwX7_sideOf_6 ++ dktX7_sideOf_7
def dkwX7_sideOf_5 : List UInt8 := [162, 0, 75, 22, 5, 20, 1, 85, 148, 156, 0, 66, 42, 180, 0, 87, 42, 180, 0, 35, 6, 27, 104]
abbrev dktX7_sideOf_5 : List UInt8 := dkwX7_sideOf_5 ++ dktX7_sideOf_6
def dkwX7_sideOf_4 : List UInt8 := [180, 0, 32, 28, 46, 159, 0, 5, 33, 173, 9, 55, 5, 3, 54, 7, 21, 7, 42, 27, 182, 0, 253]
abbrev dktX7_sideOf_4 : List UInt8 := dkwX7_sideOf_4 ++ dktX7_sideOf_5
def dkwX7_sideOf_3 : List UInt8 := [153, 0, 7, 10, 167, 0, 4, 33, 66, 132, 5, 1, 167, 255, 182, 42, 180, 0, 32, 27, 46, 42]
abbrev dktX7_sideOf_3 : List UInt8 := dkwX7_sideOf_3 ++ dktX7_sideOf_4
def dkwX7_sideOf_2 : List UInt8 := [160, 0, 18, 42, 180, 0, 41, 21, 5, 46, 27, 160, 0, 7, 4, 167, 0, 4, 3, 54, 6, 21, 6]
abbrev dktX7_sideOf_2 : List UInt8 := dkwX7_sideOf_2 ++ dktX7_sideOf_3
def dkwX7_sideOf_1 : List UInt8 := [160, 0, 14, 42, 180, 0, 41, 21, 5, 46, 28, 159, 0, 25, 42, 180, 0, 38, 21, 5, 46, 28]
abbrev dktX7_sideOf_1 : List UInt8 := dkwX7_sideOf_1 ++ dktX7_sideOf_2
def dkwX7_sideOf_0 : List UInt8 := [20, 1, 85, 66, 3, 54, 5, 21, 5, 42, 180, 1, 31, 162, 0, 71, 42, 180, 0, 38, 21, 5, 46, 27]
abbrev dktX7_sideOf_0 : List UInt8 := dkwX7_sideOf_0 ++ dktX7_sideOf_1
theorem dksX7_sideOf_0 : cX7_sideOf.data.toList.drop 0 = dktX7_sideOf_0 := by decide +kernel
theorem dksX7_sideOf_1 : cX7_sideOf.data.toList.drop 24 = dktX7_sideOf_1 := dk_seg dksX7_sideOf_0 24 rfl rfl
theorem dksX7_sideOf_2 : cX7_sideOf.data.toList.drop 46 = dktX7_sideOf_2 := dk_seg dksX7_sideOf_1 22 rfl rfl
theorem dksX7_sideOf_3 : cX7_sideOf.data.toList.drop 69 = dktX7_sideOf_3 := dk_seg dksX7_sideOf_2 23 rfl rfl
theorem dksX7_sideOf_4 : cX7_sideOf.data.toList.drop 91 = dktX7_sideOf_4 := dk_seg dksX7_sideOf_3 22 rfl rfl
theorem dksX7_sideOf_5 : cX7_sideOf.data.toList.drop 114 = dktX7_sideOf_5 := dk_seg dksX7_sideOf_4 23 rfl rfl
theorem dksX7_sideOf_6 : cX7_sideOf.data.toList.drop 137 = dktX7_sideOf_6 := dk_seg dksX7_sideOf_5 23 rfl rfl
theorem dksX7_sideOf_7 : cX7_sideOf.data.toList.drop 160 = dktX7_sideOf_7 := dk_seg dksX7_sideOf_6 23 rfl rfl
theorem dksX7_sideOf_8 : cX7_sideOf.data.toList.drop 183 = dktX7_sideOf_8 := dk_seg dksX7_sideOf_7 23 rfl rfl
theorem dX7_sideOf_0 : decode cX7_sideOf 0 = .ok (.ldc2_w 341, 3) := dk_20 1 85 (dk_at dksX7_sideOf_0 0 rfl rfl)
theorem dX7_sideOf_3 : decode cX7_sideOf 3 = .ok (.lstore_n 3, 1) := dk_66 (dk_at dksX7_sideOf_0 3 rfl rfl)
theorem dX7_sideOf_4 : decode cX7_sideOf 4 = .ok (.iconst 0, 1) := dk_3 (dk_at dksX7_sideOf_0 4 rfl rfl)
theorem dX7_sideOf_5 : decode cX7_sideOf 5 = .ok (.istore 5, 2) := dk_54 5 (dk_at dksX7_sideOf_0 5 rfl rfl)
theorem dX7_sideOf_7 : decode cX7_sideOf 7 = .ok (.iload 5, 2) := dk_21 5 (dk_at dksX7_sideOf_0 7 rfl rfl)
theorem dX7_sideOf_9 : decode cX7_sideOf 9 = .ok (.aload_n 0, 1) := dk_42 (dk_at dksX7_sideOf_0 9 rfl rfl)
theorem dX7_sideOf_10 : decode cX7_sideOf 10 = .ok (.getfield 287, 3) := dk_180 1 31 (dk_at dksX7_sideOf_0 10 rfl rfl)
theorem dX7_sideOf_13 : decode cX7_sideOf 13 = .ok (.if_icmp .ge 71, 3) := dk_162 0 71 (dk_at dksX7_sideOf_0 13 rfl rfl)
theorem dX7_sideOf_16 : decode cX7_sideOf 16 = .ok (.aload_n 0, 1) := dk_42 (dk_at dksX7_sideOf_0 16 rfl rfl)
theorem dX7_sideOf_17 : decode cX7_sideOf 17 = .ok (.getfield 38, 3) := dk_180 0 38 (dk_at dksX7_sideOf_0 17 rfl rfl)
theorem dX7_sideOf_20 : decode cX7_sideOf 20 = .ok (.iload 5, 2) := dk_21 5 (dk_at dksX7_sideOf_0 20 rfl rfl)
theorem dX7_sideOf_22 : decode cX7_sideOf 22 = .ok (.iaload, 1) := dk_46 (dk_at dksX7_sideOf_0 22 rfl rfl)
theorem dX7_sideOf_23 : decode cX7_sideOf 23 = .ok (.iload_n 1, 1) := dk_27 (dk_at dksX7_sideOf_0 23 rfl rfl)
theorem dX7_sideOf_24 : decode cX7_sideOf 24 = .ok (.if_icmp .ne 14, 3) := dk_160 0 14 (dk_at dksX7_sideOf_1 0 rfl rfl)
theorem dX7_sideOf_27 : decode cX7_sideOf 27 = .ok (.aload_n 0, 1) := dk_42 (dk_at dksX7_sideOf_1 3 rfl rfl)
theorem dX7_sideOf_28 : decode cX7_sideOf 28 = .ok (.getfield 41, 3) := dk_180 0 41 (dk_at dksX7_sideOf_1 4 rfl rfl)
theorem dX7_sideOf_31 : decode cX7_sideOf 31 = .ok (.iload 5, 2) := dk_21 5 (dk_at dksX7_sideOf_1 7 rfl rfl)
theorem dX7_sideOf_33 : decode cX7_sideOf 33 = .ok (.iaload, 1) := dk_46 (dk_at dksX7_sideOf_1 9 rfl rfl)
theorem dX7_sideOf_34 : decode cX7_sideOf 34 = .ok (.iload_n 2, 1) := dk_28 (dk_at dksX7_sideOf_1 10 rfl rfl)
theorem dX7_sideOf_35 : decode cX7_sideOf 35 = .ok (.if_icmp .eq 25, 3) := dk_159 0 25 (dk_at dksX7_sideOf_1 11 rfl rfl)
theorem dX7_sideOf_38 : decode cX7_sideOf 38 = .ok (.aload_n 0, 1) := dk_42 (dk_at dksX7_sideOf_1 14 rfl rfl)
theorem dX7_sideOf_39 : decode cX7_sideOf 39 = .ok (.getfield 38, 3) := dk_180 0 38 (dk_at dksX7_sideOf_1 15 rfl rfl)
theorem dX7_sideOf_42 : decode cX7_sideOf 42 = .ok (.iload 5, 2) := dk_21 5 (dk_at dksX7_sideOf_1 18 rfl rfl)
theorem dX7_sideOf_44 : decode cX7_sideOf 44 = .ok (.iaload, 1) := dk_46 (dk_at dksX7_sideOf_1 20 rfl rfl)
theorem dX7_sideOf_45 : decode cX7_sideOf 45 = .ok (.iload_n 2, 1) := dk_28 (dk_at dksX7_sideOf_1 21 rfl rfl)
theorem dX7_sideOf_46 : decode cX7_sideOf 46 = .ok (.if_icmp .ne 18, 3) := dk_160 0 18 (dk_at dksX7_sideOf_2 0 rfl rfl)
theorem dX7_sideOf_49 : decode cX7_sideOf 49 = .ok (.aload_n 0, 1) := dk_42 (dk_at dksX7_sideOf_2 3 rfl rfl)
theorem dX7_sideOf_50 : decode cX7_sideOf 50 = .ok (.getfield 41, 3) := dk_180 0 41 (dk_at dksX7_sideOf_2 4 rfl rfl)
theorem dX7_sideOf_53 : decode cX7_sideOf 53 = .ok (.iload 5, 2) := dk_21 5 (dk_at dksX7_sideOf_2 7 rfl rfl)
theorem dX7_sideOf_55 : decode cX7_sideOf 55 = .ok (.iaload, 1) := dk_46 (dk_at dksX7_sideOf_2 9 rfl rfl)
theorem dX7_sideOf_56 : decode cX7_sideOf 56 = .ok (.iload_n 1, 1) := dk_27 (dk_at dksX7_sideOf_2 10 rfl rfl)
theorem dX7_sideOf_57 : decode cX7_sideOf 57 = .ok (.if_icmp .ne 7, 3) := dk_160 0 7 (dk_at dksX7_sideOf_2 11 rfl rfl)
theorem dX7_sideOf_60 : decode cX7_sideOf 60 = .ok (.iconst 1, 1) := dk_4 (dk_at dksX7_sideOf_2 14 rfl rfl)
theorem dX7_sideOf_61 : decode cX7_sideOf 61 = .ok (.goto 4, 3) := dk_167 0 4 (dk_at dksX7_sideOf_2 15 rfl rfl)
theorem dX7_sideOf_64 : decode cX7_sideOf 64 = .ok (.iconst 0, 1) := dk_3 (dk_at dksX7_sideOf_2 18 rfl rfl)
theorem dX7_sideOf_65 : decode cX7_sideOf 65 = .ok (.istore 6, 2) := dk_54 6 (dk_at dksX7_sideOf_2 19 rfl rfl)
theorem dX7_sideOf_67 : decode cX7_sideOf 67 = .ok (.iload 6, 2) := dk_21 6 (dk_at dksX7_sideOf_2 21 rfl rfl)
theorem dX7_sideOf_69 : decode cX7_sideOf 69 = .ok (.ifCond .eq 7, 3) := dk_153 0 7 (dk_at dksX7_sideOf_3 0 rfl rfl)
theorem dX7_sideOf_72 : decode cX7_sideOf 72 = .ok (.lconst 1, 1) := dk_10 (dk_at dksX7_sideOf_3 3 rfl rfl)
theorem dX7_sideOf_73 : decode cX7_sideOf 73 = .ok (.goto 4, 3) := dk_167 0 4 (dk_at dksX7_sideOf_3 4 rfl rfl)
theorem dX7_sideOf_76 : decode cX7_sideOf 76 = .ok (.lload_n 3, 1) := dk_33 (dk_at dksX7_sideOf_3 7 rfl rfl)
theorem dX7_sideOf_77 : decode cX7_sideOf 77 = .ok (.lstore_n 3, 1) := dk_66 (dk_at dksX7_sideOf_3 8 rfl rfl)
theorem dX7_sideOf_78 : decode cX7_sideOf 78 = .ok (.iinc 5 1, 3) := dk_132 5 1 (dk_at dksX7_sideOf_3 9 rfl rfl)
theorem dX7_sideOf_81 : decode cX7_sideOf 81 = .ok (.goto (-74), 3) := dk_167 255 182 (dk_at dksX7_sideOf_3 12 rfl rfl)
theorem dX7_sideOf_84 : decode cX7_sideOf 84 = .ok (.aload_n 0, 1) := dk_42 (dk_at dksX7_sideOf_3 15 rfl rfl)
theorem dX7_sideOf_85 : decode cX7_sideOf 85 = .ok (.getfield 32, 3) := dk_180 0 32 (dk_at dksX7_sideOf_3 16 rfl rfl)
theorem dX7_sideOf_88 : decode cX7_sideOf 88 = .ok (.iload_n 1, 1) := dk_27 (dk_at dksX7_sideOf_3 19 rfl rfl)
theorem dX7_sideOf_89 : decode cX7_sideOf 89 = .ok (.iaload, 1) := dk_46 (dk_at dksX7_sideOf_3 20 rfl rfl)
theorem dX7_sideOf_90 : decode cX7_sideOf 90 = .ok (.aload_n 0, 1) := dk_42 (dk_at dksX7_sideOf_3 21 rfl rfl)
theorem dX7_sideOf_91 : decode cX7_sideOf 91 = .ok (.getfield 32, 3) := dk_180 0 32 (dk_at dksX7_sideOf_4 0 rfl rfl)
theorem dX7_sideOf_94 : decode cX7_sideOf 94 = .ok (.iload_n 2, 1) := dk_28 (dk_at dksX7_sideOf_4 3 rfl rfl)
theorem dX7_sideOf_95 : decode cX7_sideOf 95 = .ok (.iaload, 1) := dk_46 (dk_at dksX7_sideOf_4 4 rfl rfl)
theorem dX7_sideOf_96 : decode cX7_sideOf 96 = .ok (.if_icmp .eq 5, 3) := dk_159 0 5 (dk_at dksX7_sideOf_4 5 rfl rfl)
theorem dX7_sideOf_99 : decode cX7_sideOf 99 = .ok (.lload_n 3, 1) := dk_33 (dk_at dksX7_sideOf_4 8 rfl rfl)
theorem dX7_sideOf_100 : decode cX7_sideOf 100 = .ok (.lreturn, 1) := dk_173 (dk_at dksX7_sideOf_4 9 rfl rfl)
theorem dX7_sideOf_101 : decode cX7_sideOf 101 = .ok (.lconst 0, 1) := dk_9 (dk_at dksX7_sideOf_4 10 rfl rfl)
theorem dX7_sideOf_102 : decode cX7_sideOf 102 = .ok (.lstore 5, 2) := dk_55 5 (dk_at dksX7_sideOf_4 11 rfl rfl)
theorem dX7_sideOf_104 : decode cX7_sideOf 104 = .ok (.iconst 0, 1) := dk_3 (dk_at dksX7_sideOf_4 13 rfl rfl)
theorem dX7_sideOf_105 : decode cX7_sideOf 105 = .ok (.istore 7, 2) := dk_54 7 (dk_at dksX7_sideOf_4 14 rfl rfl)
theorem dX7_sideOf_107 : decode cX7_sideOf 107 = .ok (.iload 7, 2) := dk_21 7 (dk_at dksX7_sideOf_4 16 rfl rfl)
theorem dX7_sideOf_109 : decode cX7_sideOf 109 = .ok (.aload_n 0, 1) := dk_42 (dk_at dksX7_sideOf_4 18 rfl rfl)
theorem dX7_sideOf_110 : decode cX7_sideOf 110 = .ok (.iload_n 1, 1) := dk_27 (dk_at dksX7_sideOf_4 19 rfl rfl)
theorem dX7_sideOf_111 : decode cX7_sideOf 111 = .ok (.invokevirtual 253, 3) := dk_182 0 253 (dk_at dksX7_sideOf_4 20 rfl rfl)
theorem dX7_sideOf_114 : decode cX7_sideOf 114 = .ok (.if_icmp .ge 75, 3) := dk_162 0 75 (dk_at dksX7_sideOf_5 0 rfl rfl)
theorem dX7_sideOf_117 : decode cX7_sideOf 117 = .ok (.lload 5, 2) := dk_22 5 (dk_at dksX7_sideOf_5 3 rfl rfl)
theorem dX7_sideOf_119 : decode cX7_sideOf 119 = .ok (.ldc2_w 341, 3) := dk_20 1 85 (dk_at dksX7_sideOf_5 5 rfl rfl)
theorem dX7_sideOf_122 : decode cX7_sideOf 122 = .ok (.lcmp, 1) := dk_148 (dk_at dksX7_sideOf_5 8 rfl rfl)
theorem dX7_sideOf_123 : decode cX7_sideOf 123 = .ok (.ifCond .ge 66, 3) := dk_156 0 66 (dk_at dksX7_sideOf_5 9 rfl rfl)
theorem dX7_sideOf_126 : decode cX7_sideOf 126 = .ok (.aload_n 0, 1) := dk_42 (dk_at dksX7_sideOf_5 12 rfl rfl)
theorem dX7_sideOf_127 : decode cX7_sideOf 127 = .ok (.getfield 87, 3) := dk_180 0 87 (dk_at dksX7_sideOf_5 13 rfl rfl)
theorem dX7_sideOf_130 : decode cX7_sideOf 130 = .ok (.aload_n 0, 1) := dk_42 (dk_at dksX7_sideOf_5 16 rfl rfl)
theorem dX7_sideOf_131 : decode cX7_sideOf 131 = .ok (.getfield 35, 3) := dk_180 0 35 (dk_at dksX7_sideOf_5 17 rfl rfl)
theorem dX7_sideOf_134 : decode cX7_sideOf 134 = .ok (.iconst 3, 1) := dk_6 (dk_at dksX7_sideOf_5 20 rfl rfl)
theorem dX7_sideOf_135 : decode cX7_sideOf 135 = .ok (.iload_n 1, 1) := dk_27 (dk_at dksX7_sideOf_5 21 rfl rfl)
theorem dX7_sideOf_136 : decode cX7_sideOf 136 = .ok (.imul, 1) := dk_104 (dk_at dksX7_sideOf_5 22 rfl rfl)
theorem dX7_sideOf_137 : decode cX7_sideOf 137 = .ok (.iload 7, 2) := dk_21 7 (dk_at dksX7_sideOf_6 0 rfl rfl)
theorem dX7_sideOf_139 : decode cX7_sideOf 139 = .ok (.iadd, 1) := dk_96 (dk_at dksX7_sideOf_6 2 rfl rfl)
theorem dX7_sideOf_140 : decode cX7_sideOf 140 = .ok (.iaload, 1) := dk_46 (dk_at dksX7_sideOf_6 3 rfl rfl)
theorem dX7_sideOf_141 : decode cX7_sideOf 141 = .ok (.aload_n 0, 1) := dk_42 (dk_at dksX7_sideOf_6 4 rfl rfl)
theorem dX7_sideOf_142 : decode cX7_sideOf 142 = .ok (.getfield 35, 3) := dk_180 0 35 (dk_at dksX7_sideOf_6 5 rfl rfl)
theorem dX7_sideOf_145 : decode cX7_sideOf 145 = .ok (.iconst 3, 1) := dk_6 (dk_at dksX7_sideOf_6 8 rfl rfl)
theorem dX7_sideOf_146 : decode cX7_sideOf 146 = .ok (.iload_n 2, 1) := dk_28 (dk_at dksX7_sideOf_6 9 rfl rfl)
theorem dX7_sideOf_147 : decode cX7_sideOf 147 = .ok (.imul, 1) := dk_104 (dk_at dksX7_sideOf_6 10 rfl rfl)
theorem dX7_sideOf_148 : decode cX7_sideOf 148 = .ok (.iload 7, 2) := dk_21 7 (dk_at dksX7_sideOf_6 11 rfl rfl)
theorem dX7_sideOf_150 : decode cX7_sideOf 150 = .ok (.iadd, 1) := dk_96 (dk_at dksX7_sideOf_6 13 rfl rfl)
theorem dX7_sideOf_151 : decode cX7_sideOf 151 = .ok (.iaload, 1) := dk_46 (dk_at dksX7_sideOf_6 14 rfl rfl)
theorem dX7_sideOf_152 : decode cX7_sideOf 152 = .ok (.invokestatic 345, 3) := dk_184 1 89 (dk_at dksX7_sideOf_6 15 rfl rfl)
theorem dX7_sideOf_155 : decode cX7_sideOf 155 = .ok (.laload, 1) := dk_47 (dk_at dksX7_sideOf_6 18 rfl rfl)
theorem dX7_sideOf_156 : decode cX7_sideOf 156 = .ok (.lstore 8, 2) := dk_55 8 (dk_at dksX7_sideOf_6 19 rfl rfl)
theorem dX7_sideOf_158 : decode cX7_sideOf 158 = .ok (.lload 8, 2) := dk_22 8 (dk_at dksX7_sideOf_6 21 rfl rfl)
theorem dX7_sideOf_160 : decode cX7_sideOf 160 = .ok (.ldc2_w 341, 3) := dk_20 1 85 (dk_at dksX7_sideOf_7 0 rfl rfl)
theorem dX7_sideOf_163 : decode cX7_sideOf 163 = .ok (.lcmp, 1) := dk_148 (dk_at dksX7_sideOf_7 3 rfl rfl)
theorem dX7_sideOf_164 : decode cX7_sideOf 164 = .ok (.ifCond .lt 9, 3) := dk_155 0 9 (dk_at dksX7_sideOf_7 4 rfl rfl)
theorem dX7_sideOf_167 : decode cX7_sideOf 167 = .ok (.ldc2_w 341, 3) := dk_20 1 85 (dk_at dksX7_sideOf_7 7 rfl rfl)
theorem dX7_sideOf_170 : decode cX7_sideOf 170 = .ok (.goto 11, 3) := dk_167 0 11 (dk_at dksX7_sideOf_7 10 rfl rfl)
theorem dX7_sideOf_173 : decode cX7_sideOf 173 = .ok (.lload 5, 2) := dk_22 5 (dk_at dksX7_sideOf_7 13 rfl rfl)
theorem dX7_sideOf_175 : decode cX7_sideOf 175 = .ok (.lload 8, 2) := dk_22 8 (dk_at dksX7_sideOf_7 15 rfl rfl)
theorem dX7_sideOf_177 : decode cX7_sideOf 177 = .ok (.ladd, 1) := dk_97 (dk_at dksX7_sideOf_7 17 rfl rfl)
theorem dX7_sideOf_178 : decode cX7_sideOf 178 = .ok (.invokestatic 348, 3) := dk_184 1 92 (dk_at dksX7_sideOf_7 18 rfl rfl)
theorem dX7_sideOf_181 : decode cX7_sideOf 181 = .ok (.lstore 5, 2) := dk_55 5 (dk_at dksX7_sideOf_7 21 rfl rfl)
theorem dX7_sideOf_183 : decode cX7_sideOf 183 = .ok (.iinc 7 1, 3) := dk_132 7 1 (dk_at dksX7_sideOf_8 0 rfl rfl)
theorem dX7_sideOf_186 : decode cX7_sideOf 186 = .ok (.goto (-79), 3) := dk_167 255 177 (dk_at dksX7_sideOf_8 3 rfl rfl)
theorem dX7_sideOf_189 : decode cX7_sideOf 189 = .ok (.lload 5, 2) := dk_22 5 (dk_at dksX7_sideOf_8 6 rfl rfl)
theorem dX7_sideOf_191 : decode cX7_sideOf 191 = .ok (.lload_n 3, 1) := dk_33 (dk_at dksX7_sideOf_8 8 rfl rfl)
theorem dX7_sideOf_192 : decode cX7_sideOf 192 = .ok (.lcmp, 1) := dk_148 (dk_at dksX7_sideOf_8 9 rfl rfl)
theorem dX7_sideOf_193 : decode cX7_sideOf 193 = .ok (.ifCond .ge 8, 3) := dk_156 0 8 (dk_at dksX7_sideOf_8 10 rfl rfl)
theorem dX7_sideOf_196 : decode cX7_sideOf 196 = .ok (.lload 5, 2) := dk_22 5 (dk_at dksX7_sideOf_8 13 rfl rfl)
theorem dX7_sideOf_198 : decode cX7_sideOf 198 = .ok (.goto 4, 3) := dk_167 0 4 (dk_at dksX7_sideOf_8 15 rfl rfl)
theorem dX7_sideOf_201 : decode cX7_sideOf 201 = .ok (.lload_n 3, 1) := dk_33 (dk_at dksX7_sideOf_8 18 rfl rfl)
theorem dX7_sideOf_202 : decode cX7_sideOf 202 = .ok (.lreturn, 1) := dk_173 (dk_at dksX7_sideOf_8 19 rfl rfl)
abbrev cX7_held : ByteArray := prog_14_method_72_code
def yX7_held : MethodName := ⟨RX7, "held", "(J)J"⟩
def dkwX7_held_1 : List UInt8 := [20, 1, 87, 167, 0, 4, 30, 173]
abbrev dktX7_held_1 : List UInt8 := dkwX7_held_1 ++ []
def dkwX7_held_0 : List UInt8 := [30, 20, 1, 85, 148, 155, 0, 9, 20, 1, 85, 167, 0, 18, 30, 20, 1, 87, 148, 158, 0, 9]
abbrev dktX7_held_0 : List UInt8 := dkwX7_held_0 ++ dktX7_held_1
theorem dksX7_held_0 : cX7_held.data.toList.drop 0 = dktX7_held_0 := by decide +kernel
theorem dksX7_held_1 : cX7_held.data.toList.drop 22 = dktX7_held_1 := dk_seg dksX7_held_0 22 rfl rfl
theorem dX7_held_0 : decode cX7_held 0 = .ok (.lload_n 0, 1) := dk_30 (dk_at dksX7_held_0 0 rfl rfl)
theorem dX7_held_1 : decode cX7_held 1 = .ok (.ldc2_w 341, 3) := dk_20 1 85 (dk_at dksX7_held_0 1 rfl rfl)
theorem dX7_held_4 : decode cX7_held 4 = .ok (.lcmp, 1) := dk_148 (dk_at dksX7_held_0 4 rfl rfl)
theorem dX7_held_5 : decode cX7_held 5 = .ok (.ifCond .lt 9, 3) := dk_155 0 9 (dk_at dksX7_held_0 5 rfl rfl)
theorem dX7_held_8 : decode cX7_held 8 = .ok (.ldc2_w 341, 3) := dk_20 1 85 (dk_at dksX7_held_0 8 rfl rfl)
theorem dX7_held_11 : decode cX7_held 11 = .ok (.goto 18, 3) := dk_167 0 18 (dk_at dksX7_held_0 11 rfl rfl)
theorem dX7_held_14 : decode cX7_held 14 = .ok (.lload_n 0, 1) := dk_30 (dk_at dksX7_held_0 14 rfl rfl)
theorem dX7_held_15 : decode cX7_held 15 = .ok (.ldc2_w 343, 3) := dk_20 1 87 (dk_at dksX7_held_0 15 rfl rfl)
theorem dX7_held_18 : decode cX7_held 18 = .ok (.lcmp, 1) := dk_148 (dk_at dksX7_held_0 18 rfl rfl)
theorem dX7_held_19 : decode cX7_held 19 = .ok (.ifCond .le 9, 3) := dk_158 0 9 (dk_at dksX7_held_0 19 rfl rfl)
theorem dX7_held_22 : decode cX7_held 22 = .ok (.ldc2_w 343, 3) := dk_20 1 87 (dk_at dksX7_held_1 0 rfl rfl)
theorem dX7_held_25 : decode cX7_held 25 = .ok (.goto 4, 3) := dk_167 0 4 (dk_at dksX7_held_1 3 rfl rfl)
theorem dX7_held_28 : decode cX7_held 28 = .ok (.lload_n 0, 1) := dk_30 (dk_at dksX7_held_1 6 rfl rfl)
theorem dX7_held_29 : decode cX7_held 29 = .ok (.lreturn, 1) := dk_173 (dk_at dksX7_held_1 7 rfl rfl)
abbrev cX7_way : ByteArray := prog_14_method_79_code
def yX7_way : MethodName := ⟨RX7, "way", "(III)I"⟩
def dkwX7_way_7 : List UInt8 := [172]
abbrev dktX7_way_7 : List UInt8 := dkwX7_way_7 ++ []
def dkwX7_way_6 : List UInt8 := [182, 1, 110, 154, 0, 9, 132, 7, 1, 167, 255, 222, 21, 7, 54, 5, 132, 6, 1, 167, 255, 203, 21, 5]
abbrev dktX7_way_6 : List UInt8 := dkwX7_way_6 ++ dktX7_way_7
def dkwX7_way_5 : List UInt8 := [180, 0, 94, 21, 7, 46, 4, 96, 42, 180, 0, 94, 21, 5, 46, 160, 0, 15, 42, 21, 5, 21, 7, 28]
abbrev dktX7_way_5 : List UInt8 := dkwX7_way_5 ++ dktX7_way_6
def dkwX7_way_4 : List UInt8 := [164, 0, 6, 16, 254, 172, 27, 54, 5, 3, 54, 6, 21, 6, 29, 162, 0, 53, 3, 54, 7, 42]
abbrev dktX7_way_4 : List UInt8 := dkwX7_way_4 ++ dktX7_way_5
def dkwX7_way_3 : List UInt8 := [155, 0, 7, 4, 167, 0, 4, 3, 181, 1, 106, 42, 28, 182, 1, 113, 29, 42, 180, 0, 94, 27, 46]
abbrev dktX7_way_3 : List UInt8 := dkwX7_way_3 ++ dktX7_way_4
def dkwX7_way_2 : List UInt8 := [153, 0, 5, 2, 172, 42, 182, 1, 103, 42, 42, 180, 0, 87, 27, 28, 184, 1, 89, 47, 20, 1, 87, 148]
abbrev dktX7_way_2 : List UInt8 := dkwX7_way_2 ++ dktX7_way_3
def dkwX7_way_1 : List UInt8 := [3, 54, 4, 42, 21, 4, 154, 0, 7, 4, 167, 0, 9, 42, 27, 28, 182, 1, 79, 182, 0, 223]
abbrev dktX7_way_1 : List UInt8 := dkwX7_way_1 ++ dktX7_way_2
def dkwX7_way_0 : List UInt8 := [42, 27, 182, 1, 61, 153, 0, 19, 42, 28, 182, 1, 61, 153, 0, 11, 29, 155, 0, 7, 4, 167, 0, 4]
abbrev dktX7_way_0 : List UInt8 := dkwX7_way_0 ++ dktX7_way_1
theorem dksX7_way_0 : cX7_way.data.toList.drop 0 = dktX7_way_0 := by decide +kernel
theorem dksX7_way_1 : cX7_way.data.toList.drop 24 = dktX7_way_1 := dk_seg dksX7_way_0 24 rfl rfl
theorem dksX7_way_2 : cX7_way.data.toList.drop 46 = dktX7_way_2 := dk_seg dksX7_way_1 22 rfl rfl
theorem dksX7_way_3 : cX7_way.data.toList.drop 70 = dktX7_way_3 := dk_seg dksX7_way_2 24 rfl rfl
theorem dksX7_way_4 : cX7_way.data.toList.drop 93 = dktX7_way_4 := dk_seg dksX7_way_3 23 rfl rfl
theorem dksX7_way_5 : cX7_way.data.toList.drop 115 = dktX7_way_5 := dk_seg dksX7_way_4 22 rfl rfl
theorem dksX7_way_6 : cX7_way.data.toList.drop 139 = dktX7_way_6 := dk_seg dksX7_way_5 24 rfl rfl
theorem dksX7_way_7 : cX7_way.data.toList.drop 163 = dktX7_way_7 := dk_seg dksX7_way_6 24 rfl rfl
theorem dX7_way_0 : decode cX7_way 0 = .ok (.aload_n 0, 1) := dk_42 (dk_at dksX7_way_0 0 rfl rfl)
theorem dX7_way_1 : decode cX7_way 1 = .ok (.iload_n 1, 1) := dk_27 (dk_at dksX7_way_0 1 rfl rfl)
theorem dX7_way_2 : decode cX7_way 2 = .ok (.invokevirtual 317, 3) := dk_182 1 61 (dk_at dksX7_way_0 2 rfl rfl)
theorem dX7_way_5 : decode cX7_way 5 = .ok (.ifCond .eq 19, 3) := dk_153 0 19 (dk_at dksX7_way_0 5 rfl rfl)
theorem dX7_way_8 : decode cX7_way 8 = .ok (.aload_n 0, 1) := dk_42 (dk_at dksX7_way_0 8 rfl rfl)
theorem dX7_way_9 : decode cX7_way 9 = .ok (.iload_n 2, 1) := dk_28 (dk_at dksX7_way_0 9 rfl rfl)
theorem dX7_way_10 : decode cX7_way 10 = .ok (.invokevirtual 317, 3) := dk_182 1 61 (dk_at dksX7_way_0 10 rfl rfl)
theorem dX7_way_13 : decode cX7_way 13 = .ok (.ifCond .eq 11, 3) := dk_153 0 11 (dk_at dksX7_way_0 13 rfl rfl)
theorem dX7_way_16 : decode cX7_way 16 = .ok (.iload_n 3, 1) := dk_29 (dk_at dksX7_way_0 16 rfl rfl)
theorem dX7_way_17 : decode cX7_way 17 = .ok (.ifCond .lt 7, 3) := dk_155 0 7 (dk_at dksX7_way_0 17 rfl rfl)
theorem dX7_way_20 : decode cX7_way 20 = .ok (.iconst 1, 1) := dk_4 (dk_at dksX7_way_0 20 rfl rfl)
theorem dX7_way_21 : decode cX7_way 21 = .ok (.goto 4, 3) := dk_167 0 4 (dk_at dksX7_way_0 21 rfl rfl)
theorem dX7_way_24 : decode cX7_way 24 = .ok (.iconst 0, 1) := dk_3 (dk_at dksX7_way_1 0 rfl rfl)
theorem dX7_way_25 : decode cX7_way 25 = .ok (.istore 4, 2) := dk_54 4 (dk_at dksX7_way_1 1 rfl rfl)
theorem dX7_way_27 : decode cX7_way 27 = .ok (.aload_n 0, 1) := dk_42 (dk_at dksX7_way_1 3 rfl rfl)
theorem dX7_way_28 : decode cX7_way 28 = .ok (.iload 4, 2) := dk_21 4 (dk_at dksX7_way_1 4 rfl rfl)
theorem dX7_way_30 : decode cX7_way 30 = .ok (.ifCond .ne 7, 3) := dk_154 0 7 (dk_at dksX7_way_1 6 rfl rfl)
theorem dX7_way_33 : decode cX7_way 33 = .ok (.iconst 1, 1) := dk_4 (dk_at dksX7_way_1 9 rfl rfl)
theorem dX7_way_34 : decode cX7_way 34 = .ok (.goto 9, 3) := dk_167 0 9 (dk_at dksX7_way_1 10 rfl rfl)
theorem dX7_way_37 : decode cX7_way 37 = .ok (.aload_n 0, 1) := dk_42 (dk_at dksX7_way_1 13 rfl rfl)
theorem dX7_way_38 : decode cX7_way 38 = .ok (.iload_n 1, 1) := dk_27 (dk_at dksX7_way_1 14 rfl rfl)
theorem dX7_way_39 : decode cX7_way 39 = .ok (.iload_n 2, 1) := dk_28 (dk_at dksX7_way_1 15 rfl rfl)
theorem dX7_way_40 : decode cX7_way 40 = .ok (.invokevirtual 335, 3) := dk_182 1 79 (dk_at dksX7_way_1 16 rfl rfl)
theorem dX7_way_43 : decode cX7_way 43 = .ok (.invokevirtual 223, 3) := dk_182 0 223 (dk_at dksX7_way_1 19 rfl rfl)
theorem dX7_way_46 : decode cX7_way 46 = .ok (.ifCond .eq 5, 3) := dk_153 0 5 (dk_at dksX7_way_2 0 rfl rfl)
theorem dX7_way_49 : decode cX7_way 49 = .ok (.iconst (-1), 1) := dk_2 (dk_at dksX7_way_2 3 rfl rfl)
theorem dX7_way_50 : decode cX7_way 50 = .ok (.ireturn, 1) := dk_172 (dk_at dksX7_way_2 4 rfl rfl)
theorem dX7_way_51 : decode cX7_way 51 = .ok (.aload_n 0, 1) := dk_42 (dk_at dksX7_way_2 5 rfl rfl)
theorem dX7_way_52 : decode cX7_way 52 = .ok (.invokevirtual 359, 3) := dk_182 1 103 (dk_at dksX7_way_2 6 rfl rfl)
theorem dX7_way_55 : decode cX7_way 55 = .ok (.aload_n 0, 1) := dk_42 (dk_at dksX7_way_2 9 rfl rfl)
theorem dX7_way_56 : decode cX7_way 56 = .ok (.aload_n 0, 1) := dk_42 (dk_at dksX7_way_2 10 rfl rfl)
theorem dX7_way_57 : decode cX7_way 57 = .ok (.getfield 87, 3) := dk_180 0 87 (dk_at dksX7_way_2 11 rfl rfl)
theorem dX7_way_60 : decode cX7_way 60 = .ok (.iload_n 1, 1) := dk_27 (dk_at dksX7_way_2 14 rfl rfl)
theorem dX7_way_61 : decode cX7_way 61 = .ok (.iload_n 2, 1) := dk_28 (dk_at dksX7_way_2 15 rfl rfl)
theorem dX7_way_62 : decode cX7_way 62 = .ok (.invokestatic 345, 3) := dk_184 1 89 (dk_at dksX7_way_2 16 rfl rfl)
theorem dX7_way_65 : decode cX7_way 65 = .ok (.laload, 1) := dk_47 (dk_at dksX7_way_2 19 rfl rfl)
theorem dX7_way_66 : decode cX7_way 66 = .ok (.ldc2_w 343, 3) := dk_20 1 87 (dk_at dksX7_way_2 20 rfl rfl)
theorem dX7_way_69 : decode cX7_way 69 = .ok (.lcmp, 1) := dk_148 (dk_at dksX7_way_2 23 rfl rfl)
theorem dX7_way_70 : decode cX7_way 70 = .ok (.ifCond .lt 7, 3) := dk_155 0 7 (dk_at dksX7_way_3 0 rfl rfl)
theorem dX7_way_73 : decode cX7_way 73 = .ok (.iconst 1, 1) := dk_4 (dk_at dksX7_way_3 3 rfl rfl)
theorem dX7_way_74 : decode cX7_way 74 = .ok (.goto 4, 3) := dk_167 0 4 (dk_at dksX7_way_3 4 rfl rfl)
theorem dX7_way_77 : decode cX7_way 77 = .ok (.iconst 0, 1) := dk_3 (dk_at dksX7_way_3 7 rfl rfl)
theorem dX7_way_78 : decode cX7_way 78 = .ok (.putfield 362, 3) := dk_181 1 106 (dk_at dksX7_way_3 8 rfl rfl)
theorem dX7_way_81 : decode cX7_way 81 = .ok (.aload_n 0, 1) := dk_42 (dk_at dksX7_way_3 11 rfl rfl)
theorem dX7_way_82 : decode cX7_way 82 = .ok (.iload_n 2, 1) := dk_28 (dk_at dksX7_way_3 12 rfl rfl)
theorem dX7_way_83 : decode cX7_way 83 = .ok (.invokevirtual 369, 3) := dk_182 1 113 (dk_at dksX7_way_3 13 rfl rfl)
theorem dX7_way_86 : decode cX7_way 86 = .ok (.iload_n 3, 1) := dk_29 (dk_at dksX7_way_3 16 rfl rfl)
theorem dX7_way_87 : decode cX7_way 87 = .ok (.aload_n 0, 1) := dk_42 (dk_at dksX7_way_3 17 rfl rfl)
theorem dX7_way_88 : decode cX7_way 88 = .ok (.getfield 94, 3) := dk_180 0 94 (dk_at dksX7_way_3 18 rfl rfl)
theorem dX7_way_91 : decode cX7_way 91 = .ok (.iload_n 1, 1) := dk_27 (dk_at dksX7_way_3 21 rfl rfl)
theorem dX7_way_92 : decode cX7_way 92 = .ok (.iaload, 1) := dk_46 (dk_at dksX7_way_3 22 rfl rfl)
theorem dX7_way_93 : decode cX7_way 93 = .ok (.if_icmp .le 6, 3) := dk_164 0 6 (dk_at dksX7_way_4 0 rfl rfl)
theorem dX7_way_96 : decode cX7_way 96 = .ok (.bipush (-2), 2) := dk_16 254 (dk_at dksX7_way_4 3 rfl rfl)
theorem dX7_way_98 : decode cX7_way 98 = .ok (.ireturn, 1) := dk_172 (dk_at dksX7_way_4 5 rfl rfl)
theorem dX7_way_99 : decode cX7_way 99 = .ok (.iload_n 1, 1) := dk_27 (dk_at dksX7_way_4 6 rfl rfl)
theorem dX7_way_100 : decode cX7_way 100 = .ok (.istore 5, 2) := dk_54 5 (dk_at dksX7_way_4 7 rfl rfl)
theorem dX7_way_102 : decode cX7_way 102 = .ok (.iconst 0, 1) := dk_3 (dk_at dksX7_way_4 9 rfl rfl)
theorem dX7_way_103 : decode cX7_way 103 = .ok (.istore 6, 2) := dk_54 6 (dk_at dksX7_way_4 10 rfl rfl)
theorem dX7_way_105 : decode cX7_way 105 = .ok (.iload 6, 2) := dk_21 6 (dk_at dksX7_way_4 12 rfl rfl)
theorem dX7_way_107 : decode cX7_way 107 = .ok (.iload_n 3, 1) := dk_29 (dk_at dksX7_way_4 14 rfl rfl)
theorem dX7_way_108 : decode cX7_way 108 = .ok (.if_icmp .ge 53, 3) := dk_162 0 53 (dk_at dksX7_way_4 15 rfl rfl)
theorem dX7_way_111 : decode cX7_way 111 = .ok (.iconst 0, 1) := dk_3 (dk_at dksX7_way_4 18 rfl rfl)
theorem dX7_way_112 : decode cX7_way 112 = .ok (.istore 7, 2) := dk_54 7 (dk_at dksX7_way_4 19 rfl rfl)
theorem dX7_way_114 : decode cX7_way 114 = .ok (.aload_n 0, 1) := dk_42 (dk_at dksX7_way_4 21 rfl rfl)
theorem dX7_way_115 : decode cX7_way 115 = .ok (.getfield 94, 3) := dk_180 0 94 (dk_at dksX7_way_5 0 rfl rfl)
theorem dX7_way_118 : decode cX7_way 118 = .ok (.iload 7, 2) := dk_21 7 (dk_at dksX7_way_5 3 rfl rfl)
theorem dX7_way_120 : decode cX7_way 120 = .ok (.iaload, 1) := dk_46 (dk_at dksX7_way_5 5 rfl rfl)
theorem dX7_way_121 : decode cX7_way 121 = .ok (.iconst 1, 1) := dk_4 (dk_at dksX7_way_5 6 rfl rfl)
theorem dX7_way_122 : decode cX7_way 122 = .ok (.iadd, 1) := dk_96 (dk_at dksX7_way_5 7 rfl rfl)
theorem dX7_way_123 : decode cX7_way 123 = .ok (.aload_n 0, 1) := dk_42 (dk_at dksX7_way_5 8 rfl rfl)
theorem dX7_way_124 : decode cX7_way 124 = .ok (.getfield 94, 3) := dk_180 0 94 (dk_at dksX7_way_5 9 rfl rfl)
theorem dX7_way_127 : decode cX7_way 127 = .ok (.iload 5, 2) := dk_21 5 (dk_at dksX7_way_5 12 rfl rfl)
theorem dX7_way_129 : decode cX7_way 129 = .ok (.iaload, 1) := dk_46 (dk_at dksX7_way_5 14 rfl rfl)
theorem dX7_way_130 : decode cX7_way 130 = .ok (.if_icmp .ne 15, 3) := dk_160 0 15 (dk_at dksX7_way_5 15 rfl rfl)
theorem dX7_way_133 : decode cX7_way 133 = .ok (.aload_n 0, 1) := dk_42 (dk_at dksX7_way_5 18 rfl rfl)
theorem dX7_way_134 : decode cX7_way 134 = .ok (.iload 5, 2) := dk_21 5 (dk_at dksX7_way_5 19 rfl rfl)
theorem dX7_way_136 : decode cX7_way 136 = .ok (.iload 7, 2) := dk_21 7 (dk_at dksX7_way_5 21 rfl rfl)
theorem dX7_way_138 : decode cX7_way 138 = .ok (.iload_n 2, 1) := dk_28 (dk_at dksX7_way_5 23 rfl rfl)
theorem dX7_way_139 : decode cX7_way 139 = .ok (.invokevirtual 366, 3) := dk_182 1 110 (dk_at dksX7_way_6 0 rfl rfl)
theorem dX7_way_142 : decode cX7_way 142 = .ok (.ifCond .ne 9, 3) := dk_154 0 9 (dk_at dksX7_way_6 3 rfl rfl)
theorem dX7_way_145 : decode cX7_way 145 = .ok (.iinc 7 1, 3) := dk_132 7 1 (dk_at dksX7_way_6 6 rfl rfl)
theorem dX7_way_148 : decode cX7_way 148 = .ok (.goto (-34), 3) := dk_167 255 222 (dk_at dksX7_way_6 9 rfl rfl)
theorem dX7_way_151 : decode cX7_way 151 = .ok (.iload 7, 2) := dk_21 7 (dk_at dksX7_way_6 12 rfl rfl)
theorem dX7_way_153 : decode cX7_way 153 = .ok (.istore 5, 2) := dk_54 5 (dk_at dksX7_way_6 14 rfl rfl)
theorem dX7_way_155 : decode cX7_way 155 = .ok (.iinc 6 1, 3) := dk_132 6 1 (dk_at dksX7_way_6 16 rfl rfl)
theorem dX7_way_158 : decode cX7_way 158 = .ok (.goto (-53), 3) := dk_167 255 203 (dk_at dksX7_way_6 19 rfl rfl)
theorem dX7_way_161 : decode cX7_way 161 = .ok (.iload 5, 2) := dk_21 5 (dk_at dksX7_way_6 22 rfl rfl)
theorem dX7_way_163 : decode cX7_way 163 = .ok (.ireturn, 1) := dk_172 (dk_at dksX7_way_7 0 rfl rfl)
abbrev cX7_laysHops : ByteArray := prog_14_method_78_code
def yX7_laysHops : MethodName := ⟨RX7, "laysHops", "(I)V"⟩
def dkwX7_laysHops_5 : List UInt8 := [167, 255, 183, 132, 2, 1, 167, 255, 167, 177]
abbrev dktX7_laysHops_5 : List UInt8 := dkwX7_laysHops_5 ++ []
def dkwX7_laysHops_4 : List UInt8 := [180, 0, 94, 29, 42, 180, 0, 94, 21, 4, 46, 4, 96, 79, 132, 4, 1, 167, 255, 200, 132, 3, 1]
abbrev dktX7_laysHops_4 : List UInt8 := dkwX7_laysHops_4 ++ dktX7_laysHops_5
def dkwX7_laysHops_3 : List UInt8 := [46, 4, 96, 42, 180, 0, 94, 29, 46, 162, 0, 29, 42, 29, 21, 4, 27, 182, 1, 110, 153, 0, 18, 42]
abbrev dktX7_laysHops_3 : List UInt8 := dkwX7_laysHops_3 ++ dktX7_laysHops_4
def dkwX7_laysHops_2 : List UInt8 := [180, 0, 250, 162, 0, 71, 3, 54, 4, 21, 4, 42, 180, 0, 250, 162, 0, 53, 42, 180, 0, 94, 21, 4]
abbrev dktX7_laysHops_2 : List UInt8 := dkwX7_laysHops_2 ++ dktX7_laysHops_3
def dkwX7_laysHops_1 : List UInt8 := [16, 24, 79, 132, 2, 1, 167, 255, 228, 3, 61, 28, 42, 180, 0, 250, 162, 0, 87, 3, 62, 29, 42]
abbrev dktX7_laysHops_1 : List UInt8 := dkwX7_laysHops_1 ++ dktX7_laysHops_2
def dkwX7_laysHops_0 : List UInt8 := [3, 61, 28, 42, 180, 0, 250, 162, 0, 26, 42, 180, 0, 94, 28, 28, 27, 160, 0, 7, 3, 167, 0, 5]
abbrev dktX7_laysHops_0 : List UInt8 := dkwX7_laysHops_0 ++ dktX7_laysHops_1
theorem dksX7_laysHops_0 : cX7_laysHops.data.toList.drop 0 = dktX7_laysHops_0 := by decide +kernel
theorem dksX7_laysHops_1 : cX7_laysHops.data.toList.drop 24 = dktX7_laysHops_1 := dk_seg dksX7_laysHops_0 24 rfl rfl
theorem dksX7_laysHops_2 : cX7_laysHops.data.toList.drop 47 = dktX7_laysHops_2 := dk_seg dksX7_laysHops_1 23 rfl rfl
theorem dksX7_laysHops_3 : cX7_laysHops.data.toList.drop 71 = dktX7_laysHops_3 := dk_seg dksX7_laysHops_2 24 rfl rfl
theorem dksX7_laysHops_4 : cX7_laysHops.data.toList.drop 95 = dktX7_laysHops_4 := dk_seg dksX7_laysHops_3 24 rfl rfl
theorem dksX7_laysHops_5 : cX7_laysHops.data.toList.drop 118 = dktX7_laysHops_5 := dk_seg dksX7_laysHops_4 23 rfl rfl
theorem dX7_laysHops_0 : decode cX7_laysHops 0 = .ok (.iconst 0, 1) := dk_3 (dk_at dksX7_laysHops_0 0 rfl rfl)
theorem dX7_laysHops_1 : decode cX7_laysHops 1 = .ok (.istore_n 2, 1) := dk_61 (dk_at dksX7_laysHops_0 1 rfl rfl)
theorem dX7_laysHops_2 : decode cX7_laysHops 2 = .ok (.iload_n 2, 1) := dk_28 (dk_at dksX7_laysHops_0 2 rfl rfl)
theorem dX7_laysHops_3 : decode cX7_laysHops 3 = .ok (.aload_n 0, 1) := dk_42 (dk_at dksX7_laysHops_0 3 rfl rfl)
theorem dX7_laysHops_4 : decode cX7_laysHops 4 = .ok (.getfield 250, 3) := dk_180 0 250 (dk_at dksX7_laysHops_0 4 rfl rfl)
theorem dX7_laysHops_7 : decode cX7_laysHops 7 = .ok (.if_icmp .ge 26, 3) := dk_162 0 26 (dk_at dksX7_laysHops_0 7 rfl rfl)
theorem dX7_laysHops_10 : decode cX7_laysHops 10 = .ok (.aload_n 0, 1) := dk_42 (dk_at dksX7_laysHops_0 10 rfl rfl)
theorem dX7_laysHops_11 : decode cX7_laysHops 11 = .ok (.getfield 94, 3) := dk_180 0 94 (dk_at dksX7_laysHops_0 11 rfl rfl)
theorem dX7_laysHops_14 : decode cX7_laysHops 14 = .ok (.iload_n 2, 1) := dk_28 (dk_at dksX7_laysHops_0 14 rfl rfl)
theorem dX7_laysHops_15 : decode cX7_laysHops 15 = .ok (.iload_n 2, 1) := dk_28 (dk_at dksX7_laysHops_0 15 rfl rfl)
theorem dX7_laysHops_16 : decode cX7_laysHops 16 = .ok (.iload_n 1, 1) := dk_27 (dk_at dksX7_laysHops_0 16 rfl rfl)
theorem dX7_laysHops_17 : decode cX7_laysHops 17 = .ok (.if_icmp .ne 7, 3) := dk_160 0 7 (dk_at dksX7_laysHops_0 17 rfl rfl)
theorem dX7_laysHops_20 : decode cX7_laysHops 20 = .ok (.iconst 0, 1) := dk_3 (dk_at dksX7_laysHops_0 20 rfl rfl)
theorem dX7_laysHops_21 : decode cX7_laysHops 21 = .ok (.goto 5, 3) := dk_167 0 5 (dk_at dksX7_laysHops_0 21 rfl rfl)
theorem dX7_laysHops_24 : decode cX7_laysHops 24 = .ok (.bipush 24, 2) := dk_16 24 (dk_at dksX7_laysHops_1 0 rfl rfl)
theorem dX7_laysHops_26 : decode cX7_laysHops 26 = .ok (.iastore, 1) := dk_79 (dk_at dksX7_laysHops_1 2 rfl rfl)
theorem dX7_laysHops_27 : decode cX7_laysHops 27 = .ok (.iinc 2 1, 3) := dk_132 2 1 (dk_at dksX7_laysHops_1 3 rfl rfl)
theorem dX7_laysHops_30 : decode cX7_laysHops 30 = .ok (.goto (-28), 3) := dk_167 255 228 (dk_at dksX7_laysHops_1 6 rfl rfl)
theorem dX7_laysHops_33 : decode cX7_laysHops 33 = .ok (.iconst 0, 1) := dk_3 (dk_at dksX7_laysHops_1 9 rfl rfl)
theorem dX7_laysHops_34 : decode cX7_laysHops 34 = .ok (.istore_n 2, 1) := dk_61 (dk_at dksX7_laysHops_1 10 rfl rfl)
theorem dX7_laysHops_35 : decode cX7_laysHops 35 = .ok (.iload_n 2, 1) := dk_28 (dk_at dksX7_laysHops_1 11 rfl rfl)
theorem dX7_laysHops_36 : decode cX7_laysHops 36 = .ok (.aload_n 0, 1) := dk_42 (dk_at dksX7_laysHops_1 12 rfl rfl)
theorem dX7_laysHops_37 : decode cX7_laysHops 37 = .ok (.getfield 250, 3) := dk_180 0 250 (dk_at dksX7_laysHops_1 13 rfl rfl)
theorem dX7_laysHops_40 : decode cX7_laysHops 40 = .ok (.if_icmp .ge 87, 3) := dk_162 0 87 (dk_at dksX7_laysHops_1 16 rfl rfl)
theorem dX7_laysHops_43 : decode cX7_laysHops 43 = .ok (.iconst 0, 1) := dk_3 (dk_at dksX7_laysHops_1 19 rfl rfl)
theorem dX7_laysHops_44 : decode cX7_laysHops 44 = .ok (.istore_n 3, 1) := dk_62 (dk_at dksX7_laysHops_1 20 rfl rfl)
theorem dX7_laysHops_45 : decode cX7_laysHops 45 = .ok (.iload_n 3, 1) := dk_29 (dk_at dksX7_laysHops_1 21 rfl rfl)
theorem dX7_laysHops_46 : decode cX7_laysHops 46 = .ok (.aload_n 0, 1) := dk_42 (dk_at dksX7_laysHops_1 22 rfl rfl)
theorem dX7_laysHops_47 : decode cX7_laysHops 47 = .ok (.getfield 250, 3) := dk_180 0 250 (dk_at dksX7_laysHops_2 0 rfl rfl)
theorem dX7_laysHops_50 : decode cX7_laysHops 50 = .ok (.if_icmp .ge 71, 3) := dk_162 0 71 (dk_at dksX7_laysHops_2 3 rfl rfl)
theorem dX7_laysHops_53 : decode cX7_laysHops 53 = .ok (.iconst 0, 1) := dk_3 (dk_at dksX7_laysHops_2 6 rfl rfl)
theorem dX7_laysHops_54 : decode cX7_laysHops 54 = .ok (.istore 4, 2) := dk_54 4 (dk_at dksX7_laysHops_2 7 rfl rfl)
theorem dX7_laysHops_56 : decode cX7_laysHops 56 = .ok (.iload 4, 2) := dk_21 4 (dk_at dksX7_laysHops_2 9 rfl rfl)
theorem dX7_laysHops_58 : decode cX7_laysHops 58 = .ok (.aload_n 0, 1) := dk_42 (dk_at dksX7_laysHops_2 11 rfl rfl)
theorem dX7_laysHops_59 : decode cX7_laysHops 59 = .ok (.getfield 250, 3) := dk_180 0 250 (dk_at dksX7_laysHops_2 12 rfl rfl)
theorem dX7_laysHops_62 : decode cX7_laysHops 62 = .ok (.if_icmp .ge 53, 3) := dk_162 0 53 (dk_at dksX7_laysHops_2 15 rfl rfl)
theorem dX7_laysHops_65 : decode cX7_laysHops 65 = .ok (.aload_n 0, 1) := dk_42 (dk_at dksX7_laysHops_2 18 rfl rfl)
theorem dX7_laysHops_66 : decode cX7_laysHops 66 = .ok (.getfield 94, 3) := dk_180 0 94 (dk_at dksX7_laysHops_2 19 rfl rfl)
theorem dX7_laysHops_69 : decode cX7_laysHops 69 = .ok (.iload 4, 2) := dk_21 4 (dk_at dksX7_laysHops_2 22 rfl rfl)
theorem dX7_laysHops_71 : decode cX7_laysHops 71 = .ok (.iaload, 1) := dk_46 (dk_at dksX7_laysHops_3 0 rfl rfl)
theorem dX7_laysHops_72 : decode cX7_laysHops 72 = .ok (.iconst 1, 1) := dk_4 (dk_at dksX7_laysHops_3 1 rfl rfl)
theorem dX7_laysHops_73 : decode cX7_laysHops 73 = .ok (.iadd, 1) := dk_96 (dk_at dksX7_laysHops_3 2 rfl rfl)
theorem dX7_laysHops_74 : decode cX7_laysHops 74 = .ok (.aload_n 0, 1) := dk_42 (dk_at dksX7_laysHops_3 3 rfl rfl)
theorem dX7_laysHops_75 : decode cX7_laysHops 75 = .ok (.getfield 94, 3) := dk_180 0 94 (dk_at dksX7_laysHops_3 4 rfl rfl)
theorem dX7_laysHops_78 : decode cX7_laysHops 78 = .ok (.iload_n 3, 1) := dk_29 (dk_at dksX7_laysHops_3 7 rfl rfl)
theorem dX7_laysHops_79 : decode cX7_laysHops 79 = .ok (.iaload, 1) := dk_46 (dk_at dksX7_laysHops_3 8 rfl rfl)
theorem dX7_laysHops_80 : decode cX7_laysHops 80 = .ok (.if_icmp .ge 29, 3) := dk_162 0 29 (dk_at dksX7_laysHops_3 9 rfl rfl)
theorem dX7_laysHops_83 : decode cX7_laysHops 83 = .ok (.aload_n 0, 1) := dk_42 (dk_at dksX7_laysHops_3 12 rfl rfl)
theorem dX7_laysHops_84 : decode cX7_laysHops 84 = .ok (.iload_n 3, 1) := dk_29 (dk_at dksX7_laysHops_3 13 rfl rfl)
theorem dX7_laysHops_85 : decode cX7_laysHops 85 = .ok (.iload 4, 2) := dk_21 4 (dk_at dksX7_laysHops_3 14 rfl rfl)
theorem dX7_laysHops_87 : decode cX7_laysHops 87 = .ok (.iload_n 1, 1) := dk_27 (dk_at dksX7_laysHops_3 16 rfl rfl)
theorem dX7_laysHops_88 : decode cX7_laysHops 88 = .ok (.invokevirtual 366, 3) := dk_182 1 110 (dk_at dksX7_laysHops_3 17 rfl rfl)
theorem dX7_laysHops_91 : decode cX7_laysHops 91 = .ok (.ifCond .eq 18, 3) := dk_153 0 18 (dk_at dksX7_laysHops_3 20 rfl rfl)
theorem dX7_laysHops_94 : decode cX7_laysHops 94 = .ok (.aload_n 0, 1) := dk_42 (dk_at dksX7_laysHops_3 23 rfl rfl)
theorem dX7_laysHops_95 : decode cX7_laysHops 95 = .ok (.getfield 94, 3) := dk_180 0 94 (dk_at dksX7_laysHops_4 0 rfl rfl)
theorem dX7_laysHops_98 : decode cX7_laysHops 98 = .ok (.iload_n 3, 1) := dk_29 (dk_at dksX7_laysHops_4 3 rfl rfl)
theorem dX7_laysHops_99 : decode cX7_laysHops 99 = .ok (.aload_n 0, 1) := dk_42 (dk_at dksX7_laysHops_4 4 rfl rfl)
theorem dX7_laysHops_100 : decode cX7_laysHops 100 = .ok (.getfield 94, 3) := dk_180 0 94 (dk_at dksX7_laysHops_4 5 rfl rfl)
theorem dX7_laysHops_103 : decode cX7_laysHops 103 = .ok (.iload 4, 2) := dk_21 4 (dk_at dksX7_laysHops_4 8 rfl rfl)
theorem dX7_laysHops_105 : decode cX7_laysHops 105 = .ok (.iaload, 1) := dk_46 (dk_at dksX7_laysHops_4 10 rfl rfl)
theorem dX7_laysHops_106 : decode cX7_laysHops 106 = .ok (.iconst 1, 1) := dk_4 (dk_at dksX7_laysHops_4 11 rfl rfl)
theorem dX7_laysHops_107 : decode cX7_laysHops 107 = .ok (.iadd, 1) := dk_96 (dk_at dksX7_laysHops_4 12 rfl rfl)
theorem dX7_laysHops_108 : decode cX7_laysHops 108 = .ok (.iastore, 1) := dk_79 (dk_at dksX7_laysHops_4 13 rfl rfl)
theorem dX7_laysHops_109 : decode cX7_laysHops 109 = .ok (.iinc 4 1, 3) := dk_132 4 1 (dk_at dksX7_laysHops_4 14 rfl rfl)
theorem dX7_laysHops_112 : decode cX7_laysHops 112 = .ok (.goto (-56), 3) := dk_167 255 200 (dk_at dksX7_laysHops_4 17 rfl rfl)
theorem dX7_laysHops_115 : decode cX7_laysHops 115 = .ok (.iinc 3 1, 3) := dk_132 3 1 (dk_at dksX7_laysHops_4 20 rfl rfl)
theorem dX7_laysHops_118 : decode cX7_laysHops 118 = .ok (.goto (-73), 3) := dk_167 255 183 (dk_at dksX7_laysHops_5 0 rfl rfl)
theorem dX7_laysHops_121 : decode cX7_laysHops 121 = .ok (.iinc 2 1, 3) := dk_132 2 1 (dk_at dksX7_laysHops_5 3 rfl rfl)
theorem dX7_laysHops_124 : decode cX7_laysHops 124 = .ok (.goto (-89), 3) := dk_167 255 167 (dk_at dksX7_laysHops_5 6 rfl rfl)
theorem dX7_laysHops_127 : decode cX7_laysHops 127 = .ok (.return_, 1) := dk_177 (dk_at dksX7_laysHops_5 9 rfl rfl)
abbrev cX7_isNext : ByteArray := prog_14_method_77_code
def yX7_isNext : MethodName := ⟨RX7, "isNext", "(III)Z"⟩
def dkwX7_isNext_3 : List UInt8 := [154, 0, 7, 4, 167, 0, 4, 3, 172]
abbrev dktX7_isNext_3 : List UInt8 := dkwX7_isNext_3 ++ []
def dkwX7_isNext_2 : List UInt8 := [180, 1, 106, 154, 0, 22, 22, 4, 22, 6, 97, 42, 180, 0, 87, 27, 29, 184, 1, 89, 47, 148]
abbrev dktX7_isNext_2 : List UInt8 := dkwX7_isNext_2 ++ dktX7_isNext_3
def dkwX7_isNext_1 : List UInt8 := [27, 28, 159, 0, 51, 22, 4, 20, 1, 85, 148, 156, 0, 42, 22, 6, 20, 1, 85, 148, 156, 0, 33, 42]
abbrev dktX7_isNext_1 : List UInt8 := dkwX7_isNext_1 ++ dktX7_isNext_2
def dkwX7_isNext_0 : List UInt8 := [42, 180, 0, 91, 27, 28, 184, 1, 89, 47, 55, 4, 42, 180, 0, 87, 28, 29, 184, 1, 89, 47, 55, 6]
abbrev dktX7_isNext_0 : List UInt8 := dkwX7_isNext_0 ++ dktX7_isNext_1
theorem dksX7_isNext_0 : cX7_isNext.data.toList.drop 0 = dktX7_isNext_0 := by decide +kernel
theorem dksX7_isNext_1 : cX7_isNext.data.toList.drop 24 = dktX7_isNext_1 := dk_seg dksX7_isNext_0 24 rfl rfl
theorem dksX7_isNext_2 : cX7_isNext.data.toList.drop 48 = dktX7_isNext_2 := dk_seg dksX7_isNext_1 24 rfl rfl
theorem dksX7_isNext_3 : cX7_isNext.data.toList.drop 70 = dktX7_isNext_3 := dk_seg dksX7_isNext_2 22 rfl rfl
theorem dX7_isNext_0 : decode cX7_isNext 0 = .ok (.aload_n 0, 1) := dk_42 (dk_at dksX7_isNext_0 0 rfl rfl)
theorem dX7_isNext_1 : decode cX7_isNext 1 = .ok (.getfield 91, 3) := dk_180 0 91 (dk_at dksX7_isNext_0 1 rfl rfl)
theorem dX7_isNext_4 : decode cX7_isNext 4 = .ok (.iload_n 1, 1) := dk_27 (dk_at dksX7_isNext_0 4 rfl rfl)
theorem dX7_isNext_5 : decode cX7_isNext 5 = .ok (.iload_n 2, 1) := dk_28 (dk_at dksX7_isNext_0 5 rfl rfl)
theorem dX7_isNext_6 : decode cX7_isNext 6 = .ok (.invokestatic 345, 3) := dk_184 1 89 (dk_at dksX7_isNext_0 6 rfl rfl)
theorem dX7_isNext_9 : decode cX7_isNext 9 = .ok (.laload, 1) := dk_47 (dk_at dksX7_isNext_0 9 rfl rfl)
theorem dX7_isNext_10 : decode cX7_isNext 10 = .ok (.lstore 4, 2) := dk_55 4 (dk_at dksX7_isNext_0 10 rfl rfl)
theorem dX7_isNext_12 : decode cX7_isNext 12 = .ok (.aload_n 0, 1) := dk_42 (dk_at dksX7_isNext_0 12 rfl rfl)
theorem dX7_isNext_13 : decode cX7_isNext 13 = .ok (.getfield 87, 3) := dk_180 0 87 (dk_at dksX7_isNext_0 13 rfl rfl)
theorem dX7_isNext_16 : decode cX7_isNext 16 = .ok (.iload_n 2, 1) := dk_28 (dk_at dksX7_isNext_0 16 rfl rfl)
theorem dX7_isNext_17 : decode cX7_isNext 17 = .ok (.iload_n 3, 1) := dk_29 (dk_at dksX7_isNext_0 17 rfl rfl)
theorem dX7_isNext_18 : decode cX7_isNext 18 = .ok (.invokestatic 345, 3) := dk_184 1 89 (dk_at dksX7_isNext_0 18 rfl rfl)
theorem dX7_isNext_21 : decode cX7_isNext 21 = .ok (.laload, 1) := dk_47 (dk_at dksX7_isNext_0 21 rfl rfl)
theorem dX7_isNext_22 : decode cX7_isNext 22 = .ok (.lstore 6, 2) := dk_55 6 (dk_at dksX7_isNext_0 22 rfl rfl)
theorem dX7_isNext_24 : decode cX7_isNext 24 = .ok (.iload_n 1, 1) := dk_27 (dk_at dksX7_isNext_1 0 rfl rfl)
theorem dX7_isNext_25 : decode cX7_isNext 25 = .ok (.iload_n 2, 1) := dk_28 (dk_at dksX7_isNext_1 1 rfl rfl)
theorem dX7_isNext_26 : decode cX7_isNext 26 = .ok (.if_icmp .eq 51, 3) := dk_159 0 51 (dk_at dksX7_isNext_1 2 rfl rfl)
theorem dX7_isNext_29 : decode cX7_isNext 29 = .ok (.lload 4, 2) := dk_22 4 (dk_at dksX7_isNext_1 5 rfl rfl)
theorem dX7_isNext_31 : decode cX7_isNext 31 = .ok (.ldc2_w 341, 3) := dk_20 1 85 (dk_at dksX7_isNext_1 7 rfl rfl)
theorem dX7_isNext_34 : decode cX7_isNext 34 = .ok (.lcmp, 1) := dk_148 (dk_at dksX7_isNext_1 10 rfl rfl)
theorem dX7_isNext_35 : decode cX7_isNext 35 = .ok (.ifCond .ge 42, 3) := dk_156 0 42 (dk_at dksX7_isNext_1 11 rfl rfl)
theorem dX7_isNext_38 : decode cX7_isNext 38 = .ok (.lload 6, 2) := dk_22 6 (dk_at dksX7_isNext_1 14 rfl rfl)
theorem dX7_isNext_40 : decode cX7_isNext 40 = .ok (.ldc2_w 341, 3) := dk_20 1 85 (dk_at dksX7_isNext_1 16 rfl rfl)
theorem dX7_isNext_43 : decode cX7_isNext 43 = .ok (.lcmp, 1) := dk_148 (dk_at dksX7_isNext_1 19 rfl rfl)
theorem dX7_isNext_44 : decode cX7_isNext 44 = .ok (.ifCond .ge 33, 3) := dk_156 0 33 (dk_at dksX7_isNext_1 20 rfl rfl)
theorem dX7_isNext_47 : decode cX7_isNext 47 = .ok (.aload_n 0, 1) := dk_42 (dk_at dksX7_isNext_1 23 rfl rfl)
theorem dX7_isNext_48 : decode cX7_isNext 48 = .ok (.getfield 362, 3) := dk_180 1 106 (dk_at dksX7_isNext_2 0 rfl rfl)
theorem dX7_isNext_51 : decode cX7_isNext 51 = .ok (.ifCond .ne 22, 3) := dk_154 0 22 (dk_at dksX7_isNext_2 3 rfl rfl)
theorem dX7_isNext_54 : decode cX7_isNext 54 = .ok (.lload 4, 2) := dk_22 4 (dk_at dksX7_isNext_2 6 rfl rfl)
theorem dX7_isNext_56 : decode cX7_isNext 56 = .ok (.lload 6, 2) := dk_22 6 (dk_at dksX7_isNext_2 8 rfl rfl)
theorem dX7_isNext_58 : decode cX7_isNext 58 = .ok (.ladd, 1) := dk_97 (dk_at dksX7_isNext_2 10 rfl rfl)
theorem dX7_isNext_59 : decode cX7_isNext 59 = .ok (.aload_n 0, 1) := dk_42 (dk_at dksX7_isNext_2 11 rfl rfl)
theorem dX7_isNext_60 : decode cX7_isNext 60 = .ok (.getfield 87, 3) := dk_180 0 87 (dk_at dksX7_isNext_2 12 rfl rfl)
theorem dX7_isNext_63 : decode cX7_isNext 63 = .ok (.iload_n 1, 1) := dk_27 (dk_at dksX7_isNext_2 15 rfl rfl)
theorem dX7_isNext_64 : decode cX7_isNext 64 = .ok (.iload_n 3, 1) := dk_29 (dk_at dksX7_isNext_2 16 rfl rfl)
theorem dX7_isNext_65 : decode cX7_isNext 65 = .ok (.invokestatic 345, 3) := dk_184 1 89 (dk_at dksX7_isNext_2 17 rfl rfl)
theorem dX7_isNext_68 : decode cX7_isNext 68 = .ok (.laload, 1) := dk_47 (dk_at dksX7_isNext_2 20 rfl rfl)
theorem dX7_isNext_69 : decode cX7_isNext 69 = .ok (.lcmp, 1) := dk_148 (dk_at dksX7_isNext_2 21 rfl rfl)
theorem dX7_isNext_70 : decode cX7_isNext 70 = .ok (.ifCond .ne 7, 3) := dk_154 0 7 (dk_at dksX7_isNext_3 0 rfl rfl)
theorem dX7_isNext_73 : decode cX7_isNext 73 = .ok (.iconst 1, 1) := dk_4 (dk_at dksX7_isNext_3 3 rfl rfl)
theorem dX7_isNext_74 : decode cX7_isNext 74 = .ok (.goto 4, 3) := dk_167 0 4 (dk_at dksX7_isNext_3 4 rfl rfl)
theorem dX7_isNext_77 : decode cX7_isNext 77 = .ok (.iconst 0, 1) := dk_3 (dk_at dksX7_isNext_3 7 rfl rfl)
theorem dX7_isNext_78 : decode cX7_isNext 78 = .ok (.ireturn, 1) := dk_172 (dk_at dksX7_isNext_3 8 rfl rfl)
abbrev cX7_core : ByteArray := prog_14_method_80_code
def yX7_core : MethodName := ⟨RX7, "core", "()I"⟩
def dkwX7_core_2 : List UInt8 := [16, 254, 159, 0, 7, 28, 167, 0, 4, 27, 60, 132, 2, 1, 167, 255, 204, 27, 172]
abbrev dktX7_core_2 : List UInt8 := dkwX7_core_2 ++ []
def dkwX7_core_1 : List UInt8 := [28, 184, 1, 82, 27, 184, 1, 82, 162, 0, 27, 42, 28, 182, 1, 47, 42, 42, 180, 0, 71, 182, 1, 58]
abbrev dktX7_core_1 : List UInt8 := dkwX7_core_1 ++ dktX7_core_2
def dkwX7_core_0 : List UInt8 := [42, 3, 181, 0, 103, 16, 254, 60, 3, 61, 28, 42, 182, 1, 73, 163, 0, 50, 27, 16, 254, 159, 0, 14]
abbrev dktX7_core_0 : List UInt8 := dkwX7_core_0 ++ dktX7_core_1
theorem dksX7_core_0 : cX7_core.data.toList.drop 0 = dktX7_core_0 := by decide +kernel
theorem dksX7_core_1 : cX7_core.data.toList.drop 24 = dktX7_core_1 := dk_seg dksX7_core_0 24 rfl rfl
theorem dksX7_core_2 : cX7_core.data.toList.drop 48 = dktX7_core_2 := dk_seg dksX7_core_1 24 rfl rfl
theorem dX7_core_0 : decode cX7_core 0 = .ok (.aload_n 0, 1) := dk_42 (dk_at dksX7_core_0 0 rfl rfl)
theorem dX7_core_1 : decode cX7_core 1 = .ok (.iconst 0, 1) := dk_3 (dk_at dksX7_core_0 1 rfl rfl)
theorem dX7_core_2 : decode cX7_core 2 = .ok (.putfield 103, 3) := dk_181 0 103 (dk_at dksX7_core_0 2 rfl rfl)
theorem dX7_core_5 : decode cX7_core 5 = .ok (.bipush (-2), 2) := dk_16 254 (dk_at dksX7_core_0 5 rfl rfl)
theorem dX7_core_7 : decode cX7_core 7 = .ok (.istore_n 1, 1) := dk_60 (dk_at dksX7_core_0 7 rfl rfl)
theorem dX7_core_8 : decode cX7_core 8 = .ok (.iconst 0, 1) := dk_3 (dk_at dksX7_core_0 8 rfl rfl)
theorem dX7_core_9 : decode cX7_core 9 = .ok (.istore_n 2, 1) := dk_61 (dk_at dksX7_core_0 9 rfl rfl)
theorem dX7_core_10 : decode cX7_core 10 = .ok (.iload_n 2, 1) := dk_28 (dk_at dksX7_core_0 10 rfl rfl)
theorem dX7_core_11 : decode cX7_core 11 = .ok (.aload_n 0, 1) := dk_42 (dk_at dksX7_core_0 11 rfl rfl)
theorem dX7_core_12 : decode cX7_core 12 = .ok (.invokevirtual 329, 3) := dk_182 1 73 (dk_at dksX7_core_0 12 rfl rfl)
theorem dX7_core_15 : decode cX7_core 15 = .ok (.if_icmp .gt 50, 3) := dk_163 0 50 (dk_at dksX7_core_0 15 rfl rfl)
theorem dX7_core_18 : decode cX7_core 18 = .ok (.iload_n 1, 1) := dk_27 (dk_at dksX7_core_0 18 rfl rfl)
theorem dX7_core_19 : decode cX7_core 19 = .ok (.bipush (-2), 2) := dk_16 254 (dk_at dksX7_core_0 19 rfl rfl)
theorem dX7_core_21 : decode cX7_core 21 = .ok (.if_icmp .eq 14, 3) := dk_159 0 14 (dk_at dksX7_core_0 21 rfl rfl)
theorem dX7_core_24 : decode cX7_core 24 = .ok (.iload_n 2, 1) := dk_28 (dk_at dksX7_core_1 0 rfl rfl)
theorem dX7_core_25 : decode cX7_core 25 = .ok (.invokestatic 338, 3) := dk_184 1 82 (dk_at dksX7_core_1 1 rfl rfl)
theorem dX7_core_28 : decode cX7_core 28 = .ok (.iload_n 1, 1) := dk_27 (dk_at dksX7_core_1 4 rfl rfl)
theorem dX7_core_29 : decode cX7_core 29 = .ok (.invokestatic 338, 3) := dk_184 1 82 (dk_at dksX7_core_1 5 rfl rfl)
theorem dX7_core_32 : decode cX7_core 32 = .ok (.if_icmp .ge 27, 3) := dk_162 0 27 (dk_at dksX7_core_1 8 rfl rfl)
theorem dX7_core_35 : decode cX7_core 35 = .ok (.aload_n 0, 1) := dk_42 (dk_at dksX7_core_1 11 rfl rfl)
theorem dX7_core_36 : decode cX7_core 36 = .ok (.iload_n 2, 1) := dk_28 (dk_at dksX7_core_1 12 rfl rfl)
theorem dX7_core_37 : decode cX7_core 37 = .ok (.invokevirtual 303, 3) := dk_182 1 47 (dk_at dksX7_core_1 13 rfl rfl)
theorem dX7_core_40 : decode cX7_core 40 = .ok (.aload_n 0, 1) := dk_42 (dk_at dksX7_core_1 16 rfl rfl)
theorem dX7_core_41 : decode cX7_core 41 = .ok (.aload_n 0, 1) := dk_42 (dk_at dksX7_core_1 17 rfl rfl)
theorem dX7_core_42 : decode cX7_core 42 = .ok (.getfield 71, 3) := dk_180 0 71 (dk_at dksX7_core_1 18 rfl rfl)
theorem dX7_core_45 : decode cX7_core 45 = .ok (.invokevirtual 314, 3) := dk_182 1 58 (dk_at dksX7_core_1 21 rfl rfl)
theorem dX7_core_48 : decode cX7_core 48 = .ok (.bipush (-2), 2) := dk_16 254 (dk_at dksX7_core_2 0 rfl rfl)
theorem dX7_core_50 : decode cX7_core 50 = .ok (.if_icmp .eq 7, 3) := dk_159 0 7 (dk_at dksX7_core_2 2 rfl rfl)
theorem dX7_core_53 : decode cX7_core 53 = .ok (.iload_n 2, 1) := dk_28 (dk_at dksX7_core_2 5 rfl rfl)
theorem dX7_core_54 : decode cX7_core 54 = .ok (.goto 4, 3) := dk_167 0 4 (dk_at dksX7_core_2 6 rfl rfl)
theorem dX7_core_57 : decode cX7_core 57 = .ok (.iload_n 1, 1) := dk_27 (dk_at dksX7_core_2 9 rfl rfl)
theorem dX7_core_58 : decode cX7_core 58 = .ok (.istore_n 1, 1) := dk_60 (dk_at dksX7_core_2 10 rfl rfl)
theorem dX7_core_59 : decode cX7_core 59 = .ok (.iinc 2 1, 3) := dk_132 2 1 (dk_at dksX7_core_2 11 rfl rfl)
theorem dX7_core_62 : decode cX7_core 62 = .ok (.goto (-52), 3) := dk_167 255 204 (dk_at dksX7_core_2 14 rfl rfl)
theorem dX7_core_65 : decode cX7_core 65 = .ok (.iload_n 1, 1) := dk_27 (dk_at dksX7_core_2 17 rfl rfl)
theorem dX7_core_66 : decode cX7_core 66 = .ok (.ireturn, 1) := dk_172 (dk_at dksX7_core_2 18 rfl rfl)
abbrev cX7_would : ByteArray := prog_14_method_82_code
def yX7_would : MethodName := ⟨RX7, "would", "(III)I"⟩
def dkwX7_would_4 : List UInt8 := [182, 1, 54, 100, 172]
abbrev dktX7_would_4 : List UInt8 := dkwX7_would_4 ++ []
def dkwX7_would_3 : List UInt8 := [42, 180, 0, 71, 182, 1, 58, 167, 0, 20, 42, 42, 180, 0, 50, 182, 1, 54, 42, 42, 180, 0, 71]
abbrev dktX7_would_3 : List UInt8 := dkwX7_would_3 ++ dktX7_would_4
def dkwX7_would_2 : List UInt8 := [182, 1, 116, 29, 154, 0, 14, 42, 42, 180, 0, 71, 182, 1, 54, 167, 0, 36, 29, 4, 160, 0, 14, 42]
abbrev dktX7_would_2 : List UInt8 := dkwX7_would_2 ++ dktX7_would_3
def dkwX7_would_1 : List UInt8 := [153, 0, 7, 4, 167, 0, 4, 3, 184, 1, 50, 182, 0, 223, 153, 0, 5, 2, 172, 42, 27, 28]
abbrev dktX7_would_1 : List UInt8 := dkwX7_would_1 ++ dktX7_would_2
def dkwX7_would_0 : List UInt8 := [42, 42, 27, 182, 1, 61, 153, 0, 24, 42, 28, 182, 1, 61, 153, 0, 16, 29, 3, 5, 184, 0, 132]
abbrev dktX7_would_0 : List UInt8 := dkwX7_would_0 ++ dktX7_would_1
theorem dksX7_would_0 : cX7_would.data.toList.drop 0 = dktX7_would_0 := by decide +kernel
theorem dksX7_would_1 : cX7_would.data.toList.drop 23 = dktX7_would_1 := dk_seg dksX7_would_0 23 rfl rfl
theorem dksX7_would_2 : cX7_would.data.toList.drop 45 = dktX7_would_2 := dk_seg dksX7_would_1 22 rfl rfl
theorem dksX7_would_3 : cX7_would.data.toList.drop 69 = dktX7_would_3 := dk_seg dksX7_would_2 24 rfl rfl
theorem dksX7_would_4 : cX7_would.data.toList.drop 92 = dktX7_would_4 := dk_seg dksX7_would_3 23 rfl rfl
theorem dX7_would_0 : decode cX7_would 0 = .ok (.aload_n 0, 1) := dk_42 (dk_at dksX7_would_0 0 rfl rfl)
theorem dX7_would_1 : decode cX7_would 1 = .ok (.aload_n 0, 1) := dk_42 (dk_at dksX7_would_0 1 rfl rfl)
theorem dX7_would_2 : decode cX7_would 2 = .ok (.iload_n 1, 1) := dk_27 (dk_at dksX7_would_0 2 rfl rfl)
theorem dX7_would_3 : decode cX7_would 3 = .ok (.invokevirtual 317, 3) := dk_182 1 61 (dk_at dksX7_would_0 3 rfl rfl)
theorem dX7_would_6 : decode cX7_would 6 = .ok (.ifCond .eq 24, 3) := dk_153 0 24 (dk_at dksX7_would_0 6 rfl rfl)
theorem dX7_would_9 : decode cX7_would 9 = .ok (.aload_n 0, 1) := dk_42 (dk_at dksX7_would_0 9 rfl rfl)
theorem dX7_would_10 : decode cX7_would 10 = .ok (.iload_n 2, 1) := dk_28 (dk_at dksX7_would_0 10 rfl rfl)
theorem dX7_would_11 : decode cX7_would 11 = .ok (.invokevirtual 317, 3) := dk_182 1 61 (dk_at dksX7_would_0 11 rfl rfl)
theorem dX7_would_14 : decode cX7_would 14 = .ok (.ifCond .eq 16, 3) := dk_153 0 16 (dk_at dksX7_would_0 14 rfl rfl)
theorem dX7_would_17 : decode cX7_would 17 = .ok (.iload_n 3, 1) := dk_29 (dk_at dksX7_would_0 17 rfl rfl)
theorem dX7_would_18 : decode cX7_would 18 = .ok (.iconst 0, 1) := dk_3 (dk_at dksX7_would_0 18 rfl rfl)
theorem dX7_would_19 : decode cX7_would 19 = .ok (.iconst 2, 1) := dk_5 (dk_at dksX7_would_0 19 rfl rfl)
theorem dX7_would_20 : decode cX7_would 20 = .ok (.invokestatic 132, 3) := dk_184 0 132 (dk_at dksX7_would_0 20 rfl rfl)
theorem dX7_would_23 : decode cX7_would 23 = .ok (.ifCond .eq 7, 3) := dk_153 0 7 (dk_at dksX7_would_1 0 rfl rfl)
theorem dX7_would_26 : decode cX7_would 26 = .ok (.iconst 1, 1) := dk_4 (dk_at dksX7_would_1 3 rfl rfl)
theorem dX7_would_27 : decode cX7_would 27 = .ok (.goto 4, 3) := dk_167 0 4 (dk_at dksX7_would_1 4 rfl rfl)
theorem dX7_would_30 : decode cX7_would 30 = .ok (.iconst 0, 1) := dk_3 (dk_at dksX7_would_1 7 rfl rfl)
theorem dX7_would_31 : decode cX7_would 31 = .ok (.invokestatic 306, 3) := dk_184 1 50 (dk_at dksX7_would_1 8 rfl rfl)
theorem dX7_would_34 : decode cX7_would 34 = .ok (.invokevirtual 223, 3) := dk_182 0 223 (dk_at dksX7_would_1 11 rfl rfl)
theorem dX7_would_37 : decode cX7_would 37 = .ok (.ifCond .eq 5, 3) := dk_153 0 5 (dk_at dksX7_would_1 14 rfl rfl)
theorem dX7_would_40 : decode cX7_would 40 = .ok (.iconst (-1), 1) := dk_2 (dk_at dksX7_would_1 17 rfl rfl)
theorem dX7_would_41 : decode cX7_would 41 = .ok (.ireturn, 1) := dk_172 (dk_at dksX7_would_1 18 rfl rfl)
theorem dX7_would_42 : decode cX7_would 42 = .ok (.aload_n 0, 1) := dk_42 (dk_at dksX7_would_1 19 rfl rfl)
theorem dX7_would_43 : decode cX7_would 43 = .ok (.iload_n 1, 1) := dk_27 (dk_at dksX7_would_1 20 rfl rfl)
theorem dX7_would_44 : decode cX7_would 44 = .ok (.iload_n 2, 1) := dk_28 (dk_at dksX7_would_1 21 rfl rfl)
theorem dX7_would_45 : decode cX7_would 45 = .ok (.invokevirtual 372, 3) := dk_182 1 116 (dk_at dksX7_would_2 0 rfl rfl)
theorem dX7_would_48 : decode cX7_would 48 = .ok (.iload_n 3, 1) := dk_29 (dk_at dksX7_would_2 3 rfl rfl)
theorem dX7_would_49 : decode cX7_would 49 = .ok (.ifCond .ne 14, 3) := dk_154 0 14 (dk_at dksX7_would_2 4 rfl rfl)
theorem dX7_would_52 : decode cX7_would 52 = .ok (.aload_n 0, 1) := dk_42 (dk_at dksX7_would_2 7 rfl rfl)
theorem dX7_would_53 : decode cX7_would 53 = .ok (.aload_n 0, 1) := dk_42 (dk_at dksX7_would_2 8 rfl rfl)
theorem dX7_would_54 : decode cX7_would 54 = .ok (.getfield 71, 3) := dk_180 0 71 (dk_at dksX7_would_2 9 rfl rfl)
theorem dX7_would_57 : decode cX7_would 57 = .ok (.invokevirtual 310, 3) := dk_182 1 54 (dk_at dksX7_would_2 12 rfl rfl)
theorem dX7_would_60 : decode cX7_would 60 = .ok (.goto 36, 3) := dk_167 0 36 (dk_at dksX7_would_2 15 rfl rfl)
theorem dX7_would_63 : decode cX7_would 63 = .ok (.iload_n 3, 1) := dk_29 (dk_at dksX7_would_2 18 rfl rfl)
theorem dX7_would_64 : decode cX7_would 64 = .ok (.iconst 1, 1) := dk_4 (dk_at dksX7_would_2 19 rfl rfl)
theorem dX7_would_65 : decode cX7_would 65 = .ok (.if_icmp .ne 14, 3) := dk_160 0 14 (dk_at dksX7_would_2 20 rfl rfl)
theorem dX7_would_68 : decode cX7_would 68 = .ok (.aload_n 0, 1) := dk_42 (dk_at dksX7_would_2 23 rfl rfl)
theorem dX7_would_69 : decode cX7_would 69 = .ok (.aload_n 0, 1) := dk_42 (dk_at dksX7_would_3 0 rfl rfl)
theorem dX7_would_70 : decode cX7_would 70 = .ok (.getfield 71, 3) := dk_180 0 71 (dk_at dksX7_would_3 1 rfl rfl)
theorem dX7_would_73 : decode cX7_would 73 = .ok (.invokevirtual 314, 3) := dk_182 1 58 (dk_at dksX7_would_3 4 rfl rfl)
theorem dX7_would_76 : decode cX7_would 76 = .ok (.goto 20, 3) := dk_167 0 20 (dk_at dksX7_would_3 7 rfl rfl)
theorem dX7_would_79 : decode cX7_would 79 = .ok (.aload_n 0, 1) := dk_42 (dk_at dksX7_would_3 10 rfl rfl)
theorem dX7_would_80 : decode cX7_would 80 = .ok (.aload_n 0, 1) := dk_42 (dk_at dksX7_would_3 11 rfl rfl)
theorem dX7_would_81 : decode cX7_would 81 = .ok (.getfield 50, 3) := dk_180 0 50 (dk_at dksX7_would_3 12 rfl rfl)
theorem dX7_would_84 : decode cX7_would 84 = .ok (.invokevirtual 310, 3) := dk_182 1 54 (dk_at dksX7_would_3 15 rfl rfl)
theorem dX7_would_87 : decode cX7_would 87 = .ok (.aload_n 0, 1) := dk_42 (dk_at dksX7_would_3 18 rfl rfl)
theorem dX7_would_88 : decode cX7_would 88 = .ok (.aload_n 0, 1) := dk_42 (dk_at dksX7_would_3 19 rfl rfl)
theorem dX7_would_89 : decode cX7_would 89 = .ok (.getfield 71, 3) := dk_180 0 71 (dk_at dksX7_would_3 20 rfl rfl)
theorem dX7_would_92 : decode cX7_would 92 = .ok (.invokevirtual 310, 3) := dk_182 1 54 (dk_at dksX7_would_4 0 rfl rfl)
theorem dX7_would_95 : decode cX7_would 95 = .ok (.isub, 1) := dk_100 (dk_at dksX7_would_4 3 rfl rfl)
theorem dX7_would_96 : decode cX7_would 96 = .ok (.ireturn, 1) := dk_172 (dk_at dksX7_would_4 4 rfl rfl)
abbrev cX7_closesWith : ByteArray := prog_14_method_81_code
def yX7_closesWith : MethodName := ⟨RX7, "closesWith", "(II)V"⟩
def dkwX7_closesWith_1 : List UInt8 := [182, 1, 73, 4, 42, 180, 1, 31, 120, 128, 182, 1, 47, 177]
abbrev dktX7_closesWith_1 : List UInt8 := dkwX7_closesWith_1 ++ []
def dkwX7_closesWith_0 : List UInt8 := [42, 180, 0, 38, 42, 180, 1, 31, 27, 79, 42, 180, 0, 41, 42, 180, 1, 31, 28, 79, 42, 42]
abbrev dktX7_closesWith_0 : List UInt8 := dkwX7_closesWith_0 ++ dktX7_closesWith_1
theorem dksX7_closesWith_0 : cX7_closesWith.data.toList.drop 0 = dktX7_closesWith_0 := by decide +kernel
theorem dksX7_closesWith_1 : cX7_closesWith.data.toList.drop 22 = dktX7_closesWith_1 := dk_seg dksX7_closesWith_0 22 rfl rfl
theorem dX7_closesWith_0 : decode cX7_closesWith 0 = .ok (.aload_n 0, 1) := dk_42 (dk_at dksX7_closesWith_0 0 rfl rfl)
theorem dX7_closesWith_1 : decode cX7_closesWith 1 = .ok (.getfield 38, 3) := dk_180 0 38 (dk_at dksX7_closesWith_0 1 rfl rfl)
theorem dX7_closesWith_4 : decode cX7_closesWith 4 = .ok (.aload_n 0, 1) := dk_42 (dk_at dksX7_closesWith_0 4 rfl rfl)
theorem dX7_closesWith_5 : decode cX7_closesWith 5 = .ok (.getfield 287, 3) := dk_180 1 31 (dk_at dksX7_closesWith_0 5 rfl rfl)
theorem dX7_closesWith_8 : decode cX7_closesWith 8 = .ok (.iload_n 1, 1) := dk_27 (dk_at dksX7_closesWith_0 8 rfl rfl)
theorem dX7_closesWith_9 : decode cX7_closesWith 9 = .ok (.iastore, 1) := dk_79 (dk_at dksX7_closesWith_0 9 rfl rfl)
theorem dX7_closesWith_10 : decode cX7_closesWith 10 = .ok (.aload_n 0, 1) := dk_42 (dk_at dksX7_closesWith_0 10 rfl rfl)
theorem dX7_closesWith_11 : decode cX7_closesWith 11 = .ok (.getfield 41, 3) := dk_180 0 41 (dk_at dksX7_closesWith_0 11 rfl rfl)
theorem dX7_closesWith_14 : decode cX7_closesWith 14 = .ok (.aload_n 0, 1) := dk_42 (dk_at dksX7_closesWith_0 14 rfl rfl)
theorem dX7_closesWith_15 : decode cX7_closesWith 15 = .ok (.getfield 287, 3) := dk_180 1 31 (dk_at dksX7_closesWith_0 15 rfl rfl)
theorem dX7_closesWith_18 : decode cX7_closesWith 18 = .ok (.iload_n 2, 1) := dk_28 (dk_at dksX7_closesWith_0 18 rfl rfl)
theorem dX7_closesWith_19 : decode cX7_closesWith 19 = .ok (.iastore, 1) := dk_79 (dk_at dksX7_closesWith_0 19 rfl rfl)
theorem dX7_closesWith_20 : decode cX7_closesWith 20 = .ok (.aload_n 0, 1) := dk_42 (dk_at dksX7_closesWith_0 20 rfl rfl)
theorem dX7_closesWith_21 : decode cX7_closesWith 21 = .ok (.aload_n 0, 1) := dk_42 (dk_at dksX7_closesWith_0 21 rfl rfl)
theorem dX7_closesWith_22 : decode cX7_closesWith 22 = .ok (.invokevirtual 329, 3) := dk_182 1 73 (dk_at dksX7_closesWith_1 0 rfl rfl)
theorem dX7_closesWith_25 : decode cX7_closesWith 25 = .ok (.iconst 1, 1) := dk_4 (dk_at dksX7_closesWith_1 3 rfl rfl)
theorem dX7_closesWith_26 : decode cX7_closesWith 26 = .ok (.aload_n 0, 1) := dk_42 (dk_at dksX7_closesWith_1 4 rfl rfl)
theorem dX7_closesWith_27 : decode cX7_closesWith 27 = .ok (.getfield 287, 3) := dk_180 1 31 (dk_at dksX7_closesWith_1 5 rfl rfl)
theorem dX7_closesWith_30 : decode cX7_closesWith 30 = .ok (.ishl, 1) := dk_120 (dk_at dksX7_closesWith_1 8 rfl rfl)
theorem dX7_closesWith_31 : decode cX7_closesWith 31 = .ok (.ior, 1) := dk_128 (dk_at dksX7_closesWith_1 9 rfl rfl)
theorem dX7_closesWith_32 : decode cX7_closesWith 32 = .ok (.invokevirtual 303, 3) := dk_182 1 47 (dk_at dksX7_closesWith_1 10 rfl rfl)
theorem dX7_closesWith_35 : decode cX7_closesWith 35 = .ok (.return_, 1) := dk_177 (dk_at dksX7_closesWith_1 13 rfl rfl)
abbrev cX7_next : ByteArray := prog_14_method_86_code
def yX7_next : MethodName := ⟨RX7, "next", "(IIII)I"⟩
def dkwX7_next_4 : List UInt8 := [154, 0, 7, 4, 167, 0, 4, 3, 172]
abbrev dktX7_next_4 : List UInt8 := dkwX7_next_4 ++ []
def dkwX7_next_3 : List UInt8 := [180, 0, 97, 29, 46, 167, 0, 27, 21, 4, 4, 160, 0, 12, 42, 180, 0, 100, 29, 46, 167, 0, 12, 29]
abbrev dktX7_next_3 : List UInt8 := dkwX7_next_3 ++ dktX7_next_4
def dkwX7_next_2 : List UInt8 := [27, 28, 182, 1, 128, 29, 42, 180, 1, 119, 161, 0, 6, 16, 254, 172, 21, 4, 154, 0, 12, 42]
abbrev dktX7_next_2 : List UInt8 := dkwX7_next_2 ++ dktX7_next_3
def dkwX7_next_1 : List UInt8 := [5, 184, 0, 132, 153, 0, 7, 4, 167, 0, 4, 3, 184, 1, 50, 182, 0, 223, 153, 0, 5, 2, 172, 42]
abbrev dktX7_next_1 : List UInt8 := dkwX7_next_1 ++ dktX7_next_2
def dkwX7_next_0 : List UInt8 := [42, 42, 27, 182, 1, 61, 153, 0, 29, 42, 28, 182, 1, 61, 153, 0, 21, 29, 155, 0, 17, 21, 4, 3]
abbrev dktX7_next_0 : List UInt8 := dkwX7_next_0 ++ dktX7_next_1
theorem dksX7_next_0 : cX7_next.data.toList.drop 0 = dktX7_next_0 := by decide +kernel
theorem dksX7_next_1 : cX7_next.data.toList.drop 24 = dktX7_next_1 := dk_seg dksX7_next_0 24 rfl rfl
theorem dksX7_next_2 : cX7_next.data.toList.drop 48 = dktX7_next_2 := dk_seg dksX7_next_1 24 rfl rfl
theorem dksX7_next_3 : cX7_next.data.toList.drop 70 = dktX7_next_3 := dk_seg dksX7_next_2 22 rfl rfl
theorem dksX7_next_4 : cX7_next.data.toList.drop 94 = dktX7_next_4 := dk_seg dksX7_next_3 24 rfl rfl
theorem dX7_next_0 : decode cX7_next 0 = .ok (.aload_n 0, 1) := dk_42 (dk_at dksX7_next_0 0 rfl rfl)
theorem dX7_next_1 : decode cX7_next 1 = .ok (.aload_n 0, 1) := dk_42 (dk_at dksX7_next_0 1 rfl rfl)
theorem dX7_next_2 : decode cX7_next 2 = .ok (.iload_n 1, 1) := dk_27 (dk_at dksX7_next_0 2 rfl rfl)
theorem dX7_next_3 : decode cX7_next 3 = .ok (.invokevirtual 317, 3) := dk_182 1 61 (dk_at dksX7_next_0 3 rfl rfl)
theorem dX7_next_6 : decode cX7_next 6 = .ok (.ifCond .eq 29, 3) := dk_153 0 29 (dk_at dksX7_next_0 6 rfl rfl)
theorem dX7_next_9 : decode cX7_next 9 = .ok (.aload_n 0, 1) := dk_42 (dk_at dksX7_next_0 9 rfl rfl)
theorem dX7_next_10 : decode cX7_next 10 = .ok (.iload_n 2, 1) := dk_28 (dk_at dksX7_next_0 10 rfl rfl)
theorem dX7_next_11 : decode cX7_next 11 = .ok (.invokevirtual 317, 3) := dk_182 1 61 (dk_at dksX7_next_0 11 rfl rfl)
theorem dX7_next_14 : decode cX7_next 14 = .ok (.ifCond .eq 21, 3) := dk_153 0 21 (dk_at dksX7_next_0 14 rfl rfl)
theorem dX7_next_17 : decode cX7_next 17 = .ok (.iload_n 3, 1) := dk_29 (dk_at dksX7_next_0 17 rfl rfl)
theorem dX7_next_18 : decode cX7_next 18 = .ok (.ifCond .lt 17, 3) := dk_155 0 17 (dk_at dksX7_next_0 18 rfl rfl)
theorem dX7_next_21 : decode cX7_next 21 = .ok (.iload 4, 2) := dk_21 4 (dk_at dksX7_next_0 21 rfl rfl)
theorem dX7_next_23 : decode cX7_next 23 = .ok (.iconst 0, 1) := dk_3 (dk_at dksX7_next_0 23 rfl rfl)
theorem dX7_next_24 : decode cX7_next 24 = .ok (.iconst 2, 1) := dk_5 (dk_at dksX7_next_1 0 rfl rfl)
theorem dX7_next_25 : decode cX7_next 25 = .ok (.invokestatic 132, 3) := dk_184 0 132 (dk_at dksX7_next_1 1 rfl rfl)
theorem dX7_next_28 : decode cX7_next 28 = .ok (.ifCond .eq 7, 3) := dk_153 0 7 (dk_at dksX7_next_1 4 rfl rfl)
theorem dX7_next_31 : decode cX7_next 31 = .ok (.iconst 1, 1) := dk_4 (dk_at dksX7_next_1 7 rfl rfl)
theorem dX7_next_32 : decode cX7_next 32 = .ok (.goto 4, 3) := dk_167 0 4 (dk_at dksX7_next_1 8 rfl rfl)
theorem dX7_next_35 : decode cX7_next 35 = .ok (.iconst 0, 1) := dk_3 (dk_at dksX7_next_1 11 rfl rfl)
theorem dX7_next_36 : decode cX7_next 36 = .ok (.invokestatic 306, 3) := dk_184 1 50 (dk_at dksX7_next_1 12 rfl rfl)
theorem dX7_next_39 : decode cX7_next 39 = .ok (.invokevirtual 223, 3) := dk_182 0 223 (dk_at dksX7_next_1 15 rfl rfl)
theorem dX7_next_42 : decode cX7_next 42 = .ok (.ifCond .eq 5, 3) := dk_153 0 5 (dk_at dksX7_next_1 18 rfl rfl)
theorem dX7_next_45 : decode cX7_next 45 = .ok (.iconst (-1), 1) := dk_2 (dk_at dksX7_next_1 21 rfl rfl)
theorem dX7_next_46 : decode cX7_next 46 = .ok (.ireturn, 1) := dk_172 (dk_at dksX7_next_1 22 rfl rfl)
theorem dX7_next_47 : decode cX7_next 47 = .ok (.aload_n 0, 1) := dk_42 (dk_at dksX7_next_1 23 rfl rfl)
theorem dX7_next_48 : decode cX7_next 48 = .ok (.iload_n 1, 1) := dk_27 (dk_at dksX7_next_2 0 rfl rfl)
theorem dX7_next_49 : decode cX7_next 49 = .ok (.iload_n 2, 1) := dk_28 (dk_at dksX7_next_2 1 rfl rfl)
theorem dX7_next_50 : decode cX7_next 50 = .ok (.invokevirtual 384, 3) := dk_182 1 128 (dk_at dksX7_next_2 2 rfl rfl)
theorem dX7_next_53 : decode cX7_next 53 = .ok (.iload_n 3, 1) := dk_29 (dk_at dksX7_next_2 5 rfl rfl)
theorem dX7_next_54 : decode cX7_next 54 = .ok (.aload_n 0, 1) := dk_42 (dk_at dksX7_next_2 6 rfl rfl)
theorem dX7_next_55 : decode cX7_next 55 = .ok (.getfield 375, 3) := dk_180 1 119 (dk_at dksX7_next_2 7 rfl rfl)
theorem dX7_next_58 : decode cX7_next 58 = .ok (.if_icmp .lt 6, 3) := dk_161 0 6 (dk_at dksX7_next_2 10 rfl rfl)
theorem dX7_next_61 : decode cX7_next 61 = .ok (.bipush (-2), 2) := dk_16 254 (dk_at dksX7_next_2 13 rfl rfl)
theorem dX7_next_63 : decode cX7_next 63 = .ok (.ireturn, 1) := dk_172 (dk_at dksX7_next_2 15 rfl rfl)
theorem dX7_next_64 : decode cX7_next 64 = .ok (.iload 4, 2) := dk_21 4 (dk_at dksX7_next_2 16 rfl rfl)
theorem dX7_next_66 : decode cX7_next 66 = .ok (.ifCond .ne 12, 3) := dk_154 0 12 (dk_at dksX7_next_2 18 rfl rfl)
theorem dX7_next_69 : decode cX7_next 69 = .ok (.aload_n 0, 1) := dk_42 (dk_at dksX7_next_2 21 rfl rfl)
theorem dX7_next_70 : decode cX7_next 70 = .ok (.getfield 97, 3) := dk_180 0 97 (dk_at dksX7_next_3 0 rfl rfl)
theorem dX7_next_73 : decode cX7_next 73 = .ok (.iload_n 3, 1) := dk_29 (dk_at dksX7_next_3 3 rfl rfl)
theorem dX7_next_74 : decode cX7_next 74 = .ok (.iaload, 1) := dk_46 (dk_at dksX7_next_3 4 rfl rfl)
theorem dX7_next_75 : decode cX7_next 75 = .ok (.goto 27, 3) := dk_167 0 27 (dk_at dksX7_next_3 5 rfl rfl)
theorem dX7_next_78 : decode cX7_next 78 = .ok (.iload 4, 2) := dk_21 4 (dk_at dksX7_next_3 8 rfl rfl)
theorem dX7_next_80 : decode cX7_next 80 = .ok (.iconst 1, 1) := dk_4 (dk_at dksX7_next_3 10 rfl rfl)
theorem dX7_next_81 : decode cX7_next 81 = .ok (.if_icmp .ne 12, 3) := dk_160 0 12 (dk_at dksX7_next_3 11 rfl rfl)
theorem dX7_next_84 : decode cX7_next 84 = .ok (.aload_n 0, 1) := dk_42 (dk_at dksX7_next_3 14 rfl rfl)
theorem dX7_next_85 : decode cX7_next 85 = .ok (.getfield 100, 3) := dk_180 0 100 (dk_at dksX7_next_3 15 rfl rfl)
theorem dX7_next_88 : decode cX7_next 88 = .ok (.iload_n 3, 1) := dk_29 (dk_at dksX7_next_3 18 rfl rfl)
theorem dX7_next_89 : decode cX7_next 89 = .ok (.iaload, 1) := dk_46 (dk_at dksX7_next_3 19 rfl rfl)
theorem dX7_next_90 : decode cX7_next 90 = .ok (.goto 12, 3) := dk_167 0 12 (dk_at dksX7_next_3 20 rfl rfl)
theorem dX7_next_93 : decode cX7_next 93 = .ok (.iload_n 3, 1) := dk_29 (dk_at dksX7_next_3 23 rfl rfl)
theorem dX7_next_94 : decode cX7_next 94 = .ok (.ifCond .ne 7, 3) := dk_154 0 7 (dk_at dksX7_next_4 0 rfl rfl)
theorem dX7_next_97 : decode cX7_next 97 = .ok (.iconst 1, 1) := dk_4 (dk_at dksX7_next_4 3 rfl rfl)
theorem dX7_next_98 : decode cX7_next 98 = .ok (.goto 4, 3) := dk_167 0 4 (dk_at dksX7_next_4 4 rfl rfl)
theorem dX7_next_101 : decode cX7_next 101 = .ok (.iconst 0, 1) := dk_3 (dk_at dksX7_next_4 7 rfl rfl)
theorem dX7_next_102 : decode cX7_next 102 = .ok (.ireturn, 1) := dk_172 (dk_at dksX7_next_4 8 rfl rfl)
abbrev cX7_laysNext : ByteArray := prog_14_method_85_code
def yX7_laysNext : MethodName := ⟨RX7, "laysNext", "(II)V"⟩
def dkwX7_laysNext_3 : List UInt8 := [177]
abbrev dktX7_laysNext_3 : List UInt8 := dkwX7_laysNext_3 ++ []
def dkwX7_laysNext_2 : List UInt8 := [160, 0, 4, 177, 42, 27, 28, 182, 1, 122, 4, 62, 29, 153, 0, 11, 42, 182, 1, 125, 62, 167, 255, 247]
abbrev dktX7_laysNext_2 : List UInt8 := dkwX7_laysNext_2 ++ dktX7_laysNext_3
def dkwX7_laysNext_1 : List UInt8 := [132, 3, 1, 167, 255, 233, 42, 3, 181, 1, 119, 42, 180, 0, 71, 27, 46, 42, 180, 0, 71, 28, 46]
abbrev dktX7_laysNext_1 : List UInt8 := dkwX7_laysNext_1 ++ dktX7_laysNext_2
def dkwX7_laysNext_0 : List UInt8 := [3, 62, 29, 42, 180, 0, 250, 162, 0, 21, 42, 180, 0, 71, 29, 42, 180, 0, 50, 29, 46, 79]
abbrev dktX7_laysNext_0 : List UInt8 := dkwX7_laysNext_0 ++ dktX7_laysNext_1
theorem dksX7_laysNext_0 : cX7_laysNext.data.toList.drop 0 = dktX7_laysNext_0 := by decide +kernel
theorem dksX7_laysNext_1 : cX7_laysNext.data.toList.drop 22 = dktX7_laysNext_1 := dk_seg dksX7_laysNext_0 22 rfl rfl
theorem dksX7_laysNext_2 : cX7_laysNext.data.toList.drop 45 = dktX7_laysNext_2 := dk_seg dksX7_laysNext_1 23 rfl rfl
theorem dksX7_laysNext_3 : cX7_laysNext.data.toList.drop 69 = dktX7_laysNext_3 := dk_seg dksX7_laysNext_2 24 rfl rfl
theorem dX7_laysNext_0 : decode cX7_laysNext 0 = .ok (.iconst 0, 1) := dk_3 (dk_at dksX7_laysNext_0 0 rfl rfl)
theorem dX7_laysNext_1 : decode cX7_laysNext 1 = .ok (.istore_n 3, 1) := dk_62 (dk_at dksX7_laysNext_0 1 rfl rfl)
theorem dX7_laysNext_2 : decode cX7_laysNext 2 = .ok (.iload_n 3, 1) := dk_29 (dk_at dksX7_laysNext_0 2 rfl rfl)
theorem dX7_laysNext_3 : decode cX7_laysNext 3 = .ok (.aload_n 0, 1) := dk_42 (dk_at dksX7_laysNext_0 3 rfl rfl)
theorem dX7_laysNext_4 : decode cX7_laysNext 4 = .ok (.getfield 250, 3) := dk_180 0 250 (dk_at dksX7_laysNext_0 4 rfl rfl)
theorem dX7_laysNext_7 : decode cX7_laysNext 7 = .ok (.if_icmp .ge 21, 3) := dk_162 0 21 (dk_at dksX7_laysNext_0 7 rfl rfl)
theorem dX7_laysNext_10 : decode cX7_laysNext 10 = .ok (.aload_n 0, 1) := dk_42 (dk_at dksX7_laysNext_0 10 rfl rfl)
theorem dX7_laysNext_11 : decode cX7_laysNext 11 = .ok (.getfield 71, 3) := dk_180 0 71 (dk_at dksX7_laysNext_0 11 rfl rfl)
theorem dX7_laysNext_14 : decode cX7_laysNext 14 = .ok (.iload_n 3, 1) := dk_29 (dk_at dksX7_laysNext_0 14 rfl rfl)
theorem dX7_laysNext_15 : decode cX7_laysNext 15 = .ok (.aload_n 0, 1) := dk_42 (dk_at dksX7_laysNext_0 15 rfl rfl)
theorem dX7_laysNext_16 : decode cX7_laysNext 16 = .ok (.getfield 50, 3) := dk_180 0 50 (dk_at dksX7_laysNext_0 16 rfl rfl)
theorem dX7_laysNext_19 : decode cX7_laysNext 19 = .ok (.iload_n 3, 1) := dk_29 (dk_at dksX7_laysNext_0 19 rfl rfl)
theorem dX7_laysNext_20 : decode cX7_laysNext 20 = .ok (.iaload, 1) := dk_46 (dk_at dksX7_laysNext_0 20 rfl rfl)
theorem dX7_laysNext_21 : decode cX7_laysNext 21 = .ok (.iastore, 1) := dk_79 (dk_at dksX7_laysNext_0 21 rfl rfl)
theorem dX7_laysNext_22 : decode cX7_laysNext 22 = .ok (.iinc 3 1, 3) := dk_132 3 1 (dk_at dksX7_laysNext_1 0 rfl rfl)
theorem dX7_laysNext_25 : decode cX7_laysNext 25 = .ok (.goto (-23), 3) := dk_167 255 233 (dk_at dksX7_laysNext_1 3 rfl rfl)
theorem dX7_laysNext_28 : decode cX7_laysNext 28 = .ok (.aload_n 0, 1) := dk_42 (dk_at dksX7_laysNext_1 6 rfl rfl)
theorem dX7_laysNext_29 : decode cX7_laysNext 29 = .ok (.iconst 0, 1) := dk_3 (dk_at dksX7_laysNext_1 7 rfl rfl)
theorem dX7_laysNext_30 : decode cX7_laysNext 30 = .ok (.putfield 375, 3) := dk_181 1 119 (dk_at dksX7_laysNext_1 8 rfl rfl)
theorem dX7_laysNext_33 : decode cX7_laysNext 33 = .ok (.aload_n 0, 1) := dk_42 (dk_at dksX7_laysNext_1 11 rfl rfl)
theorem dX7_laysNext_34 : decode cX7_laysNext 34 = .ok (.getfield 71, 3) := dk_180 0 71 (dk_at dksX7_laysNext_1 12 rfl rfl)
theorem dX7_laysNext_37 : decode cX7_laysNext 37 = .ok (.iload_n 1, 1) := dk_27 (dk_at dksX7_laysNext_1 15 rfl rfl)
theorem dX7_laysNext_38 : decode cX7_laysNext 38 = .ok (.iaload, 1) := dk_46 (dk_at dksX7_laysNext_1 16 rfl rfl)
theorem dX7_laysNext_39 : decode cX7_laysNext 39 = .ok (.aload_n 0, 1) := dk_42 (dk_at dksX7_laysNext_1 17 rfl rfl)
theorem dX7_laysNext_40 : decode cX7_laysNext 40 = .ok (.getfield 71, 3) := dk_180 0 71 (dk_at dksX7_laysNext_1 18 rfl rfl)
theorem dX7_laysNext_43 : decode cX7_laysNext 43 = .ok (.iload_n 2, 1) := dk_28 (dk_at dksX7_laysNext_1 21 rfl rfl)
theorem dX7_laysNext_44 : decode cX7_laysNext 44 = .ok (.iaload, 1) := dk_46 (dk_at dksX7_laysNext_1 22 rfl rfl)
theorem dX7_laysNext_45 : decode cX7_laysNext 45 = .ok (.if_icmp .ne 4, 3) := dk_160 0 4 (dk_at dksX7_laysNext_2 0 rfl rfl)
theorem dX7_laysNext_48 : decode cX7_laysNext 48 = .ok (.return_, 1) := dk_177 (dk_at dksX7_laysNext_2 3 rfl rfl)
theorem dX7_laysNext_49 : decode cX7_laysNext 49 = .ok (.aload_n 0, 1) := dk_42 (dk_at dksX7_laysNext_2 4 rfl rfl)
theorem dX7_laysNext_50 : decode cX7_laysNext 50 = .ok (.iload_n 1, 1) := dk_27 (dk_at dksX7_laysNext_2 5 rfl rfl)
theorem dX7_laysNext_51 : decode cX7_laysNext 51 = .ok (.iload_n 2, 1) := dk_28 (dk_at dksX7_laysNext_2 6 rfl rfl)
theorem dX7_laysNext_52 : decode cX7_laysNext 52 = .ok (.invokevirtual 378, 3) := dk_182 1 122 (dk_at dksX7_laysNext_2 7 rfl rfl)
theorem dX7_laysNext_55 : decode cX7_laysNext 55 = .ok (.iconst 1, 1) := dk_4 (dk_at dksX7_laysNext_2 10 rfl rfl)
theorem dX7_laysNext_56 : decode cX7_laysNext 56 = .ok (.istore_n 3, 1) := dk_62 (dk_at dksX7_laysNext_2 11 rfl rfl)
theorem dX7_laysNext_57 : decode cX7_laysNext 57 = .ok (.iload_n 3, 1) := dk_29 (dk_at dksX7_laysNext_2 12 rfl rfl)
theorem dX7_laysNext_58 : decode cX7_laysNext 58 = .ok (.ifCond .eq 11, 3) := dk_153 0 11 (dk_at dksX7_laysNext_2 13 rfl rfl)
theorem dX7_laysNext_61 : decode cX7_laysNext 61 = .ok (.aload_n 0, 1) := dk_42 (dk_at dksX7_laysNext_2 16 rfl rfl)
theorem dX7_laysNext_62 : decode cX7_laysNext 62 = .ok (.invokevirtual 381, 3) := dk_182 1 125 (dk_at dksX7_laysNext_2 17 rfl rfl)
theorem dX7_laysNext_65 : decode cX7_laysNext 65 = .ok (.istore_n 3, 1) := dk_62 (dk_at dksX7_laysNext_2 20 rfl rfl)
theorem dX7_laysNext_66 : decode cX7_laysNext 66 = .ok (.goto (-9), 3) := dk_167 255 247 (dk_at dksX7_laysNext_2 21 rfl rfl)
theorem dX7_laysNext_69 : decode cX7_laysNext 69 = .ok (.return_, 1) := dk_177 (dk_at dksX7_laysNext_3 0 rfl rfl)
abbrev cX7_nextJoin : ByteArray := prog_14_method_83_code
def yX7_nextJoin : MethodName := ⟨RX7, "nextJoin", "(II)V"⟩
def dkwX7_nextJoin_1 : List UInt8 := [180, 1, 119, 4, 96, 181, 1, 119, 42, 42, 180, 0, 71, 27, 28, 182, 1, 13, 177]
abbrev dktX7_nextJoin_1 : List UInt8 := dkwX7_nextJoin_1 ++ []
def dkwX7_nextJoin_0 : List UInt8 := [42, 180, 0, 97, 42, 180, 1, 119, 27, 79, 42, 180, 0, 100, 42, 180, 1, 119, 28, 79, 42, 89]
abbrev dktX7_nextJoin_0 : List UInt8 := dkwX7_nextJoin_0 ++ dktX7_nextJoin_1
theorem dksX7_nextJoin_0 : cX7_nextJoin.data.toList.drop 0 = dktX7_nextJoin_0 := by decide +kernel
theorem dksX7_nextJoin_1 : cX7_nextJoin.data.toList.drop 22 = dktX7_nextJoin_1 := dk_seg dksX7_nextJoin_0 22 rfl rfl
theorem dX7_nextJoin_0 : decode cX7_nextJoin 0 = .ok (.aload_n 0, 1) := dk_42 (dk_at dksX7_nextJoin_0 0 rfl rfl)
theorem dX7_nextJoin_1 : decode cX7_nextJoin 1 = .ok (.getfield 97, 3) := dk_180 0 97 (dk_at dksX7_nextJoin_0 1 rfl rfl)
theorem dX7_nextJoin_4 : decode cX7_nextJoin 4 = .ok (.aload_n 0, 1) := dk_42 (dk_at dksX7_nextJoin_0 4 rfl rfl)
theorem dX7_nextJoin_5 : decode cX7_nextJoin 5 = .ok (.getfield 375, 3) := dk_180 1 119 (dk_at dksX7_nextJoin_0 5 rfl rfl)
theorem dX7_nextJoin_8 : decode cX7_nextJoin 8 = .ok (.iload_n 1, 1) := dk_27 (dk_at dksX7_nextJoin_0 8 rfl rfl)
theorem dX7_nextJoin_9 : decode cX7_nextJoin 9 = .ok (.iastore, 1) := dk_79 (dk_at dksX7_nextJoin_0 9 rfl rfl)
theorem dX7_nextJoin_10 : decode cX7_nextJoin 10 = .ok (.aload_n 0, 1) := dk_42 (dk_at dksX7_nextJoin_0 10 rfl rfl)
theorem dX7_nextJoin_11 : decode cX7_nextJoin 11 = .ok (.getfield 100, 3) := dk_180 0 100 (dk_at dksX7_nextJoin_0 11 rfl rfl)
theorem dX7_nextJoin_14 : decode cX7_nextJoin 14 = .ok (.aload_n 0, 1) := dk_42 (dk_at dksX7_nextJoin_0 14 rfl rfl)
theorem dX7_nextJoin_15 : decode cX7_nextJoin 15 = .ok (.getfield 375, 3) := dk_180 1 119 (dk_at dksX7_nextJoin_0 15 rfl rfl)
theorem dX7_nextJoin_18 : decode cX7_nextJoin 18 = .ok (.iload_n 2, 1) := dk_28 (dk_at dksX7_nextJoin_0 18 rfl rfl)
theorem dX7_nextJoin_19 : decode cX7_nextJoin 19 = .ok (.iastore, 1) := dk_79 (dk_at dksX7_nextJoin_0 19 rfl rfl)
theorem dX7_nextJoin_20 : decode cX7_nextJoin 20 = .ok (.aload_n 0, 1) := dk_42 (dk_at dksX7_nextJoin_0 20 rfl rfl)
theorem dX7_nextJoin_21 : decode cX7_nextJoin 21 = .ok (.dup, 1) := dk_89 (dk_at dksX7_nextJoin_0 21 rfl rfl)
theorem dX7_nextJoin_22 : decode cX7_nextJoin 22 = .ok (.getfield 375, 3) := dk_180 1 119 (dk_at dksX7_nextJoin_1 0 rfl rfl)
theorem dX7_nextJoin_25 : decode cX7_nextJoin 25 = .ok (.iconst 1, 1) := dk_4 (dk_at dksX7_nextJoin_1 3 rfl rfl)
theorem dX7_nextJoin_26 : decode cX7_nextJoin 26 = .ok (.iadd, 1) := dk_96 (dk_at dksX7_nextJoin_1 4 rfl rfl)
theorem dX7_nextJoin_27 : decode cX7_nextJoin 27 = .ok (.putfield 375, 3) := dk_181 1 119 (dk_at dksX7_nextJoin_1 5 rfl rfl)
theorem dX7_nextJoin_30 : decode cX7_nextJoin 30 = .ok (.aload_n 0, 1) := dk_42 (dk_at dksX7_nextJoin_1 8 rfl rfl)
theorem dX7_nextJoin_31 : decode cX7_nextJoin 31 = .ok (.aload_n 0, 1) := dk_42 (dk_at dksX7_nextJoin_1 9 rfl rfl)
theorem dX7_nextJoin_32 : decode cX7_nextJoin 32 = .ok (.getfield 71, 3) := dk_180 0 71 (dk_at dksX7_nextJoin_1 10 rfl rfl)
theorem dX7_nextJoin_35 : decode cX7_nextJoin 35 = .ok (.iload_n 1, 1) := dk_27 (dk_at dksX7_nextJoin_1 13 rfl rfl)
theorem dX7_nextJoin_36 : decode cX7_nextJoin 36 = .ok (.iload_n 2, 1) := dk_28 (dk_at dksX7_nextJoin_1 14 rfl rfl)
theorem dX7_nextJoin_37 : decode cX7_nextJoin 37 = .ok (.invokevirtual 269, 3) := dk_182 1 13 (dk_at dksX7_nextJoin_1 15 rfl rfl)
theorem dX7_nextJoin_40 : decode cX7_nextJoin 40 = .ok (.return_, 1) := dk_177 (dk_at dksX7_nextJoin_1 18 rfl rfl)
abbrev cX7_nextByParts : ByteArray := prog_14_method_84_code
def yX7_nextByParts : MethodName := ⟨RX7, "nextByParts", "()Z"⟩
def dkwX7_nextByParts_3 : List UInt8 := [172]
abbrev dktX7_nextByParts_3 : List UInt8 := dkwX7_nextByParts_3 ++ []
def dkwX7_nextByParts_2 : List UInt8 := [153, 0, 11, 42, 27, 28, 182, 1, 122, 4, 172, 132, 2, 1, 167, 255, 209, 132, 1, 1, 167, 255, 191, 3]
abbrev dktX7_nextByParts_2 : List UInt8 := dkwX7_nextByParts_2 ++ dktX7_nextByParts_3
def dkwX7_nextByParts_1 : List UInt8 := [180, 0, 71, 27, 46, 42, 180, 0, 71, 28, 46, 159, 0, 24, 42, 42, 180, 0, 71, 27, 28, 182, 1, 17]
abbrev dktX7_nextByParts_1 : List UInt8 := dkwX7_nextByParts_1 ++ dktX7_nextByParts_2
def dkwX7_nextByParts_0 : List UInt8 := [3, 60, 27, 42, 180, 0, 250, 162, 0, 63, 27, 4, 96, 61, 28, 42, 180, 0, 250, 162, 0, 45, 42]
abbrev dktX7_nextByParts_0 : List UInt8 := dkwX7_nextByParts_0 ++ dktX7_nextByParts_1
theorem dksX7_nextByParts_0 : cX7_nextByParts.data.toList.drop 0 = dktX7_nextByParts_0 := by decide +kernel
theorem dksX7_nextByParts_1 : cX7_nextByParts.data.toList.drop 23 = dktX7_nextByParts_1 := dk_seg dksX7_nextByParts_0 23 rfl rfl
theorem dksX7_nextByParts_2 : cX7_nextByParts.data.toList.drop 47 = dktX7_nextByParts_2 := dk_seg dksX7_nextByParts_1 24 rfl rfl
theorem dksX7_nextByParts_3 : cX7_nextByParts.data.toList.drop 71 = dktX7_nextByParts_3 := dk_seg dksX7_nextByParts_2 24 rfl rfl
theorem dX7_nextByParts_0 : decode cX7_nextByParts 0 = .ok (.iconst 0, 1) := dk_3 (dk_at dksX7_nextByParts_0 0 rfl rfl)
theorem dX7_nextByParts_1 : decode cX7_nextByParts 1 = .ok (.istore_n 1, 1) := dk_60 (dk_at dksX7_nextByParts_0 1 rfl rfl)
theorem dX7_nextByParts_2 : decode cX7_nextByParts 2 = .ok (.iload_n 1, 1) := dk_27 (dk_at dksX7_nextByParts_0 2 rfl rfl)
theorem dX7_nextByParts_3 : decode cX7_nextByParts 3 = .ok (.aload_n 0, 1) := dk_42 (dk_at dksX7_nextByParts_0 3 rfl rfl)
theorem dX7_nextByParts_4 : decode cX7_nextByParts 4 = .ok (.getfield 250, 3) := dk_180 0 250 (dk_at dksX7_nextByParts_0 4 rfl rfl)
theorem dX7_nextByParts_7 : decode cX7_nextByParts 7 = .ok (.if_icmp .ge 63, 3) := dk_162 0 63 (dk_at dksX7_nextByParts_0 7 rfl rfl)
theorem dX7_nextByParts_10 : decode cX7_nextByParts 10 = .ok (.iload_n 1, 1) := dk_27 (dk_at dksX7_nextByParts_0 10 rfl rfl)
theorem dX7_nextByParts_11 : decode cX7_nextByParts 11 = .ok (.iconst 1, 1) := dk_4 (dk_at dksX7_nextByParts_0 11 rfl rfl)
theorem dX7_nextByParts_12 : decode cX7_nextByParts 12 = .ok (.iadd, 1) := dk_96 (dk_at dksX7_nextByParts_0 12 rfl rfl)
theorem dX7_nextByParts_13 : decode cX7_nextByParts 13 = .ok (.istore_n 2, 1) := dk_61 (dk_at dksX7_nextByParts_0 13 rfl rfl)
theorem dX7_nextByParts_14 : decode cX7_nextByParts 14 = .ok (.iload_n 2, 1) := dk_28 (dk_at dksX7_nextByParts_0 14 rfl rfl)
theorem dX7_nextByParts_15 : decode cX7_nextByParts 15 = .ok (.aload_n 0, 1) := dk_42 (dk_at dksX7_nextByParts_0 15 rfl rfl)
theorem dX7_nextByParts_16 : decode cX7_nextByParts 16 = .ok (.getfield 250, 3) := dk_180 0 250 (dk_at dksX7_nextByParts_0 16 rfl rfl)
theorem dX7_nextByParts_19 : decode cX7_nextByParts 19 = .ok (.if_icmp .ge 45, 3) := dk_162 0 45 (dk_at dksX7_nextByParts_0 19 rfl rfl)
theorem dX7_nextByParts_22 : decode cX7_nextByParts 22 = .ok (.aload_n 0, 1) := dk_42 (dk_at dksX7_nextByParts_0 22 rfl rfl)
theorem dX7_nextByParts_23 : decode cX7_nextByParts 23 = .ok (.getfield 71, 3) := dk_180 0 71 (dk_at dksX7_nextByParts_1 0 rfl rfl)
theorem dX7_nextByParts_26 : decode cX7_nextByParts 26 = .ok (.iload_n 1, 1) := dk_27 (dk_at dksX7_nextByParts_1 3 rfl rfl)
theorem dX7_nextByParts_27 : decode cX7_nextByParts 27 = .ok (.iaload, 1) := dk_46 (dk_at dksX7_nextByParts_1 4 rfl rfl)
theorem dX7_nextByParts_28 : decode cX7_nextByParts 28 = .ok (.aload_n 0, 1) := dk_42 (dk_at dksX7_nextByParts_1 5 rfl rfl)
theorem dX7_nextByParts_29 : decode cX7_nextByParts 29 = .ok (.getfield 71, 3) := dk_180 0 71 (dk_at dksX7_nextByParts_1 6 rfl rfl)
theorem dX7_nextByParts_32 : decode cX7_nextByParts 32 = .ok (.iload_n 2, 1) := dk_28 (dk_at dksX7_nextByParts_1 9 rfl rfl)
theorem dX7_nextByParts_33 : decode cX7_nextByParts 33 = .ok (.iaload, 1) := dk_46 (dk_at dksX7_nextByParts_1 10 rfl rfl)
theorem dX7_nextByParts_34 : decode cX7_nextByParts 34 = .ok (.if_icmp .eq 24, 3) := dk_159 0 24 (dk_at dksX7_nextByParts_1 11 rfl rfl)
theorem dX7_nextByParts_37 : decode cX7_nextByParts 37 = .ok (.aload_n 0, 1) := dk_42 (dk_at dksX7_nextByParts_1 14 rfl rfl)
theorem dX7_nextByParts_38 : decode cX7_nextByParts 38 = .ok (.aload_n 0, 1) := dk_42 (dk_at dksX7_nextByParts_1 15 rfl rfl)
theorem dX7_nextByParts_39 : decode cX7_nextByParts 39 = .ok (.getfield 71, 3) := dk_180 0 71 (dk_at dksX7_nextByParts_1 16 rfl rfl)
theorem dX7_nextByParts_42 : decode cX7_nextByParts 42 = .ok (.iload_n 1, 1) := dk_27 (dk_at dksX7_nextByParts_1 19 rfl rfl)
theorem dX7_nextByParts_43 : decode cX7_nextByParts 43 = .ok (.iload_n 2, 1) := dk_28 (dk_at dksX7_nextByParts_1 20 rfl rfl)
theorem dX7_nextByParts_44 : decode cX7_nextByParts 44 = .ok (.invokevirtual 273, 3) := dk_182 1 17 (dk_at dksX7_nextByParts_1 21 rfl rfl)
theorem dX7_nextByParts_47 : decode cX7_nextByParts 47 = .ok (.ifCond .eq 11, 3) := dk_153 0 11 (dk_at dksX7_nextByParts_2 0 rfl rfl)
theorem dX7_nextByParts_50 : decode cX7_nextByParts 50 = .ok (.aload_n 0, 1) := dk_42 (dk_at dksX7_nextByParts_2 3 rfl rfl)
theorem dX7_nextByParts_51 : decode cX7_nextByParts 51 = .ok (.iload_n 1, 1) := dk_27 (dk_at dksX7_nextByParts_2 4 rfl rfl)
theorem dX7_nextByParts_52 : decode cX7_nextByParts 52 = .ok (.iload_n 2, 1) := dk_28 (dk_at dksX7_nextByParts_2 5 rfl rfl)
theorem dX7_nextByParts_53 : decode cX7_nextByParts 53 = .ok (.invokevirtual 378, 3) := dk_182 1 122 (dk_at dksX7_nextByParts_2 6 rfl rfl)
theorem dX7_nextByParts_56 : decode cX7_nextByParts 56 = .ok (.iconst 1, 1) := dk_4 (dk_at dksX7_nextByParts_2 9 rfl rfl)
theorem dX7_nextByParts_57 : decode cX7_nextByParts 57 = .ok (.ireturn, 1) := dk_172 (dk_at dksX7_nextByParts_2 10 rfl rfl)
theorem dX7_nextByParts_58 : decode cX7_nextByParts 58 = .ok (.iinc 2 1, 3) := dk_132 2 1 (dk_at dksX7_nextByParts_2 11 rfl rfl)
theorem dX7_nextByParts_61 : decode cX7_nextByParts 61 = .ok (.goto (-47), 3) := dk_167 255 209 (dk_at dksX7_nextByParts_2 14 rfl rfl)
theorem dX7_nextByParts_64 : decode cX7_nextByParts 64 = .ok (.iinc 1 1, 3) := dk_132 1 1 (dk_at dksX7_nextByParts_2 17 rfl rfl)
theorem dX7_nextByParts_67 : decode cX7_nextByParts 67 = .ok (.goto (-65), 3) := dk_167 255 191 (dk_at dksX7_nextByParts_2 20 rfl rfl)
theorem dX7_nextByParts_70 : decode cX7_nextByParts 70 = .ok (.iconst 0, 1) := dk_3 (dk_at dksX7_nextByParts_2 23 rfl rfl)
theorem dX7_nextByParts_71 : decode cX7_nextByParts 71 = .ok (.ireturn, 1) := dk_172 (dk_at dksX7_nextByParts_3 0 rfl rfl)
abbrev cX7_without : ByteArray := prog_14_method_87_code
def yX7_without : MethodName := ⟨RX7, "without", "(II)I"⟩
def dkwX7_without_3 : List UInt8 := [180, 0, 71, 182, 1, 58, 172]
abbrev dktX7_without_3 : List UInt8 := dkwX7_without_3 ++ []
def dkwX7_without_2 : List UInt8 := [2, 130, 126, 182, 1, 47, 28, 154, 0, 14, 42, 42, 180, 0, 71, 182, 1, 54, 167, 0, 11, 42, 42]
abbrev dktX7_without_2 : List UInt8 := dkwX7_without_2 ++ dktX7_without_3
def dkwX7_without_1 : List UInt8 := [4, 167, 0, 4, 3, 184, 1, 50, 182, 0, 223, 153, 0, 5, 2, 172, 42, 42, 182, 1, 73, 4, 27, 120]
abbrev dktX7_without_1 : List UInt8 := dkwX7_without_1 ++ dktX7_without_2
def dkwX7_without_0 : List UInt8 := [42, 27, 3, 42, 180, 1, 31, 4, 100, 184, 0, 132, 153, 0, 16, 28, 3, 4, 184, 0, 132, 153, 0, 7]
abbrev dktX7_without_0 : List UInt8 := dkwX7_without_0 ++ dktX7_without_1
theorem dksX7_without_0 : cX7_without.data.toList.drop 0 = dktX7_without_0 := by decide +kernel
theorem dksX7_without_1 : cX7_without.data.toList.drop 24 = dktX7_without_1 := dk_seg dksX7_without_0 24 rfl rfl
theorem dksX7_without_2 : cX7_without.data.toList.drop 48 = dktX7_without_2 := dk_seg dksX7_without_1 24 rfl rfl
theorem dksX7_without_3 : cX7_without.data.toList.drop 71 = dktX7_without_3 := dk_seg dksX7_without_2 23 rfl rfl
theorem dX7_without_0 : decode cX7_without 0 = .ok (.aload_n 0, 1) := dk_42 (dk_at dksX7_without_0 0 rfl rfl)
theorem dX7_without_1 : decode cX7_without 1 = .ok (.iload_n 1, 1) := dk_27 (dk_at dksX7_without_0 1 rfl rfl)
theorem dX7_without_2 : decode cX7_without 2 = .ok (.iconst 0, 1) := dk_3 (dk_at dksX7_without_0 2 rfl rfl)
theorem dX7_without_3 : decode cX7_without 3 = .ok (.aload_n 0, 1) := dk_42 (dk_at dksX7_without_0 3 rfl rfl)
theorem dX7_without_4 : decode cX7_without 4 = .ok (.getfield 287, 3) := dk_180 1 31 (dk_at dksX7_without_0 4 rfl rfl)
theorem dX7_without_7 : decode cX7_without 7 = .ok (.iconst 1, 1) := dk_4 (dk_at dksX7_without_0 7 rfl rfl)
theorem dX7_without_8 : decode cX7_without 8 = .ok (.isub, 1) := dk_100 (dk_at dksX7_without_0 8 rfl rfl)
theorem dX7_without_9 : decode cX7_without 9 = .ok (.invokestatic 132, 3) := dk_184 0 132 (dk_at dksX7_without_0 9 rfl rfl)
theorem dX7_without_12 : decode cX7_without 12 = .ok (.ifCond .eq 16, 3) := dk_153 0 16 (dk_at dksX7_without_0 12 rfl rfl)
theorem dX7_without_15 : decode cX7_without 15 = .ok (.iload_n 2, 1) := dk_28 (dk_at dksX7_without_0 15 rfl rfl)
theorem dX7_without_16 : decode cX7_without 16 = .ok (.iconst 0, 1) := dk_3 (dk_at dksX7_without_0 16 rfl rfl)
theorem dX7_without_17 : decode cX7_without 17 = .ok (.iconst 1, 1) := dk_4 (dk_at dksX7_without_0 17 rfl rfl)
theorem dX7_without_18 : decode cX7_without 18 = .ok (.invokestatic 132, 3) := dk_184 0 132 (dk_at dksX7_without_0 18 rfl rfl)
theorem dX7_without_21 : decode cX7_without 21 = .ok (.ifCond .eq 7, 3) := dk_153 0 7 (dk_at dksX7_without_0 21 rfl rfl)
theorem dX7_without_24 : decode cX7_without 24 = .ok (.iconst 1, 1) := dk_4 (dk_at dksX7_without_1 0 rfl rfl)
theorem dX7_without_25 : decode cX7_without 25 = .ok (.goto 4, 3) := dk_167 0 4 (dk_at dksX7_without_1 1 rfl rfl)
theorem dX7_without_28 : decode cX7_without 28 = .ok (.iconst 0, 1) := dk_3 (dk_at dksX7_without_1 4 rfl rfl)
theorem dX7_without_29 : decode cX7_without 29 = .ok (.invokestatic 306, 3) := dk_184 1 50 (dk_at dksX7_without_1 5 rfl rfl)
theorem dX7_without_32 : decode cX7_without 32 = .ok (.invokevirtual 223, 3) := dk_182 0 223 (dk_at dksX7_without_1 8 rfl rfl)
theorem dX7_without_35 : decode cX7_without 35 = .ok (.ifCond .eq 5, 3) := dk_153 0 5 (dk_at dksX7_without_1 11 rfl rfl)
theorem dX7_without_38 : decode cX7_without 38 = .ok (.iconst (-1), 1) := dk_2 (dk_at dksX7_without_1 14 rfl rfl)
theorem dX7_without_39 : decode cX7_without 39 = .ok (.ireturn, 1) := dk_172 (dk_at dksX7_without_1 15 rfl rfl)
theorem dX7_without_40 : decode cX7_without 40 = .ok (.aload_n 0, 1) := dk_42 (dk_at dksX7_without_1 16 rfl rfl)
theorem dX7_without_41 : decode cX7_without 41 = .ok (.aload_n 0, 1) := dk_42 (dk_at dksX7_without_1 17 rfl rfl)
theorem dX7_without_42 : decode cX7_without 42 = .ok (.invokevirtual 329, 3) := dk_182 1 73 (dk_at dksX7_without_1 18 rfl rfl)
theorem dX7_without_45 : decode cX7_without 45 = .ok (.iconst 1, 1) := dk_4 (dk_at dksX7_without_1 21 rfl rfl)
theorem dX7_without_46 : decode cX7_without 46 = .ok (.iload_n 1, 1) := dk_27 (dk_at dksX7_without_1 22 rfl rfl)
theorem dX7_without_47 : decode cX7_without 47 = .ok (.ishl, 1) := dk_120 (dk_at dksX7_without_1 23 rfl rfl)
theorem dX7_without_48 : decode cX7_without 48 = .ok (.iconst (-1), 1) := dk_2 (dk_at dksX7_without_2 0 rfl rfl)
theorem dX7_without_49 : decode cX7_without 49 = .ok (.ixor, 1) := dk_130 (dk_at dksX7_without_2 1 rfl rfl)
theorem dX7_without_50 : decode cX7_without 50 = .ok (.iand, 1) := dk_126 (dk_at dksX7_without_2 2 rfl rfl)
theorem dX7_without_51 : decode cX7_without 51 = .ok (.invokevirtual 303, 3) := dk_182 1 47 (dk_at dksX7_without_2 3 rfl rfl)
theorem dX7_without_54 : decode cX7_without 54 = .ok (.iload_n 2, 1) := dk_28 (dk_at dksX7_without_2 6 rfl rfl)
theorem dX7_without_55 : decode cX7_without 55 = .ok (.ifCond .ne 14, 3) := dk_154 0 14 (dk_at dksX7_without_2 7 rfl rfl)
theorem dX7_without_58 : decode cX7_without 58 = .ok (.aload_n 0, 1) := dk_42 (dk_at dksX7_without_2 10 rfl rfl)
theorem dX7_without_59 : decode cX7_without 59 = .ok (.aload_n 0, 1) := dk_42 (dk_at dksX7_without_2 11 rfl rfl)
theorem dX7_without_60 : decode cX7_without 60 = .ok (.getfield 71, 3) := dk_180 0 71 (dk_at dksX7_without_2 12 rfl rfl)
theorem dX7_without_63 : decode cX7_without 63 = .ok (.invokevirtual 310, 3) := dk_182 1 54 (dk_at dksX7_without_2 15 rfl rfl)
theorem dX7_without_66 : decode cX7_without 66 = .ok (.goto 11, 3) := dk_167 0 11 (dk_at dksX7_without_2 18 rfl rfl)
theorem dX7_without_69 : decode cX7_without 69 = .ok (.aload_n 0, 1) := dk_42 (dk_at dksX7_without_2 21 rfl rfl)
theorem dX7_without_70 : decode cX7_without 70 = .ok (.aload_n 0, 1) := dk_42 (dk_at dksX7_without_2 22 rfl rfl)
theorem dX7_without_71 : decode cX7_without 71 = .ok (.getfield 71, 3) := dk_180 0 71 (dk_at dksX7_without_3 0 rfl rfl)
theorem dX7_without_74 : decode cX7_without 74 = .ok (.invokevirtual 314, 3) := dk_182 1 58 (dk_at dksX7_without_3 3 rfl rfl)
theorem dX7_without_77 : decode cX7_without 77 = .ok (.ireturn, 1) := dk_172 (dk_at dksX7_without_3 6 rfl rfl)
abbrev cX7_free : ByteArray := prog_14_method_88_code
def yX7_free : MethodName := ⟨RX7, "free", "()I"⟩
def dkwX7_free_3 : List UInt8 := [132, 3, 1, 167, 255, 203, 132, 2, 1, 167, 255, 185, 27, 172]
abbrev dktX7_free_3 : List UInt8 := dkwX7_free_3 ++ []
def dkwX7_free_2 : List UInt8 := [182, 1, 116, 27, 42, 42, 180, 0, 71, 182, 1, 58, 16, 254, 160, 0, 7, 4, 167, 0, 4, 3, 96, 60]
abbrev dktX7_free_2 : List UInt8 := dkwX7_free_2 ++ dktX7_free_3
def dkwX7_free_1 : List UInt8 := [180, 0, 250, 162, 0, 51, 42, 180, 0, 50, 28, 46, 42, 180, 0, 50, 29, 46, 159, 0, 30, 42, 28, 29]
abbrev dktX7_free_1 : List UInt8 := dkwX7_free_1 ++ dktX7_free_2
def dkwX7_free_0 : List UInt8 := [42, 3, 181, 0, 103, 3, 60, 3, 61, 28, 42, 180, 0, 250, 162, 0, 69, 28, 4, 96, 62, 29, 42]
abbrev dktX7_free_0 : List UInt8 := dkwX7_free_0 ++ dktX7_free_1
theorem dksX7_free_0 : cX7_free.data.toList.drop 0 = dktX7_free_0 := by decide +kernel
theorem dksX7_free_1 : cX7_free.data.toList.drop 23 = dktX7_free_1 := dk_seg dksX7_free_0 23 rfl rfl
theorem dksX7_free_2 : cX7_free.data.toList.drop 47 = dktX7_free_2 := dk_seg dksX7_free_1 24 rfl rfl
theorem dksX7_free_3 : cX7_free.data.toList.drop 71 = dktX7_free_3 := dk_seg dksX7_free_2 24 rfl rfl
theorem dX7_free_0 : decode cX7_free 0 = .ok (.aload_n 0, 1) := dk_42 (dk_at dksX7_free_0 0 rfl rfl)
theorem dX7_free_1 : decode cX7_free 1 = .ok (.iconst 0, 1) := dk_3 (dk_at dksX7_free_0 1 rfl rfl)
theorem dX7_free_2 : decode cX7_free 2 = .ok (.putfield 103, 3) := dk_181 0 103 (dk_at dksX7_free_0 2 rfl rfl)
theorem dX7_free_5 : decode cX7_free 5 = .ok (.iconst 0, 1) := dk_3 (dk_at dksX7_free_0 5 rfl rfl)
theorem dX7_free_6 : decode cX7_free 6 = .ok (.istore_n 1, 1) := dk_60 (dk_at dksX7_free_0 6 rfl rfl)
theorem dX7_free_7 : decode cX7_free 7 = .ok (.iconst 0, 1) := dk_3 (dk_at dksX7_free_0 7 rfl rfl)
theorem dX7_free_8 : decode cX7_free 8 = .ok (.istore_n 2, 1) := dk_61 (dk_at dksX7_free_0 8 rfl rfl)
theorem dX7_free_9 : decode cX7_free 9 = .ok (.iload_n 2, 1) := dk_28 (dk_at dksX7_free_0 9 rfl rfl)
theorem dX7_free_10 : decode cX7_free 10 = .ok (.aload_n 0, 1) := dk_42 (dk_at dksX7_free_0 10 rfl rfl)
theorem dX7_free_11 : decode cX7_free 11 = .ok (.getfield 250, 3) := dk_180 0 250 (dk_at dksX7_free_0 11 rfl rfl)
theorem dX7_free_14 : decode cX7_free 14 = .ok (.if_icmp .ge 69, 3) := dk_162 0 69 (dk_at dksX7_free_0 14 rfl rfl)
theorem dX7_free_17 : decode cX7_free 17 = .ok (.iload_n 2, 1) := dk_28 (dk_at dksX7_free_0 17 rfl rfl)
theorem dX7_free_18 : decode cX7_free 18 = .ok (.iconst 1, 1) := dk_4 (dk_at dksX7_free_0 18 rfl rfl)
theorem dX7_free_19 : decode cX7_free 19 = .ok (.iadd, 1) := dk_96 (dk_at dksX7_free_0 19 rfl rfl)
theorem dX7_free_20 : decode cX7_free 20 = .ok (.istore_n 3, 1) := dk_62 (dk_at dksX7_free_0 20 rfl rfl)
theorem dX7_free_21 : decode cX7_free 21 = .ok (.iload_n 3, 1) := dk_29 (dk_at dksX7_free_0 21 rfl rfl)
theorem dX7_free_22 : decode cX7_free 22 = .ok (.aload_n 0, 1) := dk_42 (dk_at dksX7_free_0 22 rfl rfl)
theorem dX7_free_23 : decode cX7_free 23 = .ok (.getfield 250, 3) := dk_180 0 250 (dk_at dksX7_free_1 0 rfl rfl)
theorem dX7_free_26 : decode cX7_free 26 = .ok (.if_icmp .ge 51, 3) := dk_162 0 51 (dk_at dksX7_free_1 3 rfl rfl)
theorem dX7_free_29 : decode cX7_free 29 = .ok (.aload_n 0, 1) := dk_42 (dk_at dksX7_free_1 6 rfl rfl)
theorem dX7_free_30 : decode cX7_free 30 = .ok (.getfield 50, 3) := dk_180 0 50 (dk_at dksX7_free_1 7 rfl rfl)
theorem dX7_free_33 : decode cX7_free 33 = .ok (.iload_n 2, 1) := dk_28 (dk_at dksX7_free_1 10 rfl rfl)
theorem dX7_free_34 : decode cX7_free 34 = .ok (.iaload, 1) := dk_46 (dk_at dksX7_free_1 11 rfl rfl)
theorem dX7_free_35 : decode cX7_free 35 = .ok (.aload_n 0, 1) := dk_42 (dk_at dksX7_free_1 12 rfl rfl)
theorem dX7_free_36 : decode cX7_free 36 = .ok (.getfield 50, 3) := dk_180 0 50 (dk_at dksX7_free_1 13 rfl rfl)
theorem dX7_free_39 : decode cX7_free 39 = .ok (.iload_n 3, 1) := dk_29 (dk_at dksX7_free_1 16 rfl rfl)
theorem dX7_free_40 : decode cX7_free 40 = .ok (.iaload, 1) := dk_46 (dk_at dksX7_free_1 17 rfl rfl)
theorem dX7_free_41 : decode cX7_free 41 = .ok (.if_icmp .eq 30, 3) := dk_159 0 30 (dk_at dksX7_free_1 18 rfl rfl)
theorem dX7_free_44 : decode cX7_free 44 = .ok (.aload_n 0, 1) := dk_42 (dk_at dksX7_free_1 21 rfl rfl)
theorem dX7_free_45 : decode cX7_free 45 = .ok (.iload_n 2, 1) := dk_28 (dk_at dksX7_free_1 22 rfl rfl)
theorem dX7_free_46 : decode cX7_free 46 = .ok (.iload_n 3, 1) := dk_29 (dk_at dksX7_free_1 23 rfl rfl)
theorem dX7_free_47 : decode cX7_free 47 = .ok (.invokevirtual 372, 3) := dk_182 1 116 (dk_at dksX7_free_2 0 rfl rfl)
theorem dX7_free_50 : decode cX7_free 50 = .ok (.iload_n 1, 1) := dk_27 (dk_at dksX7_free_2 3 rfl rfl)
theorem dX7_free_51 : decode cX7_free 51 = .ok (.aload_n 0, 1) := dk_42 (dk_at dksX7_free_2 4 rfl rfl)
theorem dX7_free_52 : decode cX7_free 52 = .ok (.aload_n 0, 1) := dk_42 (dk_at dksX7_free_2 5 rfl rfl)
theorem dX7_free_53 : decode cX7_free 53 = .ok (.getfield 71, 3) := dk_180 0 71 (dk_at dksX7_free_2 6 rfl rfl)
theorem dX7_free_56 : decode cX7_free 56 = .ok (.invokevirtual 314, 3) := dk_182 1 58 (dk_at dksX7_free_2 9 rfl rfl)
theorem dX7_free_59 : decode cX7_free 59 = .ok (.bipush (-2), 2) := dk_16 254 (dk_at dksX7_free_2 12 rfl rfl)
theorem dX7_free_61 : decode cX7_free 61 = .ok (.if_icmp .ne 7, 3) := dk_160 0 7 (dk_at dksX7_free_2 14 rfl rfl)
theorem dX7_free_64 : decode cX7_free 64 = .ok (.iconst 1, 1) := dk_4 (dk_at dksX7_free_2 17 rfl rfl)
theorem dX7_free_65 : decode cX7_free 65 = .ok (.goto 4, 3) := dk_167 0 4 (dk_at dksX7_free_2 18 rfl rfl)
theorem dX7_free_68 : decode cX7_free 68 = .ok (.iconst 0, 1) := dk_3 (dk_at dksX7_free_2 21 rfl rfl)
theorem dX7_free_69 : decode cX7_free 69 = .ok (.iadd, 1) := dk_96 (dk_at dksX7_free_2 22 rfl rfl)
theorem dX7_free_70 : decode cX7_free 70 = .ok (.istore_n 1, 1) := dk_60 (dk_at dksX7_free_2 23 rfl rfl)
theorem dX7_free_71 : decode cX7_free 71 = .ok (.iinc 3 1, 3) := dk_132 3 1 (dk_at dksX7_free_3 0 rfl rfl)
theorem dX7_free_74 : decode cX7_free 74 = .ok (.goto (-53), 3) := dk_167 255 203 (dk_at dksX7_free_3 3 rfl rfl)
theorem dX7_free_77 : decode cX7_free 77 = .ok (.iinc 2 1, 3) := dk_132 2 1 (dk_at dksX7_free_3 6 rfl rfl)
theorem dX7_free_80 : decode cX7_free 80 = .ok (.goto (-71), 3) := dk_167 255 185 (dk_at dksX7_free_3 9 rfl rfl)
theorem dX7_free_83 : decode cX7_free 83 = .ok (.iload_n 1, 1) := dk_27 (dk_at dksX7_free_3 12 rfl rfl)
theorem dX7_free_84 : decode cX7_free 84 = .ok (.ireturn, 1) := dk_172 (dk_at dksX7_free_3 13 rfl rfl)
abbrev cX7_join : ByteArray := prog_14_method_91_code
def yX7_join : MethodName := ⟨RX7, "join", "(II)I"⟩
def dkwX7_join_1 : List UInt8 := [153, 0, 5, 2, 172, 42, 4, 27, 28, 3, 3, 182, 1, 135, 42, 42, 180, 0, 50, 182, 1, 54, 172]
abbrev dktX7_join_1 : List UInt8 := dkwX7_join_1 ++ []
def dkwX7_join_0 : List UInt8 := [42, 42, 27, 28, 42, 180, 1, 31, 16, 12, 160, 0, 7, 4, 167, 0, 4, 3, 182, 1, 131, 182, 0, 223]
abbrev dktX7_join_0 : List UInt8 := dkwX7_join_0 ++ dktX7_join_1
theorem dksX7_join_0 : cX7_join.data.toList.drop 0 = dktX7_join_0 := by decide +kernel
theorem dksX7_join_1 : cX7_join.data.toList.drop 24 = dktX7_join_1 := dk_seg dksX7_join_0 24 rfl rfl
theorem dX7_join_0 : decode cX7_join 0 = .ok (.aload_n 0, 1) := dk_42 (dk_at dksX7_join_0 0 rfl rfl)
theorem dX7_join_1 : decode cX7_join 1 = .ok (.aload_n 0, 1) := dk_42 (dk_at dksX7_join_0 1 rfl rfl)
theorem dX7_join_2 : decode cX7_join 2 = .ok (.iload_n 1, 1) := dk_27 (dk_at dksX7_join_0 2 rfl rfl)
theorem dX7_join_3 : decode cX7_join 3 = .ok (.iload_n 2, 1) := dk_28 (dk_at dksX7_join_0 3 rfl rfl)
theorem dX7_join_4 : decode cX7_join 4 = .ok (.aload_n 0, 1) := dk_42 (dk_at dksX7_join_0 4 rfl rfl)
theorem dX7_join_5 : decode cX7_join 5 = .ok (.getfield 287, 3) := dk_180 1 31 (dk_at dksX7_join_0 5 rfl rfl)
theorem dX7_join_8 : decode cX7_join 8 = .ok (.bipush 12, 2) := dk_16 12 (dk_at dksX7_join_0 8 rfl rfl)
theorem dX7_join_10 : decode cX7_join 10 = .ok (.if_icmp .ne 7, 3) := dk_160 0 7 (dk_at dksX7_join_0 10 rfl rfl)
theorem dX7_join_13 : decode cX7_join 13 = .ok (.iconst 1, 1) := dk_4 (dk_at dksX7_join_0 13 rfl rfl)
theorem dX7_join_14 : decode cX7_join 14 = .ok (.goto 4, 3) := dk_167 0 4 (dk_at dksX7_join_0 14 rfl rfl)
theorem dX7_join_17 : decode cX7_join 17 = .ok (.iconst 0, 1) := dk_3 (dk_at dksX7_join_0 17 rfl rfl)
theorem dX7_join_18 : decode cX7_join 18 = .ok (.invokevirtual 387, 3) := dk_182 1 131 (dk_at dksX7_join_0 18 rfl rfl)
theorem dX7_join_21 : decode cX7_join 21 = .ok (.invokevirtual 223, 3) := dk_182 0 223 (dk_at dksX7_join_0 21 rfl rfl)
theorem dX7_join_24 : decode cX7_join 24 = .ok (.ifCond .eq 5, 3) := dk_153 0 5 (dk_at dksX7_join_1 0 rfl rfl)
theorem dX7_join_27 : decode cX7_join 27 = .ok (.iconst (-1), 1) := dk_2 (dk_at dksX7_join_1 3 rfl rfl)
theorem dX7_join_28 : decode cX7_join 28 = .ok (.ireturn, 1) := dk_172 (dk_at dksX7_join_1 4 rfl rfl)
theorem dX7_join_29 : decode cX7_join 29 = .ok (.aload_n 0, 1) := dk_42 (dk_at dksX7_join_1 5 rfl rfl)
theorem dX7_join_30 : decode cX7_join 30 = .ok (.iconst 1, 1) := dk_4 (dk_at dksX7_join_1 6 rfl rfl)
theorem dX7_join_31 : decode cX7_join 31 = .ok (.iload_n 1, 1) := dk_27 (dk_at dksX7_join_1 7 rfl rfl)
theorem dX7_join_32 : decode cX7_join 32 = .ok (.iload_n 2, 1) := dk_28 (dk_at dksX7_join_1 8 rfl rfl)
theorem dX7_join_33 : decode cX7_join 33 = .ok (.iconst 0, 1) := dk_3 (dk_at dksX7_join_1 9 rfl rfl)
theorem dX7_join_34 : decode cX7_join 34 = .ok (.iconst 0, 1) := dk_3 (dk_at dksX7_join_1 10 rfl rfl)
theorem dX7_join_35 : decode cX7_join 35 = .ok (.invokevirtual 391, 3) := dk_182 1 135 (dk_at dksX7_join_1 11 rfl rfl)
theorem dX7_join_38 : decode cX7_join 38 = .ok (.aload_n 0, 1) := dk_42 (dk_at dksX7_join_1 14 rfl rfl)
theorem dX7_join_39 : decode cX7_join 39 = .ok (.aload_n 0, 1) := dk_42 (dk_at dksX7_join_1 15 rfl rfl)
theorem dX7_join_40 : decode cX7_join 40 = .ok (.getfield 50, 3) := dk_180 0 50 (dk_at dksX7_join_1 16 rfl rfl)
theorem dX7_join_43 : decode cX7_join 43 = .ok (.invokevirtual 310, 3) := dk_182 1 54 (dk_at dksX7_join_1 19 rfl rfl)
theorem dX7_join_46 : decode cX7_join 46 = .ok (.ireturn, 1) := dk_172 (dk_at dksX7_join_1 22 rfl rfl)
abbrev cX7_whyNotTwo : ByteArray := prog_14_method_90_code
def yX7_whyNotTwo : MethodName := ⟨RX7, "whyNotTwo", "(IIZ)I"⟩
def dkwX7_whyNotTwo_1 : List UInt8 := [6, 167, 0, 4, 3, 172]
abbrev dktX7_whyNotTwo_1 : List UInt8 := dkwX7_whyNotTwo_1 ++ []
def dkwX7_whyNotTwo_0 : List UInt8 := [42, 27, 182, 1, 61, 153, 0, 11, 42, 28, 182, 1, 61, 154, 0, 7, 4, 167, 0, 12, 29, 153, 0, 7]
abbrev dktX7_whyNotTwo_0 : List UInt8 := dkwX7_whyNotTwo_0 ++ dktX7_whyNotTwo_1
theorem dksX7_whyNotTwo_0 : cX7_whyNotTwo.data.toList.drop 0 = dktX7_whyNotTwo_0 := by decide +kernel
theorem dksX7_whyNotTwo_1 : cX7_whyNotTwo.data.toList.drop 24 = dktX7_whyNotTwo_1 := dk_seg dksX7_whyNotTwo_0 24 rfl rfl
theorem dX7_whyNotTwo_0 : decode cX7_whyNotTwo 0 = .ok (.aload_n 0, 1) := dk_42 (dk_at dksX7_whyNotTwo_0 0 rfl rfl)
theorem dX7_whyNotTwo_1 : decode cX7_whyNotTwo 1 = .ok (.iload_n 1, 1) := dk_27 (dk_at dksX7_whyNotTwo_0 1 rfl rfl)
theorem dX7_whyNotTwo_2 : decode cX7_whyNotTwo 2 = .ok (.invokevirtual 317, 3) := dk_182 1 61 (dk_at dksX7_whyNotTwo_0 2 rfl rfl)
theorem dX7_whyNotTwo_5 : decode cX7_whyNotTwo 5 = .ok (.ifCond .eq 11, 3) := dk_153 0 11 (dk_at dksX7_whyNotTwo_0 5 rfl rfl)
theorem dX7_whyNotTwo_8 : decode cX7_whyNotTwo 8 = .ok (.aload_n 0, 1) := dk_42 (dk_at dksX7_whyNotTwo_0 8 rfl rfl)
theorem dX7_whyNotTwo_9 : decode cX7_whyNotTwo 9 = .ok (.iload_n 2, 1) := dk_28 (dk_at dksX7_whyNotTwo_0 9 rfl rfl)
theorem dX7_whyNotTwo_10 : decode cX7_whyNotTwo 10 = .ok (.invokevirtual 317, 3) := dk_182 1 61 (dk_at dksX7_whyNotTwo_0 10 rfl rfl)
theorem dX7_whyNotTwo_13 : decode cX7_whyNotTwo 13 = .ok (.ifCond .ne 7, 3) := dk_154 0 7 (dk_at dksX7_whyNotTwo_0 13 rfl rfl)
theorem dX7_whyNotTwo_16 : decode cX7_whyNotTwo 16 = .ok (.iconst 1, 1) := dk_4 (dk_at dksX7_whyNotTwo_0 16 rfl rfl)
theorem dX7_whyNotTwo_17 : decode cX7_whyNotTwo 17 = .ok (.goto 12, 3) := dk_167 0 12 (dk_at dksX7_whyNotTwo_0 17 rfl rfl)
theorem dX7_whyNotTwo_20 : decode cX7_whyNotTwo 20 = .ok (.iload_n 3, 1) := dk_29 (dk_at dksX7_whyNotTwo_0 20 rfl rfl)
theorem dX7_whyNotTwo_21 : decode cX7_whyNotTwo 21 = .ok (.ifCond .eq 7, 3) := dk_153 0 7 (dk_at dksX7_whyNotTwo_0 21 rfl rfl)
theorem dX7_whyNotTwo_24 : decode cX7_whyNotTwo 24 = .ok (.iconst 3, 1) := dk_6 (dk_at dksX7_whyNotTwo_1 0 rfl rfl)
theorem dX7_whyNotTwo_25 : decode cX7_whyNotTwo 25 = .ok (.goto 4, 3) := dk_167 0 4 (dk_at dksX7_whyNotTwo_1 1 rfl rfl)
theorem dX7_whyNotTwo_28 : decode cX7_whyNotTwo 28 = .ok (.iconst 0, 1) := dk_3 (dk_at dksX7_whyNotTwo_1 4 rfl rfl)
theorem dX7_whyNotTwo_29 : decode cX7_whyNotTwo 29 = .ok (.ireturn, 1) := dk_172 (dk_at dksX7_whyNotTwo_1 5 rfl rfl)
abbrev cX7_acts : ByteArray := prog_14_method_89_code
def yX7_acts : MethodName := ⟨RX7, "acts", "(IIIII)V"⟩
def dkwX7_acts_3 : List UInt8 := [182, 1, 44, 42, 89, 180, 0, 238, 4, 96, 181, 0, 238, 177]
abbrev dktX7_acts_3 : List UInt8 := dkwX7_acts_3 ++ []
def dkwX7_acts_2 : List UInt8 := [96, 21, 4, 79, 42, 180, 0, 23, 7, 42, 180, 0, 238, 104, 6, 96, 21, 5, 79, 42, 42, 180, 0, 238]
abbrev dktX7_acts_2 : List UInt8 := dkwX7_acts_2 ++ dktX7_acts_3
def dkwX7_acts_1 : List UInt8 := [180, 0, 23, 7, 42, 180, 0, 238, 104, 4, 96, 29, 79, 42, 180, 0, 23, 7, 42, 180, 0, 238, 104, 5]
abbrev dktX7_acts_1 : List UInt8 := dkwX7_acts_1 ++ dktX7_acts_2
def dkwX7_acts_0 : List UInt8 := [42, 180, 0, 20, 42, 180, 0, 238, 27, 79, 42, 180, 0, 23, 7, 42, 180, 0, 238, 104, 28, 79, 42]
abbrev dktX7_acts_0 : List UInt8 := dkwX7_acts_0 ++ dktX7_acts_1
theorem dksX7_acts_0 : cX7_acts.data.toList.drop 0 = dktX7_acts_0 := by decide +kernel
theorem dksX7_acts_1 : cX7_acts.data.toList.drop 23 = dktX7_acts_1 := dk_seg dksX7_acts_0 23 rfl rfl
theorem dksX7_acts_2 : cX7_acts.data.toList.drop 47 = dktX7_acts_2 := dk_seg dksX7_acts_1 24 rfl rfl
theorem dksX7_acts_3 : cX7_acts.data.toList.drop 71 = dktX7_acts_3 := dk_seg dksX7_acts_2 24 rfl rfl
theorem dX7_acts_0 : decode cX7_acts 0 = .ok (.aload_n 0, 1) := dk_42 (dk_at dksX7_acts_0 0 rfl rfl)
theorem dX7_acts_1 : decode cX7_acts 1 = .ok (.getfield 20, 3) := dk_180 0 20 (dk_at dksX7_acts_0 1 rfl rfl)
theorem dX7_acts_4 : decode cX7_acts 4 = .ok (.aload_n 0, 1) := dk_42 (dk_at dksX7_acts_0 4 rfl rfl)
theorem dX7_acts_5 : decode cX7_acts 5 = .ok (.getfield 238, 3) := dk_180 0 238 (dk_at dksX7_acts_0 5 rfl rfl)
theorem dX7_acts_8 : decode cX7_acts 8 = .ok (.iload_n 1, 1) := dk_27 (dk_at dksX7_acts_0 8 rfl rfl)
theorem dX7_acts_9 : decode cX7_acts 9 = .ok (.iastore, 1) := dk_79 (dk_at dksX7_acts_0 9 rfl rfl)
theorem dX7_acts_10 : decode cX7_acts 10 = .ok (.aload_n 0, 1) := dk_42 (dk_at dksX7_acts_0 10 rfl rfl)
theorem dX7_acts_11 : decode cX7_acts 11 = .ok (.getfield 23, 3) := dk_180 0 23 (dk_at dksX7_acts_0 11 rfl rfl)
theorem dX7_acts_14 : decode cX7_acts 14 = .ok (.iconst 4, 1) := dk_7 (dk_at dksX7_acts_0 14 rfl rfl)
theorem dX7_acts_15 : decode cX7_acts 15 = .ok (.aload_n 0, 1) := dk_42 (dk_at dksX7_acts_0 15 rfl rfl)
theorem dX7_acts_16 : decode cX7_acts 16 = .ok (.getfield 238, 3) := dk_180 0 238 (dk_at dksX7_acts_0 16 rfl rfl)
theorem dX7_acts_19 : decode cX7_acts 19 = .ok (.imul, 1) := dk_104 (dk_at dksX7_acts_0 19 rfl rfl)
theorem dX7_acts_20 : decode cX7_acts 20 = .ok (.iload_n 2, 1) := dk_28 (dk_at dksX7_acts_0 20 rfl rfl)
theorem dX7_acts_21 : decode cX7_acts 21 = .ok (.iastore, 1) := dk_79 (dk_at dksX7_acts_0 21 rfl rfl)
theorem dX7_acts_22 : decode cX7_acts 22 = .ok (.aload_n 0, 1) := dk_42 (dk_at dksX7_acts_0 22 rfl rfl)
theorem dX7_acts_23 : decode cX7_acts 23 = .ok (.getfield 23, 3) := dk_180 0 23 (dk_at dksX7_acts_1 0 rfl rfl)
theorem dX7_acts_26 : decode cX7_acts 26 = .ok (.iconst 4, 1) := dk_7 (dk_at dksX7_acts_1 3 rfl rfl)
theorem dX7_acts_27 : decode cX7_acts 27 = .ok (.aload_n 0, 1) := dk_42 (dk_at dksX7_acts_1 4 rfl rfl)
theorem dX7_acts_28 : decode cX7_acts 28 = .ok (.getfield 238, 3) := dk_180 0 238 (dk_at dksX7_acts_1 5 rfl rfl)
theorem dX7_acts_31 : decode cX7_acts 31 = .ok (.imul, 1) := dk_104 (dk_at dksX7_acts_1 8 rfl rfl)
theorem dX7_acts_32 : decode cX7_acts 32 = .ok (.iconst 1, 1) := dk_4 (dk_at dksX7_acts_1 9 rfl rfl)
theorem dX7_acts_33 : decode cX7_acts 33 = .ok (.iadd, 1) := dk_96 (dk_at dksX7_acts_1 10 rfl rfl)
theorem dX7_acts_34 : decode cX7_acts 34 = .ok (.iload_n 3, 1) := dk_29 (dk_at dksX7_acts_1 11 rfl rfl)
theorem dX7_acts_35 : decode cX7_acts 35 = .ok (.iastore, 1) := dk_79 (dk_at dksX7_acts_1 12 rfl rfl)
theorem dX7_acts_36 : decode cX7_acts 36 = .ok (.aload_n 0, 1) := dk_42 (dk_at dksX7_acts_1 13 rfl rfl)
theorem dX7_acts_37 : decode cX7_acts 37 = .ok (.getfield 23, 3) := dk_180 0 23 (dk_at dksX7_acts_1 14 rfl rfl)
theorem dX7_acts_40 : decode cX7_acts 40 = .ok (.iconst 4, 1) := dk_7 (dk_at dksX7_acts_1 17 rfl rfl)
theorem dX7_acts_41 : decode cX7_acts 41 = .ok (.aload_n 0, 1) := dk_42 (dk_at dksX7_acts_1 18 rfl rfl)
theorem dX7_acts_42 : decode cX7_acts 42 = .ok (.getfield 238, 3) := dk_180 0 238 (dk_at dksX7_acts_1 19 rfl rfl)
theorem dX7_acts_45 : decode cX7_acts 45 = .ok (.imul, 1) := dk_104 (dk_at dksX7_acts_1 22 rfl rfl)
theorem dX7_acts_46 : decode cX7_acts 46 = .ok (.iconst 2, 1) := dk_5 (dk_at dksX7_acts_1 23 rfl rfl)
theorem dX7_acts_47 : decode cX7_acts 47 = .ok (.iadd, 1) := dk_96 (dk_at dksX7_acts_2 0 rfl rfl)
theorem dX7_acts_48 : decode cX7_acts 48 = .ok (.iload 4, 2) := dk_21 4 (dk_at dksX7_acts_2 1 rfl rfl)
theorem dX7_acts_50 : decode cX7_acts 50 = .ok (.iastore, 1) := dk_79 (dk_at dksX7_acts_2 3 rfl rfl)
theorem dX7_acts_51 : decode cX7_acts 51 = .ok (.aload_n 0, 1) := dk_42 (dk_at dksX7_acts_2 4 rfl rfl)
theorem dX7_acts_52 : decode cX7_acts 52 = .ok (.getfield 23, 3) := dk_180 0 23 (dk_at dksX7_acts_2 5 rfl rfl)
theorem dX7_acts_55 : decode cX7_acts 55 = .ok (.iconst 4, 1) := dk_7 (dk_at dksX7_acts_2 8 rfl rfl)
theorem dX7_acts_56 : decode cX7_acts 56 = .ok (.aload_n 0, 1) := dk_42 (dk_at dksX7_acts_2 9 rfl rfl)
theorem dX7_acts_57 : decode cX7_acts 57 = .ok (.getfield 238, 3) := dk_180 0 238 (dk_at dksX7_acts_2 10 rfl rfl)
theorem dX7_acts_60 : decode cX7_acts 60 = .ok (.imul, 1) := dk_104 (dk_at dksX7_acts_2 13 rfl rfl)
theorem dX7_acts_61 : decode cX7_acts 61 = .ok (.iconst 3, 1) := dk_6 (dk_at dksX7_acts_2 14 rfl rfl)
theorem dX7_acts_62 : decode cX7_acts 62 = .ok (.iadd, 1) := dk_96 (dk_at dksX7_acts_2 15 rfl rfl)
theorem dX7_acts_63 : decode cX7_acts 63 = .ok (.iload 5, 2) := dk_21 5 (dk_at dksX7_acts_2 16 rfl rfl)
theorem dX7_acts_65 : decode cX7_acts 65 = .ok (.iastore, 1) := dk_79 (dk_at dksX7_acts_2 18 rfl rfl)
theorem dX7_acts_66 : decode cX7_acts 66 = .ok (.aload_n 0, 1) := dk_42 (dk_at dksX7_acts_2 19 rfl rfl)
theorem dX7_acts_67 : decode cX7_acts 67 = .ok (.aload_n 0, 1) := dk_42 (dk_at dksX7_acts_2 20 rfl rfl)
theorem dX7_acts_68 : decode cX7_acts 68 = .ok (.getfield 238, 3) := dk_180 0 238 (dk_at dksX7_acts_2 21 rfl rfl)
theorem dX7_acts_71 : decode cX7_acts 71 = .ok (.invokevirtual 300, 3) := dk_182 1 44 (dk_at dksX7_acts_3 0 rfl rfl)
theorem dX7_acts_74 : decode cX7_acts 74 = .ok (.aload_n 0, 1) := dk_42 (dk_at dksX7_acts_3 3 rfl rfl)
theorem dX7_acts_75 : decode cX7_acts 75 = .ok (.dup, 1) := dk_89 (dk_at dksX7_acts_3 4 rfl rfl)
theorem dX7_acts_76 : decode cX7_acts 76 = .ok (.getfield 238, 3) := dk_180 0 238 (dk_at dksX7_acts_3 5 rfl rfl)
theorem dX7_acts_79 : decode cX7_acts 79 = .ok (.iconst 1, 1) := dk_4 (dk_at dksX7_acts_3 8 rfl rfl)
theorem dX7_acts_80 : decode cX7_acts 80 = .ok (.iadd, 1) := dk_96 (dk_at dksX7_acts_3 9 rfl rfl)
theorem dX7_acts_81 : decode cX7_acts 81 = .ok (.putfield 238, 3) := dk_181 0 238 (dk_at dksX7_acts_3 10 rfl rfl)
theorem dX7_acts_84 : decode cX7_acts 84 = .ok (.return_, 1) := dk_177 (dk_at dksX7_acts_3 13 rfl rfl)
abbrev cX7_part : ByteArray := prog_14_method_92_code
def yX7_part : MethodName := ⟨RX7, "part", "(II)I"⟩
def dkwX7_part_2 : List UInt8 := [28, 46, 160, 0, 7, 4, 167, 0, 4, 3, 172]
abbrev dktX7_part_2 : List UInt8 := dkwX7_part_2 ++ []
def dkwX7_part_1 : List UInt8 := [153, 0, 5, 2, 172, 42, 5, 27, 28, 3, 3, 182, 1, 135, 42, 180, 0, 50, 27, 46, 42, 180, 0, 50]
abbrev dktX7_part_1 : List UInt8 := dkwX7_part_1 ++ dktX7_part_2
def dkwX7_part_0 : List UInt8 := [42, 42, 27, 28, 42, 180, 1, 41, 16, 8, 160, 0, 7, 4, 167, 0, 4, 3, 182, 1, 131, 182, 0, 223]
abbrev dktX7_part_0 : List UInt8 := dkwX7_part_0 ++ dktX7_part_1
theorem dksX7_part_0 : cX7_part.data.toList.drop 0 = dktX7_part_0 := by decide +kernel
theorem dksX7_part_1 : cX7_part.data.toList.drop 24 = dktX7_part_1 := dk_seg dksX7_part_0 24 rfl rfl
theorem dksX7_part_2 : cX7_part.data.toList.drop 48 = dktX7_part_2 := dk_seg dksX7_part_1 24 rfl rfl
theorem dX7_part_0 : decode cX7_part 0 = .ok (.aload_n 0, 1) := dk_42 (dk_at dksX7_part_0 0 rfl rfl)
theorem dX7_part_1 : decode cX7_part 1 = .ok (.aload_n 0, 1) := dk_42 (dk_at dksX7_part_0 1 rfl rfl)
theorem dX7_part_2 : decode cX7_part 2 = .ok (.iload_n 1, 1) := dk_27 (dk_at dksX7_part_0 2 rfl rfl)
theorem dX7_part_3 : decode cX7_part 3 = .ok (.iload_n 2, 1) := dk_28 (dk_at dksX7_part_0 3 rfl rfl)
theorem dX7_part_4 : decode cX7_part 4 = .ok (.aload_n 0, 1) := dk_42 (dk_at dksX7_part_0 4 rfl rfl)
theorem dX7_part_5 : decode cX7_part 5 = .ok (.getfield 297, 3) := dk_180 1 41 (dk_at dksX7_part_0 5 rfl rfl)
theorem dX7_part_8 : decode cX7_part 8 = .ok (.bipush 8, 2) := dk_16 8 (dk_at dksX7_part_0 8 rfl rfl)
theorem dX7_part_10 : decode cX7_part 10 = .ok (.if_icmp .ne 7, 3) := dk_160 0 7 (dk_at dksX7_part_0 10 rfl rfl)
theorem dX7_part_13 : decode cX7_part 13 = .ok (.iconst 1, 1) := dk_4 (dk_at dksX7_part_0 13 rfl rfl)
theorem dX7_part_14 : decode cX7_part 14 = .ok (.goto 4, 3) := dk_167 0 4 (dk_at dksX7_part_0 14 rfl rfl)
theorem dX7_part_17 : decode cX7_part 17 = .ok (.iconst 0, 1) := dk_3 (dk_at dksX7_part_0 17 rfl rfl)
theorem dX7_part_18 : decode cX7_part 18 = .ok (.invokevirtual 387, 3) := dk_182 1 131 (dk_at dksX7_part_0 18 rfl rfl)
theorem dX7_part_21 : decode cX7_part 21 = .ok (.invokevirtual 223, 3) := dk_182 0 223 (dk_at dksX7_part_0 21 rfl rfl)
theorem dX7_part_24 : decode cX7_part 24 = .ok (.ifCond .eq 5, 3) := dk_153 0 5 (dk_at dksX7_part_1 0 rfl rfl)
theorem dX7_part_27 : decode cX7_part 27 = .ok (.iconst (-1), 1) := dk_2 (dk_at dksX7_part_1 3 rfl rfl)
theorem dX7_part_28 : decode cX7_part 28 = .ok (.ireturn, 1) := dk_172 (dk_at dksX7_part_1 4 rfl rfl)
theorem dX7_part_29 : decode cX7_part 29 = .ok (.aload_n 0, 1) := dk_42 (dk_at dksX7_part_1 5 rfl rfl)
theorem dX7_part_30 : decode cX7_part 30 = .ok (.iconst 2, 1) := dk_5 (dk_at dksX7_part_1 6 rfl rfl)
theorem dX7_part_31 : decode cX7_part 31 = .ok (.iload_n 1, 1) := dk_27 (dk_at dksX7_part_1 7 rfl rfl)
theorem dX7_part_32 : decode cX7_part 32 = .ok (.iload_n 2, 1) := dk_28 (dk_at dksX7_part_1 8 rfl rfl)
theorem dX7_part_33 : decode cX7_part 33 = .ok (.iconst 0, 1) := dk_3 (dk_at dksX7_part_1 9 rfl rfl)
theorem dX7_part_34 : decode cX7_part 34 = .ok (.iconst 0, 1) := dk_3 (dk_at dksX7_part_1 10 rfl rfl)
theorem dX7_part_35 : decode cX7_part 35 = .ok (.invokevirtual 391, 3) := dk_182 1 135 (dk_at dksX7_part_1 11 rfl rfl)
theorem dX7_part_38 : decode cX7_part 38 = .ok (.aload_n 0, 1) := dk_42 (dk_at dksX7_part_1 14 rfl rfl)
theorem dX7_part_39 : decode cX7_part 39 = .ok (.getfield 50, 3) := dk_180 0 50 (dk_at dksX7_part_1 15 rfl rfl)
theorem dX7_part_42 : decode cX7_part 42 = .ok (.iload_n 1, 1) := dk_27 (dk_at dksX7_part_1 18 rfl rfl)
theorem dX7_part_43 : decode cX7_part 43 = .ok (.iaload, 1) := dk_46 (dk_at dksX7_part_1 19 rfl rfl)
theorem dX7_part_44 : decode cX7_part 44 = .ok (.aload_n 0, 1) := dk_42 (dk_at dksX7_part_1 20 rfl rfl)
theorem dX7_part_45 : decode cX7_part 45 = .ok (.getfield 50, 3) := dk_180 0 50 (dk_at dksX7_part_1 21 rfl rfl)
theorem dX7_part_48 : decode cX7_part 48 = .ok (.iload_n 2, 1) := dk_28 (dk_at dksX7_part_2 0 rfl rfl)
theorem dX7_part_49 : decode cX7_part 49 = .ok (.iaload, 1) := dk_46 (dk_at dksX7_part_2 1 rfl rfl)
theorem dX7_part_50 : decode cX7_part 50 = .ok (.if_icmp .ne 7, 3) := dk_160 0 7 (dk_at dksX7_part_2 2 rfl rfl)
theorem dX7_part_53 : decode cX7_part 53 = .ok (.iconst 1, 1) := dk_4 (dk_at dksX7_part_2 5 rfl rfl)
theorem dX7_part_54 : decode cX7_part 54 = .ok (.goto 4, 3) := dk_167 0 4 (dk_at dksX7_part_2 6 rfl rfl)
theorem dX7_part_57 : decode cX7_part 57 = .ok (.iconst 0, 1) := dk_3 (dk_at dksX7_part_2 9 rfl rfl)
theorem dX7_part_58 : decode cX7_part 58 = .ok (.ireturn, 1) := dk_172 (dk_at dksX7_part_2 10 rfl rfl)
abbrev cX7_make : ByteArray := prog_14_method_93_code
def yX7_make : MethodName := ⟨RX7, "make", "(IIII)I"⟩
def dkwX7_make_5 : List UInt8 := [21, 4, 182, 1, 135, 42, 180, 0, 250, 4, 100, 172]
abbrev dktX7_make_5 : List UInt8 := dkwX7_make_5 ++ []
def dkwX7_make_4 : List UInt8 := [16, 24, 160, 0, 7, 6, 167, 0, 4, 3, 182, 0, 223, 153, 0, 5, 2, 172, 42, 3, 27, 28, 29]
abbrev dktX7_make_4 : List UInt8 := dkwX7_make_4 ++ dktX7_make_5
def dkwX7_make_3 : List UInt8 := [153, 0, 7, 4, 167, 0, 4, 3, 54, 5, 42, 21, 5, 154, 0, 7, 4, 167, 0, 17, 42, 180, 0, 250]
abbrev dktX7_make_3 : List UInt8 := dkwX7_make_3 ++ dktX7_make_4
def dkwX7_make_2 : List UInt8 := [182, 1, 61, 153, 0, 26, 42, 180, 0, 17, 27, 46, 6, 161, 0, 12, 42, 21, 4, 182, 1, 61]
abbrev dktX7_make_2 : List UInt8 := dkwX7_make_2 ++ dktX7_make_3
def dkwX7_make_1 : List UInt8 := [4, 161, 0, 11, 42, 28, 182, 1, 61, 153, 0, 44, 42, 180, 0, 17, 27, 46, 5, 161, 0, 11, 42, 29]
abbrev dktX7_make_1 : List UInt8 := dkwX7_make_1 ++ dktX7_make_2
def dkwX7_make_0 : List UInt8 := [27, 3, 42, 180, 0, 235, 4, 100, 184, 0, 132, 54, 5, 21, 5, 153, 0, 62, 42, 180, 0, 17, 27, 46]
abbrev dktX7_make_0 : List UInt8 := dkwX7_make_0 ++ dktX7_make_1
theorem dksX7_make_0 : cX7_make.data.toList.drop 0 = dktX7_make_0 := by decide +kernel
theorem dksX7_make_1 : cX7_make.data.toList.drop 24 = dktX7_make_1 := dk_seg dksX7_make_0 24 rfl rfl
theorem dksX7_make_2 : cX7_make.data.toList.drop 48 = dktX7_make_2 := dk_seg dksX7_make_1 24 rfl rfl
theorem dksX7_make_3 : cX7_make.data.toList.drop 70 = dktX7_make_3 := dk_seg dksX7_make_2 22 rfl rfl
theorem dksX7_make_4 : cX7_make.data.toList.drop 94 = dktX7_make_4 := dk_seg dksX7_make_3 24 rfl rfl
theorem dksX7_make_5 : cX7_make.data.toList.drop 117 = dktX7_make_5 := dk_seg dksX7_make_4 23 rfl rfl
theorem dX7_make_0 : decode cX7_make 0 = .ok (.iload_n 1, 1) := dk_27 (dk_at dksX7_make_0 0 rfl rfl)
theorem dX7_make_1 : decode cX7_make 1 = .ok (.iconst 0, 1) := dk_3 (dk_at dksX7_make_0 1 rfl rfl)
theorem dX7_make_2 : decode cX7_make 2 = .ok (.aload_n 0, 1) := dk_42 (dk_at dksX7_make_0 2 rfl rfl)
theorem dX7_make_3 : decode cX7_make 3 = .ok (.getfield 235, 3) := dk_180 0 235 (dk_at dksX7_make_0 3 rfl rfl)
theorem dX7_make_6 : decode cX7_make 6 = .ok (.iconst 1, 1) := dk_4 (dk_at dksX7_make_0 6 rfl rfl)
theorem dX7_make_7 : decode cX7_make 7 = .ok (.isub, 1) := dk_100 (dk_at dksX7_make_0 7 rfl rfl)
theorem dX7_make_8 : decode cX7_make 8 = .ok (.invokestatic 132, 3) := dk_184 0 132 (dk_at dksX7_make_0 8 rfl rfl)
theorem dX7_make_11 : decode cX7_make 11 = .ok (.istore 5, 2) := dk_54 5 (dk_at dksX7_make_0 11 rfl rfl)
theorem dX7_make_13 : decode cX7_make 13 = .ok (.iload 5, 2) := dk_21 5 (dk_at dksX7_make_0 13 rfl rfl)
theorem dX7_make_15 : decode cX7_make 15 = .ok (.ifCond .eq 62, 3) := dk_153 0 62 (dk_at dksX7_make_0 15 rfl rfl)
theorem dX7_make_18 : decode cX7_make 18 = .ok (.aload_n 0, 1) := dk_42 (dk_at dksX7_make_0 18 rfl rfl)
theorem dX7_make_19 : decode cX7_make 19 = .ok (.getfield 17, 3) := dk_180 0 17 (dk_at dksX7_make_0 19 rfl rfl)
theorem dX7_make_22 : decode cX7_make 22 = .ok (.iload_n 1, 1) := dk_27 (dk_at dksX7_make_0 22 rfl rfl)
theorem dX7_make_23 : decode cX7_make 23 = .ok (.iaload, 1) := dk_46 (dk_at dksX7_make_0 23 rfl rfl)
theorem dX7_make_24 : decode cX7_make 24 = .ok (.iconst 1, 1) := dk_4 (dk_at dksX7_make_1 0 rfl rfl)
theorem dX7_make_25 : decode cX7_make 25 = .ok (.if_icmp .lt 11, 3) := dk_161 0 11 (dk_at dksX7_make_1 1 rfl rfl)
theorem dX7_make_28 : decode cX7_make 28 = .ok (.aload_n 0, 1) := dk_42 (dk_at dksX7_make_1 4 rfl rfl)
theorem dX7_make_29 : decode cX7_make 29 = .ok (.iload_n 2, 1) := dk_28 (dk_at dksX7_make_1 5 rfl rfl)
theorem dX7_make_30 : decode cX7_make 30 = .ok (.invokevirtual 317, 3) := dk_182 1 61 (dk_at dksX7_make_1 6 rfl rfl)
theorem dX7_make_33 : decode cX7_make 33 = .ok (.ifCond .eq 44, 3) := dk_153 0 44 (dk_at dksX7_make_1 9 rfl rfl)
theorem dX7_make_36 : decode cX7_make 36 = .ok (.aload_n 0, 1) := dk_42 (dk_at dksX7_make_1 12 rfl rfl)
theorem dX7_make_37 : decode cX7_make 37 = .ok (.getfield 17, 3) := dk_180 0 17 (dk_at dksX7_make_1 13 rfl rfl)
theorem dX7_make_40 : decode cX7_make 40 = .ok (.iload_n 1, 1) := dk_27 (dk_at dksX7_make_1 16 rfl rfl)
theorem dX7_make_41 : decode cX7_make 41 = .ok (.iaload, 1) := dk_46 (dk_at dksX7_make_1 17 rfl rfl)
theorem dX7_make_42 : decode cX7_make 42 = .ok (.iconst 2, 1) := dk_5 (dk_at dksX7_make_1 18 rfl rfl)
theorem dX7_make_43 : decode cX7_make 43 = .ok (.if_icmp .lt 11, 3) := dk_161 0 11 (dk_at dksX7_make_1 19 rfl rfl)
theorem dX7_make_46 : decode cX7_make 46 = .ok (.aload_n 0, 1) := dk_42 (dk_at dksX7_make_1 22 rfl rfl)
theorem dX7_make_47 : decode cX7_make 47 = .ok (.iload_n 3, 1) := dk_29 (dk_at dksX7_make_1 23 rfl rfl)
theorem dX7_make_48 : decode cX7_make 48 = .ok (.invokevirtual 317, 3) := dk_182 1 61 (dk_at dksX7_make_2 0 rfl rfl)
theorem dX7_make_51 : decode cX7_make 51 = .ok (.ifCond .eq 26, 3) := dk_153 0 26 (dk_at dksX7_make_2 3 rfl rfl)
theorem dX7_make_54 : decode cX7_make 54 = .ok (.aload_n 0, 1) := dk_42 (dk_at dksX7_make_2 6 rfl rfl)
theorem dX7_make_55 : decode cX7_make 55 = .ok (.getfield 17, 3) := dk_180 0 17 (dk_at dksX7_make_2 7 rfl rfl)
theorem dX7_make_58 : decode cX7_make 58 = .ok (.iload_n 1, 1) := dk_27 (dk_at dksX7_make_2 10 rfl rfl)
theorem dX7_make_59 : decode cX7_make 59 = .ok (.iaload, 1) := dk_46 (dk_at dksX7_make_2 11 rfl rfl)
theorem dX7_make_60 : decode cX7_make 60 = .ok (.iconst 3, 1) := dk_6 (dk_at dksX7_make_2 12 rfl rfl)
theorem dX7_make_61 : decode cX7_make 61 = .ok (.if_icmp .lt 12, 3) := dk_161 0 12 (dk_at dksX7_make_2 13 rfl rfl)
theorem dX7_make_64 : decode cX7_make 64 = .ok (.aload_n 0, 1) := dk_42 (dk_at dksX7_make_2 16 rfl rfl)
theorem dX7_make_65 : decode cX7_make 65 = .ok (.iload 4, 2) := dk_21 4 (dk_at dksX7_make_2 17 rfl rfl)
theorem dX7_make_67 : decode cX7_make 67 = .ok (.invokevirtual 317, 3) := dk_182 1 61 (dk_at dksX7_make_2 19 rfl rfl)
theorem dX7_make_70 : decode cX7_make 70 = .ok (.ifCond .eq 7, 3) := dk_153 0 7 (dk_at dksX7_make_3 0 rfl rfl)
theorem dX7_make_73 : decode cX7_make 73 = .ok (.iconst 1, 1) := dk_4 (dk_at dksX7_make_3 3 rfl rfl)
theorem dX7_make_74 : decode cX7_make 74 = .ok (.goto 4, 3) := dk_167 0 4 (dk_at dksX7_make_3 4 rfl rfl)
theorem dX7_make_77 : decode cX7_make 77 = .ok (.iconst 0, 1) := dk_3 (dk_at dksX7_make_3 7 rfl rfl)
theorem dX7_make_78 : decode cX7_make 78 = .ok (.istore 5, 2) := dk_54 5 (dk_at dksX7_make_3 8 rfl rfl)
theorem dX7_make_80 : decode cX7_make 80 = .ok (.aload_n 0, 1) := dk_42 (dk_at dksX7_make_3 10 rfl rfl)
theorem dX7_make_81 : decode cX7_make 81 = .ok (.iload 5, 2) := dk_21 5 (dk_at dksX7_make_3 11 rfl rfl)
theorem dX7_make_83 : decode cX7_make 83 = .ok (.ifCond .ne 7, 3) := dk_154 0 7 (dk_at dksX7_make_3 13 rfl rfl)
theorem dX7_make_86 : decode cX7_make 86 = .ok (.iconst 1, 1) := dk_4 (dk_at dksX7_make_3 16 rfl rfl)
theorem dX7_make_87 : decode cX7_make 87 = .ok (.goto 17, 3) := dk_167 0 17 (dk_at dksX7_make_3 17 rfl rfl)
theorem dX7_make_90 : decode cX7_make 90 = .ok (.aload_n 0, 1) := dk_42 (dk_at dksX7_make_3 20 rfl rfl)
theorem dX7_make_91 : decode cX7_make 91 = .ok (.getfield 250, 3) := dk_180 0 250 (dk_at dksX7_make_3 21 rfl rfl)
theorem dX7_make_94 : decode cX7_make 94 = .ok (.bipush 24, 2) := dk_16 24 (dk_at dksX7_make_4 0 rfl rfl)
theorem dX7_make_96 : decode cX7_make 96 = .ok (.if_icmp .ne 7, 3) := dk_160 0 7 (dk_at dksX7_make_4 2 rfl rfl)
theorem dX7_make_99 : decode cX7_make 99 = .ok (.iconst 3, 1) := dk_6 (dk_at dksX7_make_4 5 rfl rfl)
theorem dX7_make_100 : decode cX7_make 100 = .ok (.goto 4, 3) := dk_167 0 4 (dk_at dksX7_make_4 6 rfl rfl)
theorem dX7_make_103 : decode cX7_make 103 = .ok (.iconst 0, 1) := dk_3 (dk_at dksX7_make_4 9 rfl rfl)
theorem dX7_make_104 : decode cX7_make 104 = .ok (.invokevirtual 223, 3) := dk_182 0 223 (dk_at dksX7_make_4 10 rfl rfl)
theorem dX7_make_107 : decode cX7_make 107 = .ok (.ifCond .eq 5, 3) := dk_153 0 5 (dk_at dksX7_make_4 13 rfl rfl)
theorem dX7_make_110 : decode cX7_make 110 = .ok (.iconst (-1), 1) := dk_2 (dk_at dksX7_make_4 16 rfl rfl)
theorem dX7_make_111 : decode cX7_make 111 = .ok (.ireturn, 1) := dk_172 (dk_at dksX7_make_4 17 rfl rfl)
theorem dX7_make_112 : decode cX7_make 112 = .ok (.aload_n 0, 1) := dk_42 (dk_at dksX7_make_4 18 rfl rfl)
theorem dX7_make_113 : decode cX7_make 113 = .ok (.iconst 0, 1) := dk_3 (dk_at dksX7_make_4 19 rfl rfl)
theorem dX7_make_114 : decode cX7_make 114 = .ok (.iload_n 1, 1) := dk_27 (dk_at dksX7_make_4 20 rfl rfl)
theorem dX7_make_115 : decode cX7_make 115 = .ok (.iload_n 2, 1) := dk_28 (dk_at dksX7_make_4 21 rfl rfl)
theorem dX7_make_116 : decode cX7_make 116 = .ok (.iload_n 3, 1) := dk_29 (dk_at dksX7_make_4 22 rfl rfl)
theorem dX7_make_117 : decode cX7_make 117 = .ok (.iload 4, 2) := dk_21 4 (dk_at dksX7_make_5 0 rfl rfl)
theorem dX7_make_119 : decode cX7_make 119 = .ok (.invokevirtual 391, 3) := dk_182 1 135 (dk_at dksX7_make_5 2 rfl rfl)
theorem dX7_make_122 : decode cX7_make 122 = .ok (.aload_n 0, 1) := dk_42 (dk_at dksX7_make_5 5 rfl rfl)
theorem dX7_make_123 : decode cX7_make 123 = .ok (.getfield 250, 3) := dk_180 0 250 (dk_at dksX7_make_5 6 rfl rfl)
theorem dX7_make_126 : decode cX7_make 126 = .ok (.iconst 1, 1) := dk_4 (dk_at dksX7_make_5 9 rfl rfl)
theorem dX7_make_127 : decode cX7_make 127 = .ok (.isub, 1) := dk_100 (dk_at dksX7_make_5 10 rfl rfl)
theorem dX7_make_128 : decode cX7_make 128 = .ok (.ireturn, 1) := dk_172 (dk_at dksX7_make_5 11 rfl rfl)
abbrev cX7_undo : ByteArray := prog_14_method_94_code
def yX7_undo : MethodName := ⟨RX7, "undo", "()Z"⟩
def dkwX7_undo_1 : List UInt8 := [100, 181, 0, 238, 42, 182, 0, 247, 4, 172]
abbrev dktX7_undo_1 : List UInt8 := dkwX7_undo_1 ++ []
def dkwX7_undo_0 : List UInt8 := [42, 3, 181, 0, 103, 42, 180, 0, 238, 42, 180, 0, 241, 160, 0, 5, 3, 172, 42, 89, 180, 0, 238, 4]
abbrev dktX7_undo_0 : List UInt8 := dkwX7_undo_0 ++ dktX7_undo_1
theorem dksX7_undo_0 : cX7_undo.data.toList.drop 0 = dktX7_undo_0 := by decide +kernel
theorem dksX7_undo_1 : cX7_undo.data.toList.drop 24 = dktX7_undo_1 := dk_seg dksX7_undo_0 24 rfl rfl
theorem dX7_undo_0 : decode cX7_undo 0 = .ok (.aload_n 0, 1) := dk_42 (dk_at dksX7_undo_0 0 rfl rfl)
theorem dX7_undo_1 : decode cX7_undo 1 = .ok (.iconst 0, 1) := dk_3 (dk_at dksX7_undo_0 1 rfl rfl)
theorem dX7_undo_2 : decode cX7_undo 2 = .ok (.putfield 103, 3) := dk_181 0 103 (dk_at dksX7_undo_0 2 rfl rfl)
theorem dX7_undo_5 : decode cX7_undo 5 = .ok (.aload_n 0, 1) := dk_42 (dk_at dksX7_undo_0 5 rfl rfl)
theorem dX7_undo_6 : decode cX7_undo 6 = .ok (.getfield 238, 3) := dk_180 0 238 (dk_at dksX7_undo_0 6 rfl rfl)
theorem dX7_undo_9 : decode cX7_undo 9 = .ok (.aload_n 0, 1) := dk_42 (dk_at dksX7_undo_0 9 rfl rfl)
theorem dX7_undo_10 : decode cX7_undo 10 = .ok (.getfield 241, 3) := dk_180 0 241 (dk_at dksX7_undo_0 10 rfl rfl)
theorem dX7_undo_13 : decode cX7_undo 13 = .ok (.if_icmp .ne 5, 3) := dk_160 0 5 (dk_at dksX7_undo_0 13 rfl rfl)
theorem dX7_undo_16 : decode cX7_undo 16 = .ok (.iconst 0, 1) := dk_3 (dk_at dksX7_undo_0 16 rfl rfl)
theorem dX7_undo_17 : decode cX7_undo 17 = .ok (.ireturn, 1) := dk_172 (dk_at dksX7_undo_0 17 rfl rfl)
theorem dX7_undo_18 : decode cX7_undo 18 = .ok (.aload_n 0, 1) := dk_42 (dk_at dksX7_undo_0 18 rfl rfl)
theorem dX7_undo_19 : decode cX7_undo 19 = .ok (.dup, 1) := dk_89 (dk_at dksX7_undo_0 19 rfl rfl)
theorem dX7_undo_20 : decode cX7_undo 20 = .ok (.getfield 238, 3) := dk_180 0 238 (dk_at dksX7_undo_0 20 rfl rfl)
theorem dX7_undo_23 : decode cX7_undo 23 = .ok (.iconst 1, 1) := dk_4 (dk_at dksX7_undo_0 23 rfl rfl)
theorem dX7_undo_24 : decode cX7_undo 24 = .ok (.isub, 1) := dk_100 (dk_at dksX7_undo_1 0 rfl rfl)
theorem dX7_undo_25 : decode cX7_undo 25 = .ok (.putfield 238, 3) := dk_181 0 238 (dk_at dksX7_undo_1 1 rfl rfl)
theorem dX7_undo_28 : decode cX7_undo 28 = .ok (.aload_n 0, 1) := dk_42 (dk_at dksX7_undo_1 4 rfl rfl)
theorem dX7_undo_29 : decode cX7_undo 29 = .ok (.invokevirtual 247, 3) := dk_182 0 247 (dk_at dksX7_undo_1 5 rfl rfl)
theorem dX7_undo_32 : decode cX7_undo 32 = .ok (.iconst 1, 1) := dk_4 (dk_at dksX7_undo_1 8 rfl rfl)
theorem dX7_undo_33 : decode cX7_undo 33 = .ok (.ireturn, 1) := dk_172 (dk_at dksX7_undo_1 9 rfl rfl)
abbrev cX7_named : ByteArray := prog_14_method_95_code
def yX7_named : MethodName := ⟨RX7, "named", "(I)I"⟩
def dkwX7_named_5 : List UInt8 := [181, 0, 103, 3, 172]
abbrev dktX7_named_5 : List UInt8 := dkwX7_named_5 ++ []
def dkwX7_named_4 : List UInt8 := [21, 4, 104, 28, 29, 182, 0, 169, 153, 0, 6, 21, 4, 172, 132, 4, 1, 167, 255, 218, 42, 4]
abbrev dktX7_named_4 : List UInt8 := dkwX7_named_4 ++ dktX7_named_5
def dkwX7_named_3 : List UInt8 := [54, 4, 29, 28, 164, 0, 39, 21, 4, 42, 180, 0, 244, 162, 0, 30, 42, 42, 180, 0, 26, 16, 6]
abbrev dktX7_named_3 : List UInt8 := dkwX7_named_3 ++ dktX7_named_4
def dkwX7_named_2 : List UInt8 := [28, 164, 0, 22, 42, 180, 0, 13, 29, 4, 100, 46, 16, 32, 160, 0, 9, 132, 3, 255, 167, 255, 235, 3]
abbrev dktX7_named_2 : List UInt8 := dkwX7_named_2 ++ dktX7_named_3
def dkwX7_named_1 : List UInt8 := [62, 28, 29, 162, 0, 20, 42, 180, 0, 13, 28, 46, 16, 32, 160, 0, 9, 132, 2, 1, 167, 255, 237, 29]
abbrev dktX7_named_1 : List UInt8 := dkwX7_named_1 ++ dktX7_named_2
def dkwX7_named_0 : List UInt8 := [42, 3, 181, 0, 103, 3, 61, 27, 3, 42, 180, 0, 109, 184, 0, 132, 153, 0, 7, 27, 167, 0, 4, 3]
abbrev dktX7_named_0 : List UInt8 := dkwX7_named_0 ++ dktX7_named_1
theorem dksX7_named_0 : cX7_named.data.toList.drop 0 = dktX7_named_0 := by decide +kernel
theorem dksX7_named_1 : cX7_named.data.toList.drop 24 = dktX7_named_1 := dk_seg dksX7_named_0 24 rfl rfl
theorem dksX7_named_2 : cX7_named.data.toList.drop 48 = dktX7_named_2 := dk_seg dksX7_named_1 24 rfl rfl
theorem dksX7_named_3 : cX7_named.data.toList.drop 72 = dktX7_named_3 := dk_seg dksX7_named_2 24 rfl rfl
theorem dksX7_named_4 : cX7_named.data.toList.drop 95 = dktX7_named_4 := dk_seg dksX7_named_3 23 rfl rfl
theorem dksX7_named_5 : cX7_named.data.toList.drop 117 = dktX7_named_5 := dk_seg dksX7_named_4 22 rfl rfl
theorem dX7_named_0 : decode cX7_named 0 = .ok (.aload_n 0, 1) := dk_42 (dk_at dksX7_named_0 0 rfl rfl)
theorem dX7_named_1 : decode cX7_named 1 = .ok (.iconst 0, 1) := dk_3 (dk_at dksX7_named_0 1 rfl rfl)
theorem dX7_named_2 : decode cX7_named 2 = .ok (.putfield 103, 3) := dk_181 0 103 (dk_at dksX7_named_0 2 rfl rfl)
theorem dX7_named_5 : decode cX7_named 5 = .ok (.iconst 0, 1) := dk_3 (dk_at dksX7_named_0 5 rfl rfl)
theorem dX7_named_6 : decode cX7_named 6 = .ok (.istore_n 2, 1) := dk_61 (dk_at dksX7_named_0 6 rfl rfl)
theorem dX7_named_7 : decode cX7_named 7 = .ok (.iload_n 1, 1) := dk_27 (dk_at dksX7_named_0 7 rfl rfl)
theorem dX7_named_8 : decode cX7_named 8 = .ok (.iconst 0, 1) := dk_3 (dk_at dksX7_named_0 8 rfl rfl)
theorem dX7_named_9 : decode cX7_named 9 = .ok (.aload_n 0, 1) := dk_42 (dk_at dksX7_named_0 9 rfl rfl)
theorem dX7_named_10 : decode cX7_named 10 = .ok (.getfield 109, 3) := dk_180 0 109 (dk_at dksX7_named_0 10 rfl rfl)
theorem dX7_named_13 : decode cX7_named 13 = .ok (.invokestatic 132, 3) := dk_184 0 132 (dk_at dksX7_named_0 13 rfl rfl)
theorem dX7_named_16 : decode cX7_named 16 = .ok (.ifCond .eq 7, 3) := dk_153 0 7 (dk_at dksX7_named_0 16 rfl rfl)
theorem dX7_named_19 : decode cX7_named 19 = .ok (.iload_n 1, 1) := dk_27 (dk_at dksX7_named_0 19 rfl rfl)
theorem dX7_named_20 : decode cX7_named 20 = .ok (.goto 4, 3) := dk_167 0 4 (dk_at dksX7_named_0 20 rfl rfl)
theorem dX7_named_23 : decode cX7_named 23 = .ok (.iconst 0, 1) := dk_3 (dk_at dksX7_named_0 23 rfl rfl)
theorem dX7_named_24 : decode cX7_named 24 = .ok (.istore_n 3, 1) := dk_62 (dk_at dksX7_named_1 0 rfl rfl)
theorem dX7_named_25 : decode cX7_named 25 = .ok (.iload_n 2, 1) := dk_28 (dk_at dksX7_named_1 1 rfl rfl)
theorem dX7_named_26 : decode cX7_named 26 = .ok (.iload_n 3, 1) := dk_29 (dk_at dksX7_named_1 2 rfl rfl)
theorem dX7_named_27 : decode cX7_named 27 = .ok (.if_icmp .ge 20, 3) := dk_162 0 20 (dk_at dksX7_named_1 3 rfl rfl)
theorem dX7_named_30 : decode cX7_named 30 = .ok (.aload_n 0, 1) := dk_42 (dk_at dksX7_named_1 6 rfl rfl)
theorem dX7_named_31 : decode cX7_named 31 = .ok (.getfield 13, 3) := dk_180 0 13 (dk_at dksX7_named_1 7 rfl rfl)
theorem dX7_named_34 : decode cX7_named 34 = .ok (.iload_n 2, 1) := dk_28 (dk_at dksX7_named_1 10 rfl rfl)
theorem dX7_named_35 : decode cX7_named 35 = .ok (.iaload, 1) := dk_46 (dk_at dksX7_named_1 11 rfl rfl)
theorem dX7_named_36 : decode cX7_named 36 = .ok (.bipush 32, 2) := dk_16 32 (dk_at dksX7_named_1 12 rfl rfl)
theorem dX7_named_38 : decode cX7_named 38 = .ok (.if_icmp .ne 9, 3) := dk_160 0 9 (dk_at dksX7_named_1 14 rfl rfl)
theorem dX7_named_41 : decode cX7_named 41 = .ok (.iinc 2 1, 3) := dk_132 2 1 (dk_at dksX7_named_1 17 rfl rfl)
theorem dX7_named_44 : decode cX7_named 44 = .ok (.goto (-19), 3) := dk_167 255 237 (dk_at dksX7_named_1 20 rfl rfl)
theorem dX7_named_47 : decode cX7_named 47 = .ok (.iload_n 3, 1) := dk_29 (dk_at dksX7_named_1 23 rfl rfl)
theorem dX7_named_48 : decode cX7_named 48 = .ok (.iload_n 2, 1) := dk_28 (dk_at dksX7_named_2 0 rfl rfl)
theorem dX7_named_49 : decode cX7_named 49 = .ok (.if_icmp .le 22, 3) := dk_164 0 22 (dk_at dksX7_named_2 1 rfl rfl)
theorem dX7_named_52 : decode cX7_named 52 = .ok (.aload_n 0, 1) := dk_42 (dk_at dksX7_named_2 4 rfl rfl)
theorem dX7_named_53 : decode cX7_named 53 = .ok (.getfield 13, 3) := dk_180 0 13 (dk_at dksX7_named_2 5 rfl rfl)
theorem dX7_named_56 : decode cX7_named 56 = .ok (.iload_n 3, 1) := dk_29 (dk_at dksX7_named_2 8 rfl rfl)
theorem dX7_named_57 : decode cX7_named 57 = .ok (.iconst 1, 1) := dk_4 (dk_at dksX7_named_2 9 rfl rfl)
theorem dX7_named_58 : decode cX7_named 58 = .ok (.isub, 1) := dk_100 (dk_at dksX7_named_2 10 rfl rfl)
theorem dX7_named_59 : decode cX7_named 59 = .ok (.iaload, 1) := dk_46 (dk_at dksX7_named_2 11 rfl rfl)
theorem dX7_named_60 : decode cX7_named 60 = .ok (.bipush 32, 2) := dk_16 32 (dk_at dksX7_named_2 12 rfl rfl)
theorem dX7_named_62 : decode cX7_named 62 = .ok (.if_icmp .ne 9, 3) := dk_160 0 9 (dk_at dksX7_named_2 14 rfl rfl)
theorem dX7_named_65 : decode cX7_named 65 = .ok (.iinc 3 (-1), 3) := dk_132 3 255 (dk_at dksX7_named_2 17 rfl rfl)
theorem dX7_named_68 : decode cX7_named 68 = .ok (.goto (-21), 3) := dk_167 255 235 (dk_at dksX7_named_2 20 rfl rfl)
theorem dX7_named_71 : decode cX7_named 71 = .ok (.iconst 0, 1) := dk_3 (dk_at dksX7_named_2 23 rfl rfl)
theorem dX7_named_72 : decode cX7_named 72 = .ok (.istore 4, 2) := dk_54 4 (dk_at dksX7_named_3 0 rfl rfl)
theorem dX7_named_74 : decode cX7_named 74 = .ok (.iload_n 3, 1) := dk_29 (dk_at dksX7_named_3 2 rfl rfl)
theorem dX7_named_75 : decode cX7_named 75 = .ok (.iload_n 2, 1) := dk_28 (dk_at dksX7_named_3 3 rfl rfl)
theorem dX7_named_76 : decode cX7_named 76 = .ok (.if_icmp .le 39, 3) := dk_164 0 39 (dk_at dksX7_named_3 4 rfl rfl)
theorem dX7_named_79 : decode cX7_named 79 = .ok (.iload 4, 2) := dk_21 4 (dk_at dksX7_named_3 7 rfl rfl)
theorem dX7_named_81 : decode cX7_named 81 = .ok (.aload_n 0, 1) := dk_42 (dk_at dksX7_named_3 9 rfl rfl)
theorem dX7_named_82 : decode cX7_named 82 = .ok (.getfield 244, 3) := dk_180 0 244 (dk_at dksX7_named_3 10 rfl rfl)
theorem dX7_named_85 : decode cX7_named 85 = .ok (.if_icmp .ge 30, 3) := dk_162 0 30 (dk_at dksX7_named_3 13 rfl rfl)
theorem dX7_named_88 : decode cX7_named 88 = .ok (.aload_n 0, 1) := dk_42 (dk_at dksX7_named_3 16 rfl rfl)
theorem dX7_named_89 : decode cX7_named 89 = .ok (.aload_n 0, 1) := dk_42 (dk_at dksX7_named_3 17 rfl rfl)
theorem dX7_named_90 : decode cX7_named 90 = .ok (.getfield 26, 3) := dk_180 0 26 (dk_at dksX7_named_3 18 rfl rfl)
theorem dX7_named_93 : decode cX7_named 93 = .ok (.bipush 6, 2) := dk_16 6 (dk_at dksX7_named_3 21 rfl rfl)
theorem dX7_named_95 : decode cX7_named 95 = .ok (.iload 4, 2) := dk_21 4 (dk_at dksX7_named_4 0 rfl rfl)
theorem dX7_named_97 : decode cX7_named 97 = .ok (.imul, 1) := dk_104 (dk_at dksX7_named_4 2 rfl rfl)
theorem dX7_named_98 : decode cX7_named 98 = .ok (.iload_n 2, 1) := dk_28 (dk_at dksX7_named_4 3 rfl rfl)
theorem dX7_named_99 : decode cX7_named 99 = .ok (.iload_n 3, 1) := dk_29 (dk_at dksX7_named_4 4 rfl rfl)
theorem dX7_named_100 : decode cX7_named 100 = .ok (.invokevirtual 169, 3) := dk_182 0 169 (dk_at dksX7_named_4 5 rfl rfl)
theorem dX7_named_103 : decode cX7_named 103 = .ok (.ifCond .eq 6, 3) := dk_153 0 6 (dk_at dksX7_named_4 8 rfl rfl)
theorem dX7_named_106 : decode cX7_named 106 = .ok (.iload 4, 2) := dk_21 4 (dk_at dksX7_named_4 11 rfl rfl)
theorem dX7_named_108 : decode cX7_named 108 = .ok (.ireturn, 1) := dk_172 (dk_at dksX7_named_4 13 rfl rfl)
theorem dX7_named_109 : decode cX7_named 109 = .ok (.iinc 4 1, 3) := dk_132 4 1 (dk_at dksX7_named_4 14 rfl rfl)
theorem dX7_named_112 : decode cX7_named 112 = .ok (.goto (-38), 3) := dk_167 255 218 (dk_at dksX7_named_4 17 rfl rfl)
theorem dX7_named_115 : decode cX7_named 115 = .ok (.aload_n 0, 1) := dk_42 (dk_at dksX7_named_4 20 rfl rfl)
theorem dX7_named_116 : decode cX7_named 116 = .ok (.iconst 1, 1) := dk_4 (dk_at dksX7_named_4 21 rfl rfl)
theorem dX7_named_117 : decode cX7_named 117 = .ok (.putfield 103, 3) := dk_181 0 103 (dk_at dksX7_named_5 0 rfl rfl)
theorem dX7_named_120 : decode cX7_named 120 = .ok (.iconst 0, 1) := dk_3 (dk_at dksX7_named_5 3 rfl rfl)
theorem dX7_named_121 : decode cX7_named 121 = .ok (.ireturn, 1) := dk_172 (dk_at dksX7_named_5 4 rfl rfl)
abbrev cX7_size : ByteArray := prog_14_method_96_code
def yX7_size : MethodName := ⟨RX7, "size", "()I"⟩
def dkwX7_size_0 : List UInt8 := [42, 3, 181, 0, 103, 42, 180, 0, 109, 172]
abbrev dktX7_size_0 : List UInt8 := dkwX7_size_0 ++ []
theorem dksX7_size_0 : cX7_size.data.toList.drop 0 = dktX7_size_0 := by decide +kernel
theorem dX7_size_0 : decode cX7_size 0 = .ok (.aload_n 0, 1) := dk_42 (dk_at dksX7_size_0 0 rfl rfl)
theorem dX7_size_1 : decode cX7_size 1 = .ok (.iconst 0, 1) := dk_3 (dk_at dksX7_size_0 1 rfl rfl)
theorem dX7_size_2 : decode cX7_size 2 = .ok (.putfield 103, 3) := dk_181 0 103 (dk_at dksX7_size_0 2 rfl rfl)
theorem dX7_size_5 : decode cX7_size 5 = .ok (.aload_n 0, 1) := dk_42 (dk_at dksX7_size_0 5 rfl rfl)
theorem dX7_size_6 : decode cX7_size 6 = .ok (.getfield 109, 3) := dk_180 0 109 (dk_at dksX7_size_0 6 rfl rfl)
theorem dX7_size_9 : decode cX7_size 9 = .ok (.ireturn, 1) := dk_172 (dk_at dksX7_size_0 9 rfl rfl)
abbrev cX7_trouble : ByteArray := prog_14_method_97_code
def yX7_trouble : MethodName := ⟨RX7, "trouble", "()I"⟩
def dkwX7_trouble_0 : List UInt8 := [42, 3, 181, 0, 103, 42, 180, 0, 106, 172]
abbrev dktX7_trouble_0 : List UInt8 := dkwX7_trouble_0 ++ []
theorem dksX7_trouble_0 : cX7_trouble.data.toList.drop 0 = dktX7_trouble_0 := by decide +kernel
theorem dX7_trouble_0 : decode cX7_trouble 0 = .ok (.aload_n 0, 1) := dk_42 (dk_at dksX7_trouble_0 0 rfl rfl)
theorem dX7_trouble_1 : decode cX7_trouble 1 = .ok (.iconst 0, 1) := dk_3 (dk_at dksX7_trouble_0 1 rfl rfl)
theorem dX7_trouble_2 : decode cX7_trouble 2 = .ok (.putfield 103, 3) := dk_181 0 103 (dk_at dksX7_trouble_0 2 rfl rfl)
theorem dX7_trouble_5 : decode cX7_trouble 5 = .ok (.aload_n 0, 1) := dk_42 (dk_at dksX7_trouble_0 5 rfl rfl)
theorem dX7_trouble_6 : decode cX7_trouble 6 = .ok (.getfield 106, 3) := dk_180 0 106 (dk_at dksX7_trouble_0 6 rfl rfl)
theorem dX7_trouble_9 : decode cX7_trouble 9 = .ok (.ireturn, 1) := dk_172 (dk_at dksX7_trouble_0 9 rfl rfl)

