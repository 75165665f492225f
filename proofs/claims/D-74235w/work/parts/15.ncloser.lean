set_option maxRecDepth 100000
abbrev cX1_init : ByteArray := prog_1_method_5_code
def yX1_init : MethodName := ⟨RX1, "<init>", "()V"⟩
def dkwX1_init_7 : List UInt8 := [42, 17, 2, 64, 188, 11, 181, 0, 84, 177]
abbrev dktX1_init_7 : List UInt8 := dkwX1_init_7 ++ []
def dkwX1_init_6 : List UInt8 := [183, 0, 69, 181, 0, 74, 42, 17, 2, 64, 188, 11, 181, 0, 77, 42, 17, 2, 64, 188, 11, 181, 0, 81]
abbrev dktX1_init_6 : List UInt8 := dkwX1_init_6 ++ dktX1_init_7
def dkwX1_init_5 : List UInt8 := [17, 16, 0, 188, 4, 181, 0, 63, 42, 187, 0, 67, 89, 183, 0, 69, 181, 0, 70, 42, 187, 0, 67, 89]
abbrev dktX1_init_5 : List UInt8 := dkwX1_init_5 ++ dktX1_init_6
def dkwX1_init_4 : List UInt8 := [188, 10, 181, 0, 54, 42, 16, 44, 188, 10, 181, 0, 57, 42, 16, 24, 188, 10, 181, 0, 60, 42]
abbrev dktX1_init_4 : List UInt8 := dkwX1_init_4 ++ dktX1_init_5
def dkwX1_init_3 : List UInt8 := [180, 0, 23, 180, 0, 29, 183, 0, 42, 181, 0, 47, 42, 16, 44, 188, 10, 181, 0, 50, 42, 16, 44]
abbrev dktX1_init_3 : List UInt8 := dkwX1_init_3 ++ dktX1_init_4
def dkwX1_init_2 : List UInt8 := [42, 187, 0, 40, 89, 42, 180, 0, 23, 180, 0, 29, 183, 0, 42, 181, 0, 43, 42, 187, 0, 40, 89, 42]
abbrev dktX1_init_2 : List UInt8 := dkwX1_init_2 ++ dktX1_init_3
def dkwX1_init_1 : List UInt8 := [183, 0, 22, 181, 0, 23, 42, 187, 0, 27, 89, 42, 180, 0, 23, 180, 0, 29, 183, 0, 33, 181, 0, 36]
abbrev dktX1_init_1 : List UInt8 := dkwX1_init_1 ++ dktX1_init_2
def dkwX1_init_0 : List UInt8 := [42, 183, 0, 10, 42, 2, 181, 0, 7, 42, 17, 1, 244, 188, 8, 181, 0, 16, 42, 187, 0, 20, 89]
abbrev dktX1_init_0 : List UInt8 := dkwX1_init_0 ++ dktX1_init_1
theorem dksX1_init_0 : cX1_init.data.toList.drop 0 = dktX1_init_0 := by decide +kernel
theorem dksX1_init_1 : cX1_init.data.toList.drop 23 = dktX1_init_1 := dk_seg dksX1_init_0 23 rfl rfl
theorem dksX1_init_2 : cX1_init.data.toList.drop 47 = dktX1_init_2 := dk_seg dksX1_init_1 24 rfl rfl
theorem dksX1_init_3 : cX1_init.data.toList.drop 71 = dktX1_init_3 := dk_seg dksX1_init_2 24 rfl rfl
theorem dksX1_init_4 : cX1_init.data.toList.drop 94 = dktX1_init_4 := dk_seg dksX1_init_3 23 rfl rfl
theorem dksX1_init_5 : cX1_init.data.toList.drop 116 = dktX1_init_5 := dk_seg dksX1_init_4 22 rfl rfl
theorem dksX1_init_6 : cX1_init.data.toList.drop 140 = dktX1_init_6 := dk_seg dksX1_init_5 24 rfl rfl
theorem dksX1_init_7 : cX1_init.data.toList.drop 164 = dktX1_init_7 := dk_seg dksX1_init_6 24 rfl rfl
theorem dX1_init_0 : decode cX1_init 0 = .ok (.aload_n 0, 1) := dk_42 (dk_at dksX1_init_0 0 rfl rfl)
theorem dX1_init_1 : decode cX1_init 1 = .ok (.invokespecial 10, 3) := dk_183 0 10 (dk_at dksX1_init_0 1 rfl rfl)
theorem dX1_init_4 : decode cX1_init 4 = .ok (.aload_n 0, 1) := dk_42 (dk_at dksX1_init_0 4 rfl rfl)
theorem dX1_init_5 : decode cX1_init 5 = .ok (.iconst (-1), 1) := dk_2 (dk_at dksX1_init_0 5 rfl rfl)
theorem dX1_init_6 : decode cX1_init 6 = .ok (.putfield 7, 3) := dk_181 0 7 (dk_at dksX1_init_0 6 rfl rfl)
theorem dX1_init_9 : decode cX1_init 9 = .ok (.aload_n 0, 1) := dk_42 (dk_at dksX1_init_0 9 rfl rfl)
theorem dX1_init_10 : decode cX1_init 10 = .ok (.sipush 500, 3) := dk_17 1 244 (dk_at dksX1_init_0 10 rfl rfl)
theorem dX1_init_13 : decode cX1_init 13 = .ok (.newarray .byte, 2) := dk_188_8 (dk_at dksX1_init_0 13 rfl rfl)
theorem dX1_init_15 : decode cX1_init 15 = .ok (.putfield 16, 3) := dk_181 0 16 (dk_at dksX1_init_0 15 rfl rfl)
theorem dX1_init_18 : decode cX1_init 18 = .ok (.aload_n 0, 1) := dk_42 (dk_at dksX1_init_0 18 rfl rfl)
theorem dX1_init_19 : decode cX1_init 19 = .ok (.new 20, 3) := dk_187 0 20 (dk_at dksX1_init_0 19 rfl rfl)
theorem dX1_init_22 : decode cX1_init 22 = .ok (.dup, 1) := dk_89 (dk_at dksX1_init_0 22 rfl rfl)
theorem dX1_init_23 : decode cX1_init 23 = .ok (.invokespecial 22, 3) := dk_183 0 22 (dk_at dksX1_init_1 0 rfl rfl)
theorem dX1_init_26 : decode cX1_init 26 = .ok (.putfield 23, 3) := dk_181 0 23 (dk_at dksX1_init_1 3 rfl rfl)
theorem dX1_init_29 : decode cX1_init 29 = .ok (.aload_n 0, 1) := dk_42 (dk_at dksX1_init_1 6 rfl rfl)
theorem dX1_init_30 : decode cX1_init 30 = .ok (.new 27, 3) := dk_187 0 27 (dk_at dksX1_init_1 7 rfl rfl)
theorem dX1_init_33 : decode cX1_init 33 = .ok (.dup, 1) := dk_89 (dk_at dksX1_init_1 10 rfl rfl)
theorem dX1_init_34 : decode cX1_init 34 = .ok (.aload_n 0, 1) := dk_42 (dk_at dksX1_init_1 11 rfl rfl)
theorem dX1_init_35 : decode cX1_init 35 = .ok (.getfield 23, 3) := dk_180 0 23 (dk_at dksX1_init_1 12 rfl rfl)
theorem dX1_init_38 : decode cX1_init 38 = .ok (.getfield 29, 3) := dk_180 0 29 (dk_at dksX1_init_1 15 rfl rfl)
theorem dX1_init_41 : decode cX1_init 41 = .ok (.invokespecial 33, 3) := dk_183 0 33 (dk_at dksX1_init_1 18 rfl rfl)
theorem dX1_init_44 : decode cX1_init 44 = .ok (.putfield 36, 3) := dk_181 0 36 (dk_at dksX1_init_1 21 rfl rfl)
theorem dX1_init_47 : decode cX1_init 47 = .ok (.aload_n 0, 1) := dk_42 (dk_at dksX1_init_2 0 rfl rfl)
theorem dX1_init_48 : decode cX1_init 48 = .ok (.new 40, 3) := dk_187 0 40 (dk_at dksX1_init_2 1 rfl rfl)
theorem dX1_init_51 : decode cX1_init 51 = .ok (.dup, 1) := dk_89 (dk_at dksX1_init_2 4 rfl rfl)
theorem dX1_init_52 : decode cX1_init 52 = .ok (.aload_n 0, 1) := dk_42 (dk_at dksX1_init_2 5 rfl rfl)
theorem dX1_init_53 : decode cX1_init 53 = .ok (.getfield 23, 3) := dk_180 0 23 (dk_at dksX1_init_2 6 rfl rfl)
theorem dX1_init_56 : decode cX1_init 56 = .ok (.getfield 29, 3) := dk_180 0 29 (dk_at dksX1_init_2 9 rfl rfl)
theorem dX1_init_59 : decode cX1_init 59 = .ok (.invokespecial 42, 3) := dk_183 0 42 (dk_at dksX1_init_2 12 rfl rfl)
theorem dX1_init_62 : decode cX1_init 62 = .ok (.putfield 43, 3) := dk_181 0 43 (dk_at dksX1_init_2 15 rfl rfl)
theorem dX1_init_65 : decode cX1_init 65 = .ok (.aload_n 0, 1) := dk_42 (dk_at dksX1_init_2 18 rfl rfl)
theorem dX1_init_66 : decode cX1_init 66 = .ok (.new 40, 3) := dk_187 0 40 (dk_at dksX1_init_2 19 rfl rfl)
theorem dX1_init_69 : decode cX1_init 69 = .ok (.dup, 1) := dk_89 (dk_at dksX1_init_2 22 rfl rfl)
theorem dX1_init_70 : decode cX1_init 70 = .ok (.aload_n 0, 1) := dk_42 (dk_at dksX1_init_2 23 rfl rfl)
theorem dX1_init_71 : decode cX1_init 71 = .ok (.getfield 23, 3) := dk_180 0 23 (dk_at dksX1_init_3 0 rfl rfl)
theorem dX1_init_74 : decode cX1_init 74 = .ok (.getfield 29, 3) := dk_180 0 29 (dk_at dksX1_init_3 3 rfl rfl)
theorem dX1_init_77 : decode cX1_init 77 = .ok (.invokespecial 42, 3) := dk_183 0 42 (dk_at dksX1_init_3 6 rfl rfl)
theorem dX1_init_80 : decode cX1_init 80 = .ok (.putfield 47, 3) := dk_181 0 47 (dk_at dksX1_init_3 9 rfl rfl)
theorem dX1_init_83 : decode cX1_init 83 = .ok (.aload_n 0, 1) := dk_42 (dk_at dksX1_init_3 12 rfl rfl)
theorem dX1_init_84 : decode cX1_init 84 = .ok (.bipush 44, 2) := dk_16 44 (dk_at dksX1_init_3 13 rfl rfl)
theorem dX1_init_86 : decode cX1_init 86 = .ok (.newarray .int, 2) := dk_188_10 (dk_at dksX1_init_3 15 rfl rfl)
theorem dX1_init_88 : decode cX1_init 88 = .ok (.putfield 50, 3) := dk_181 0 50 (dk_at dksX1_init_3 17 rfl rfl)
theorem dX1_init_91 : decode cX1_init 91 = .ok (.aload_n 0, 1) := dk_42 (dk_at dksX1_init_3 20 rfl rfl)
theorem dX1_init_92 : decode cX1_init 92 = .ok (.bipush 44, 2) := dk_16 44 (dk_at dksX1_init_3 21 rfl rfl)
theorem dX1_init_94 : decode cX1_init 94 = .ok (.newarray .int, 2) := dk_188_10 (dk_at dksX1_init_4 0 rfl rfl)
theorem dX1_init_96 : decode cX1_init 96 = .ok (.putfield 54, 3) := dk_181 0 54 (dk_at dksX1_init_4 2 rfl rfl)
theorem dX1_init_99 : decode cX1_init 99 = .ok (.aload_n 0, 1) := dk_42 (dk_at dksX1_init_4 5 rfl rfl)
theorem dX1_init_100 : decode cX1_init 100 = .ok (.bipush 44, 2) := dk_16 44 (dk_at dksX1_init_4 6 rfl rfl)
theorem dX1_init_102 : decode cX1_init 102 = .ok (.newarray .int, 2) := dk_188_10 (dk_at dksX1_init_4 8 rfl rfl)
theorem dX1_init_104 : decode cX1_init 104 = .ok (.putfield 57, 3) := dk_181 0 57 (dk_at dksX1_init_4 10 rfl rfl)
theorem dX1_init_107 : decode cX1_init 107 = .ok (.aload_n 0, 1) := dk_42 (dk_at dksX1_init_4 13 rfl rfl)
theorem dX1_init_108 : decode cX1_init 108 = .ok (.bipush 24, 2) := dk_16 24 (dk_at dksX1_init_4 14 rfl rfl)
theorem dX1_init_110 : decode cX1_init 110 = .ok (.newarray .int, 2) := dk_188_10 (dk_at dksX1_init_4 16 rfl rfl)
theorem dX1_init_112 : decode cX1_init 112 = .ok (.putfield 60, 3) := dk_181 0 60 (dk_at dksX1_init_4 18 rfl rfl)
theorem dX1_init_115 : decode cX1_init 115 = .ok (.aload_n 0, 1) := dk_42 (dk_at dksX1_init_4 21 rfl rfl)
theorem dX1_init_116 : decode cX1_init 116 = .ok (.sipush 4096, 3) := dk_17 16 0 (dk_at dksX1_init_5 0 rfl rfl)
theorem dX1_init_119 : decode cX1_init 119 = .ok (.newarray .boolean, 2) := dk_188_4 (dk_at dksX1_init_5 3 rfl rfl)
theorem dX1_init_121 : decode cX1_init 121 = .ok (.putfield 63, 3) := dk_181 0 63 (dk_at dksX1_init_5 5 rfl rfl)
theorem dX1_init_124 : decode cX1_init 124 = .ok (.aload_n 0, 1) := dk_42 (dk_at dksX1_init_5 8 rfl rfl)
theorem dX1_init_125 : decode cX1_init 125 = .ok (.new 67, 3) := dk_187 0 67 (dk_at dksX1_init_5 9 rfl rfl)
theorem dX1_init_128 : decode cX1_init 128 = .ok (.dup, 1) := dk_89 (dk_at dksX1_init_5 12 rfl rfl)
theorem dX1_init_129 : decode cX1_init 129 = .ok (.invokespecial 69, 3) := dk_183 0 69 (dk_at dksX1_init_5 13 rfl rfl)
theorem dX1_init_132 : decode cX1_init 132 = .ok (.putfield 70, 3) := dk_181 0 70 (dk_at dksX1_init_5 16 rfl rfl)
theorem dX1_init_135 : decode cX1_init 135 = .ok (.aload_n 0, 1) := dk_42 (dk_at dksX1_init_5 19 rfl rfl)
theorem dX1_init_136 : decode cX1_init 136 = .ok (.new 67, 3) := dk_187 0 67 (dk_at dksX1_init_5 20 rfl rfl)
theorem dX1_init_139 : decode cX1_init 139 = .ok (.dup, 1) := dk_89 (dk_at dksX1_init_5 23 rfl rfl)
theorem dX1_init_140 : decode cX1_init 140 = .ok (.invokespecial 69, 3) := dk_183 0 69 (dk_at dksX1_init_6 0 rfl rfl)
theorem dX1_init_143 : decode cX1_init 143 = .ok (.putfield 74, 3) := dk_181 0 74 (dk_at dksX1_init_6 3 rfl rfl)
theorem dX1_init_146 : decode cX1_init 146 = .ok (.aload_n 0, 1) := dk_42 (dk_at dksX1_init_6 6 rfl rfl)
theorem dX1_init_147 : decode cX1_init 147 = .ok (.sipush 576, 3) := dk_17 2 64 (dk_at dksX1_init_6 7 rfl rfl)
theorem dX1_init_150 : decode cX1_init 150 = .ok (.newarray .long, 2) := dk_188_11 (dk_at dksX1_init_6 10 rfl rfl)
theorem dX1_init_152 : decode cX1_init 152 = .ok (.putfield 77, 3) := dk_181 0 77 (dk_at dksX1_init_6 12 rfl rfl)
theorem dX1_init_155 : decode cX1_init 155 = .ok (.aload_n 0, 1) := dk_42 (dk_at dksX1_init_6 15 rfl rfl)
theorem dX1_init_156 : decode cX1_init 156 = .ok (.sipush 576, 3) := dk_17 2 64 (dk_at dksX1_init_6 16 rfl rfl)
theorem dX1_init_159 : decode cX1_init 159 = .ok (.newarray .long, 2) := dk_188_11 (dk_at dksX1_init_6 19 rfl rfl)
theorem dX1_init_161 : decode cX1_init 161 = .ok (.putfield 81, 3) := dk_181 0 81 (dk_at dksX1_init_6 21 rfl rfl)
theorem dX1_init_164 : decode cX1_init 164 = .ok (.aload_n 0, 1) := dk_42 (dk_at dksX1_init_7 0 rfl rfl)
theorem dX1_init_165 : decode cX1_init 165 = .ok (.sipush 576, 3) := dk_17 2 64 (dk_at dksX1_init_7 1 rfl rfl)
theorem dX1_init_168 : decode cX1_init 168 = .ok (.newarray .long, 2) := dk_188_11 (dk_at dksX1_init_7 4 rfl rfl)
theorem dX1_init_170 : decode cX1_init 170 = .ok (.putfield 84, 3) := dk_181 0 84 (dk_at dksX1_init_7 6 rfl rfl)
theorem dX1_init_173 : decode cX1_init 173 = .ok (.return_, 1) := dk_177 (dk_at dksX1_init_7 9 rfl rfl)
abbrev cX1_feed : ByteArray := prog_1_method_7_code
def yX1_feed : MethodName := ⟨RX1, "feed", "(IIIII)I"⟩
def dkwX1_feed_2 : List UInt8 := [172]
abbrev dktX1_feed_2 : List UInt8 := dkwX1_feed_2 ++ []
def dkwX1_feed_1 : List UInt8 := [4, 28, 79, 89, 5, 29, 79, 89, 6, 21, 4, 79, 89, 7, 21, 5, 79, 182, 0, 90, 42, 180, 0, 87]
abbrev dktX1_feed_1 : List UInt8 := dkwX1_feed_1 ++ dktX1_feed_2
def dkwX1_feed_0 : List UInt8 := [42, 180, 0, 87, 16, 20, 96, 17, 1, 244, 164, 0, 5, 2, 172, 42, 8, 188, 10, 89, 3, 27, 79, 89]
abbrev dktX1_feed_0 : List UInt8 := dkwX1_feed_0 ++ dktX1_feed_1
theorem dksX1_feed_0 : cX1_feed.data.toList.drop 0 = dktX1_feed_0 := by decide +kernel
theorem dksX1_feed_1 : cX1_feed.data.toList.drop 24 = dktX1_feed_1 := dk_seg dksX1_feed_0 24 rfl rfl
theorem dksX1_feed_2 : cX1_feed.data.toList.drop 48 = dktX1_feed_2 := dk_seg dksX1_feed_1 24 rfl rfl
theorem dX1_feed_0 : decode cX1_feed 0 = .ok (.aload_n 0, 1) := dk_42 (dk_at dksX1_feed_0 0 rfl rfl)
theorem dX1_feed_1 : decode cX1_feed 1 = .ok (.getfield 87, 3) := dk_180 0 87 (dk_at dksX1_feed_0 1 rfl rfl)
theorem dX1_feed_4 : decode cX1_feed 4 = .ok (.bipush 20, 2) := dk_16 20 (dk_at dksX1_feed_0 4 rfl rfl)
theorem dX1_feed_6 : decode cX1_feed 6 = .ok (.iadd, 1) := dk_96 (dk_at dksX1_feed_0 6 rfl rfl)
theorem dX1_feed_7 : decode cX1_feed 7 = .ok (.sipush 500, 3) := dk_17 1 244 (dk_at dksX1_feed_0 7 rfl rfl)
theorem dX1_feed_10 : decode cX1_feed 10 = .ok (.if_icmp .le 5, 3) := dk_164 0 5 (dk_at dksX1_feed_0 10 rfl rfl)
theorem dX1_feed_13 : decode cX1_feed 13 = .ok (.iconst (-1), 1) := dk_2 (dk_at dksX1_feed_0 13 rfl rfl)
theorem dX1_feed_14 : decode cX1_feed 14 = .ok (.ireturn, 1) := dk_172 (dk_at dksX1_feed_0 14 rfl rfl)
theorem dX1_feed_15 : decode cX1_feed 15 = .ok (.aload_n 0, 1) := dk_42 (dk_at dksX1_feed_0 15 rfl rfl)
theorem dX1_feed_16 : decode cX1_feed 16 = .ok (.iconst 5, 1) := dk_8 (dk_at dksX1_feed_0 16 rfl rfl)
theorem dX1_feed_17 : decode cX1_feed 17 = .ok (.newarray .int, 2) := dk_188_10 (dk_at dksX1_feed_0 17 rfl rfl)
theorem dX1_feed_19 : decode cX1_feed 19 = .ok (.dup, 1) := dk_89 (dk_at dksX1_feed_0 19 rfl rfl)
theorem dX1_feed_20 : decode cX1_feed 20 = .ok (.iconst 0, 1) := dk_3 (dk_at dksX1_feed_0 20 rfl rfl)
theorem dX1_feed_21 : decode cX1_feed 21 = .ok (.iload_n 1, 1) := dk_27 (dk_at dksX1_feed_0 21 rfl rfl)
theorem dX1_feed_22 : decode cX1_feed 22 = .ok (.iastore, 1) := dk_79 (dk_at dksX1_feed_0 22 rfl rfl)
theorem dX1_feed_23 : decode cX1_feed 23 = .ok (.dup, 1) := dk_89 (dk_at dksX1_feed_0 23 rfl rfl)
theorem dX1_feed_24 : decode cX1_feed 24 = .ok (.iconst 1, 1) := dk_4 (dk_at dksX1_feed_1 0 rfl rfl)
theorem dX1_feed_25 : decode cX1_feed 25 = .ok (.iload_n 2, 1) := dk_28 (dk_at dksX1_feed_1 1 rfl rfl)
theorem dX1_feed_26 : decode cX1_feed 26 = .ok (.iastore, 1) := dk_79 (dk_at dksX1_feed_1 2 rfl rfl)
theorem dX1_feed_27 : decode cX1_feed 27 = .ok (.dup, 1) := dk_89 (dk_at dksX1_feed_1 3 rfl rfl)
theorem dX1_feed_28 : decode cX1_feed 28 = .ok (.iconst 2, 1) := dk_5 (dk_at dksX1_feed_1 4 rfl rfl)
theorem dX1_feed_29 : decode cX1_feed 29 = .ok (.iload_n 3, 1) := dk_29 (dk_at dksX1_feed_1 5 rfl rfl)
theorem dX1_feed_30 : decode cX1_feed 30 = .ok (.iastore, 1) := dk_79 (dk_at dksX1_feed_1 6 rfl rfl)
theorem dX1_feed_31 : decode cX1_feed 31 = .ok (.dup, 1) := dk_89 (dk_at dksX1_feed_1 7 rfl rfl)
theorem dX1_feed_32 : decode cX1_feed 32 = .ok (.iconst 3, 1) := dk_6 (dk_at dksX1_feed_1 8 rfl rfl)
theorem dX1_feed_33 : decode cX1_feed 33 = .ok (.iload 4, 2) := dk_21 4 (dk_at dksX1_feed_1 9 rfl rfl)
theorem dX1_feed_35 : decode cX1_feed 35 = .ok (.iastore, 1) := dk_79 (dk_at dksX1_feed_1 11 rfl rfl)
theorem dX1_feed_36 : decode cX1_feed 36 = .ok (.dup, 1) := dk_89 (dk_at dksX1_feed_1 12 rfl rfl)
theorem dX1_feed_37 : decode cX1_feed 37 = .ok (.iconst 4, 1) := dk_7 (dk_at dksX1_feed_1 13 rfl rfl)
theorem dX1_feed_38 : decode cX1_feed 38 = .ok (.iload 5, 2) := dk_21 5 (dk_at dksX1_feed_1 14 rfl rfl)
theorem dX1_feed_40 : decode cX1_feed 40 = .ok (.iastore, 1) := dk_79 (dk_at dksX1_feed_1 16 rfl rfl)
theorem dX1_feed_41 : decode cX1_feed 41 = .ok (.invokevirtual 90, 3) := dk_182 0 90 (dk_at dksX1_feed_1 17 rfl rfl)
theorem dX1_feed_44 : decode cX1_feed 44 = .ok (.aload_n 0, 1) := dk_42 (dk_at dksX1_feed_1 20 rfl rfl)
theorem dX1_feed_45 : decode cX1_feed 45 = .ok (.getfield 87, 3) := dk_180 0 87 (dk_at dksX1_feed_1 21 rfl rfl)
theorem dX1_feed_48 : decode cX1_feed 48 = .ok (.ireturn, 1) := dk_172 (dk_at dksX1_feed_2 0 rfl rfl)
abbrev cX1_feedAll : ByteArray := prog_1_method_6_code
def yX1_feedAll : MethodName := ⟨RX1, "feedAll", "([I)V"⟩
def dkwX1_feedAll_2 : List UInt8 := [180, 0, 87, 4, 96, 181, 0, 87, 132, 6, 248, 167, 255, 223, 132, 4, 1, 167, 255, 201, 177]
abbrev dktX1_feedAll_2 : List UInt8 := dkwX1_feedAll_2 ++ []
def dkwX1_feedAll_1 : List UInt8 := [21, 6, 155, 0, 34, 42, 180, 0, 16, 42, 180, 0, 87, 21, 5, 21, 6, 122, 145, 84, 42, 89]
abbrev dktX1_feedAll_1 : List UInt8 := dkwX1_feedAll_1 ++ dktX1_feedAll_2
def dkwX1_feedAll_0 : List UInt8 := [43, 77, 44, 190, 62, 3, 54, 4, 21, 4, 29, 162, 0, 55, 44, 21, 4, 46, 54, 5, 16, 24, 54, 6]
abbrev dktX1_feedAll_0 : List UInt8 := dkwX1_feedAll_0 ++ dktX1_feedAll_1
theorem dksX1_feedAll_0 : cX1_feedAll.data.toList.drop 0 = dktX1_feedAll_0 := by decide +kernel
theorem dksX1_feedAll_1 : cX1_feedAll.data.toList.drop 24 = dktX1_feedAll_1 := dk_seg dksX1_feedAll_0 24 rfl rfl
theorem dksX1_feedAll_2 : cX1_feedAll.data.toList.drop 46 = dktX1_feedAll_2 := dk_seg dksX1_feedAll_1 22 rfl rfl
theorem dX1_feedAll_0 : decode cX1_feedAll 0 = .ok (.aload_n 1, 1) := dk_43 (dk_at dksX1_feedAll_0 0 rfl rfl)
theorem dX1_feedAll_1 : decode cX1_feedAll 1 = .ok (.astore_n 2, 1) := dk_77 (dk_at dksX1_feedAll_0 1 rfl rfl)
theorem dX1_feedAll_2 : decode cX1_feedAll 2 = .ok (.aload_n 2, 1) := dk_44 (dk_at dksX1_feedAll_0 2 rfl rfl)
theorem dX1_feedAll_3 : decode cX1_feedAll 3 = .ok (.arraylength, 1) := dk_190 (dk_at dksX1_feedAll_0 3 rfl rfl)
theorem dX1_feedAll_4 : decode cX1_feedAll 4 = .ok (.istore_n 3, 1) := dk_62 (dk_at dksX1_feedAll_0 4 rfl rfl)
theorem dX1_feedAll_5 : decode cX1_feedAll 5 = .ok (.iconst 0, 1) := dk_3 (dk_at dksX1_feedAll_0 5 rfl rfl)
theorem dX1_feedAll_6 : decode cX1_feedAll 6 = .ok (.istore 4, 2) := dk_54 4 (dk_at dksX1_feedAll_0 6 rfl rfl)
theorem dX1_feedAll_8 : decode cX1_feedAll 8 = .ok (.iload 4, 2) := dk_21 4 (dk_at dksX1_feedAll_0 8 rfl rfl)
theorem dX1_feedAll_10 : decode cX1_feedAll 10 = .ok (.iload_n 3, 1) := dk_29 (dk_at dksX1_feedAll_0 10 rfl rfl)
theorem dX1_feedAll_11 : decode cX1_feedAll 11 = .ok (.if_icmp .ge 55, 3) := dk_162 0 55 (dk_at dksX1_feedAll_0 11 rfl rfl)
theorem dX1_feedAll_14 : decode cX1_feedAll 14 = .ok (.aload_n 2, 1) := dk_44 (dk_at dksX1_feedAll_0 14 rfl rfl)
theorem dX1_feedAll_15 : decode cX1_feedAll 15 = .ok (.iload 4, 2) := dk_21 4 (dk_at dksX1_feedAll_0 15 rfl rfl)
theorem dX1_feedAll_17 : decode cX1_feedAll 17 = .ok (.iaload, 1) := dk_46 (dk_at dksX1_feedAll_0 17 rfl rfl)
theorem dX1_feedAll_18 : decode cX1_feedAll 18 = .ok (.istore 5, 2) := dk_54 5 (dk_at dksX1_feedAll_0 18 rfl rfl)
theorem dX1_feedAll_20 : decode cX1_feedAll 20 = .ok (.bipush 24, 2) := dk_16 24 (dk_at dksX1_feedAll_0 20 rfl rfl)
theorem dX1_feedAll_22 : decode cX1_feedAll 22 = .ok (.istore 6, 2) := dk_54 6 (dk_at dksX1_feedAll_0 22 rfl rfl)
theorem dX1_feedAll_24 : decode cX1_feedAll 24 = .ok (.iload 6, 2) := dk_21 6 (dk_at dksX1_feedAll_1 0 rfl rfl)
theorem dX1_feedAll_26 : decode cX1_feedAll 26 = .ok (.ifCond .lt 34, 3) := dk_155 0 34 (dk_at dksX1_feedAll_1 2 rfl rfl)
theorem dX1_feedAll_29 : decode cX1_feedAll 29 = .ok (.aload_n 0, 1) := dk_42 (dk_at dksX1_feedAll_1 5 rfl rfl)
theorem dX1_feedAll_30 : decode cX1_feedAll 30 = .ok (.getfield 16, 3) := dk_180 0 16 (dk_at dksX1_feedAll_1 6 rfl rfl)
theorem dX1_feedAll_33 : decode cX1_feedAll 33 = .ok (.aload_n 0, 1) := dk_42 (dk_at dksX1_feedAll_1 9 rfl rfl)
theorem dX1_feedAll_34 : decode cX1_feedAll 34 = .ok (.getfield 87, 3) := dk_180 0 87 (dk_at dksX1_feedAll_1 10 rfl rfl)
theorem dX1_feedAll_37 : decode cX1_feedAll 37 = .ok (.iload 5, 2) := dk_21 5 (dk_at dksX1_feedAll_1 13 rfl rfl)
theorem dX1_feedAll_39 : decode cX1_feedAll 39 = .ok (.iload 6, 2) := dk_21 6 (dk_at dksX1_feedAll_1 15 rfl rfl)
theorem dX1_feedAll_41 : decode cX1_feedAll 41 = .ok (.ishr, 1) := dk_122 (dk_at dksX1_feedAll_1 17 rfl rfl)
theorem dX1_feedAll_42 : decode cX1_feedAll 42 = .ok (.i2b, 1) := dk_145 (dk_at dksX1_feedAll_1 18 rfl rfl)
theorem dX1_feedAll_43 : decode cX1_feedAll 43 = .ok (.bastore, 1) := dk_84 (dk_at dksX1_feedAll_1 19 rfl rfl)
theorem dX1_feedAll_44 : decode cX1_feedAll 44 = .ok (.aload_n 0, 1) := dk_42 (dk_at dksX1_feedAll_1 20 rfl rfl)
theorem dX1_feedAll_45 : decode cX1_feedAll 45 = .ok (.dup, 1) := dk_89 (dk_at dksX1_feedAll_1 21 rfl rfl)
theorem dX1_feedAll_46 : decode cX1_feedAll 46 = .ok (.getfield 87, 3) := dk_180 0 87 (dk_at dksX1_feedAll_2 0 rfl rfl)
theorem dX1_feedAll_49 : decode cX1_feedAll 49 = .ok (.iconst 1, 1) := dk_4 (dk_at dksX1_feedAll_2 3 rfl rfl)
theorem dX1_feedAll_50 : decode cX1_feedAll 50 = .ok (.iadd, 1) := dk_96 (dk_at dksX1_feedAll_2 4 rfl rfl)
theorem dX1_feedAll_51 : decode cX1_feedAll 51 = .ok (.putfield 87, 3) := dk_181 0 87 (dk_at dksX1_feedAll_2 5 rfl rfl)
theorem dX1_feedAll_54 : decode cX1_feedAll 54 = .ok (.iinc 6 (-8), 3) := dk_132 6 248 (dk_at dksX1_feedAll_2 8 rfl rfl)
theorem dX1_feedAll_57 : decode cX1_feedAll 57 = .ok (.goto (-33), 3) := dk_167 255 223 (dk_at dksX1_feedAll_2 11 rfl rfl)
theorem dX1_feedAll_60 : decode cX1_feedAll 60 = .ok (.iinc 4 1, 3) := dk_132 4 1 (dk_at dksX1_feedAll_2 14 rfl rfl)
theorem dX1_feedAll_63 : decode cX1_feedAll 63 = .ok (.goto (-55), 3) := dk_167 255 201 (dk_at dksX1_feedAll_2 17 rfl rfl)
theorem dX1_feedAll_66 : decode cX1_feedAll 66 = .ok (.return_, 1) := dk_177 (dk_at dksX1_feedAll_2 20 rfl rfl)
abbrev cX1_text : ByteArray := prog_1_method_8_code
def yX1_text : MethodName := ⟨RX1, "text", "(I)I"⟩
def dkwX1_text_12 : List UInt8 := [172]
abbrev dktX1_text_12 : List UInt8 := dkwX1_text_12 ++ []
def dkwX1_text_11 : List UInt8 := [167, 255, 230, 42, 3, 181, 0, 173, 42, 42, 180, 0, 23, 180, 0, 29, 185, 0, 169, 1, 0, 182, 0, 176]
abbrev dktX1_text_11 : List UInt8 := dkwX1_text_11 ++ dktX1_text_12
def dkwX1_text_10 : List UInt8 := [180, 0, 23, 180, 0, 29, 185, 0, 169, 1, 0, 162, 0, 16, 42, 180, 0, 43, 182, 0, 172, 132, 2, 1]
abbrev dktX1_text_10 : List UInt8 := dkwX1_text_10 ++ dktX1_text_11
def dkwX1_text_9 : List UInt8 := [185, 0, 153, 2, 0, 192, 0, 157, 180, 0, 162, 29, 182, 0, 165, 167, 255, 173, 3, 61, 28, 42]
abbrev dktX1_text_9 : List UInt8 := dkwX1_text_9 ++ dktX1_text_10
def dkwX1_text_8 : List UInt8 := [29, 185, 0, 153, 2, 0, 192, 0, 157, 180, 0, 159, 42, 180, 0, 23, 180, 0, 150, 29]
abbrev dktX1_text_8 : List UInt8 := dkwX1_text_8 ++ dktX1_text_9
def dkwX1_text_7 : List UInt8 := [160, 0, 13, 42, 180, 0, 36, 182, 0, 147, 167, 0, 49, 42, 180, 0, 36, 42, 180, 0, 23, 180, 0, 150]
abbrev dktX1_text_7 : List UInt8 := dkwX1_text_7 ++ dktX1_text_8
def dkwX1_text_6 : List UInt8 := [185, 0, 131, 1, 0, 153, 0, 80, 44, 185, 0, 137, 1, 0, 192, 0, 141, 182, 0, 143, 62, 29, 2]
abbrev dktX1_text_6 : List UInt8 := dkwX1_text_6 ++ dktX1_text_7
def dkwX1_text_5 : List UInt8 := [183, 0, 42, 181, 0, 47, 42, 180, 0, 23, 180, 0, 122, 185, 0, 125, 1, 0, 77, 44]
abbrev dktX1_text_5 : List UInt8 := dkwX1_text_5 ++ dktX1_text_6
def dkwX1_text_4 : List UInt8 := [180, 0, 23, 180, 0, 29, 183, 0, 42, 181, 0, 43, 42, 187, 0, 40, 89, 42, 180, 0, 23, 180, 0, 29]
abbrev dktX1_text_4 : List UInt8 := dkwX1_text_4 ++ dktX1_text_5
def dkwX1_text_3 : List UInt8 := [42, 187, 0, 27, 89, 42, 180, 0, 23, 180, 0, 29, 183, 0, 33, 181, 0, 36, 42, 187, 0, 40, 89, 42]
abbrev dktX1_text_3 : List UInt8 := dkwX1_text_3 ++ dktX1_text_4
def dkwX1_text_2 : List UInt8 := [42, 44, 180, 0, 116, 181, 0, 102, 42, 7, 182, 0, 98, 87, 42, 44, 180, 0, 119, 181, 0, 7, 2, 172]
abbrev dktX1_text_2 : List UInt8 := dkwX1_text_2 ++ dktX1_text_3
def dkwX1_text_1 : List UInt8 := [3, 181, 0, 102, 42, 187, 0, 105, 89, 42, 27, 183, 0, 107, 182, 0, 110, 181, 0, 23, 167, 0, 28, 77]
abbrev dktX1_text_1 : List UInt8 := dkwX1_text_1 ++ dktX1_text_2
def dkwX1_text_0 : List UInt8 := [27, 3, 42, 180, 0, 87, 184, 0, 94, 154, 0, 9, 42, 5, 182, 0, 98, 172, 42, 3, 181, 0, 87, 42]
abbrev dktX1_text_0 : List UInt8 := dkwX1_text_0 ++ dktX1_text_1
theorem dksX1_text_0 : cX1_text.data.toList.drop 0 = dktX1_text_0 := by decide +kernel
theorem dksX1_text_1 : cX1_text.data.toList.drop 24 = dktX1_text_1 := dk_seg dksX1_text_0 24 rfl rfl
theorem dksX1_text_2 : cX1_text.data.toList.drop 48 = dktX1_text_2 := dk_seg dksX1_text_1 24 rfl rfl
theorem dksX1_text_3 : cX1_text.data.toList.drop 72 = dktX1_text_3 := dk_seg dksX1_text_2 24 rfl rfl
theorem dksX1_text_4 : cX1_text.data.toList.drop 96 = dktX1_text_4 := dk_seg dksX1_text_3 24 rfl rfl
theorem dksX1_text_5 : cX1_text.data.toList.drop 120 = dktX1_text_5 := dk_seg dksX1_text_4 24 rfl rfl
theorem dksX1_text_6 : cX1_text.data.toList.drop 140 = dktX1_text_6 := dk_seg dksX1_text_5 20 rfl rfl
theorem dksX1_text_7 : cX1_text.data.toList.drop 163 = dktX1_text_7 := dk_seg dksX1_text_6 23 rfl rfl
theorem dksX1_text_8 : cX1_text.data.toList.drop 187 = dktX1_text_8 := dk_seg dksX1_text_7 24 rfl rfl
theorem dksX1_text_9 : cX1_text.data.toList.drop 207 = dktX1_text_9 := dk_seg dksX1_text_8 20 rfl rfl
theorem dksX1_text_10 : cX1_text.data.toList.drop 229 = dktX1_text_10 := dk_seg dksX1_text_9 22 rfl rfl
theorem dksX1_text_11 : cX1_text.data.toList.drop 253 = dktX1_text_11 := dk_seg dksX1_text_10 24 rfl rfl
theorem dksX1_text_12 : cX1_text.data.toList.drop 277 = dktX1_text_12 := dk_seg dksX1_text_11 24 rfl rfl
theorem dX1_text_0 : decode cX1_text 0 = .ok (.iload_n 1, 1) := dk_27 (dk_at dksX1_text_0 0 rfl rfl)
theorem dX1_text_1 : decode cX1_text 1 = .ok (.iconst 0, 1) := dk_3 (dk_at dksX1_text_0 1 rfl rfl)
theorem dX1_text_2 : decode cX1_text 2 = .ok (.aload_n 0, 1) := dk_42 (dk_at dksX1_text_0 2 rfl rfl)
theorem dX1_text_3 : decode cX1_text 3 = .ok (.getfield 87, 3) := dk_180 0 87 (dk_at dksX1_text_0 3 rfl rfl)
theorem dX1_text_6 : decode cX1_text 6 = .ok (.invokestatic 94, 3) := dk_184 0 94 (dk_at dksX1_text_0 6 rfl rfl)
theorem dX1_text_9 : decode cX1_text 9 = .ok (.ifCond .ne 9, 3) := dk_154 0 9 (dk_at dksX1_text_0 9 rfl rfl)
theorem dX1_text_12 : decode cX1_text 12 = .ok (.aload_n 0, 1) := dk_42 (dk_at dksX1_text_0 12 rfl rfl)
theorem dX1_text_13 : decode cX1_text 13 = .ok (.iconst 2, 1) := dk_5 (dk_at dksX1_text_0 13 rfl rfl)
theorem dX1_text_14 : decode cX1_text 14 = .ok (.invokevirtual 98, 3) := dk_182 0 98 (dk_at dksX1_text_0 14 rfl rfl)
theorem dX1_text_17 : decode cX1_text 17 = .ok (.ireturn, 1) := dk_172 (dk_at dksX1_text_0 17 rfl rfl)
theorem dX1_text_18 : decode cX1_text 18 = .ok (.aload_n 0, 1) := dk_42 (dk_at dksX1_text_0 18 rfl rfl)
theorem dX1_text_19 : decode cX1_text 19 = .ok (.iconst 0, 1) := dk_3 (dk_at dksX1_text_0 19 rfl rfl)
theorem dX1_text_20 : decode cX1_text 20 = .ok (.putfield 87, 3) := dk_181 0 87 (dk_at dksX1_text_0 20 rfl rfl)
theorem dX1_text_23 : decode cX1_text 23 = .ok (.aload_n 0, 1) := dk_42 (dk_at dksX1_text_0 23 rfl rfl)
theorem dX1_text_24 : decode cX1_text 24 = .ok (.iconst 0, 1) := dk_3 (dk_at dksX1_text_1 0 rfl rfl)
theorem dX1_text_25 : decode cX1_text 25 = .ok (.putfield 102, 3) := dk_181 0 102 (dk_at dksX1_text_1 1 rfl rfl)
theorem dX1_text_28 : decode cX1_text 28 = .ok (.aload_n 0, 1) := dk_42 (dk_at dksX1_text_1 4 rfl rfl)
theorem dX1_text_29 : decode cX1_text 29 = .ok (.new 105, 3) := dk_187 0 105 (dk_at dksX1_text_1 5 rfl rfl)
theorem dX1_text_32 : decode cX1_text 32 = .ok (.dup, 1) := dk_89 (dk_at dksX1_text_1 8 rfl rfl)
theorem dX1_text_33 : decode cX1_text 33 = .ok (.aload_n 0, 1) := dk_42 (dk_at dksX1_text_1 9 rfl rfl)
theorem dX1_text_34 : decode cX1_text 34 = .ok (.iload_n 1, 1) := dk_27 (dk_at dksX1_text_1 10 rfl rfl)
theorem dX1_text_35 : decode cX1_text 35 = .ok (.invokespecial 107, 3) := dk_183 0 107 (dk_at dksX1_text_1 11 rfl rfl)
theorem dX1_text_38 : decode cX1_text 38 = .ok (.invokevirtual 110, 3) := dk_182 0 110 (dk_at dksX1_text_1 14 rfl rfl)
theorem dX1_text_41 : decode cX1_text 41 = .ok (.putfield 23, 3) := dk_181 0 23 (dk_at dksX1_text_1 17 rfl rfl)
theorem dX1_text_44 : decode cX1_text 44 = .ok (.goto 28, 3) := dk_167 0 28 (dk_at dksX1_text_1 20 rfl rfl)
theorem dX1_text_47 : decode cX1_text 47 = .ok (.astore_n 2, 1) := dk_77 (dk_at dksX1_text_1 23 rfl rfl)
theorem dX1_text_48 : decode cX1_text 48 = .ok (.aload_n 0, 1) := dk_42 (dk_at dksX1_text_2 0 rfl rfl)
theorem dX1_text_49 : decode cX1_text 49 = .ok (.aload_n 2, 1) := dk_44 (dk_at dksX1_text_2 1 rfl rfl)
theorem dX1_text_50 : decode cX1_text 50 = .ok (.getfield 116, 3) := dk_180 0 116 (dk_at dksX1_text_2 2 rfl rfl)
theorem dX1_text_53 : decode cX1_text 53 = .ok (.putfield 102, 3) := dk_181 0 102 (dk_at dksX1_text_2 5 rfl rfl)
theorem dX1_text_56 : decode cX1_text 56 = .ok (.aload_n 0, 1) := dk_42 (dk_at dksX1_text_2 8 rfl rfl)
theorem dX1_text_57 : decode cX1_text 57 = .ok (.iconst 4, 1) := dk_7 (dk_at dksX1_text_2 9 rfl rfl)
theorem dX1_text_58 : decode cX1_text 58 = .ok (.invokevirtual 98, 3) := dk_182 0 98 (dk_at dksX1_text_2 10 rfl rfl)
theorem dX1_text_61 : decode cX1_text 61 = .ok (.pop, 1) := dk_87 (dk_at dksX1_text_2 13 rfl rfl)
theorem dX1_text_62 : decode cX1_text 62 = .ok (.aload_n 0, 1) := dk_42 (dk_at dksX1_text_2 14 rfl rfl)
theorem dX1_text_63 : decode cX1_text 63 = .ok (.aload_n 2, 1) := dk_44 (dk_at dksX1_text_2 15 rfl rfl)
theorem dX1_text_64 : decode cX1_text 64 = .ok (.getfield 119, 3) := dk_180 0 119 (dk_at dksX1_text_2 16 rfl rfl)
theorem dX1_text_67 : decode cX1_text 67 = .ok (.putfield 7, 3) := dk_181 0 7 (dk_at dksX1_text_2 19 rfl rfl)
theorem dX1_text_70 : decode cX1_text 70 = .ok (.iconst (-1), 1) := dk_2 (dk_at dksX1_text_2 22 rfl rfl)
theorem dX1_text_71 : decode cX1_text 71 = .ok (.ireturn, 1) := dk_172 (dk_at dksX1_text_2 23 rfl rfl)
theorem dX1_text_72 : decode cX1_text 72 = .ok (.aload_n 0, 1) := dk_42 (dk_at dksX1_text_3 0 rfl rfl)
theorem dX1_text_73 : decode cX1_text 73 = .ok (.new 27, 3) := dk_187 0 27 (dk_at dksX1_text_3 1 rfl rfl)
theorem dX1_text_76 : decode cX1_text 76 = .ok (.dup, 1) := dk_89 (dk_at dksX1_text_3 4 rfl rfl)
theorem dX1_text_77 : decode cX1_text 77 = .ok (.aload_n 0, 1) := dk_42 (dk_at dksX1_text_3 5 rfl rfl)
theorem dX1_text_78 : decode cX1_text 78 = .ok (.getfield 23, 3) := dk_180 0 23 (dk_at dksX1_text_3 6 rfl rfl)
theorem dX1_text_81 : decode cX1_text 81 = .ok (.getfield 29, 3) := dk_180 0 29 (dk_at dksX1_text_3 9 rfl rfl)
theorem dX1_text_84 : decode cX1_text 84 = .ok (.invokespecial 33, 3) := dk_183 0 33 (dk_at dksX1_text_3 12 rfl rfl)
theorem dX1_text_87 : decode cX1_text 87 = .ok (.putfield 36, 3) := dk_181 0 36 (dk_at dksX1_text_3 15 rfl rfl)
theorem dX1_text_90 : decode cX1_text 90 = .ok (.aload_n 0, 1) := dk_42 (dk_at dksX1_text_3 18 rfl rfl)
theorem dX1_text_91 : decode cX1_text 91 = .ok (.new 40, 3) := dk_187 0 40 (dk_at dksX1_text_3 19 rfl rfl)
theorem dX1_text_94 : decode cX1_text 94 = .ok (.dup, 1) := dk_89 (dk_at dksX1_text_3 22 rfl rfl)
theorem dX1_text_95 : decode cX1_text 95 = .ok (.aload_n 0, 1) := dk_42 (dk_at dksX1_text_3 23 rfl rfl)
theorem dX1_text_96 : decode cX1_text 96 = .ok (.getfield 23, 3) := dk_180 0 23 (dk_at dksX1_text_4 0 rfl rfl)
theorem dX1_text_99 : decode cX1_text 99 = .ok (.getfield 29, 3) := dk_180 0 29 (dk_at dksX1_text_4 3 rfl rfl)
theorem dX1_text_102 : decode cX1_text 102 = .ok (.invokespecial 42, 3) := dk_183 0 42 (dk_at dksX1_text_4 6 rfl rfl)
theorem dX1_text_105 : decode cX1_text 105 = .ok (.putfield 43, 3) := dk_181 0 43 (dk_at dksX1_text_4 9 rfl rfl)
theorem dX1_text_108 : decode cX1_text 108 = .ok (.aload_n 0, 1) := dk_42 (dk_at dksX1_text_4 12 rfl rfl)
theorem dX1_text_109 : decode cX1_text 109 = .ok (.new 40, 3) := dk_187 0 40 (dk_at dksX1_text_4 13 rfl rfl)
theorem dX1_text_112 : decode cX1_text 112 = .ok (.dup, 1) := dk_89 (dk_at dksX1_text_4 16 rfl rfl)
theorem dX1_text_113 : decode cX1_text 113 = .ok (.aload_n 0, 1) := dk_42 (dk_at dksX1_text_4 17 rfl rfl)
theorem dX1_text_114 : decode cX1_text 114 = .ok (.getfield 23, 3) := dk_180 0 23 (dk_at dksX1_text_4 18 rfl rfl)
theorem dX1_text_117 : decode cX1_text 117 = .ok (.getfield 29, 3) := dk_180 0 29 (dk_at dksX1_text_4 21 rfl rfl)
theorem dX1_text_120 : decode cX1_text 120 = .ok (.invokespecial 42, 3) := dk_183 0 42 (dk_at dksX1_text_5 0 rfl rfl)
theorem dX1_text_123 : decode cX1_text 123 = .ok (.putfield 47, 3) := dk_181 0 47 (dk_at dksX1_text_5 3 rfl rfl)
theorem dX1_text_126 : decode cX1_text 126 = .ok (.aload_n 0, 1) := dk_42 (dk_at dksX1_text_5 6 rfl rfl)
theorem dX1_text_127 : decode cX1_text 127 = .ok (.getfield 23, 3) := dk_180 0 23 (dk_at dksX1_text_5 7 rfl rfl)
theorem dX1_text_130 : decode cX1_text 130 = .ok (.getfield 122, 3) := dk_180 0 122 (dk_at dksX1_text_5 10 rfl rfl)
theorem dX1_text_133 : decode cX1_text 133 = .ok (.invokeinterface 125 1, 5) := by decide +kernel
theorem dX1_text_138 : decode cX1_text 138 = .ok (.astore_n 2, 1) := dk_77 (dk_at dksX1_text_5 18 rfl rfl)
theorem dX1_text_139 : decode cX1_text 139 = .ok (.aload_n 2, 1) := dk_44 (dk_at dksX1_text_5 19 rfl rfl)
theorem dX1_text_140 : decode cX1_text 140 = .ok (.invokeinterface 131 1, 5) := by decide +kernel
theorem dX1_text_145 : decode cX1_text 145 = .ok (.ifCond .eq 80, 3) := dk_153 0 80 (dk_at dksX1_text_6 5 rfl rfl)
theorem dX1_text_148 : decode cX1_text 148 = .ok (.aload_n 2, 1) := dk_44 (dk_at dksX1_text_6 8 rfl rfl)
theorem dX1_text_149 : decode cX1_text 149 = .ok (.invokeinterface 137 1, 5) := by decide +kernel
theorem dX1_text_154 : decode cX1_text 154 = .ok (.checkcast 141, 3) := dk_192 0 141 (dk_at dksX1_text_6 14 rfl rfl)
theorem dX1_text_157 : decode cX1_text 157 = .ok (.invokevirtual 143, 3) := dk_182 0 143 (dk_at dksX1_text_6 17 rfl rfl)
theorem dX1_text_160 : decode cX1_text 160 = .ok (.istore_n 3, 1) := dk_62 (dk_at dksX1_text_6 20 rfl rfl)
theorem dX1_text_161 : decode cX1_text 161 = .ok (.iload_n 3, 1) := dk_29 (dk_at dksX1_text_6 21 rfl rfl)
theorem dX1_text_162 : decode cX1_text 162 = .ok (.iconst (-1), 1) := dk_2 (dk_at dksX1_text_6 22 rfl rfl)
theorem dX1_text_163 : decode cX1_text 163 = .ok (.if_icmp .ne 13, 3) := dk_160 0 13 (dk_at dksX1_text_7 0 rfl rfl)
theorem dX1_text_166 : decode cX1_text 166 = .ok (.aload_n 0, 1) := dk_42 (dk_at dksX1_text_7 3 rfl rfl)
theorem dX1_text_167 : decode cX1_text 167 = .ok (.getfield 36, 3) := dk_180 0 36 (dk_at dksX1_text_7 4 rfl rfl)
theorem dX1_text_170 : decode cX1_text 170 = .ok (.invokevirtual 147, 3) := dk_182 0 147 (dk_at dksX1_text_7 7 rfl rfl)
theorem dX1_text_173 : decode cX1_text 173 = .ok (.goto 49, 3) := dk_167 0 49 (dk_at dksX1_text_7 10 rfl rfl)
theorem dX1_text_176 : decode cX1_text 176 = .ok (.aload_n 0, 1) := dk_42 (dk_at dksX1_text_7 13 rfl rfl)
theorem dX1_text_177 : decode cX1_text 177 = .ok (.getfield 36, 3) := dk_180 0 36 (dk_at dksX1_text_7 14 rfl rfl)
theorem dX1_text_180 : decode cX1_text 180 = .ok (.aload_n 0, 1) := dk_42 (dk_at dksX1_text_7 17 rfl rfl)
theorem dX1_text_181 : decode cX1_text 181 = .ok (.getfield 23, 3) := dk_180 0 23 (dk_at dksX1_text_7 18 rfl rfl)
theorem dX1_text_184 : decode cX1_text 184 = .ok (.getfield 150, 3) := dk_180 0 150 (dk_at dksX1_text_7 21 rfl rfl)
theorem dX1_text_187 : decode cX1_text 187 = .ok (.iload_n 3, 1) := dk_29 (dk_at dksX1_text_8 0 rfl rfl)
theorem dX1_text_188 : decode cX1_text 188 = .ok (.invokeinterface 153 2, 5) := by decide +kernel
theorem dX1_text_193 : decode cX1_text 193 = .ok (.checkcast 157, 3) := dk_192 0 157 (dk_at dksX1_text_8 6 rfl rfl)
theorem dX1_text_196 : decode cX1_text 196 = .ok (.getfield 159, 3) := dk_180 0 159 (dk_at dksX1_text_8 9 rfl rfl)
theorem dX1_text_199 : decode cX1_text 199 = .ok (.aload_n 0, 1) := dk_42 (dk_at dksX1_text_8 12 rfl rfl)
theorem dX1_text_200 : decode cX1_text 200 = .ok (.getfield 23, 3) := dk_180 0 23 (dk_at dksX1_text_8 13 rfl rfl)
theorem dX1_text_203 : decode cX1_text 203 = .ok (.getfield 150, 3) := dk_180 0 150 (dk_at dksX1_text_8 16 rfl rfl)
theorem dX1_text_206 : decode cX1_text 206 = .ok (.iload_n 3, 1) := dk_29 (dk_at dksX1_text_8 19 rfl rfl)
theorem dX1_text_207 : decode cX1_text 207 = .ok (.invokeinterface 153 2, 5) := by decide +kernel
theorem dX1_text_212 : decode cX1_text 212 = .ok (.checkcast 157, 3) := dk_192 0 157 (dk_at dksX1_text_9 5 rfl rfl)
theorem dX1_text_215 : decode cX1_text 215 = .ok (.getfield 162, 3) := dk_180 0 162 (dk_at dksX1_text_9 8 rfl rfl)
theorem dX1_text_218 : decode cX1_text 218 = .ok (.iload_n 3, 1) := dk_29 (dk_at dksX1_text_9 11 rfl rfl)
theorem dX1_text_219 : decode cX1_text 219 = .ok (.invokevirtual 165, 3) := dk_182 0 165 (dk_at dksX1_text_9 12 rfl rfl)
theorem dX1_text_222 : decode cX1_text 222 = .ok (.goto (-83), 3) := dk_167 255 173 (dk_at dksX1_text_9 15 rfl rfl)
theorem dX1_text_225 : decode cX1_text 225 = .ok (.iconst 0, 1) := dk_3 (dk_at dksX1_text_9 18 rfl rfl)
theorem dX1_text_226 : decode cX1_text 226 = .ok (.istore_n 2, 1) := dk_61 (dk_at dksX1_text_9 19 rfl rfl)
theorem dX1_text_227 : decode cX1_text 227 = .ok (.iload_n 2, 1) := dk_28 (dk_at dksX1_text_9 20 rfl rfl)
theorem dX1_text_228 : decode cX1_text 228 = .ok (.aload_n 0, 1) := dk_42 (dk_at dksX1_text_9 21 rfl rfl)
theorem dX1_text_229 : decode cX1_text 229 = .ok (.getfield 23, 3) := dk_180 0 23 (dk_at dksX1_text_10 0 rfl rfl)
theorem dX1_text_232 : decode cX1_text 232 = .ok (.getfield 29, 3) := dk_180 0 29 (dk_at dksX1_text_10 3 rfl rfl)
theorem dX1_text_235 : decode cX1_text 235 = .ok (.invokeinterface 169 1, 5) := by decide +kernel
theorem dX1_text_240 : decode cX1_text 240 = .ok (.if_icmp .ge 16, 3) := dk_162 0 16 (dk_at dksX1_text_10 11 rfl rfl)
theorem dX1_text_243 : decode cX1_text 243 = .ok (.aload_n 0, 1) := dk_42 (dk_at dksX1_text_10 14 rfl rfl)
theorem dX1_text_244 : decode cX1_text 244 = .ok (.getfield 43, 3) := dk_180 0 43 (dk_at dksX1_text_10 15 rfl rfl)
theorem dX1_text_247 : decode cX1_text 247 = .ok (.invokevirtual 172, 3) := dk_182 0 172 (dk_at dksX1_text_10 18 rfl rfl)
theorem dX1_text_250 : decode cX1_text 250 = .ok (.iinc 2 1, 3) := dk_132 2 1 (dk_at dksX1_text_10 21 rfl rfl)
theorem dX1_text_253 : decode cX1_text 253 = .ok (.goto (-26), 3) := dk_167 255 230 (dk_at dksX1_text_11 0 rfl rfl)
theorem dX1_text_256 : decode cX1_text 256 = .ok (.aload_n 0, 1) := dk_42 (dk_at dksX1_text_11 3 rfl rfl)
theorem dX1_text_257 : decode cX1_text 257 = .ok (.iconst 0, 1) := dk_3 (dk_at dksX1_text_11 4 rfl rfl)
theorem dX1_text_258 : decode cX1_text 258 = .ok (.putfield 173, 3) := dk_181 0 173 (dk_at dksX1_text_11 5 rfl rfl)
theorem dX1_text_261 : decode cX1_text 261 = .ok (.aload_n 0, 1) := dk_42 (dk_at dksX1_text_11 8 rfl rfl)
theorem dX1_text_262 : decode cX1_text 262 = .ok (.aload_n 0, 1) := dk_42 (dk_at dksX1_text_11 9 rfl rfl)
theorem dX1_text_263 : decode cX1_text 263 = .ok (.getfield 23, 3) := dk_180 0 23 (dk_at dksX1_text_11 10 rfl rfl)
theorem dX1_text_266 : decode cX1_text 266 = .ok (.getfield 29, 3) := dk_180 0 29 (dk_at dksX1_text_11 13 rfl rfl)
theorem dX1_text_269 : decode cX1_text 269 = .ok (.invokeinterface 169 1, 5) := by decide +kernel
theorem dX1_text_274 : decode cX1_text 274 = .ok (.invokevirtual 176, 3) := dk_182 0 176 (dk_at dksX1_text_11 21 rfl rfl)
theorem dX1_text_277 : decode cX1_text 277 = .ok (.ireturn, 1) := dk_172 (dk_at dksX1_text_12 0 rfl rfl)
abbrev cX1_isIn : ByteArray := prog_1_method_1_code
def yX1_isIn : MethodName := ⟨RX1, "isIn", "(III)Z"⟩
def dkwX1_isIn_0 : List UInt8 := [26, 27, 161, 0, 12, 26, 28, 163, 0, 7, 4, 167, 0, 4, 3, 172]
abbrev dktX1_isIn_0 : List UInt8 := dkwX1_isIn_0 ++ []
theorem dksX1_isIn_0 : cX1_isIn.data.toList.drop 0 = dktX1_isIn_0 := by decide +kernel
theorem dX1_isIn_0 : decode cX1_isIn 0 = .ok (.iload_n 0, 1) := dk_26 (dk_at dksX1_isIn_0 0 rfl rfl)
theorem dX1_isIn_1 : decode cX1_isIn 1 = .ok (.iload_n 1, 1) := dk_27 (dk_at dksX1_isIn_0 1 rfl rfl)
theorem dX1_isIn_2 : decode cX1_isIn 2 = .ok (.if_icmp .lt 12, 3) := dk_161 0 12 (dk_at dksX1_isIn_0 2 rfl rfl)
theorem dX1_isIn_5 : decode cX1_isIn 5 = .ok (.iload_n 0, 1) := dk_26 (dk_at dksX1_isIn_0 5 rfl rfl)
theorem dX1_isIn_6 : decode cX1_isIn 6 = .ok (.iload_n 2, 1) := dk_28 (dk_at dksX1_isIn_0 6 rfl rfl)
theorem dX1_isIn_7 : decode cX1_isIn 7 = .ok (.if_icmp .gt 7, 3) := dk_163 0 7 (dk_at dksX1_isIn_0 7 rfl rfl)
theorem dX1_isIn_10 : decode cX1_isIn 10 = .ok (.iconst 1, 1) := dk_4 (dk_at dksX1_isIn_0 10 rfl rfl)
theorem dX1_isIn_11 : decode cX1_isIn 11 = .ok (.goto 4, 3) := dk_167 0 4 (dk_at dksX1_isIn_0 11 rfl rfl)
theorem dX1_isIn_14 : decode cX1_isIn 14 = .ok (.iconst 0, 1) := dk_3 (dk_at dksX1_isIn_0 14 rfl rfl)
theorem dX1_isIn_15 : decode cX1_isIn 15 = .ok (.ireturn, 1) := dk_172 (dk_at dksX1_isIn_0 15 rfl rfl)
abbrev cX1_refused : ByteArray := prog_1_method_3_code
def yX1_refused : MethodName := ⟨RX1, "refused", "(I)I"⟩
def dkwX1_refused_0 : List UInt8 := [42, 27, 181, 0, 3, 42, 2, 181, 0, 7, 2, 172]
abbrev dktX1_refused_0 : List UInt8 := dkwX1_refused_0 ++ []
theorem dksX1_refused_0 : cX1_refused.data.toList.drop 0 = dktX1_refused_0 := by decide +kernel
theorem dX1_refused_0 : decode cX1_refused 0 = .ok (.aload_n 0, 1) := dk_42 (dk_at dksX1_refused_0 0 rfl rfl)
theorem dX1_refused_1 : decode cX1_refused 1 = .ok (.iload_n 1, 1) := dk_27 (dk_at dksX1_refused_0 1 rfl rfl)
theorem dX1_refused_2 : decode cX1_refused 2 = .ok (.putfield 3, 3) := dk_181 0 3 (dk_at dksX1_refused_0 2 rfl rfl)
theorem dX1_refused_5 : decode cX1_refused 5 = .ok (.aload_n 0, 1) := dk_42 (dk_at dksX1_refused_0 5 rfl rfl)
theorem dX1_refused_6 : decode cX1_refused 6 = .ok (.iconst (-1), 1) := dk_2 (dk_at dksX1_refused_0 6 rfl rfl)
theorem dX1_refused_7 : decode cX1_refused 7 = .ok (.putfield 7, 3) := dk_181 0 7 (dk_at dksX1_refused_0 7 rfl rfl)
theorem dX1_refused_10 : decode cX1_refused 10 = .ok (.iconst (-1), 1) := dk_2 (dk_at dksX1_refused_0 10 rfl rfl)
theorem dX1_refused_11 : decode cX1_refused 11 = .ok (.ireturn, 1) := dk_172 (dk_at dksX1_refused_0 11 rfl rfl)
abbrev cX1_fine : ByteArray := prog_1_method_4_code
def yX1_fine : MethodName := ⟨RX1, "fine", "(I)I"⟩
def dkwX1_fine_0 : List UInt8 := [42, 3, 181, 0, 3, 42, 2, 181, 0, 7, 27, 172]
abbrev dktX1_fine_0 : List UInt8 := dkwX1_fine_0 ++ []
theorem dksX1_fine_0 : cX1_fine.data.toList.drop 0 = dktX1_fine_0 := by decide +kernel
theorem dX1_fine_0 : decode cX1_fine 0 = .ok (.aload_n 0, 1) := dk_42 (dk_at dksX1_fine_0 0 rfl rfl)
theorem dX1_fine_1 : decode cX1_fine 1 = .ok (.iconst 0, 1) := dk_3 (dk_at dksX1_fine_0 1 rfl rfl)
theorem dX1_fine_2 : decode cX1_fine 2 = .ok (.putfield 3, 3) := dk_181 0 3 (dk_at dksX1_fine_0 2 rfl rfl)
theorem dX1_fine_5 : decode cX1_fine 5 = .ok (.aload_n 0, 1) := dk_42 (dk_at dksX1_fine_0 5 rfl rfl)
theorem dX1_fine_6 : decode cX1_fine 6 = .ok (.iconst (-1), 1) := dk_2 (dk_at dksX1_fine_0 6 rfl rfl)
theorem dX1_fine_7 : decode cX1_fine 7 = .ok (.putfield 7, 3) := dk_181 0 7 (dk_at dksX1_fine_0 7 rfl rfl)
theorem dX1_fine_10 : decode cX1_fine 10 = .ok (.iload_n 1, 1) := dk_27 (dk_at dksX1_fine_0 10 rfl rfl)
theorem dX1_fine_11 : decode cX1_fine 11 = .ok (.ireturn, 1) := dk_172 (dk_at dksX1_fine_0 11 rfl rfl)
abbrev cX1_fault : ByteArray := prog_1_method_9_code
def yX1_fault : MethodName := ⟨RX1, "fault", "()I"⟩
theorem dX1_fault_0 : decode cX1_fault 0 = .ok (.aload_n 0, 1) := by decide +kernel
theorem dX1_fault_1 : decode cX1_fault 1 = .ok (.getfield 102, 3) := by decide +kernel
theorem dX1_fault_4 : decode cX1_fault 4 = .ok (.ireturn, 1) := by decide +kernel
abbrev cX1_where : ByteArray := prog_1_method_10_code
def yX1_where : MethodName := ⟨RX1, "where", "()I"⟩
theorem dX1_where_0 : decode cX1_where 0 = .ok (.aload_n 0, 1) := by decide +kernel
theorem dX1_where_1 : decode cX1_where 1 = .ok (.getfield 7, 3) := by decide +kernel
theorem dX1_where_4 : decode cX1_where 4 = .ok (.ireturn, 1) := by decide +kernel
abbrev cX1_about : ByteArray := prog_1_method_15_code
def yX1_about : MethodName := ⟨RX1, "about", "(I)I"⟩
def dkwX1_about_6 : List UInt8 := [180, 0, 36, 182, 0, 199, 182, 0, 176, 172, 42, 4, 182, 0, 98, 172]
abbrev dktX1_about_6 : List UInt8 := dkwX1_about_6 ++ []
def dkwX1_about_5 : List UInt8 := [180, 0, 173, 182, 0, 176, 172, 42, 42, 180, 0, 36, 180, 0, 196, 182, 0, 176, 172, 42, 42, 42]
abbrev dktX1_about_5 : List UInt8 := dkwX1_about_5 ++ dktX1_about_6
def dkwX1_about_4 : List UInt8 := [185, 0, 169, 1, 0, 182, 0, 176, 172, 42, 42, 180, 0, 36, 182, 0, 193, 182, 0, 176, 172, 42, 42]
abbrev dktX1_about_4 : List UInt8 := dkwX1_about_4 ++ dktX1_about_5
def dkwX1_about_3 : List UInt8 := [182, 0, 176, 172, 42, 42, 182, 0, 191, 182, 0, 176, 172, 42, 42, 180, 0, 23, 180, 0, 181]
abbrev dktX1_about_3 : List UInt8 := dkwX1_about_3 ++ dktX1_about_4
def dkwX1_about_2 : List UInt8 := [42, 42, 180, 0, 23, 180, 0, 188, 185, 0, 169, 1, 0, 182, 0, 176, 172, 42, 42, 182, 0, 179]
abbrev dktX1_about_2 : List UInt8 := dkwX1_about_2 ++ dktX1_about_3
def dkwX1_about_1 : List UInt8 := [170, 0, 0, 0, 0, 0, 145, 0, 0, 0, 0, 0, 0, 0, 7, 0, 0, 0, 47, 0, 0, 0, 64, 0, 0, 0, 73, 0, 0, 0, 82, 0, 0, 0, 99, 0, 0, 0, 111, 0, 0, 0, 120, 0, 0, 0, 132]
abbrev dktX1_about_1 : List UInt8 := dkwX1_about_1 ++ dktX1_about_2
def dkwX1_about_0 : List UInt8 := [27]
abbrev dktX1_about_0 : List UInt8 := dkwX1_about_0 ++ dktX1_about_1
theorem dksX1_about_0 : cX1_about.data.toList.drop 0 = dktX1_about_0 := by decide +kernel
theorem dksX1_about_1 : cX1_about.data.toList.drop 1 = dktX1_about_1 := dk_seg dksX1_about_0 1 rfl rfl
theorem dksX1_about_2 : cX1_about.data.toList.drop 48 = dktX1_about_2 := dk_seg dksX1_about_1 47 rfl rfl
theorem dksX1_about_3 : cX1_about.data.toList.drop 70 = dktX1_about_3 := dk_seg dksX1_about_2 22 rfl rfl
theorem dksX1_about_4 : cX1_about.data.toList.drop 91 = dktX1_about_4 := dk_seg dksX1_about_3 21 rfl rfl
theorem dksX1_about_5 : cX1_about.data.toList.drop 114 = dktX1_about_5 := dk_seg dksX1_about_4 23 rfl rfl
theorem dksX1_about_6 : cX1_about.data.toList.drop 136 = dktX1_about_6 := dk_seg dksX1_about_5 22 rfl rfl
theorem dX1_about_0 : decode cX1_about 0 = .ok (.iload_n 1, 1) := dk_27 (dk_at dksX1_about_0 0 rfl rfl)
theorem dX1_about_1 : decode cX1_about 1 = .ok (.tableswitch 145 0 7 #[47, 64, 73, 82, 99, 111, 120, 132], 47) := by decide +kernel
theorem dX1_about_48 : decode cX1_about 48 = .ok (.aload_n 0, 1) := dk_42 (dk_at dksX1_about_2 0 rfl rfl)
theorem dX1_about_49 : decode cX1_about 49 = .ok (.aload_n 0, 1) := dk_42 (dk_at dksX1_about_2 1 rfl rfl)
theorem dX1_about_50 : decode cX1_about 50 = .ok (.getfield 23, 3) := dk_180 0 23 (dk_at dksX1_about_2 2 rfl rfl)
theorem dX1_about_53 : decode cX1_about 53 = .ok (.getfield 188, 3) := dk_180 0 188 (dk_at dksX1_about_2 5 rfl rfl)
theorem dX1_about_56 : decode cX1_about 56 = .ok (.invokeinterface 169 1, 5) := by decide +kernel
theorem dX1_about_61 : decode cX1_about 61 = .ok (.invokevirtual 176, 3) := dk_182 0 176 (dk_at dksX1_about_2 13 rfl rfl)
theorem dX1_about_64 : decode cX1_about 64 = .ok (.ireturn, 1) := dk_172 (dk_at dksX1_about_2 16 rfl rfl)
theorem dX1_about_65 : decode cX1_about 65 = .ok (.aload_n 0, 1) := dk_42 (dk_at dksX1_about_2 17 rfl rfl)
theorem dX1_about_66 : decode cX1_about 66 = .ok (.aload_n 0, 1) := dk_42 (dk_at dksX1_about_2 18 rfl rfl)
theorem dX1_about_67 : decode cX1_about 67 = .ok (.invokevirtual 179, 3) := dk_182 0 179 (dk_at dksX1_about_2 19 rfl rfl)
theorem dX1_about_70 : decode cX1_about 70 = .ok (.invokevirtual 176, 3) := dk_182 0 176 (dk_at dksX1_about_3 0 rfl rfl)
theorem dX1_about_73 : decode cX1_about 73 = .ok (.ireturn, 1) := dk_172 (dk_at dksX1_about_3 3 rfl rfl)
theorem dX1_about_74 : decode cX1_about 74 = .ok (.aload_n 0, 1) := dk_42 (dk_at dksX1_about_3 4 rfl rfl)
theorem dX1_about_75 : decode cX1_about 75 = .ok (.aload_n 0, 1) := dk_42 (dk_at dksX1_about_3 5 rfl rfl)
theorem dX1_about_76 : decode cX1_about 76 = .ok (.invokevirtual 191, 3) := dk_182 0 191 (dk_at dksX1_about_3 6 rfl rfl)
theorem dX1_about_79 : decode cX1_about 79 = .ok (.invokevirtual 176, 3) := dk_182 0 176 (dk_at dksX1_about_3 9 rfl rfl)
theorem dX1_about_82 : decode cX1_about 82 = .ok (.ireturn, 1) := dk_172 (dk_at dksX1_about_3 12 rfl rfl)
theorem dX1_about_83 : decode cX1_about 83 = .ok (.aload_n 0, 1) := dk_42 (dk_at dksX1_about_3 13 rfl rfl)
theorem dX1_about_84 : decode cX1_about 84 = .ok (.aload_n 0, 1) := dk_42 (dk_at dksX1_about_3 14 rfl rfl)
theorem dX1_about_85 : decode cX1_about 85 = .ok (.getfield 23, 3) := dk_180 0 23 (dk_at dksX1_about_3 15 rfl rfl)
theorem dX1_about_88 : decode cX1_about 88 = .ok (.getfield 181, 3) := dk_180 0 181 (dk_at dksX1_about_3 18 rfl rfl)
theorem dX1_about_91 : decode cX1_about 91 = .ok (.invokeinterface 169 1, 5) := by decide +kernel
theorem dX1_about_96 : decode cX1_about 96 = .ok (.invokevirtual 176, 3) := dk_182 0 176 (dk_at dksX1_about_4 5 rfl rfl)
theorem dX1_about_99 : decode cX1_about 99 = .ok (.ireturn, 1) := dk_172 (dk_at dksX1_about_4 8 rfl rfl)
theorem dX1_about_100 : decode cX1_about 100 = .ok (.aload_n 0, 1) := dk_42 (dk_at dksX1_about_4 9 rfl rfl)
theorem dX1_about_101 : decode cX1_about 101 = .ok (.aload_n 0, 1) := dk_42 (dk_at dksX1_about_4 10 rfl rfl)
theorem dX1_about_102 : decode cX1_about 102 = .ok (.getfield 36, 3) := dk_180 0 36 (dk_at dksX1_about_4 11 rfl rfl)
theorem dX1_about_105 : decode cX1_about 105 = .ok (.invokevirtual 193, 3) := dk_182 0 193 (dk_at dksX1_about_4 14 rfl rfl)
theorem dX1_about_108 : decode cX1_about 108 = .ok (.invokevirtual 176, 3) := dk_182 0 176 (dk_at dksX1_about_4 17 rfl rfl)
theorem dX1_about_111 : decode cX1_about 111 = .ok (.ireturn, 1) := dk_172 (dk_at dksX1_about_4 20 rfl rfl)
theorem dX1_about_112 : decode cX1_about 112 = .ok (.aload_n 0, 1) := dk_42 (dk_at dksX1_about_4 21 rfl rfl)
theorem dX1_about_113 : decode cX1_about 113 = .ok (.aload_n 0, 1) := dk_42 (dk_at dksX1_about_4 22 rfl rfl)
theorem dX1_about_114 : decode cX1_about 114 = .ok (.getfield 173, 3) := dk_180 0 173 (dk_at dksX1_about_5 0 rfl rfl)
theorem dX1_about_117 : decode cX1_about 117 = .ok (.invokevirtual 176, 3) := dk_182 0 176 (dk_at dksX1_about_5 3 rfl rfl)
theorem dX1_about_120 : decode cX1_about 120 = .ok (.ireturn, 1) := dk_172 (dk_at dksX1_about_5 6 rfl rfl)
theorem dX1_about_121 : decode cX1_about 121 = .ok (.aload_n 0, 1) := dk_42 (dk_at dksX1_about_5 7 rfl rfl)
theorem dX1_about_122 : decode cX1_about 122 = .ok (.aload_n 0, 1) := dk_42 (dk_at dksX1_about_5 8 rfl rfl)
theorem dX1_about_123 : decode cX1_about 123 = .ok (.getfield 36, 3) := dk_180 0 36 (dk_at dksX1_about_5 9 rfl rfl)
theorem dX1_about_126 : decode cX1_about 126 = .ok (.getfield 196, 3) := dk_180 0 196 (dk_at dksX1_about_5 12 rfl rfl)
theorem dX1_about_129 : decode cX1_about 129 = .ok (.invokevirtual 176, 3) := dk_182 0 176 (dk_at dksX1_about_5 15 rfl rfl)
theorem dX1_about_132 : decode cX1_about 132 = .ok (.ireturn, 1) := dk_172 (dk_at dksX1_about_5 18 rfl rfl)
theorem dX1_about_133 : decode cX1_about 133 = .ok (.aload_n 0, 1) := dk_42 (dk_at dksX1_about_5 19 rfl rfl)
theorem dX1_about_134 : decode cX1_about 134 = .ok (.aload_n 0, 1) := dk_42 (dk_at dksX1_about_5 20 rfl rfl)
theorem dX1_about_135 : decode cX1_about 135 = .ok (.aload_n 0, 1) := dk_42 (dk_at dksX1_about_5 21 rfl rfl)
theorem dX1_about_136 : decode cX1_about 136 = .ok (.getfield 36, 3) := dk_180 0 36 (dk_at dksX1_about_6 0 rfl rfl)
theorem dX1_about_139 : decode cX1_about 139 = .ok (.invokevirtual 199, 3) := dk_182 0 199 (dk_at dksX1_about_6 3 rfl rfl)
theorem dX1_about_142 : decode cX1_about 142 = .ok (.invokevirtual 176, 3) := dk_182 0 176 (dk_at dksX1_about_6 6 rfl rfl)
theorem dX1_about_145 : decode cX1_about 145 = .ok (.ireturn, 1) := dk_172 (dk_at dksX1_about_6 9 rfl rfl)
theorem dX1_about_146 : decode cX1_about 146 = .ok (.aload_n 0, 1) := dk_42 (dk_at dksX1_about_6 10 rfl rfl)
theorem dX1_about_147 : decode cX1_about 147 = .ok (.iconst 1, 1) := dk_4 (dk_at dksX1_about_6 11 rfl rfl)
theorem dX1_about_148 : decode cX1_about 148 = .ok (.invokevirtual 98, 3) := dk_182 0 98 (dk_at dksX1_about_6 12 rfl rfl)
theorem dX1_about_151 : decode cX1_about 151 = .ok (.ireturn, 1) := dk_172 (dk_at dksX1_about_6 15 rfl rfl)
abbrev cX1_terms : ByteArray := prog_1_method_11_code
def yX1_terms : MethodName := ⟨RX1, "terms", "()I"⟩
def dkwX1_terms_0 : List UInt8 := [42, 180, 0, 23, 180, 0, 29, 185, 0, 169, 1, 0, 172]
abbrev dktX1_terms_0 : List UInt8 := dkwX1_terms_0 ++ []
theorem dksX1_terms_0 : cX1_terms.data.toList.drop 0 = dktX1_terms_0 := by decide +kernel
theorem dX1_terms_0 : decode cX1_terms 0 = .ok (.aload_n 0, 1) := dk_42 (dk_at dksX1_terms_0 0 rfl rfl)
theorem dX1_terms_1 : decode cX1_terms 1 = .ok (.getfield 23, 3) := dk_180 0 23 (dk_at dksX1_terms_0 1 rfl rfl)
theorem dX1_terms_4 : decode cX1_terms 4 = .ok (.getfield 29, 3) := dk_180 0 29 (dk_at dksX1_terms_0 4 rfl rfl)
theorem dX1_terms_7 : decode cX1_terms 7 = .ok (.invokeinterface 169 1, 5) := by decide +kernel
theorem dX1_terms_12 : decode cX1_terms 12 = .ok (.ireturn, 1) := dk_172 (dk_at dksX1_terms_0 12 rfl rfl)
abbrev cX1_sames : ByteArray := prog_1_method_12_code
def yX1_sames : MethodName := ⟨RX1, "sames", "()I"⟩
def dkwX1_sames_0 : List UInt8 := [42, 180, 0, 23, 180, 0, 150, 185, 0, 169, 1, 0, 172]
abbrev dktX1_sames_0 : List UInt8 := dkwX1_sames_0 ++ []
theorem dksX1_sames_0 : cX1_sames.data.toList.drop 0 = dktX1_sames_0 := by decide +kernel
theorem dX1_sames_0 : decode cX1_sames 0 = .ok (.aload_n 0, 1) := dk_42 (dk_at dksX1_sames_0 0 rfl rfl)
theorem dX1_sames_1 : decode cX1_sames 1 = .ok (.getfield 23, 3) := dk_180 0 23 (dk_at dksX1_sames_0 1 rfl rfl)
theorem dX1_sames_4 : decode cX1_sames 4 = .ok (.getfield 150, 3) := dk_180 0 150 (dk_at dksX1_sames_0 4 rfl rfl)
theorem dX1_sames_7 : decode cX1_sames 7 = .ok (.invokeinterface 169 1, 5) := by decide +kernel
theorem dX1_sames_12 : decode cX1_sames 12 = .ok (.ireturn, 1) := dk_172 (dk_at dksX1_sames_0 12 rfl rfl)
abbrev cX1_clash : ByteArray := prog_1_method_14_code
def yX1_clash : MethodName := ⟨RX1, "clash", "(LReasonCloser$Groups;)I"⟩
def dkwX1_clash_3 : List UInt8 := [167, 255, 190, 16, 254, 172]
abbrev dktX1_clash_3 : List UInt8 := dkwX1_clash_3 ++ []
def dkwX1_clash_2 : List UInt8 := [185, 0, 153, 2, 0, 192, 0, 157, 180, 0, 162, 182, 0, 184, 153, 0, 5, 28, 172, 132, 2, 1]
abbrev dktX1_clash_2 : List UInt8 := dkwX1_clash_2 ++ dktX1_clash_3
def dkwX1_clash_1 : List UInt8 := [180, 0, 181, 28, 185, 0, 153, 2, 0, 192, 0, 157, 180, 0, 159, 42, 180, 0, 23, 180, 0, 181, 28]
abbrev dktX1_clash_1 : List UInt8 := dkwX1_clash_1 ++ dktX1_clash_2
def dkwX1_clash_0 : List UInt8 := [3, 61, 28, 42, 180, 0, 23, 180, 0, 181, 185, 0, 169, 1, 0, 162, 0, 56, 43, 42, 180, 0, 23]
abbrev dktX1_clash_0 : List UInt8 := dkwX1_clash_0 ++ dktX1_clash_1
theorem dksX1_clash_0 : cX1_clash.data.toList.drop 0 = dktX1_clash_0 := by decide +kernel
theorem dksX1_clash_1 : cX1_clash.data.toList.drop 23 = dktX1_clash_1 := dk_seg dksX1_clash_0 23 rfl rfl
theorem dksX1_clash_2 : cX1_clash.data.toList.drop 46 = dktX1_clash_2 := dk_seg dksX1_clash_1 23 rfl rfl
theorem dksX1_clash_3 : cX1_clash.data.toList.drop 68 = dktX1_clash_3 := dk_seg dksX1_clash_2 22 rfl rfl
theorem dX1_clash_0 : decode cX1_clash 0 = .ok (.iconst 0, 1) := dk_3 (dk_at dksX1_clash_0 0 rfl rfl)
theorem dX1_clash_1 : decode cX1_clash 1 = .ok (.istore_n 2, 1) := dk_61 (dk_at dksX1_clash_0 1 rfl rfl)
theorem dX1_clash_2 : decode cX1_clash 2 = .ok (.iload_n 2, 1) := dk_28 (dk_at dksX1_clash_0 2 rfl rfl)
theorem dX1_clash_3 : decode cX1_clash 3 = .ok (.aload_n 0, 1) := dk_42 (dk_at dksX1_clash_0 3 rfl rfl)
theorem dX1_clash_4 : decode cX1_clash 4 = .ok (.getfield 23, 3) := dk_180 0 23 (dk_at dksX1_clash_0 4 rfl rfl)
theorem dX1_clash_7 : decode cX1_clash 7 = .ok (.getfield 181, 3) := dk_180 0 181 (dk_at dksX1_clash_0 7 rfl rfl)
theorem dX1_clash_10 : decode cX1_clash 10 = .ok (.invokeinterface 169 1, 5) := by decide +kernel
theorem dX1_clash_15 : decode cX1_clash 15 = .ok (.if_icmp .ge 56, 3) := dk_162 0 56 (dk_at dksX1_clash_0 15 rfl rfl)
theorem dX1_clash_18 : decode cX1_clash 18 = .ok (.aload_n 1, 1) := dk_43 (dk_at dksX1_clash_0 18 rfl rfl)
theorem dX1_clash_19 : decode cX1_clash 19 = .ok (.aload_n 0, 1) := dk_42 (dk_at dksX1_clash_0 19 rfl rfl)
theorem dX1_clash_20 : decode cX1_clash 20 = .ok (.getfield 23, 3) := dk_180 0 23 (dk_at dksX1_clash_0 20 rfl rfl)
theorem dX1_clash_23 : decode cX1_clash 23 = .ok (.getfield 181, 3) := dk_180 0 181 (dk_at dksX1_clash_1 0 rfl rfl)
theorem dX1_clash_26 : decode cX1_clash 26 = .ok (.iload_n 2, 1) := dk_28 (dk_at dksX1_clash_1 3 rfl rfl)
theorem dX1_clash_27 : decode cX1_clash 27 = .ok (.invokeinterface 153 2, 5) := by decide +kernel
theorem dX1_clash_32 : decode cX1_clash 32 = .ok (.checkcast 157, 3) := dk_192 0 157 (dk_at dksX1_clash_1 9 rfl rfl)
theorem dX1_clash_35 : decode cX1_clash 35 = .ok (.getfield 159, 3) := dk_180 0 159 (dk_at dksX1_clash_1 12 rfl rfl)
theorem dX1_clash_38 : decode cX1_clash 38 = .ok (.aload_n 0, 1) := dk_42 (dk_at dksX1_clash_1 15 rfl rfl)
theorem dX1_clash_39 : decode cX1_clash 39 = .ok (.getfield 23, 3) := dk_180 0 23 (dk_at dksX1_clash_1 16 rfl rfl)
theorem dX1_clash_42 : decode cX1_clash 42 = .ok (.getfield 181, 3) := dk_180 0 181 (dk_at dksX1_clash_1 19 rfl rfl)
theorem dX1_clash_45 : decode cX1_clash 45 = .ok (.iload_n 2, 1) := dk_28 (dk_at dksX1_clash_1 22 rfl rfl)
theorem dX1_clash_46 : decode cX1_clash 46 = .ok (.invokeinterface 153 2, 5) := by decide +kernel
theorem dX1_clash_51 : decode cX1_clash 51 = .ok (.checkcast 157, 3) := dk_192 0 157 (dk_at dksX1_clash_2 5 rfl rfl)
theorem dX1_clash_54 : decode cX1_clash 54 = .ok (.getfield 162, 3) := dk_180 0 162 (dk_at dksX1_clash_2 8 rfl rfl)
theorem dX1_clash_57 : decode cX1_clash 57 = .ok (.invokevirtual 184, 3) := dk_182 0 184 (dk_at dksX1_clash_2 11 rfl rfl)
theorem dX1_clash_60 : decode cX1_clash 60 = .ok (.ifCond .eq 5, 3) := dk_153 0 5 (dk_at dksX1_clash_2 14 rfl rfl)
theorem dX1_clash_63 : decode cX1_clash 63 = .ok (.iload_n 2, 1) := dk_28 (dk_at dksX1_clash_2 17 rfl rfl)
theorem dX1_clash_64 : decode cX1_clash 64 = .ok (.ireturn, 1) := dk_172 (dk_at dksX1_clash_2 18 rfl rfl)
theorem dX1_clash_65 : decode cX1_clash 65 = .ok (.iinc 2 1, 3) := dk_132 2 1 (dk_at dksX1_clash_2 19 rfl rfl)
theorem dX1_clash_68 : decode cX1_clash 68 = .ok (.goto (-66), 3) := dk_167 255 190 (dk_at dksX1_clash_3 0 rfl rfl)
theorem dX1_clash_71 : decode cX1_clash 71 = .ok (.bipush (-2), 2) := dk_16 254 (dk_at dksX1_clash_3 3 rfl rfl)
theorem dX1_clash_73 : decode cX1_clash 73 = .ok (.ireturn, 1) := dk_172 (dk_at dksX1_clash_3 5 rfl rfl)
abbrev cX1_function : ByteArray := prog_1_method_16_code
def yX1_function : MethodName := ⟨RX1, "function", "(II)I"⟩
def dkwX1_function_9 : List UInt8 := [172, 42, 4, 182, 0, 98, 172]
abbrev dktX1_function_9 : List UInt8 := dkwX1_function_9 ++ []
def dkwX1_function_8 : List UInt8 := [182, 0, 216, 153, 0, 7, 4, 167, 0, 4, 3, 96, 62, 132, 4, 1, 167, 255, 211, 42, 29, 182, 0, 176]
abbrev dktX1_function_8 : List UInt8 := dkwX1_function_8 ++ dktX1_function_9
def dkwX1_function_7 : List UInt8 := [162, 0, 42, 29, 42, 180, 0, 36, 180, 0, 213, 21, 4, 46, 21, 4, 160, 0, 17, 42, 21, 4, 27]
abbrev dktX1_function_7 : List UInt8 := dkwX1_function_7 ++ dktX1_function_8
def dkwX1_function_6 : List UInt8 := [167, 0, 4, 3, 96, 62, 167, 255, 217, 42, 29, 182, 0, 176, 172, 3, 54, 4, 21, 4, 42, 182, 0, 179]
abbrev dktX1_function_6 : List UInt8 := dkwX1_function_6 ++ dktX1_function_7
def dkwX1_function_5 : List UInt8 := [25, 4, 185, 0, 137, 1, 0, 192, 0, 208, 58, 5, 29, 25, 5, 180, 0, 210, 27, 160, 0, 7, 4]
abbrev dktX1_function_5 : List UInt8 := dkwX1_function_5 ++ dktX1_function_6
def dkwX1_function_4 : List UInt8 := [42, 180, 0, 23, 180, 0, 29, 185, 0, 125, 1, 0, 58, 4, 25, 4, 185, 0, 131, 1, 0, 153, 0, 35]
abbrev dktX1_function_4 : List UInt8 := dkwX1_function_4 ++ dktX1_function_5
def dkwX1_function_3 : List UInt8 := [42, 42, 180, 0, 23, 180, 0, 188, 27, 185, 0, 153, 2, 0, 192, 0, 203, 180, 0, 205, 182, 0, 176, 172]
abbrev dktX1_function_3 : List UInt8 := dkwX1_function_3 ++ dktX1_function_4
def dkwX1_function_2 : List UInt8 := [170, 0, 0, 0, 168, 0, 0, 0, 0, 0, 0, 0, 2, 0, 0, 0, 25, 0, 0, 0, 49, 0, 0, 0, 111]
abbrev dktX1_function_2 : List UInt8 := dkwX1_function_2 ++ dktX1_function_3
def dkwX1_function_1 : List UInt8 := [182, 0, 98, 172, 3, 62, 28]
abbrev dktX1_function_1 : List UInt8 := dkwX1_function_1 ++ dktX1_function_2
def dkwX1_function_0 : List UInt8 := [27, 3, 42, 180, 0, 23, 180, 0, 188, 185, 0, 169, 1, 0, 4, 100, 184, 0, 94, 154, 0, 9, 42, 4]
abbrev dktX1_function_0 : List UInt8 := dkwX1_function_0 ++ dktX1_function_1
theorem dksX1_function_0 : cX1_function.data.toList.drop 0 = dktX1_function_0 := by decide +kernel
theorem dksX1_function_1 : cX1_function.data.toList.drop 24 = dktX1_function_1 := dk_seg dksX1_function_0 24 rfl rfl
theorem dksX1_function_2 : cX1_function.data.toList.drop 31 = dktX1_function_2 := dk_seg dksX1_function_1 7 rfl rfl
theorem dksX1_function_3 : cX1_function.data.toList.drop 56 = dktX1_function_3 := dk_seg dksX1_function_2 25 rfl rfl
theorem dksX1_function_4 : cX1_function.data.toList.drop 80 = dktX1_function_4 := dk_seg dksX1_function_3 24 rfl rfl
theorem dksX1_function_5 : cX1_function.data.toList.drop 104 = dktX1_function_5 := dk_seg dksX1_function_4 24 rfl rfl
theorem dksX1_function_6 : cX1_function.data.toList.drop 127 = dktX1_function_6 := dk_seg dksX1_function_5 23 rfl rfl
theorem dksX1_function_7 : cX1_function.data.toList.drop 151 = dktX1_function_7 := dk_seg dksX1_function_6 24 rfl rfl
theorem dksX1_function_8 : cX1_function.data.toList.drop 174 = dktX1_function_8 := dk_seg dksX1_function_7 23 rfl rfl
theorem dksX1_function_9 : cX1_function.data.toList.drop 198 = dktX1_function_9 := dk_seg dksX1_function_8 24 rfl rfl
theorem dX1_function_0 : decode cX1_function 0 = .ok (.iload_n 1, 1) := dk_27 (dk_at dksX1_function_0 0 rfl rfl)
theorem dX1_function_1 : decode cX1_function 1 = .ok (.iconst 0, 1) := dk_3 (dk_at dksX1_function_0 1 rfl rfl)
theorem dX1_function_2 : decode cX1_function 2 = .ok (.aload_n 0, 1) := dk_42 (dk_at dksX1_function_0 2 rfl rfl)
theorem dX1_function_3 : decode cX1_function 3 = .ok (.getfield 23, 3) := dk_180 0 23 (dk_at dksX1_function_0 3 rfl rfl)
theorem dX1_function_6 : decode cX1_function 6 = .ok (.getfield 188, 3) := dk_180 0 188 (dk_at dksX1_function_0 6 rfl rfl)
theorem dX1_function_9 : decode cX1_function 9 = .ok (.invokeinterface 169 1, 5) := by decide +kernel
theorem dX1_function_14 : decode cX1_function 14 = .ok (.iconst 1, 1) := dk_4 (dk_at dksX1_function_0 14 rfl rfl)
theorem dX1_function_15 : decode cX1_function 15 = .ok (.isub, 1) := dk_100 (dk_at dksX1_function_0 15 rfl rfl)
theorem dX1_function_16 : decode cX1_function 16 = .ok (.invokestatic 94, 3) := dk_184 0 94 (dk_at dksX1_function_0 16 rfl rfl)
theorem dX1_function_19 : decode cX1_function 19 = .ok (.ifCond .ne 9, 3) := dk_154 0 9 (dk_at dksX1_function_0 19 rfl rfl)
theorem dX1_function_22 : decode cX1_function 22 = .ok (.aload_n 0, 1) := dk_42 (dk_at dksX1_function_0 22 rfl rfl)
theorem dX1_function_23 : decode cX1_function 23 = .ok (.iconst 1, 1) := dk_4 (dk_at dksX1_function_0 23 rfl rfl)
theorem dX1_function_24 : decode cX1_function 24 = .ok (.invokevirtual 98, 3) := dk_182 0 98 (dk_at dksX1_function_1 0 rfl rfl)
theorem dX1_function_27 : decode cX1_function 27 = .ok (.ireturn, 1) := dk_172 (dk_at dksX1_function_1 3 rfl rfl)
theorem dX1_function_28 : decode cX1_function 28 = .ok (.iconst 0, 1) := dk_3 (dk_at dksX1_function_1 4 rfl rfl)
theorem dX1_function_29 : decode cX1_function 29 = .ok (.istore_n 3, 1) := dk_62 (dk_at dksX1_function_1 5 rfl rfl)
theorem dX1_function_30 : decode cX1_function 30 = .ok (.iload_n 2, 1) := dk_28 (dk_at dksX1_function_1 6 rfl rfl)
theorem dX1_function_31 : decode cX1_function 31 = .ok (.tableswitch 168 0 2 #[25, 49, 111], 25) := by decide +kernel
theorem dX1_function_56 : decode cX1_function 56 = .ok (.aload_n 0, 1) := dk_42 (dk_at dksX1_function_3 0 rfl rfl)
theorem dX1_function_57 : decode cX1_function 57 = .ok (.aload_n 0, 1) := dk_42 (dk_at dksX1_function_3 1 rfl rfl)
theorem dX1_function_58 : decode cX1_function 58 = .ok (.getfield 23, 3) := dk_180 0 23 (dk_at dksX1_function_3 2 rfl rfl)
theorem dX1_function_61 : decode cX1_function 61 = .ok (.getfield 188, 3) := dk_180 0 188 (dk_at dksX1_function_3 5 rfl rfl)
theorem dX1_function_64 : decode cX1_function 64 = .ok (.iload_n 1, 1) := dk_27 (dk_at dksX1_function_3 8 rfl rfl)
theorem dX1_function_65 : decode cX1_function 65 = .ok (.invokeinterface 153 2, 5) := by decide +kernel
theorem dX1_function_70 : decode cX1_function 70 = .ok (.checkcast 203, 3) := dk_192 0 203 (dk_at dksX1_function_3 14 rfl rfl)
theorem dX1_function_73 : decode cX1_function 73 = .ok (.getfield 205, 3) := dk_180 0 205 (dk_at dksX1_function_3 17 rfl rfl)
theorem dX1_function_76 : decode cX1_function 76 = .ok (.invokevirtual 176, 3) := dk_182 0 176 (dk_at dksX1_function_3 20 rfl rfl)
theorem dX1_function_79 : decode cX1_function 79 = .ok (.ireturn, 1) := dk_172 (dk_at dksX1_function_3 23 rfl rfl)
theorem dX1_function_80 : decode cX1_function 80 = .ok (.aload_n 0, 1) := dk_42 (dk_at dksX1_function_4 0 rfl rfl)
theorem dX1_function_81 : decode cX1_function 81 = .ok (.getfield 23, 3) := dk_180 0 23 (dk_at dksX1_function_4 1 rfl rfl)
theorem dX1_function_84 : decode cX1_function 84 = .ok (.getfield 29, 3) := dk_180 0 29 (dk_at dksX1_function_4 4 rfl rfl)
theorem dX1_function_87 : decode cX1_function 87 = .ok (.invokeinterface 125 1, 5) := by decide +kernel
theorem dX1_function_92 : decode cX1_function 92 = .ok (.astore 4, 2) := dk_58 4 (dk_at dksX1_function_4 12 rfl rfl)
theorem dX1_function_94 : decode cX1_function 94 = .ok (.aload 4, 2) := dk_25 4 (dk_at dksX1_function_4 14 rfl rfl)
theorem dX1_function_96 : decode cX1_function 96 = .ok (.invokeinterface 131 1, 5) := by decide +kernel
theorem dX1_function_101 : decode cX1_function 101 = .ok (.ifCond .eq 35, 3) := dk_153 0 35 (dk_at dksX1_function_4 21 rfl rfl)
theorem dX1_function_104 : decode cX1_function 104 = .ok (.aload 4, 2) := dk_25 4 (dk_at dksX1_function_5 0 rfl rfl)
theorem dX1_function_106 : decode cX1_function 106 = .ok (.invokeinterface 137 1, 5) := by decide +kernel
theorem dX1_function_111 : decode cX1_function 111 = .ok (.checkcast 208, 3) := dk_192 0 208 (dk_at dksX1_function_5 7 rfl rfl)
theorem dX1_function_114 : decode cX1_function 114 = .ok (.astore 5, 2) := dk_58 5 (dk_at dksX1_function_5 10 rfl rfl)
theorem dX1_function_116 : decode cX1_function 116 = .ok (.iload_n 3, 1) := dk_29 (dk_at dksX1_function_5 12 rfl rfl)
theorem dX1_function_117 : decode cX1_function 117 = .ok (.aload 5, 2) := dk_25 5 (dk_at dksX1_function_5 13 rfl rfl)
theorem dX1_function_119 : decode cX1_function 119 = .ok (.getfield 210, 3) := dk_180 0 210 (dk_at dksX1_function_5 15 rfl rfl)
theorem dX1_function_122 : decode cX1_function 122 = .ok (.iload_n 1, 1) := dk_27 (dk_at dksX1_function_5 18 rfl rfl)
theorem dX1_function_123 : decode cX1_function 123 = .ok (.if_icmp .ne 7, 3) := dk_160 0 7 (dk_at dksX1_function_5 19 rfl rfl)
theorem dX1_function_126 : decode cX1_function 126 = .ok (.iconst 1, 1) := dk_4 (dk_at dksX1_function_5 22 rfl rfl)
theorem dX1_function_127 : decode cX1_function 127 = .ok (.goto 4, 3) := dk_167 0 4 (dk_at dksX1_function_6 0 rfl rfl)
theorem dX1_function_130 : decode cX1_function 130 = .ok (.iconst 0, 1) := dk_3 (dk_at dksX1_function_6 3 rfl rfl)
theorem dX1_function_131 : decode cX1_function 131 = .ok (.iadd, 1) := dk_96 (dk_at dksX1_function_6 4 rfl rfl)
theorem dX1_function_132 : decode cX1_function 132 = .ok (.istore_n 3, 1) := dk_62 (dk_at dksX1_function_6 5 rfl rfl)
theorem dX1_function_133 : decode cX1_function 133 = .ok (.goto (-39), 3) := dk_167 255 217 (dk_at dksX1_function_6 6 rfl rfl)
theorem dX1_function_136 : decode cX1_function 136 = .ok (.aload_n 0, 1) := dk_42 (dk_at dksX1_function_6 9 rfl rfl)
theorem dX1_function_137 : decode cX1_function 137 = .ok (.iload_n 3, 1) := dk_29 (dk_at dksX1_function_6 10 rfl rfl)
theorem dX1_function_138 : decode cX1_function 138 = .ok (.invokevirtual 176, 3) := dk_182 0 176 (dk_at dksX1_function_6 11 rfl rfl)
theorem dX1_function_141 : decode cX1_function 141 = .ok (.ireturn, 1) := dk_172 (dk_at dksX1_function_6 14 rfl rfl)
theorem dX1_function_142 : decode cX1_function 142 = .ok (.iconst 0, 1) := dk_3 (dk_at dksX1_function_6 15 rfl rfl)
theorem dX1_function_143 : decode cX1_function 143 = .ok (.istore 4, 2) := dk_54 4 (dk_at dksX1_function_6 16 rfl rfl)
theorem dX1_function_145 : decode cX1_function 145 = .ok (.iload 4, 2) := dk_21 4 (dk_at dksX1_function_6 18 rfl rfl)
theorem dX1_function_147 : decode cX1_function 147 = .ok (.aload_n 0, 1) := dk_42 (dk_at dksX1_function_6 20 rfl rfl)
theorem dX1_function_148 : decode cX1_function 148 = .ok (.invokevirtual 179, 3) := dk_182 0 179 (dk_at dksX1_function_6 21 rfl rfl)
theorem dX1_function_151 : decode cX1_function 151 = .ok (.if_icmp .ge 42, 3) := dk_162 0 42 (dk_at dksX1_function_7 0 rfl rfl)
theorem dX1_function_154 : decode cX1_function 154 = .ok (.iload_n 3, 1) := dk_29 (dk_at dksX1_function_7 3 rfl rfl)
theorem dX1_function_155 : decode cX1_function 155 = .ok (.aload_n 0, 1) := dk_42 (dk_at dksX1_function_7 4 rfl rfl)
theorem dX1_function_156 : decode cX1_function 156 = .ok (.getfield 36, 3) := dk_180 0 36 (dk_at dksX1_function_7 5 rfl rfl)
theorem dX1_function_159 : decode cX1_function 159 = .ok (.getfield 213, 3) := dk_180 0 213 (dk_at dksX1_function_7 8 rfl rfl)
theorem dX1_function_162 : decode cX1_function 162 = .ok (.iload 4, 2) := dk_21 4 (dk_at dksX1_function_7 11 rfl rfl)
theorem dX1_function_164 : decode cX1_function 164 = .ok (.iaload, 1) := dk_46 (dk_at dksX1_function_7 13 rfl rfl)
theorem dX1_function_165 : decode cX1_function 165 = .ok (.iload 4, 2) := dk_21 4 (dk_at dksX1_function_7 14 rfl rfl)
theorem dX1_function_167 : decode cX1_function 167 = .ok (.if_icmp .ne 17, 3) := dk_160 0 17 (dk_at dksX1_function_7 16 rfl rfl)
theorem dX1_function_170 : decode cX1_function 170 = .ok (.aload_n 0, 1) := dk_42 (dk_at dksX1_function_7 19 rfl rfl)
theorem dX1_function_171 : decode cX1_function 171 = .ok (.iload 4, 2) := dk_21 4 (dk_at dksX1_function_7 20 rfl rfl)
theorem dX1_function_173 : decode cX1_function 173 = .ok (.iload_n 1, 1) := dk_27 (dk_at dksX1_function_7 22 rfl rfl)
theorem dX1_function_174 : decode cX1_function 174 = .ok (.invokevirtual 216, 3) := dk_182 0 216 (dk_at dksX1_function_8 0 rfl rfl)
theorem dX1_function_177 : decode cX1_function 177 = .ok (.ifCond .eq 7, 3) := dk_153 0 7 (dk_at dksX1_function_8 3 rfl rfl)
theorem dX1_function_180 : decode cX1_function 180 = .ok (.iconst 1, 1) := dk_4 (dk_at dksX1_function_8 6 rfl rfl)
theorem dX1_function_181 : decode cX1_function 181 = .ok (.goto 4, 3) := dk_167 0 4 (dk_at dksX1_function_8 7 rfl rfl)
theorem dX1_function_184 : decode cX1_function 184 = .ok (.iconst 0, 1) := dk_3 (dk_at dksX1_function_8 10 rfl rfl)
theorem dX1_function_185 : decode cX1_function 185 = .ok (.iadd, 1) := dk_96 (dk_at dksX1_function_8 11 rfl rfl)
theorem dX1_function_186 : decode cX1_function 186 = .ok (.istore_n 3, 1) := dk_62 (dk_at dksX1_function_8 12 rfl rfl)
theorem dX1_function_187 : decode cX1_function 187 = .ok (.iinc 4 1, 3) := dk_132 4 1 (dk_at dksX1_function_8 13 rfl rfl)
theorem dX1_function_190 : decode cX1_function 190 = .ok (.goto (-45), 3) := dk_167 255 211 (dk_at dksX1_function_8 16 rfl rfl)
theorem dX1_function_193 : decode cX1_function 193 = .ok (.aload_n 0, 1) := dk_42 (dk_at dksX1_function_8 19 rfl rfl)
theorem dX1_function_194 : decode cX1_function 194 = .ok (.iload_n 3, 1) := dk_29 (dk_at dksX1_function_8 20 rfl rfl)
theorem dX1_function_195 : decode cX1_function 195 = .ok (.invokevirtual 176, 3) := dk_182 0 176 (dk_at dksX1_function_8 21 rfl rfl)
theorem dX1_function_198 : decode cX1_function 198 = .ok (.ireturn, 1) := dk_172 (dk_at dksX1_function_9 0 rfl rfl)
theorem dX1_function_199 : decode cX1_function 199 = .ok (.aload_n 0, 1) := dk_42 (dk_at dksX1_function_9 1 rfl rfl)
theorem dX1_function_200 : decode cX1_function 200 = .ok (.iconst 1, 1) := dk_4 (dk_at dksX1_function_9 2 rfl rfl)
theorem dX1_function_201 : decode cX1_function 201 = .ok (.invokevirtual 98, 3) := dk_182 0 98 (dk_at dksX1_function_9 3 rfl rfl)
theorem dX1_function_204 : decode cX1_function 204 = .ok (.ireturn, 1) := dk_172 (dk_at dksX1_function_9 6 rfl rfl)
abbrev cX1_isIn_2 : ByteArray := prog_1_method_17_code
def yX1_isIn_2 : MethodName := ⟨RX1, "isIn", "(II)Z"⟩
def dkwX1_isIn_2_2 : List UInt8 := [132, 3, 1, 167, 255, 207, 3, 172]
abbrev dktX1_isIn_2_2 : List UInt8 := dkwX1_isIn_2_2 ++ []
def dkwX1_isIn_2_1 : List UInt8 := [180, 0, 23, 180, 0, 29, 29, 185, 0, 153, 2, 0, 192, 0, 208, 180, 0, 210, 28, 160, 0, 5, 4, 172]
abbrev dktX1_isIn_2_1 : List UInt8 := dkwX1_isIn_2_1 ++ dktX1_isIn_2_2
def dkwX1_isIn_2_0 : List UInt8 := [3, 62, 29, 42, 182, 0, 179, 162, 0, 47, 42, 180, 0, 36, 180, 0, 213, 29, 46, 27, 160, 0, 28, 42]
abbrev dktX1_isIn_2_0 : List UInt8 := dkwX1_isIn_2_0 ++ dktX1_isIn_2_1
theorem dksX1_isIn_2_0 : cX1_isIn_2.data.toList.drop 0 = dktX1_isIn_2_0 := by decide +kernel
theorem dksX1_isIn_2_1 : cX1_isIn_2.data.toList.drop 24 = dktX1_isIn_2_1 := dk_seg dksX1_isIn_2_0 24 rfl rfl
theorem dksX1_isIn_2_2 : cX1_isIn_2.data.toList.drop 48 = dktX1_isIn_2_2 := dk_seg dksX1_isIn_2_1 24 rfl rfl
theorem dX1_isIn_2_0 : decode cX1_isIn_2 0 = .ok (.iconst 0, 1) := dk_3 (dk_at dksX1_isIn_2_0 0 rfl rfl)
theorem dX1_isIn_2_1 : decode cX1_isIn_2 1 = .ok (.istore_n 3, 1) := dk_62 (dk_at dksX1_isIn_2_0 1 rfl rfl)
theorem dX1_isIn_2_2 : decode cX1_isIn_2 2 = .ok (.iload_n 3, 1) := dk_29 (dk_at dksX1_isIn_2_0 2 rfl rfl)
theorem dX1_isIn_2_3 : decode cX1_isIn_2 3 = .ok (.aload_n 0, 1) := dk_42 (dk_at dksX1_isIn_2_0 3 rfl rfl)
theorem dX1_isIn_2_4 : decode cX1_isIn_2 4 = .ok (.invokevirtual 179, 3) := dk_182 0 179 (dk_at dksX1_isIn_2_0 4 rfl rfl)
theorem dX1_isIn_2_7 : decode cX1_isIn_2 7 = .ok (.if_icmp .ge 47, 3) := dk_162 0 47 (dk_at dksX1_isIn_2_0 7 rfl rfl)
theorem dX1_isIn_2_10 : decode cX1_isIn_2 10 = .ok (.aload_n 0, 1) := dk_42 (dk_at dksX1_isIn_2_0 10 rfl rfl)
theorem dX1_isIn_2_11 : decode cX1_isIn_2 11 = .ok (.getfield 36, 3) := dk_180 0 36 (dk_at dksX1_isIn_2_0 11 rfl rfl)
theorem dX1_isIn_2_14 : decode cX1_isIn_2 14 = .ok (.getfield 213, 3) := dk_180 0 213 (dk_at dksX1_isIn_2_0 14 rfl rfl)
theorem dX1_isIn_2_17 : decode cX1_isIn_2 17 = .ok (.iload_n 3, 1) := dk_29 (dk_at dksX1_isIn_2_0 17 rfl rfl)
theorem dX1_isIn_2_18 : decode cX1_isIn_2 18 = .ok (.iaload, 1) := dk_46 (dk_at dksX1_isIn_2_0 18 rfl rfl)
theorem dX1_isIn_2_19 : decode cX1_isIn_2 19 = .ok (.iload_n 1, 1) := dk_27 (dk_at dksX1_isIn_2_0 19 rfl rfl)
theorem dX1_isIn_2_20 : decode cX1_isIn_2 20 = .ok (.if_icmp .ne 28, 3) := dk_160 0 28 (dk_at dksX1_isIn_2_0 20 rfl rfl)
theorem dX1_isIn_2_23 : decode cX1_isIn_2 23 = .ok (.aload_n 0, 1) := dk_42 (dk_at dksX1_isIn_2_0 23 rfl rfl)
theorem dX1_isIn_2_24 : decode cX1_isIn_2 24 = .ok (.getfield 23, 3) := dk_180 0 23 (dk_at dksX1_isIn_2_1 0 rfl rfl)
theorem dX1_isIn_2_27 : decode cX1_isIn_2 27 = .ok (.getfield 29, 3) := dk_180 0 29 (dk_at dksX1_isIn_2_1 3 rfl rfl)
theorem dX1_isIn_2_30 : decode cX1_isIn_2 30 = .ok (.iload_n 3, 1) := dk_29 (dk_at dksX1_isIn_2_1 6 rfl rfl)
theorem dX1_isIn_2_31 : decode cX1_isIn_2 31 = .ok (.invokeinterface 153 2, 5) := by decide +kernel
theorem dX1_isIn_2_36 : decode cX1_isIn_2 36 = .ok (.checkcast 208, 3) := dk_192 0 208 (dk_at dksX1_isIn_2_1 12 rfl rfl)
theorem dX1_isIn_2_39 : decode cX1_isIn_2 39 = .ok (.getfield 210, 3) := dk_180 0 210 (dk_at dksX1_isIn_2_1 15 rfl rfl)
theorem dX1_isIn_2_42 : decode cX1_isIn_2 42 = .ok (.iload_n 2, 1) := dk_28 (dk_at dksX1_isIn_2_1 18 rfl rfl)
theorem dX1_isIn_2_43 : decode cX1_isIn_2 43 = .ok (.if_icmp .ne 5, 3) := dk_160 0 5 (dk_at dksX1_isIn_2_1 19 rfl rfl)
theorem dX1_isIn_2_46 : decode cX1_isIn_2 46 = .ok (.iconst 1, 1) := dk_4 (dk_at dksX1_isIn_2_1 22 rfl rfl)
theorem dX1_isIn_2_47 : decode cX1_isIn_2 47 = .ok (.ireturn, 1) := dk_172 (dk_at dksX1_isIn_2_1 23 rfl rfl)
theorem dX1_isIn_2_48 : decode cX1_isIn_2 48 = .ok (.iinc 3 1, 3) := dk_132 3 1 (dk_at dksX1_isIn_2_2 0 rfl rfl)
theorem dX1_isIn_2_51 : decode cX1_isIn_2 51 = .ok (.goto (-49), 3) := dk_167 255 207 (dk_at dksX1_isIn_2_2 3 rfl rfl)
theorem dX1_isIn_2_54 : decode cX1_isIn_2 54 = .ok (.iconst 0, 1) := dk_3 (dk_at dksX1_isIn_2_2 6 rfl rfl)
theorem dX1_isIn_2_55 : decode cX1_isIn_2 55 = .ok (.ireturn, 1) := dk_172 (dk_at dksX1_isIn_2_2 7 rfl rfl)
abbrev cX1_term : ByteArray := prog_1_method_21_code
def yX1_term : MethodName := ⟨RX1, "term", "(II)I"⟩
def dkwX1_term_9 : List UInt8 := [180, 0, 241, 27, 46, 182, 0, 176, 172, 42, 4, 182, 0, 98, 172]
abbrev dktX1_term_9 : List UInt8 := dkwX1_term_9 ++ []
def dkwX1_term_8 : List UInt8 := [42, 42, 180, 0, 36, 180, 0, 241, 27, 46, 2, 160, 0, 8, 16, 254, 167, 0, 12, 42, 180, 0, 36]
abbrev dktX1_term_8 : List UInt8 := dkwX1_term_8 ++ dktX1_term_9
def dkwX1_term_7 : List UInt8 := [96, 62, 132, 4, 1, 167, 255, 218, 42, 29, 182, 0, 176, 172, 42, 42, 27, 182, 0, 238, 182, 0, 176, 172]
abbrev dktX1_term_7 : List UInt8 := dkwX1_term_7 ++ dktX1_term_8
def dkwX1_term_6 : List UInt8 := [29, 42, 21, 4, 42, 180, 0, 36, 180, 0, 213, 27, 46, 182, 0, 235, 153, 0, 7, 4, 167, 0, 4, 3]
abbrev dktX1_term_6 : List UInt8 := dkwX1_term_6 ++ dktX1_term_7
def dkwX1_term_5 : List UInt8 := [132, 4, 1, 167, 255, 223, 42, 29, 182, 0, 176, 172, 3, 54, 4, 21, 4, 42, 182, 0, 179, 162, 0, 35]
abbrev dktX1_term_5 : List UInt8 := dkwX1_term_5 ++ dktX1_term_6
def dkwX1_term_4 : List UInt8 := [162, 0, 30, 29, 42, 180, 0, 36, 21, 4, 27, 182, 0, 234, 153, 0, 7, 4, 167, 0, 4, 3, 96, 62]
abbrev dktX1_term_4 : List UInt8 := dkwX1_term_4 ++ dktX1_term_5
def dkwX1_term_3 : List UInt8 := [42, 42, 180, 0, 36, 180, 0, 213, 27, 46, 182, 0, 176, 172, 3, 54, 4, 21, 4, 42, 182, 0, 179]
abbrev dktX1_term_3 : List UInt8 := dkwX1_term_3 ++ dktX1_term_4
def dkwX1_term_2 : List UInt8 := [42, 42, 180, 0, 23, 180, 0, 29, 27, 185, 0, 153, 2, 0, 192, 0, 208, 180, 0, 210, 182, 0, 176, 172]
abbrev dktX1_term_2 : List UInt8 := dkwX1_term_2 ++ dktX1_term_3
def dkwX1_term_1 : List UInt8 := [170, 0, 0, 0, 212, 0, 0, 0, 0, 0, 0, 0, 5, 0, 0, 0, 37, 0, 0, 0, 61, 0, 0, 0, 75, 0, 0, 0, 120, 0, 0, 0, 170, 0, 0, 0, 180]
abbrev dktX1_term_1 : List UInt8 := dkwX1_term_1 ++ dktX1_term_2
def dkwX1_term_0 : List UInt8 := [42, 4, 188, 10, 89, 3, 27, 79, 182, 0, 230, 154, 0, 9, 42, 4, 182, 0, 98, 172, 3, 62, 28]
abbrev dktX1_term_0 : List UInt8 := dkwX1_term_0 ++ dktX1_term_1
theorem dksX1_term_0 : cX1_term.data.toList.drop 0 = dktX1_term_0 := by decide +kernel
theorem dksX1_term_1 : cX1_term.data.toList.drop 23 = dktX1_term_1 := dk_seg dksX1_term_0 23 rfl rfl
theorem dksX1_term_2 : cX1_term.data.toList.drop 60 = dktX1_term_2 := dk_seg dksX1_term_1 37 rfl rfl
theorem dksX1_term_3 : cX1_term.data.toList.drop 84 = dktX1_term_3 := dk_seg dksX1_term_2 24 rfl rfl
theorem dksX1_term_4 : cX1_term.data.toList.drop 107 = dktX1_term_4 := dk_seg dksX1_term_3 23 rfl rfl
theorem dksX1_term_5 : cX1_term.data.toList.drop 131 = dktX1_term_5 := dk_seg dksX1_term_4 24 rfl rfl
theorem dksX1_term_6 : cX1_term.data.toList.drop 155 = dktX1_term_6 := dk_seg dksX1_term_5 24 rfl rfl
theorem dksX1_term_7 : cX1_term.data.toList.drop 179 = dktX1_term_7 := dk_seg dksX1_term_6 24 rfl rfl
theorem dksX1_term_8 : cX1_term.data.toList.drop 203 = dktX1_term_8 := dk_seg dksX1_term_7 24 rfl rfl
theorem dksX1_term_9 : cX1_term.data.toList.drop 226 = dktX1_term_9 := dk_seg dksX1_term_8 23 rfl rfl
theorem dX1_term_0 : decode cX1_term 0 = .ok (.aload_n 0, 1) := dk_42 (dk_at dksX1_term_0 0 rfl rfl)
theorem dX1_term_1 : decode cX1_term 1 = .ok (.iconst 1, 1) := dk_4 (dk_at dksX1_term_0 1 rfl rfl)
theorem dX1_term_2 : decode cX1_term 2 = .ok (.newarray .int, 2) := dk_188_10 (dk_at dksX1_term_0 2 rfl rfl)
theorem dX1_term_4 : decode cX1_term 4 = .ok (.dup, 1) := dk_89 (dk_at dksX1_term_0 4 rfl rfl)
theorem dX1_term_5 : decode cX1_term 5 = .ok (.iconst 0, 1) := dk_3 (dk_at dksX1_term_0 5 rfl rfl)
theorem dX1_term_6 : decode cX1_term 6 = .ok (.iload_n 1, 1) := dk_27 (dk_at dksX1_term_0 6 rfl rfl)
theorem dX1_term_7 : decode cX1_term 7 = .ok (.iastore, 1) := dk_79 (dk_at dksX1_term_0 7 rfl rfl)
theorem dX1_term_8 : decode cX1_term 8 = .ok (.invokevirtual 230, 3) := dk_182 0 230 (dk_at dksX1_term_0 8 rfl rfl)
theorem dX1_term_11 : decode cX1_term 11 = .ok (.ifCond .ne 9, 3) := dk_154 0 9 (dk_at dksX1_term_0 11 rfl rfl)
theorem dX1_term_14 : decode cX1_term 14 = .ok (.aload_n 0, 1) := dk_42 (dk_at dksX1_term_0 14 rfl rfl)
theorem dX1_term_15 : decode cX1_term 15 = .ok (.iconst 1, 1) := dk_4 (dk_at dksX1_term_0 15 rfl rfl)
theorem dX1_term_16 : decode cX1_term 16 = .ok (.invokevirtual 98, 3) := dk_182 0 98 (dk_at dksX1_term_0 16 rfl rfl)
theorem dX1_term_19 : decode cX1_term 19 = .ok (.ireturn, 1) := dk_172 (dk_at dksX1_term_0 19 rfl rfl)
theorem dX1_term_20 : decode cX1_term 20 = .ok (.iconst 0, 1) := dk_3 (dk_at dksX1_term_0 20 rfl rfl)
theorem dX1_term_21 : decode cX1_term 21 = .ok (.istore_n 3, 1) := dk_62 (dk_at dksX1_term_0 21 rfl rfl)
theorem dX1_term_22 : decode cX1_term 22 = .ok (.iload_n 2, 1) := dk_28 (dk_at dksX1_term_0 22 rfl rfl)
theorem dX1_term_23 : decode cX1_term 23 = .ok (.tableswitch 212 0 5 #[37, 61, 75, 120, 170, 180], 37) := by decide +kernel
theorem dX1_term_60 : decode cX1_term 60 = .ok (.aload_n 0, 1) := dk_42 (dk_at dksX1_term_2 0 rfl rfl)
theorem dX1_term_61 : decode cX1_term 61 = .ok (.aload_n 0, 1) := dk_42 (dk_at dksX1_term_2 1 rfl rfl)
theorem dX1_term_62 : decode cX1_term 62 = .ok (.getfield 23, 3) := dk_180 0 23 (dk_at dksX1_term_2 2 rfl rfl)
theorem dX1_term_65 : decode cX1_term 65 = .ok (.getfield 29, 3) := dk_180 0 29 (dk_at dksX1_term_2 5 rfl rfl)
theorem dX1_term_68 : decode cX1_term 68 = .ok (.iload_n 1, 1) := dk_27 (dk_at dksX1_term_2 8 rfl rfl)
theorem dX1_term_69 : decode cX1_term 69 = .ok (.invokeinterface 153 2, 5) := by decide +kernel
theorem dX1_term_74 : decode cX1_term 74 = .ok (.checkcast 208, 3) := dk_192 0 208 (dk_at dksX1_term_2 14 rfl rfl)
theorem dX1_term_77 : decode cX1_term 77 = .ok (.getfield 210, 3) := dk_180 0 210 (dk_at dksX1_term_2 17 rfl rfl)
theorem dX1_term_80 : decode cX1_term 80 = .ok (.invokevirtual 176, 3) := dk_182 0 176 (dk_at dksX1_term_2 20 rfl rfl)
theorem dX1_term_83 : decode cX1_term 83 = .ok (.ireturn, 1) := dk_172 (dk_at dksX1_term_2 23 rfl rfl)
theorem dX1_term_84 : decode cX1_term 84 = .ok (.aload_n 0, 1) := dk_42 (dk_at dksX1_term_3 0 rfl rfl)
theorem dX1_term_85 : decode cX1_term 85 = .ok (.aload_n 0, 1) := dk_42 (dk_at dksX1_term_3 1 rfl rfl)
theorem dX1_term_86 : decode cX1_term 86 = .ok (.getfield 36, 3) := dk_180 0 36 (dk_at dksX1_term_3 2 rfl rfl)
theorem dX1_term_89 : decode cX1_term 89 = .ok (.getfield 213, 3) := dk_180 0 213 (dk_at dksX1_term_3 5 rfl rfl)
theorem dX1_term_92 : decode cX1_term 92 = .ok (.iload_n 1, 1) := dk_27 (dk_at dksX1_term_3 8 rfl rfl)
theorem dX1_term_93 : decode cX1_term 93 = .ok (.iaload, 1) := dk_46 (dk_at dksX1_term_3 9 rfl rfl)
theorem dX1_term_94 : decode cX1_term 94 = .ok (.invokevirtual 176, 3) := dk_182 0 176 (dk_at dksX1_term_3 10 rfl rfl)
theorem dX1_term_97 : decode cX1_term 97 = .ok (.ireturn, 1) := dk_172 (dk_at dksX1_term_3 13 rfl rfl)
theorem dX1_term_98 : decode cX1_term 98 = .ok (.iconst 0, 1) := dk_3 (dk_at dksX1_term_3 14 rfl rfl)
theorem dX1_term_99 : decode cX1_term 99 = .ok (.istore 4, 2) := dk_54 4 (dk_at dksX1_term_3 15 rfl rfl)
theorem dX1_term_101 : decode cX1_term 101 = .ok (.iload 4, 2) := dk_21 4 (dk_at dksX1_term_3 17 rfl rfl)
theorem dX1_term_103 : decode cX1_term 103 = .ok (.aload_n 0, 1) := dk_42 (dk_at dksX1_term_3 19 rfl rfl)
theorem dX1_term_104 : decode cX1_term 104 = .ok (.invokevirtual 179, 3) := dk_182 0 179 (dk_at dksX1_term_3 20 rfl rfl)
theorem dX1_term_107 : decode cX1_term 107 = .ok (.if_icmp .ge 30, 3) := dk_162 0 30 (dk_at dksX1_term_4 0 rfl rfl)
theorem dX1_term_110 : decode cX1_term 110 = .ok (.iload_n 3, 1) := dk_29 (dk_at dksX1_term_4 3 rfl rfl)
theorem dX1_term_111 : decode cX1_term 111 = .ok (.aload_n 0, 1) := dk_42 (dk_at dksX1_term_4 4 rfl rfl)
theorem dX1_term_112 : decode cX1_term 112 = .ok (.getfield 36, 3) := dk_180 0 36 (dk_at dksX1_term_4 5 rfl rfl)
theorem dX1_term_115 : decode cX1_term 115 = .ok (.iload 4, 2) := dk_21 4 (dk_at dksX1_term_4 8 rfl rfl)
theorem dX1_term_117 : decode cX1_term 117 = .ok (.iload_n 1, 1) := dk_27 (dk_at dksX1_term_4 10 rfl rfl)
theorem dX1_term_118 : decode cX1_term 118 = .ok (.invokevirtual 234, 3) := dk_182 0 234 (dk_at dksX1_term_4 11 rfl rfl)
theorem dX1_term_121 : decode cX1_term 121 = .ok (.ifCond .eq 7, 3) := dk_153 0 7 (dk_at dksX1_term_4 14 rfl rfl)
theorem dX1_term_124 : decode cX1_term 124 = .ok (.iconst 1, 1) := dk_4 (dk_at dksX1_term_4 17 rfl rfl)
theorem dX1_term_125 : decode cX1_term 125 = .ok (.goto 4, 3) := dk_167 0 4 (dk_at dksX1_term_4 18 rfl rfl)
theorem dX1_term_128 : decode cX1_term 128 = .ok (.iconst 0, 1) := dk_3 (dk_at dksX1_term_4 21 rfl rfl)
theorem dX1_term_129 : decode cX1_term 129 = .ok (.iadd, 1) := dk_96 (dk_at dksX1_term_4 22 rfl rfl)
theorem dX1_term_130 : decode cX1_term 130 = .ok (.istore_n 3, 1) := dk_62 (dk_at dksX1_term_4 23 rfl rfl)
theorem dX1_term_131 : decode cX1_term 131 = .ok (.iinc 4 1, 3) := dk_132 4 1 (dk_at dksX1_term_5 0 rfl rfl)
theorem dX1_term_134 : decode cX1_term 134 = .ok (.goto (-33), 3) := dk_167 255 223 (dk_at dksX1_term_5 3 rfl rfl)
theorem dX1_term_137 : decode cX1_term 137 = .ok (.aload_n 0, 1) := dk_42 (dk_at dksX1_term_5 6 rfl rfl)
theorem dX1_term_138 : decode cX1_term 138 = .ok (.iload_n 3, 1) := dk_29 (dk_at dksX1_term_5 7 rfl rfl)
theorem dX1_term_139 : decode cX1_term 139 = .ok (.invokevirtual 176, 3) := dk_182 0 176 (dk_at dksX1_term_5 8 rfl rfl)
theorem dX1_term_142 : decode cX1_term 142 = .ok (.ireturn, 1) := dk_172 (dk_at dksX1_term_5 11 rfl rfl)
theorem dX1_term_143 : decode cX1_term 143 = .ok (.iconst 0, 1) := dk_3 (dk_at dksX1_term_5 12 rfl rfl)
theorem dX1_term_144 : decode cX1_term 144 = .ok (.istore 4, 2) := dk_54 4 (dk_at dksX1_term_5 13 rfl rfl)
theorem dX1_term_146 : decode cX1_term 146 = .ok (.iload 4, 2) := dk_21 4 (dk_at dksX1_term_5 15 rfl rfl)
theorem dX1_term_148 : decode cX1_term 148 = .ok (.aload_n 0, 1) := dk_42 (dk_at dksX1_term_5 17 rfl rfl)
theorem dX1_term_149 : decode cX1_term 149 = .ok (.invokevirtual 179, 3) := dk_182 0 179 (dk_at dksX1_term_5 18 rfl rfl)
theorem dX1_term_152 : decode cX1_term 152 = .ok (.if_icmp .ge 35, 3) := dk_162 0 35 (dk_at dksX1_term_5 21 rfl rfl)
theorem dX1_term_155 : decode cX1_term 155 = .ok (.iload_n 3, 1) := dk_29 (dk_at dksX1_term_6 0 rfl rfl)
theorem dX1_term_156 : decode cX1_term 156 = .ok (.aload_n 0, 1) := dk_42 (dk_at dksX1_term_6 1 rfl rfl)
theorem dX1_term_157 : decode cX1_term 157 = .ok (.iload 4, 2) := dk_21 4 (dk_at dksX1_term_6 2 rfl rfl)
theorem dX1_term_159 : decode cX1_term 159 = .ok (.aload_n 0, 1) := dk_42 (dk_at dksX1_term_6 4 rfl rfl)
theorem dX1_term_160 : decode cX1_term 160 = .ok (.getfield 36, 3) := dk_180 0 36 (dk_at dksX1_term_6 5 rfl rfl)
theorem dX1_term_163 : decode cX1_term 163 = .ok (.getfield 213, 3) := dk_180 0 213 (dk_at dksX1_term_6 8 rfl rfl)
theorem dX1_term_166 : decode cX1_term 166 = .ok (.iload_n 1, 1) := dk_27 (dk_at dksX1_term_6 11 rfl rfl)
theorem dX1_term_167 : decode cX1_term 167 = .ok (.iaload, 1) := dk_46 (dk_at dksX1_term_6 12 rfl rfl)
theorem dX1_term_168 : decode cX1_term 168 = .ok (.invokevirtual 235, 3) := dk_182 0 235 (dk_at dksX1_term_6 13 rfl rfl)
theorem dX1_term_171 : decode cX1_term 171 = .ok (.ifCond .eq 7, 3) := dk_153 0 7 (dk_at dksX1_term_6 16 rfl rfl)
theorem dX1_term_174 : decode cX1_term 174 = .ok (.iconst 1, 1) := dk_4 (dk_at dksX1_term_6 19 rfl rfl)
theorem dX1_term_175 : decode cX1_term 175 = .ok (.goto 4, 3) := dk_167 0 4 (dk_at dksX1_term_6 20 rfl rfl)
theorem dX1_term_178 : decode cX1_term 178 = .ok (.iconst 0, 1) := dk_3 (dk_at dksX1_term_6 23 rfl rfl)
theorem dX1_term_179 : decode cX1_term 179 = .ok (.iadd, 1) := dk_96 (dk_at dksX1_term_7 0 rfl rfl)
theorem dX1_term_180 : decode cX1_term 180 = .ok (.istore_n 3, 1) := dk_62 (dk_at dksX1_term_7 1 rfl rfl)
theorem dX1_term_181 : decode cX1_term 181 = .ok (.iinc 4 1, 3) := dk_132 4 1 (dk_at dksX1_term_7 2 rfl rfl)
theorem dX1_term_184 : decode cX1_term 184 = .ok (.goto (-38), 3) := dk_167 255 218 (dk_at dksX1_term_7 5 rfl rfl)
theorem dX1_term_187 : decode cX1_term 187 = .ok (.aload_n 0, 1) := dk_42 (dk_at dksX1_term_7 8 rfl rfl)
theorem dX1_term_188 : decode cX1_term 188 = .ok (.iload_n 3, 1) := dk_29 (dk_at dksX1_term_7 9 rfl rfl)
theorem dX1_term_189 : decode cX1_term 189 = .ok (.invokevirtual 176, 3) := dk_182 0 176 (dk_at dksX1_term_7 10 rfl rfl)
theorem dX1_term_192 : decode cX1_term 192 = .ok (.ireturn, 1) := dk_172 (dk_at dksX1_term_7 13 rfl rfl)
theorem dX1_term_193 : decode cX1_term 193 = .ok (.aload_n 0, 1) := dk_42 (dk_at dksX1_term_7 14 rfl rfl)
theorem dX1_term_194 : decode cX1_term 194 = .ok (.aload_n 0, 1) := dk_42 (dk_at dksX1_term_7 15 rfl rfl)
theorem dX1_term_195 : decode cX1_term 195 = .ok (.iload_n 1, 1) := dk_27 (dk_at dksX1_term_7 16 rfl rfl)
theorem dX1_term_196 : decode cX1_term 196 = .ok (.invokevirtual 238, 3) := dk_182 0 238 (dk_at dksX1_term_7 17 rfl rfl)
theorem dX1_term_199 : decode cX1_term 199 = .ok (.invokevirtual 176, 3) := dk_182 0 176 (dk_at dksX1_term_7 20 rfl rfl)
theorem dX1_term_202 : decode cX1_term 202 = .ok (.ireturn, 1) := dk_172 (dk_at dksX1_term_7 23 rfl rfl)
theorem dX1_term_203 : decode cX1_term 203 = .ok (.aload_n 0, 1) := dk_42 (dk_at dksX1_term_8 0 rfl rfl)
theorem dX1_term_204 : decode cX1_term 204 = .ok (.aload_n 0, 1) := dk_42 (dk_at dksX1_term_8 1 rfl rfl)
theorem dX1_term_205 : decode cX1_term 205 = .ok (.getfield 36, 3) := dk_180 0 36 (dk_at dksX1_term_8 2 rfl rfl)
theorem dX1_term_208 : decode cX1_term 208 = .ok (.getfield 241, 3) := dk_180 0 241 (dk_at dksX1_term_8 5 rfl rfl)
theorem dX1_term_211 : decode cX1_term 211 = .ok (.iload_n 1, 1) := dk_27 (dk_at dksX1_term_8 8 rfl rfl)
theorem dX1_term_212 : decode cX1_term 212 = .ok (.iaload, 1) := dk_46 (dk_at dksX1_term_8 9 rfl rfl)
theorem dX1_term_213 : decode cX1_term 213 = .ok (.iconst (-1), 1) := dk_2 (dk_at dksX1_term_8 10 rfl rfl)
theorem dX1_term_214 : decode cX1_term 214 = .ok (.if_icmp .ne 8, 3) := dk_160 0 8 (dk_at dksX1_term_8 11 rfl rfl)
theorem dX1_term_217 : decode cX1_term 217 = .ok (.bipush (-2), 2) := dk_16 254 (dk_at dksX1_term_8 14 rfl rfl)
theorem dX1_term_219 : decode cX1_term 219 = .ok (.goto 12, 3) := dk_167 0 12 (dk_at dksX1_term_8 16 rfl rfl)
theorem dX1_term_222 : decode cX1_term 222 = .ok (.aload_n 0, 1) := dk_42 (dk_at dksX1_term_8 19 rfl rfl)
theorem dX1_term_223 : decode cX1_term 223 = .ok (.getfield 36, 3) := dk_180 0 36 (dk_at dksX1_term_8 20 rfl rfl)
theorem dX1_term_226 : decode cX1_term 226 = .ok (.getfield 241, 3) := dk_180 0 241 (dk_at dksX1_term_9 0 rfl rfl)
theorem dX1_term_229 : decode cX1_term 229 = .ok (.iload_n 1, 1) := dk_27 (dk_at dksX1_term_9 3 rfl rfl)
theorem dX1_term_230 : decode cX1_term 230 = .ok (.iaload, 1) := dk_46 (dk_at dksX1_term_9 4 rfl rfl)
theorem dX1_term_231 : decode cX1_term 231 = .ok (.invokevirtual 176, 3) := dk_182 0 176 (dk_at dksX1_term_9 5 rfl rfl)
theorem dX1_term_234 : decode cX1_term 234 = .ok (.ireturn, 1) := dk_172 (dk_at dksX1_term_9 8 rfl rfl)
theorem dX1_term_235 : decode cX1_term 235 = .ok (.aload_n 0, 1) := dk_42 (dk_at dksX1_term_9 9 rfl rfl)
theorem dX1_term_236 : decode cX1_term 236 = .ok (.iconst 1, 1) := dk_4 (dk_at dksX1_term_9 10 rfl rfl)
theorem dX1_term_237 : decode cX1_term 237 = .ok (.invokevirtual 98, 3) := dk_182 0 98 (dk_at dksX1_term_9 11 rfl rfl)
theorem dX1_term_240 : decode cX1_term 240 = .ok (.ireturn, 1) := dk_172 (dk_at dksX1_term_9 14 rfl rfl)
abbrev cX1_isTerm : ByteArray := prog_1_method_13_code
def yX1_isTerm : MethodName := ⟨RX1, "isTerm", "([I)Z"⟩
def dkwX1_isTerm_1 : List UInt8 := [182, 0, 179, 4, 100, 184, 0, 94, 154, 0, 5, 3, 172, 132, 4, 1, 167, 255, 224, 4, 172]
abbrev dktX1_isTerm_1 : List UInt8 := dkwX1_isTerm_1 ++ []
def dkwX1_isTerm_0 : List UInt8 := [43, 77, 44, 190, 62, 3, 54, 4, 21, 4, 29, 162, 0, 32, 44, 21, 4, 46, 54, 5, 21, 5, 3, 42]
abbrev dktX1_isTerm_0 : List UInt8 := dkwX1_isTerm_0 ++ dktX1_isTerm_1
theorem dksX1_isTerm_0 : cX1_isTerm.data.toList.drop 0 = dktX1_isTerm_0 := by decide +kernel
theorem dksX1_isTerm_1 : cX1_isTerm.data.toList.drop 24 = dktX1_isTerm_1 := dk_seg dksX1_isTerm_0 24 rfl rfl
theorem dX1_isTerm_0 : decode cX1_isTerm 0 = .ok (.aload_n 1, 1) := dk_43 (dk_at dksX1_isTerm_0 0 rfl rfl)
theorem dX1_isTerm_1 : decode cX1_isTerm 1 = .ok (.astore_n 2, 1) := dk_77 (dk_at dksX1_isTerm_0 1 rfl rfl)
theorem dX1_isTerm_2 : decode cX1_isTerm 2 = .ok (.aload_n 2, 1) := dk_44 (dk_at dksX1_isTerm_0 2 rfl rfl)
theorem dX1_isTerm_3 : decode cX1_isTerm 3 = .ok (.arraylength, 1) := dk_190 (dk_at dksX1_isTerm_0 3 rfl rfl)
theorem dX1_isTerm_4 : decode cX1_isTerm 4 = .ok (.istore_n 3, 1) := dk_62 (dk_at dksX1_isTerm_0 4 rfl rfl)
theorem dX1_isTerm_5 : decode cX1_isTerm 5 = .ok (.iconst 0, 1) := dk_3 (dk_at dksX1_isTerm_0 5 rfl rfl)
theorem dX1_isTerm_6 : decode cX1_isTerm 6 = .ok (.istore 4, 2) := dk_54 4 (dk_at dksX1_isTerm_0 6 rfl rfl)
theorem dX1_isTerm_8 : decode cX1_isTerm 8 = .ok (.iload 4, 2) := dk_21 4 (dk_at dksX1_isTerm_0 8 rfl rfl)
theorem dX1_isTerm_10 : decode cX1_isTerm 10 = .ok (.iload_n 3, 1) := dk_29 (dk_at dksX1_isTerm_0 10 rfl rfl)
theorem dX1_isTerm_11 : decode cX1_isTerm 11 = .ok (.if_icmp .ge 32, 3) := dk_162 0 32 (dk_at dksX1_isTerm_0 11 rfl rfl)
theorem dX1_isTerm_14 : decode cX1_isTerm 14 = .ok (.aload_n 2, 1) := dk_44 (dk_at dksX1_isTerm_0 14 rfl rfl)
theorem dX1_isTerm_15 : decode cX1_isTerm 15 = .ok (.iload 4, 2) := dk_21 4 (dk_at dksX1_isTerm_0 15 rfl rfl)
theorem dX1_isTerm_17 : decode cX1_isTerm 17 = .ok (.iaload, 1) := dk_46 (dk_at dksX1_isTerm_0 17 rfl rfl)
theorem dX1_isTerm_18 : decode cX1_isTerm 18 = .ok (.istore 5, 2) := dk_54 5 (dk_at dksX1_isTerm_0 18 rfl rfl)
theorem dX1_isTerm_20 : decode cX1_isTerm 20 = .ok (.iload 5, 2) := dk_21 5 (dk_at dksX1_isTerm_0 20 rfl rfl)
theorem dX1_isTerm_22 : decode cX1_isTerm 22 = .ok (.iconst 0, 1) := dk_3 (dk_at dksX1_isTerm_0 22 rfl rfl)
theorem dX1_isTerm_23 : decode cX1_isTerm 23 = .ok (.aload_n 0, 1) := dk_42 (dk_at dksX1_isTerm_0 23 rfl rfl)
theorem dX1_isTerm_24 : decode cX1_isTerm 24 = .ok (.invokevirtual 179, 3) := dk_182 0 179 (dk_at dksX1_isTerm_1 0 rfl rfl)
theorem dX1_isTerm_27 : decode cX1_isTerm 27 = .ok (.iconst 1, 1) := dk_4 (dk_at dksX1_isTerm_1 3 rfl rfl)
theorem dX1_isTerm_28 : decode cX1_isTerm 28 = .ok (.isub, 1) := dk_100 (dk_at dksX1_isTerm_1 4 rfl rfl)
theorem dX1_isTerm_29 : decode cX1_isTerm 29 = .ok (.invokestatic 94, 3) := dk_184 0 94 (dk_at dksX1_isTerm_1 5 rfl rfl)
theorem dX1_isTerm_32 : decode cX1_isTerm 32 = .ok (.ifCond .ne 5, 3) := dk_154 0 5 (dk_at dksX1_isTerm_1 8 rfl rfl)
theorem dX1_isTerm_35 : decode cX1_isTerm 35 = .ok (.iconst 0, 1) := dk_3 (dk_at dksX1_isTerm_1 11 rfl rfl)
theorem dX1_isTerm_36 : decode cX1_isTerm 36 = .ok (.ireturn, 1) := dk_172 (dk_at dksX1_isTerm_1 12 rfl rfl)
theorem dX1_isTerm_37 : decode cX1_isTerm 37 = .ok (.iinc 4 1, 3) := dk_132 4 1 (dk_at dksX1_isTerm_1 13 rfl rfl)
theorem dX1_isTerm_40 : decode cX1_isTerm 40 = .ok (.goto (-32), 3) := dk_167 255 224 (dk_at dksX1_isTerm_1 16 rfl rfl)
theorem dX1_isTerm_43 : decode cX1_isTerm 43 = .ok (.iconst 1, 1) := dk_4 (dk_at dksX1_isTerm_1 19 rfl rfl)
theorem dX1_isTerm_44 : decode cX1_isTerm 44 = .ok (.ireturn, 1) := dk_172 (dk_at dksX1_isTerm_1 20 rfl rfl)
abbrev cX1_uses : ByteArray := prog_1_method_20_code
def yX1_uses : MethodName := ⟨RX1, "uses", "(II)Z"⟩
def dkwX1_uses_2 : List UInt8 := [21, 6, 46, 28, 160, 0, 5, 4, 172, 132, 5, 1, 167, 255, 224, 3, 172]
abbrev dktX1_uses_2 : List UInt8 := dkwX1_uses_2 ++ []
def dkwX1_uses_1 : List UInt8 := [3, 54, 5, 21, 5, 21, 4, 162, 0, 31, 45, 21, 5, 46, 54, 6, 42, 180, 0, 36, 180, 0, 213]
abbrev dktX1_uses_1 : List UInt8 := dkwX1_uses_1 ++ dktX1_uses_2
def dkwX1_uses_0 : List UInt8 := [42, 180, 0, 23, 180, 0, 29, 27, 185, 0, 153, 2, 0, 192, 0, 208, 180, 0, 218, 78, 45, 190, 54, 4]
abbrev dktX1_uses_0 : List UInt8 := dkwX1_uses_0 ++ dktX1_uses_1
theorem dksX1_uses_0 : cX1_uses.data.toList.drop 0 = dktX1_uses_0 := by decide +kernel
theorem dksX1_uses_1 : cX1_uses.data.toList.drop 24 = dktX1_uses_1 := dk_seg dksX1_uses_0 24 rfl rfl
theorem dksX1_uses_2 : cX1_uses.data.toList.drop 47 = dktX1_uses_2 := dk_seg dksX1_uses_1 23 rfl rfl
theorem dX1_uses_0 : decode cX1_uses 0 = .ok (.aload_n 0, 1) := dk_42 (dk_at dksX1_uses_0 0 rfl rfl)
theorem dX1_uses_1 : decode cX1_uses 1 = .ok (.getfield 23, 3) := dk_180 0 23 (dk_at dksX1_uses_0 1 rfl rfl)
theorem dX1_uses_4 : decode cX1_uses 4 = .ok (.getfield 29, 3) := dk_180 0 29 (dk_at dksX1_uses_0 4 rfl rfl)
theorem dX1_uses_7 : decode cX1_uses 7 = .ok (.iload_n 1, 1) := dk_27 (dk_at dksX1_uses_0 7 rfl rfl)
theorem dX1_uses_8 : decode cX1_uses 8 = .ok (.invokeinterface 153 2, 5) := by decide +kernel
theorem dX1_uses_13 : decode cX1_uses 13 = .ok (.checkcast 208, 3) := dk_192 0 208 (dk_at dksX1_uses_0 13 rfl rfl)
theorem dX1_uses_16 : decode cX1_uses 16 = .ok (.getfield 218, 3) := dk_180 0 218 (dk_at dksX1_uses_0 16 rfl rfl)
theorem dX1_uses_19 : decode cX1_uses 19 = .ok (.astore_n 3, 1) := dk_78 (dk_at dksX1_uses_0 19 rfl rfl)
theorem dX1_uses_20 : decode cX1_uses 20 = .ok (.aload_n 3, 1) := dk_45 (dk_at dksX1_uses_0 20 rfl rfl)
theorem dX1_uses_21 : decode cX1_uses 21 = .ok (.arraylength, 1) := dk_190 (dk_at dksX1_uses_0 21 rfl rfl)
theorem dX1_uses_22 : decode cX1_uses 22 = .ok (.istore 4, 2) := dk_54 4 (dk_at dksX1_uses_0 22 rfl rfl)
theorem dX1_uses_24 : decode cX1_uses 24 = .ok (.iconst 0, 1) := dk_3 (dk_at dksX1_uses_1 0 rfl rfl)
theorem dX1_uses_25 : decode cX1_uses 25 = .ok (.istore 5, 2) := dk_54 5 (dk_at dksX1_uses_1 1 rfl rfl)
theorem dX1_uses_27 : decode cX1_uses 27 = .ok (.iload 5, 2) := dk_21 5 (dk_at dksX1_uses_1 3 rfl rfl)
theorem dX1_uses_29 : decode cX1_uses 29 = .ok (.iload 4, 2) := dk_21 4 (dk_at dksX1_uses_1 5 rfl rfl)
theorem dX1_uses_31 : decode cX1_uses 31 = .ok (.if_icmp .ge 31, 3) := dk_162 0 31 (dk_at dksX1_uses_1 7 rfl rfl)
theorem dX1_uses_34 : decode cX1_uses 34 = .ok (.aload_n 3, 1) := dk_45 (dk_at dksX1_uses_1 10 rfl rfl)
theorem dX1_uses_35 : decode cX1_uses 35 = .ok (.iload 5, 2) := dk_21 5 (dk_at dksX1_uses_1 11 rfl rfl)
theorem dX1_uses_37 : decode cX1_uses 37 = .ok (.iaload, 1) := dk_46 (dk_at dksX1_uses_1 13 rfl rfl)
theorem dX1_uses_38 : decode cX1_uses 38 = .ok (.istore 6, 2) := dk_54 6 (dk_at dksX1_uses_1 14 rfl rfl)
theorem dX1_uses_40 : decode cX1_uses 40 = .ok (.aload_n 0, 1) := dk_42 (dk_at dksX1_uses_1 16 rfl rfl)
theorem dX1_uses_41 : decode cX1_uses 41 = .ok (.getfield 36, 3) := dk_180 0 36 (dk_at dksX1_uses_1 17 rfl rfl)
theorem dX1_uses_44 : decode cX1_uses 44 = .ok (.getfield 213, 3) := dk_180 0 213 (dk_at dksX1_uses_1 20 rfl rfl)
theorem dX1_uses_47 : decode cX1_uses 47 = .ok (.iload 6, 2) := dk_21 6 (dk_at dksX1_uses_2 0 rfl rfl)
theorem dX1_uses_49 : decode cX1_uses 49 = .ok (.iaload, 1) := dk_46 (dk_at dksX1_uses_2 2 rfl rfl)
theorem dX1_uses_50 : decode cX1_uses 50 = .ok (.iload_n 2, 1) := dk_28 (dk_at dksX1_uses_2 3 rfl rfl)
theorem dX1_uses_51 : decode cX1_uses 51 = .ok (.if_icmp .ne 5, 3) := dk_160 0 5 (dk_at dksX1_uses_2 4 rfl rfl)
theorem dX1_uses_54 : decode cX1_uses 54 = .ok (.iconst 1, 1) := dk_4 (dk_at dksX1_uses_2 7 rfl rfl)
theorem dX1_uses_55 : decode cX1_uses 55 = .ok (.ireturn, 1) := dk_172 (dk_at dksX1_uses_2 8 rfl rfl)
theorem dX1_uses_56 : decode cX1_uses 56 = .ok (.iinc 5 1, 3) := dk_132 5 1 (dk_at dksX1_uses_2 9 rfl rfl)
theorem dX1_uses_59 : decode cX1_uses 59 = .ok (.goto (-32), 3) := dk_167 255 224 (dk_at dksX1_uses_2 12 rfl rfl)
theorem dX1_uses_62 : decode cX1_uses 62 = .ok (.iconst 0, 1) := dk_3 (dk_at dksX1_uses_2 15 rfl rfl)
theorem dX1_uses_63 : decode cX1_uses 63 = .ok (.ireturn, 1) := dk_172 (dk_at dksX1_uses_2 16 rfl rfl)
abbrev cX1_deep : ByteArray := prog_1_method_19_code
def yX1_deep : MethodName := ⟨RX1, "deep", "(I)I"⟩
def dkwX1_deep_1 : List UInt8 := [42, 180, 0, 60, 27, 46, 172]
abbrev dktX1_deep_1 : List UInt8 := dkwX1_deep_1 ++ []
def dkwX1_deep_0 : List UInt8 := [3, 61, 28, 27, 163, 0, 20, 42, 180, 0, 60, 28, 42, 28, 182, 0, 227, 79, 132, 2, 1, 167, 255, 237]
abbrev dktX1_deep_0 : List UInt8 := dkwX1_deep_0 ++ dktX1_deep_1
theorem dksX1_deep_0 : cX1_deep.data.toList.drop 0 = dktX1_deep_0 := by decide +kernel
theorem dksX1_deep_1 : cX1_deep.data.toList.drop 24 = dktX1_deep_1 := dk_seg dksX1_deep_0 24 rfl rfl
theorem dX1_deep_0 : decode cX1_deep 0 = .ok (.iconst 0, 1) := dk_3 (dk_at dksX1_deep_0 0 rfl rfl)
theorem dX1_deep_1 : decode cX1_deep 1 = .ok (.istore_n 2, 1) := dk_61 (dk_at dksX1_deep_0 1 rfl rfl)
theorem dX1_deep_2 : decode cX1_deep 2 = .ok (.iload_n 2, 1) := dk_28 (dk_at dksX1_deep_0 2 rfl rfl)
theorem dX1_deep_3 : decode cX1_deep 3 = .ok (.iload_n 1, 1) := dk_27 (dk_at dksX1_deep_0 3 rfl rfl)
theorem dX1_deep_4 : decode cX1_deep 4 = .ok (.if_icmp .gt 20, 3) := dk_163 0 20 (dk_at dksX1_deep_0 4 rfl rfl)
theorem dX1_deep_7 : decode cX1_deep 7 = .ok (.aload_n 0, 1) := dk_42 (dk_at dksX1_deep_0 7 rfl rfl)
theorem dX1_deep_8 : decode cX1_deep 8 = .ok (.getfield 60, 3) := dk_180 0 60 (dk_at dksX1_deep_0 8 rfl rfl)
theorem dX1_deep_11 : decode cX1_deep 11 = .ok (.iload_n 2, 1) := dk_28 (dk_at dksX1_deep_0 11 rfl rfl)
theorem dX1_deep_12 : decode cX1_deep 12 = .ok (.aload_n 0, 1) := dk_42 (dk_at dksX1_deep_0 12 rfl rfl)
theorem dX1_deep_13 : decode cX1_deep 13 = .ok (.iload_n 2, 1) := dk_28 (dk_at dksX1_deep_0 13 rfl rfl)
theorem dX1_deep_14 : decode cX1_deep 14 = .ok (.invokevirtual 227, 3) := dk_182 0 227 (dk_at dksX1_deep_0 14 rfl rfl)
theorem dX1_deep_17 : decode cX1_deep 17 = .ok (.iastore, 1) := dk_79 (dk_at dksX1_deep_0 17 rfl rfl)
theorem dX1_deep_18 : decode cX1_deep 18 = .ok (.iinc 2 1, 3) := dk_132 2 1 (dk_at dksX1_deep_0 18 rfl rfl)
theorem dX1_deep_21 : decode cX1_deep 21 = .ok (.goto (-19), 3) := dk_167 255 237 (dk_at dksX1_deep_0 21 rfl rfl)
theorem dX1_deep_24 : decode cX1_deep 24 = .ok (.aload_n 0, 1) := dk_42 (dk_at dksX1_deep_1 0 rfl rfl)
theorem dX1_deep_25 : decode cX1_deep 25 = .ok (.getfield 60, 3) := dk_180 0 60 (dk_at dksX1_deep_1 1 rfl rfl)
theorem dX1_deep_28 : decode cX1_deep 28 = .ok (.iload_n 1, 1) := dk_27 (dk_at dksX1_deep_1 4 rfl rfl)
theorem dX1_deep_29 : decode cX1_deep 29 = .ok (.iaload, 1) := dk_46 (dk_at dksX1_deep_1 5 rfl rfl)
theorem dX1_deep_30 : decode cX1_deep 30 = .ok (.ireturn, 1) := dk_172 (dk_at dksX1_deep_1 6 rfl rfl)
abbrev cX1_depth : ByteArray := prog_1_method_18_code
def yX1_depth : MethodName := ⟨RX1, "depth", "(I)I"⟩
def dkwX1_depth_2 : List UInt8 := [21, 6, 46, 96, 184, 0, 221, 61, 132, 5, 1, 167, 255, 226, 28, 172]
abbrev dktX1_depth_2 : List UInt8 := dkwX1_depth_2 ++ []
def dkwX1_depth_1 : List UInt8 := [54, 4, 3, 54, 5, 21, 5, 21, 4, 162, 0, 29, 45, 21, 5, 46, 54, 6, 28, 4, 42, 180, 0, 60]
abbrev dktX1_depth_1 : List UInt8 := dkwX1_depth_1 ++ dktX1_depth_2
def dkwX1_depth_0 : List UInt8 := [3, 61, 42, 180, 0, 23, 180, 0, 29, 27, 185, 0, 153, 2, 0, 192, 0, 208, 180, 0, 218, 78, 45, 190]
abbrev dktX1_depth_0 : List UInt8 := dkwX1_depth_0 ++ dktX1_depth_1
theorem dksX1_depth_0 : cX1_depth.data.toList.drop 0 = dktX1_depth_0 := by decide +kernel
theorem dksX1_depth_1 : cX1_depth.data.toList.drop 24 = dktX1_depth_1 := dk_seg dksX1_depth_0 24 rfl rfl
theorem dksX1_depth_2 : cX1_depth.data.toList.drop 48 = dktX1_depth_2 := dk_seg dksX1_depth_1 24 rfl rfl
theorem dX1_depth_0 : decode cX1_depth 0 = .ok (.iconst 0, 1) := dk_3 (dk_at dksX1_depth_0 0 rfl rfl)
theorem dX1_depth_1 : decode cX1_depth 1 = .ok (.istore_n 2, 1) := dk_61 (dk_at dksX1_depth_0 1 rfl rfl)
theorem dX1_depth_2 : decode cX1_depth 2 = .ok (.aload_n 0, 1) := dk_42 (dk_at dksX1_depth_0 2 rfl rfl)
theorem dX1_depth_3 : decode cX1_depth 3 = .ok (.getfield 23, 3) := dk_180 0 23 (dk_at dksX1_depth_0 3 rfl rfl)
theorem dX1_depth_6 : decode cX1_depth 6 = .ok (.getfield 29, 3) := dk_180 0 29 (dk_at dksX1_depth_0 6 rfl rfl)
theorem dX1_depth_9 : decode cX1_depth 9 = .ok (.iload_n 1, 1) := dk_27 (dk_at dksX1_depth_0 9 rfl rfl)
theorem dX1_depth_10 : decode cX1_depth 10 = .ok (.invokeinterface 153 2, 5) := by decide +kernel
theorem dX1_depth_15 : decode cX1_depth 15 = .ok (.checkcast 208, 3) := dk_192 0 208 (dk_at dksX1_depth_0 15 rfl rfl)
theorem dX1_depth_18 : decode cX1_depth 18 = .ok (.getfield 218, 3) := dk_180 0 218 (dk_at dksX1_depth_0 18 rfl rfl)
theorem dX1_depth_21 : decode cX1_depth 21 = .ok (.astore_n 3, 1) := dk_78 (dk_at dksX1_depth_0 21 rfl rfl)
theorem dX1_depth_22 : decode cX1_depth 22 = .ok (.aload_n 3, 1) := dk_45 (dk_at dksX1_depth_0 22 rfl rfl)
theorem dX1_depth_23 : decode cX1_depth 23 = .ok (.arraylength, 1) := dk_190 (dk_at dksX1_depth_0 23 rfl rfl)
theorem dX1_depth_24 : decode cX1_depth 24 = .ok (.istore 4, 2) := dk_54 4 (dk_at dksX1_depth_1 0 rfl rfl)
theorem dX1_depth_26 : decode cX1_depth 26 = .ok (.iconst 0, 1) := dk_3 (dk_at dksX1_depth_1 2 rfl rfl)
theorem dX1_depth_27 : decode cX1_depth 27 = .ok (.istore 5, 2) := dk_54 5 (dk_at dksX1_depth_1 3 rfl rfl)
theorem dX1_depth_29 : decode cX1_depth 29 = .ok (.iload 5, 2) := dk_21 5 (dk_at dksX1_depth_1 5 rfl rfl)
theorem dX1_depth_31 : decode cX1_depth 31 = .ok (.iload 4, 2) := dk_21 4 (dk_at dksX1_depth_1 7 rfl rfl)
theorem dX1_depth_33 : decode cX1_depth 33 = .ok (.if_icmp .ge 29, 3) := dk_162 0 29 (dk_at dksX1_depth_1 9 rfl rfl)
theorem dX1_depth_36 : decode cX1_depth 36 = .ok (.aload_n 3, 1) := dk_45 (dk_at dksX1_depth_1 12 rfl rfl)
theorem dX1_depth_37 : decode cX1_depth 37 = .ok (.iload 5, 2) := dk_21 5 (dk_at dksX1_depth_1 13 rfl rfl)
theorem dX1_depth_39 : decode cX1_depth 39 = .ok (.iaload, 1) := dk_46 (dk_at dksX1_depth_1 15 rfl rfl)
theorem dX1_depth_40 : decode cX1_depth 40 = .ok (.istore 6, 2) := dk_54 6 (dk_at dksX1_depth_1 16 rfl rfl)
theorem dX1_depth_42 : decode cX1_depth 42 = .ok (.iload_n 2, 1) := dk_28 (dk_at dksX1_depth_1 18 rfl rfl)
theorem dX1_depth_43 : decode cX1_depth 43 = .ok (.iconst 1, 1) := dk_4 (dk_at dksX1_depth_1 19 rfl rfl)
theorem dX1_depth_44 : decode cX1_depth 44 = .ok (.aload_n 0, 1) := dk_42 (dk_at dksX1_depth_1 20 rfl rfl)
theorem dX1_depth_45 : decode cX1_depth 45 = .ok (.getfield 60, 3) := dk_180 0 60 (dk_at dksX1_depth_1 21 rfl rfl)
theorem dX1_depth_48 : decode cX1_depth 48 = .ok (.iload 6, 2) := dk_21 6 (dk_at dksX1_depth_2 0 rfl rfl)
theorem dX1_depth_50 : decode cX1_depth 50 = .ok (.iaload, 1) := dk_46 (dk_at dksX1_depth_2 2 rfl rfl)
theorem dX1_depth_51 : decode cX1_depth 51 = .ok (.iadd, 1) := dk_96 (dk_at dksX1_depth_2 3 rfl rfl)
theorem dX1_depth_52 : decode cX1_depth 52 = .ok (.invokestatic 221, 3) := dk_184 0 221 (dk_at dksX1_depth_2 4 rfl rfl)
theorem dX1_depth_55 : decode cX1_depth 55 = .ok (.istore_n 2, 1) := dk_61 (dk_at dksX1_depth_2 7 rfl rfl)
theorem dX1_depth_56 : decode cX1_depth 56 = .ok (.iinc 5 1, 3) := dk_132 5 1 (dk_at dksX1_depth_2 8 rfl rfl)
theorem dX1_depth_59 : decode cX1_depth 59 = .ok (.goto (-30), 3) := dk_167 255 226 (dk_at dksX1_depth_2 11 rfl rfl)
theorem dX1_depth_62 : decode cX1_depth 62 = .ok (.iload_n 2, 1) := dk_28 (dk_at dksX1_depth_2 14 rfl rfl)
theorem dX1_depth_63 : decode cX1_depth 63 = .ok (.ireturn, 1) := dk_172 (dk_at dksX1_depth_2 15 rfl rfl)
abbrev cX1_partOf : ByteArray := prog_1_method_22_code
def yX1_partOf : MethodName := ⟨RX1, "partOf", "(II)I"⟩
def dkwX1_partOf_2 : List UInt8 := [162, 0, 9, 45, 28, 46, 167, 0, 5, 16, 254, 182, 0, 176, 172]
abbrev dktX1_partOf_2 : List UInt8 := dkwX1_partOf_2 ++ []
def dkwX1_partOf_1 : List UInt8 := [42, 180, 0, 23, 180, 0, 29, 27, 185, 0, 153, 2, 0, 192, 0, 208, 180, 0, 218, 78, 42, 28, 45, 190]
abbrev dktX1_partOf_1 : List UInt8 := dkwX1_partOf_1 ++ dktX1_partOf_2
def dkwX1_partOf_0 : List UInt8 := [42, 4, 188, 10, 89, 3, 27, 79, 182, 0, 230, 153, 0, 7, 28, 156, 0, 9, 42, 4, 182, 0, 98, 172]
abbrev dktX1_partOf_0 : List UInt8 := dkwX1_partOf_0 ++ dktX1_partOf_1
theorem dksX1_partOf_0 : cX1_partOf.data.toList.drop 0 = dktX1_partOf_0 := by decide +kernel
theorem dksX1_partOf_1 : cX1_partOf.data.toList.drop 24 = dktX1_partOf_1 := dk_seg dksX1_partOf_0 24 rfl rfl
theorem dksX1_partOf_2 : cX1_partOf.data.toList.drop 48 = dktX1_partOf_2 := dk_seg dksX1_partOf_1 24 rfl rfl
theorem dX1_partOf_0 : decode cX1_partOf 0 = .ok (.aload_n 0, 1) := dk_42 (dk_at dksX1_partOf_0 0 rfl rfl)
theorem dX1_partOf_1 : decode cX1_partOf 1 = .ok (.iconst 1, 1) := dk_4 (dk_at dksX1_partOf_0 1 rfl rfl)
theorem dX1_partOf_2 : decode cX1_partOf 2 = .ok (.newarray .int, 2) := dk_188_10 (dk_at dksX1_partOf_0 2 rfl rfl)
theorem dX1_partOf_4 : decode cX1_partOf 4 = .ok (.dup, 1) := dk_89 (dk_at dksX1_partOf_0 4 rfl rfl)
theorem dX1_partOf_5 : decode cX1_partOf 5 = .ok (.iconst 0, 1) := dk_3 (dk_at dksX1_partOf_0 5 rfl rfl)
theorem dX1_partOf_6 : decode cX1_partOf 6 = .ok (.iload_n 1, 1) := dk_27 (dk_at dksX1_partOf_0 6 rfl rfl)
theorem dX1_partOf_7 : decode cX1_partOf 7 = .ok (.iastore, 1) := dk_79 (dk_at dksX1_partOf_0 7 rfl rfl)
theorem dX1_partOf_8 : decode cX1_partOf 8 = .ok (.invokevirtual 230, 3) := dk_182 0 230 (dk_at dksX1_partOf_0 8 rfl rfl)
theorem dX1_partOf_11 : decode cX1_partOf 11 = .ok (.ifCond .eq 7, 3) := dk_153 0 7 (dk_at dksX1_partOf_0 11 rfl rfl)
theorem dX1_partOf_14 : decode cX1_partOf 14 = .ok (.iload_n 2, 1) := dk_28 (dk_at dksX1_partOf_0 14 rfl rfl)
theorem dX1_partOf_15 : decode cX1_partOf 15 = .ok (.ifCond .ge 9, 3) := dk_156 0 9 (dk_at dksX1_partOf_0 15 rfl rfl)
theorem dX1_partOf_18 : decode cX1_partOf 18 = .ok (.aload_n 0, 1) := dk_42 (dk_at dksX1_partOf_0 18 rfl rfl)
theorem dX1_partOf_19 : decode cX1_partOf 19 = .ok (.iconst 1, 1) := dk_4 (dk_at dksX1_partOf_0 19 rfl rfl)
theorem dX1_partOf_20 : decode cX1_partOf 20 = .ok (.invokevirtual 98, 3) := dk_182 0 98 (dk_at dksX1_partOf_0 20 rfl rfl)
theorem dX1_partOf_23 : decode cX1_partOf 23 = .ok (.ireturn, 1) := dk_172 (dk_at dksX1_partOf_0 23 rfl rfl)
theorem dX1_partOf_24 : decode cX1_partOf 24 = .ok (.aload_n 0, 1) := dk_42 (dk_at dksX1_partOf_1 0 rfl rfl)
theorem dX1_partOf_25 : decode cX1_partOf 25 = .ok (.getfield 23, 3) := dk_180 0 23 (dk_at dksX1_partOf_1 1 rfl rfl)
theorem dX1_partOf_28 : decode cX1_partOf 28 = .ok (.getfield 29, 3) := dk_180 0 29 (dk_at dksX1_partOf_1 4 rfl rfl)
theorem dX1_partOf_31 : decode cX1_partOf 31 = .ok (.iload_n 1, 1) := dk_27 (dk_at dksX1_partOf_1 7 rfl rfl)
theorem dX1_partOf_32 : decode cX1_partOf 32 = .ok (.invokeinterface 153 2, 5) := by decide +kernel
theorem dX1_partOf_37 : decode cX1_partOf 37 = .ok (.checkcast 208, 3) := dk_192 0 208 (dk_at dksX1_partOf_1 13 rfl rfl)
theorem dX1_partOf_40 : decode cX1_partOf 40 = .ok (.getfield 218, 3) := dk_180 0 218 (dk_at dksX1_partOf_1 16 rfl rfl)
theorem dX1_partOf_43 : decode cX1_partOf 43 = .ok (.astore_n 3, 1) := dk_78 (dk_at dksX1_partOf_1 19 rfl rfl)
theorem dX1_partOf_44 : decode cX1_partOf 44 = .ok (.aload_n 0, 1) := dk_42 (dk_at dksX1_partOf_1 20 rfl rfl)
theorem dX1_partOf_45 : decode cX1_partOf 45 = .ok (.iload_n 2, 1) := dk_28 (dk_at dksX1_partOf_1 21 rfl rfl)
theorem dX1_partOf_46 : decode cX1_partOf 46 = .ok (.aload_n 3, 1) := dk_45 (dk_at dksX1_partOf_1 22 rfl rfl)
theorem dX1_partOf_47 : decode cX1_partOf 47 = .ok (.arraylength, 1) := dk_190 (dk_at dksX1_partOf_1 23 rfl rfl)
theorem dX1_partOf_48 : decode cX1_partOf 48 = .ok (.if_icmp .ge 9, 3) := dk_162 0 9 (dk_at dksX1_partOf_2 0 rfl rfl)
theorem dX1_partOf_51 : decode cX1_partOf 51 = .ok (.aload_n 3, 1) := dk_45 (dk_at dksX1_partOf_2 3 rfl rfl)
theorem dX1_partOf_52 : decode cX1_partOf 52 = .ok (.iload_n 2, 1) := dk_28 (dk_at dksX1_partOf_2 4 rfl rfl)
theorem dX1_partOf_53 : decode cX1_partOf 53 = .ok (.iaload, 1) := dk_46 (dk_at dksX1_partOf_2 5 rfl rfl)
theorem dX1_partOf_54 : decode cX1_partOf 54 = .ok (.goto 5, 3) := dk_167 0 5 (dk_at dksX1_partOf_2 6 rfl rfl)
theorem dX1_partOf_57 : decode cX1_partOf 57 = .ok (.bipush (-2), 2) := dk_16 254 (dk_at dksX1_partOf_2 9 rfl rfl)
theorem dX1_partOf_59 : decode cX1_partOf 59 = .ok (.invokevirtual 176, 3) := dk_182 0 176 (dk_at dksX1_partOf_2 11 rfl rfl)
theorem dX1_partOf_62 : decode cX1_partOf 62 = .ok (.ireturn, 1) := dk_172 (dk_at dksX1_partOf_2 14 rfl rfl)
abbrev cX1_sameOf : ByteArray := prog_1_method_25_code
def yX1_sameOf : MethodName := ⟨RX1, "sameOf", "(II)I"⟩
def dkwX1_sameOf_5 : List UInt8 := [167, 0, 4, 3, 182, 0, 176, 172, 42, 4, 182, 0, 98, 172]
abbrev dktX1_sameOf_5 : List UInt8 := dkwX1_sameOf_5 ++ []
def dkwX1_sameOf_4 : List UInt8 := [4, 27, 120, 2, 130, 126, 182, 0, 255, 45, 180, 0, 159, 45, 180, 0, 162, 182, 1, 3, 153, 0, 7, 4]
abbrev dktX1_sameOf_4 : List UInt8 := dkwX1_sameOf_4 ++ dktX1_sameOf_5
def dkwX1_sameOf_3 : List UInt8 := [42, 45, 180, 0, 159, 182, 0, 176, 172, 42, 45, 180, 0, 162, 182, 0, 176, 172, 42, 42, 42, 182, 0, 252]
abbrev dktX1_sameOf_3 : List UInt8 := dkwX1_sameOf_3 ++ dktX1_sameOf_4
def dkwX1_sameOf_2 : List UInt8 := [170, 0, 0, 0, 0, 82, 0, 0, 0, 0, 0, 0, 0, 2, 0, 0, 0, 26, 0, 0, 0, 35, 0, 0, 0, 44]
abbrev dktX1_sameOf_2 : List UInt8 := dkwX1_sameOf_2 ++ dktX1_sameOf_3
def dkwX1_sameOf_1 : List UInt8 := [180, 0, 150, 27, 185, 0, 153, 2, 0, 192, 0, 157, 78, 28]
abbrev dktX1_sameOf_1 : List UInt8 := dkwX1_sameOf_1 ++ dktX1_sameOf_2
def dkwX1_sameOf_0 : List UInt8 := [27, 3, 42, 182, 0, 191, 4, 100, 184, 0, 94, 154, 0, 9, 42, 4, 182, 0, 98, 172, 42, 180, 0, 23]
abbrev dktX1_sameOf_0 : List UInt8 := dkwX1_sameOf_0 ++ dktX1_sameOf_1
theorem dksX1_sameOf_0 : cX1_sameOf.data.toList.drop 0 = dktX1_sameOf_0 := by decide +kernel
theorem dksX1_sameOf_1 : cX1_sameOf.data.toList.drop 24 = dktX1_sameOf_1 := dk_seg dksX1_sameOf_0 24 rfl rfl
theorem dksX1_sameOf_2 : cX1_sameOf.data.toList.drop 38 = dktX1_sameOf_2 := dk_seg dksX1_sameOf_1 14 rfl rfl
theorem dksX1_sameOf_3 : cX1_sameOf.data.toList.drop 64 = dktX1_sameOf_3 := dk_seg dksX1_sameOf_2 26 rfl rfl
theorem dksX1_sameOf_4 : cX1_sameOf.data.toList.drop 88 = dktX1_sameOf_4 := dk_seg dksX1_sameOf_3 24 rfl rfl
theorem dksX1_sameOf_5 : cX1_sameOf.data.toList.drop 112 = dktX1_sameOf_5 := dk_seg dksX1_sameOf_4 24 rfl rfl
theorem dX1_sameOf_0 : decode cX1_sameOf 0 = .ok (.iload_n 1, 1) := dk_27 (dk_at dksX1_sameOf_0 0 rfl rfl)
theorem dX1_sameOf_1 : decode cX1_sameOf 1 = .ok (.iconst 0, 1) := dk_3 (dk_at dksX1_sameOf_0 1 rfl rfl)
theorem dX1_sameOf_2 : decode cX1_sameOf 2 = .ok (.aload_n 0, 1) := dk_42 (dk_at dksX1_sameOf_0 2 rfl rfl)
theorem dX1_sameOf_3 : decode cX1_sameOf 3 = .ok (.invokevirtual 191, 3) := dk_182 0 191 (dk_at dksX1_sameOf_0 3 rfl rfl)
theorem dX1_sameOf_6 : decode cX1_sameOf 6 = .ok (.iconst 1, 1) := dk_4 (dk_at dksX1_sameOf_0 6 rfl rfl)
theorem dX1_sameOf_7 : decode cX1_sameOf 7 = .ok (.isub, 1) := dk_100 (dk_at dksX1_sameOf_0 7 rfl rfl)
theorem dX1_sameOf_8 : decode cX1_sameOf 8 = .ok (.invokestatic 94, 3) := dk_184 0 94 (dk_at dksX1_sameOf_0 8 rfl rfl)
theorem dX1_sameOf_11 : decode cX1_sameOf 11 = .ok (.ifCond .ne 9, 3) := dk_154 0 9 (dk_at dksX1_sameOf_0 11 rfl rfl)
theorem dX1_sameOf_14 : decode cX1_sameOf 14 = .ok (.aload_n 0, 1) := dk_42 (dk_at dksX1_sameOf_0 14 rfl rfl)
theorem dX1_sameOf_15 : decode cX1_sameOf 15 = .ok (.iconst 1, 1) := dk_4 (dk_at dksX1_sameOf_0 15 rfl rfl)
theorem dX1_sameOf_16 : decode cX1_sameOf 16 = .ok (.invokevirtual 98, 3) := dk_182 0 98 (dk_at dksX1_sameOf_0 16 rfl rfl)
theorem dX1_sameOf_19 : decode cX1_sameOf 19 = .ok (.ireturn, 1) := dk_172 (dk_at dksX1_sameOf_0 19 rfl rfl)
theorem dX1_sameOf_20 : decode cX1_sameOf 20 = .ok (.aload_n 0, 1) := dk_42 (dk_at dksX1_sameOf_0 20 rfl rfl)
theorem dX1_sameOf_21 : decode cX1_sameOf 21 = .ok (.getfield 23, 3) := dk_180 0 23 (dk_at dksX1_sameOf_0 21 rfl rfl)
theorem dX1_sameOf_24 : decode cX1_sameOf 24 = .ok (.getfield 150, 3) := dk_180 0 150 (dk_at dksX1_sameOf_1 0 rfl rfl)
theorem dX1_sameOf_27 : decode cX1_sameOf 27 = .ok (.iload_n 1, 1) := dk_27 (dk_at dksX1_sameOf_1 3 rfl rfl)
theorem dX1_sameOf_28 : decode cX1_sameOf 28 = .ok (.invokeinterface 153 2, 5) := by decide +kernel
theorem dX1_sameOf_33 : decode cX1_sameOf 33 = .ok (.checkcast 157, 3) := dk_192 0 157 (dk_at dksX1_sameOf_1 9 rfl rfl)
theorem dX1_sameOf_36 : decode cX1_sameOf 36 = .ok (.astore_n 3, 1) := dk_78 (dk_at dksX1_sameOf_1 12 rfl rfl)
theorem dX1_sameOf_37 : decode cX1_sameOf 37 = .ok (.iload_n 2, 1) := dk_28 (dk_at dksX1_sameOf_1 13 rfl rfl)
theorem dX1_sameOf_38 : decode cX1_sameOf 38 = .ok (.tableswitch 82 0 2 #[26, 35, 44], 26) := by decide +kernel
theorem dX1_sameOf_64 : decode cX1_sameOf 64 = .ok (.aload_n 0, 1) := dk_42 (dk_at dksX1_sameOf_3 0 rfl rfl)
theorem dX1_sameOf_65 : decode cX1_sameOf 65 = .ok (.aload_n 3, 1) := dk_45 (dk_at dksX1_sameOf_3 1 rfl rfl)
theorem dX1_sameOf_66 : decode cX1_sameOf 66 = .ok (.getfield 159, 3) := dk_180 0 159 (dk_at dksX1_sameOf_3 2 rfl rfl)
theorem dX1_sameOf_69 : decode cX1_sameOf 69 = .ok (.invokevirtual 176, 3) := dk_182 0 176 (dk_at dksX1_sameOf_3 5 rfl rfl)
theorem dX1_sameOf_72 : decode cX1_sameOf 72 = .ok (.ireturn, 1) := dk_172 (dk_at dksX1_sameOf_3 8 rfl rfl)
theorem dX1_sameOf_73 : decode cX1_sameOf 73 = .ok (.aload_n 0, 1) := dk_42 (dk_at dksX1_sameOf_3 9 rfl rfl)
theorem dX1_sameOf_74 : decode cX1_sameOf 74 = .ok (.aload_n 3, 1) := dk_45 (dk_at dksX1_sameOf_3 10 rfl rfl)
theorem dX1_sameOf_75 : decode cX1_sameOf 75 = .ok (.getfield 162, 3) := dk_180 0 162 (dk_at dksX1_sameOf_3 11 rfl rfl)
theorem dX1_sameOf_78 : decode cX1_sameOf 78 = .ok (.invokevirtual 176, 3) := dk_182 0 176 (dk_at dksX1_sameOf_3 14 rfl rfl)
theorem dX1_sameOf_81 : decode cX1_sameOf 81 = .ok (.ireturn, 1) := dk_172 (dk_at dksX1_sameOf_3 17 rfl rfl)
theorem dX1_sameOf_82 : decode cX1_sameOf 82 = .ok (.aload_n 0, 1) := dk_42 (dk_at dksX1_sameOf_3 18 rfl rfl)
theorem dX1_sameOf_83 : decode cX1_sameOf 83 = .ok (.aload_n 0, 1) := dk_42 (dk_at dksX1_sameOf_3 19 rfl rfl)
theorem dX1_sameOf_84 : decode cX1_sameOf 84 = .ok (.aload_n 0, 1) := dk_42 (dk_at dksX1_sameOf_3 20 rfl rfl)
theorem dX1_sameOf_85 : decode cX1_sameOf 85 = .ok (.invokevirtual 252, 3) := dk_182 0 252 (dk_at dksX1_sameOf_3 21 rfl rfl)
theorem dX1_sameOf_88 : decode cX1_sameOf 88 = .ok (.iconst 1, 1) := dk_4 (dk_at dksX1_sameOf_4 0 rfl rfl)
theorem dX1_sameOf_89 : decode cX1_sameOf 89 = .ok (.iload_n 1, 1) := dk_27 (dk_at dksX1_sameOf_4 1 rfl rfl)
theorem dX1_sameOf_90 : decode cX1_sameOf 90 = .ok (.ishl, 1) := dk_120 (dk_at dksX1_sameOf_4 2 rfl rfl)
theorem dX1_sameOf_91 : decode cX1_sameOf 91 = .ok (.iconst (-1), 1) := dk_2 (dk_at dksX1_sameOf_4 3 rfl rfl)
theorem dX1_sameOf_92 : decode cX1_sameOf 92 = .ok (.ixor, 1) := dk_130 (dk_at dksX1_sameOf_4 4 rfl rfl)
theorem dX1_sameOf_93 : decode cX1_sameOf 93 = .ok (.iand, 1) := dk_126 (dk_at dksX1_sameOf_4 5 rfl rfl)
theorem dX1_sameOf_94 : decode cX1_sameOf 94 = .ok (.invokevirtual 255, 3) := dk_182 0 255 (dk_at dksX1_sameOf_4 6 rfl rfl)
theorem dX1_sameOf_97 : decode cX1_sameOf 97 = .ok (.aload_n 3, 1) := dk_45 (dk_at dksX1_sameOf_4 9 rfl rfl)
theorem dX1_sameOf_98 : decode cX1_sameOf 98 = .ok (.getfield 159, 3) := dk_180 0 159 (dk_at dksX1_sameOf_4 10 rfl rfl)
theorem dX1_sameOf_101 : decode cX1_sameOf 101 = .ok (.aload_n 3, 1) := dk_45 (dk_at dksX1_sameOf_4 13 rfl rfl)
theorem dX1_sameOf_102 : decode cX1_sameOf 102 = .ok (.getfield 162, 3) := dk_180 0 162 (dk_at dksX1_sameOf_4 14 rfl rfl)
theorem dX1_sameOf_105 : decode cX1_sameOf 105 = .ok (.invokevirtual 259, 3) := dk_182 1 3 (dk_at dksX1_sameOf_4 17 rfl rfl)
theorem dX1_sameOf_108 : decode cX1_sameOf 108 = .ok (.ifCond .eq 7, 3) := dk_153 0 7 (dk_at dksX1_sameOf_4 20 rfl rfl)
theorem dX1_sameOf_111 : decode cX1_sameOf 111 = .ok (.iconst 1, 1) := dk_4 (dk_at dksX1_sameOf_4 23 rfl rfl)
theorem dX1_sameOf_112 : decode cX1_sameOf 112 = .ok (.goto 4, 3) := dk_167 0 4 (dk_at dksX1_sameOf_5 0 rfl rfl)
theorem dX1_sameOf_115 : decode cX1_sameOf 115 = .ok (.iconst 0, 1) := dk_3 (dk_at dksX1_sameOf_5 3 rfl rfl)
theorem dX1_sameOf_116 : decode cX1_sameOf 116 = .ok (.invokevirtual 176, 3) := dk_182 0 176 (dk_at dksX1_sameOf_5 4 rfl rfl)
theorem dX1_sameOf_119 : decode cX1_sameOf 119 = .ok (.ireturn, 1) := dk_172 (dk_at dksX1_sameOf_5 7 rfl rfl)
theorem dX1_sameOf_120 : decode cX1_sameOf 120 = .ok (.aload_n 0, 1) := dk_42 (dk_at dksX1_sameOf_5 8 rfl rfl)
theorem dX1_sameOf_121 : decode cX1_sameOf 121 = .ok (.iconst 1, 1) := dk_4 (dk_at dksX1_sameOf_5 9 rfl rfl)
theorem dX1_sameOf_122 : decode cX1_sameOf 122 = .ok (.invokevirtual 98, 3) := dk_182 0 98 (dk_at dksX1_sameOf_5 10 rfl rfl)
theorem dX1_sameOf_125 : decode cX1_sameOf 125 = .ok (.ireturn, 1) := dk_172 (dk_at dksX1_sameOf_5 13 rfl rfl)
abbrev cX1_every : ByteArray := prog_1_method_24_code
def yX1_every : MethodName := ⟨RX1, "every", "()I"⟩
def dkwX1_every_0 : List UInt8 := [4, 42, 182, 0, 191, 120, 4, 100, 172]
abbrev dktX1_every_0 : List UInt8 := dkwX1_every_0 ++ []
theorem dksX1_every_0 : cX1_every.data.toList.drop 0 = dktX1_every_0 := by decide +kernel
theorem dX1_every_0 : decode cX1_every 0 = .ok (.iconst 1, 1) := dk_4 (dk_at dksX1_every_0 0 rfl rfl)
theorem dX1_every_1 : decode cX1_every 1 = .ok (.aload_n 0, 1) := dk_42 (dk_at dksX1_every_0 1 rfl rfl)
theorem dX1_every_2 : decode cX1_every 2 = .ok (.invokevirtual 191, 3) := dk_182 0 191 (dk_at dksX1_every_0 2 rfl rfl)
theorem dX1_every_5 : decode cX1_every 5 = .ok (.ishl, 1) := dk_120 (dk_at dksX1_every_0 5 rfl rfl)
theorem dX1_every_6 : decode cX1_every 6 = .ok (.iconst 1, 1) := dk_4 (dk_at dksX1_every_0 6 rfl rfl)
theorem dX1_every_7 : decode cX1_every 7 = .ok (.isub, 1) := dk_100 (dk_at dksX1_every_0 7 rfl rfl)
theorem dX1_every_8 : decode cX1_every 8 = .ok (.ireturn, 1) := dk_172 (dk_at dksX1_every_0 8 rfl rfl)
abbrev cX1_by : ByteArray := prog_1_method_23_code
def yX1_by : MethodName := ⟨RX1, "by", "(I)LReasonCloser$Closed;"⟩
def dkwX1_by_3 : List UInt8 := [180, 0, 162, 28, 182, 0, 251, 132, 2, 1, 167, 255, 191, 42, 180, 0, 47, 176]
abbrev dktX1_by_3 : List UInt8 := dkwX1_by_3 ++ []
def dkwX1_by_2 : List UInt8 := [192, 0, 157, 180, 0, 159, 42, 180, 0, 23, 180, 0, 150, 28, 185, 0, 153, 2, 0, 192, 0, 157]
abbrev dktX1_by_2 : List UInt8 := dkwX1_by_2 ++ dktX1_by_3
def dkwX1_by_1 : List UInt8 := [184, 0, 248, 153, 0, 49, 42, 180, 0, 47, 42, 180, 0, 23, 180, 0, 150, 28, 185, 0, 153, 2, 0]
abbrev dktX1_by_1 : List UInt8 := dkwX1_by_1 ++ dktX1_by_2
def dkwX1_by_0 : List UInt8 := [42, 180, 0, 47, 42, 180, 0, 43, 182, 0, 244, 3, 61, 28, 42, 182, 0, 191, 162, 0, 63, 27, 28]
abbrev dktX1_by_0 : List UInt8 := dkwX1_by_0 ++ dktX1_by_1
theorem dksX1_by_0 : cX1_by.data.toList.drop 0 = dktX1_by_0 := by decide +kernel
theorem dksX1_by_1 : cX1_by.data.toList.drop 23 = dktX1_by_1 := dk_seg dksX1_by_0 23 rfl rfl
theorem dksX1_by_2 : cX1_by.data.toList.drop 46 = dktX1_by_2 := dk_seg dksX1_by_1 23 rfl rfl
theorem dksX1_by_3 : cX1_by.data.toList.drop 68 = dktX1_by_3 := dk_seg dksX1_by_2 22 rfl rfl
theorem dX1_by_0 : decode cX1_by 0 = .ok (.aload_n 0, 1) := dk_42 (dk_at dksX1_by_0 0 rfl rfl)
theorem dX1_by_1 : decode cX1_by 1 = .ok (.getfield 47, 3) := dk_180 0 47 (dk_at dksX1_by_0 1 rfl rfl)
theorem dX1_by_4 : decode cX1_by 4 = .ok (.aload_n 0, 1) := dk_42 (dk_at dksX1_by_0 4 rfl rfl)
theorem dX1_by_5 : decode cX1_by 5 = .ok (.getfield 43, 3) := dk_180 0 43 (dk_at dksX1_by_0 5 rfl rfl)
theorem dX1_by_8 : decode cX1_by 8 = .ok (.invokevirtual 244, 3) := dk_182 0 244 (dk_at dksX1_by_0 8 rfl rfl)
theorem dX1_by_11 : decode cX1_by 11 = .ok (.iconst 0, 1) := dk_3 (dk_at dksX1_by_0 11 rfl rfl)
theorem dX1_by_12 : decode cX1_by 12 = .ok (.istore_n 2, 1) := dk_61 (dk_at dksX1_by_0 12 rfl rfl)
theorem dX1_by_13 : decode cX1_by 13 = .ok (.iload_n 2, 1) := dk_28 (dk_at dksX1_by_0 13 rfl rfl)
theorem dX1_by_14 : decode cX1_by 14 = .ok (.aload_n 0, 1) := dk_42 (dk_at dksX1_by_0 14 rfl rfl)
theorem dX1_by_15 : decode cX1_by 15 = .ok (.invokevirtual 191, 3) := dk_182 0 191 (dk_at dksX1_by_0 15 rfl rfl)
theorem dX1_by_18 : decode cX1_by 18 = .ok (.if_icmp .ge 63, 3) := dk_162 0 63 (dk_at dksX1_by_0 18 rfl rfl)
theorem dX1_by_21 : decode cX1_by 21 = .ok (.iload_n 1, 1) := dk_27 (dk_at dksX1_by_0 21 rfl rfl)
theorem dX1_by_22 : decode cX1_by 22 = .ok (.iload_n 2, 1) := dk_28 (dk_at dksX1_by_0 22 rfl rfl)
theorem dX1_by_23 : decode cX1_by 23 = .ok (.invokestatic 248, 3) := dk_184 0 248 (dk_at dksX1_by_1 0 rfl rfl)
theorem dX1_by_26 : decode cX1_by 26 = .ok (.ifCond .eq 49, 3) := dk_153 0 49 (dk_at dksX1_by_1 3 rfl rfl)
theorem dX1_by_29 : decode cX1_by 29 = .ok (.aload_n 0, 1) := dk_42 (dk_at dksX1_by_1 6 rfl rfl)
theorem dX1_by_30 : decode cX1_by 30 = .ok (.getfield 47, 3) := dk_180 0 47 (dk_at dksX1_by_1 7 rfl rfl)
theorem dX1_by_33 : decode cX1_by 33 = .ok (.aload_n 0, 1) := dk_42 (dk_at dksX1_by_1 10 rfl rfl)
theorem dX1_by_34 : decode cX1_by 34 = .ok (.getfield 23, 3) := dk_180 0 23 (dk_at dksX1_by_1 11 rfl rfl)
theorem dX1_by_37 : decode cX1_by 37 = .ok (.getfield 150, 3) := dk_180 0 150 (dk_at dksX1_by_1 14 rfl rfl)
theorem dX1_by_40 : decode cX1_by 40 = .ok (.iload_n 2, 1) := dk_28 (dk_at dksX1_by_1 17 rfl rfl)
theorem dX1_by_41 : decode cX1_by 41 = .ok (.invokeinterface 153 2, 5) := by decide +kernel
theorem dX1_by_46 : decode cX1_by 46 = .ok (.checkcast 157, 3) := dk_192 0 157 (dk_at dksX1_by_2 0 rfl rfl)
theorem dX1_by_49 : decode cX1_by 49 = .ok (.getfield 159, 3) := dk_180 0 159 (dk_at dksX1_by_2 3 rfl rfl)
theorem dX1_by_52 : decode cX1_by 52 = .ok (.aload_n 0, 1) := dk_42 (dk_at dksX1_by_2 6 rfl rfl)
theorem dX1_by_53 : decode cX1_by 53 = .ok (.getfield 23, 3) := dk_180 0 23 (dk_at dksX1_by_2 7 rfl rfl)
theorem dX1_by_56 : decode cX1_by 56 = .ok (.getfield 150, 3) := dk_180 0 150 (dk_at dksX1_by_2 10 rfl rfl)
theorem dX1_by_59 : decode cX1_by 59 = .ok (.iload_n 2, 1) := dk_28 (dk_at dksX1_by_2 13 rfl rfl)
theorem dX1_by_60 : decode cX1_by 60 = .ok (.invokeinterface 153 2, 5) := by decide +kernel
theorem dX1_by_65 : decode cX1_by 65 = .ok (.checkcast 157, 3) := dk_192 0 157 (dk_at dksX1_by_2 19 rfl rfl)
theorem dX1_by_68 : decode cX1_by 68 = .ok (.getfield 162, 3) := dk_180 0 162 (dk_at dksX1_by_3 0 rfl rfl)
theorem dX1_by_71 : decode cX1_by 71 = .ok (.iload_n 2, 1) := dk_28 (dk_at dksX1_by_3 3 rfl rfl)
theorem dX1_by_72 : decode cX1_by 72 = .ok (.invokevirtual 251, 3) := dk_182 0 251 (dk_at dksX1_by_3 4 rfl rfl)
theorem dX1_by_75 : decode cX1_by 75 = .ok (.iinc 2 1, 3) := dk_132 2 1 (dk_at dksX1_by_3 7 rfl rfl)
theorem dX1_by_78 : decode cX1_by 78 = .ok (.goto (-65), 3) := dk_167 255 191 (dk_at dksX1_by_3 10 rfl rfl)
theorem dX1_by_81 : decode cX1_by 81 = .ok (.aload_n 0, 1) := dk_42 (dk_at dksX1_by_3 13 rfl rfl)
theorem dX1_by_82 : decode cX1_by 82 = .ok (.getfield 47, 3) := dk_180 0 47 (dk_at dksX1_by_3 14 rfl rfl)
theorem dX1_by_85 : decode cX1_by 85 = .ok (.areturn, 1) := dk_176 (dk_at dksX1_by_3 17 rfl rfl)
abbrev cX1_has : ByteArray := prog_1_method_2_code
def yX1_has : MethodName := ⟨RX1, "has", "(II)Z"⟩
def dkwX1_has_0 : List UInt8 := [26, 27, 122, 4, 126, 4, 160, 0, 7, 4, 167, 0, 4, 3, 172]
abbrev dktX1_has_0 : List UInt8 := dkwX1_has_0 ++ []
theorem dksX1_has_0 : cX1_has.data.toList.drop 0 = dktX1_has_0 := by decide +kernel
theorem dX1_has_0 : decode cX1_has 0 = .ok (.iload_n 0, 1) := dk_26 (dk_at dksX1_has_0 0 rfl rfl)
theorem dX1_has_1 : decode cX1_has 1 = .ok (.iload_n 1, 1) := dk_27 (dk_at dksX1_has_0 1 rfl rfl)
theorem dX1_has_2 : decode cX1_has 2 = .ok (.ishr, 1) := dk_122 (dk_at dksX1_has_0 2 rfl rfl)
theorem dX1_has_3 : decode cX1_has 3 = .ok (.iconst 1, 1) := dk_4 (dk_at dksX1_has_0 3 rfl rfl)
theorem dX1_has_4 : decode cX1_has 4 = .ok (.iand, 1) := dk_126 (dk_at dksX1_has_0 4 rfl rfl)
theorem dX1_has_5 : decode cX1_has 5 = .ok (.iconst 1, 1) := dk_4 (dk_at dksX1_has_0 5 rfl rfl)
theorem dX1_has_6 : decode cX1_has 6 = .ok (.if_icmp .ne 7, 3) := dk_160 0 7 (dk_at dksX1_has_0 6 rfl rfl)
theorem dX1_has_9 : decode cX1_has 9 = .ok (.iconst 1, 1) := dk_4 (dk_at dksX1_has_0 9 rfl rfl)
theorem dX1_has_10 : decode cX1_has 10 = .ok (.goto 4, 3) := dk_167 0 4 (dk_at dksX1_has_0 10 rfl rfl)
theorem dX1_has_13 : decode cX1_has 13 = .ok (.iconst 0, 1) := dk_3 (dk_at dksX1_has_0 13 rfl rfl)
theorem dX1_has_14 : decode cX1_has 14 = .ok (.ireturn, 1) := dk_172 (dk_at dksX1_has_0 14 rfl rfl)
abbrev cX1_diffOf : ByteArray := prog_1_method_26_code
def yX1_diffOf : MethodName := ⟨RX1, "diffOf", "(II)I"⟩
def dkwX1_diffOf_5 : List UInt8 := [182, 0, 98, 172]
abbrev dktX1_diffOf_5 : List UInt8 := dkwX1_diffOf_5 ++ []
def dkwX1_diffOf_4 : List UInt8 := [180, 0, 159, 45, 180, 0, 162, 182, 0, 234, 153, 0, 7, 4, 167, 0, 4, 3, 182, 0, 176, 172, 42, 4]
abbrev dktX1_diffOf_4 : List UInt8 := dkwX1_diffOf_4 ++ dktX1_diffOf_5
def dkwX1_diffOf_3 : List UInt8 := [42, 45, 180, 0, 159, 182, 0, 176, 172, 42, 45, 180, 0, 162, 182, 0, 176, 172, 42, 42, 180, 0, 36, 45]
abbrev dktX1_diffOf_3 : List UInt8 := dkwX1_diffOf_3 ++ dktX1_diffOf_4
def dkwX1_diffOf_2 : List UInt8 := [170, 0, 0, 0, 0, 72, 0, 0, 0, 0, 0, 0, 0, 2, 0, 0, 0, 26, 0, 0, 0, 35, 0, 0, 0, 44]
abbrev dktX1_diffOf_2 : List UInt8 := dkwX1_diffOf_2 ++ dktX1_diffOf_3
def dkwX1_diffOf_1 : List UInt8 := [182, 0, 98, 172, 42, 180, 0, 23, 180, 0, 181, 27, 185, 0, 153, 2, 0, 192, 0, 157, 78, 28]
abbrev dktX1_diffOf_1 : List UInt8 := dkwX1_diffOf_1 ++ dktX1_diffOf_2
def dkwX1_diffOf_0 : List UInt8 := [27, 3, 42, 180, 0, 23, 180, 0, 181, 185, 0, 169, 1, 0, 4, 100, 184, 0, 94, 154, 0, 9, 42, 4]
abbrev dktX1_diffOf_0 : List UInt8 := dkwX1_diffOf_0 ++ dktX1_diffOf_1
theorem dksX1_diffOf_0 : cX1_diffOf.data.toList.drop 0 = dktX1_diffOf_0 := by decide +kernel
theorem dksX1_diffOf_1 : cX1_diffOf.data.toList.drop 24 = dktX1_diffOf_1 := dk_seg dksX1_diffOf_0 24 rfl rfl
theorem dksX1_diffOf_2 : cX1_diffOf.data.toList.drop 46 = dktX1_diffOf_2 := dk_seg dksX1_diffOf_1 22 rfl rfl
theorem dksX1_diffOf_3 : cX1_diffOf.data.toList.drop 72 = dktX1_diffOf_3 := dk_seg dksX1_diffOf_2 26 rfl rfl
theorem dksX1_diffOf_4 : cX1_diffOf.data.toList.drop 96 = dktX1_diffOf_4 := dk_seg dksX1_diffOf_3 24 rfl rfl
theorem dksX1_diffOf_5 : cX1_diffOf.data.toList.drop 120 = dktX1_diffOf_5 := dk_seg dksX1_diffOf_4 24 rfl rfl
theorem dX1_diffOf_0 : decode cX1_diffOf 0 = .ok (.iload_n 1, 1) := dk_27 (dk_at dksX1_diffOf_0 0 rfl rfl)
theorem dX1_diffOf_1 : decode cX1_diffOf 1 = .ok (.iconst 0, 1) := dk_3 (dk_at dksX1_diffOf_0 1 rfl rfl)
theorem dX1_diffOf_2 : decode cX1_diffOf 2 = .ok (.aload_n 0, 1) := dk_42 (dk_at dksX1_diffOf_0 2 rfl rfl)
theorem dX1_diffOf_3 : decode cX1_diffOf 3 = .ok (.getfield 23, 3) := dk_180 0 23 (dk_at dksX1_diffOf_0 3 rfl rfl)
theorem dX1_diffOf_6 : decode cX1_diffOf 6 = .ok (.getfield 181, 3) := dk_180 0 181 (dk_at dksX1_diffOf_0 6 rfl rfl)
theorem dX1_diffOf_9 : decode cX1_diffOf 9 = .ok (.invokeinterface 169 1, 5) := by decide +kernel
theorem dX1_diffOf_14 : decode cX1_diffOf 14 = .ok (.iconst 1, 1) := dk_4 (dk_at dksX1_diffOf_0 14 rfl rfl)
theorem dX1_diffOf_15 : decode cX1_diffOf 15 = .ok (.isub, 1) := dk_100 (dk_at dksX1_diffOf_0 15 rfl rfl)
theorem dX1_diffOf_16 : decode cX1_diffOf 16 = .ok (.invokestatic 94, 3) := dk_184 0 94 (dk_at dksX1_diffOf_0 16 rfl rfl)
theorem dX1_diffOf_19 : decode cX1_diffOf 19 = .ok (.ifCond .ne 9, 3) := dk_154 0 9 (dk_at dksX1_diffOf_0 19 rfl rfl)
theorem dX1_diffOf_22 : decode cX1_diffOf 22 = .ok (.aload_n 0, 1) := dk_42 (dk_at dksX1_diffOf_0 22 rfl rfl)
theorem dX1_diffOf_23 : decode cX1_diffOf 23 = .ok (.iconst 1, 1) := dk_4 (dk_at dksX1_diffOf_0 23 rfl rfl)
theorem dX1_diffOf_24 : decode cX1_diffOf 24 = .ok (.invokevirtual 98, 3) := dk_182 0 98 (dk_at dksX1_diffOf_1 0 rfl rfl)
theorem dX1_diffOf_27 : decode cX1_diffOf 27 = .ok (.ireturn, 1) := dk_172 (dk_at dksX1_diffOf_1 3 rfl rfl)
theorem dX1_diffOf_28 : decode cX1_diffOf 28 = .ok (.aload_n 0, 1) := dk_42 (dk_at dksX1_diffOf_1 4 rfl rfl)
theorem dX1_diffOf_29 : decode cX1_diffOf 29 = .ok (.getfield 23, 3) := dk_180 0 23 (dk_at dksX1_diffOf_1 5 rfl rfl)
theorem dX1_diffOf_32 : decode cX1_diffOf 32 = .ok (.getfield 181, 3) := dk_180 0 181 (dk_at dksX1_diffOf_1 8 rfl rfl)
theorem dX1_diffOf_35 : decode cX1_diffOf 35 = .ok (.iload_n 1, 1) := dk_27 (dk_at dksX1_diffOf_1 11 rfl rfl)
theorem dX1_diffOf_36 : decode cX1_diffOf 36 = .ok (.invokeinterface 153 2, 5) := by decide +kernel
theorem dX1_diffOf_41 : decode cX1_diffOf 41 = .ok (.checkcast 157, 3) := dk_192 0 157 (dk_at dksX1_diffOf_1 17 rfl rfl)
theorem dX1_diffOf_44 : decode cX1_diffOf 44 = .ok (.astore_n 3, 1) := dk_78 (dk_at dksX1_diffOf_1 20 rfl rfl)
theorem dX1_diffOf_45 : decode cX1_diffOf 45 = .ok (.iload_n 2, 1) := dk_28 (dk_at dksX1_diffOf_1 21 rfl rfl)
theorem dX1_diffOf_46 : decode cX1_diffOf 46 = .ok (.tableswitch 72 0 2 #[26, 35, 44], 26) := by decide +kernel
theorem dX1_diffOf_72 : decode cX1_diffOf 72 = .ok (.aload_n 0, 1) := dk_42 (dk_at dksX1_diffOf_3 0 rfl rfl)
theorem dX1_diffOf_73 : decode cX1_diffOf 73 = .ok (.aload_n 3, 1) := dk_45 (dk_at dksX1_diffOf_3 1 rfl rfl)
theorem dX1_diffOf_74 : decode cX1_diffOf 74 = .ok (.getfield 159, 3) := dk_180 0 159 (dk_at dksX1_diffOf_3 2 rfl rfl)
theorem dX1_diffOf_77 : decode cX1_diffOf 77 = .ok (.invokevirtual 176, 3) := dk_182 0 176 (dk_at dksX1_diffOf_3 5 rfl rfl)
theorem dX1_diffOf_80 : decode cX1_diffOf 80 = .ok (.ireturn, 1) := dk_172 (dk_at dksX1_diffOf_3 8 rfl rfl)
theorem dX1_diffOf_81 : decode cX1_diffOf 81 = .ok (.aload_n 0, 1) := dk_42 (dk_at dksX1_diffOf_3 9 rfl rfl)
theorem dX1_diffOf_82 : decode cX1_diffOf 82 = .ok (.aload_n 3, 1) := dk_45 (dk_at dksX1_diffOf_3 10 rfl rfl)
theorem dX1_diffOf_83 : decode cX1_diffOf 83 = .ok (.getfield 162, 3) := dk_180 0 162 (dk_at dksX1_diffOf_3 11 rfl rfl)
theorem dX1_diffOf_86 : decode cX1_diffOf 86 = .ok (.invokevirtual 176, 3) := dk_182 0 176 (dk_at dksX1_diffOf_3 14 rfl rfl)
theorem dX1_diffOf_89 : decode cX1_diffOf 89 = .ok (.ireturn, 1) := dk_172 (dk_at dksX1_diffOf_3 17 rfl rfl)
theorem dX1_diffOf_90 : decode cX1_diffOf 90 = .ok (.aload_n 0, 1) := dk_42 (dk_at dksX1_diffOf_3 18 rfl rfl)
theorem dX1_diffOf_91 : decode cX1_diffOf 91 = .ok (.aload_n 0, 1) := dk_42 (dk_at dksX1_diffOf_3 19 rfl rfl)
theorem dX1_diffOf_92 : decode cX1_diffOf 92 = .ok (.getfield 36, 3) := dk_180 0 36 (dk_at dksX1_diffOf_3 20 rfl rfl)
theorem dX1_diffOf_95 : decode cX1_diffOf 95 = .ok (.aload_n 3, 1) := dk_45 (dk_at dksX1_diffOf_3 23 rfl rfl)
theorem dX1_diffOf_96 : decode cX1_diffOf 96 = .ok (.getfield 159, 3) := dk_180 0 159 (dk_at dksX1_diffOf_4 0 rfl rfl)
theorem dX1_diffOf_99 : decode cX1_diffOf 99 = .ok (.aload_n 3, 1) := dk_45 (dk_at dksX1_diffOf_4 3 rfl rfl)
theorem dX1_diffOf_100 : decode cX1_diffOf 100 = .ok (.getfield 162, 3) := dk_180 0 162 (dk_at dksX1_diffOf_4 4 rfl rfl)
theorem dX1_diffOf_103 : decode cX1_diffOf 103 = .ok (.invokevirtual 234, 3) := dk_182 0 234 (dk_at dksX1_diffOf_4 7 rfl rfl)
theorem dX1_diffOf_106 : decode cX1_diffOf 106 = .ok (.ifCond .eq 7, 3) := dk_153 0 7 (dk_at dksX1_diffOf_4 10 rfl rfl)
theorem dX1_diffOf_109 : decode cX1_diffOf 109 = .ok (.iconst 1, 1) := dk_4 (dk_at dksX1_diffOf_4 13 rfl rfl)
theorem dX1_diffOf_110 : decode cX1_diffOf 110 = .ok (.goto 4, 3) := dk_167 0 4 (dk_at dksX1_diffOf_4 14 rfl rfl)
theorem dX1_diffOf_113 : decode cX1_diffOf 113 = .ok (.iconst 0, 1) := dk_3 (dk_at dksX1_diffOf_4 17 rfl rfl)
theorem dX1_diffOf_114 : decode cX1_diffOf 114 = .ok (.invokevirtual 176, 3) := dk_182 0 176 (dk_at dksX1_diffOf_4 18 rfl rfl)
theorem dX1_diffOf_117 : decode cX1_diffOf 117 = .ok (.ireturn, 1) := dk_172 (dk_at dksX1_diffOf_4 21 rfl rfl)
theorem dX1_diffOf_118 : decode cX1_diffOf 118 = .ok (.aload_n 0, 1) := dk_42 (dk_at dksX1_diffOf_4 22 rfl rfl)
theorem dX1_diffOf_119 : decode cX1_diffOf 119 = .ok (.iconst 1, 1) := dk_4 (dk_at dksX1_diffOf_4 23 rfl rfl)
theorem dX1_diffOf_120 : decode cX1_diffOf 120 = .ok (.invokevirtual 98, 3) := dk_182 0 98 (dk_at dksX1_diffOf_5 0 rfl rfl)
theorem dX1_diffOf_123 : decode cX1_diffOf 123 = .ok (.ireturn, 1) := dk_172 (dk_at dksX1_diffOf_5 3 rfl rfl)
abbrev cX1_joinOf : ByteArray := prog_1_method_27_code
def yX1_joinOf : MethodName := ⟨RX1, "joinOf", "(II)I"⟩
def dkwX1_joinOf_3 : List UInt8 := [182, 0, 176, 172, 42, 42, 180, 0, 36, 180, 1, 8, 27, 46, 182, 0, 176, 172, 42, 4, 182, 0, 98, 172]
abbrev dktX1_joinOf_3 : List UInt8 := dkwX1_joinOf_3 ++ []
def dkwX1_joinOf_2 : List UInt8 := [42, 42, 180, 0, 36, 180, 1, 4, 27, 46, 182, 0, 176, 172, 42, 42, 180, 0, 36, 180, 1, 6, 27, 46]
abbrev dktX1_joinOf_2 : List UInt8 := dkwX1_joinOf_2 ++ dktX1_joinOf_3
def dkwX1_joinOf_1 : List UInt8 := [170, 0, 0, 0, 0, 0, 0, 70, 0, 0, 0, 0, 0, 0, 0, 2, 0, 0, 0, 28, 0, 0, 0, 42, 0, 0, 0, 56]
abbrev dktX1_joinOf_1 : List UInt8 := dkwX1_joinOf_1 ++ dktX1_joinOf_2
def dkwX1_joinOf_0 : List UInt8 := [27, 3, 42, 180, 0, 36, 180, 0, 196, 4, 100, 184, 0, 94, 154, 0, 9, 42, 4, 182, 0, 98, 172, 28]
abbrev dktX1_joinOf_0 : List UInt8 := dkwX1_joinOf_0 ++ dktX1_joinOf_1
theorem dksX1_joinOf_0 : cX1_joinOf.data.toList.drop 0 = dktX1_joinOf_0 := by decide +kernel
theorem dksX1_joinOf_1 : cX1_joinOf.data.toList.drop 24 = dktX1_joinOf_1 := dk_seg dksX1_joinOf_0 24 rfl rfl
theorem dksX1_joinOf_2 : cX1_joinOf.data.toList.drop 52 = dktX1_joinOf_2 := dk_seg dksX1_joinOf_1 28 rfl rfl
theorem dksX1_joinOf_3 : cX1_joinOf.data.toList.drop 76 = dktX1_joinOf_3 := dk_seg dksX1_joinOf_2 24 rfl rfl
theorem dX1_joinOf_0 : decode cX1_joinOf 0 = .ok (.iload_n 1, 1) := dk_27 (dk_at dksX1_joinOf_0 0 rfl rfl)
theorem dX1_joinOf_1 : decode cX1_joinOf 1 = .ok (.iconst 0, 1) := dk_3 (dk_at dksX1_joinOf_0 1 rfl rfl)
theorem dX1_joinOf_2 : decode cX1_joinOf 2 = .ok (.aload_n 0, 1) := dk_42 (dk_at dksX1_joinOf_0 2 rfl rfl)
theorem dX1_joinOf_3 : decode cX1_joinOf 3 = .ok (.getfield 36, 3) := dk_180 0 36 (dk_at dksX1_joinOf_0 3 rfl rfl)
theorem dX1_joinOf_6 : decode cX1_joinOf 6 = .ok (.getfield 196, 3) := dk_180 0 196 (dk_at dksX1_joinOf_0 6 rfl rfl)
theorem dX1_joinOf_9 : decode cX1_joinOf 9 = .ok (.iconst 1, 1) := dk_4 (dk_at dksX1_joinOf_0 9 rfl rfl)
theorem dX1_joinOf_10 : decode cX1_joinOf 10 = .ok (.isub, 1) := dk_100 (dk_at dksX1_joinOf_0 10 rfl rfl)
theorem dX1_joinOf_11 : decode cX1_joinOf 11 = .ok (.invokestatic 94, 3) := dk_184 0 94 (dk_at dksX1_joinOf_0 11 rfl rfl)
theorem dX1_joinOf_14 : decode cX1_joinOf 14 = .ok (.ifCond .ne 9, 3) := dk_154 0 9 (dk_at dksX1_joinOf_0 14 rfl rfl)
theorem dX1_joinOf_17 : decode cX1_joinOf 17 = .ok (.aload_n 0, 1) := dk_42 (dk_at dksX1_joinOf_0 17 rfl rfl)
theorem dX1_joinOf_18 : decode cX1_joinOf 18 = .ok (.iconst 1, 1) := dk_4 (dk_at dksX1_joinOf_0 18 rfl rfl)
theorem dX1_joinOf_19 : decode cX1_joinOf 19 = .ok (.invokevirtual 98, 3) := dk_182 0 98 (dk_at dksX1_joinOf_0 19 rfl rfl)
theorem dX1_joinOf_22 : decode cX1_joinOf 22 = .ok (.ireturn, 1) := dk_172 (dk_at dksX1_joinOf_0 22 rfl rfl)
theorem dX1_joinOf_23 : decode cX1_joinOf 23 = .ok (.iload_n 2, 1) := dk_28 (dk_at dksX1_joinOf_0 23 rfl rfl)
theorem dX1_joinOf_24 : decode cX1_joinOf 24 = .ok (.tableswitch 70 0 2 #[28, 42, 56], 28) := by decide +kernel
theorem dX1_joinOf_52 : decode cX1_joinOf 52 = .ok (.aload_n 0, 1) := dk_42 (dk_at dksX1_joinOf_2 0 rfl rfl)
theorem dX1_joinOf_53 : decode cX1_joinOf 53 = .ok (.aload_n 0, 1) := dk_42 (dk_at dksX1_joinOf_2 1 rfl rfl)
theorem dX1_joinOf_54 : decode cX1_joinOf 54 = .ok (.getfield 36, 3) := dk_180 0 36 (dk_at dksX1_joinOf_2 2 rfl rfl)
theorem dX1_joinOf_57 : decode cX1_joinOf 57 = .ok (.getfield 260, 3) := dk_180 1 4 (dk_at dksX1_joinOf_2 5 rfl rfl)
theorem dX1_joinOf_60 : decode cX1_joinOf 60 = .ok (.iload_n 1, 1) := dk_27 (dk_at dksX1_joinOf_2 8 rfl rfl)
theorem dX1_joinOf_61 : decode cX1_joinOf 61 = .ok (.iaload, 1) := dk_46 (dk_at dksX1_joinOf_2 9 rfl rfl)
theorem dX1_joinOf_62 : decode cX1_joinOf 62 = .ok (.invokevirtual 176, 3) := dk_182 0 176 (dk_at dksX1_joinOf_2 10 rfl rfl)
theorem dX1_joinOf_65 : decode cX1_joinOf 65 = .ok (.ireturn, 1) := dk_172 (dk_at dksX1_joinOf_2 13 rfl rfl)
theorem dX1_joinOf_66 : decode cX1_joinOf 66 = .ok (.aload_n 0, 1) := dk_42 (dk_at dksX1_joinOf_2 14 rfl rfl)
theorem dX1_joinOf_67 : decode cX1_joinOf 67 = .ok (.aload_n 0, 1) := dk_42 (dk_at dksX1_joinOf_2 15 rfl rfl)
theorem dX1_joinOf_68 : decode cX1_joinOf 68 = .ok (.getfield 36, 3) := dk_180 0 36 (dk_at dksX1_joinOf_2 16 rfl rfl)
theorem dX1_joinOf_71 : decode cX1_joinOf 71 = .ok (.getfield 262, 3) := dk_180 1 6 (dk_at dksX1_joinOf_2 19 rfl rfl)
theorem dX1_joinOf_74 : decode cX1_joinOf 74 = .ok (.iload_n 1, 1) := dk_27 (dk_at dksX1_joinOf_2 22 rfl rfl)
theorem dX1_joinOf_75 : decode cX1_joinOf 75 = .ok (.iaload, 1) := dk_46 (dk_at dksX1_joinOf_2 23 rfl rfl)
theorem dX1_joinOf_76 : decode cX1_joinOf 76 = .ok (.invokevirtual 176, 3) := dk_182 0 176 (dk_at dksX1_joinOf_3 0 rfl rfl)
theorem dX1_joinOf_79 : decode cX1_joinOf 79 = .ok (.ireturn, 1) := dk_172 (dk_at dksX1_joinOf_3 3 rfl rfl)
theorem dX1_joinOf_80 : decode cX1_joinOf 80 = .ok (.aload_n 0, 1) := dk_42 (dk_at dksX1_joinOf_3 4 rfl rfl)
theorem dX1_joinOf_81 : decode cX1_joinOf 81 = .ok (.aload_n 0, 1) := dk_42 (dk_at dksX1_joinOf_3 5 rfl rfl)
theorem dX1_joinOf_82 : decode cX1_joinOf 82 = .ok (.getfield 36, 3) := dk_180 0 36 (dk_at dksX1_joinOf_3 6 rfl rfl)
theorem dX1_joinOf_85 : decode cX1_joinOf 85 = .ok (.getfield 264, 3) := dk_180 1 8 (dk_at dksX1_joinOf_3 9 rfl rfl)
theorem dX1_joinOf_88 : decode cX1_joinOf 88 = .ok (.iload_n 1, 1) := dk_27 (dk_at dksX1_joinOf_3 12 rfl rfl)
theorem dX1_joinOf_89 : decode cX1_joinOf 89 = .ok (.iaload, 1) := dk_46 (dk_at dksX1_joinOf_3 13 rfl rfl)
theorem dX1_joinOf_90 : decode cX1_joinOf 90 = .ok (.invokevirtual 176, 3) := dk_182 0 176 (dk_at dksX1_joinOf_3 14 rfl rfl)
theorem dX1_joinOf_93 : decode cX1_joinOf 93 = .ok (.ireturn, 1) := dk_172 (dk_at dksX1_joinOf_3 17 rfl rfl)
theorem dX1_joinOf_94 : decode cX1_joinOf 94 = .ok (.aload_n 0, 1) := dk_42 (dk_at dksX1_joinOf_3 18 rfl rfl)
theorem dX1_joinOf_95 : decode cX1_joinOf 95 = .ok (.iconst 1, 1) := dk_4 (dk_at dksX1_joinOf_3 19 rfl rfl)
theorem dX1_joinOf_96 : decode cX1_joinOf 96 = .ok (.invokevirtual 98, 3) := dk_182 0 98 (dk_at dksX1_joinOf_3 20 rfl rfl)
theorem dX1_joinOf_99 : decode cX1_joinOf 99 = .ok (.ireturn, 1) := dk_172 (dk_at dksX1_joinOf_3 23 rfl rfl)
abbrev cX1_height : ByteArray := prog_1_method_28_code
def yX1_height : MethodName := ⟨RX1, "height", "(I)I"⟩
def dkwX1_height_2 : List UInt8 := [46, 62, 167, 255, 230, 42, 28, 182, 0, 176, 172]
abbrev dktX1_height_2 : List UInt8 := dkwX1_height_2 ++ []
def dkwX1_height_1 : List UInt8 := [42, 180, 0, 36, 180, 0, 241, 29, 46, 2, 159, 0, 19, 132, 2, 1, 42, 180, 0, 36, 180, 0, 241, 29]
abbrev dktX1_height_1 : List UInt8 := dkwX1_height_1 ++ dktX1_height_2
def dkwX1_height_0 : List UInt8 := [42, 4, 188, 10, 89, 3, 27, 79, 182, 0, 230, 154, 0, 9, 42, 4, 182, 0, 98, 172, 3, 61, 27, 62]
abbrev dktX1_height_0 : List UInt8 := dkwX1_height_0 ++ dktX1_height_1
theorem dksX1_height_0 : cX1_height.data.toList.drop 0 = dktX1_height_0 := by decide +kernel
theorem dksX1_height_1 : cX1_height.data.toList.drop 24 = dktX1_height_1 := dk_seg dksX1_height_0 24 rfl rfl
theorem dksX1_height_2 : cX1_height.data.toList.drop 48 = dktX1_height_2 := dk_seg dksX1_height_1 24 rfl rfl
theorem dX1_height_0 : decode cX1_height 0 = .ok (.aload_n 0, 1) := dk_42 (dk_at dksX1_height_0 0 rfl rfl)
theorem dX1_height_1 : decode cX1_height 1 = .ok (.iconst 1, 1) := dk_4 (dk_at dksX1_height_0 1 rfl rfl)
theorem dX1_height_2 : decode cX1_height 2 = .ok (.newarray .int, 2) := dk_188_10 (dk_at dksX1_height_0 2 rfl rfl)
theorem dX1_height_4 : decode cX1_height 4 = .ok (.dup, 1) := dk_89 (dk_at dksX1_height_0 4 rfl rfl)
theorem dX1_height_5 : decode cX1_height 5 = .ok (.iconst 0, 1) := dk_3 (dk_at dksX1_height_0 5 rfl rfl)
theorem dX1_height_6 : decode cX1_height 6 = .ok (.iload_n 1, 1) := dk_27 (dk_at dksX1_height_0 6 rfl rfl)
theorem dX1_height_7 : decode cX1_height 7 = .ok (.iastore, 1) := dk_79 (dk_at dksX1_height_0 7 rfl rfl)
theorem dX1_height_8 : decode cX1_height 8 = .ok (.invokevirtual 230, 3) := dk_182 0 230 (dk_at dksX1_height_0 8 rfl rfl)
theorem dX1_height_11 : decode cX1_height 11 = .ok (.ifCond .ne 9, 3) := dk_154 0 9 (dk_at dksX1_height_0 11 rfl rfl)
theorem dX1_height_14 : decode cX1_height 14 = .ok (.aload_n 0, 1) := dk_42 (dk_at dksX1_height_0 14 rfl rfl)
theorem dX1_height_15 : decode cX1_height 15 = .ok (.iconst 1, 1) := dk_4 (dk_at dksX1_height_0 15 rfl rfl)
theorem dX1_height_16 : decode cX1_height 16 = .ok (.invokevirtual 98, 3) := dk_182 0 98 (dk_at dksX1_height_0 16 rfl rfl)
theorem dX1_height_19 : decode cX1_height 19 = .ok (.ireturn, 1) := dk_172 (dk_at dksX1_height_0 19 rfl rfl)
theorem dX1_height_20 : decode cX1_height 20 = .ok (.iconst 0, 1) := dk_3 (dk_at dksX1_height_0 20 rfl rfl)
theorem dX1_height_21 : decode cX1_height 21 = .ok (.istore_n 2, 1) := dk_61 (dk_at dksX1_height_0 21 rfl rfl)
theorem dX1_height_22 : decode cX1_height 22 = .ok (.iload_n 1, 1) := dk_27 (dk_at dksX1_height_0 22 rfl rfl)
theorem dX1_height_23 : decode cX1_height 23 = .ok (.istore_n 3, 1) := dk_62 (dk_at dksX1_height_0 23 rfl rfl)
theorem dX1_height_24 : decode cX1_height 24 = .ok (.aload_n 0, 1) := dk_42 (dk_at dksX1_height_1 0 rfl rfl)
theorem dX1_height_25 : decode cX1_height 25 = .ok (.getfield 36, 3) := dk_180 0 36 (dk_at dksX1_height_1 1 rfl rfl)
theorem dX1_height_28 : decode cX1_height 28 = .ok (.getfield 241, 3) := dk_180 0 241 (dk_at dksX1_height_1 4 rfl rfl)
theorem dX1_height_31 : decode cX1_height 31 = .ok (.iload_n 3, 1) := dk_29 (dk_at dksX1_height_1 7 rfl rfl)
theorem dX1_height_32 : decode cX1_height 32 = .ok (.iaload, 1) := dk_46 (dk_at dksX1_height_1 8 rfl rfl)
theorem dX1_height_33 : decode cX1_height 33 = .ok (.iconst (-1), 1) := dk_2 (dk_at dksX1_height_1 9 rfl rfl)
theorem dX1_height_34 : decode cX1_height 34 = .ok (.if_icmp .eq 19, 3) := dk_159 0 19 (dk_at dksX1_height_1 10 rfl rfl)
theorem dX1_height_37 : decode cX1_height 37 = .ok (.iinc 2 1, 3) := dk_132 2 1 (dk_at dksX1_height_1 13 rfl rfl)
theorem dX1_height_40 : decode cX1_height 40 = .ok (.aload_n 0, 1) := dk_42 (dk_at dksX1_height_1 16 rfl rfl)
theorem dX1_height_41 : decode cX1_height 41 = .ok (.getfield 36, 3) := dk_180 0 36 (dk_at dksX1_height_1 17 rfl rfl)
theorem dX1_height_44 : decode cX1_height 44 = .ok (.getfield 241, 3) := dk_180 0 241 (dk_at dksX1_height_1 20 rfl rfl)
theorem dX1_height_47 : decode cX1_height 47 = .ok (.iload_n 3, 1) := dk_29 (dk_at dksX1_height_1 23 rfl rfl)
theorem dX1_height_48 : decode cX1_height 48 = .ok (.iaload, 1) := dk_46 (dk_at dksX1_height_2 0 rfl rfl)
theorem dX1_height_49 : decode cX1_height 49 = .ok (.istore_n 3, 1) := dk_62 (dk_at dksX1_height_2 1 rfl rfl)
theorem dX1_height_50 : decode cX1_height 50 = .ok (.goto (-26), 3) := dk_167 255 230 (dk_at dksX1_height_2 2 rfl rfl)
theorem dX1_height_53 : decode cX1_height 53 = .ok (.aload_n 0, 1) := dk_42 (dk_at dksX1_height_2 5 rfl rfl)
theorem dX1_height_54 : decode cX1_height 54 = .ok (.iload_n 2, 1) := dk_28 (dk_at dksX1_height_2 6 rfl rfl)
theorem dX1_height_55 : decode cX1_height 55 = .ok (.invokevirtual 176, 3) := dk_182 0 176 (dk_at dksX1_height_2 7 rfl rfl)
theorem dX1_height_58 : decode cX1_height 58 = .ok (.ireturn, 1) := dk_172 (dk_at dksX1_height_2 10 rfl rfl)
abbrev cX1_hung : ByteArray := prog_1_method_29_code
def yX1_hung : MethodName := ⟨RX1, "hung", "(II)I"⟩
def dkwX1_hung_3 : List UInt8 := [167, 255, 213, 42, 16, 254, 182, 0, 176, 172]
abbrev dktX1_hung_3 : List UInt8 := dkwX1_hung_3 ++ []
def dkwX1_hung_2 : List UInt8 := [27, 159, 0, 6, 167, 0, 17, 29, 154, 0, 10, 42, 21, 4, 182, 0, 176, 172, 132, 3, 255, 132, 4, 1]
abbrev dktX1_hung_2 : List UInt8 := dkwX1_hung_2 ++ dktX1_hung_3
def dkwX1_hung_1 : List UInt8 := [28, 62, 3, 54, 4, 21, 4, 42, 182, 0, 179, 162, 0, 40, 42, 180, 0, 36, 180, 0, 241, 21, 4, 46]
abbrev dktX1_hung_1 : List UInt8 := dkwX1_hung_1 ++ dktX1_hung_2
def dkwX1_hung_0 : List UInt8 := [42, 4, 188, 10, 89, 3, 27, 79, 182, 0, 230, 153, 0, 7, 28, 156, 0, 9, 42, 4, 182, 0, 98, 172]
abbrev dktX1_hung_0 : List UInt8 := dkwX1_hung_0 ++ dktX1_hung_1
theorem dksX1_hung_0 : cX1_hung.data.toList.drop 0 = dktX1_hung_0 := by decide +kernel
theorem dksX1_hung_1 : cX1_hung.data.toList.drop 24 = dktX1_hung_1 := dk_seg dksX1_hung_0 24 rfl rfl
theorem dksX1_hung_2 : cX1_hung.data.toList.drop 48 = dktX1_hung_2 := dk_seg dksX1_hung_1 24 rfl rfl
theorem dksX1_hung_3 : cX1_hung.data.toList.drop 72 = dktX1_hung_3 := dk_seg dksX1_hung_2 24 rfl rfl
theorem dX1_hung_0 : decode cX1_hung 0 = .ok (.aload_n 0, 1) := dk_42 (dk_at dksX1_hung_0 0 rfl rfl)
theorem dX1_hung_1 : decode cX1_hung 1 = .ok (.iconst 1, 1) := dk_4 (dk_at dksX1_hung_0 1 rfl rfl)
theorem dX1_hung_2 : decode cX1_hung 2 = .ok (.newarray .int, 2) := dk_188_10 (dk_at dksX1_hung_0 2 rfl rfl)
theorem dX1_hung_4 : decode cX1_hung 4 = .ok (.dup, 1) := dk_89 (dk_at dksX1_hung_0 4 rfl rfl)
theorem dX1_hung_5 : decode cX1_hung 5 = .ok (.iconst 0, 1) := dk_3 (dk_at dksX1_hung_0 5 rfl rfl)
theorem dX1_hung_6 : decode cX1_hung 6 = .ok (.iload_n 1, 1) := dk_27 (dk_at dksX1_hung_0 6 rfl rfl)
theorem dX1_hung_7 : decode cX1_hung 7 = .ok (.iastore, 1) := dk_79 (dk_at dksX1_hung_0 7 rfl rfl)
theorem dX1_hung_8 : decode cX1_hung 8 = .ok (.invokevirtual 230, 3) := dk_182 0 230 (dk_at dksX1_hung_0 8 rfl rfl)
theorem dX1_hung_11 : decode cX1_hung 11 = .ok (.ifCond .eq 7, 3) := dk_153 0 7 (dk_at dksX1_hung_0 11 rfl rfl)
theorem dX1_hung_14 : decode cX1_hung 14 = .ok (.iload_n 2, 1) := dk_28 (dk_at dksX1_hung_0 14 rfl rfl)
theorem dX1_hung_15 : decode cX1_hung 15 = .ok (.ifCond .ge 9, 3) := dk_156 0 9 (dk_at dksX1_hung_0 15 rfl rfl)
theorem dX1_hung_18 : decode cX1_hung 18 = .ok (.aload_n 0, 1) := dk_42 (dk_at dksX1_hung_0 18 rfl rfl)
theorem dX1_hung_19 : decode cX1_hung 19 = .ok (.iconst 1, 1) := dk_4 (dk_at dksX1_hung_0 19 rfl rfl)
theorem dX1_hung_20 : decode cX1_hung 20 = .ok (.invokevirtual 98, 3) := dk_182 0 98 (dk_at dksX1_hung_0 20 rfl rfl)
theorem dX1_hung_23 : decode cX1_hung 23 = .ok (.ireturn, 1) := dk_172 (dk_at dksX1_hung_0 23 rfl rfl)
theorem dX1_hung_24 : decode cX1_hung 24 = .ok (.iload_n 2, 1) := dk_28 (dk_at dksX1_hung_1 0 rfl rfl)
theorem dX1_hung_25 : decode cX1_hung 25 = .ok (.istore_n 3, 1) := dk_62 (dk_at dksX1_hung_1 1 rfl rfl)
theorem dX1_hung_26 : decode cX1_hung 26 = .ok (.iconst 0, 1) := dk_3 (dk_at dksX1_hung_1 2 rfl rfl)
theorem dX1_hung_27 : decode cX1_hung 27 = .ok (.istore 4, 2) := dk_54 4 (dk_at dksX1_hung_1 3 rfl rfl)
theorem dX1_hung_29 : decode cX1_hung 29 = .ok (.iload 4, 2) := dk_21 4 (dk_at dksX1_hung_1 5 rfl rfl)
theorem dX1_hung_31 : decode cX1_hung 31 = .ok (.aload_n 0, 1) := dk_42 (dk_at dksX1_hung_1 7 rfl rfl)
theorem dX1_hung_32 : decode cX1_hung 32 = .ok (.invokevirtual 179, 3) := dk_182 0 179 (dk_at dksX1_hung_1 8 rfl rfl)
theorem dX1_hung_35 : decode cX1_hung 35 = .ok (.if_icmp .ge 40, 3) := dk_162 0 40 (dk_at dksX1_hung_1 11 rfl rfl)
theorem dX1_hung_38 : decode cX1_hung 38 = .ok (.aload_n 0, 1) := dk_42 (dk_at dksX1_hung_1 14 rfl rfl)
theorem dX1_hung_39 : decode cX1_hung 39 = .ok (.getfield 36, 3) := dk_180 0 36 (dk_at dksX1_hung_1 15 rfl rfl)
theorem dX1_hung_42 : decode cX1_hung 42 = .ok (.getfield 241, 3) := dk_180 0 241 (dk_at dksX1_hung_1 18 rfl rfl)
theorem dX1_hung_45 : decode cX1_hung 45 = .ok (.iload 4, 2) := dk_21 4 (dk_at dksX1_hung_1 21 rfl rfl)
theorem dX1_hung_47 : decode cX1_hung 47 = .ok (.iaload, 1) := dk_46 (dk_at dksX1_hung_1 23 rfl rfl)
theorem dX1_hung_48 : decode cX1_hung 48 = .ok (.iload_n 1, 1) := dk_27 (dk_at dksX1_hung_2 0 rfl rfl)
theorem dX1_hung_49 : decode cX1_hung 49 = .ok (.if_icmp .eq 6, 3) := dk_159 0 6 (dk_at dksX1_hung_2 1 rfl rfl)
theorem dX1_hung_52 : decode cX1_hung 52 = .ok (.goto 17, 3) := dk_167 0 17 (dk_at dksX1_hung_2 4 rfl rfl)
theorem dX1_hung_55 : decode cX1_hung 55 = .ok (.iload_n 3, 1) := dk_29 (dk_at dksX1_hung_2 7 rfl rfl)
theorem dX1_hung_56 : decode cX1_hung 56 = .ok (.ifCond .ne 10, 3) := dk_154 0 10 (dk_at dksX1_hung_2 8 rfl rfl)
theorem dX1_hung_59 : decode cX1_hung 59 = .ok (.aload_n 0, 1) := dk_42 (dk_at dksX1_hung_2 11 rfl rfl)
theorem dX1_hung_60 : decode cX1_hung 60 = .ok (.iload 4, 2) := dk_21 4 (dk_at dksX1_hung_2 12 rfl rfl)
theorem dX1_hung_62 : decode cX1_hung 62 = .ok (.invokevirtual 176, 3) := dk_182 0 176 (dk_at dksX1_hung_2 14 rfl rfl)
theorem dX1_hung_65 : decode cX1_hung 65 = .ok (.ireturn, 1) := dk_172 (dk_at dksX1_hung_2 17 rfl rfl)
theorem dX1_hung_66 : decode cX1_hung 66 = .ok (.iinc 3 (-1), 3) := dk_132 3 255 (dk_at dksX1_hung_2 18 rfl rfl)
theorem dX1_hung_69 : decode cX1_hung 69 = .ok (.iinc 4 1, 3) := dk_132 4 1 (dk_at dksX1_hung_2 21 rfl rfl)
theorem dX1_hung_72 : decode cX1_hung 72 = .ok (.goto (-43), 3) := dk_167 255 213 (dk_at dksX1_hung_3 0 rfl rfl)
theorem dX1_hung_75 : decode cX1_hung 75 = .ok (.aload_n 0, 1) := dk_42 (dk_at dksX1_hung_3 3 rfl rfl)
theorem dX1_hung_76 : decode cX1_hung 76 = .ok (.bipush (-2), 2) := dk_16 254 (dk_at dksX1_hung_3 4 rfl rfl)
theorem dX1_hung_78 : decode cX1_hung 78 = .ok (.invokevirtual 176, 3) := dk_182 0 176 (dk_at dksX1_hung_3 6 rfl rfl)
theorem dX1_hung_81 : decode cX1_hung 81 = .ok (.ireturn, 1) := dk_172 (dk_at dksX1_hung_3 9 rfl rfl)
abbrev cX1_equal : ByteArray := prog_1_method_30_code
def yX1_equal : MethodName := ⟨RX1, "equal", "(II)I"⟩
def dkwX1_equal_1 : List UInt8 := [28, 182, 0, 234, 153, 0, 7, 4, 167, 0, 4, 3, 182, 0, 176, 167, 0, 8, 42, 4, 182, 0, 98, 172]
abbrev dktX1_equal_1 : List UInt8 := dkwX1_equal_1 ++ []
def dkwX1_equal_0 : List UInt8 := [42, 5, 188, 10, 89, 3, 27, 79, 89, 4, 28, 79, 182, 0, 230, 153, 0, 27, 42, 42, 180, 0, 36, 27]
abbrev dktX1_equal_0 : List UInt8 := dkwX1_equal_0 ++ dktX1_equal_1
theorem dksX1_equal_0 : cX1_equal.data.toList.drop 0 = dktX1_equal_0 := by decide +kernel
theorem dksX1_equal_1 : cX1_equal.data.toList.drop 24 = dktX1_equal_1 := dk_seg dksX1_equal_0 24 rfl rfl
theorem dX1_equal_0 : decode cX1_equal 0 = .ok (.aload_n 0, 1) := dk_42 (dk_at dksX1_equal_0 0 rfl rfl)
theorem dX1_equal_1 : decode cX1_equal 1 = .ok (.iconst 2, 1) := dk_5 (dk_at dksX1_equal_0 1 rfl rfl)
theorem dX1_equal_2 : decode cX1_equal 2 = .ok (.newarray .int, 2) := dk_188_10 (dk_at dksX1_equal_0 2 rfl rfl)
theorem dX1_equal_4 : decode cX1_equal 4 = .ok (.dup, 1) := dk_89 (dk_at dksX1_equal_0 4 rfl rfl)
theorem dX1_equal_5 : decode cX1_equal 5 = .ok (.iconst 0, 1) := dk_3 (dk_at dksX1_equal_0 5 rfl rfl)
theorem dX1_equal_6 : decode cX1_equal 6 = .ok (.iload_n 1, 1) := dk_27 (dk_at dksX1_equal_0 6 rfl rfl)
theorem dX1_equal_7 : decode cX1_equal 7 = .ok (.iastore, 1) := dk_79 (dk_at dksX1_equal_0 7 rfl rfl)
theorem dX1_equal_8 : decode cX1_equal 8 = .ok (.dup, 1) := dk_89 (dk_at dksX1_equal_0 8 rfl rfl)
theorem dX1_equal_9 : decode cX1_equal 9 = .ok (.iconst 1, 1) := dk_4 (dk_at dksX1_equal_0 9 rfl rfl)
theorem dX1_equal_10 : decode cX1_equal 10 = .ok (.iload_n 2, 1) := dk_28 (dk_at dksX1_equal_0 10 rfl rfl)
theorem dX1_equal_11 : decode cX1_equal 11 = .ok (.iastore, 1) := dk_79 (dk_at dksX1_equal_0 11 rfl rfl)
theorem dX1_equal_12 : decode cX1_equal 12 = .ok (.invokevirtual 230, 3) := dk_182 0 230 (dk_at dksX1_equal_0 12 rfl rfl)
theorem dX1_equal_15 : decode cX1_equal 15 = .ok (.ifCond .eq 27, 3) := dk_153 0 27 (dk_at dksX1_equal_0 15 rfl rfl)
theorem dX1_equal_18 : decode cX1_equal 18 = .ok (.aload_n 0, 1) := dk_42 (dk_at dksX1_equal_0 18 rfl rfl)
theorem dX1_equal_19 : decode cX1_equal 19 = .ok (.aload_n 0, 1) := dk_42 (dk_at dksX1_equal_0 19 rfl rfl)
theorem dX1_equal_20 : decode cX1_equal 20 = .ok (.getfield 36, 3) := dk_180 0 36 (dk_at dksX1_equal_0 20 rfl rfl)
theorem dX1_equal_23 : decode cX1_equal 23 = .ok (.iload_n 1, 1) := dk_27 (dk_at dksX1_equal_0 23 rfl rfl)
theorem dX1_equal_24 : decode cX1_equal 24 = .ok (.iload_n 2, 1) := dk_28 (dk_at dksX1_equal_1 0 rfl rfl)
theorem dX1_equal_25 : decode cX1_equal 25 = .ok (.invokevirtual 234, 3) := dk_182 0 234 (dk_at dksX1_equal_1 1 rfl rfl)
theorem dX1_equal_28 : decode cX1_equal 28 = .ok (.ifCond .eq 7, 3) := dk_153 0 7 (dk_at dksX1_equal_1 4 rfl rfl)
theorem dX1_equal_31 : decode cX1_equal 31 = .ok (.iconst 1, 1) := dk_4 (dk_at dksX1_equal_1 7 rfl rfl)
theorem dX1_equal_32 : decode cX1_equal 32 = .ok (.goto 4, 3) := dk_167 0 4 (dk_at dksX1_equal_1 8 rfl rfl)
theorem dX1_equal_35 : decode cX1_equal 35 = .ok (.iconst 0, 1) := dk_3 (dk_at dksX1_equal_1 11 rfl rfl)
theorem dX1_equal_36 : decode cX1_equal 36 = .ok (.invokevirtual 176, 3) := dk_182 0 176 (dk_at dksX1_equal_1 12 rfl rfl)
theorem dX1_equal_39 : decode cX1_equal 39 = .ok (.goto 8, 3) := dk_167 0 8 (dk_at dksX1_equal_1 15 rfl rfl)
theorem dX1_equal_42 : decode cX1_equal 42 = .ok (.aload_n 0, 1) := dk_42 (dk_at dksX1_equal_1 18 rfl rfl)
theorem dX1_equal_43 : decode cX1_equal 43 = .ok (.iconst 1, 1) := dk_4 (dk_at dksX1_equal_1 19 rfl rfl)
theorem dX1_equal_44 : decode cX1_equal 44 = .ok (.invokevirtual 98, 3) := dk_182 0 98 (dk_at dksX1_equal_1 20 rfl rfl)
theorem dX1_equal_47 : decode cX1_equal 47 = .ok (.ireturn, 1) := dk_172 (dk_at dksX1_equal_1 23 rfl rfl)
abbrev cX1_apart : ByteArray := prog_1_method_31_code
def yX1_apart : MethodName := ⟨RX1, "apart", "(II)I"⟩
def dkwX1_apart_6 : List UInt8 := [172]
abbrev dktX1_apart_6 : List UInt8 := dkwX1_apart_6 ++ []
def dkwX1_apart_5 : List UInt8 := [27, 182, 0, 234, 153, 0, 9, 42, 4, 182, 0, 176, 172, 132, 3, 1, 167, 255, 149, 42, 3, 182, 0, 176]
abbrev dktX1_apart_5 : List UInt8 := dkwX1_apart_5 ++ dktX1_apart_6
def dkwX1_apart_4 : List UInt8 := [180, 0, 36, 25, 4, 180, 0, 159, 28, 182, 0, 234, 153, 0, 25, 42, 180, 0, 36, 25, 4, 180, 0, 162]
abbrev dktX1_apart_4 : List UInt8 := dkwX1_apart_4 ++ dktX1_apart_5
def dkwX1_apart_3 : List UInt8 := [182, 0, 234, 153, 0, 19, 42, 180, 0, 36, 25, 4, 180, 0, 162, 28, 182, 0, 234, 154, 0, 35, 42]
abbrev dktX1_apart_3 : List UInt8 := dkwX1_apart_3 ++ dktX1_apart_4
def dkwX1_apart_2 : List UInt8 := [180, 0, 181, 29, 185, 0, 153, 2, 0, 192, 0, 157, 58, 4, 42, 180, 0, 36, 25, 4, 180, 0, 159, 27]
abbrev dktX1_apart_2 : List UInt8 := dkwX1_apart_2 ++ dktX1_apart_3
def dkwX1_apart_1 : List UInt8 := [3, 62, 29, 42, 180, 0, 23, 180, 0, 181, 185, 0, 169, 1, 0, 162, 0, 97, 42, 180, 0, 23]
abbrev dktX1_apart_1 : List UInt8 := dkwX1_apart_1 ++ dktX1_apart_2
def dkwX1_apart_0 : List UInt8 := [42, 5, 188, 10, 89, 3, 27, 79, 89, 4, 28, 79, 182, 0, 230, 154, 0, 9, 42, 4, 182, 0, 98, 172]
abbrev dktX1_apart_0 : List UInt8 := dkwX1_apart_0 ++ dktX1_apart_1
theorem dksX1_apart_0 : cX1_apart.data.toList.drop 0 = dktX1_apart_0 := by decide +kernel
theorem dksX1_apart_1 : cX1_apart.data.toList.drop 24 = dktX1_apart_1 := dk_seg dksX1_apart_0 24 rfl rfl
theorem dksX1_apart_2 : cX1_apart.data.toList.drop 46 = dktX1_apart_2 := dk_seg dksX1_apart_1 22 rfl rfl
theorem dksX1_apart_3 : cX1_apart.data.toList.drop 70 = dktX1_apart_3 := dk_seg dksX1_apart_2 24 rfl rfl
theorem dksX1_apart_4 : cX1_apart.data.toList.drop 93 = dktX1_apart_4 := dk_seg dksX1_apart_3 23 rfl rfl
theorem dksX1_apart_5 : cX1_apart.data.toList.drop 117 = dktX1_apart_5 := dk_seg dksX1_apart_4 24 rfl rfl
theorem dksX1_apart_6 : cX1_apart.data.toList.drop 141 = dktX1_apart_6 := dk_seg dksX1_apart_5 24 rfl rfl
theorem dX1_apart_0 : decode cX1_apart 0 = .ok (.aload_n 0, 1) := dk_42 (dk_at dksX1_apart_0 0 rfl rfl)
theorem dX1_apart_1 : decode cX1_apart 1 = .ok (.iconst 2, 1) := dk_5 (dk_at dksX1_apart_0 1 rfl rfl)
theorem dX1_apart_2 : decode cX1_apart 2 = .ok (.newarray .int, 2) := dk_188_10 (dk_at dksX1_apart_0 2 rfl rfl)
theorem dX1_apart_4 : decode cX1_apart 4 = .ok (.dup, 1) := dk_89 (dk_at dksX1_apart_0 4 rfl rfl)
theorem dX1_apart_5 : decode cX1_apart 5 = .ok (.iconst 0, 1) := dk_3 (dk_at dksX1_apart_0 5 rfl rfl)
theorem dX1_apart_6 : decode cX1_apart 6 = .ok (.iload_n 1, 1) := dk_27 (dk_at dksX1_apart_0 6 rfl rfl)
theorem dX1_apart_7 : decode cX1_apart 7 = .ok (.iastore, 1) := dk_79 (dk_at dksX1_apart_0 7 rfl rfl)
theorem dX1_apart_8 : decode cX1_apart 8 = .ok (.dup, 1) := dk_89 (dk_at dksX1_apart_0 8 rfl rfl)
theorem dX1_apart_9 : decode cX1_apart 9 = .ok (.iconst 1, 1) := dk_4 (dk_at dksX1_apart_0 9 rfl rfl)
theorem dX1_apart_10 : decode cX1_apart 10 = .ok (.iload_n 2, 1) := dk_28 (dk_at dksX1_apart_0 10 rfl rfl)
theorem dX1_apart_11 : decode cX1_apart 11 = .ok (.iastore, 1) := dk_79 (dk_at dksX1_apart_0 11 rfl rfl)
theorem dX1_apart_12 : decode cX1_apart 12 = .ok (.invokevirtual 230, 3) := dk_182 0 230 (dk_at dksX1_apart_0 12 rfl rfl)
theorem dX1_apart_15 : decode cX1_apart 15 = .ok (.ifCond .ne 9, 3) := dk_154 0 9 (dk_at dksX1_apart_0 15 rfl rfl)
theorem dX1_apart_18 : decode cX1_apart 18 = .ok (.aload_n 0, 1) := dk_42 (dk_at dksX1_apart_0 18 rfl rfl)
theorem dX1_apart_19 : decode cX1_apart 19 = .ok (.iconst 1, 1) := dk_4 (dk_at dksX1_apart_0 19 rfl rfl)
theorem dX1_apart_20 : decode cX1_apart 20 = .ok (.invokevirtual 98, 3) := dk_182 0 98 (dk_at dksX1_apart_0 20 rfl rfl)
theorem dX1_apart_23 : decode cX1_apart 23 = .ok (.ireturn, 1) := dk_172 (dk_at dksX1_apart_0 23 rfl rfl)
theorem dX1_apart_24 : decode cX1_apart 24 = .ok (.iconst 0, 1) := dk_3 (dk_at dksX1_apart_1 0 rfl rfl)
theorem dX1_apart_25 : decode cX1_apart 25 = .ok (.istore_n 3, 1) := dk_62 (dk_at dksX1_apart_1 1 rfl rfl)
theorem dX1_apart_26 : decode cX1_apart 26 = .ok (.iload_n 3, 1) := dk_29 (dk_at dksX1_apart_1 2 rfl rfl)
theorem dX1_apart_27 : decode cX1_apart 27 = .ok (.aload_n 0, 1) := dk_42 (dk_at dksX1_apart_1 3 rfl rfl)
theorem dX1_apart_28 : decode cX1_apart 28 = .ok (.getfield 23, 3) := dk_180 0 23 (dk_at dksX1_apart_1 4 rfl rfl)
theorem dX1_apart_31 : decode cX1_apart 31 = .ok (.getfield 181, 3) := dk_180 0 181 (dk_at dksX1_apart_1 7 rfl rfl)
theorem dX1_apart_34 : decode cX1_apart 34 = .ok (.invokeinterface 169 1, 5) := by decide +kernel
theorem dX1_apart_39 : decode cX1_apart 39 = .ok (.if_icmp .ge 97, 3) := dk_162 0 97 (dk_at dksX1_apart_1 15 rfl rfl)
theorem dX1_apart_42 : decode cX1_apart 42 = .ok (.aload_n 0, 1) := dk_42 (dk_at dksX1_apart_1 18 rfl rfl)
theorem dX1_apart_43 : decode cX1_apart 43 = .ok (.getfield 23, 3) := dk_180 0 23 (dk_at dksX1_apart_1 19 rfl rfl)
theorem dX1_apart_46 : decode cX1_apart 46 = .ok (.getfield 181, 3) := dk_180 0 181 (dk_at dksX1_apart_2 0 rfl rfl)
theorem dX1_apart_49 : decode cX1_apart 49 = .ok (.iload_n 3, 1) := dk_29 (dk_at dksX1_apart_2 3 rfl rfl)
theorem dX1_apart_50 : decode cX1_apart 50 = .ok (.invokeinterface 153 2, 5) := by decide +kernel
theorem dX1_apart_55 : decode cX1_apart 55 = .ok (.checkcast 157, 3) := dk_192 0 157 (dk_at dksX1_apart_2 9 rfl rfl)
theorem dX1_apart_58 : decode cX1_apart 58 = .ok (.astore 4, 2) := dk_58 4 (dk_at dksX1_apart_2 12 rfl rfl)
theorem dX1_apart_60 : decode cX1_apart 60 = .ok (.aload_n 0, 1) := dk_42 (dk_at dksX1_apart_2 14 rfl rfl)
theorem dX1_apart_61 : decode cX1_apart 61 = .ok (.getfield 36, 3) := dk_180 0 36 (dk_at dksX1_apart_2 15 rfl rfl)
theorem dX1_apart_64 : decode cX1_apart 64 = .ok (.aload 4, 2) := dk_25 4 (dk_at dksX1_apart_2 18 rfl rfl)
theorem dX1_apart_66 : decode cX1_apart 66 = .ok (.getfield 159, 3) := dk_180 0 159 (dk_at dksX1_apart_2 20 rfl rfl)
theorem dX1_apart_69 : decode cX1_apart 69 = .ok (.iload_n 1, 1) := dk_27 (dk_at dksX1_apart_2 23 rfl rfl)
theorem dX1_apart_70 : decode cX1_apart 70 = .ok (.invokevirtual 234, 3) := dk_182 0 234 (dk_at dksX1_apart_3 0 rfl rfl)
theorem dX1_apart_73 : decode cX1_apart 73 = .ok (.ifCond .eq 19, 3) := dk_153 0 19 (dk_at dksX1_apart_3 3 rfl rfl)
theorem dX1_apart_76 : decode cX1_apart 76 = .ok (.aload_n 0, 1) := dk_42 (dk_at dksX1_apart_3 6 rfl rfl)
theorem dX1_apart_77 : decode cX1_apart 77 = .ok (.getfield 36, 3) := dk_180 0 36 (dk_at dksX1_apart_3 7 rfl rfl)
theorem dX1_apart_80 : decode cX1_apart 80 = .ok (.aload 4, 2) := dk_25 4 (dk_at dksX1_apart_3 10 rfl rfl)
theorem dX1_apart_82 : decode cX1_apart 82 = .ok (.getfield 162, 3) := dk_180 0 162 (dk_at dksX1_apart_3 12 rfl rfl)
theorem dX1_apart_85 : decode cX1_apart 85 = .ok (.iload_n 2, 1) := dk_28 (dk_at dksX1_apart_3 15 rfl rfl)
theorem dX1_apart_86 : decode cX1_apart 86 = .ok (.invokevirtual 234, 3) := dk_182 0 234 (dk_at dksX1_apart_3 16 rfl rfl)
theorem dX1_apart_89 : decode cX1_apart 89 = .ok (.ifCond .ne 35, 3) := dk_154 0 35 (dk_at dksX1_apart_3 19 rfl rfl)
theorem dX1_apart_92 : decode cX1_apart 92 = .ok (.aload_n 0, 1) := dk_42 (dk_at dksX1_apart_3 22 rfl rfl)
theorem dX1_apart_93 : decode cX1_apart 93 = .ok (.getfield 36, 3) := dk_180 0 36 (dk_at dksX1_apart_4 0 rfl rfl)
theorem dX1_apart_96 : decode cX1_apart 96 = .ok (.aload 4, 2) := dk_25 4 (dk_at dksX1_apart_4 3 rfl rfl)
theorem dX1_apart_98 : decode cX1_apart 98 = .ok (.getfield 159, 3) := dk_180 0 159 (dk_at dksX1_apart_4 5 rfl rfl)
theorem dX1_apart_101 : decode cX1_apart 101 = .ok (.iload_n 2, 1) := dk_28 (dk_at dksX1_apart_4 8 rfl rfl)
theorem dX1_apart_102 : decode cX1_apart 102 = .ok (.invokevirtual 234, 3) := dk_182 0 234 (dk_at dksX1_apart_4 9 rfl rfl)
theorem dX1_apart_105 : decode cX1_apart 105 = .ok (.ifCond .eq 25, 3) := dk_153 0 25 (dk_at dksX1_apart_4 12 rfl rfl)
theorem dX1_apart_108 : decode cX1_apart 108 = .ok (.aload_n 0, 1) := dk_42 (dk_at dksX1_apart_4 15 rfl rfl)
theorem dX1_apart_109 : decode cX1_apart 109 = .ok (.getfield 36, 3) := dk_180 0 36 (dk_at dksX1_apart_4 16 rfl rfl)
theorem dX1_apart_112 : decode cX1_apart 112 = .ok (.aload 4, 2) := dk_25 4 (dk_at dksX1_apart_4 19 rfl rfl)
theorem dX1_apart_114 : decode cX1_apart 114 = .ok (.getfield 162, 3) := dk_180 0 162 (dk_at dksX1_apart_4 21 rfl rfl)
theorem dX1_apart_117 : decode cX1_apart 117 = .ok (.iload_n 1, 1) := dk_27 (dk_at dksX1_apart_5 0 rfl rfl)
theorem dX1_apart_118 : decode cX1_apart 118 = .ok (.invokevirtual 234, 3) := dk_182 0 234 (dk_at dksX1_apart_5 1 rfl rfl)
theorem dX1_apart_121 : decode cX1_apart 121 = .ok (.ifCond .eq 9, 3) := dk_153 0 9 (dk_at dksX1_apart_5 4 rfl rfl)
theorem dX1_apart_124 : decode cX1_apart 124 = .ok (.aload_n 0, 1) := dk_42 (dk_at dksX1_apart_5 7 rfl rfl)
theorem dX1_apart_125 : decode cX1_apart 125 = .ok (.iconst 1, 1) := dk_4 (dk_at dksX1_apart_5 8 rfl rfl)
theorem dX1_apart_126 : decode cX1_apart 126 = .ok (.invokevirtual 176, 3) := dk_182 0 176 (dk_at dksX1_apart_5 9 rfl rfl)
theorem dX1_apart_129 : decode cX1_apart 129 = .ok (.ireturn, 1) := dk_172 (dk_at dksX1_apart_5 12 rfl rfl)
theorem dX1_apart_130 : decode cX1_apart 130 = .ok (.iinc 3 1, 3) := dk_132 3 1 (dk_at dksX1_apart_5 13 rfl rfl)
theorem dX1_apart_133 : decode cX1_apart 133 = .ok (.goto (-107), 3) := dk_167 255 149 (dk_at dksX1_apart_5 16 rfl rfl)
theorem dX1_apart_136 : decode cX1_apart 136 = .ok (.aload_n 0, 1) := dk_42 (dk_at dksX1_apart_5 19 rfl rfl)
theorem dX1_apart_137 : decode cX1_apart 137 = .ok (.iconst 0, 1) := dk_3 (dk_at dksX1_apart_5 20 rfl rfl)
theorem dX1_apart_138 : decode cX1_apart 138 = .ok (.invokevirtual 176, 3) := dk_182 0 176 (dk_at dksX1_apart_5 21 rfl rfl)
theorem dX1_apart_141 : decode cX1_apart 141 = .ok (.ireturn, 1) := dk_172 (dk_at dksX1_apart_6 0 rfl rfl)
abbrev cX1_reasons : ByteArray := prog_1_method_33_code
def yX1_reasons : MethodName := ⟨RX1, "reasons", "(II)I"⟩
def dkwX1_reasons_1 : List UInt8 := [27, 28, 182, 1, 14, 182, 0, 176, 172]
abbrev dktX1_reasons_1 : List UInt8 := dkwX1_reasons_1 ++ []
def dkwX1_reasons_0 : List UInt8 := [42, 27, 28, 182, 1, 11, 62, 29, 158, 0, 11, 42, 29, 182, 0, 98, 167, 0, 16, 42, 42, 180, 0, 36]
abbrev dktX1_reasons_0 : List UInt8 := dkwX1_reasons_0 ++ dktX1_reasons_1
theorem dksX1_reasons_0 : cX1_reasons.data.toList.drop 0 = dktX1_reasons_0 := by decide +kernel
theorem dksX1_reasons_1 : cX1_reasons.data.toList.drop 24 = dktX1_reasons_1 := dk_seg dksX1_reasons_0 24 rfl rfl
theorem dX1_reasons_0 : decode cX1_reasons 0 = .ok (.aload_n 0, 1) := dk_42 (dk_at dksX1_reasons_0 0 rfl rfl)
theorem dX1_reasons_1 : decode cX1_reasons 1 = .ok (.iload_n 1, 1) := dk_27 (dk_at dksX1_reasons_0 1 rfl rfl)
theorem dX1_reasons_2 : decode cX1_reasons 2 = .ok (.iload_n 2, 1) := dk_28 (dk_at dksX1_reasons_0 2 rfl rfl)
theorem dX1_reasons_3 : decode cX1_reasons 3 = .ok (.invokevirtual 267, 3) := dk_182 1 11 (dk_at dksX1_reasons_0 3 rfl rfl)
theorem dX1_reasons_6 : decode cX1_reasons 6 = .ok (.istore_n 3, 1) := dk_62 (dk_at dksX1_reasons_0 6 rfl rfl)
theorem dX1_reasons_7 : decode cX1_reasons 7 = .ok (.iload_n 3, 1) := dk_29 (dk_at dksX1_reasons_0 7 rfl rfl)
theorem dX1_reasons_8 : decode cX1_reasons 8 = .ok (.ifCond .le 11, 3) := dk_158 0 11 (dk_at dksX1_reasons_0 8 rfl rfl)
theorem dX1_reasons_11 : decode cX1_reasons 11 = .ok (.aload_n 0, 1) := dk_42 (dk_at dksX1_reasons_0 11 rfl rfl)
theorem dX1_reasons_12 : decode cX1_reasons 12 = .ok (.iload_n 3, 1) := dk_29 (dk_at dksX1_reasons_0 12 rfl rfl)
theorem dX1_reasons_13 : decode cX1_reasons 13 = .ok (.invokevirtual 98, 3) := dk_182 0 98 (dk_at dksX1_reasons_0 13 rfl rfl)
theorem dX1_reasons_16 : decode cX1_reasons 16 = .ok (.goto 16, 3) := dk_167 0 16 (dk_at dksX1_reasons_0 16 rfl rfl)
theorem dX1_reasons_19 : decode cX1_reasons 19 = .ok (.aload_n 0, 1) := dk_42 (dk_at dksX1_reasons_0 19 rfl rfl)
theorem dX1_reasons_20 : decode cX1_reasons 20 = .ok (.aload_n 0, 1) := dk_42 (dk_at dksX1_reasons_0 20 rfl rfl)
theorem dX1_reasons_21 : decode cX1_reasons 21 = .ok (.getfield 36, 3) := dk_180 0 36 (dk_at dksX1_reasons_0 21 rfl rfl)
theorem dX1_reasons_24 : decode cX1_reasons 24 = .ok (.iload_n 1, 1) := dk_27 (dk_at dksX1_reasons_1 0 rfl rfl)
theorem dX1_reasons_25 : decode cX1_reasons 25 = .ok (.iload_n 2, 1) := dk_28 (dk_at dksX1_reasons_1 1 rfl rfl)
theorem dX1_reasons_26 : decode cX1_reasons 26 = .ok (.invokevirtual 270, 3) := dk_182 1 14 (dk_at dksX1_reasons_1 2 rfl rfl)
theorem dX1_reasons_29 : decode cX1_reasons 29 = .ok (.invokevirtual 176, 3) := dk_182 0 176 (dk_at dksX1_reasons_1 5 rfl rfl)
theorem dX1_reasons_32 : decode cX1_reasons 32 = .ok (.ireturn, 1) := dk_172 (dk_at dksX1_reasons_1 8 rfl rfl)
abbrev cX1_why : ByteArray := prog_1_method_32_code
def yX1_why : MethodName := ⟨RX1, "why", "(II)I"⟩
def dkwX1_why_1 : List UInt8 := [180, 0, 36, 27, 28, 182, 0, 234, 154, 0, 7, 8, 167, 0, 4, 3, 172]
abbrev dktX1_why_1 : List UInt8 := dkwX1_why_1 ++ []
def dkwX1_why_0 : List UInt8 := [42, 5, 188, 10, 89, 3, 27, 79, 89, 4, 28, 79, 182, 0, 230, 154, 0, 7, 4, 167, 0, 20, 42]
abbrev dktX1_why_0 : List UInt8 := dkwX1_why_0 ++ dktX1_why_1
theorem dksX1_why_0 : cX1_why.data.toList.drop 0 = dktX1_why_0 := by decide +kernel
theorem dksX1_why_1 : cX1_why.data.toList.drop 23 = dktX1_why_1 := dk_seg dksX1_why_0 23 rfl rfl
theorem dX1_why_0 : decode cX1_why 0 = .ok (.aload_n 0, 1) := dk_42 (dk_at dksX1_why_0 0 rfl rfl)
theorem dX1_why_1 : decode cX1_why 1 = .ok (.iconst 2, 1) := dk_5 (dk_at dksX1_why_0 1 rfl rfl)
theorem dX1_why_2 : decode cX1_why 2 = .ok (.newarray .int, 2) := dk_188_10 (dk_at dksX1_why_0 2 rfl rfl)
theorem dX1_why_4 : decode cX1_why 4 = .ok (.dup, 1) := dk_89 (dk_at dksX1_why_0 4 rfl rfl)
theorem dX1_why_5 : decode cX1_why 5 = .ok (.iconst 0, 1) := dk_3 (dk_at dksX1_why_0 5 rfl rfl)
theorem dX1_why_6 : decode cX1_why 6 = .ok (.iload_n 1, 1) := dk_27 (dk_at dksX1_why_0 6 rfl rfl)
theorem dX1_why_7 : decode cX1_why 7 = .ok (.iastore, 1) := dk_79 (dk_at dksX1_why_0 7 rfl rfl)
theorem dX1_why_8 : decode cX1_why 8 = .ok (.dup, 1) := dk_89 (dk_at dksX1_why_0 8 rfl rfl)
theorem dX1_why_9 : decode cX1_why 9 = .ok (.iconst 1, 1) := dk_4 (dk_at dksX1_why_0 9 rfl rfl)
theorem dX1_why_10 : decode cX1_why 10 = .ok (.iload_n 2, 1) := dk_28 (dk_at dksX1_why_0 10 rfl rfl)
theorem dX1_why_11 : decode cX1_why 11 = .ok (.iastore, 1) := dk_79 (dk_at dksX1_why_0 11 rfl rfl)
theorem dX1_why_12 : decode cX1_why 12 = .ok (.invokevirtual 230, 3) := dk_182 0 230 (dk_at dksX1_why_0 12 rfl rfl)
theorem dX1_why_15 : decode cX1_why 15 = .ok (.ifCond .ne 7, 3) := dk_154 0 7 (dk_at dksX1_why_0 15 rfl rfl)
theorem dX1_why_18 : decode cX1_why 18 = .ok (.iconst 1, 1) := dk_4 (dk_at dksX1_why_0 18 rfl rfl)
theorem dX1_why_19 : decode cX1_why 19 = .ok (.goto 20, 3) := dk_167 0 20 (dk_at dksX1_why_0 19 rfl rfl)
theorem dX1_why_22 : decode cX1_why 22 = .ok (.aload_n 0, 1) := dk_42 (dk_at dksX1_why_0 22 rfl rfl)
theorem dX1_why_23 : decode cX1_why 23 = .ok (.getfield 36, 3) := dk_180 0 36 (dk_at dksX1_why_1 0 rfl rfl)
theorem dX1_why_26 : decode cX1_why 26 = .ok (.iload_n 1, 1) := dk_27 (dk_at dksX1_why_1 3 rfl rfl)
theorem dX1_why_27 : decode cX1_why 27 = .ok (.iload_n 2, 1) := dk_28 (dk_at dksX1_why_1 4 rfl rfl)
theorem dX1_why_28 : decode cX1_why 28 = .ok (.invokevirtual 234, 3) := dk_182 0 234 (dk_at dksX1_why_1 5 rfl rfl)
theorem dX1_why_31 : decode cX1_why 31 = .ok (.ifCond .ne 7, 3) := dk_154 0 7 (dk_at dksX1_why_1 8 rfl rfl)
theorem dX1_why_34 : decode cX1_why 34 = .ok (.iconst 5, 1) := dk_8 (dk_at dksX1_why_1 11 rfl rfl)
theorem dX1_why_35 : decode cX1_why 35 = .ok (.goto 4, 3) := dk_167 0 4 (dk_at dksX1_why_1 12 rfl rfl)
theorem dX1_why_38 : decode cX1_why 38 = .ok (.iconst 0, 1) := dk_3 (dk_at dksX1_why_1 15 rfl rfl)
theorem dX1_why_39 : decode cX1_why 39 = .ok (.ireturn, 1) := dk_172 (dk_at dksX1_why_1 16 rfl rfl)
abbrev cX1_pruned : ByteArray := prog_1_method_34_code
def yX1_pruned : MethodName := ⟨RX1, "pruned", "(II)I"⟩
def dkwX1_pruned_3 : List UInt8 := [132, 5, 255, 167, 255, 216, 42, 21, 4, 182, 0, 176, 172]
abbrev dktX1_pruned_3 : List UInt8 := dkwX1_pruned_3 ++ []
def dkwX1_pruned_2 : List UInt8 := [182, 0, 255, 27, 28, 182, 1, 3, 153, 0, 14, 21, 4, 4, 21, 5, 120, 2, 130, 126, 54, 4]
abbrev dktX1_pruned_2 : List UInt8 := dkwX1_pruned_2 ++ dktX1_pruned_3
def dkwX1_pruned_1 : List UInt8 := [182, 0, 191, 4, 100, 54, 5, 21, 5, 155, 0, 41, 42, 21, 4, 4, 21, 5, 120, 2, 130, 126]
abbrev dktX1_pruned_1 : List UInt8 := dkwX1_pruned_1 ++ dktX1_pruned_2
def dkwX1_pruned_0 : List UInt8 := [42, 27, 28, 182, 1, 11, 62, 29, 158, 0, 9, 42, 29, 182, 0, 98, 172, 42, 182, 0, 252, 54, 4, 42]
abbrev dktX1_pruned_0 : List UInt8 := dkwX1_pruned_0 ++ dktX1_pruned_1
theorem dksX1_pruned_0 : cX1_pruned.data.toList.drop 0 = dktX1_pruned_0 := by decide +kernel
theorem dksX1_pruned_1 : cX1_pruned.data.toList.drop 24 = dktX1_pruned_1 := dk_seg dksX1_pruned_0 24 rfl rfl
theorem dksX1_pruned_2 : cX1_pruned.data.toList.drop 46 = dktX1_pruned_2 := dk_seg dksX1_pruned_1 22 rfl rfl
theorem dksX1_pruned_3 : cX1_pruned.data.toList.drop 68 = dktX1_pruned_3 := dk_seg dksX1_pruned_2 22 rfl rfl
theorem dX1_pruned_0 : decode cX1_pruned 0 = .ok (.aload_n 0, 1) := dk_42 (dk_at dksX1_pruned_0 0 rfl rfl)
theorem dX1_pruned_1 : decode cX1_pruned 1 = .ok (.iload_n 1, 1) := dk_27 (dk_at dksX1_pruned_0 1 rfl rfl)
theorem dX1_pruned_2 : decode cX1_pruned 2 = .ok (.iload_n 2, 1) := dk_28 (dk_at dksX1_pruned_0 2 rfl rfl)
theorem dX1_pruned_3 : decode cX1_pruned 3 = .ok (.invokevirtual 267, 3) := dk_182 1 11 (dk_at dksX1_pruned_0 3 rfl rfl)
theorem dX1_pruned_6 : decode cX1_pruned 6 = .ok (.istore_n 3, 1) := dk_62 (dk_at dksX1_pruned_0 6 rfl rfl)
theorem dX1_pruned_7 : decode cX1_pruned 7 = .ok (.iload_n 3, 1) := dk_29 (dk_at dksX1_pruned_0 7 rfl rfl)
theorem dX1_pruned_8 : decode cX1_pruned 8 = .ok (.ifCond .le 9, 3) := dk_158 0 9 (dk_at dksX1_pruned_0 8 rfl rfl)
theorem dX1_pruned_11 : decode cX1_pruned 11 = .ok (.aload_n 0, 1) := dk_42 (dk_at dksX1_pruned_0 11 rfl rfl)
theorem dX1_pruned_12 : decode cX1_pruned 12 = .ok (.iload_n 3, 1) := dk_29 (dk_at dksX1_pruned_0 12 rfl rfl)
theorem dX1_pruned_13 : decode cX1_pruned 13 = .ok (.invokevirtual 98, 3) := dk_182 0 98 (dk_at dksX1_pruned_0 13 rfl rfl)
theorem dX1_pruned_16 : decode cX1_pruned 16 = .ok (.ireturn, 1) := dk_172 (dk_at dksX1_pruned_0 16 rfl rfl)
theorem dX1_pruned_17 : decode cX1_pruned 17 = .ok (.aload_n 0, 1) := dk_42 (dk_at dksX1_pruned_0 17 rfl rfl)
theorem dX1_pruned_18 : decode cX1_pruned 18 = .ok (.invokevirtual 252, 3) := dk_182 0 252 (dk_at dksX1_pruned_0 18 rfl rfl)
theorem dX1_pruned_21 : decode cX1_pruned 21 = .ok (.istore 4, 2) := dk_54 4 (dk_at dksX1_pruned_0 21 rfl rfl)
theorem dX1_pruned_23 : decode cX1_pruned 23 = .ok (.aload_n 0, 1) := dk_42 (dk_at dksX1_pruned_0 23 rfl rfl)
theorem dX1_pruned_24 : decode cX1_pruned 24 = .ok (.invokevirtual 191, 3) := dk_182 0 191 (dk_at dksX1_pruned_1 0 rfl rfl)
theorem dX1_pruned_27 : decode cX1_pruned 27 = .ok (.iconst 1, 1) := dk_4 (dk_at dksX1_pruned_1 3 rfl rfl)
theorem dX1_pruned_28 : decode cX1_pruned 28 = .ok (.isub, 1) := dk_100 (dk_at dksX1_pruned_1 4 rfl rfl)
theorem dX1_pruned_29 : decode cX1_pruned 29 = .ok (.istore 5, 2) := dk_54 5 (dk_at dksX1_pruned_1 5 rfl rfl)
theorem dX1_pruned_31 : decode cX1_pruned 31 = .ok (.iload 5, 2) := dk_21 5 (dk_at dksX1_pruned_1 7 rfl rfl)
theorem dX1_pruned_33 : decode cX1_pruned 33 = .ok (.ifCond .lt 41, 3) := dk_155 0 41 (dk_at dksX1_pruned_1 9 rfl rfl)
theorem dX1_pruned_36 : decode cX1_pruned 36 = .ok (.aload_n 0, 1) := dk_42 (dk_at dksX1_pruned_1 12 rfl rfl)
theorem dX1_pruned_37 : decode cX1_pruned 37 = .ok (.iload 4, 2) := dk_21 4 (dk_at dksX1_pruned_1 13 rfl rfl)
theorem dX1_pruned_39 : decode cX1_pruned 39 = .ok (.iconst 1, 1) := dk_4 (dk_at dksX1_pruned_1 15 rfl rfl)
theorem dX1_pruned_40 : decode cX1_pruned 40 = .ok (.iload 5, 2) := dk_21 5 (dk_at dksX1_pruned_1 16 rfl rfl)
theorem dX1_pruned_42 : decode cX1_pruned 42 = .ok (.ishl, 1) := dk_120 (dk_at dksX1_pruned_1 18 rfl rfl)
theorem dX1_pruned_43 : decode cX1_pruned 43 = .ok (.iconst (-1), 1) := dk_2 (dk_at dksX1_pruned_1 19 rfl rfl)
theorem dX1_pruned_44 : decode cX1_pruned 44 = .ok (.ixor, 1) := dk_130 (dk_at dksX1_pruned_1 20 rfl rfl)
theorem dX1_pruned_45 : decode cX1_pruned 45 = .ok (.iand, 1) := dk_126 (dk_at dksX1_pruned_1 21 rfl rfl)
theorem dX1_pruned_46 : decode cX1_pruned 46 = .ok (.invokevirtual 255, 3) := dk_182 0 255 (dk_at dksX1_pruned_2 0 rfl rfl)
theorem dX1_pruned_49 : decode cX1_pruned 49 = .ok (.iload_n 1, 1) := dk_27 (dk_at dksX1_pruned_2 3 rfl rfl)
theorem dX1_pruned_50 : decode cX1_pruned 50 = .ok (.iload_n 2, 1) := dk_28 (dk_at dksX1_pruned_2 4 rfl rfl)
theorem dX1_pruned_51 : decode cX1_pruned 51 = .ok (.invokevirtual 259, 3) := dk_182 1 3 (dk_at dksX1_pruned_2 5 rfl rfl)
theorem dX1_pruned_54 : decode cX1_pruned 54 = .ok (.ifCond .eq 14, 3) := dk_153 0 14 (dk_at dksX1_pruned_2 8 rfl rfl)
theorem dX1_pruned_57 : decode cX1_pruned 57 = .ok (.iload 4, 2) := dk_21 4 (dk_at dksX1_pruned_2 11 rfl rfl)
theorem dX1_pruned_59 : decode cX1_pruned 59 = .ok (.iconst 1, 1) := dk_4 (dk_at dksX1_pruned_2 13 rfl rfl)
theorem dX1_pruned_60 : decode cX1_pruned 60 = .ok (.iload 5, 2) := dk_21 5 (dk_at dksX1_pruned_2 14 rfl rfl)
theorem dX1_pruned_62 : decode cX1_pruned 62 = .ok (.ishl, 1) := dk_120 (dk_at dksX1_pruned_2 16 rfl rfl)
theorem dX1_pruned_63 : decode cX1_pruned 63 = .ok (.iconst (-1), 1) := dk_2 (dk_at dksX1_pruned_2 17 rfl rfl)
theorem dX1_pruned_64 : decode cX1_pruned 64 = .ok (.ixor, 1) := dk_130 (dk_at dksX1_pruned_2 18 rfl rfl)
theorem dX1_pruned_65 : decode cX1_pruned 65 = .ok (.iand, 1) := dk_126 (dk_at dksX1_pruned_2 19 rfl rfl)
theorem dX1_pruned_66 : decode cX1_pruned 66 = .ok (.istore 4, 2) := dk_54 4 (dk_at dksX1_pruned_2 20 rfl rfl)
theorem dX1_pruned_68 : decode cX1_pruned 68 = .ok (.iinc 5 (-1), 3) := dk_132 5 255 (dk_at dksX1_pruned_3 0 rfl rfl)
theorem dX1_pruned_71 : decode cX1_pruned 71 = .ok (.goto (-40), 3) := dk_167 255 216 (dk_at dksX1_pruned_3 3 rfl rfl)
theorem dX1_pruned_74 : decode cX1_pruned 74 = .ok (.aload_n 0, 1) := dk_42 (dk_at dksX1_pruned_3 6 rfl rfl)
theorem dX1_pruned_75 : decode cX1_pruned 75 = .ok (.iload 4, 2) := dk_21 4 (dk_at dksX1_pruned_3 7 rfl rfl)
theorem dX1_pruned_77 : decode cX1_pruned 77 = .ok (.invokevirtual 176, 3) := dk_182 0 176 (dk_at dksX1_pruned_3 9 rfl rfl)
theorem dX1_pruned_80 : decode cX1_pruned 80 = .ok (.ireturn, 1) := dk_172 (dk_at dksX1_pruned_3 12 rfl rfl)
abbrev cX1_fewest : ByteArray := prog_1_method_36_code
def yX1_fewest : MethodName := ⟨RX1, "fewest", "(II)I"⟩
def dkwX1_fewest_1 : List UInt8 := [186, 1, 26, 0, 0, 182, 1, 29, 182, 0, 176, 172]
abbrev dktX1_fewest_1 : List UInt8 := dkwX1_fewest_1 ++ []
def dkwX1_fewest_0 : List UInt8 := [42, 27, 28, 182, 1, 11, 62, 29, 158, 0, 11, 42, 29, 182, 0, 98, 167, 0, 18, 42, 42, 27, 28]
abbrev dktX1_fewest_0 : List UInt8 := dkwX1_fewest_0 ++ dktX1_fewest_1
theorem dksX1_fewest_0 : cX1_fewest.data.toList.drop 0 = dktX1_fewest_0 := by decide +kernel
theorem dksX1_fewest_1 : cX1_fewest.data.toList.drop 23 = dktX1_fewest_1 := dk_seg dksX1_fewest_0 23 rfl rfl
theorem dX1_fewest_0 : decode cX1_fewest 0 = .ok (.aload_n 0, 1) := dk_42 (dk_at dksX1_fewest_0 0 rfl rfl)
theorem dX1_fewest_1 : decode cX1_fewest 1 = .ok (.iload_n 1, 1) := dk_27 (dk_at dksX1_fewest_0 1 rfl rfl)
theorem dX1_fewest_2 : decode cX1_fewest 2 = .ok (.iload_n 2, 1) := dk_28 (dk_at dksX1_fewest_0 2 rfl rfl)
theorem dX1_fewest_3 : decode cX1_fewest 3 = .ok (.invokevirtual 267, 3) := dk_182 1 11 (dk_at dksX1_fewest_0 3 rfl rfl)
theorem dX1_fewest_6 : decode cX1_fewest 6 = .ok (.istore_n 3, 1) := dk_62 (dk_at dksX1_fewest_0 6 rfl rfl)
theorem dX1_fewest_7 : decode cX1_fewest 7 = .ok (.iload_n 3, 1) := dk_29 (dk_at dksX1_fewest_0 7 rfl rfl)
theorem dX1_fewest_8 : decode cX1_fewest 8 = .ok (.ifCond .le 11, 3) := dk_158 0 11 (dk_at dksX1_fewest_0 8 rfl rfl)
theorem dX1_fewest_11 : decode cX1_fewest 11 = .ok (.aload_n 0, 1) := dk_42 (dk_at dksX1_fewest_0 11 rfl rfl)
theorem dX1_fewest_12 : decode cX1_fewest 12 = .ok (.iload_n 3, 1) := dk_29 (dk_at dksX1_fewest_0 12 rfl rfl)
theorem dX1_fewest_13 : decode cX1_fewest 13 = .ok (.invokevirtual 98, 3) := dk_182 0 98 (dk_at dksX1_fewest_0 13 rfl rfl)
theorem dX1_fewest_16 : decode cX1_fewest 16 = .ok (.goto 18, 3) := dk_167 0 18 (dk_at dksX1_fewest_0 16 rfl rfl)
theorem dX1_fewest_19 : decode cX1_fewest 19 = .ok (.aload_n 0, 1) := dk_42 (dk_at dksX1_fewest_0 19 rfl rfl)
theorem dX1_fewest_20 : decode cX1_fewest 20 = .ok (.aload_n 0, 1) := dk_42 (dk_at dksX1_fewest_0 20 rfl rfl)
theorem dX1_fewest_21 : decode cX1_fewest 21 = .ok (.iload_n 1, 1) := dk_27 (dk_at dksX1_fewest_0 21 rfl rfl)
theorem dX1_fewest_22 : decode cX1_fewest 22 = .ok (.iload_n 2, 1) := dk_28 (dk_at dksX1_fewest_0 22 rfl rfl)
theorem dX1_fewest_23 : decode cX1_fewest 23 = .ok (.invokedynamic 282, 5) := by decide +kernel
theorem dX1_fewest_28 : decode cX1_fewest 28 = .ok (.invokevirtual 285, 3) := dk_182 1 29 (dk_at dksX1_fewest_1 5 rfl rfl)
theorem dX1_fewest_31 : decode cX1_fewest 31 = .ok (.invokevirtual 176, 3) := dk_182 0 176 (dk_at dksX1_fewest_1 8 rfl rfl)
theorem dX1_fewest_34 : decode cX1_fewest 34 = .ok (.ireturn, 1) := dk_172 (dk_at dksX1_fewest_1 11 rfl rfl)
abbrev cX1_lambda_fewest_0 : ByteArray := prog_1_method_71_code
def yX1_lambda_fewest_0 : MethodName := ⟨RX1, "lambda$fewest$0", "(IILReasonCloser$Closed;)Z"⟩
def dkwX1_lambda_fewest_0_0 : List UInt8 := [44, 26, 27, 182, 1, 3, 172]
abbrev dktX1_lambda_fewest_0_0 : List UInt8 := dkwX1_lambda_fewest_0_0 ++ []
theorem dksX1_lambda_fewest_0_0 : cX1_lambda_fewest_0.data.toList.drop 0 = dktX1_lambda_fewest_0_0 := by decide +kernel
theorem dX1_lambda_fewest_0_0 : decode cX1_lambda_fewest_0 0 = .ok (.aload_n 2, 1) := dk_44 (dk_at dksX1_lambda_fewest_0_0 0 rfl rfl)
theorem dX1_lambda_fewest_0_1 : decode cX1_lambda_fewest_0 1 = .ok (.iload_n 0, 1) := dk_26 (dk_at dksX1_lambda_fewest_0_0 1 rfl rfl)
theorem dX1_lambda_fewest_0_2 : decode cX1_lambda_fewest_0 2 = .ok (.iload_n 1, 1) := dk_27 (dk_at dksX1_lambda_fewest_0_0 2 rfl rfl)
theorem dX1_lambda_fewest_0_3 : decode cX1_lambda_fewest_0 3 = .ok (.invokevirtual 259, 3) := dk_182 1 3 (dk_at dksX1_lambda_fewest_0_0 3 rfl rfl)
theorem dX1_lambda_fewest_0_6 : decode cX1_lambda_fewest_0 6 = .ok (.ireturn, 1) := dk_172 (dk_at dksX1_lambda_fewest_0_0 6 rfl rfl)
abbrev cX1_fewestBy : ByteArray := prog_1_method_35_code
def yX1_fewestBy : MethodName := ⟨RX1, "fewestBy", "(LReasonCloser$Asked;)I"⟩
def dkwX1_fewestBy_2 : List UInt8 := [61, 132, 3, 1, 167, 255, 209, 28, 172]
abbrev dktX1_fewestBy_2 : List UInt8 := dkwX1_fewestBy_2 ++ []
def dkwX1_fewestBy_1 : List UInt8 := [184, 1, 17, 161, 0, 6, 167, 0, 19, 43, 42, 29, 182, 0, 255, 185, 1, 20, 2, 0, 153, 0, 5, 29]
abbrev dktX1_fewestBy_1 : List UInt8 := dkwX1_fewestBy_1 ++ dktX1_fewestBy_2
def dkwX1_fewestBy_0 : List UInt8 := [16, 254, 61, 3, 62, 29, 42, 182, 0, 252, 163, 0, 45, 28, 16, 254, 159, 0, 17, 29, 184, 1, 17, 28]
abbrev dktX1_fewestBy_0 : List UInt8 := dkwX1_fewestBy_0 ++ dktX1_fewestBy_1
theorem dksX1_fewestBy_0 : cX1_fewestBy.data.toList.drop 0 = dktX1_fewestBy_0 := by decide +kernel
theorem dksX1_fewestBy_1 : cX1_fewestBy.data.toList.drop 24 = dktX1_fewestBy_1 := dk_seg dksX1_fewestBy_0 24 rfl rfl
theorem dksX1_fewestBy_2 : cX1_fewestBy.data.toList.drop 48 = dktX1_fewestBy_2 := dk_seg dksX1_fewestBy_1 24 rfl rfl
theorem dX1_fewestBy_0 : decode cX1_fewestBy 0 = .ok (.bipush (-2), 2) := dk_16 254 (dk_at dksX1_fewestBy_0 0 rfl rfl)
theorem dX1_fewestBy_2 : decode cX1_fewestBy 2 = .ok (.istore_n 2, 1) := dk_61 (dk_at dksX1_fewestBy_0 2 rfl rfl)
theorem dX1_fewestBy_3 : decode cX1_fewestBy 3 = .ok (.iconst 0, 1) := dk_3 (dk_at dksX1_fewestBy_0 3 rfl rfl)
theorem dX1_fewestBy_4 : decode cX1_fewestBy 4 = .ok (.istore_n 3, 1) := dk_62 (dk_at dksX1_fewestBy_0 4 rfl rfl)
theorem dX1_fewestBy_5 : decode cX1_fewestBy 5 = .ok (.iload_n 3, 1) := dk_29 (dk_at dksX1_fewestBy_0 5 rfl rfl)
theorem dX1_fewestBy_6 : decode cX1_fewestBy 6 = .ok (.aload_n 0, 1) := dk_42 (dk_at dksX1_fewestBy_0 6 rfl rfl)
theorem dX1_fewestBy_7 : decode cX1_fewestBy 7 = .ok (.invokevirtual 252, 3) := dk_182 0 252 (dk_at dksX1_fewestBy_0 7 rfl rfl)
theorem dX1_fewestBy_10 : decode cX1_fewestBy 10 = .ok (.if_icmp .gt 45, 3) := dk_163 0 45 (dk_at dksX1_fewestBy_0 10 rfl rfl)
theorem dX1_fewestBy_13 : decode cX1_fewestBy 13 = .ok (.iload_n 2, 1) := dk_28 (dk_at dksX1_fewestBy_0 13 rfl rfl)
theorem dX1_fewestBy_14 : decode cX1_fewestBy 14 = .ok (.bipush (-2), 2) := dk_16 254 (dk_at dksX1_fewestBy_0 14 rfl rfl)
theorem dX1_fewestBy_16 : decode cX1_fewestBy 16 = .ok (.if_icmp .eq 17, 3) := dk_159 0 17 (dk_at dksX1_fewestBy_0 16 rfl rfl)
theorem dX1_fewestBy_19 : decode cX1_fewestBy 19 = .ok (.iload_n 3, 1) := dk_29 (dk_at dksX1_fewestBy_0 19 rfl rfl)
theorem dX1_fewestBy_20 : decode cX1_fewestBy 20 = .ok (.invokestatic 273, 3) := dk_184 1 17 (dk_at dksX1_fewestBy_0 20 rfl rfl)
theorem dX1_fewestBy_23 : decode cX1_fewestBy 23 = .ok (.iload_n 2, 1) := dk_28 (dk_at dksX1_fewestBy_0 23 rfl rfl)
theorem dX1_fewestBy_24 : decode cX1_fewestBy 24 = .ok (.invokestatic 273, 3) := dk_184 1 17 (dk_at dksX1_fewestBy_1 0 rfl rfl)
theorem dX1_fewestBy_27 : decode cX1_fewestBy 27 = .ok (.if_icmp .lt 6, 3) := dk_161 0 6 (dk_at dksX1_fewestBy_1 3 rfl rfl)
theorem dX1_fewestBy_30 : decode cX1_fewestBy 30 = .ok (.goto 19, 3) := dk_167 0 19 (dk_at dksX1_fewestBy_1 6 rfl rfl)
theorem dX1_fewestBy_33 : decode cX1_fewestBy 33 = .ok (.aload_n 1, 1) := dk_43 (dk_at dksX1_fewestBy_1 9 rfl rfl)
theorem dX1_fewestBy_34 : decode cX1_fewestBy 34 = .ok (.aload_n 0, 1) := dk_42 (dk_at dksX1_fewestBy_1 10 rfl rfl)
theorem dX1_fewestBy_35 : decode cX1_fewestBy 35 = .ok (.iload_n 3, 1) := dk_29 (dk_at dksX1_fewestBy_1 11 rfl rfl)
theorem dX1_fewestBy_36 : decode cX1_fewestBy 36 = .ok (.invokevirtual 255, 3) := dk_182 0 255 (dk_at dksX1_fewestBy_1 12 rfl rfl)
theorem dX1_fewestBy_39 : decode cX1_fewestBy 39 = .ok (.invokeinterface 276 2, 5) := by decide +kernel
theorem dX1_fewestBy_44 : decode cX1_fewestBy 44 = .ok (.ifCond .eq 5, 3) := dk_153 0 5 (dk_at dksX1_fewestBy_1 20 rfl rfl)
theorem dX1_fewestBy_47 : decode cX1_fewestBy 47 = .ok (.iload_n 3, 1) := dk_29 (dk_at dksX1_fewestBy_1 23 rfl rfl)
theorem dX1_fewestBy_48 : decode cX1_fewestBy 48 = .ok (.istore_n 2, 1) := dk_61 (dk_at dksX1_fewestBy_2 0 rfl rfl)
theorem dX1_fewestBy_49 : decode cX1_fewestBy 49 = .ok (.iinc 3 1, 3) := dk_132 3 1 (dk_at dksX1_fewestBy_2 1 rfl rfl)
theorem dX1_fewestBy_52 : decode cX1_fewestBy 52 = .ok (.goto (-47), 3) := dk_167 255 209 (dk_at dksX1_fewestBy_2 4 rfl rfl)
theorem dX1_fewestBy_55 : decode cX1_fewestBy 55 = .ok (.iload_n 2, 1) := dk_28 (dk_at dksX1_fewestBy_2 7 rfl rfl)
theorem dX1_fewestBy_56 : decode cX1_fewestBy 56 = .ok (.ireturn, 1) := dk_172 (dk_at dksX1_fewestBy_2 8 rfl rfl)
abbrev cX1_proves : ByteArray := prog_1_method_37_code
def yX1_proves : MethodName := ⟨RX1, "proves", "(III)I"⟩
def dkwX1_proves_2 : List UInt8 := [153, 0, 7, 4, 167, 0, 4, 3, 182, 0, 176, 167, 0, 8, 42, 5, 182, 0, 98, 172]
abbrev dktX1_proves_2 : List UInt8 := dkwX1_proves_2 ++ []
def dkwX1_proves_1 : List UInt8 := [27, 3, 42, 182, 0, 252, 184, 0, 94, 153, 0, 28, 42, 42, 27, 182, 0, 255, 28, 29, 182, 1, 3]
abbrev dktX1_proves_1 : List UInt8 := dkwX1_proves_1 ++ dktX1_proves_2
def dkwX1_proves_0 : List UInt8 := [42, 5, 188, 10, 89, 3, 28, 79, 89, 4, 29, 79, 182, 0, 230, 154, 0, 9, 42, 4, 182, 0, 98, 172]
abbrev dktX1_proves_0 : List UInt8 := dkwX1_proves_0 ++ dktX1_proves_1
theorem dksX1_proves_0 : cX1_proves.data.toList.drop 0 = dktX1_proves_0 := by decide +kernel
theorem dksX1_proves_1 : cX1_proves.data.toList.drop 24 = dktX1_proves_1 := dk_seg dksX1_proves_0 24 rfl rfl
theorem dksX1_proves_2 : cX1_proves.data.toList.drop 47 = dktX1_proves_2 := dk_seg dksX1_proves_1 23 rfl rfl
theorem dX1_proves_0 : decode cX1_proves 0 = .ok (.aload_n 0, 1) := dk_42 (dk_at dksX1_proves_0 0 rfl rfl)
theorem dX1_proves_1 : decode cX1_proves 1 = .ok (.iconst 2, 1) := dk_5 (dk_at dksX1_proves_0 1 rfl rfl)
theorem dX1_proves_2 : decode cX1_proves 2 = .ok (.newarray .int, 2) := dk_188_10 (dk_at dksX1_proves_0 2 rfl rfl)
theorem dX1_proves_4 : decode cX1_proves 4 = .ok (.dup, 1) := dk_89 (dk_at dksX1_proves_0 4 rfl rfl)
theorem dX1_proves_5 : decode cX1_proves 5 = .ok (.iconst 0, 1) := dk_3 (dk_at dksX1_proves_0 5 rfl rfl)
theorem dX1_proves_6 : decode cX1_proves 6 = .ok (.iload_n 2, 1) := dk_28 (dk_at dksX1_proves_0 6 rfl rfl)
theorem dX1_proves_7 : decode cX1_proves 7 = .ok (.iastore, 1) := dk_79 (dk_at dksX1_proves_0 7 rfl rfl)
theorem dX1_proves_8 : decode cX1_proves 8 = .ok (.dup, 1) := dk_89 (dk_at dksX1_proves_0 8 rfl rfl)
theorem dX1_proves_9 : decode cX1_proves 9 = .ok (.iconst 1, 1) := dk_4 (dk_at dksX1_proves_0 9 rfl rfl)
theorem dX1_proves_10 : decode cX1_proves 10 = .ok (.iload_n 3, 1) := dk_29 (dk_at dksX1_proves_0 10 rfl rfl)
theorem dX1_proves_11 : decode cX1_proves 11 = .ok (.iastore, 1) := dk_79 (dk_at dksX1_proves_0 11 rfl rfl)
theorem dX1_proves_12 : decode cX1_proves 12 = .ok (.invokevirtual 230, 3) := dk_182 0 230 (dk_at dksX1_proves_0 12 rfl rfl)
theorem dX1_proves_15 : decode cX1_proves 15 = .ok (.ifCond .ne 9, 3) := dk_154 0 9 (dk_at dksX1_proves_0 15 rfl rfl)
theorem dX1_proves_18 : decode cX1_proves 18 = .ok (.aload_n 0, 1) := dk_42 (dk_at dksX1_proves_0 18 rfl rfl)
theorem dX1_proves_19 : decode cX1_proves 19 = .ok (.iconst 1, 1) := dk_4 (dk_at dksX1_proves_0 19 rfl rfl)
theorem dX1_proves_20 : decode cX1_proves 20 = .ok (.invokevirtual 98, 3) := dk_182 0 98 (dk_at dksX1_proves_0 20 rfl rfl)
theorem dX1_proves_23 : decode cX1_proves 23 = .ok (.ireturn, 1) := dk_172 (dk_at dksX1_proves_0 23 rfl rfl)
theorem dX1_proves_24 : decode cX1_proves 24 = .ok (.iload_n 1, 1) := dk_27 (dk_at dksX1_proves_1 0 rfl rfl)
theorem dX1_proves_25 : decode cX1_proves 25 = .ok (.iconst 0, 1) := dk_3 (dk_at dksX1_proves_1 1 rfl rfl)
theorem dX1_proves_26 : decode cX1_proves 26 = .ok (.aload_n 0, 1) := dk_42 (dk_at dksX1_proves_1 2 rfl rfl)
theorem dX1_proves_27 : decode cX1_proves 27 = .ok (.invokevirtual 252, 3) := dk_182 0 252 (dk_at dksX1_proves_1 3 rfl rfl)
theorem dX1_proves_30 : decode cX1_proves 30 = .ok (.invokestatic 94, 3) := dk_184 0 94 (dk_at dksX1_proves_1 6 rfl rfl)
theorem dX1_proves_33 : decode cX1_proves 33 = .ok (.ifCond .eq 28, 3) := dk_153 0 28 (dk_at dksX1_proves_1 9 rfl rfl)
theorem dX1_proves_36 : decode cX1_proves 36 = .ok (.aload_n 0, 1) := dk_42 (dk_at dksX1_proves_1 12 rfl rfl)
theorem dX1_proves_37 : decode cX1_proves 37 = .ok (.aload_n 0, 1) := dk_42 (dk_at dksX1_proves_1 13 rfl rfl)
theorem dX1_proves_38 : decode cX1_proves 38 = .ok (.iload_n 1, 1) := dk_27 (dk_at dksX1_proves_1 14 rfl rfl)
theorem dX1_proves_39 : decode cX1_proves 39 = .ok (.invokevirtual 255, 3) := dk_182 0 255 (dk_at dksX1_proves_1 15 rfl rfl)
theorem dX1_proves_42 : decode cX1_proves 42 = .ok (.iload_n 2, 1) := dk_28 (dk_at dksX1_proves_1 18 rfl rfl)
theorem dX1_proves_43 : decode cX1_proves 43 = .ok (.iload_n 3, 1) := dk_29 (dk_at dksX1_proves_1 19 rfl rfl)
theorem dX1_proves_44 : decode cX1_proves 44 = .ok (.invokevirtual 259, 3) := dk_182 1 3 (dk_at dksX1_proves_1 20 rfl rfl)
theorem dX1_proves_47 : decode cX1_proves 47 = .ok (.ifCond .eq 7, 3) := dk_153 0 7 (dk_at dksX1_proves_2 0 rfl rfl)
theorem dX1_proves_50 : decode cX1_proves 50 = .ok (.iconst 1, 1) := dk_4 (dk_at dksX1_proves_2 3 rfl rfl)
theorem dX1_proves_51 : decode cX1_proves 51 = .ok (.goto 4, 3) := dk_167 0 4 (dk_at dksX1_proves_2 4 rfl rfl)
theorem dX1_proves_54 : decode cX1_proves 54 = .ok (.iconst 0, 1) := dk_3 (dk_at dksX1_proves_2 7 rfl rfl)
theorem dX1_proves_55 : decode cX1_proves 55 = .ok (.invokevirtual 176, 3) := dk_182 0 176 (dk_at dksX1_proves_2 8 rfl rfl)
theorem dX1_proves_58 : decode cX1_proves 58 = .ok (.goto 8, 3) := dk_167 0 8 (dk_at dksX1_proves_2 11 rfl rfl)
theorem dX1_proves_61 : decode cX1_proves 61 = .ok (.aload_n 0, 1) := dk_42 (dk_at dksX1_proves_2 14 rfl rfl)
theorem dX1_proves_62 : decode cX1_proves 62 = .ok (.iconst 2, 1) := dk_5 (dk_at dksX1_proves_2 15 rfl rfl)
theorem dX1_proves_63 : decode cX1_proves 63 = .ok (.invokevirtual 98, 3) := dk_182 0 98 (dk_at dksX1_proves_2 16 rfl rfl)
theorem dX1_proves_66 : decode cX1_proves 66 = .ok (.ireturn, 1) := dk_172 (dk_at dksX1_proves_2 19 rfl rfl)
abbrev cX1_since : ByteArray := prog_1_method_38_code
def yX1_since : MethodName := ⟨RX1, "since", "(II)I"⟩
def dkwX1_since_2 : List UInt8 := [182, 0, 176, 172]
abbrev dktX1_since_2 : List UInt8 := dkwX1_since_2 ++ []
def dkwX1_since_1 : List UInt8 := [120, 4, 100, 182, 0, 255, 27, 28, 182, 1, 3, 154, 0, 9, 132, 4, 1, 167, 255, 235, 42, 21, 4]
abbrev dktX1_since_1 : List UInt8 := dkwX1_since_1 ++ dktX1_since_2
def dkwX1_since_0 : List UInt8 := [42, 27, 28, 182, 1, 11, 62, 29, 158, 0, 9, 42, 29, 182, 0, 98, 172, 3, 54, 4, 42, 4, 21, 4]
abbrev dktX1_since_0 : List UInt8 := dkwX1_since_0 ++ dktX1_since_1
theorem dksX1_since_0 : cX1_since.data.toList.drop 0 = dktX1_since_0 := by decide +kernel
theorem dksX1_since_1 : cX1_since.data.toList.drop 24 = dktX1_since_1 := dk_seg dksX1_since_0 24 rfl rfl
theorem dksX1_since_2 : cX1_since.data.toList.drop 47 = dktX1_since_2 := dk_seg dksX1_since_1 23 rfl rfl
theorem dX1_since_0 : decode cX1_since 0 = .ok (.aload_n 0, 1) := dk_42 (dk_at dksX1_since_0 0 rfl rfl)
theorem dX1_since_1 : decode cX1_since 1 = .ok (.iload_n 1, 1) := dk_27 (dk_at dksX1_since_0 1 rfl rfl)
theorem dX1_since_2 : decode cX1_since 2 = .ok (.iload_n 2, 1) := dk_28 (dk_at dksX1_since_0 2 rfl rfl)
theorem dX1_since_3 : decode cX1_since 3 = .ok (.invokevirtual 267, 3) := dk_182 1 11 (dk_at dksX1_since_0 3 rfl rfl)
theorem dX1_since_6 : decode cX1_since 6 = .ok (.istore_n 3, 1) := dk_62 (dk_at dksX1_since_0 6 rfl rfl)
theorem dX1_since_7 : decode cX1_since 7 = .ok (.iload_n 3, 1) := dk_29 (dk_at dksX1_since_0 7 rfl rfl)
theorem dX1_since_8 : decode cX1_since 8 = .ok (.ifCond .le 9, 3) := dk_158 0 9 (dk_at dksX1_since_0 8 rfl rfl)
theorem dX1_since_11 : decode cX1_since 11 = .ok (.aload_n 0, 1) := dk_42 (dk_at dksX1_since_0 11 rfl rfl)
theorem dX1_since_12 : decode cX1_since 12 = .ok (.iload_n 3, 1) := dk_29 (dk_at dksX1_since_0 12 rfl rfl)
theorem dX1_since_13 : decode cX1_since 13 = .ok (.invokevirtual 98, 3) := dk_182 0 98 (dk_at dksX1_since_0 13 rfl rfl)
theorem dX1_since_16 : decode cX1_since 16 = .ok (.ireturn, 1) := dk_172 (dk_at dksX1_since_0 16 rfl rfl)
theorem dX1_since_17 : decode cX1_since 17 = .ok (.iconst 0, 1) := dk_3 (dk_at dksX1_since_0 17 rfl rfl)
theorem dX1_since_18 : decode cX1_since 18 = .ok (.istore 4, 2) := dk_54 4 (dk_at dksX1_since_0 18 rfl rfl)
theorem dX1_since_20 : decode cX1_since 20 = .ok (.aload_n 0, 1) := dk_42 (dk_at dksX1_since_0 20 rfl rfl)
theorem dX1_since_21 : decode cX1_since 21 = .ok (.iconst 1, 1) := dk_4 (dk_at dksX1_since_0 21 rfl rfl)
theorem dX1_since_22 : decode cX1_since 22 = .ok (.iload 4, 2) := dk_21 4 (dk_at dksX1_since_0 22 rfl rfl)
theorem dX1_since_24 : decode cX1_since 24 = .ok (.ishl, 1) := dk_120 (dk_at dksX1_since_1 0 rfl rfl)
theorem dX1_since_25 : decode cX1_since 25 = .ok (.iconst 1, 1) := dk_4 (dk_at dksX1_since_1 1 rfl rfl)
theorem dX1_since_26 : decode cX1_since 26 = .ok (.isub, 1) := dk_100 (dk_at dksX1_since_1 2 rfl rfl)
theorem dX1_since_27 : decode cX1_since 27 = .ok (.invokevirtual 255, 3) := dk_182 0 255 (dk_at dksX1_since_1 3 rfl rfl)
theorem dX1_since_30 : decode cX1_since 30 = .ok (.iload_n 1, 1) := dk_27 (dk_at dksX1_since_1 6 rfl rfl)
theorem dX1_since_31 : decode cX1_since 31 = .ok (.iload_n 2, 1) := dk_28 (dk_at dksX1_since_1 7 rfl rfl)
theorem dX1_since_32 : decode cX1_since 32 = .ok (.invokevirtual 259, 3) := dk_182 1 3 (dk_at dksX1_since_1 8 rfl rfl)
theorem dX1_since_35 : decode cX1_since 35 = .ok (.ifCond .ne 9, 3) := dk_154 0 9 (dk_at dksX1_since_1 11 rfl rfl)
theorem dX1_since_38 : decode cX1_since 38 = .ok (.iinc 4 1, 3) := dk_132 4 1 (dk_at dksX1_since_1 14 rfl rfl)
theorem dX1_since_41 : decode cX1_since 41 = .ok (.goto (-21), 3) := dk_167 255 235 (dk_at dksX1_since_1 17 rfl rfl)
theorem dX1_since_44 : decode cX1_since 44 = .ok (.aload_n 0, 1) := dk_42 (dk_at dksX1_since_1 20 rfl rfl)
theorem dX1_since_45 : decode cX1_since 45 = .ok (.iload 4, 2) := dk_21 4 (dk_at dksX1_since_1 21 rfl rfl)
theorem dX1_since_47 : decode cX1_since 47 = .ok (.invokevirtual 176, 3) := dk_182 0 176 (dk_at dksX1_since_2 0 rfl rfl)
theorem dX1_since_50 : decode cX1_since 50 = .ok (.ireturn, 1) := dk_172 (dk_at dksX1_since_2 3 rfl rfl)
abbrev cX1_needed : ByteArray := prog_1_method_39_code
def yX1_needed : MethodName := ⟨RX1, "needed", "(II)I"⟩
def dkwX1_needed_3 : List UInt8 := [21, 4, 182, 0, 176, 172]
abbrev dktX1_needed_3 : List UInt8 := dkwX1_needed_3 ++ []
def dkwX1_needed_2 : List UInt8 := [27, 28, 182, 1, 3, 154, 0, 12, 21, 4, 4, 21, 5, 120, 128, 54, 4, 132, 5, 1, 167, 255, 212, 42]
abbrev dktX1_needed_2 : List UInt8 := dkwX1_needed_2 ++ dktX1_needed_3
def dkwX1_needed_1 : List UInt8 := [21, 5, 42, 182, 0, 191, 162, 0, 41, 42, 42, 182, 0, 252, 4, 21, 5, 120, 2, 130, 126, 182, 0, 255]
abbrev dktX1_needed_1 : List UInt8 := dkwX1_needed_1 ++ dktX1_needed_2
def dkwX1_needed_0 : List UInt8 := [42, 27, 28, 182, 1, 11, 62, 29, 158, 0, 9, 42, 29, 182, 0, 98, 172, 3, 54, 4, 3, 54, 5]
abbrev dktX1_needed_0 : List UInt8 := dkwX1_needed_0 ++ dktX1_needed_1
theorem dksX1_needed_0 : cX1_needed.data.toList.drop 0 = dktX1_needed_0 := by decide +kernel
theorem dksX1_needed_1 : cX1_needed.data.toList.drop 23 = dktX1_needed_1 := dk_seg dksX1_needed_0 23 rfl rfl
theorem dksX1_needed_2 : cX1_needed.data.toList.drop 47 = dktX1_needed_2 := dk_seg dksX1_needed_1 24 rfl rfl
theorem dksX1_needed_3 : cX1_needed.data.toList.drop 71 = dktX1_needed_3 := dk_seg dksX1_needed_2 24 rfl rfl
theorem dX1_needed_0 : decode cX1_needed 0 = .ok (.aload_n 0, 1) := dk_42 (dk_at dksX1_needed_0 0 rfl rfl)
theorem dX1_needed_1 : decode cX1_needed 1 = .ok (.iload_n 1, 1) := dk_27 (dk_at dksX1_needed_0 1 rfl rfl)
theorem dX1_needed_2 : decode cX1_needed 2 = .ok (.iload_n 2, 1) := dk_28 (dk_at dksX1_needed_0 2 rfl rfl)
theorem dX1_needed_3 : decode cX1_needed 3 = .ok (.invokevirtual 267, 3) := dk_182 1 11 (dk_at dksX1_needed_0 3 rfl rfl)
theorem dX1_needed_6 : decode cX1_needed 6 = .ok (.istore_n 3, 1) := dk_62 (dk_at dksX1_needed_0 6 rfl rfl)
theorem dX1_needed_7 : decode cX1_needed 7 = .ok (.iload_n 3, 1) := dk_29 (dk_at dksX1_needed_0 7 rfl rfl)
theorem dX1_needed_8 : decode cX1_needed 8 = .ok (.ifCond .le 9, 3) := dk_158 0 9 (dk_at dksX1_needed_0 8 rfl rfl)
theorem dX1_needed_11 : decode cX1_needed 11 = .ok (.aload_n 0, 1) := dk_42 (dk_at dksX1_needed_0 11 rfl rfl)
theorem dX1_needed_12 : decode cX1_needed 12 = .ok (.iload_n 3, 1) := dk_29 (dk_at dksX1_needed_0 12 rfl rfl)
theorem dX1_needed_13 : decode cX1_needed 13 = .ok (.invokevirtual 98, 3) := dk_182 0 98 (dk_at dksX1_needed_0 13 rfl rfl)
theorem dX1_needed_16 : decode cX1_needed 16 = .ok (.ireturn, 1) := dk_172 (dk_at dksX1_needed_0 16 rfl rfl)
theorem dX1_needed_17 : decode cX1_needed 17 = .ok (.iconst 0, 1) := dk_3 (dk_at dksX1_needed_0 17 rfl rfl)
theorem dX1_needed_18 : decode cX1_needed 18 = .ok (.istore 4, 2) := dk_54 4 (dk_at dksX1_needed_0 18 rfl rfl)
theorem dX1_needed_20 : decode cX1_needed 20 = .ok (.iconst 0, 1) := dk_3 (dk_at dksX1_needed_0 20 rfl rfl)
theorem dX1_needed_21 : decode cX1_needed 21 = .ok (.istore 5, 2) := dk_54 5 (dk_at dksX1_needed_0 21 rfl rfl)
theorem dX1_needed_23 : decode cX1_needed 23 = .ok (.iload 5, 2) := dk_21 5 (dk_at dksX1_needed_1 0 rfl rfl)
theorem dX1_needed_25 : decode cX1_needed 25 = .ok (.aload_n 0, 1) := dk_42 (dk_at dksX1_needed_1 2 rfl rfl)
theorem dX1_needed_26 : decode cX1_needed 26 = .ok (.invokevirtual 191, 3) := dk_182 0 191 (dk_at dksX1_needed_1 3 rfl rfl)
theorem dX1_needed_29 : decode cX1_needed 29 = .ok (.if_icmp .ge 41, 3) := dk_162 0 41 (dk_at dksX1_needed_1 6 rfl rfl)
theorem dX1_needed_32 : decode cX1_needed 32 = .ok (.aload_n 0, 1) := dk_42 (dk_at dksX1_needed_1 9 rfl rfl)
theorem dX1_needed_33 : decode cX1_needed 33 = .ok (.aload_n 0, 1) := dk_42 (dk_at dksX1_needed_1 10 rfl rfl)
theorem dX1_needed_34 : decode cX1_needed 34 = .ok (.invokevirtual 252, 3) := dk_182 0 252 (dk_at dksX1_needed_1 11 rfl rfl)
theorem dX1_needed_37 : decode cX1_needed 37 = .ok (.iconst 1, 1) := dk_4 (dk_at dksX1_needed_1 14 rfl rfl)
theorem dX1_needed_38 : decode cX1_needed 38 = .ok (.iload 5, 2) := dk_21 5 (dk_at dksX1_needed_1 15 rfl rfl)
theorem dX1_needed_40 : decode cX1_needed 40 = .ok (.ishl, 1) := dk_120 (dk_at dksX1_needed_1 17 rfl rfl)
theorem dX1_needed_41 : decode cX1_needed 41 = .ok (.iconst (-1), 1) := dk_2 (dk_at dksX1_needed_1 18 rfl rfl)
theorem dX1_needed_42 : decode cX1_needed 42 = .ok (.ixor, 1) := dk_130 (dk_at dksX1_needed_1 19 rfl rfl)
theorem dX1_needed_43 : decode cX1_needed 43 = .ok (.iand, 1) := dk_126 (dk_at dksX1_needed_1 20 rfl rfl)
theorem dX1_needed_44 : decode cX1_needed 44 = .ok (.invokevirtual 255, 3) := dk_182 0 255 (dk_at dksX1_needed_1 21 rfl rfl)
theorem dX1_needed_47 : decode cX1_needed 47 = .ok (.iload_n 1, 1) := dk_27 (dk_at dksX1_needed_2 0 rfl rfl)
theorem dX1_needed_48 : decode cX1_needed 48 = .ok (.iload_n 2, 1) := dk_28 (dk_at dksX1_needed_2 1 rfl rfl)
theorem dX1_needed_49 : decode cX1_needed 49 = .ok (.invokevirtual 259, 3) := dk_182 1 3 (dk_at dksX1_needed_2 2 rfl rfl)
theorem dX1_needed_52 : decode cX1_needed 52 = .ok (.ifCond .ne 12, 3) := dk_154 0 12 (dk_at dksX1_needed_2 5 rfl rfl)
theorem dX1_needed_55 : decode cX1_needed 55 = .ok (.iload 4, 2) := dk_21 4 (dk_at dksX1_needed_2 8 rfl rfl)
theorem dX1_needed_57 : decode cX1_needed 57 = .ok (.iconst 1, 1) := dk_4 (dk_at dksX1_needed_2 10 rfl rfl)
theorem dX1_needed_58 : decode cX1_needed 58 = .ok (.iload 5, 2) := dk_21 5 (dk_at dksX1_needed_2 11 rfl rfl)
theorem dX1_needed_60 : decode cX1_needed 60 = .ok (.ishl, 1) := dk_120 (dk_at dksX1_needed_2 13 rfl rfl)
theorem dX1_needed_61 : decode cX1_needed 61 = .ok (.ior, 1) := dk_128 (dk_at dksX1_needed_2 14 rfl rfl)
theorem dX1_needed_62 : decode cX1_needed 62 = .ok (.istore 4, 2) := dk_54 4 (dk_at dksX1_needed_2 15 rfl rfl)
theorem dX1_needed_64 : decode cX1_needed 64 = .ok (.iinc 5 1, 3) := dk_132 5 1 (dk_at dksX1_needed_2 17 rfl rfl)
theorem dX1_needed_67 : decode cX1_needed 67 = .ok (.goto (-44), 3) := dk_167 255 212 (dk_at dksX1_needed_2 20 rfl rfl)
theorem dX1_needed_70 : decode cX1_needed 70 = .ok (.aload_n 0, 1) := dk_42 (dk_at dksX1_needed_2 23 rfl rfl)
theorem dX1_needed_71 : decode cX1_needed 71 = .ok (.iload 4, 2) := dk_21 4 (dk_at dksX1_needed_3 0 rfl rfl)
theorem dX1_needed_73 : decode cX1_needed 73 = .ok (.invokevirtual 176, 3) := dk_182 0 176 (dk_at dksX1_needed_3 2 rfl rfl)
theorem dX1_needed_76 : decode cX1_needed 76 = .ok (.ireturn, 1) := dk_172 (dk_at dksX1_needed_3 5 rfl rfl)
abbrev cX1_many : ByteArray := prog_1_method_41_code
def yX1_many : MethodName := ⟨RX1, "many", "(II)I"⟩
def dkwX1_many_4 : List UInt8 := [21, 4, 182, 0, 176, 172]
abbrev dktX1_many_4 : List UInt8 := dkwX1_many_4 ++ []
def dkwX1_many_3 : List UInt8 := [21, 5, 182, 1, 33, 153, 0, 7, 4, 167, 0, 4, 3, 96, 54, 4, 132, 5, 1, 167, 255, 225, 42]
abbrev dktX1_many_3 : List UInt8 := dkwX1_many_3 ++ dktX1_many_4
def dkwX1_many_2 : List UInt8 := [132, 4, 1, 167, 255, 226, 3, 54, 4, 3, 54, 5, 21, 5, 42, 182, 0, 252, 163, 0, 28, 21, 4, 42]
abbrev dktX1_many_2 : List UInt8 := dkwX1_many_2 ++ dktX1_many_3
def dkwX1_many_1 : List UInt8 := [182, 0, 252, 163, 0, 27, 42, 180, 0, 63, 21, 4, 42, 21, 4, 182, 0, 255, 27, 28, 182, 1, 3, 84]
abbrev dktX1_many_1 : List UInt8 := dkwX1_many_1 ++ dktX1_many_2
def dkwX1_many_0 : List UInt8 := [42, 27, 28, 182, 1, 11, 62, 29, 158, 0, 9, 42, 29, 182, 0, 98, 172, 3, 54, 4, 21, 4, 42]
abbrev dktX1_many_0 : List UInt8 := dkwX1_many_0 ++ dktX1_many_1
theorem dksX1_many_0 : cX1_many.data.toList.drop 0 = dktX1_many_0 := by decide +kernel
theorem dksX1_many_1 : cX1_many.data.toList.drop 23 = dktX1_many_1 := dk_seg dksX1_many_0 23 rfl rfl
theorem dksX1_many_2 : cX1_many.data.toList.drop 47 = dktX1_many_2 := dk_seg dksX1_many_1 24 rfl rfl
theorem dksX1_many_3 : cX1_many.data.toList.drop 71 = dktX1_many_3 := dk_seg dksX1_many_2 24 rfl rfl
theorem dksX1_many_4 : cX1_many.data.toList.drop 94 = dktX1_many_4 := dk_seg dksX1_many_3 23 rfl rfl
theorem dX1_many_0 : decode cX1_many 0 = .ok (.aload_n 0, 1) := dk_42 (dk_at dksX1_many_0 0 rfl rfl)
theorem dX1_many_1 : decode cX1_many 1 = .ok (.iload_n 1, 1) := dk_27 (dk_at dksX1_many_0 1 rfl rfl)
theorem dX1_many_2 : decode cX1_many 2 = .ok (.iload_n 2, 1) := dk_28 (dk_at dksX1_many_0 2 rfl rfl)
theorem dX1_many_3 : decode cX1_many 3 = .ok (.invokevirtual 267, 3) := dk_182 1 11 (dk_at dksX1_many_0 3 rfl rfl)
theorem dX1_many_6 : decode cX1_many 6 = .ok (.istore_n 3, 1) := dk_62 (dk_at dksX1_many_0 6 rfl rfl)
theorem dX1_many_7 : decode cX1_many 7 = .ok (.iload_n 3, 1) := dk_29 (dk_at dksX1_many_0 7 rfl rfl)
theorem dX1_many_8 : decode cX1_many 8 = .ok (.ifCond .le 9, 3) := dk_158 0 9 (dk_at dksX1_many_0 8 rfl rfl)
theorem dX1_many_11 : decode cX1_many 11 = .ok (.aload_n 0, 1) := dk_42 (dk_at dksX1_many_0 11 rfl rfl)
theorem dX1_many_12 : decode cX1_many 12 = .ok (.iload_n 3, 1) := dk_29 (dk_at dksX1_many_0 12 rfl rfl)
theorem dX1_many_13 : decode cX1_many 13 = .ok (.invokevirtual 98, 3) := dk_182 0 98 (dk_at dksX1_many_0 13 rfl rfl)
theorem dX1_many_16 : decode cX1_many 16 = .ok (.ireturn, 1) := dk_172 (dk_at dksX1_many_0 16 rfl rfl)
theorem dX1_many_17 : decode cX1_many 17 = .ok (.iconst 0, 1) := dk_3 (dk_at dksX1_many_0 17 rfl rfl)
theorem dX1_many_18 : decode cX1_many 18 = .ok (.istore 4, 2) := dk_54 4 (dk_at dksX1_many_0 18 rfl rfl)
theorem dX1_many_20 : decode cX1_many 20 = .ok (.iload 4, 2) := dk_21 4 (dk_at dksX1_many_0 20 rfl rfl)
theorem dX1_many_22 : decode cX1_many 22 = .ok (.aload_n 0, 1) := dk_42 (dk_at dksX1_many_0 22 rfl rfl)
theorem dX1_many_23 : decode cX1_many 23 = .ok (.invokevirtual 252, 3) := dk_182 0 252 (dk_at dksX1_many_1 0 rfl rfl)
theorem dX1_many_26 : decode cX1_many 26 = .ok (.if_icmp .gt 27, 3) := dk_163 0 27 (dk_at dksX1_many_1 3 rfl rfl)
theorem dX1_many_29 : decode cX1_many 29 = .ok (.aload_n 0, 1) := dk_42 (dk_at dksX1_many_1 6 rfl rfl)
theorem dX1_many_30 : decode cX1_many 30 = .ok (.getfield 63, 3) := dk_180 0 63 (dk_at dksX1_many_1 7 rfl rfl)
theorem dX1_many_33 : decode cX1_many 33 = .ok (.iload 4, 2) := dk_21 4 (dk_at dksX1_many_1 10 rfl rfl)
theorem dX1_many_35 : decode cX1_many 35 = .ok (.aload_n 0, 1) := dk_42 (dk_at dksX1_many_1 12 rfl rfl)
theorem dX1_many_36 : decode cX1_many 36 = .ok (.iload 4, 2) := dk_21 4 (dk_at dksX1_many_1 13 rfl rfl)
theorem dX1_many_38 : decode cX1_many 38 = .ok (.invokevirtual 255, 3) := dk_182 0 255 (dk_at dksX1_many_1 15 rfl rfl)
theorem dX1_many_41 : decode cX1_many 41 = .ok (.iload_n 1, 1) := dk_27 (dk_at dksX1_many_1 18 rfl rfl)
theorem dX1_many_42 : decode cX1_many 42 = .ok (.iload_n 2, 1) := dk_28 (dk_at dksX1_many_1 19 rfl rfl)
theorem dX1_many_43 : decode cX1_many 43 = .ok (.invokevirtual 259, 3) := dk_182 1 3 (dk_at dksX1_many_1 20 rfl rfl)
theorem dX1_many_46 : decode cX1_many 46 = .ok (.bastore, 1) := dk_84 (dk_at dksX1_many_1 23 rfl rfl)
theorem dX1_many_47 : decode cX1_many 47 = .ok (.iinc 4 1, 3) := dk_132 4 1 (dk_at dksX1_many_2 0 rfl rfl)
theorem dX1_many_50 : decode cX1_many 50 = .ok (.goto (-30), 3) := dk_167 255 226 (dk_at dksX1_many_2 3 rfl rfl)
theorem dX1_many_53 : decode cX1_many 53 = .ok (.iconst 0, 1) := dk_3 (dk_at dksX1_many_2 6 rfl rfl)
theorem dX1_many_54 : decode cX1_many 54 = .ok (.istore 4, 2) := dk_54 4 (dk_at dksX1_many_2 7 rfl rfl)
theorem dX1_many_56 : decode cX1_many 56 = .ok (.iconst 0, 1) := dk_3 (dk_at dksX1_many_2 9 rfl rfl)
theorem dX1_many_57 : decode cX1_many 57 = .ok (.istore 5, 2) := dk_54 5 (dk_at dksX1_many_2 10 rfl rfl)
theorem dX1_many_59 : decode cX1_many 59 = .ok (.iload 5, 2) := dk_21 5 (dk_at dksX1_many_2 12 rfl rfl)
theorem dX1_many_61 : decode cX1_many 61 = .ok (.aload_n 0, 1) := dk_42 (dk_at dksX1_many_2 14 rfl rfl)
theorem dX1_many_62 : decode cX1_many 62 = .ok (.invokevirtual 252, 3) := dk_182 0 252 (dk_at dksX1_many_2 15 rfl rfl)
theorem dX1_many_65 : decode cX1_many 65 = .ok (.if_icmp .gt 28, 3) := dk_163 0 28 (dk_at dksX1_many_2 18 rfl rfl)
theorem dX1_many_68 : decode cX1_many 68 = .ok (.iload 4, 2) := dk_21 4 (dk_at dksX1_many_2 21 rfl rfl)
theorem dX1_many_70 : decode cX1_many 70 = .ok (.aload_n 0, 1) := dk_42 (dk_at dksX1_many_2 23 rfl rfl)
theorem dX1_many_71 : decode cX1_many 71 = .ok (.iload 5, 2) := dk_21 5 (dk_at dksX1_many_3 0 rfl rfl)
theorem dX1_many_73 : decode cX1_many 73 = .ok (.invokevirtual 289, 3) := dk_182 1 33 (dk_at dksX1_many_3 2 rfl rfl)
theorem dX1_many_76 : decode cX1_many 76 = .ok (.ifCond .eq 7, 3) := dk_153 0 7 (dk_at dksX1_many_3 5 rfl rfl)
theorem dX1_many_79 : decode cX1_many 79 = .ok (.iconst 1, 1) := dk_4 (dk_at dksX1_many_3 8 rfl rfl)
theorem dX1_many_80 : decode cX1_many 80 = .ok (.goto 4, 3) := dk_167 0 4 (dk_at dksX1_many_3 9 rfl rfl)
theorem dX1_many_83 : decode cX1_many 83 = .ok (.iconst 0, 1) := dk_3 (dk_at dksX1_many_3 12 rfl rfl)
theorem dX1_many_84 : decode cX1_many 84 = .ok (.iadd, 1) := dk_96 (dk_at dksX1_many_3 13 rfl rfl)
theorem dX1_many_85 : decode cX1_many 85 = .ok (.istore 4, 2) := dk_54 4 (dk_at dksX1_many_3 14 rfl rfl)
theorem dX1_many_87 : decode cX1_many 87 = .ok (.iinc 5 1, 3) := dk_132 5 1 (dk_at dksX1_many_3 16 rfl rfl)
theorem dX1_many_90 : decode cX1_many 90 = .ok (.goto (-31), 3) := dk_167 255 225 (dk_at dksX1_many_3 19 rfl rfl)
theorem dX1_many_93 : decode cX1_many 93 = .ok (.aload_n 0, 1) := dk_42 (dk_at dksX1_many_3 22 rfl rfl)
theorem dX1_many_94 : decode cX1_many 94 = .ok (.iload 4, 2) := dk_21 4 (dk_at dksX1_many_4 0 rfl rfl)
theorem dX1_many_96 : decode cX1_many 96 = .ok (.invokevirtual 176, 3) := dk_182 0 176 (dk_at dksX1_many_4 2 rfl rfl)
theorem dX1_many_99 : decode cX1_many 99 = .ok (.ireturn, 1) := dk_172 (dk_at dksX1_many_4 5 rfl rfl)
abbrev cX1_isLeast : ByteArray := prog_1_method_40_code
def yX1_isLeast : MethodName := ⟨RX1, "isLeast", "(I)Z"⟩
def dkwX1_isLeast_2 : List UInt8 := [132, 2, 1, 167, 255, 220, 4, 172]
abbrev dktX1_isLeast_2 : List UInt8 := dkwX1_isLeast_2 ++ []
def dkwX1_isLeast_1 : List UInt8 := [184, 0, 248, 153, 0, 20, 42, 180, 0, 63, 27, 4, 28, 120, 2, 130, 126, 51, 153, 0, 5, 3, 172]
abbrev dktX1_isLeast_1 : List UInt8 := dkwX1_isLeast_1 ++ dktX1_isLeast_2
def dkwX1_isLeast_0 : List UInt8 := [42, 180, 0, 63, 27, 51, 154, 0, 5, 3, 172, 3, 61, 28, 42, 182, 0, 191, 162, 0, 34, 27, 28]
abbrev dktX1_isLeast_0 : List UInt8 := dkwX1_isLeast_0 ++ dktX1_isLeast_1
theorem dksX1_isLeast_0 : cX1_isLeast.data.toList.drop 0 = dktX1_isLeast_0 := by decide +kernel
theorem dksX1_isLeast_1 : cX1_isLeast.data.toList.drop 23 = dktX1_isLeast_1 := dk_seg dksX1_isLeast_0 23 rfl rfl
theorem dksX1_isLeast_2 : cX1_isLeast.data.toList.drop 46 = dktX1_isLeast_2 := dk_seg dksX1_isLeast_1 23 rfl rfl
theorem dX1_isLeast_0 : decode cX1_isLeast 0 = .ok (.aload_n 0, 1) := dk_42 (dk_at dksX1_isLeast_0 0 rfl rfl)
theorem dX1_isLeast_1 : decode cX1_isLeast 1 = .ok (.getfield 63, 3) := dk_180 0 63 (dk_at dksX1_isLeast_0 1 rfl rfl)
theorem dX1_isLeast_4 : decode cX1_isLeast 4 = .ok (.iload_n 1, 1) := dk_27 (dk_at dksX1_isLeast_0 4 rfl rfl)
theorem dX1_isLeast_5 : decode cX1_isLeast 5 = .ok (.baload, 1) := dk_51 (dk_at dksX1_isLeast_0 5 rfl rfl)
theorem dX1_isLeast_6 : decode cX1_isLeast 6 = .ok (.ifCond .ne 5, 3) := dk_154 0 5 (dk_at dksX1_isLeast_0 6 rfl rfl)
theorem dX1_isLeast_9 : decode cX1_isLeast 9 = .ok (.iconst 0, 1) := dk_3 (dk_at dksX1_isLeast_0 9 rfl rfl)
theorem dX1_isLeast_10 : decode cX1_isLeast 10 = .ok (.ireturn, 1) := dk_172 (dk_at dksX1_isLeast_0 10 rfl rfl)
theorem dX1_isLeast_11 : decode cX1_isLeast 11 = .ok (.iconst 0, 1) := dk_3 (dk_at dksX1_isLeast_0 11 rfl rfl)
theorem dX1_isLeast_12 : decode cX1_isLeast 12 = .ok (.istore_n 2, 1) := dk_61 (dk_at dksX1_isLeast_0 12 rfl rfl)
theorem dX1_isLeast_13 : decode cX1_isLeast 13 = .ok (.iload_n 2, 1) := dk_28 (dk_at dksX1_isLeast_0 13 rfl rfl)
theorem dX1_isLeast_14 : decode cX1_isLeast 14 = .ok (.aload_n 0, 1) := dk_42 (dk_at dksX1_isLeast_0 14 rfl rfl)
theorem dX1_isLeast_15 : decode cX1_isLeast 15 = .ok (.invokevirtual 191, 3) := dk_182 0 191 (dk_at dksX1_isLeast_0 15 rfl rfl)
theorem dX1_isLeast_18 : decode cX1_isLeast 18 = .ok (.if_icmp .ge 34, 3) := dk_162 0 34 (dk_at dksX1_isLeast_0 18 rfl rfl)
theorem dX1_isLeast_21 : decode cX1_isLeast 21 = .ok (.iload_n 1, 1) := dk_27 (dk_at dksX1_isLeast_0 21 rfl rfl)
theorem dX1_isLeast_22 : decode cX1_isLeast 22 = .ok (.iload_n 2, 1) := dk_28 (dk_at dksX1_isLeast_0 22 rfl rfl)
theorem dX1_isLeast_23 : decode cX1_isLeast 23 = .ok (.invokestatic 248, 3) := dk_184 0 248 (dk_at dksX1_isLeast_1 0 rfl rfl)
theorem dX1_isLeast_26 : decode cX1_isLeast 26 = .ok (.ifCond .eq 20, 3) := dk_153 0 20 (dk_at dksX1_isLeast_1 3 rfl rfl)
theorem dX1_isLeast_29 : decode cX1_isLeast 29 = .ok (.aload_n 0, 1) := dk_42 (dk_at dksX1_isLeast_1 6 rfl rfl)
theorem dX1_isLeast_30 : decode cX1_isLeast 30 = .ok (.getfield 63, 3) := dk_180 0 63 (dk_at dksX1_isLeast_1 7 rfl rfl)
theorem dX1_isLeast_33 : decode cX1_isLeast 33 = .ok (.iload_n 1, 1) := dk_27 (dk_at dksX1_isLeast_1 10 rfl rfl)
theorem dX1_isLeast_34 : decode cX1_isLeast 34 = .ok (.iconst 1, 1) := dk_4 (dk_at dksX1_isLeast_1 11 rfl rfl)
theorem dX1_isLeast_35 : decode cX1_isLeast 35 = .ok (.iload_n 2, 1) := dk_28 (dk_at dksX1_isLeast_1 12 rfl rfl)
theorem dX1_isLeast_36 : decode cX1_isLeast 36 = .ok (.ishl, 1) := dk_120 (dk_at dksX1_isLeast_1 13 rfl rfl)
theorem dX1_isLeast_37 : decode cX1_isLeast 37 = .ok (.iconst (-1), 1) := dk_2 (dk_at dksX1_isLeast_1 14 rfl rfl)
theorem dX1_isLeast_38 : decode cX1_isLeast 38 = .ok (.ixor, 1) := dk_130 (dk_at dksX1_isLeast_1 15 rfl rfl)
theorem dX1_isLeast_39 : decode cX1_isLeast 39 = .ok (.iand, 1) := dk_126 (dk_at dksX1_isLeast_1 16 rfl rfl)
theorem dX1_isLeast_40 : decode cX1_isLeast 40 = .ok (.baload, 1) := dk_51 (dk_at dksX1_isLeast_1 17 rfl rfl)
theorem dX1_isLeast_41 : decode cX1_isLeast 41 = .ok (.ifCond .eq 5, 3) := dk_153 0 5 (dk_at dksX1_isLeast_1 18 rfl rfl)
theorem dX1_isLeast_44 : decode cX1_isLeast 44 = .ok (.iconst 0, 1) := dk_3 (dk_at dksX1_isLeast_1 21 rfl rfl)
theorem dX1_isLeast_45 : decode cX1_isLeast 45 = .ok (.ireturn, 1) := dk_172 (dk_at dksX1_isLeast_1 22 rfl rfl)
theorem dX1_isLeast_46 : decode cX1_isLeast 46 = .ok (.iinc 2 1, 3) := dk_132 2 1 (dk_at dksX1_isLeast_2 0 rfl rfl)
theorem dX1_isLeast_49 : decode cX1_isLeast 49 = .ok (.goto (-36), 3) := dk_167 255 220 (dk_at dksX1_isLeast_2 3 rfl rfl)
theorem dX1_isLeast_52 : decode cX1_isLeast 52 = .ok (.iconst 1, 1) := dk_4 (dk_at dksX1_isLeast_2 6 rfl rfl)
theorem dX1_isLeast_53 : decode cX1_isLeast 53 = .ok (.ireturn, 1) := dk_172 (dk_at dksX1_isLeast_2 7 rfl rfl)
abbrev cX1_base : ByteArray := prog_1_method_42_code
def yX1_base : MethodName := ⟨RX1, "base", "()I"⟩
def dkwX1_base_3 : List UInt8 := [27, 172]
abbrev dktX1_base_3 : List UInt8 := dkwX1_base_3 ++ []
def dkwX1_base_2 : List UInt8 := [45, 180, 0, 162, 182, 1, 3, 153, 0, 11, 27, 4, 28, 120, 2, 130, 126, 60, 132, 2, 255, 167, 255, 199]
abbrev dktX1_base_2 : List UInt8 := dkwX1_base_2 ++ dktX1_base_3
def dkwX1_base_1 : List UInt8 := [185, 0, 153, 2, 0, 192, 0, 157, 78, 42, 27, 4, 28, 120, 2, 130, 126, 182, 0, 255, 45, 180, 0, 159]
abbrev dktX1_base_1 : List UInt8 := dkwX1_base_1 ++ dktX1_base_2
def dkwX1_base_0 : List UInt8 := [42, 182, 0, 252, 60, 42, 182, 0, 191, 4, 100, 61, 28, 155, 0, 59, 42, 180, 0, 23, 180, 0, 150, 28]
abbrev dktX1_base_0 : List UInt8 := dkwX1_base_0 ++ dktX1_base_1
theorem dksX1_base_0 : cX1_base.data.toList.drop 0 = dktX1_base_0 := by decide +kernel
theorem dksX1_base_1 : cX1_base.data.toList.drop 24 = dktX1_base_1 := dk_seg dksX1_base_0 24 rfl rfl
theorem dksX1_base_2 : cX1_base.data.toList.drop 48 = dktX1_base_2 := dk_seg dksX1_base_1 24 rfl rfl
theorem dksX1_base_3 : cX1_base.data.toList.drop 72 = dktX1_base_3 := dk_seg dksX1_base_2 24 rfl rfl
theorem dX1_base_0 : decode cX1_base 0 = .ok (.aload_n 0, 1) := dk_42 (dk_at dksX1_base_0 0 rfl rfl)
theorem dX1_base_1 : decode cX1_base 1 = .ok (.invokevirtual 252, 3) := dk_182 0 252 (dk_at dksX1_base_0 1 rfl rfl)
theorem dX1_base_4 : decode cX1_base 4 = .ok (.istore_n 1, 1) := dk_60 (dk_at dksX1_base_0 4 rfl rfl)
theorem dX1_base_5 : decode cX1_base 5 = .ok (.aload_n 0, 1) := dk_42 (dk_at dksX1_base_0 5 rfl rfl)
theorem dX1_base_6 : decode cX1_base 6 = .ok (.invokevirtual 191, 3) := dk_182 0 191 (dk_at dksX1_base_0 6 rfl rfl)
theorem dX1_base_9 : decode cX1_base 9 = .ok (.iconst 1, 1) := dk_4 (dk_at dksX1_base_0 9 rfl rfl)
theorem dX1_base_10 : decode cX1_base 10 = .ok (.isub, 1) := dk_100 (dk_at dksX1_base_0 10 rfl rfl)
theorem dX1_base_11 : decode cX1_base 11 = .ok (.istore_n 2, 1) := dk_61 (dk_at dksX1_base_0 11 rfl rfl)
theorem dX1_base_12 : decode cX1_base 12 = .ok (.iload_n 2, 1) := dk_28 (dk_at dksX1_base_0 12 rfl rfl)
theorem dX1_base_13 : decode cX1_base 13 = .ok (.ifCond .lt 59, 3) := dk_155 0 59 (dk_at dksX1_base_0 13 rfl rfl)
theorem dX1_base_16 : decode cX1_base 16 = .ok (.aload_n 0, 1) := dk_42 (dk_at dksX1_base_0 16 rfl rfl)
theorem dX1_base_17 : decode cX1_base 17 = .ok (.getfield 23, 3) := dk_180 0 23 (dk_at dksX1_base_0 17 rfl rfl)
theorem dX1_base_20 : decode cX1_base 20 = .ok (.getfield 150, 3) := dk_180 0 150 (dk_at dksX1_base_0 20 rfl rfl)
theorem dX1_base_23 : decode cX1_base 23 = .ok (.iload_n 2, 1) := dk_28 (dk_at dksX1_base_0 23 rfl rfl)
theorem dX1_base_24 : decode cX1_base 24 = .ok (.invokeinterface 153 2, 5) := by decide +kernel
theorem dX1_base_29 : decode cX1_base 29 = .ok (.checkcast 157, 3) := dk_192 0 157 (dk_at dksX1_base_1 5 rfl rfl)
theorem dX1_base_32 : decode cX1_base 32 = .ok (.astore_n 3, 1) := dk_78 (dk_at dksX1_base_1 8 rfl rfl)
theorem dX1_base_33 : decode cX1_base 33 = .ok (.aload_n 0, 1) := dk_42 (dk_at dksX1_base_1 9 rfl rfl)
theorem dX1_base_34 : decode cX1_base 34 = .ok (.iload_n 1, 1) := dk_27 (dk_at dksX1_base_1 10 rfl rfl)
theorem dX1_base_35 : decode cX1_base 35 = .ok (.iconst 1, 1) := dk_4 (dk_at dksX1_base_1 11 rfl rfl)
theorem dX1_base_36 : decode cX1_base 36 = .ok (.iload_n 2, 1) := dk_28 (dk_at dksX1_base_1 12 rfl rfl)
theorem dX1_base_37 : decode cX1_base 37 = .ok (.ishl, 1) := dk_120 (dk_at dksX1_base_1 13 rfl rfl)
theorem dX1_base_38 : decode cX1_base 38 = .ok (.iconst (-1), 1) := dk_2 (dk_at dksX1_base_1 14 rfl rfl)
theorem dX1_base_39 : decode cX1_base 39 = .ok (.ixor, 1) := dk_130 (dk_at dksX1_base_1 15 rfl rfl)
theorem dX1_base_40 : decode cX1_base 40 = .ok (.iand, 1) := dk_126 (dk_at dksX1_base_1 16 rfl rfl)
theorem dX1_base_41 : decode cX1_base 41 = .ok (.invokevirtual 255, 3) := dk_182 0 255 (dk_at dksX1_base_1 17 rfl rfl)
theorem dX1_base_44 : decode cX1_base 44 = .ok (.aload_n 3, 1) := dk_45 (dk_at dksX1_base_1 20 rfl rfl)
theorem dX1_base_45 : decode cX1_base 45 = .ok (.getfield 159, 3) := dk_180 0 159 (dk_at dksX1_base_1 21 rfl rfl)
theorem dX1_base_48 : decode cX1_base 48 = .ok (.aload_n 3, 1) := dk_45 (dk_at dksX1_base_2 0 rfl rfl)
theorem dX1_base_49 : decode cX1_base 49 = .ok (.getfield 162, 3) := dk_180 0 162 (dk_at dksX1_base_2 1 rfl rfl)
theorem dX1_base_52 : decode cX1_base 52 = .ok (.invokevirtual 259, 3) := dk_182 1 3 (dk_at dksX1_base_2 4 rfl rfl)
theorem dX1_base_55 : decode cX1_base 55 = .ok (.ifCond .eq 11, 3) := dk_153 0 11 (dk_at dksX1_base_2 7 rfl rfl)
theorem dX1_base_58 : decode cX1_base 58 = .ok (.iload_n 1, 1) := dk_27 (dk_at dksX1_base_2 10 rfl rfl)
theorem dX1_base_59 : decode cX1_base 59 = .ok (.iconst 1, 1) := dk_4 (dk_at dksX1_base_2 11 rfl rfl)
theorem dX1_base_60 : decode cX1_base 60 = .ok (.iload_n 2, 1) := dk_28 (dk_at dksX1_base_2 12 rfl rfl)
theorem dX1_base_61 : decode cX1_base 61 = .ok (.ishl, 1) := dk_120 (dk_at dksX1_base_2 13 rfl rfl)
theorem dX1_base_62 : decode cX1_base 62 = .ok (.iconst (-1), 1) := dk_2 (dk_at dksX1_base_2 14 rfl rfl)
theorem dX1_base_63 : decode cX1_base 63 = .ok (.ixor, 1) := dk_130 (dk_at dksX1_base_2 15 rfl rfl)
theorem dX1_base_64 : decode cX1_base 64 = .ok (.iand, 1) := dk_126 (dk_at dksX1_base_2 16 rfl rfl)
theorem dX1_base_65 : decode cX1_base 65 = .ok (.istore_n 1, 1) := dk_60 (dk_at dksX1_base_2 17 rfl rfl)
theorem dX1_base_66 : decode cX1_base 66 = .ok (.iinc 2 (-1), 3) := dk_132 2 255 (dk_at dksX1_base_2 18 rfl rfl)
theorem dX1_base_69 : decode cX1_base 69 = .ok (.goto (-57), 3) := dk_167 255 199 (dk_at dksX1_base_2 21 rfl rfl)
theorem dX1_base_72 : decode cX1_base 72 = .ok (.iload_n 1, 1) := dk_27 (dk_at dksX1_base_3 0 rfl rfl)
theorem dX1_base_73 : decode cX1_base 73 = .ok (.ireturn, 1) := dk_172 (dk_at dksX1_base_3 1 rfl rfl)
abbrev cX1_core : ByteArray := prog_1_method_43_code
def yX1_core : MethodName := ⟨RX1, "core", "()I"⟩
def dkwX1_core_1 : List UInt8 := [186, 1, 37, 0, 0, 182, 1, 29, 172]
abbrev dktX1_core_1 : List UInt8 := dkwX1_core_1 ++ []
def dkwX1_core_0 : List UInt8 := [42, 42, 180, 0, 36, 182, 0, 199, 16, 254, 160, 0, 8, 16, 254, 167, 0, 13, 42, 42]
abbrev dktX1_core_0 : List UInt8 := dkwX1_core_0 ++ dktX1_core_1
theorem dksX1_core_0 : cX1_core.data.toList.drop 0 = dktX1_core_0 := by decide +kernel
theorem dksX1_core_1 : cX1_core.data.toList.drop 20 = dktX1_core_1 := dk_seg dksX1_core_0 20 rfl rfl
theorem dX1_core_0 : decode cX1_core 0 = .ok (.aload_n 0, 1) := dk_42 (dk_at dksX1_core_0 0 rfl rfl)
theorem dX1_core_1 : decode cX1_core 1 = .ok (.aload_n 0, 1) := dk_42 (dk_at dksX1_core_0 1 rfl rfl)
theorem dX1_core_2 : decode cX1_core 2 = .ok (.getfield 36, 3) := dk_180 0 36 (dk_at dksX1_core_0 2 rfl rfl)
theorem dX1_core_5 : decode cX1_core 5 = .ok (.invokevirtual 199, 3) := dk_182 0 199 (dk_at dksX1_core_0 5 rfl rfl)
theorem dX1_core_8 : decode cX1_core 8 = .ok (.bipush (-2), 2) := dk_16 254 (dk_at dksX1_core_0 8 rfl rfl)
theorem dX1_core_10 : decode cX1_core 10 = .ok (.if_icmp .ne 8, 3) := dk_160 0 8 (dk_at dksX1_core_0 10 rfl rfl)
theorem dX1_core_13 : decode cX1_core 13 = .ok (.bipush (-2), 2) := dk_16 254 (dk_at dksX1_core_0 13 rfl rfl)
theorem dX1_core_15 : decode cX1_core 15 = .ok (.goto 13, 3) := dk_167 0 13 (dk_at dksX1_core_0 15 rfl rfl)
theorem dX1_core_18 : decode cX1_core 18 = .ok (.aload_n 0, 1) := dk_42 (dk_at dksX1_core_0 18 rfl rfl)
theorem dX1_core_19 : decode cX1_core 19 = .ok (.aload_n 0, 1) := dk_42 (dk_at dksX1_core_0 19 rfl rfl)
theorem dX1_core_20 : decode cX1_core 20 = .ok (.invokedynamic 293, 5) := by decide +kernel
theorem dX1_core_25 : decode cX1_core 25 = .ok (.invokevirtual 285, 3) := dk_182 1 29 (dk_at dksX1_core_1 5 rfl rfl)
theorem dX1_core_28 : decode cX1_core 28 = .ok (.ireturn, 1) := dk_172 (dk_at dksX1_core_1 8 rfl rfl)
abbrev cX1_lambda_core_1 : ByteArray := prog_1_method_70_code
def yX1_lambda_core_1 : MethodName := ⟨RX1, "lambda$core$1", "(LReasonCloser$Closed;)Z"⟩
def dkwX1_lambda_core_1_0 : List UInt8 := [42, 43, 182, 0, 199, 16, 254, 159, 0, 7, 4, 167, 0, 4, 3, 172]
abbrev dktX1_lambda_core_1_0 : List UInt8 := dkwX1_lambda_core_1_0 ++ []
theorem dksX1_lambda_core_1_0 : cX1_lambda_core_1.data.toList.drop 0 = dktX1_lambda_core_1_0 := by decide +kernel
theorem dX1_lambda_core_1_0 : decode cX1_lambda_core_1 0 = .ok (.aload_n 0, 1) := dk_42 (dk_at dksX1_lambda_core_1_0 0 rfl rfl)
theorem dX1_lambda_core_1_1 : decode cX1_lambda_core_1 1 = .ok (.aload_n 1, 1) := dk_43 (dk_at dksX1_lambda_core_1_0 1 rfl rfl)
theorem dX1_lambda_core_1_2 : decode cX1_lambda_core_1 2 = .ok (.invokevirtual 199, 3) := dk_182 0 199 (dk_at dksX1_lambda_core_1_0 2 rfl rfl)
theorem dX1_lambda_core_1_5 : decode cX1_lambda_core_1 5 = .ok (.bipush (-2), 2) := dk_16 254 (dk_at dksX1_lambda_core_1_0 5 rfl rfl)
theorem dX1_lambda_core_1_7 : decode cX1_lambda_core_1 7 = .ok (.if_icmp .eq 7, 3) := dk_159 0 7 (dk_at dksX1_lambda_core_1_0 7 rfl rfl)
theorem dX1_lambda_core_1_10 : decode cX1_lambda_core_1 10 = .ok (.iconst 1, 1) := dk_4 (dk_at dksX1_lambda_core_1_0 10 rfl rfl)
theorem dX1_lambda_core_1_11 : decode cX1_lambda_core_1 11 = .ok (.goto 4, 3) := dk_167 0 4 (dk_at dksX1_lambda_core_1_0 11 rfl rfl)
theorem dX1_lambda_core_1_14 : decode cX1_lambda_core_1 14 = .ok (.iconst 0, 1) := dk_3 (dk_at dksX1_lambda_core_1_0 14 rfl rfl)
theorem dX1_lambda_core_1_15 : decode cX1_lambda_core_1 15 = .ok (.ireturn, 1) := dk_172 (dk_at dksX1_lambda_core_1_0 15 rfl rfl)
abbrev cX1_level : ByteArray := prog_1_method_46_code
def yX1_level : MethodName := ⟨RX1, "level", "(II)I"⟩
def dkwX1_level_5 : List UInt8 := [167, 255, 218, 132, 5, 1, 167, 255, 197, 132, 4, 1, 167, 255, 157, 42, 21, 4, 182, 0, 176, 172]
abbrev dktX1_level_5 : List UInt8 := dkwX1_level_5 ++ []
def dkwX1_level_4 : List UInt8 := [21, 5, 21, 6, 182, 1, 52, 153, 0, 14, 42, 180, 0, 74, 21, 5, 21, 6, 182, 1, 44, 132, 6, 1]
abbrev dktX1_level_4 : List UInt8 := dkwX1_level_4 ++ dktX1_level_5
def dkwX1_level_3 : List UInt8 := [162, 0, 56, 21, 5, 4, 96, 54, 6, 21, 6, 42, 182, 0, 179, 162, 0, 35, 42, 42, 180, 0, 70]
abbrev dktX1_level_3 : List UInt8 := dkwX1_level_3 ++ dktX1_level_4
def dkwX1_level_2 : List UInt8 := [180, 0, 74, 182, 1, 51, 42, 42, 180, 0, 74, 182, 1, 48, 3, 54, 5, 21, 5, 42, 182, 0, 179]
abbrev dktX1_level_2 : List UInt8 := dkwX1_level_2 ++ dktX1_level_3
def dkwX1_level_1 : List UInt8 := [182, 1, 48, 3, 54, 4, 42, 180, 0, 74, 27, 28, 182, 0, 184, 154, 0, 93, 42, 180, 0, 70, 42]
abbrev dktX1_level_1 : List UInt8 := dkwX1_level_1 ++ dktX1_level_2
def dkwX1_level_0 : List UInt8 := [42, 27, 28, 182, 1, 11, 62, 29, 158, 0, 9, 42, 29, 182, 0, 98, 172, 42, 42, 180, 0, 74]
abbrev dktX1_level_0 : List UInt8 := dkwX1_level_0 ++ dktX1_level_1
theorem dksX1_level_0 : cX1_level.data.toList.drop 0 = dktX1_level_0 := by decide +kernel
theorem dksX1_level_1 : cX1_level.data.toList.drop 22 = dktX1_level_1 := dk_seg dksX1_level_0 22 rfl rfl
theorem dksX1_level_2 : cX1_level.data.toList.drop 45 = dktX1_level_2 := dk_seg dksX1_level_1 23 rfl rfl
theorem dksX1_level_3 : cX1_level.data.toList.drop 68 = dktX1_level_3 := dk_seg dksX1_level_2 23 rfl rfl
theorem dksX1_level_4 : cX1_level.data.toList.drop 91 = dktX1_level_4 := dk_seg dksX1_level_3 23 rfl rfl
theorem dksX1_level_5 : cX1_level.data.toList.drop 115 = dktX1_level_5 := dk_seg dksX1_level_4 24 rfl rfl
theorem dX1_level_0 : decode cX1_level 0 = .ok (.aload_n 0, 1) := dk_42 (dk_at dksX1_level_0 0 rfl rfl)
theorem dX1_level_1 : decode cX1_level 1 = .ok (.iload_n 1, 1) := dk_27 (dk_at dksX1_level_0 1 rfl rfl)
theorem dX1_level_2 : decode cX1_level 2 = .ok (.iload_n 2, 1) := dk_28 (dk_at dksX1_level_0 2 rfl rfl)
theorem dX1_level_3 : decode cX1_level 3 = .ok (.invokevirtual 267, 3) := dk_182 1 11 (dk_at dksX1_level_0 3 rfl rfl)
theorem dX1_level_6 : decode cX1_level 6 = .ok (.istore_n 3, 1) := dk_62 (dk_at dksX1_level_0 6 rfl rfl)
theorem dX1_level_7 : decode cX1_level 7 = .ok (.iload_n 3, 1) := dk_29 (dk_at dksX1_level_0 7 rfl rfl)
theorem dX1_level_8 : decode cX1_level 8 = .ok (.ifCond .le 9, 3) := dk_158 0 9 (dk_at dksX1_level_0 8 rfl rfl)
theorem dX1_level_11 : decode cX1_level 11 = .ok (.aload_n 0, 1) := dk_42 (dk_at dksX1_level_0 11 rfl rfl)
theorem dX1_level_12 : decode cX1_level 12 = .ok (.iload_n 3, 1) := dk_29 (dk_at dksX1_level_0 12 rfl rfl)
theorem dX1_level_13 : decode cX1_level 13 = .ok (.invokevirtual 98, 3) := dk_182 0 98 (dk_at dksX1_level_0 13 rfl rfl)
theorem dX1_level_16 : decode cX1_level 16 = .ok (.ireturn, 1) := dk_172 (dk_at dksX1_level_0 16 rfl rfl)
theorem dX1_level_17 : decode cX1_level 17 = .ok (.aload_n 0, 1) := dk_42 (dk_at dksX1_level_0 17 rfl rfl)
theorem dX1_level_18 : decode cX1_level 18 = .ok (.aload_n 0, 1) := dk_42 (dk_at dksX1_level_0 18 rfl rfl)
theorem dX1_level_19 : decode cX1_level 19 = .ok (.getfield 74, 3) := dk_180 0 74 (dk_at dksX1_level_0 19 rfl rfl)
theorem dX1_level_22 : decode cX1_level 22 = .ok (.invokevirtual 304, 3) := dk_182 1 48 (dk_at dksX1_level_1 0 rfl rfl)
theorem dX1_level_25 : decode cX1_level 25 = .ok (.iconst 0, 1) := dk_3 (dk_at dksX1_level_1 3 rfl rfl)
theorem dX1_level_26 : decode cX1_level 26 = .ok (.istore 4, 2) := dk_54 4 (dk_at dksX1_level_1 4 rfl rfl)
theorem dX1_level_28 : decode cX1_level 28 = .ok (.aload_n 0, 1) := dk_42 (dk_at dksX1_level_1 6 rfl rfl)
theorem dX1_level_29 : decode cX1_level 29 = .ok (.getfield 74, 3) := dk_180 0 74 (dk_at dksX1_level_1 7 rfl rfl)
theorem dX1_level_32 : decode cX1_level 32 = .ok (.iload_n 1, 1) := dk_27 (dk_at dksX1_level_1 10 rfl rfl)
theorem dX1_level_33 : decode cX1_level 33 = .ok (.iload_n 2, 1) := dk_28 (dk_at dksX1_level_1 11 rfl rfl)
theorem dX1_level_34 : decode cX1_level 34 = .ok (.invokevirtual 184, 3) := dk_182 0 184 (dk_at dksX1_level_1 12 rfl rfl)
theorem dX1_level_37 : decode cX1_level 37 = .ok (.ifCond .ne 93, 3) := dk_154 0 93 (dk_at dksX1_level_1 15 rfl rfl)
theorem dX1_level_40 : decode cX1_level 40 = .ok (.aload_n 0, 1) := dk_42 (dk_at dksX1_level_1 18 rfl rfl)
theorem dX1_level_41 : decode cX1_level 41 = .ok (.getfield 70, 3) := dk_180 0 70 (dk_at dksX1_level_1 19 rfl rfl)
theorem dX1_level_44 : decode cX1_level 44 = .ok (.aload_n 0, 1) := dk_42 (dk_at dksX1_level_1 22 rfl rfl)
theorem dX1_level_45 : decode cX1_level 45 = .ok (.getfield 74, 3) := dk_180 0 74 (dk_at dksX1_level_2 0 rfl rfl)
theorem dX1_level_48 : decode cX1_level 48 = .ok (.invokevirtual 307, 3) := dk_182 1 51 (dk_at dksX1_level_2 3 rfl rfl)
theorem dX1_level_51 : decode cX1_level 51 = .ok (.aload_n 0, 1) := dk_42 (dk_at dksX1_level_2 6 rfl rfl)
theorem dX1_level_52 : decode cX1_level 52 = .ok (.aload_n 0, 1) := dk_42 (dk_at dksX1_level_2 7 rfl rfl)
theorem dX1_level_53 : decode cX1_level 53 = .ok (.getfield 74, 3) := dk_180 0 74 (dk_at dksX1_level_2 8 rfl rfl)
theorem dX1_level_56 : decode cX1_level 56 = .ok (.invokevirtual 304, 3) := dk_182 1 48 (dk_at dksX1_level_2 11 rfl rfl)
theorem dX1_level_59 : decode cX1_level 59 = .ok (.iconst 0, 1) := dk_3 (dk_at dksX1_level_2 14 rfl rfl)
theorem dX1_level_60 : decode cX1_level 60 = .ok (.istore 5, 2) := dk_54 5 (dk_at dksX1_level_2 15 rfl rfl)
theorem dX1_level_62 : decode cX1_level 62 = .ok (.iload 5, 2) := dk_21 5 (dk_at dksX1_level_2 17 rfl rfl)
theorem dX1_level_64 : decode cX1_level 64 = .ok (.aload_n 0, 1) := dk_42 (dk_at dksX1_level_2 19 rfl rfl)
theorem dX1_level_65 : decode cX1_level 65 = .ok (.invokevirtual 179, 3) := dk_182 0 179 (dk_at dksX1_level_2 20 rfl rfl)
theorem dX1_level_68 : decode cX1_level 68 = .ok (.if_icmp .ge 56, 3) := dk_162 0 56 (dk_at dksX1_level_3 0 rfl rfl)
theorem dX1_level_71 : decode cX1_level 71 = .ok (.iload 5, 2) := dk_21 5 (dk_at dksX1_level_3 3 rfl rfl)
theorem dX1_level_73 : decode cX1_level 73 = .ok (.iconst 1, 1) := dk_4 (dk_at dksX1_level_3 5 rfl rfl)
theorem dX1_level_74 : decode cX1_level 74 = .ok (.iadd, 1) := dk_96 (dk_at dksX1_level_3 6 rfl rfl)
theorem dX1_level_75 : decode cX1_level 75 = .ok (.istore 6, 2) := dk_54 6 (dk_at dksX1_level_3 7 rfl rfl)
theorem dX1_level_77 : decode cX1_level 77 = .ok (.iload 6, 2) := dk_21 6 (dk_at dksX1_level_3 9 rfl rfl)
theorem dX1_level_79 : decode cX1_level 79 = .ok (.aload_n 0, 1) := dk_42 (dk_at dksX1_level_3 11 rfl rfl)
theorem dX1_level_80 : decode cX1_level 80 = .ok (.invokevirtual 179, 3) := dk_182 0 179 (dk_at dksX1_level_3 12 rfl rfl)
theorem dX1_level_83 : decode cX1_level 83 = .ok (.if_icmp .ge 35, 3) := dk_162 0 35 (dk_at dksX1_level_3 15 rfl rfl)
theorem dX1_level_86 : decode cX1_level 86 = .ok (.aload_n 0, 1) := dk_42 (dk_at dksX1_level_3 18 rfl rfl)
theorem dX1_level_87 : decode cX1_level 87 = .ok (.aload_n 0, 1) := dk_42 (dk_at dksX1_level_3 19 rfl rfl)
theorem dX1_level_88 : decode cX1_level 88 = .ok (.getfield 70, 3) := dk_180 0 70 (dk_at dksX1_level_3 20 rfl rfl)
theorem dX1_level_91 : decode cX1_level 91 = .ok (.iload 5, 2) := dk_21 5 (dk_at dksX1_level_4 0 rfl rfl)
theorem dX1_level_93 : decode cX1_level 93 = .ok (.iload 6, 2) := dk_21 6 (dk_at dksX1_level_4 2 rfl rfl)
theorem dX1_level_95 : decode cX1_level 95 = .ok (.invokevirtual 308, 3) := dk_182 1 52 (dk_at dksX1_level_4 4 rfl rfl)
theorem dX1_level_98 : decode cX1_level 98 = .ok (.ifCond .eq 14, 3) := dk_153 0 14 (dk_at dksX1_level_4 7 rfl rfl)
theorem dX1_level_101 : decode cX1_level 101 = .ok (.aload_n 0, 1) := dk_42 (dk_at dksX1_level_4 10 rfl rfl)
theorem dX1_level_102 : decode cX1_level 102 = .ok (.getfield 74, 3) := dk_180 0 74 (dk_at dksX1_level_4 11 rfl rfl)
theorem dX1_level_105 : decode cX1_level 105 = .ok (.iload 5, 2) := dk_21 5 (dk_at dksX1_level_4 14 rfl rfl)
theorem dX1_level_107 : decode cX1_level 107 = .ok (.iload 6, 2) := dk_21 6 (dk_at dksX1_level_4 16 rfl rfl)
theorem dX1_level_109 : decode cX1_level 109 = .ok (.invokevirtual 300, 3) := dk_182 1 44 (dk_at dksX1_level_4 18 rfl rfl)
theorem dX1_level_112 : decode cX1_level 112 = .ok (.iinc 6 1, 3) := dk_132 6 1 (dk_at dksX1_level_4 21 rfl rfl)
theorem dX1_level_115 : decode cX1_level 115 = .ok (.goto (-38), 3) := dk_167 255 218 (dk_at dksX1_level_5 0 rfl rfl)
theorem dX1_level_118 : decode cX1_level 118 = .ok (.iinc 5 1, 3) := dk_132 5 1 (dk_at dksX1_level_5 3 rfl rfl)
theorem dX1_level_121 : decode cX1_level 121 = .ok (.goto (-59), 3) := dk_167 255 197 (dk_at dksX1_level_5 6 rfl rfl)
theorem dX1_level_124 : decode cX1_level 124 = .ok (.iinc 4 1, 3) := dk_132 4 1 (dk_at dksX1_level_5 9 rfl rfl)
theorem dX1_level_127 : decode cX1_level 127 = .ok (.goto (-99), 3) := dk_167 255 157 (dk_at dksX1_level_5 12 rfl rfl)
theorem dX1_level_130 : decode cX1_level 130 = .ok (.aload_n 0, 1) := dk_42 (dk_at dksX1_level_5 15 rfl rfl)
theorem dX1_level_131 : decode cX1_level 131 = .ok (.iload 4, 2) := dk_21 4 (dk_at dksX1_level_5 16 rfl rfl)
theorem dX1_level_133 : decode cX1_level 133 = .ok (.invokevirtual 176, 3) := dk_182 0 176 (dk_at dksX1_level_5 18 rfl rfl)
theorem dX1_level_136 : decode cX1_level 136 = .ok (.ireturn, 1) := dk_172 (dk_at dksX1_level_5 21 rfl rfl)
abbrev cX1_bySames : ByteArray := prog_1_method_45_code
def yX1_bySames : MethodName := ⟨RX1, "bySames", "(LReasonCloser$Groups;)V"⟩
def dkwX1_bySames_3 : List UInt8 := [185, 0, 153, 2, 0, 192, 0, 157, 180, 0, 162, 182, 1, 44, 132, 2, 1, 167, 255, 203, 177]
abbrev dktX1_bySames_3 : List UInt8 := dkwX1_bySames_3 ++ []
def dkwX1_bySames_2 : List UInt8 := [180, 0, 150, 28, 185, 0, 153, 2, 0, 192, 0, 157, 180, 0, 159, 42, 180, 0, 23, 180, 0, 150, 28]
abbrev dktX1_bySames_2 : List UInt8 := dkwX1_bySames_2 ++ dktX1_bySames_3
def dkwX1_bySames_1 : List UInt8 := [79, 132, 2, 1, 167, 255, 238, 3, 61, 28, 42, 182, 0, 191, 162, 0, 51, 43, 42, 180, 0, 23]
abbrev dktX1_bySames_1 : List UInt8 := dkwX1_bySames_1 ++ dktX1_bySames_2
def dkwX1_bySames_0 : List UInt8 := [43, 42, 182, 0, 179, 181, 1, 40, 3, 61, 28, 42, 182, 0, 179, 162, 0, 16, 43, 180, 1, 43, 28, 28]
abbrev dktX1_bySames_0 : List UInt8 := dkwX1_bySames_0 ++ dktX1_bySames_1
theorem dksX1_bySames_0 : cX1_bySames.data.toList.drop 0 = dktX1_bySames_0 := by decide +kernel
theorem dksX1_bySames_1 : cX1_bySames.data.toList.drop 24 = dktX1_bySames_1 := dk_seg dksX1_bySames_0 24 rfl rfl
theorem dksX1_bySames_2 : cX1_bySames.data.toList.drop 46 = dktX1_bySames_2 := dk_seg dksX1_bySames_1 22 rfl rfl
theorem dksX1_bySames_3 : cX1_bySames.data.toList.drop 69 = dktX1_bySames_3 := dk_seg dksX1_bySames_2 23 rfl rfl
theorem dX1_bySames_0 : decode cX1_bySames 0 = .ok (.aload_n 1, 1) := dk_43 (dk_at dksX1_bySames_0 0 rfl rfl)
theorem dX1_bySames_1 : decode cX1_bySames 1 = .ok (.aload_n 0, 1) := dk_42 (dk_at dksX1_bySames_0 1 rfl rfl)
theorem dX1_bySames_2 : decode cX1_bySames 2 = .ok (.invokevirtual 179, 3) := dk_182 0 179 (dk_at dksX1_bySames_0 2 rfl rfl)
theorem dX1_bySames_5 : decode cX1_bySames 5 = .ok (.putfield 296, 3) := dk_181 1 40 (dk_at dksX1_bySames_0 5 rfl rfl)
theorem dX1_bySames_8 : decode cX1_bySames 8 = .ok (.iconst 0, 1) := dk_3 (dk_at dksX1_bySames_0 8 rfl rfl)
theorem dX1_bySames_9 : decode cX1_bySames 9 = .ok (.istore_n 2, 1) := dk_61 (dk_at dksX1_bySames_0 9 rfl rfl)
theorem dX1_bySames_10 : decode cX1_bySames 10 = .ok (.iload_n 2, 1) := dk_28 (dk_at dksX1_bySames_0 10 rfl rfl)
theorem dX1_bySames_11 : decode cX1_bySames 11 = .ok (.aload_n 0, 1) := dk_42 (dk_at dksX1_bySames_0 11 rfl rfl)
theorem dX1_bySames_12 : decode cX1_bySames 12 = .ok (.invokevirtual 179, 3) := dk_182 0 179 (dk_at dksX1_bySames_0 12 rfl rfl)
theorem dX1_bySames_15 : decode cX1_bySames 15 = .ok (.if_icmp .ge 16, 3) := dk_162 0 16 (dk_at dksX1_bySames_0 15 rfl rfl)
theorem dX1_bySames_18 : decode cX1_bySames 18 = .ok (.aload_n 1, 1) := dk_43 (dk_at dksX1_bySames_0 18 rfl rfl)
theorem dX1_bySames_19 : decode cX1_bySames 19 = .ok (.getfield 299, 3) := dk_180 1 43 (dk_at dksX1_bySames_0 19 rfl rfl)
theorem dX1_bySames_22 : decode cX1_bySames 22 = .ok (.iload_n 2, 1) := dk_28 (dk_at dksX1_bySames_0 22 rfl rfl)
theorem dX1_bySames_23 : decode cX1_bySames 23 = .ok (.iload_n 2, 1) := dk_28 (dk_at dksX1_bySames_0 23 rfl rfl)
theorem dX1_bySames_24 : decode cX1_bySames 24 = .ok (.iastore, 1) := dk_79 (dk_at dksX1_bySames_1 0 rfl rfl)
theorem dX1_bySames_25 : decode cX1_bySames 25 = .ok (.iinc 2 1, 3) := dk_132 2 1 (dk_at dksX1_bySames_1 1 rfl rfl)
theorem dX1_bySames_28 : decode cX1_bySames 28 = .ok (.goto (-18), 3) := dk_167 255 238 (dk_at dksX1_bySames_1 4 rfl rfl)
theorem dX1_bySames_31 : decode cX1_bySames 31 = .ok (.iconst 0, 1) := dk_3 (dk_at dksX1_bySames_1 7 rfl rfl)
theorem dX1_bySames_32 : decode cX1_bySames 32 = .ok (.istore_n 2, 1) := dk_61 (dk_at dksX1_bySames_1 8 rfl rfl)
theorem dX1_bySames_33 : decode cX1_bySames 33 = .ok (.iload_n 2, 1) := dk_28 (dk_at dksX1_bySames_1 9 rfl rfl)
theorem dX1_bySames_34 : decode cX1_bySames 34 = .ok (.aload_n 0, 1) := dk_42 (dk_at dksX1_bySames_1 10 rfl rfl)
theorem dX1_bySames_35 : decode cX1_bySames 35 = .ok (.invokevirtual 191, 3) := dk_182 0 191 (dk_at dksX1_bySames_1 11 rfl rfl)
theorem dX1_bySames_38 : decode cX1_bySames 38 = .ok (.if_icmp .ge 51, 3) := dk_162 0 51 (dk_at dksX1_bySames_1 14 rfl rfl)
theorem dX1_bySames_41 : decode cX1_bySames 41 = .ok (.aload_n 1, 1) := dk_43 (dk_at dksX1_bySames_1 17 rfl rfl)
theorem dX1_bySames_42 : decode cX1_bySames 42 = .ok (.aload_n 0, 1) := dk_42 (dk_at dksX1_bySames_1 18 rfl rfl)
theorem dX1_bySames_43 : decode cX1_bySames 43 = .ok (.getfield 23, 3) := dk_180 0 23 (dk_at dksX1_bySames_1 19 rfl rfl)
theorem dX1_bySames_46 : decode cX1_bySames 46 = .ok (.getfield 150, 3) := dk_180 0 150 (dk_at dksX1_bySames_2 0 rfl rfl)
theorem dX1_bySames_49 : decode cX1_bySames 49 = .ok (.iload_n 2, 1) := dk_28 (dk_at dksX1_bySames_2 3 rfl rfl)
theorem dX1_bySames_50 : decode cX1_bySames 50 = .ok (.invokeinterface 153 2, 5) := by decide +kernel
theorem dX1_bySames_55 : decode cX1_bySames 55 = .ok (.checkcast 157, 3) := dk_192 0 157 (dk_at dksX1_bySames_2 9 rfl rfl)
theorem dX1_bySames_58 : decode cX1_bySames 58 = .ok (.getfield 159, 3) := dk_180 0 159 (dk_at dksX1_bySames_2 12 rfl rfl)
theorem dX1_bySames_61 : decode cX1_bySames 61 = .ok (.aload_n 0, 1) := dk_42 (dk_at dksX1_bySames_2 15 rfl rfl)
theorem dX1_bySames_62 : decode cX1_bySames 62 = .ok (.getfield 23, 3) := dk_180 0 23 (dk_at dksX1_bySames_2 16 rfl rfl)
theorem dX1_bySames_65 : decode cX1_bySames 65 = .ok (.getfield 150, 3) := dk_180 0 150 (dk_at dksX1_bySames_2 19 rfl rfl)
theorem dX1_bySames_68 : decode cX1_bySames 68 = .ok (.iload_n 2, 1) := dk_28 (dk_at dksX1_bySames_2 22 rfl rfl)
theorem dX1_bySames_69 : decode cX1_bySames 69 = .ok (.invokeinterface 153 2, 5) := by decide +kernel
theorem dX1_bySames_74 : decode cX1_bySames 74 = .ok (.checkcast 157, 3) := dk_192 0 157 (dk_at dksX1_bySames_3 5 rfl rfl)
theorem dX1_bySames_77 : decode cX1_bySames 77 = .ok (.getfield 162, 3) := dk_180 0 162 (dk_at dksX1_bySames_3 8 rfl rfl)
theorem dX1_bySames_80 : decode cX1_bySames 80 = .ok (.invokevirtual 300, 3) := dk_182 1 44 (dk_at dksX1_bySames_3 11 rfl rfl)
theorem dX1_bySames_83 : decode cX1_bySames 83 = .ok (.iinc 2 1, 3) := dk_132 2 1 (dk_at dksX1_bySames_3 14 rfl rfl)
theorem dX1_bySames_86 : decode cX1_bySames 86 = .ok (.goto (-53), 3) := dk_167 255 203 (dk_at dksX1_bySames_3 17 rfl rfl)
theorem dX1_bySames_89 : decode cX1_bySames 89 = .ok (.return_, 1) := dk_177 (dk_at dksX1_bySames_3 20 rfl rfl)
abbrev cX1_follow : ByteArray := prog_1_method_44_code
def yX1_follow : MethodName := ⟨RX1, "follow", "(LReasonCloser$Groups;II)Z"⟩
def dkwX1_follow_4 : List UInt8 := [132, 6, 1, 167, 255, 217, 4, 172]
abbrev dktX1_follow_4 : List UInt8 := dkwX1_follow_4 ++ []
def dkwX1_follow_3 : List UInt8 := [180, 0, 218, 21, 6, 46, 25, 5, 180, 0, 218, 21, 6, 46, 182, 0, 184, 154, 0, 5, 3, 172]
abbrev dktX1_follow_3 : List UInt8 := dkwX1_follow_3 ++ dktX1_follow_4
def dkwX1_follow_2 : List UInt8 := [159, 0, 5, 3, 172, 3, 54, 6, 21, 6, 25, 4, 180, 0, 218, 190, 162, 0, 34, 43, 25, 4]
abbrev dktX1_follow_2 : List UInt8 := dkwX1_follow_2 ++ dktX1_follow_3
def dkwX1_follow_1 : List UInt8 := [180, 0, 29, 29, 185, 0, 153, 2, 0, 192, 0, 208, 58, 5, 25, 4, 180, 0, 210, 25, 5, 180, 0, 210]
abbrev dktX1_follow_1 : List UInt8 := dkwX1_follow_1 ++ dktX1_follow_2
def dkwX1_follow_0 : List UInt8 := [42, 180, 0, 23, 180, 0, 29, 28, 185, 0, 153, 2, 0, 192, 0, 208, 58, 4, 42, 180, 0, 23]
abbrev dktX1_follow_0 : List UInt8 := dkwX1_follow_0 ++ dktX1_follow_1
theorem dksX1_follow_0 : cX1_follow.data.toList.drop 0 = dktX1_follow_0 := by decide +kernel
theorem dksX1_follow_1 : cX1_follow.data.toList.drop 22 = dktX1_follow_1 := dk_seg dksX1_follow_0 22 rfl rfl
theorem dksX1_follow_2 : cX1_follow.data.toList.drop 46 = dktX1_follow_2 := dk_seg dksX1_follow_1 24 rfl rfl
theorem dksX1_follow_3 : cX1_follow.data.toList.drop 68 = dktX1_follow_3 := dk_seg dksX1_follow_2 22 rfl rfl
theorem dksX1_follow_4 : cX1_follow.data.toList.drop 90 = dktX1_follow_4 := dk_seg dksX1_follow_3 22 rfl rfl
theorem dX1_follow_0 : decode cX1_follow 0 = .ok (.aload_n 0, 1) := dk_42 (dk_at dksX1_follow_0 0 rfl rfl)
theorem dX1_follow_1 : decode cX1_follow 1 = .ok (.getfield 23, 3) := dk_180 0 23 (dk_at dksX1_follow_0 1 rfl rfl)
theorem dX1_follow_4 : decode cX1_follow 4 = .ok (.getfield 29, 3) := dk_180 0 29 (dk_at dksX1_follow_0 4 rfl rfl)
theorem dX1_follow_7 : decode cX1_follow 7 = .ok (.iload_n 2, 1) := dk_28 (dk_at dksX1_follow_0 7 rfl rfl)
theorem dX1_follow_8 : decode cX1_follow 8 = .ok (.invokeinterface 153 2, 5) := by decide +kernel
theorem dX1_follow_13 : decode cX1_follow 13 = .ok (.checkcast 208, 3) := dk_192 0 208 (dk_at dksX1_follow_0 13 rfl rfl)
theorem dX1_follow_16 : decode cX1_follow 16 = .ok (.astore 4, 2) := dk_58 4 (dk_at dksX1_follow_0 16 rfl rfl)
theorem dX1_follow_18 : decode cX1_follow 18 = .ok (.aload_n 0, 1) := dk_42 (dk_at dksX1_follow_0 18 rfl rfl)
theorem dX1_follow_19 : decode cX1_follow 19 = .ok (.getfield 23, 3) := dk_180 0 23 (dk_at dksX1_follow_0 19 rfl rfl)
theorem dX1_follow_22 : decode cX1_follow 22 = .ok (.getfield 29, 3) := dk_180 0 29 (dk_at dksX1_follow_1 0 rfl rfl)
theorem dX1_follow_25 : decode cX1_follow 25 = .ok (.iload_n 3, 1) := dk_29 (dk_at dksX1_follow_1 3 rfl rfl)
theorem dX1_follow_26 : decode cX1_follow 26 = .ok (.invokeinterface 153 2, 5) := by decide +kernel
theorem dX1_follow_31 : decode cX1_follow 31 = .ok (.checkcast 208, 3) := dk_192 0 208 (dk_at dksX1_follow_1 9 rfl rfl)
theorem dX1_follow_34 : decode cX1_follow 34 = .ok (.astore 5, 2) := dk_58 5 (dk_at dksX1_follow_1 12 rfl rfl)
theorem dX1_follow_36 : decode cX1_follow 36 = .ok (.aload 4, 2) := dk_25 4 (dk_at dksX1_follow_1 14 rfl rfl)
theorem dX1_follow_38 : decode cX1_follow 38 = .ok (.getfield 210, 3) := dk_180 0 210 (dk_at dksX1_follow_1 16 rfl rfl)
theorem dX1_follow_41 : decode cX1_follow 41 = .ok (.aload 5, 2) := dk_25 5 (dk_at dksX1_follow_1 19 rfl rfl)
theorem dX1_follow_43 : decode cX1_follow 43 = .ok (.getfield 210, 3) := dk_180 0 210 (dk_at dksX1_follow_1 21 rfl rfl)
theorem dX1_follow_46 : decode cX1_follow 46 = .ok (.if_icmp .eq 5, 3) := dk_159 0 5 (dk_at dksX1_follow_2 0 rfl rfl)
theorem dX1_follow_49 : decode cX1_follow 49 = .ok (.iconst 0, 1) := dk_3 (dk_at dksX1_follow_2 3 rfl rfl)
theorem dX1_follow_50 : decode cX1_follow 50 = .ok (.ireturn, 1) := dk_172 (dk_at dksX1_follow_2 4 rfl rfl)
theorem dX1_follow_51 : decode cX1_follow 51 = .ok (.iconst 0, 1) := dk_3 (dk_at dksX1_follow_2 5 rfl rfl)
theorem dX1_follow_52 : decode cX1_follow 52 = .ok (.istore 6, 2) := dk_54 6 (dk_at dksX1_follow_2 6 rfl rfl)
theorem dX1_follow_54 : decode cX1_follow 54 = .ok (.iload 6, 2) := dk_21 6 (dk_at dksX1_follow_2 8 rfl rfl)
theorem dX1_follow_56 : decode cX1_follow 56 = .ok (.aload 4, 2) := dk_25 4 (dk_at dksX1_follow_2 10 rfl rfl)
theorem dX1_follow_58 : decode cX1_follow 58 = .ok (.getfield 218, 3) := dk_180 0 218 (dk_at dksX1_follow_2 12 rfl rfl)
theorem dX1_follow_61 : decode cX1_follow 61 = .ok (.arraylength, 1) := dk_190 (dk_at dksX1_follow_2 15 rfl rfl)
theorem dX1_follow_62 : decode cX1_follow 62 = .ok (.if_icmp .ge 34, 3) := dk_162 0 34 (dk_at dksX1_follow_2 16 rfl rfl)
theorem dX1_follow_65 : decode cX1_follow 65 = .ok (.aload_n 1, 1) := dk_43 (dk_at dksX1_follow_2 19 rfl rfl)
theorem dX1_follow_66 : decode cX1_follow 66 = .ok (.aload 4, 2) := dk_25 4 (dk_at dksX1_follow_2 20 rfl rfl)
theorem dX1_follow_68 : decode cX1_follow 68 = .ok (.getfield 218, 3) := dk_180 0 218 (dk_at dksX1_follow_3 0 rfl rfl)
theorem dX1_follow_71 : decode cX1_follow 71 = .ok (.iload 6, 2) := dk_21 6 (dk_at dksX1_follow_3 3 rfl rfl)
theorem dX1_follow_73 : decode cX1_follow 73 = .ok (.iaload, 1) := dk_46 (dk_at dksX1_follow_3 5 rfl rfl)
theorem dX1_follow_74 : decode cX1_follow 74 = .ok (.aload 5, 2) := dk_25 5 (dk_at dksX1_follow_3 6 rfl rfl)
theorem dX1_follow_76 : decode cX1_follow 76 = .ok (.getfield 218, 3) := dk_180 0 218 (dk_at dksX1_follow_3 8 rfl rfl)
theorem dX1_follow_79 : decode cX1_follow 79 = .ok (.iload 6, 2) := dk_21 6 (dk_at dksX1_follow_3 11 rfl rfl)
theorem dX1_follow_81 : decode cX1_follow 81 = .ok (.iaload, 1) := dk_46 (dk_at dksX1_follow_3 13 rfl rfl)
theorem dX1_follow_82 : decode cX1_follow 82 = .ok (.invokevirtual 184, 3) := dk_182 0 184 (dk_at dksX1_follow_3 14 rfl rfl)
theorem dX1_follow_85 : decode cX1_follow 85 = .ok (.ifCond .ne 5, 3) := dk_154 0 5 (dk_at dksX1_follow_3 17 rfl rfl)
theorem dX1_follow_88 : decode cX1_follow 88 = .ok (.iconst 0, 1) := dk_3 (dk_at dksX1_follow_3 20 rfl rfl)
theorem dX1_follow_89 : decode cX1_follow 89 = .ok (.ireturn, 1) := dk_172 (dk_at dksX1_follow_3 21 rfl rfl)
theorem dX1_follow_90 : decode cX1_follow 90 = .ok (.iinc 6 1, 3) := dk_132 6 1 (dk_at dksX1_follow_4 0 rfl rfl)
theorem dX1_follow_93 : decode cX1_follow 93 = .ok (.goto (-39), 3) := dk_167 255 217 (dk_at dksX1_follow_4 3 rfl rfl)
theorem dX1_follow_96 : decode cX1_follow 96 = .ok (.iconst 1, 1) := dk_4 (dk_at dksX1_follow_4 6 rfl rfl)
theorem dX1_follow_97 : decode cX1_follow 97 = .ok (.ireturn, 1) := dk_172 (dk_at dksX1_follow_4 7 rfl rfl)
abbrev cX1_cost : ByteArray := prog_1_method_52_code
def yX1_cost : MethodName := ⟨RX1, "cost", "(II)I"⟩
def dkwX1_cost_1 : List UInt8 := [180, 0, 77, 16, 24, 27, 104, 28, 96, 47, 136, 182, 0, 176, 172]
abbrev dktX1_cost_1 : List UInt8 := dkwX1_cost_1 ++ []
def dkwX1_cost_0 : List UInt8 := [42, 27, 28, 182, 1, 11, 62, 29, 158, 0, 9, 42, 29, 182, 0, 98, 172, 42, 182, 1, 76, 42, 42]
abbrev dktX1_cost_0 : List UInt8 := dkwX1_cost_0 ++ dktX1_cost_1
theorem dksX1_cost_0 : cX1_cost.data.toList.drop 0 = dktX1_cost_0 := by decide +kernel
theorem dksX1_cost_1 : cX1_cost.data.toList.drop 23 = dktX1_cost_1 := dk_seg dksX1_cost_0 23 rfl rfl
theorem dX1_cost_0 : decode cX1_cost 0 = .ok (.aload_n 0, 1) := dk_42 (dk_at dksX1_cost_0 0 rfl rfl)
theorem dX1_cost_1 : decode cX1_cost 1 = .ok (.iload_n 1, 1) := dk_27 (dk_at dksX1_cost_0 1 rfl rfl)
theorem dX1_cost_2 : decode cX1_cost 2 = .ok (.iload_n 2, 1) := dk_28 (dk_at dksX1_cost_0 2 rfl rfl)
theorem dX1_cost_3 : decode cX1_cost 3 = .ok (.invokevirtual 267, 3) := dk_182 1 11 (dk_at dksX1_cost_0 3 rfl rfl)
theorem dX1_cost_6 : decode cX1_cost 6 = .ok (.istore_n 3, 1) := dk_62 (dk_at dksX1_cost_0 6 rfl rfl)
theorem dX1_cost_7 : decode cX1_cost 7 = .ok (.iload_n 3, 1) := dk_29 (dk_at dksX1_cost_0 7 rfl rfl)
theorem dX1_cost_8 : decode cX1_cost 8 = .ok (.ifCond .le 9, 3) := dk_158 0 9 (dk_at dksX1_cost_0 8 rfl rfl)
theorem dX1_cost_11 : decode cX1_cost 11 = .ok (.aload_n 0, 1) := dk_42 (dk_at dksX1_cost_0 11 rfl rfl)
theorem dX1_cost_12 : decode cX1_cost 12 = .ok (.iload_n 3, 1) := dk_29 (dk_at dksX1_cost_0 12 rfl rfl)
theorem dX1_cost_13 : decode cX1_cost 13 = .ok (.invokevirtual 98, 3) := dk_182 0 98 (dk_at dksX1_cost_0 13 rfl rfl)
theorem dX1_cost_16 : decode cX1_cost 16 = .ok (.ireturn, 1) := dk_172 (dk_at dksX1_cost_0 16 rfl rfl)
theorem dX1_cost_17 : decode cX1_cost 17 = .ok (.aload_n 0, 1) := dk_42 (dk_at dksX1_cost_0 17 rfl rfl)
theorem dX1_cost_18 : decode cX1_cost 18 = .ok (.invokevirtual 332, 3) := dk_182 1 76 (dk_at dksX1_cost_0 18 rfl rfl)
theorem dX1_cost_21 : decode cX1_cost 21 = .ok (.aload_n 0, 1) := dk_42 (dk_at dksX1_cost_0 21 rfl rfl)
theorem dX1_cost_22 : decode cX1_cost 22 = .ok (.aload_n 0, 1) := dk_42 (dk_at dksX1_cost_0 22 rfl rfl)
theorem dX1_cost_23 : decode cX1_cost 23 = .ok (.getfield 77, 3) := dk_180 0 77 (dk_at dksX1_cost_1 0 rfl rfl)
theorem dX1_cost_26 : decode cX1_cost 26 = .ok (.bipush 24, 2) := dk_16 24 (dk_at dksX1_cost_1 3 rfl rfl)
theorem dX1_cost_28 : decode cX1_cost 28 = .ok (.iload_n 1, 1) := dk_27 (dk_at dksX1_cost_1 5 rfl rfl)
theorem dX1_cost_29 : decode cX1_cost 29 = .ok (.imul, 1) := dk_104 (dk_at dksX1_cost_1 6 rfl rfl)
theorem dX1_cost_30 : decode cX1_cost 30 = .ok (.iload_n 2, 1) := dk_28 (dk_at dksX1_cost_1 7 rfl rfl)
theorem dX1_cost_31 : decode cX1_cost 31 = .ok (.iadd, 1) := dk_96 (dk_at dksX1_cost_1 8 rfl rfl)
theorem dX1_cost_32 : decode cX1_cost 32 = .ok (.laload, 1) := dk_47 (dk_at dksX1_cost_1 9 rfl rfl)
theorem dX1_cost_33 : decode cX1_cost 33 = .ok (.l2i, 1) := dk_136 (dk_at dksX1_cost_1 10 rfl rfl)
theorem dX1_cost_34 : decode cX1_cost 34 = .ok (.invokevirtual 176, 3) := dk_182 0 176 (dk_at dksX1_cost_1 11 rfl rfl)
theorem dX1_cost_37 : decode cX1_cost 37 = .ok (.ireturn, 1) := dk_172 (dk_at dksX1_cost_1 14 rfl rfl)
abbrev cX1_laysCosts : ByteArray := prog_1_method_51_code
def yX1_laysCosts : MethodName := ⟨RX1, "laysCosts", "()V"⟩
def dkwX1_laysCosts_7 : List UInt8 := [153, 255, 150, 4, 60, 167, 255, 240, 177]
abbrev dktX1_laysCosts_7 : List UInt8 := dkwX1_laysCosts_7 ++ []
def dkwX1_laysCosts_6 : List UInt8 := [132, 3, 1, 167, 255, 192, 132, 2, 1, 167, 255, 176, 42, 42, 180, 0, 77, 20, 1, 56, 182, 1, 72]
abbrev dktX1_laysCosts_6 : List UInt8 := dkwX1_laysCosts_6 ++ dktX1_laysCosts_7
def dkwX1_laysCosts_5 : List UInt8 := [180, 0, 77, 16, 24, 28, 104, 29, 96, 42, 180, 0, 81, 16, 24, 28, 104, 29, 96, 47, 80, 4, 60]
abbrev dktX1_laysCosts_5 : List UInt8 := dkwX1_laysCosts_5 ++ dktX1_laysCosts_6
def dkwX1_laysCosts_4 : List UInt8 := [104, 29, 96, 47, 42, 180, 0, 77, 16, 24, 28, 104, 29, 96, 47, 148, 155, 0, 6, 167, 0, 27, 42]
abbrev dktX1_laysCosts_4 : List UInt8 := dkwX1_laysCosts_4 ++ dktX1_laysCosts_5
def dkwX1_laysCosts_3 : List UInt8 := [42, 182, 0, 179, 162, 0, 78, 3, 62, 29, 42, 182, 0, 179, 162, 0, 62, 42, 180, 0, 81, 16, 24, 28]
abbrev dktX1_laysCosts_3 : List UInt8 := dkwX1_laysCosts_3 ++ dktX1_laysCosts_4
def dkwX1_laysCosts_2 : List UInt8 := [167, 255, 222, 132, 1, 1, 167, 255, 206, 4, 60, 27, 153, 0, 113, 42, 182, 1, 69, 3, 60, 3, 61, 28]
abbrev dktX1_laysCosts_2 : List UInt8 := dkwX1_laysCosts_2 ++ dktX1_laysCosts_3
def dkwX1_laysCosts_1 : List UInt8 := [16, 24, 27, 104, 28, 96, 27, 28, 160, 0, 7, 9, 167, 0, 6, 20, 1, 56, 80, 132, 2, 1]
abbrev dktX1_laysCosts_1 : List UInt8 := dkwX1_laysCosts_1 ++ dktX1_laysCosts_2
def dkwX1_laysCosts_0 : List UInt8 := [3, 60, 27, 42, 182, 0, 179, 162, 0, 48, 3, 61, 28, 42, 182, 0, 179, 162, 0, 32, 42, 180, 0, 77]
abbrev dktX1_laysCosts_0 : List UInt8 := dkwX1_laysCosts_0 ++ dktX1_laysCosts_1
theorem dksX1_laysCosts_0 : cX1_laysCosts.data.toList.drop 0 = dktX1_laysCosts_0 := by decide +kernel
theorem dksX1_laysCosts_1 : cX1_laysCosts.data.toList.drop 24 = dktX1_laysCosts_1 := dk_seg dksX1_laysCosts_0 24 rfl rfl
theorem dksX1_laysCosts_2 : cX1_laysCosts.data.toList.drop 46 = dktX1_laysCosts_2 := dk_seg dksX1_laysCosts_1 22 rfl rfl
theorem dksX1_laysCosts_3 : cX1_laysCosts.data.toList.drop 70 = dktX1_laysCosts_3 := dk_seg dksX1_laysCosts_2 24 rfl rfl
theorem dksX1_laysCosts_4 : cX1_laysCosts.data.toList.drop 94 = dktX1_laysCosts_4 := dk_seg dksX1_laysCosts_3 24 rfl rfl
theorem dksX1_laysCosts_5 : cX1_laysCosts.data.toList.drop 117 = dktX1_laysCosts_5 := dk_seg dksX1_laysCosts_4 23 rfl rfl
theorem dksX1_laysCosts_6 : cX1_laysCosts.data.toList.drop 140 = dktX1_laysCosts_6 := dk_seg dksX1_laysCosts_5 23 rfl rfl
theorem dksX1_laysCosts_7 : cX1_laysCosts.data.toList.drop 163 = dktX1_laysCosts_7 := dk_seg dksX1_laysCosts_6 23 rfl rfl
theorem dX1_laysCosts_0 : decode cX1_laysCosts 0 = .ok (.iconst 0, 1) := dk_3 (dk_at dksX1_laysCosts_0 0 rfl rfl)
theorem dX1_laysCosts_1 : decode cX1_laysCosts 1 = .ok (.istore_n 1, 1) := dk_60 (dk_at dksX1_laysCosts_0 1 rfl rfl)
theorem dX1_laysCosts_2 : decode cX1_laysCosts 2 = .ok (.iload_n 1, 1) := dk_27 (dk_at dksX1_laysCosts_0 2 rfl rfl)
theorem dX1_laysCosts_3 : decode cX1_laysCosts 3 = .ok (.aload_n 0, 1) := dk_42 (dk_at dksX1_laysCosts_0 3 rfl rfl)
theorem dX1_laysCosts_4 : decode cX1_laysCosts 4 = .ok (.invokevirtual 179, 3) := dk_182 0 179 (dk_at dksX1_laysCosts_0 4 rfl rfl)
theorem dX1_laysCosts_7 : decode cX1_laysCosts 7 = .ok (.if_icmp .ge 48, 3) := dk_162 0 48 (dk_at dksX1_laysCosts_0 7 rfl rfl)
theorem dX1_laysCosts_10 : decode cX1_laysCosts 10 = .ok (.iconst 0, 1) := dk_3 (dk_at dksX1_laysCosts_0 10 rfl rfl)
theorem dX1_laysCosts_11 : decode cX1_laysCosts 11 = .ok (.istore_n 2, 1) := dk_61 (dk_at dksX1_laysCosts_0 11 rfl rfl)
theorem dX1_laysCosts_12 : decode cX1_laysCosts 12 = .ok (.iload_n 2, 1) := dk_28 (dk_at dksX1_laysCosts_0 12 rfl rfl)
theorem dX1_laysCosts_13 : decode cX1_laysCosts 13 = .ok (.aload_n 0, 1) := dk_42 (dk_at dksX1_laysCosts_0 13 rfl rfl)
theorem dX1_laysCosts_14 : decode cX1_laysCosts 14 = .ok (.invokevirtual 179, 3) := dk_182 0 179 (dk_at dksX1_laysCosts_0 14 rfl rfl)
theorem dX1_laysCosts_17 : decode cX1_laysCosts 17 = .ok (.if_icmp .ge 32, 3) := dk_162 0 32 (dk_at dksX1_laysCosts_0 17 rfl rfl)
theorem dX1_laysCosts_20 : decode cX1_laysCosts 20 = .ok (.aload_n 0, 1) := dk_42 (dk_at dksX1_laysCosts_0 20 rfl rfl)
theorem dX1_laysCosts_21 : decode cX1_laysCosts 21 = .ok (.getfield 77, 3) := dk_180 0 77 (dk_at dksX1_laysCosts_0 21 rfl rfl)
theorem dX1_laysCosts_24 : decode cX1_laysCosts 24 = .ok (.bipush 24, 2) := dk_16 24 (dk_at dksX1_laysCosts_1 0 rfl rfl)
theorem dX1_laysCosts_26 : decode cX1_laysCosts 26 = .ok (.iload_n 1, 1) := dk_27 (dk_at dksX1_laysCosts_1 2 rfl rfl)
theorem dX1_laysCosts_27 : decode cX1_laysCosts 27 = .ok (.imul, 1) := dk_104 (dk_at dksX1_laysCosts_1 3 rfl rfl)
theorem dX1_laysCosts_28 : decode cX1_laysCosts 28 = .ok (.iload_n 2, 1) := dk_28 (dk_at dksX1_laysCosts_1 4 rfl rfl)
theorem dX1_laysCosts_29 : decode cX1_laysCosts 29 = .ok (.iadd, 1) := dk_96 (dk_at dksX1_laysCosts_1 5 rfl rfl)
theorem dX1_laysCosts_30 : decode cX1_laysCosts 30 = .ok (.iload_n 1, 1) := dk_27 (dk_at dksX1_laysCosts_1 6 rfl rfl)
theorem dX1_laysCosts_31 : decode cX1_laysCosts 31 = .ok (.iload_n 2, 1) := dk_28 (dk_at dksX1_laysCosts_1 7 rfl rfl)
theorem dX1_laysCosts_32 : decode cX1_laysCosts 32 = .ok (.if_icmp .ne 7, 3) := dk_160 0 7 (dk_at dksX1_laysCosts_1 8 rfl rfl)
theorem dX1_laysCosts_35 : decode cX1_laysCosts 35 = .ok (.lconst 0, 1) := dk_9 (dk_at dksX1_laysCosts_1 11 rfl rfl)
theorem dX1_laysCosts_36 : decode cX1_laysCosts 36 = .ok (.goto 6, 3) := dk_167 0 6 (dk_at dksX1_laysCosts_1 12 rfl rfl)
theorem dX1_laysCosts_39 : decode cX1_laysCosts 39 = .ok (.ldc2_w 312, 3) := dk_20 1 56 (dk_at dksX1_laysCosts_1 15 rfl rfl)
theorem dX1_laysCosts_42 : decode cX1_laysCosts 42 = .ok (.lastore, 1) := dk_80 (dk_at dksX1_laysCosts_1 18 rfl rfl)
theorem dX1_laysCosts_43 : decode cX1_laysCosts 43 = .ok (.iinc 2 1, 3) := dk_132 2 1 (dk_at dksX1_laysCosts_1 19 rfl rfl)
theorem dX1_laysCosts_46 : decode cX1_laysCosts 46 = .ok (.goto (-34), 3) := dk_167 255 222 (dk_at dksX1_laysCosts_2 0 rfl rfl)
theorem dX1_laysCosts_49 : decode cX1_laysCosts 49 = .ok (.iinc 1 1, 3) := dk_132 1 1 (dk_at dksX1_laysCosts_2 3 rfl rfl)
theorem dX1_laysCosts_52 : decode cX1_laysCosts 52 = .ok (.goto (-50), 3) := dk_167 255 206 (dk_at dksX1_laysCosts_2 6 rfl rfl)
theorem dX1_laysCosts_55 : decode cX1_laysCosts 55 = .ok (.iconst 1, 1) := dk_4 (dk_at dksX1_laysCosts_2 9 rfl rfl)
theorem dX1_laysCosts_56 : decode cX1_laysCosts 56 = .ok (.istore_n 1, 1) := dk_60 (dk_at dksX1_laysCosts_2 10 rfl rfl)
theorem dX1_laysCosts_57 : decode cX1_laysCosts 57 = .ok (.iload_n 1, 1) := dk_27 (dk_at dksX1_laysCosts_2 11 rfl rfl)
theorem dX1_laysCosts_58 : decode cX1_laysCosts 58 = .ok (.ifCond .eq 113, 3) := dk_153 0 113 (dk_at dksX1_laysCosts_2 12 rfl rfl)
theorem dX1_laysCosts_61 : decode cX1_laysCosts 61 = .ok (.aload_n 0, 1) := dk_42 (dk_at dksX1_laysCosts_2 15 rfl rfl)
theorem dX1_laysCosts_62 : decode cX1_laysCosts 62 = .ok (.invokevirtual 325, 3) := dk_182 1 69 (dk_at dksX1_laysCosts_2 16 rfl rfl)
theorem dX1_laysCosts_65 : decode cX1_laysCosts 65 = .ok (.iconst 0, 1) := dk_3 (dk_at dksX1_laysCosts_2 19 rfl rfl)
theorem dX1_laysCosts_66 : decode cX1_laysCosts 66 = .ok (.istore_n 1, 1) := dk_60 (dk_at dksX1_laysCosts_2 20 rfl rfl)
theorem dX1_laysCosts_67 : decode cX1_laysCosts 67 = .ok (.iconst 0, 1) := dk_3 (dk_at dksX1_laysCosts_2 21 rfl rfl)
theorem dX1_laysCosts_68 : decode cX1_laysCosts 68 = .ok (.istore_n 2, 1) := dk_61 (dk_at dksX1_laysCosts_2 22 rfl rfl)
theorem dX1_laysCosts_69 : decode cX1_laysCosts 69 = .ok (.iload_n 2, 1) := dk_28 (dk_at dksX1_laysCosts_2 23 rfl rfl)
theorem dX1_laysCosts_70 : decode cX1_laysCosts 70 = .ok (.aload_n 0, 1) := dk_42 (dk_at dksX1_laysCosts_3 0 rfl rfl)
theorem dX1_laysCosts_71 : decode cX1_laysCosts 71 = .ok (.invokevirtual 179, 3) := dk_182 0 179 (dk_at dksX1_laysCosts_3 1 rfl rfl)
theorem dX1_laysCosts_74 : decode cX1_laysCosts 74 = .ok (.if_icmp .ge 78, 3) := dk_162 0 78 (dk_at dksX1_laysCosts_3 4 rfl rfl)
theorem dX1_laysCosts_77 : decode cX1_laysCosts 77 = .ok (.iconst 0, 1) := dk_3 (dk_at dksX1_laysCosts_3 7 rfl rfl)
theorem dX1_laysCosts_78 : decode cX1_laysCosts 78 = .ok (.istore_n 3, 1) := dk_62 (dk_at dksX1_laysCosts_3 8 rfl rfl)
theorem dX1_laysCosts_79 : decode cX1_laysCosts 79 = .ok (.iload_n 3, 1) := dk_29 (dk_at dksX1_laysCosts_3 9 rfl rfl)
theorem dX1_laysCosts_80 : decode cX1_laysCosts 80 = .ok (.aload_n 0, 1) := dk_42 (dk_at dksX1_laysCosts_3 10 rfl rfl)
theorem dX1_laysCosts_81 : decode cX1_laysCosts 81 = .ok (.invokevirtual 179, 3) := dk_182 0 179 (dk_at dksX1_laysCosts_3 11 rfl rfl)
theorem dX1_laysCosts_84 : decode cX1_laysCosts 84 = .ok (.if_icmp .ge 62, 3) := dk_162 0 62 (dk_at dksX1_laysCosts_3 14 rfl rfl)
theorem dX1_laysCosts_87 : decode cX1_laysCosts 87 = .ok (.aload_n 0, 1) := dk_42 (dk_at dksX1_laysCosts_3 17 rfl rfl)
theorem dX1_laysCosts_88 : decode cX1_laysCosts 88 = .ok (.getfield 81, 3) := dk_180 0 81 (dk_at dksX1_laysCosts_3 18 rfl rfl)
theorem dX1_laysCosts_91 : decode cX1_laysCosts 91 = .ok (.bipush 24, 2) := dk_16 24 (dk_at dksX1_laysCosts_3 21 rfl rfl)
theorem dX1_laysCosts_93 : decode cX1_laysCosts 93 = .ok (.iload_n 2, 1) := dk_28 (dk_at dksX1_laysCosts_3 23 rfl rfl)
theorem dX1_laysCosts_94 : decode cX1_laysCosts 94 = .ok (.imul, 1) := dk_104 (dk_at dksX1_laysCosts_4 0 rfl rfl)
theorem dX1_laysCosts_95 : decode cX1_laysCosts 95 = .ok (.iload_n 3, 1) := dk_29 (dk_at dksX1_laysCosts_4 1 rfl rfl)
theorem dX1_laysCosts_96 : decode cX1_laysCosts 96 = .ok (.iadd, 1) := dk_96 (dk_at dksX1_laysCosts_4 2 rfl rfl)
theorem dX1_laysCosts_97 : decode cX1_laysCosts 97 = .ok (.laload, 1) := dk_47 (dk_at dksX1_laysCosts_4 3 rfl rfl)
theorem dX1_laysCosts_98 : decode cX1_laysCosts 98 = .ok (.aload_n 0, 1) := dk_42 (dk_at dksX1_laysCosts_4 4 rfl rfl)
theorem dX1_laysCosts_99 : decode cX1_laysCosts 99 = .ok (.getfield 77, 3) := dk_180 0 77 (dk_at dksX1_laysCosts_4 5 rfl rfl)
theorem dX1_laysCosts_102 : decode cX1_laysCosts 102 = .ok (.bipush 24, 2) := dk_16 24 (dk_at dksX1_laysCosts_4 8 rfl rfl)
theorem dX1_laysCosts_104 : decode cX1_laysCosts 104 = .ok (.iload_n 2, 1) := dk_28 (dk_at dksX1_laysCosts_4 10 rfl rfl)
theorem dX1_laysCosts_105 : decode cX1_laysCosts 105 = .ok (.imul, 1) := dk_104 (dk_at dksX1_laysCosts_4 11 rfl rfl)
theorem dX1_laysCosts_106 : decode cX1_laysCosts 106 = .ok (.iload_n 3, 1) := dk_29 (dk_at dksX1_laysCosts_4 12 rfl rfl)
theorem dX1_laysCosts_107 : decode cX1_laysCosts 107 = .ok (.iadd, 1) := dk_96 (dk_at dksX1_laysCosts_4 13 rfl rfl)
theorem dX1_laysCosts_108 : decode cX1_laysCosts 108 = .ok (.laload, 1) := dk_47 (dk_at dksX1_laysCosts_4 14 rfl rfl)
theorem dX1_laysCosts_109 : decode cX1_laysCosts 109 = .ok (.lcmp, 1) := dk_148 (dk_at dksX1_laysCosts_4 15 rfl rfl)
theorem dX1_laysCosts_110 : decode cX1_laysCosts 110 = .ok (.ifCond .lt 6, 3) := dk_155 0 6 (dk_at dksX1_laysCosts_4 16 rfl rfl)
theorem dX1_laysCosts_113 : decode cX1_laysCosts 113 = .ok (.goto 27, 3) := dk_167 0 27 (dk_at dksX1_laysCosts_4 19 rfl rfl)
theorem dX1_laysCosts_116 : decode cX1_laysCosts 116 = .ok (.aload_n 0, 1) := dk_42 (dk_at dksX1_laysCosts_4 22 rfl rfl)
theorem dX1_laysCosts_117 : decode cX1_laysCosts 117 = .ok (.getfield 77, 3) := dk_180 0 77 (dk_at dksX1_laysCosts_5 0 rfl rfl)
theorem dX1_laysCosts_120 : decode cX1_laysCosts 120 = .ok (.bipush 24, 2) := dk_16 24 (dk_at dksX1_laysCosts_5 3 rfl rfl)
theorem dX1_laysCosts_122 : decode cX1_laysCosts 122 = .ok (.iload_n 2, 1) := dk_28 (dk_at dksX1_laysCosts_5 5 rfl rfl)
theorem dX1_laysCosts_123 : decode cX1_laysCosts 123 = .ok (.imul, 1) := dk_104 (dk_at dksX1_laysCosts_5 6 rfl rfl)
theorem dX1_laysCosts_124 : decode cX1_laysCosts 124 = .ok (.iload_n 3, 1) := dk_29 (dk_at dksX1_laysCosts_5 7 rfl rfl)
theorem dX1_laysCosts_125 : decode cX1_laysCosts 125 = .ok (.iadd, 1) := dk_96 (dk_at dksX1_laysCosts_5 8 rfl rfl)
theorem dX1_laysCosts_126 : decode cX1_laysCosts 126 = .ok (.aload_n 0, 1) := dk_42 (dk_at dksX1_laysCosts_5 9 rfl rfl)
theorem dX1_laysCosts_127 : decode cX1_laysCosts 127 = .ok (.getfield 81, 3) := dk_180 0 81 (dk_at dksX1_laysCosts_5 10 rfl rfl)
theorem dX1_laysCosts_130 : decode cX1_laysCosts 130 = .ok (.bipush 24, 2) := dk_16 24 (dk_at dksX1_laysCosts_5 13 rfl rfl)
theorem dX1_laysCosts_132 : decode cX1_laysCosts 132 = .ok (.iload_n 2, 1) := dk_28 (dk_at dksX1_laysCosts_5 15 rfl rfl)
theorem dX1_laysCosts_133 : decode cX1_laysCosts 133 = .ok (.imul, 1) := dk_104 (dk_at dksX1_laysCosts_5 16 rfl rfl)
theorem dX1_laysCosts_134 : decode cX1_laysCosts 134 = .ok (.iload_n 3, 1) := dk_29 (dk_at dksX1_laysCosts_5 17 rfl rfl)
theorem dX1_laysCosts_135 : decode cX1_laysCosts 135 = .ok (.iadd, 1) := dk_96 (dk_at dksX1_laysCosts_5 18 rfl rfl)
theorem dX1_laysCosts_136 : decode cX1_laysCosts 136 = .ok (.laload, 1) := dk_47 (dk_at dksX1_laysCosts_5 19 rfl rfl)
theorem dX1_laysCosts_137 : decode cX1_laysCosts 137 = .ok (.lastore, 1) := dk_80 (dk_at dksX1_laysCosts_5 20 rfl rfl)
theorem dX1_laysCosts_138 : decode cX1_laysCosts 138 = .ok (.iconst 1, 1) := dk_4 (dk_at dksX1_laysCosts_5 21 rfl rfl)
theorem dX1_laysCosts_139 : decode cX1_laysCosts 139 = .ok (.istore_n 1, 1) := dk_60 (dk_at dksX1_laysCosts_5 22 rfl rfl)
theorem dX1_laysCosts_140 : decode cX1_laysCosts 140 = .ok (.iinc 3 1, 3) := dk_132 3 1 (dk_at dksX1_laysCosts_6 0 rfl rfl)
theorem dX1_laysCosts_143 : decode cX1_laysCosts 143 = .ok (.goto (-64), 3) := dk_167 255 192 (dk_at dksX1_laysCosts_6 3 rfl rfl)
theorem dX1_laysCosts_146 : decode cX1_laysCosts 146 = .ok (.iinc 2 1, 3) := dk_132 2 1 (dk_at dksX1_laysCosts_6 6 rfl rfl)
theorem dX1_laysCosts_149 : decode cX1_laysCosts 149 = .ok (.goto (-80), 3) := dk_167 255 176 (dk_at dksX1_laysCosts_6 9 rfl rfl)
theorem dX1_laysCosts_152 : decode cX1_laysCosts 152 = .ok (.aload_n 0, 1) := dk_42 (dk_at dksX1_laysCosts_6 12 rfl rfl)
theorem dX1_laysCosts_153 : decode cX1_laysCosts 153 = .ok (.aload_n 0, 1) := dk_42 (dk_at dksX1_laysCosts_6 13 rfl rfl)
theorem dX1_laysCosts_154 : decode cX1_laysCosts 154 = .ok (.getfield 77, 3) := dk_180 0 77 (dk_at dksX1_laysCosts_6 14 rfl rfl)
theorem dX1_laysCosts_157 : decode cX1_laysCosts 157 = .ok (.ldc2_w 312, 3) := dk_20 1 56 (dk_at dksX1_laysCosts_6 17 rfl rfl)
theorem dX1_laysCosts_160 : decode cX1_laysCosts 160 = .ok (.invokevirtual 328, 3) := dk_182 1 72 (dk_at dksX1_laysCosts_6 20 rfl rfl)
theorem dX1_laysCosts_163 : decode cX1_laysCosts 163 = .ok (.ifCond .eq (-106), 3) := dk_153 255 150 (dk_at dksX1_laysCosts_7 0 rfl rfl)
theorem dX1_laysCosts_166 : decode cX1_laysCosts 166 = .ok (.iconst 1, 1) := dk_4 (dk_at dksX1_laysCosts_7 3 rfl rfl)
theorem dX1_laysCosts_167 : decode cX1_laysCosts 167 = .ok (.istore_n 1, 1) := dk_60 (dk_at dksX1_laysCosts_7 4 rfl rfl)
theorem dX1_laysCosts_168 : decode cX1_laysCosts 168 = .ok (.goto (-16), 3) := dk_167 255 240 (dk_at dksX1_laysCosts_7 5 rfl rfl)
theorem dX1_laysCosts_171 : decode cX1_laysCosts 171 = .ok (.return_, 1) := dk_177 (dk_at dksX1_laysCosts_7 8 rfl rfl)
abbrev cX1_laysEdges : ByteArray := prog_1_method_49_code
def yX1_laysEdges : MethodName := ⟨RX1, "laysEdges", "()V"⟩
def dkwX1_laysEdges_3 : List UInt8 := [16, 24, 27, 104, 28, 96, 33, 80, 132, 2, 1, 167, 255, 187, 132, 1, 1, 167, 255, 171, 177]
abbrev dktX1_laysEdges_3 : List UInt8 := dkwX1_laysEdges_3 ++ []
def dkwX1_laysEdges_2 : List UInt8 := [27, 28, 182, 1, 52, 153, 0, 14, 33, 42, 27, 28, 182, 1, 65, 184, 1, 58, 66, 42, 180, 0, 81]
abbrev dktX1_laysEdges_2 : List UInt8 := dkwX1_laysEdges_2 ++ dktX1_laysEdges_3
def dkwX1_laysEdges_1 : List UInt8 := [182, 1, 62, 153, 0, 7, 10, 167, 0, 6, 20, 1, 56, 66, 27, 28, 159, 0, 27, 42, 42, 180, 0, 36]
abbrev dktX1_laysEdges_1 : List UInt8 := dkwX1_laysEdges_1 ++ dktX1_laysEdges_2
def dkwX1_laysEdges_0 : List UInt8 := [3, 60, 27, 42, 182, 0, 179, 162, 0, 83, 3, 61, 28, 42, 182, 0, 179, 162, 0, 67, 42, 27, 28]
abbrev dktX1_laysEdges_0 : List UInt8 := dkwX1_laysEdges_0 ++ dktX1_laysEdges_1
theorem dksX1_laysEdges_0 : cX1_laysEdges.data.toList.drop 0 = dktX1_laysEdges_0 := by decide +kernel
theorem dksX1_laysEdges_1 : cX1_laysEdges.data.toList.drop 23 = dktX1_laysEdges_1 := dk_seg dksX1_laysEdges_0 23 rfl rfl
theorem dksX1_laysEdges_2 : cX1_laysEdges.data.toList.drop 47 = dktX1_laysEdges_2 := dk_seg dksX1_laysEdges_1 24 rfl rfl
theorem dksX1_laysEdges_3 : cX1_laysEdges.data.toList.drop 70 = dktX1_laysEdges_3 := dk_seg dksX1_laysEdges_2 23 rfl rfl
theorem dX1_laysEdges_0 : decode cX1_laysEdges 0 = .ok (.iconst 0, 1) := dk_3 (dk_at dksX1_laysEdges_0 0 rfl rfl)
theorem dX1_laysEdges_1 : decode cX1_laysEdges 1 = .ok (.istore_n 1, 1) := dk_60 (dk_at dksX1_laysEdges_0 1 rfl rfl)
theorem dX1_laysEdges_2 : decode cX1_laysEdges 2 = .ok (.iload_n 1, 1) := dk_27 (dk_at dksX1_laysEdges_0 2 rfl rfl)
theorem dX1_laysEdges_3 : decode cX1_laysEdges 3 = .ok (.aload_n 0, 1) := dk_42 (dk_at dksX1_laysEdges_0 3 rfl rfl)
theorem dX1_laysEdges_4 : decode cX1_laysEdges 4 = .ok (.invokevirtual 179, 3) := dk_182 0 179 (dk_at dksX1_laysEdges_0 4 rfl rfl)
theorem dX1_laysEdges_7 : decode cX1_laysEdges 7 = .ok (.if_icmp .ge 83, 3) := dk_162 0 83 (dk_at dksX1_laysEdges_0 7 rfl rfl)
theorem dX1_laysEdges_10 : decode cX1_laysEdges 10 = .ok (.iconst 0, 1) := dk_3 (dk_at dksX1_laysEdges_0 10 rfl rfl)
theorem dX1_laysEdges_11 : decode cX1_laysEdges 11 = .ok (.istore_n 2, 1) := dk_61 (dk_at dksX1_laysEdges_0 11 rfl rfl)
theorem dX1_laysEdges_12 : decode cX1_laysEdges 12 = .ok (.iload_n 2, 1) := dk_28 (dk_at dksX1_laysEdges_0 12 rfl rfl)
theorem dX1_laysEdges_13 : decode cX1_laysEdges 13 = .ok (.aload_n 0, 1) := dk_42 (dk_at dksX1_laysEdges_0 13 rfl rfl)
theorem dX1_laysEdges_14 : decode cX1_laysEdges 14 = .ok (.invokevirtual 179, 3) := dk_182 0 179 (dk_at dksX1_laysEdges_0 14 rfl rfl)
theorem dX1_laysEdges_17 : decode cX1_laysEdges 17 = .ok (.if_icmp .ge 67, 3) := dk_162 0 67 (dk_at dksX1_laysEdges_0 17 rfl rfl)
theorem dX1_laysEdges_20 : decode cX1_laysEdges 20 = .ok (.aload_n 0, 1) := dk_42 (dk_at dksX1_laysEdges_0 20 rfl rfl)
theorem dX1_laysEdges_21 : decode cX1_laysEdges 21 = .ok (.iload_n 1, 1) := dk_27 (dk_at dksX1_laysEdges_0 21 rfl rfl)
theorem dX1_laysEdges_22 : decode cX1_laysEdges 22 = .ok (.iload_n 2, 1) := dk_28 (dk_at dksX1_laysEdges_0 22 rfl rfl)
theorem dX1_laysEdges_23 : decode cX1_laysEdges 23 = .ok (.invokevirtual 318, 3) := dk_182 1 62 (dk_at dksX1_laysEdges_1 0 rfl rfl)
theorem dX1_laysEdges_26 : decode cX1_laysEdges 26 = .ok (.ifCond .eq 7, 3) := dk_153 0 7 (dk_at dksX1_laysEdges_1 3 rfl rfl)
theorem dX1_laysEdges_29 : decode cX1_laysEdges 29 = .ok (.lconst 1, 1) := dk_10 (dk_at dksX1_laysEdges_1 6 rfl rfl)
theorem dX1_laysEdges_30 : decode cX1_laysEdges 30 = .ok (.goto 6, 3) := dk_167 0 6 (dk_at dksX1_laysEdges_1 7 rfl rfl)
theorem dX1_laysEdges_33 : decode cX1_laysEdges 33 = .ok (.ldc2_w 312, 3) := dk_20 1 56 (dk_at dksX1_laysEdges_1 10 rfl rfl)
theorem dX1_laysEdges_36 : decode cX1_laysEdges 36 = .ok (.lstore_n 3, 1) := dk_66 (dk_at dksX1_laysEdges_1 13 rfl rfl)
theorem dX1_laysEdges_37 : decode cX1_laysEdges 37 = .ok (.iload_n 1, 1) := dk_27 (dk_at dksX1_laysEdges_1 14 rfl rfl)
theorem dX1_laysEdges_38 : decode cX1_laysEdges 38 = .ok (.iload_n 2, 1) := dk_28 (dk_at dksX1_laysEdges_1 15 rfl rfl)
theorem dX1_laysEdges_39 : decode cX1_laysEdges 39 = .ok (.if_icmp .eq 27, 3) := dk_159 0 27 (dk_at dksX1_laysEdges_1 16 rfl rfl)
theorem dX1_laysEdges_42 : decode cX1_laysEdges 42 = .ok (.aload_n 0, 1) := dk_42 (dk_at dksX1_laysEdges_1 19 rfl rfl)
theorem dX1_laysEdges_43 : decode cX1_laysEdges 43 = .ok (.aload_n 0, 1) := dk_42 (dk_at dksX1_laysEdges_1 20 rfl rfl)
theorem dX1_laysEdges_44 : decode cX1_laysEdges 44 = .ok (.getfield 36, 3) := dk_180 0 36 (dk_at dksX1_laysEdges_1 21 rfl rfl)
theorem dX1_laysEdges_47 : decode cX1_laysEdges 47 = .ok (.iload_n 1, 1) := dk_27 (dk_at dksX1_laysEdges_2 0 rfl rfl)
theorem dX1_laysEdges_48 : decode cX1_laysEdges 48 = .ok (.iload_n 2, 1) := dk_28 (dk_at dksX1_laysEdges_2 1 rfl rfl)
theorem dX1_laysEdges_49 : decode cX1_laysEdges 49 = .ok (.invokevirtual 308, 3) := dk_182 1 52 (dk_at dksX1_laysEdges_2 2 rfl rfl)
theorem dX1_laysEdges_52 : decode cX1_laysEdges 52 = .ok (.ifCond .eq 14, 3) := dk_153 0 14 (dk_at dksX1_laysEdges_2 5 rfl rfl)
theorem dX1_laysEdges_55 : decode cX1_laysEdges 55 = .ok (.lload_n 3, 1) := dk_33 (dk_at dksX1_laysEdges_2 8 rfl rfl)
theorem dX1_laysEdges_56 : decode cX1_laysEdges 56 = .ok (.aload_n 0, 1) := dk_42 (dk_at dksX1_laysEdges_2 9 rfl rfl)
theorem dX1_laysEdges_57 : decode cX1_laysEdges 57 = .ok (.iload_n 1, 1) := dk_27 (dk_at dksX1_laysEdges_2 10 rfl rfl)
theorem dX1_laysEdges_58 : decode cX1_laysEdges 58 = .ok (.iload_n 2, 1) := dk_28 (dk_at dksX1_laysEdges_2 11 rfl rfl)
theorem dX1_laysEdges_59 : decode cX1_laysEdges 59 = .ok (.invokevirtual 321, 3) := dk_182 1 65 (dk_at dksX1_laysEdges_2 12 rfl rfl)
theorem dX1_laysEdges_62 : decode cX1_laysEdges 62 = .ok (.invokestatic 314, 3) := dk_184 1 58 (dk_at dksX1_laysEdges_2 15 rfl rfl)
theorem dX1_laysEdges_65 : decode cX1_laysEdges 65 = .ok (.lstore_n 3, 1) := dk_66 (dk_at dksX1_laysEdges_2 18 rfl rfl)
theorem dX1_laysEdges_66 : decode cX1_laysEdges 66 = .ok (.aload_n 0, 1) := dk_42 (dk_at dksX1_laysEdges_2 19 rfl rfl)
theorem dX1_laysEdges_67 : decode cX1_laysEdges 67 = .ok (.getfield 81, 3) := dk_180 0 81 (dk_at dksX1_laysEdges_2 20 rfl rfl)
theorem dX1_laysEdges_70 : decode cX1_laysEdges 70 = .ok (.bipush 24, 2) := dk_16 24 (dk_at dksX1_laysEdges_3 0 rfl rfl)
theorem dX1_laysEdges_72 : decode cX1_laysEdges 72 = .ok (.iload_n 1, 1) := dk_27 (dk_at dksX1_laysEdges_3 2 rfl rfl)
theorem dX1_laysEdges_73 : decode cX1_laysEdges 73 = .ok (.imul, 1) := dk_104 (dk_at dksX1_laysEdges_3 3 rfl rfl)
theorem dX1_laysEdges_74 : decode cX1_laysEdges 74 = .ok (.iload_n 2, 1) := dk_28 (dk_at dksX1_laysEdges_3 4 rfl rfl)
theorem dX1_laysEdges_75 : decode cX1_laysEdges 75 = .ok (.iadd, 1) := dk_96 (dk_at dksX1_laysEdges_3 5 rfl rfl)
theorem dX1_laysEdges_76 : decode cX1_laysEdges 76 = .ok (.lload_n 3, 1) := dk_33 (dk_at dksX1_laysEdges_3 6 rfl rfl)
theorem dX1_laysEdges_77 : decode cX1_laysEdges 77 = .ok (.lastore, 1) := dk_80 (dk_at dksX1_laysEdges_3 7 rfl rfl)
theorem dX1_laysEdges_78 : decode cX1_laysEdges 78 = .ok (.iinc 2 1, 3) := dk_132 2 1 (dk_at dksX1_laysEdges_3 8 rfl rfl)
theorem dX1_laysEdges_81 : decode cX1_laysEdges 81 = .ok (.goto (-69), 3) := dk_167 255 187 (dk_at dksX1_laysEdges_3 11 rfl rfl)
theorem dX1_laysEdges_84 : decode cX1_laysEdges 84 = .ok (.iinc 1 1, 3) := dk_132 1 1 (dk_at dksX1_laysEdges_3 14 rfl rfl)
theorem dX1_laysEdges_87 : decode cX1_laysEdges 87 = .ok (.goto (-85), 3) := dk_167 255 171 (dk_at dksX1_laysEdges_3 17 rfl rfl)
theorem dX1_laysEdges_90 : decode cX1_laysEdges 90 = .ok (.return_, 1) := dk_177 (dk_at dksX1_laysEdges_3 20 rfl rfl)
abbrev cX1_isSame : ByteArray := prog_1_method_47_code
def yX1_isSame : MethodName := ⟨RX1, "isSame", "(II)Z"⟩
def dkwX1_isSame_3 : List UInt8 := [167, 255, 189, 3, 172]
abbrev dktX1_isSame_3 : List UInt8 := dkwX1_isSame_3 ++ []
def dkwX1_isSame_2 : List UInt8 := [25, 4, 180, 0, 159, 28, 160, 0, 14, 25, 4, 180, 0, 162, 27, 160, 0, 5, 4, 172, 132, 3, 1]
abbrev dktX1_isSame_2 : List UInt8 := dkwX1_isSame_2 ++ dktX1_isSame_3
def dkwX1_isSame_1 : List UInt8 := [192, 0, 157, 58, 4, 25, 4, 180, 0, 159, 27, 160, 0, 12, 25, 4, 180, 0, 162, 28, 159, 0, 21]
abbrev dktX1_isSame_1 : List UInt8 := dkwX1_isSame_1 ++ dktX1_isSame_2
def dkwX1_isSame_0 : List UInt8 := [3, 62, 29, 42, 182, 0, 191, 162, 0, 65, 42, 180, 0, 23, 180, 0, 150, 29, 185, 0, 153, 2, 0]
abbrev dktX1_isSame_0 : List UInt8 := dkwX1_isSame_0 ++ dktX1_isSame_1
theorem dksX1_isSame_0 : cX1_isSame.data.toList.drop 0 = dktX1_isSame_0 := by decide +kernel
theorem dksX1_isSame_1 : cX1_isSame.data.toList.drop 23 = dktX1_isSame_1 := dk_seg dksX1_isSame_0 23 rfl rfl
theorem dksX1_isSame_2 : cX1_isSame.data.toList.drop 46 = dktX1_isSame_2 := dk_seg dksX1_isSame_1 23 rfl rfl
theorem dksX1_isSame_3 : cX1_isSame.data.toList.drop 69 = dktX1_isSame_3 := dk_seg dksX1_isSame_2 23 rfl rfl
theorem dX1_isSame_0 : decode cX1_isSame 0 = .ok (.iconst 0, 1) := dk_3 (dk_at dksX1_isSame_0 0 rfl rfl)
theorem dX1_isSame_1 : decode cX1_isSame 1 = .ok (.istore_n 3, 1) := dk_62 (dk_at dksX1_isSame_0 1 rfl rfl)
theorem dX1_isSame_2 : decode cX1_isSame 2 = .ok (.iload_n 3, 1) := dk_29 (dk_at dksX1_isSame_0 2 rfl rfl)
theorem dX1_isSame_3 : decode cX1_isSame 3 = .ok (.aload_n 0, 1) := dk_42 (dk_at dksX1_isSame_0 3 rfl rfl)
theorem dX1_isSame_4 : decode cX1_isSame 4 = .ok (.invokevirtual 191, 3) := dk_182 0 191 (dk_at dksX1_isSame_0 4 rfl rfl)
theorem dX1_isSame_7 : decode cX1_isSame 7 = .ok (.if_icmp .ge 65, 3) := dk_162 0 65 (dk_at dksX1_isSame_0 7 rfl rfl)
theorem dX1_isSame_10 : decode cX1_isSame 10 = .ok (.aload_n 0, 1) := dk_42 (dk_at dksX1_isSame_0 10 rfl rfl)
theorem dX1_isSame_11 : decode cX1_isSame 11 = .ok (.getfield 23, 3) := dk_180 0 23 (dk_at dksX1_isSame_0 11 rfl rfl)
theorem dX1_isSame_14 : decode cX1_isSame 14 = .ok (.getfield 150, 3) := dk_180 0 150 (dk_at dksX1_isSame_0 14 rfl rfl)
theorem dX1_isSame_17 : decode cX1_isSame 17 = .ok (.iload_n 3, 1) := dk_29 (dk_at dksX1_isSame_0 17 rfl rfl)
theorem dX1_isSame_18 : decode cX1_isSame 18 = .ok (.invokeinterface 153 2, 5) := by decide +kernel
theorem dX1_isSame_23 : decode cX1_isSame 23 = .ok (.checkcast 157, 3) := dk_192 0 157 (dk_at dksX1_isSame_1 0 rfl rfl)
theorem dX1_isSame_26 : decode cX1_isSame 26 = .ok (.astore 4, 2) := dk_58 4 (dk_at dksX1_isSame_1 3 rfl rfl)
theorem dX1_isSame_28 : decode cX1_isSame 28 = .ok (.aload 4, 2) := dk_25 4 (dk_at dksX1_isSame_1 5 rfl rfl)
theorem dX1_isSame_30 : decode cX1_isSame 30 = .ok (.getfield 159, 3) := dk_180 0 159 (dk_at dksX1_isSame_1 7 rfl rfl)
theorem dX1_isSame_33 : decode cX1_isSame 33 = .ok (.iload_n 1, 1) := dk_27 (dk_at dksX1_isSame_1 10 rfl rfl)
theorem dX1_isSame_34 : decode cX1_isSame 34 = .ok (.if_icmp .ne 12, 3) := dk_160 0 12 (dk_at dksX1_isSame_1 11 rfl rfl)
theorem dX1_isSame_37 : decode cX1_isSame 37 = .ok (.aload 4, 2) := dk_25 4 (dk_at dksX1_isSame_1 14 rfl rfl)
theorem dX1_isSame_39 : decode cX1_isSame 39 = .ok (.getfield 162, 3) := dk_180 0 162 (dk_at dksX1_isSame_1 16 rfl rfl)
theorem dX1_isSame_42 : decode cX1_isSame 42 = .ok (.iload_n 2, 1) := dk_28 (dk_at dksX1_isSame_1 19 rfl rfl)
theorem dX1_isSame_43 : decode cX1_isSame 43 = .ok (.if_icmp .eq 21, 3) := dk_159 0 21 (dk_at dksX1_isSame_1 20 rfl rfl)
theorem dX1_isSame_46 : decode cX1_isSame 46 = .ok (.aload 4, 2) := dk_25 4 (dk_at dksX1_isSame_2 0 rfl rfl)
theorem dX1_isSame_48 : decode cX1_isSame 48 = .ok (.getfield 159, 3) := dk_180 0 159 (dk_at dksX1_isSame_2 2 rfl rfl)
theorem dX1_isSame_51 : decode cX1_isSame 51 = .ok (.iload_n 2, 1) := dk_28 (dk_at dksX1_isSame_2 5 rfl rfl)
theorem dX1_isSame_52 : decode cX1_isSame 52 = .ok (.if_icmp .ne 14, 3) := dk_160 0 14 (dk_at dksX1_isSame_2 6 rfl rfl)
theorem dX1_isSame_55 : decode cX1_isSame 55 = .ok (.aload 4, 2) := dk_25 4 (dk_at dksX1_isSame_2 9 rfl rfl)
theorem dX1_isSame_57 : decode cX1_isSame 57 = .ok (.getfield 162, 3) := dk_180 0 162 (dk_at dksX1_isSame_2 11 rfl rfl)
theorem dX1_isSame_60 : decode cX1_isSame 60 = .ok (.iload_n 1, 1) := dk_27 (dk_at dksX1_isSame_2 14 rfl rfl)
theorem dX1_isSame_61 : decode cX1_isSame 61 = .ok (.if_icmp .ne 5, 3) := dk_160 0 5 (dk_at dksX1_isSame_2 15 rfl rfl)
theorem dX1_isSame_64 : decode cX1_isSame 64 = .ok (.iconst 1, 1) := dk_4 (dk_at dksX1_isSame_2 18 rfl rfl)
theorem dX1_isSame_65 : decode cX1_isSame 65 = .ok (.ireturn, 1) := dk_172 (dk_at dksX1_isSame_2 19 rfl rfl)
theorem dX1_isSame_66 : decode cX1_isSame 66 = .ok (.iinc 3 1, 3) := dk_132 3 1 (dk_at dksX1_isSame_2 20 rfl rfl)
theorem dX1_isSame_69 : decode cX1_isSame 69 = .ok (.goto (-67), 3) := dk_167 255 189 (dk_at dksX1_isSame_3 0 rfl rfl)
theorem dX1_isSame_72 : decode cX1_isSame 72 = .ok (.iconst 0, 1) := dk_3 (dk_at dksX1_isSame_3 3 rfl rfl)
theorem dX1_isSame_73 : decode cX1_isSame 73 = .ok (.ireturn, 1) := dk_172 (dk_at dksX1_isSame_3 4 rfl rfl)
abbrev cX1_partsCost : ByteArray := prog_1_method_48_code
def yX1_partsCost : MethodName := ⟨RX1, "partsCost", "(II)J"⟩
def dkwX1_partsCost_3 : List UInt8 := [21, 7, 46, 96, 47, 97, 66, 132, 7, 1, 167, 255, 223, 20, 1, 56, 33, 184, 1, 58, 173]
abbrev dktX1_partsCost_3 : List UInt8 := dkwX1_partsCost_3 ++ []
def dkwX1_partsCost_2 : List UInt8 := [21, 7, 25, 5, 190, 162, 0, 31, 33, 42, 180, 0, 77, 16, 24, 25, 5, 21, 7, 46, 104, 25, 6]
abbrev dktX1_partsCost_2 : List UInt8 := dkwX1_partsCost_2 ++ dktX1_partsCost_3
def dkwX1_partsCost_1 : List UInt8 := [180, 0, 23, 180, 0, 29, 28, 185, 0, 153, 2, 0, 192, 0, 208, 180, 0, 218, 58, 6, 3, 54, 7]
abbrev dktX1_partsCost_1 : List UInt8 := dkwX1_partsCost_1 ++ dktX1_partsCost_2
def dkwX1_partsCost_0 : List UInt8 := [9, 66, 42, 180, 0, 23, 180, 0, 29, 27, 185, 0, 153, 2, 0, 192, 0, 208, 180, 0, 218, 58, 5, 42]
abbrev dktX1_partsCost_0 : List UInt8 := dkwX1_partsCost_0 ++ dktX1_partsCost_1
theorem dksX1_partsCost_0 : cX1_partsCost.data.toList.drop 0 = dktX1_partsCost_0 := by decide +kernel
theorem dksX1_partsCost_1 : cX1_partsCost.data.toList.drop 24 = dktX1_partsCost_1 := dk_seg dksX1_partsCost_0 24 rfl rfl
theorem dksX1_partsCost_2 : cX1_partsCost.data.toList.drop 47 = dktX1_partsCost_2 := dk_seg dksX1_partsCost_1 23 rfl rfl
theorem dksX1_partsCost_3 : cX1_partsCost.data.toList.drop 70 = dktX1_partsCost_3 := dk_seg dksX1_partsCost_2 23 rfl rfl
theorem dX1_partsCost_0 : decode cX1_partsCost 0 = .ok (.lconst 0, 1) := dk_9 (dk_at dksX1_partsCost_0 0 rfl rfl)
theorem dX1_partsCost_1 : decode cX1_partsCost 1 = .ok (.lstore_n 3, 1) := dk_66 (dk_at dksX1_partsCost_0 1 rfl rfl)
theorem dX1_partsCost_2 : decode cX1_partsCost 2 = .ok (.aload_n 0, 1) := dk_42 (dk_at dksX1_partsCost_0 2 rfl rfl)
theorem dX1_partsCost_3 : decode cX1_partsCost 3 = .ok (.getfield 23, 3) := dk_180 0 23 (dk_at dksX1_partsCost_0 3 rfl rfl)
theorem dX1_partsCost_6 : decode cX1_partsCost 6 = .ok (.getfield 29, 3) := dk_180 0 29 (dk_at dksX1_partsCost_0 6 rfl rfl)
theorem dX1_partsCost_9 : decode cX1_partsCost 9 = .ok (.iload_n 1, 1) := dk_27 (dk_at dksX1_partsCost_0 9 rfl rfl)
theorem dX1_partsCost_10 : decode cX1_partsCost 10 = .ok (.invokeinterface 153 2, 5) := by decide +kernel
theorem dX1_partsCost_15 : decode cX1_partsCost 15 = .ok (.checkcast 208, 3) := dk_192 0 208 (dk_at dksX1_partsCost_0 15 rfl rfl)
theorem dX1_partsCost_18 : decode cX1_partsCost 18 = .ok (.getfield 218, 3) := dk_180 0 218 (dk_at dksX1_partsCost_0 18 rfl rfl)
theorem dX1_partsCost_21 : decode cX1_partsCost 21 = .ok (.astore 5, 2) := dk_58 5 (dk_at dksX1_partsCost_0 21 rfl rfl)
theorem dX1_partsCost_23 : decode cX1_partsCost 23 = .ok (.aload_n 0, 1) := dk_42 (dk_at dksX1_partsCost_0 23 rfl rfl)
theorem dX1_partsCost_24 : decode cX1_partsCost 24 = .ok (.getfield 23, 3) := dk_180 0 23 (dk_at dksX1_partsCost_1 0 rfl rfl)
theorem dX1_partsCost_27 : decode cX1_partsCost 27 = .ok (.getfield 29, 3) := dk_180 0 29 (dk_at dksX1_partsCost_1 3 rfl rfl)
theorem dX1_partsCost_30 : decode cX1_partsCost 30 = .ok (.iload_n 2, 1) := dk_28 (dk_at dksX1_partsCost_1 6 rfl rfl)
theorem dX1_partsCost_31 : decode cX1_partsCost 31 = .ok (.invokeinterface 153 2, 5) := by decide +kernel
theorem dX1_partsCost_36 : decode cX1_partsCost 36 = .ok (.checkcast 208, 3) := dk_192 0 208 (dk_at dksX1_partsCost_1 12 rfl rfl)
theorem dX1_partsCost_39 : decode cX1_partsCost 39 = .ok (.getfield 218, 3) := dk_180 0 218 (dk_at dksX1_partsCost_1 15 rfl rfl)
theorem dX1_partsCost_42 : decode cX1_partsCost 42 = .ok (.astore 6, 2) := dk_58 6 (dk_at dksX1_partsCost_1 18 rfl rfl)
theorem dX1_partsCost_44 : decode cX1_partsCost 44 = .ok (.iconst 0, 1) := dk_3 (dk_at dksX1_partsCost_1 20 rfl rfl)
theorem dX1_partsCost_45 : decode cX1_partsCost 45 = .ok (.istore 7, 2) := dk_54 7 (dk_at dksX1_partsCost_1 21 rfl rfl)
theorem dX1_partsCost_47 : decode cX1_partsCost 47 = .ok (.iload 7, 2) := dk_21 7 (dk_at dksX1_partsCost_2 0 rfl rfl)
theorem dX1_partsCost_49 : decode cX1_partsCost 49 = .ok (.aload 5, 2) := dk_25 5 (dk_at dksX1_partsCost_2 2 rfl rfl)
theorem dX1_partsCost_51 : decode cX1_partsCost 51 = .ok (.arraylength, 1) := dk_190 (dk_at dksX1_partsCost_2 4 rfl rfl)
theorem dX1_partsCost_52 : decode cX1_partsCost 52 = .ok (.if_icmp .ge 31, 3) := dk_162 0 31 (dk_at dksX1_partsCost_2 5 rfl rfl)
theorem dX1_partsCost_55 : decode cX1_partsCost 55 = .ok (.lload_n 3, 1) := dk_33 (dk_at dksX1_partsCost_2 8 rfl rfl)
theorem dX1_partsCost_56 : decode cX1_partsCost 56 = .ok (.aload_n 0, 1) := dk_42 (dk_at dksX1_partsCost_2 9 rfl rfl)
theorem dX1_partsCost_57 : decode cX1_partsCost 57 = .ok (.getfield 77, 3) := dk_180 0 77 (dk_at dksX1_partsCost_2 10 rfl rfl)
theorem dX1_partsCost_60 : decode cX1_partsCost 60 = .ok (.bipush 24, 2) := dk_16 24 (dk_at dksX1_partsCost_2 13 rfl rfl)
theorem dX1_partsCost_62 : decode cX1_partsCost 62 = .ok (.aload 5, 2) := dk_25 5 (dk_at dksX1_partsCost_2 15 rfl rfl)
theorem dX1_partsCost_64 : decode cX1_partsCost 64 = .ok (.iload 7, 2) := dk_21 7 (dk_at dksX1_partsCost_2 17 rfl rfl)
theorem dX1_partsCost_66 : decode cX1_partsCost 66 = .ok (.iaload, 1) := dk_46 (dk_at dksX1_partsCost_2 19 rfl rfl)
theorem dX1_partsCost_67 : decode cX1_partsCost 67 = .ok (.imul, 1) := dk_104 (dk_at dksX1_partsCost_2 20 rfl rfl)
theorem dX1_partsCost_68 : decode cX1_partsCost 68 = .ok (.aload 6, 2) := dk_25 6 (dk_at dksX1_partsCost_2 21 rfl rfl)
theorem dX1_partsCost_70 : decode cX1_partsCost 70 = .ok (.iload 7, 2) := dk_21 7 (dk_at dksX1_partsCost_3 0 rfl rfl)
theorem dX1_partsCost_72 : decode cX1_partsCost 72 = .ok (.iaload, 1) := dk_46 (dk_at dksX1_partsCost_3 2 rfl rfl)
theorem dX1_partsCost_73 : decode cX1_partsCost 73 = .ok (.iadd, 1) := dk_96 (dk_at dksX1_partsCost_3 3 rfl rfl)
theorem dX1_partsCost_74 : decode cX1_partsCost 74 = .ok (.laload, 1) := dk_47 (dk_at dksX1_partsCost_3 4 rfl rfl)
theorem dX1_partsCost_75 : decode cX1_partsCost 75 = .ok (.ladd, 1) := dk_97 (dk_at dksX1_partsCost_3 5 rfl rfl)
theorem dX1_partsCost_76 : decode cX1_partsCost 76 = .ok (.lstore_n 3, 1) := dk_66 (dk_at dksX1_partsCost_3 6 rfl rfl)
theorem dX1_partsCost_77 : decode cX1_partsCost 77 = .ok (.iinc 7 1, 3) := dk_132 7 1 (dk_at dksX1_partsCost_3 7 rfl rfl)
theorem dX1_partsCost_80 : decode cX1_partsCost 80 = .ok (.goto (-33), 3) := dk_167 255 223 (dk_at dksX1_partsCost_3 10 rfl rfl)
theorem dX1_partsCost_83 : decode cX1_partsCost 83 = .ok (.ldc2_w 312, 3) := dk_20 1 56 (dk_at dksX1_partsCost_3 13 rfl rfl)
theorem dX1_partsCost_86 : decode cX1_partsCost 86 = .ok (.lload_n 3, 1) := dk_33 (dk_at dksX1_partsCost_3 16 rfl rfl)
theorem dX1_partsCost_87 : decode cX1_partsCost 87 = .ok (.invokestatic 314, 3) := dk_184 1 58 (dk_at dksX1_partsCost_3 17 rfl rfl)
theorem dX1_partsCost_90 : decode cX1_partsCost 90 = .ok (.lreturn, 1) := dk_173 (dk_at dksX1_partsCost_3 20 rfl rfl)
abbrev cX1_spreads : ByteArray := prog_1_method_50_code
def yX1_spreads : MethodName := ⟨RX1, "spreads", "([JJ)Z"⟩
def dkwX1_spreads_5 : List UInt8 := [167, 255, 144, 21, 4, 172]
abbrev dktX1_spreads_5 : List UInt8 := dkwX1_spreads_5 ++ []
def dkwX1_spreads_4 : List UInt8 := [96, 22, 8, 80, 4, 54, 4, 132, 7, 1, 167, 255, 180, 132, 6, 1, 167, 255, 162, 132, 5, 1]
abbrev dktX1_spreads_4 : List UInt8 := dkwX1_spreads_4 ++ dktX1_spreads_5
def dkwX1_spreads_3 : List UInt8 := [96, 47, 148, 156, 0, 28, 22, 8, 32, 148, 155, 0, 6, 167, 0, 18, 43, 16, 24, 21, 6, 104, 21, 7]
abbrev dktX1_spreads_3 : List UInt8 := dkwX1_spreads_3 ++ dktX1_spreads_4
def dkwX1_spreads_2 : List UInt8 := [47, 43, 16, 24, 21, 5, 104, 21, 7, 96, 47, 97, 55, 8, 22, 8, 43, 16, 24, 21, 6, 104, 21, 7]
abbrev dktX1_spreads_2 : List UInt8 := dkwX1_spreads_2 ++ dktX1_spreads_3
def dkwX1_spreads_1 : List UInt8 := [162, 0, 91, 3, 54, 7, 21, 7, 42, 182, 0, 179, 162, 0, 73, 43, 16, 24, 21, 6, 104, 21, 5, 96]
abbrev dktX1_spreads_1 : List UInt8 := dkwX1_spreads_1 ++ dktX1_spreads_2
def dkwX1_spreads_0 : List UInt8 := [3, 54, 4, 3, 54, 5, 21, 5, 42, 182, 0, 179, 162, 0, 109, 3, 54, 6, 21, 6, 42, 182, 0, 179]
abbrev dktX1_spreads_0 : List UInt8 := dkwX1_spreads_0 ++ dktX1_spreads_1
theorem dksX1_spreads_0 : cX1_spreads.data.toList.drop 0 = dktX1_spreads_0 := by decide +kernel
theorem dksX1_spreads_1 : cX1_spreads.data.toList.drop 24 = dktX1_spreads_1 := dk_seg dksX1_spreads_0 24 rfl rfl
theorem dksX1_spreads_2 : cX1_spreads.data.toList.drop 48 = dktX1_spreads_2 := dk_seg dksX1_spreads_1 24 rfl rfl
theorem dksX1_spreads_3 : cX1_spreads.data.toList.drop 72 = dktX1_spreads_3 := dk_seg dksX1_spreads_2 24 rfl rfl
theorem dksX1_spreads_4 : cX1_spreads.data.toList.drop 96 = dktX1_spreads_4 := dk_seg dksX1_spreads_3 24 rfl rfl
theorem dksX1_spreads_5 : cX1_spreads.data.toList.drop 118 = dktX1_spreads_5 := dk_seg dksX1_spreads_4 22 rfl rfl
theorem dX1_spreads_0 : decode cX1_spreads 0 = .ok (.iconst 0, 1) := dk_3 (dk_at dksX1_spreads_0 0 rfl rfl)
theorem dX1_spreads_1 : decode cX1_spreads 1 = .ok (.istore 4, 2) := dk_54 4 (dk_at dksX1_spreads_0 1 rfl rfl)
theorem dX1_spreads_3 : decode cX1_spreads 3 = .ok (.iconst 0, 1) := dk_3 (dk_at dksX1_spreads_0 3 rfl rfl)
theorem dX1_spreads_4 : decode cX1_spreads 4 = .ok (.istore 5, 2) := dk_54 5 (dk_at dksX1_spreads_0 4 rfl rfl)
theorem dX1_spreads_6 : decode cX1_spreads 6 = .ok (.iload 5, 2) := dk_21 5 (dk_at dksX1_spreads_0 6 rfl rfl)
theorem dX1_spreads_8 : decode cX1_spreads 8 = .ok (.aload_n 0, 1) := dk_42 (dk_at dksX1_spreads_0 8 rfl rfl)
theorem dX1_spreads_9 : decode cX1_spreads 9 = .ok (.invokevirtual 179, 3) := dk_182 0 179 (dk_at dksX1_spreads_0 9 rfl rfl)
theorem dX1_spreads_12 : decode cX1_spreads 12 = .ok (.if_icmp .ge 109, 3) := dk_162 0 109 (dk_at dksX1_spreads_0 12 rfl rfl)
theorem dX1_spreads_15 : decode cX1_spreads 15 = .ok (.iconst 0, 1) := dk_3 (dk_at dksX1_spreads_0 15 rfl rfl)
theorem dX1_spreads_16 : decode cX1_spreads 16 = .ok (.istore 6, 2) := dk_54 6 (dk_at dksX1_spreads_0 16 rfl rfl)
theorem dX1_spreads_18 : decode cX1_spreads 18 = .ok (.iload 6, 2) := dk_21 6 (dk_at dksX1_spreads_0 18 rfl rfl)
theorem dX1_spreads_20 : decode cX1_spreads 20 = .ok (.aload_n 0, 1) := dk_42 (dk_at dksX1_spreads_0 20 rfl rfl)
theorem dX1_spreads_21 : decode cX1_spreads 21 = .ok (.invokevirtual 179, 3) := dk_182 0 179 (dk_at dksX1_spreads_0 21 rfl rfl)
theorem dX1_spreads_24 : decode cX1_spreads 24 = .ok (.if_icmp .ge 91, 3) := dk_162 0 91 (dk_at dksX1_spreads_1 0 rfl rfl)
theorem dX1_spreads_27 : decode cX1_spreads 27 = .ok (.iconst 0, 1) := dk_3 (dk_at dksX1_spreads_1 3 rfl rfl)
theorem dX1_spreads_28 : decode cX1_spreads 28 = .ok (.istore 7, 2) := dk_54 7 (dk_at dksX1_spreads_1 4 rfl rfl)
theorem dX1_spreads_30 : decode cX1_spreads 30 = .ok (.iload 7, 2) := dk_21 7 (dk_at dksX1_spreads_1 6 rfl rfl)
theorem dX1_spreads_32 : decode cX1_spreads 32 = .ok (.aload_n 0, 1) := dk_42 (dk_at dksX1_spreads_1 8 rfl rfl)
theorem dX1_spreads_33 : decode cX1_spreads 33 = .ok (.invokevirtual 179, 3) := dk_182 0 179 (dk_at dksX1_spreads_1 9 rfl rfl)
theorem dX1_spreads_36 : decode cX1_spreads 36 = .ok (.if_icmp .ge 73, 3) := dk_162 0 73 (dk_at dksX1_spreads_1 12 rfl rfl)
theorem dX1_spreads_39 : decode cX1_spreads 39 = .ok (.aload_n 1, 1) := dk_43 (dk_at dksX1_spreads_1 15 rfl rfl)
theorem dX1_spreads_40 : decode cX1_spreads 40 = .ok (.bipush 24, 2) := dk_16 24 (dk_at dksX1_spreads_1 16 rfl rfl)
theorem dX1_spreads_42 : decode cX1_spreads 42 = .ok (.iload 6, 2) := dk_21 6 (dk_at dksX1_spreads_1 18 rfl rfl)
theorem dX1_spreads_44 : decode cX1_spreads 44 = .ok (.imul, 1) := dk_104 (dk_at dksX1_spreads_1 20 rfl rfl)
theorem dX1_spreads_45 : decode cX1_spreads 45 = .ok (.iload 5, 2) := dk_21 5 (dk_at dksX1_spreads_1 21 rfl rfl)
theorem dX1_spreads_47 : decode cX1_spreads 47 = .ok (.iadd, 1) := dk_96 (dk_at dksX1_spreads_1 23 rfl rfl)
theorem dX1_spreads_48 : decode cX1_spreads 48 = .ok (.laload, 1) := dk_47 (dk_at dksX1_spreads_2 0 rfl rfl)
theorem dX1_spreads_49 : decode cX1_spreads 49 = .ok (.aload_n 1, 1) := dk_43 (dk_at dksX1_spreads_2 1 rfl rfl)
theorem dX1_spreads_50 : decode cX1_spreads 50 = .ok (.bipush 24, 2) := dk_16 24 (dk_at dksX1_spreads_2 2 rfl rfl)
theorem dX1_spreads_52 : decode cX1_spreads 52 = .ok (.iload 5, 2) := dk_21 5 (dk_at dksX1_spreads_2 4 rfl rfl)
theorem dX1_spreads_54 : decode cX1_spreads 54 = .ok (.imul, 1) := dk_104 (dk_at dksX1_spreads_2 6 rfl rfl)
theorem dX1_spreads_55 : decode cX1_spreads 55 = .ok (.iload 7, 2) := dk_21 7 (dk_at dksX1_spreads_2 7 rfl rfl)
theorem dX1_spreads_57 : decode cX1_spreads 57 = .ok (.iadd, 1) := dk_96 (dk_at dksX1_spreads_2 9 rfl rfl)
theorem dX1_spreads_58 : decode cX1_spreads 58 = .ok (.laload, 1) := dk_47 (dk_at dksX1_spreads_2 10 rfl rfl)
theorem dX1_spreads_59 : decode cX1_spreads 59 = .ok (.ladd, 1) := dk_97 (dk_at dksX1_spreads_2 11 rfl rfl)
theorem dX1_spreads_60 : decode cX1_spreads 60 = .ok (.lstore 8, 2) := dk_55 8 (dk_at dksX1_spreads_2 12 rfl rfl)
theorem dX1_spreads_62 : decode cX1_spreads 62 = .ok (.lload 8, 2) := dk_22 8 (dk_at dksX1_spreads_2 14 rfl rfl)
theorem dX1_spreads_64 : decode cX1_spreads 64 = .ok (.aload_n 1, 1) := dk_43 (dk_at dksX1_spreads_2 16 rfl rfl)
theorem dX1_spreads_65 : decode cX1_spreads 65 = .ok (.bipush 24, 2) := dk_16 24 (dk_at dksX1_spreads_2 17 rfl rfl)
theorem dX1_spreads_67 : decode cX1_spreads 67 = .ok (.iload 6, 2) := dk_21 6 (dk_at dksX1_spreads_2 19 rfl rfl)
theorem dX1_spreads_69 : decode cX1_spreads 69 = .ok (.imul, 1) := dk_104 (dk_at dksX1_spreads_2 21 rfl rfl)
theorem dX1_spreads_70 : decode cX1_spreads 70 = .ok (.iload 7, 2) := dk_21 7 (dk_at dksX1_spreads_2 22 rfl rfl)
theorem dX1_spreads_72 : decode cX1_spreads 72 = .ok (.iadd, 1) := dk_96 (dk_at dksX1_spreads_3 0 rfl rfl)
theorem dX1_spreads_73 : decode cX1_spreads 73 = .ok (.laload, 1) := dk_47 (dk_at dksX1_spreads_3 1 rfl rfl)
theorem dX1_spreads_74 : decode cX1_spreads 74 = .ok (.lcmp, 1) := dk_148 (dk_at dksX1_spreads_3 2 rfl rfl)
theorem dX1_spreads_75 : decode cX1_spreads 75 = .ok (.ifCond .ge 28, 3) := dk_156 0 28 (dk_at dksX1_spreads_3 3 rfl rfl)
theorem dX1_spreads_78 : decode cX1_spreads 78 = .ok (.lload 8, 2) := dk_22 8 (dk_at dksX1_spreads_3 6 rfl rfl)
theorem dX1_spreads_80 : decode cX1_spreads 80 = .ok (.lload_n 2, 1) := dk_32 (dk_at dksX1_spreads_3 8 rfl rfl)
theorem dX1_spreads_81 : decode cX1_spreads 81 = .ok (.lcmp, 1) := dk_148 (dk_at dksX1_spreads_3 9 rfl rfl)
theorem dX1_spreads_82 : decode cX1_spreads 82 = .ok (.ifCond .lt 6, 3) := dk_155 0 6 (dk_at dksX1_spreads_3 10 rfl rfl)
theorem dX1_spreads_85 : decode cX1_spreads 85 = .ok (.goto 18, 3) := dk_167 0 18 (dk_at dksX1_spreads_3 13 rfl rfl)
theorem dX1_spreads_88 : decode cX1_spreads 88 = .ok (.aload_n 1, 1) := dk_43 (dk_at dksX1_spreads_3 16 rfl rfl)
theorem dX1_spreads_89 : decode cX1_spreads 89 = .ok (.bipush 24, 2) := dk_16 24 (dk_at dksX1_spreads_3 17 rfl rfl)
theorem dX1_spreads_91 : decode cX1_spreads 91 = .ok (.iload 6, 2) := dk_21 6 (dk_at dksX1_spreads_3 19 rfl rfl)
theorem dX1_spreads_93 : decode cX1_spreads 93 = .ok (.imul, 1) := dk_104 (dk_at dksX1_spreads_3 21 rfl rfl)
theorem dX1_spreads_94 : decode cX1_spreads 94 = .ok (.iload 7, 2) := dk_21 7 (dk_at dksX1_spreads_3 22 rfl rfl)
theorem dX1_spreads_96 : decode cX1_spreads 96 = .ok (.iadd, 1) := dk_96 (dk_at dksX1_spreads_4 0 rfl rfl)
theorem dX1_spreads_97 : decode cX1_spreads 97 = .ok (.lload 8, 2) := dk_22 8 (dk_at dksX1_spreads_4 1 rfl rfl)
theorem dX1_spreads_99 : decode cX1_spreads 99 = .ok (.lastore, 1) := dk_80 (dk_at dksX1_spreads_4 3 rfl rfl)
theorem dX1_spreads_100 : decode cX1_spreads 100 = .ok (.iconst 1, 1) := dk_4 (dk_at dksX1_spreads_4 4 rfl rfl)
theorem dX1_spreads_101 : decode cX1_spreads 101 = .ok (.istore 4, 2) := dk_54 4 (dk_at dksX1_spreads_4 5 rfl rfl)
theorem dX1_spreads_103 : decode cX1_spreads 103 = .ok (.iinc 7 1, 3) := dk_132 7 1 (dk_at dksX1_spreads_4 7 rfl rfl)
theorem dX1_spreads_106 : decode cX1_spreads 106 = .ok (.goto (-76), 3) := dk_167 255 180 (dk_at dksX1_spreads_4 10 rfl rfl)
theorem dX1_spreads_109 : decode cX1_spreads 109 = .ok (.iinc 6 1, 3) := dk_132 6 1 (dk_at dksX1_spreads_4 13 rfl rfl)
theorem dX1_spreads_112 : decode cX1_spreads 112 = .ok (.goto (-94), 3) := dk_167 255 162 (dk_at dksX1_spreads_4 16 rfl rfl)
theorem dX1_spreads_115 : decode cX1_spreads 115 = .ok (.iinc 5 1, 3) := dk_132 5 1 (dk_at dksX1_spreads_4 19 rfl rfl)
theorem dX1_spreads_118 : decode cX1_spreads 118 = .ok (.goto (-112), 3) := dk_167 255 144 (dk_at dksX1_spreads_5 0 rfl rfl)
theorem dX1_spreads_121 : decode cX1_spreads 121 = .ok (.iload 4, 2) := dk_21 4 (dk_at dksX1_spreads_5 3 rfl rfl)
theorem dX1_spreads_123 : decode cX1_spreads 123 = .ok (.ireturn, 1) := dk_172 (dk_at dksX1_spreads_5 5 rfl rfl)
abbrev cX1_way : ByteArray := prog_1_method_53_code
def yX1_way : MethodName := ⟨RX1, "way", "(III)I"⟩
def dkwX1_way_9 : List UInt8 := [167, 255, 223, 42, 21, 6, 182, 0, 176, 172]
abbrev dktX1_way_9 : List UInt8 := dkwX1_way_9 ++ []
def dkwX1_way_8 : List UInt8 := [160, 0, 10, 42, 16, 254, 182, 0, 176, 172, 42, 21, 6, 28, 21, 4, 182, 1, 85, 54, 6, 132, 7, 1]
abbrev dktX1_way_8 : List UInt8 := dkwX1_way_8 ++ dktX1_way_9
def dkwX1_way_7 : List UInt8 := [182, 1, 72, 54, 5, 167, 255, 238, 27, 54, 6, 3, 54, 7, 21, 7, 29, 162, 0, 33, 21, 6, 28]
abbrev dktX1_way_7 : List UInt8 := dkwX1_way_7 ++ dktX1_way_8
def dkwX1_way_6 : List UInt8 := [132, 5, 1, 167, 255, 192, 4, 54, 5, 21, 5, 153, 0, 19, 42, 42, 180, 0, 84, 20, 1, 83]
abbrev dktX1_way_6 : List UInt8 := dkwX1_way_6 ++ dktX1_way_7
def dkwX1_way_5 : List UInt8 := [160, 0, 7, 9, 167, 0, 13, 42, 21, 5, 21, 6, 21, 4, 182, 1, 79, 80, 132, 6, 1, 167, 255, 210]
abbrev dktX1_way_5 : List UInt8 := dkwX1_way_5 ++ dktX1_way_6
def dkwX1_way_4 : List UInt8 := [182, 0, 179, 162, 0, 43, 42, 180, 0, 84, 16, 24, 21, 5, 104, 21, 6, 96, 21, 5, 21, 6]
abbrev dktX1_way_4 : List UInt8 := dkwX1_way_4 ++ dktX1_way_5
def dkwX1_way_3 : List UInt8 := [167, 0, 4, 3, 54, 4, 3, 54, 5, 21, 5, 42, 182, 0, 179, 162, 0, 61, 3, 54, 6, 21, 6, 42]
abbrev dktX1_way_3 : List UInt8 := dkwX1_way_3 ++ dktX1_way_4
def dkwX1_way_2 : List UInt8 := [182, 1, 76, 42, 180, 0, 77, 16, 24, 27, 104, 28, 96, 47, 20, 1, 56, 148, 154, 0, 7, 4]
abbrev dktX1_way_2 : List UInt8 := dkwX1_way_2 ++ dktX1_way_3
def dkwX1_way_1 : List UInt8 := [182, 0, 98, 172, 42, 180, 0, 36, 27, 28, 182, 0, 234, 154, 0, 9, 42, 8, 182, 0, 98, 172, 42]
abbrev dktX1_way_1 : List UInt8 := dkwX1_way_1 ++ dktX1_way_2
def dkwX1_way_0 : List UInt8 := [42, 5, 188, 10, 89, 3, 27, 79, 89, 4, 28, 79, 182, 0, 230, 153, 0, 7, 29, 156, 0, 9, 42, 4]
abbrev dktX1_way_0 : List UInt8 := dkwX1_way_0 ++ dktX1_way_1
theorem dksX1_way_0 : cX1_way.data.toList.drop 0 = dktX1_way_0 := by decide +kernel
theorem dksX1_way_1 : cX1_way.data.toList.drop 24 = dktX1_way_1 := dk_seg dksX1_way_0 24 rfl rfl
theorem dksX1_way_2 : cX1_way.data.toList.drop 47 = dktX1_way_2 := dk_seg dksX1_way_1 23 rfl rfl
theorem dksX1_way_3 : cX1_way.data.toList.drop 69 = dktX1_way_3 := dk_seg dksX1_way_2 22 rfl rfl
theorem dksX1_way_4 : cX1_way.data.toList.drop 93 = dktX1_way_4 := dk_seg dksX1_way_3 24 rfl rfl
theorem dksX1_way_5 : cX1_way.data.toList.drop 115 = dktX1_way_5 := dk_seg dksX1_way_4 22 rfl rfl
theorem dksX1_way_6 : cX1_way.data.toList.drop 139 = dktX1_way_6 := dk_seg dksX1_way_5 24 rfl rfl
theorem dksX1_way_7 : cX1_way.data.toList.drop 161 = dktX1_way_7 := dk_seg dksX1_way_6 22 rfl rfl
theorem dksX1_way_8 : cX1_way.data.toList.drop 184 = dktX1_way_8 := dk_seg dksX1_way_7 23 rfl rfl
theorem dksX1_way_9 : cX1_way.data.toList.drop 208 = dktX1_way_9 := dk_seg dksX1_way_8 24 rfl rfl
theorem dX1_way_0 : decode cX1_way 0 = .ok (.aload_n 0, 1) := dk_42 (dk_at dksX1_way_0 0 rfl rfl)
theorem dX1_way_1 : decode cX1_way 1 = .ok (.iconst 2, 1) := dk_5 (dk_at dksX1_way_0 1 rfl rfl)
theorem dX1_way_2 : decode cX1_way 2 = .ok (.newarray .int, 2) := dk_188_10 (dk_at dksX1_way_0 2 rfl rfl)
theorem dX1_way_4 : decode cX1_way 4 = .ok (.dup, 1) := dk_89 (dk_at dksX1_way_0 4 rfl rfl)
theorem dX1_way_5 : decode cX1_way 5 = .ok (.iconst 0, 1) := dk_3 (dk_at dksX1_way_0 5 rfl rfl)
theorem dX1_way_6 : decode cX1_way 6 = .ok (.iload_n 1, 1) := dk_27 (dk_at dksX1_way_0 6 rfl rfl)
theorem dX1_way_7 : decode cX1_way 7 = .ok (.iastore, 1) := dk_79 (dk_at dksX1_way_0 7 rfl rfl)
theorem dX1_way_8 : decode cX1_way 8 = .ok (.dup, 1) := dk_89 (dk_at dksX1_way_0 8 rfl rfl)
theorem dX1_way_9 : decode cX1_way 9 = .ok (.iconst 1, 1) := dk_4 (dk_at dksX1_way_0 9 rfl rfl)
theorem dX1_way_10 : decode cX1_way 10 = .ok (.iload_n 2, 1) := dk_28 (dk_at dksX1_way_0 10 rfl rfl)
theorem dX1_way_11 : decode cX1_way 11 = .ok (.iastore, 1) := dk_79 (dk_at dksX1_way_0 11 rfl rfl)
theorem dX1_way_12 : decode cX1_way 12 = .ok (.invokevirtual 230, 3) := dk_182 0 230 (dk_at dksX1_way_0 12 rfl rfl)
theorem dX1_way_15 : decode cX1_way 15 = .ok (.ifCond .eq 7, 3) := dk_153 0 7 (dk_at dksX1_way_0 15 rfl rfl)
theorem dX1_way_18 : decode cX1_way 18 = .ok (.iload_n 3, 1) := dk_29 (dk_at dksX1_way_0 18 rfl rfl)
theorem dX1_way_19 : decode cX1_way 19 = .ok (.ifCond .ge 9, 3) := dk_156 0 9 (dk_at dksX1_way_0 19 rfl rfl)
theorem dX1_way_22 : decode cX1_way 22 = .ok (.aload_n 0, 1) := dk_42 (dk_at dksX1_way_0 22 rfl rfl)
theorem dX1_way_23 : decode cX1_way 23 = .ok (.iconst 1, 1) := dk_4 (dk_at dksX1_way_0 23 rfl rfl)
theorem dX1_way_24 : decode cX1_way 24 = .ok (.invokevirtual 98, 3) := dk_182 0 98 (dk_at dksX1_way_1 0 rfl rfl)
theorem dX1_way_27 : decode cX1_way 27 = .ok (.ireturn, 1) := dk_172 (dk_at dksX1_way_1 3 rfl rfl)
theorem dX1_way_28 : decode cX1_way 28 = .ok (.aload_n 0, 1) := dk_42 (dk_at dksX1_way_1 4 rfl rfl)
theorem dX1_way_29 : decode cX1_way 29 = .ok (.getfield 36, 3) := dk_180 0 36 (dk_at dksX1_way_1 5 rfl rfl)
theorem dX1_way_32 : decode cX1_way 32 = .ok (.iload_n 1, 1) := dk_27 (dk_at dksX1_way_1 8 rfl rfl)
theorem dX1_way_33 : decode cX1_way 33 = .ok (.iload_n 2, 1) := dk_28 (dk_at dksX1_way_1 9 rfl rfl)
theorem dX1_way_34 : decode cX1_way 34 = .ok (.invokevirtual 234, 3) := dk_182 0 234 (dk_at dksX1_way_1 10 rfl rfl)
theorem dX1_way_37 : decode cX1_way 37 = .ok (.ifCond .ne 9, 3) := dk_154 0 9 (dk_at dksX1_way_1 13 rfl rfl)
theorem dX1_way_40 : decode cX1_way 40 = .ok (.aload_n 0, 1) := dk_42 (dk_at dksX1_way_1 16 rfl rfl)
theorem dX1_way_41 : decode cX1_way 41 = .ok (.iconst 5, 1) := dk_8 (dk_at dksX1_way_1 17 rfl rfl)
theorem dX1_way_42 : decode cX1_way 42 = .ok (.invokevirtual 98, 3) := dk_182 0 98 (dk_at dksX1_way_1 18 rfl rfl)
theorem dX1_way_45 : decode cX1_way 45 = .ok (.ireturn, 1) := dk_172 (dk_at dksX1_way_1 21 rfl rfl)
theorem dX1_way_46 : decode cX1_way 46 = .ok (.aload_n 0, 1) := dk_42 (dk_at dksX1_way_1 22 rfl rfl)
theorem dX1_way_47 : decode cX1_way 47 = .ok (.invokevirtual 332, 3) := dk_182 1 76 (dk_at dksX1_way_2 0 rfl rfl)
theorem dX1_way_50 : decode cX1_way 50 = .ok (.aload_n 0, 1) := dk_42 (dk_at dksX1_way_2 3 rfl rfl)
theorem dX1_way_51 : decode cX1_way 51 = .ok (.getfield 77, 3) := dk_180 0 77 (dk_at dksX1_way_2 4 rfl rfl)
theorem dX1_way_54 : decode cX1_way 54 = .ok (.bipush 24, 2) := dk_16 24 (dk_at dksX1_way_2 7 rfl rfl)
theorem dX1_way_56 : decode cX1_way 56 = .ok (.iload_n 1, 1) := dk_27 (dk_at dksX1_way_2 9 rfl rfl)
theorem dX1_way_57 : decode cX1_way 57 = .ok (.imul, 1) := dk_104 (dk_at dksX1_way_2 10 rfl rfl)
theorem dX1_way_58 : decode cX1_way 58 = .ok (.iload_n 2, 1) := dk_28 (dk_at dksX1_way_2 11 rfl rfl)
theorem dX1_way_59 : decode cX1_way 59 = .ok (.iadd, 1) := dk_96 (dk_at dksX1_way_2 12 rfl rfl)
theorem dX1_way_60 : decode cX1_way 60 = .ok (.laload, 1) := dk_47 (dk_at dksX1_way_2 13 rfl rfl)
theorem dX1_way_61 : decode cX1_way 61 = .ok (.ldc2_w 312, 3) := dk_20 1 56 (dk_at dksX1_way_2 14 rfl rfl)
theorem dX1_way_64 : decode cX1_way 64 = .ok (.lcmp, 1) := dk_148 (dk_at dksX1_way_2 17 rfl rfl)
theorem dX1_way_65 : decode cX1_way 65 = .ok (.ifCond .ne 7, 3) := dk_154 0 7 (dk_at dksX1_way_2 18 rfl rfl)
theorem dX1_way_68 : decode cX1_way 68 = .ok (.iconst 1, 1) := dk_4 (dk_at dksX1_way_2 21 rfl rfl)
theorem dX1_way_69 : decode cX1_way 69 = .ok (.goto 4, 3) := dk_167 0 4 (dk_at dksX1_way_3 0 rfl rfl)
theorem dX1_way_72 : decode cX1_way 72 = .ok (.iconst 0, 1) := dk_3 (dk_at dksX1_way_3 3 rfl rfl)
theorem dX1_way_73 : decode cX1_way 73 = .ok (.istore 4, 2) := dk_54 4 (dk_at dksX1_way_3 4 rfl rfl)
theorem dX1_way_75 : decode cX1_way 75 = .ok (.iconst 0, 1) := dk_3 (dk_at dksX1_way_3 6 rfl rfl)
theorem dX1_way_76 : decode cX1_way 76 = .ok (.istore 5, 2) := dk_54 5 (dk_at dksX1_way_3 7 rfl rfl)
theorem dX1_way_78 : decode cX1_way 78 = .ok (.iload 5, 2) := dk_21 5 (dk_at dksX1_way_3 9 rfl rfl)
theorem dX1_way_80 : decode cX1_way 80 = .ok (.aload_n 0, 1) := dk_42 (dk_at dksX1_way_3 11 rfl rfl)
theorem dX1_way_81 : decode cX1_way 81 = .ok (.invokevirtual 179, 3) := dk_182 0 179 (dk_at dksX1_way_3 12 rfl rfl)
theorem dX1_way_84 : decode cX1_way 84 = .ok (.if_icmp .ge 61, 3) := dk_162 0 61 (dk_at dksX1_way_3 15 rfl rfl)
theorem dX1_way_87 : decode cX1_way 87 = .ok (.iconst 0, 1) := dk_3 (dk_at dksX1_way_3 18 rfl rfl)
theorem dX1_way_88 : decode cX1_way 88 = .ok (.istore 6, 2) := dk_54 6 (dk_at dksX1_way_3 19 rfl rfl)
theorem dX1_way_90 : decode cX1_way 90 = .ok (.iload 6, 2) := dk_21 6 (dk_at dksX1_way_3 21 rfl rfl)
theorem dX1_way_92 : decode cX1_way 92 = .ok (.aload_n 0, 1) := dk_42 (dk_at dksX1_way_3 23 rfl rfl)
theorem dX1_way_93 : decode cX1_way 93 = .ok (.invokevirtual 179, 3) := dk_182 0 179 (dk_at dksX1_way_4 0 rfl rfl)
theorem dX1_way_96 : decode cX1_way 96 = .ok (.if_icmp .ge 43, 3) := dk_162 0 43 (dk_at dksX1_way_4 3 rfl rfl)
theorem dX1_way_99 : decode cX1_way 99 = .ok (.aload_n 0, 1) := dk_42 (dk_at dksX1_way_4 6 rfl rfl)
theorem dX1_way_100 : decode cX1_way 100 = .ok (.getfield 84, 3) := dk_180 0 84 (dk_at dksX1_way_4 7 rfl rfl)
theorem dX1_way_103 : decode cX1_way 103 = .ok (.bipush 24, 2) := dk_16 24 (dk_at dksX1_way_4 10 rfl rfl)
theorem dX1_way_105 : decode cX1_way 105 = .ok (.iload 5, 2) := dk_21 5 (dk_at dksX1_way_4 12 rfl rfl)
theorem dX1_way_107 : decode cX1_way 107 = .ok (.imul, 1) := dk_104 (dk_at dksX1_way_4 14 rfl rfl)
theorem dX1_way_108 : decode cX1_way 108 = .ok (.iload 6, 2) := dk_21 6 (dk_at dksX1_way_4 15 rfl rfl)
theorem dX1_way_110 : decode cX1_way 110 = .ok (.iadd, 1) := dk_96 (dk_at dksX1_way_4 17 rfl rfl)
theorem dX1_way_111 : decode cX1_way 111 = .ok (.iload 5, 2) := dk_21 5 (dk_at dksX1_way_4 18 rfl rfl)
theorem dX1_way_113 : decode cX1_way 113 = .ok (.iload 6, 2) := dk_21 6 (dk_at dksX1_way_4 20 rfl rfl)
theorem dX1_way_115 : decode cX1_way 115 = .ok (.if_icmp .ne 7, 3) := dk_160 0 7 (dk_at dksX1_way_5 0 rfl rfl)
theorem dX1_way_118 : decode cX1_way 118 = .ok (.lconst 0, 1) := dk_9 (dk_at dksX1_way_5 3 rfl rfl)
theorem dX1_way_119 : decode cX1_way 119 = .ok (.goto 13, 3) := dk_167 0 13 (dk_at dksX1_way_5 4 rfl rfl)
theorem dX1_way_122 : decode cX1_way 122 = .ok (.aload_n 0, 1) := dk_42 (dk_at dksX1_way_5 7 rfl rfl)
theorem dX1_way_123 : decode cX1_way 123 = .ok (.iload 5, 2) := dk_21 5 (dk_at dksX1_way_5 8 rfl rfl)
theorem dX1_way_125 : decode cX1_way 125 = .ok (.iload 6, 2) := dk_21 6 (dk_at dksX1_way_5 10 rfl rfl)
theorem dX1_way_127 : decode cX1_way 127 = .ok (.iload 4, 2) := dk_21 4 (dk_at dksX1_way_5 12 rfl rfl)
theorem dX1_way_129 : decode cX1_way 129 = .ok (.invokevirtual 335, 3) := dk_182 1 79 (dk_at dksX1_way_5 14 rfl rfl)
theorem dX1_way_132 : decode cX1_way 132 = .ok (.lastore, 1) := dk_80 (dk_at dksX1_way_5 17 rfl rfl)
theorem dX1_way_133 : decode cX1_way 133 = .ok (.iinc 6 1, 3) := dk_132 6 1 (dk_at dksX1_way_5 18 rfl rfl)
theorem dX1_way_136 : decode cX1_way 136 = .ok (.goto (-46), 3) := dk_167 255 210 (dk_at dksX1_way_5 21 rfl rfl)
theorem dX1_way_139 : decode cX1_way 139 = .ok (.iinc 5 1, 3) := dk_132 5 1 (dk_at dksX1_way_6 0 rfl rfl)
theorem dX1_way_142 : decode cX1_way 142 = .ok (.goto (-64), 3) := dk_167 255 192 (dk_at dksX1_way_6 3 rfl rfl)
theorem dX1_way_145 : decode cX1_way 145 = .ok (.iconst 1, 1) := dk_4 (dk_at dksX1_way_6 6 rfl rfl)
theorem dX1_way_146 : decode cX1_way 146 = .ok (.istore 5, 2) := dk_54 5 (dk_at dksX1_way_6 7 rfl rfl)
theorem dX1_way_148 : decode cX1_way 148 = .ok (.iload 5, 2) := dk_21 5 (dk_at dksX1_way_6 9 rfl rfl)
theorem dX1_way_150 : decode cX1_way 150 = .ok (.ifCond .eq 19, 3) := dk_153 0 19 (dk_at dksX1_way_6 11 rfl rfl)
theorem dX1_way_153 : decode cX1_way 153 = .ok (.aload_n 0, 1) := dk_42 (dk_at dksX1_way_6 14 rfl rfl)
theorem dX1_way_154 : decode cX1_way 154 = .ok (.aload_n 0, 1) := dk_42 (dk_at dksX1_way_6 15 rfl rfl)
theorem dX1_way_155 : decode cX1_way 155 = .ok (.getfield 84, 3) := dk_180 0 84 (dk_at dksX1_way_6 16 rfl rfl)
theorem dX1_way_158 : decode cX1_way 158 = .ok (.ldc2_w 339, 3) := dk_20 1 83 (dk_at dksX1_way_6 19 rfl rfl)
theorem dX1_way_161 : decode cX1_way 161 = .ok (.invokevirtual 328, 3) := dk_182 1 72 (dk_at dksX1_way_7 0 rfl rfl)
theorem dX1_way_164 : decode cX1_way 164 = .ok (.istore 5, 2) := dk_54 5 (dk_at dksX1_way_7 3 rfl rfl)
theorem dX1_way_166 : decode cX1_way 166 = .ok (.goto (-18), 3) := dk_167 255 238 (dk_at dksX1_way_7 5 rfl rfl)
theorem dX1_way_169 : decode cX1_way 169 = .ok (.iload_n 1, 1) := dk_27 (dk_at dksX1_way_7 8 rfl rfl)
theorem dX1_way_170 : decode cX1_way 170 = .ok (.istore 6, 2) := dk_54 6 (dk_at dksX1_way_7 9 rfl rfl)
theorem dX1_way_172 : decode cX1_way 172 = .ok (.iconst 0, 1) := dk_3 (dk_at dksX1_way_7 11 rfl rfl)
theorem dX1_way_173 : decode cX1_way 173 = .ok (.istore 7, 2) := dk_54 7 (dk_at dksX1_way_7 12 rfl rfl)
theorem dX1_way_175 : decode cX1_way 175 = .ok (.iload 7, 2) := dk_21 7 (dk_at dksX1_way_7 14 rfl rfl)
theorem dX1_way_177 : decode cX1_way 177 = .ok (.iload_n 3, 1) := dk_29 (dk_at dksX1_way_7 16 rfl rfl)
theorem dX1_way_178 : decode cX1_way 178 = .ok (.if_icmp .ge 33, 3) := dk_162 0 33 (dk_at dksX1_way_7 17 rfl rfl)
theorem dX1_way_181 : decode cX1_way 181 = .ok (.iload 6, 2) := dk_21 6 (dk_at dksX1_way_7 20 rfl rfl)
theorem dX1_way_183 : decode cX1_way 183 = .ok (.iload_n 2, 1) := dk_28 (dk_at dksX1_way_7 22 rfl rfl)
theorem dX1_way_184 : decode cX1_way 184 = .ok (.if_icmp .ne 10, 3) := dk_160 0 10 (dk_at dksX1_way_8 0 rfl rfl)
theorem dX1_way_187 : decode cX1_way 187 = .ok (.aload_n 0, 1) := dk_42 (dk_at dksX1_way_8 3 rfl rfl)
theorem dX1_way_188 : decode cX1_way 188 = .ok (.bipush (-2), 2) := dk_16 254 (dk_at dksX1_way_8 4 rfl rfl)
theorem dX1_way_190 : decode cX1_way 190 = .ok (.invokevirtual 176, 3) := dk_182 0 176 (dk_at dksX1_way_8 6 rfl rfl)
theorem dX1_way_193 : decode cX1_way 193 = .ok (.ireturn, 1) := dk_172 (dk_at dksX1_way_8 9 rfl rfl)
theorem dX1_way_194 : decode cX1_way 194 = .ok (.aload_n 0, 1) := dk_42 (dk_at dksX1_way_8 10 rfl rfl)
theorem dX1_way_195 : decode cX1_way 195 = .ok (.iload 6, 2) := dk_21 6 (dk_at dksX1_way_8 11 rfl rfl)
theorem dX1_way_197 : decode cX1_way 197 = .ok (.iload_n 2, 1) := dk_28 (dk_at dksX1_way_8 13 rfl rfl)
theorem dX1_way_198 : decode cX1_way 198 = .ok (.iload 4, 2) := dk_21 4 (dk_at dksX1_way_8 14 rfl rfl)
theorem dX1_way_200 : decode cX1_way 200 = .ok (.invokevirtual 341, 3) := dk_182 1 85 (dk_at dksX1_way_8 16 rfl rfl)
theorem dX1_way_203 : decode cX1_way 203 = .ok (.istore 6, 2) := dk_54 6 (dk_at dksX1_way_8 19 rfl rfl)
theorem dX1_way_205 : decode cX1_way 205 = .ok (.iinc 7 1, 3) := dk_132 7 1 (dk_at dksX1_way_8 21 rfl rfl)
theorem dX1_way_208 : decode cX1_way 208 = .ok (.goto (-33), 3) := dk_167 255 223 (dk_at dksX1_way_9 0 rfl rfl)
theorem dX1_way_211 : decode cX1_way 211 = .ok (.aload_n 0, 1) := dk_42 (dk_at dksX1_way_9 3 rfl rfl)
theorem dX1_way_212 : decode cX1_way 212 = .ok (.iload 6, 2) := dk_21 6 (dk_at dksX1_way_9 4 rfl rfl)
theorem dX1_way_214 : decode cX1_way 214 = .ok (.invokevirtual 176, 3) := dk_182 0 176 (dk_at dksX1_way_9 6 rfl rfl)
theorem dX1_way_217 : decode cX1_way 217 = .ok (.ireturn, 1) := dk_172 (dk_at dksX1_way_9 9 rfl rfl)
abbrev cX1_weight : ByteArray := prog_1_method_54_code
def yX1_weight : MethodName := ⟨RX1, "weight", "(IIZ)J"⟩
def dkwX1_weight_3 : List UInt8 := [27, 104, 28, 96, 47, 105, 10, 97, 173]
abbrev dktX1_weight_3 : List UInt8 := dkwX1_weight_3 ++ []
def dkwX1_weight_2 : List UInt8 := [96, 47, 20, 1, 56, 148, 154, 0, 9, 20, 1, 83, 167, 0, 20, 20, 1, 88, 42, 180, 0, 81, 16, 24]
abbrev dktX1_weight_2 : List UInt8 := dkwX1_weight_2 ++ dktX1_weight_3
def dkwX1_weight_1 : List UInt8 := [154, 0, 7, 20, 1, 83, 173, 29, 153, 0, 7, 10, 167, 0, 44, 42, 180, 0, 81, 16, 24, 27, 104, 28]
abbrev dktX1_weight_1 : List UInt8 := dkwX1_weight_1 ++ dktX1_weight_2
def dkwX1_weight_0 : List UInt8 := [27, 28, 159, 0, 25, 42, 27, 28, 182, 1, 62, 154, 0, 20, 42, 42, 180, 0, 36, 27, 28, 182, 1, 52]
abbrev dktX1_weight_0 : List UInt8 := dkwX1_weight_0 ++ dktX1_weight_1
theorem dksX1_weight_0 : cX1_weight.data.toList.drop 0 = dktX1_weight_0 := by decide +kernel
theorem dksX1_weight_1 : cX1_weight.data.toList.drop 24 = dktX1_weight_1 := dk_seg dksX1_weight_0 24 rfl rfl
theorem dksX1_weight_2 : cX1_weight.data.toList.drop 48 = dktX1_weight_2 := dk_seg dksX1_weight_1 24 rfl rfl
theorem dksX1_weight_3 : cX1_weight.data.toList.drop 72 = dktX1_weight_3 := dk_seg dksX1_weight_2 24 rfl rfl
theorem dX1_weight_0 : decode cX1_weight 0 = .ok (.iload_n 1, 1) := dk_27 (dk_at dksX1_weight_0 0 rfl rfl)
theorem dX1_weight_1 : decode cX1_weight 1 = .ok (.iload_n 2, 1) := dk_28 (dk_at dksX1_weight_0 1 rfl rfl)
theorem dX1_weight_2 : decode cX1_weight 2 = .ok (.if_icmp .eq 25, 3) := dk_159 0 25 (dk_at dksX1_weight_0 2 rfl rfl)
theorem dX1_weight_5 : decode cX1_weight 5 = .ok (.aload_n 0, 1) := dk_42 (dk_at dksX1_weight_0 5 rfl rfl)
theorem dX1_weight_6 : decode cX1_weight 6 = .ok (.iload_n 1, 1) := dk_27 (dk_at dksX1_weight_0 6 rfl rfl)
theorem dX1_weight_7 : decode cX1_weight 7 = .ok (.iload_n 2, 1) := dk_28 (dk_at dksX1_weight_0 7 rfl rfl)
theorem dX1_weight_8 : decode cX1_weight 8 = .ok (.invokevirtual 318, 3) := dk_182 1 62 (dk_at dksX1_weight_0 8 rfl rfl)
theorem dX1_weight_11 : decode cX1_weight 11 = .ok (.ifCond .ne 20, 3) := dk_154 0 20 (dk_at dksX1_weight_0 11 rfl rfl)
theorem dX1_weight_14 : decode cX1_weight 14 = .ok (.aload_n 0, 1) := dk_42 (dk_at dksX1_weight_0 14 rfl rfl)
theorem dX1_weight_15 : decode cX1_weight 15 = .ok (.aload_n 0, 1) := dk_42 (dk_at dksX1_weight_0 15 rfl rfl)
theorem dX1_weight_16 : decode cX1_weight 16 = .ok (.getfield 36, 3) := dk_180 0 36 (dk_at dksX1_weight_0 16 rfl rfl)
theorem dX1_weight_19 : decode cX1_weight 19 = .ok (.iload_n 1, 1) := dk_27 (dk_at dksX1_weight_0 19 rfl rfl)
theorem dX1_weight_20 : decode cX1_weight 20 = .ok (.iload_n 2, 1) := dk_28 (dk_at dksX1_weight_0 20 rfl rfl)
theorem dX1_weight_21 : decode cX1_weight 21 = .ok (.invokevirtual 308, 3) := dk_182 1 52 (dk_at dksX1_weight_0 21 rfl rfl)
theorem dX1_weight_24 : decode cX1_weight 24 = .ok (.ifCond .ne 7, 3) := dk_154 0 7 (dk_at dksX1_weight_1 0 rfl rfl)
theorem dX1_weight_27 : decode cX1_weight 27 = .ok (.ldc2_w 339, 3) := dk_20 1 83 (dk_at dksX1_weight_1 3 rfl rfl)
theorem dX1_weight_30 : decode cX1_weight 30 = .ok (.lreturn, 1) := dk_173 (dk_at dksX1_weight_1 6 rfl rfl)
theorem dX1_weight_31 : decode cX1_weight 31 = .ok (.iload_n 3, 1) := dk_29 (dk_at dksX1_weight_1 7 rfl rfl)
theorem dX1_weight_32 : decode cX1_weight 32 = .ok (.ifCond .eq 7, 3) := dk_153 0 7 (dk_at dksX1_weight_1 8 rfl rfl)
theorem dX1_weight_35 : decode cX1_weight 35 = .ok (.lconst 1, 1) := dk_10 (dk_at dksX1_weight_1 11 rfl rfl)
theorem dX1_weight_36 : decode cX1_weight 36 = .ok (.goto 44, 3) := dk_167 0 44 (dk_at dksX1_weight_1 12 rfl rfl)
theorem dX1_weight_39 : decode cX1_weight 39 = .ok (.aload_n 0, 1) := dk_42 (dk_at dksX1_weight_1 15 rfl rfl)
theorem dX1_weight_40 : decode cX1_weight 40 = .ok (.getfield 81, 3) := dk_180 0 81 (dk_at dksX1_weight_1 16 rfl rfl)
theorem dX1_weight_43 : decode cX1_weight 43 = .ok (.bipush 24, 2) := dk_16 24 (dk_at dksX1_weight_1 19 rfl rfl)
theorem dX1_weight_45 : decode cX1_weight 45 = .ok (.iload_n 1, 1) := dk_27 (dk_at dksX1_weight_1 21 rfl rfl)
theorem dX1_weight_46 : decode cX1_weight 46 = .ok (.imul, 1) := dk_104 (dk_at dksX1_weight_1 22 rfl rfl)
theorem dX1_weight_47 : decode cX1_weight 47 = .ok (.iload_n 2, 1) := dk_28 (dk_at dksX1_weight_1 23 rfl rfl)
theorem dX1_weight_48 : decode cX1_weight 48 = .ok (.iadd, 1) := dk_96 (dk_at dksX1_weight_2 0 rfl rfl)
theorem dX1_weight_49 : decode cX1_weight 49 = .ok (.laload, 1) := dk_47 (dk_at dksX1_weight_2 1 rfl rfl)
theorem dX1_weight_50 : decode cX1_weight 50 = .ok (.ldc2_w 312, 3) := dk_20 1 56 (dk_at dksX1_weight_2 2 rfl rfl)
theorem dX1_weight_53 : decode cX1_weight 53 = .ok (.lcmp, 1) := dk_148 (dk_at dksX1_weight_2 5 rfl rfl)
theorem dX1_weight_54 : decode cX1_weight 54 = .ok (.ifCond .ne 9, 3) := dk_154 0 9 (dk_at dksX1_weight_2 6 rfl rfl)
theorem dX1_weight_57 : decode cX1_weight 57 = .ok (.ldc2_w 339, 3) := dk_20 1 83 (dk_at dksX1_weight_2 9 rfl rfl)
theorem dX1_weight_60 : decode cX1_weight 60 = .ok (.goto 20, 3) := dk_167 0 20 (dk_at dksX1_weight_2 12 rfl rfl)
theorem dX1_weight_63 : decode cX1_weight 63 = .ok (.ldc2_w 344, 3) := dk_20 1 88 (dk_at dksX1_weight_2 15 rfl rfl)
theorem dX1_weight_66 : decode cX1_weight 66 = .ok (.aload_n 0, 1) := dk_42 (dk_at dksX1_weight_2 18 rfl rfl)
theorem dX1_weight_67 : decode cX1_weight 67 = .ok (.getfield 81, 3) := dk_180 0 81 (dk_at dksX1_weight_2 19 rfl rfl)
theorem dX1_weight_70 : decode cX1_weight 70 = .ok (.bipush 24, 2) := dk_16 24 (dk_at dksX1_weight_2 22 rfl rfl)
theorem dX1_weight_72 : decode cX1_weight 72 = .ok (.iload_n 1, 1) := dk_27 (dk_at dksX1_weight_3 0 rfl rfl)
theorem dX1_weight_73 : decode cX1_weight 73 = .ok (.imul, 1) := dk_104 (dk_at dksX1_weight_3 1 rfl rfl)
theorem dX1_weight_74 : decode cX1_weight 74 = .ok (.iload_n 2, 1) := dk_28 (dk_at dksX1_weight_3 2 rfl rfl)
theorem dX1_weight_75 : decode cX1_weight 75 = .ok (.iadd, 1) := dk_96 (dk_at dksX1_weight_3 3 rfl rfl)
theorem dX1_weight_76 : decode cX1_weight 76 = .ok (.laload, 1) := dk_47 (dk_at dksX1_weight_3 4 rfl rfl)
theorem dX1_weight_77 : decode cX1_weight 77 = .ok (.lmul, 1) := dk_105 (dk_at dksX1_weight_3 5 rfl rfl)
theorem dX1_weight_78 : decode cX1_weight 78 = .ok (.lconst 1, 1) := dk_10 (dk_at dksX1_weight_3 6 rfl rfl)
theorem dX1_weight_79 : decode cX1_weight 79 = .ok (.ladd, 1) := dk_97 (dk_at dksX1_weight_3 7 rfl rfl)
theorem dX1_weight_80 : decode cX1_weight 80 = .ok (.lreturn, 1) := dk_173 (dk_at dksX1_weight_3 8 rfl rfl)
abbrev cX1_next : ByteArray := prog_1_method_55_code
def yX1_next : MethodName := ⟨RX1, "next", "(IIZ)I"⟩
def dkwX1_next_2 : List UInt8 := [28, 96, 47, 148, 153, 0, 9, 132, 4, 1, 167, 255, 202, 21, 4, 172]
abbrev dktX1_next_2 : List UInt8 := dkwX1_next_2 ++ []
def dkwX1_next_1 : List UInt8 := [182, 1, 79, 42, 180, 0, 84, 16, 24, 21, 4, 104, 28, 96, 47, 97, 42, 180, 0, 84, 16, 24, 27, 104]
abbrev dktX1_next_1 : List UInt8 := dkwX1_next_1 ++ dktX1_next_2
def dkwX1_next_0 : List UInt8 := [3, 54, 4, 42, 27, 21, 4, 29, 182, 1, 79, 20, 1, 83, 148, 153, 0, 39, 42, 27, 21, 4, 29]
abbrev dktX1_next_0 : List UInt8 := dkwX1_next_0 ++ dktX1_next_1
theorem dksX1_next_0 : cX1_next.data.toList.drop 0 = dktX1_next_0 := by decide +kernel
theorem dksX1_next_1 : cX1_next.data.toList.drop 23 = dktX1_next_1 := dk_seg dksX1_next_0 23 rfl rfl
theorem dksX1_next_2 : cX1_next.data.toList.drop 47 = dktX1_next_2 := dk_seg dksX1_next_1 24 rfl rfl
theorem dX1_next_0 : decode cX1_next 0 = .ok (.iconst 0, 1) := dk_3 (dk_at dksX1_next_0 0 rfl rfl)
theorem dX1_next_1 : decode cX1_next 1 = .ok (.istore 4, 2) := dk_54 4 (dk_at dksX1_next_0 1 rfl rfl)
theorem dX1_next_3 : decode cX1_next 3 = .ok (.aload_n 0, 1) := dk_42 (dk_at dksX1_next_0 3 rfl rfl)
theorem dX1_next_4 : decode cX1_next 4 = .ok (.iload_n 1, 1) := dk_27 (dk_at dksX1_next_0 4 rfl rfl)
theorem dX1_next_5 : decode cX1_next 5 = .ok (.iload 4, 2) := dk_21 4 (dk_at dksX1_next_0 5 rfl rfl)
theorem dX1_next_7 : decode cX1_next 7 = .ok (.iload_n 3, 1) := dk_29 (dk_at dksX1_next_0 7 rfl rfl)
theorem dX1_next_8 : decode cX1_next 8 = .ok (.invokevirtual 335, 3) := dk_182 1 79 (dk_at dksX1_next_0 8 rfl rfl)
theorem dX1_next_11 : decode cX1_next 11 = .ok (.ldc2_w 339, 3) := dk_20 1 83 (dk_at dksX1_next_0 11 rfl rfl)
theorem dX1_next_14 : decode cX1_next 14 = .ok (.lcmp, 1) := dk_148 (dk_at dksX1_next_0 14 rfl rfl)
theorem dX1_next_15 : decode cX1_next 15 = .ok (.ifCond .eq 39, 3) := dk_153 0 39 (dk_at dksX1_next_0 15 rfl rfl)
theorem dX1_next_18 : decode cX1_next 18 = .ok (.aload_n 0, 1) := dk_42 (dk_at dksX1_next_0 18 rfl rfl)
theorem dX1_next_19 : decode cX1_next 19 = .ok (.iload_n 1, 1) := dk_27 (dk_at dksX1_next_0 19 rfl rfl)
theorem dX1_next_20 : decode cX1_next 20 = .ok (.iload 4, 2) := dk_21 4 (dk_at dksX1_next_0 20 rfl rfl)
theorem dX1_next_22 : decode cX1_next 22 = .ok (.iload_n 3, 1) := dk_29 (dk_at dksX1_next_0 22 rfl rfl)
theorem dX1_next_23 : decode cX1_next 23 = .ok (.invokevirtual 335, 3) := dk_182 1 79 (dk_at dksX1_next_1 0 rfl rfl)
theorem dX1_next_26 : decode cX1_next 26 = .ok (.aload_n 0, 1) := dk_42 (dk_at dksX1_next_1 3 rfl rfl)
theorem dX1_next_27 : decode cX1_next 27 = .ok (.getfield 84, 3) := dk_180 0 84 (dk_at dksX1_next_1 4 rfl rfl)
theorem dX1_next_30 : decode cX1_next 30 = .ok (.bipush 24, 2) := dk_16 24 (dk_at dksX1_next_1 7 rfl rfl)
theorem dX1_next_32 : decode cX1_next 32 = .ok (.iload 4, 2) := dk_21 4 (dk_at dksX1_next_1 9 rfl rfl)
theorem dX1_next_34 : decode cX1_next 34 = .ok (.imul, 1) := dk_104 (dk_at dksX1_next_1 11 rfl rfl)
theorem dX1_next_35 : decode cX1_next 35 = .ok (.iload_n 2, 1) := dk_28 (dk_at dksX1_next_1 12 rfl rfl)
theorem dX1_next_36 : decode cX1_next 36 = .ok (.iadd, 1) := dk_96 (dk_at dksX1_next_1 13 rfl rfl)
theorem dX1_next_37 : decode cX1_next 37 = .ok (.laload, 1) := dk_47 (dk_at dksX1_next_1 14 rfl rfl)
theorem dX1_next_38 : decode cX1_next 38 = .ok (.ladd, 1) := dk_97 (dk_at dksX1_next_1 15 rfl rfl)
theorem dX1_next_39 : decode cX1_next 39 = .ok (.aload_n 0, 1) := dk_42 (dk_at dksX1_next_1 16 rfl rfl)
theorem dX1_next_40 : decode cX1_next 40 = .ok (.getfield 84, 3) := dk_180 0 84 (dk_at dksX1_next_1 17 rfl rfl)
theorem dX1_next_43 : decode cX1_next 43 = .ok (.bipush 24, 2) := dk_16 24 (dk_at dksX1_next_1 20 rfl rfl)
theorem dX1_next_45 : decode cX1_next 45 = .ok (.iload_n 1, 1) := dk_27 (dk_at dksX1_next_1 22 rfl rfl)
theorem dX1_next_46 : decode cX1_next 46 = .ok (.imul, 1) := dk_104 (dk_at dksX1_next_1 23 rfl rfl)
theorem dX1_next_47 : decode cX1_next 47 = .ok (.iload_n 2, 1) := dk_28 (dk_at dksX1_next_2 0 rfl rfl)
theorem dX1_next_48 : decode cX1_next 48 = .ok (.iadd, 1) := dk_96 (dk_at dksX1_next_2 1 rfl rfl)
theorem dX1_next_49 : decode cX1_next 49 = .ok (.laload, 1) := dk_47 (dk_at dksX1_next_2 2 rfl rfl)
theorem dX1_next_50 : decode cX1_next 50 = .ok (.lcmp, 1) := dk_148 (dk_at dksX1_next_2 3 rfl rfl)
theorem dX1_next_51 : decode cX1_next 51 = .ok (.ifCond .eq 9, 3) := dk_153 0 9 (dk_at dksX1_next_2 4 rfl rfl)
theorem dX1_next_54 : decode cX1_next 54 = .ok (.iinc 4 1, 3) := dk_132 4 1 (dk_at dksX1_next_2 7 rfl rfl)
theorem dX1_next_57 : decode cX1_next 57 = .ok (.goto (-54), 3) := dk_167 255 202 (dk_at dksX1_next_2 10 rfl rfl)
theorem dX1_next_60 : decode cX1_next 60 = .ok (.iload 4, 2) := dk_21 4 (dk_at dksX1_next_2 13 rfl rfl)
theorem dX1_next_62 : decode cX1_next 62 = .ok (.ireturn, 1) := dk_172 (dk_at dksX1_next_2 15 rfl rfl)
abbrev cX1_would : ByteArray := prog_1_method_57_code
def yX1_would : MethodName := ⟨RX1, "would", "(III)I"⟩
def dkwX1_would_3 : List UInt8 := [182, 0, 193, 25, 4, 182, 1, 94, 100, 182, 0, 176, 172]
abbrev dktX1_would_3 : List UInt8 := dkwX1_would_3 ++ []
def dkwX1_would_2 : List UInt8 := [182, 1, 94, 167, 0, 30, 29, 4, 160, 0, 12, 42, 25, 4, 182, 0, 199, 167, 0, 16, 42, 180, 0, 36]
abbrev dktX1_would_2 : List UInt8 := dkwX1_would_2 ++ dktX1_would_3
def dkwX1_would_1 : List UInt8 := [154, 0, 9, 42, 4, 182, 0, 98, 172, 42, 27, 28, 182, 1, 90, 58, 4, 42, 29, 154, 0, 11, 25, 4]
abbrev dktX1_would_1 : List UInt8 := dkwX1_would_1 ++ dktX1_would_2
def dkwX1_would_0 : List UInt8 := [42, 5, 188, 10, 89, 3, 27, 79, 89, 4, 28, 79, 182, 0, 230, 153, 0, 12, 29, 3, 5, 184, 0, 94]
abbrev dktX1_would_0 : List UInt8 := dkwX1_would_0 ++ dktX1_would_1
theorem dksX1_would_0 : cX1_would.data.toList.drop 0 = dktX1_would_0 := by decide +kernel
theorem dksX1_would_1 : cX1_would.data.toList.drop 24 = dktX1_would_1 := dk_seg dksX1_would_0 24 rfl rfl
theorem dksX1_would_2 : cX1_would.data.toList.drop 48 = dktX1_would_2 := dk_seg dksX1_would_1 24 rfl rfl
theorem dksX1_would_3 : cX1_would.data.toList.drop 72 = dktX1_would_3 := dk_seg dksX1_would_2 24 rfl rfl
theorem dX1_would_0 : decode cX1_would 0 = .ok (.aload_n 0, 1) := dk_42 (dk_at dksX1_would_0 0 rfl rfl)
theorem dX1_would_1 : decode cX1_would 1 = .ok (.iconst 2, 1) := dk_5 (dk_at dksX1_would_0 1 rfl rfl)
theorem dX1_would_2 : decode cX1_would 2 = .ok (.newarray .int, 2) := dk_188_10 (dk_at dksX1_would_0 2 rfl rfl)
theorem dX1_would_4 : decode cX1_would 4 = .ok (.dup, 1) := dk_89 (dk_at dksX1_would_0 4 rfl rfl)
theorem dX1_would_5 : decode cX1_would 5 = .ok (.iconst 0, 1) := dk_3 (dk_at dksX1_would_0 5 rfl rfl)
theorem dX1_would_6 : decode cX1_would 6 = .ok (.iload_n 1, 1) := dk_27 (dk_at dksX1_would_0 6 rfl rfl)
theorem dX1_would_7 : decode cX1_would 7 = .ok (.iastore, 1) := dk_79 (dk_at dksX1_would_0 7 rfl rfl)
theorem dX1_would_8 : decode cX1_would 8 = .ok (.dup, 1) := dk_89 (dk_at dksX1_would_0 8 rfl rfl)
theorem dX1_would_9 : decode cX1_would 9 = .ok (.iconst 1, 1) := dk_4 (dk_at dksX1_would_0 9 rfl rfl)
theorem dX1_would_10 : decode cX1_would 10 = .ok (.iload_n 2, 1) := dk_28 (dk_at dksX1_would_0 10 rfl rfl)
theorem dX1_would_11 : decode cX1_would 11 = .ok (.iastore, 1) := dk_79 (dk_at dksX1_would_0 11 rfl rfl)
theorem dX1_would_12 : decode cX1_would 12 = .ok (.invokevirtual 230, 3) := dk_182 0 230 (dk_at dksX1_would_0 12 rfl rfl)
theorem dX1_would_15 : decode cX1_would 15 = .ok (.ifCond .eq 12, 3) := dk_153 0 12 (dk_at dksX1_would_0 15 rfl rfl)
theorem dX1_would_18 : decode cX1_would 18 = .ok (.iload_n 3, 1) := dk_29 (dk_at dksX1_would_0 18 rfl rfl)
theorem dX1_would_19 : decode cX1_would 19 = .ok (.iconst 0, 1) := dk_3 (dk_at dksX1_would_0 19 rfl rfl)
theorem dX1_would_20 : decode cX1_would 20 = .ok (.iconst 2, 1) := dk_5 (dk_at dksX1_would_0 20 rfl rfl)
theorem dX1_would_21 : decode cX1_would 21 = .ok (.invokestatic 94, 3) := dk_184 0 94 (dk_at dksX1_would_0 21 rfl rfl)
theorem dX1_would_24 : decode cX1_would 24 = .ok (.ifCond .ne 9, 3) := dk_154 0 9 (dk_at dksX1_would_1 0 rfl rfl)
theorem dX1_would_27 : decode cX1_would 27 = .ok (.aload_n 0, 1) := dk_42 (dk_at dksX1_would_1 3 rfl rfl)
theorem dX1_would_28 : decode cX1_would 28 = .ok (.iconst 1, 1) := dk_4 (dk_at dksX1_would_1 4 rfl rfl)
theorem dX1_would_29 : decode cX1_would 29 = .ok (.invokevirtual 98, 3) := dk_182 0 98 (dk_at dksX1_would_1 5 rfl rfl)
theorem dX1_would_32 : decode cX1_would 32 = .ok (.ireturn, 1) := dk_172 (dk_at dksX1_would_1 8 rfl rfl)
theorem dX1_would_33 : decode cX1_would 33 = .ok (.aload_n 0, 1) := dk_42 (dk_at dksX1_would_1 9 rfl rfl)
theorem dX1_would_34 : decode cX1_would 34 = .ok (.iload_n 1, 1) := dk_27 (dk_at dksX1_would_1 10 rfl rfl)
theorem dX1_would_35 : decode cX1_would 35 = .ok (.iload_n 2, 1) := dk_28 (dk_at dksX1_would_1 11 rfl rfl)
theorem dX1_would_36 : decode cX1_would 36 = .ok (.invokevirtual 346, 3) := dk_182 1 90 (dk_at dksX1_would_1 12 rfl rfl)
theorem dX1_would_39 : decode cX1_would 39 = .ok (.astore 4, 2) := dk_58 4 (dk_at dksX1_would_1 15 rfl rfl)
theorem dX1_would_41 : decode cX1_would 41 = .ok (.aload_n 0, 1) := dk_42 (dk_at dksX1_would_1 17 rfl rfl)
theorem dX1_would_42 : decode cX1_would 42 = .ok (.iload_n 3, 1) := dk_29 (dk_at dksX1_would_1 18 rfl rfl)
theorem dX1_would_43 : decode cX1_would 43 = .ok (.ifCond .ne 11, 3) := dk_154 0 11 (dk_at dksX1_would_1 19 rfl rfl)
theorem dX1_would_46 : decode cX1_would 46 = .ok (.aload 4, 2) := dk_25 4 (dk_at dksX1_would_1 22 rfl rfl)
theorem dX1_would_48 : decode cX1_would 48 = .ok (.invokevirtual 350, 3) := dk_182 1 94 (dk_at dksX1_would_2 0 rfl rfl)
theorem dX1_would_51 : decode cX1_would 51 = .ok (.goto 30, 3) := dk_167 0 30 (dk_at dksX1_would_2 3 rfl rfl)
theorem dX1_would_54 : decode cX1_would 54 = .ok (.iload_n 3, 1) := dk_29 (dk_at dksX1_would_2 6 rfl rfl)
theorem dX1_would_55 : decode cX1_would 55 = .ok (.iconst 1, 1) := dk_4 (dk_at dksX1_would_2 7 rfl rfl)
theorem dX1_would_56 : decode cX1_would 56 = .ok (.if_icmp .ne 12, 3) := dk_160 0 12 (dk_at dksX1_would_2 8 rfl rfl)
theorem dX1_would_59 : decode cX1_would 59 = .ok (.aload_n 0, 1) := dk_42 (dk_at dksX1_would_2 11 rfl rfl)
theorem dX1_would_60 : decode cX1_would 60 = .ok (.aload 4, 2) := dk_25 4 (dk_at dksX1_would_2 12 rfl rfl)
theorem dX1_would_62 : decode cX1_would 62 = .ok (.invokevirtual 199, 3) := dk_182 0 199 (dk_at dksX1_would_2 14 rfl rfl)
theorem dX1_would_65 : decode cX1_would 65 = .ok (.goto 16, 3) := dk_167 0 16 (dk_at dksX1_would_2 17 rfl rfl)
theorem dX1_would_68 : decode cX1_would 68 = .ok (.aload_n 0, 1) := dk_42 (dk_at dksX1_would_2 20 rfl rfl)
theorem dX1_would_69 : decode cX1_would 69 = .ok (.getfield 36, 3) := dk_180 0 36 (dk_at dksX1_would_2 21 rfl rfl)
theorem dX1_would_72 : decode cX1_would 72 = .ok (.invokevirtual 193, 3) := dk_182 0 193 (dk_at dksX1_would_3 0 rfl rfl)
theorem dX1_would_75 : decode cX1_would 75 = .ok (.aload 4, 2) := dk_25 4 (dk_at dksX1_would_3 3 rfl rfl)
theorem dX1_would_77 : decode cX1_would 77 = .ok (.invokevirtual 350, 3) := dk_182 1 94 (dk_at dksX1_would_3 5 rfl rfl)
theorem dX1_would_80 : decode cX1_would 80 = .ok (.isub, 1) := dk_100 (dk_at dksX1_would_3 8 rfl rfl)
theorem dX1_would_81 : decode cX1_would 81 = .ok (.invokevirtual 176, 3) := dk_182 0 176 (dk_at dksX1_would_3 9 rfl rfl)
theorem dX1_would_84 : decode cX1_would 84 = .ok (.ireturn, 1) := dk_172 (dk_at dksX1_would_3 12 rfl rfl)
abbrev cX1_with : ByteArray := prog_1_method_56_code
def yX1_with : MethodName := ⟨RX1, "with", "(II)LReasonCloser$Closed;"⟩
def dkwX1_with_1 : List UInt8 := [180, 0, 47, 176]
abbrev dktX1_with_1 : List UInt8 := dkwX1_with_1 ++ []
def dkwX1_with_0 : List UInt8 := [42, 180, 0, 47, 42, 180, 0, 36, 182, 0, 244, 42, 180, 0, 47, 27, 28, 16, 12, 182, 0, 251, 42]
abbrev dktX1_with_0 : List UInt8 := dkwX1_with_0 ++ dktX1_with_1
theorem dksX1_with_0 : cX1_with.data.toList.drop 0 = dktX1_with_0 := by decide +kernel
theorem dksX1_with_1 : cX1_with.data.toList.drop 23 = dktX1_with_1 := dk_seg dksX1_with_0 23 rfl rfl
theorem dX1_with_0 : decode cX1_with 0 = .ok (.aload_n 0, 1) := dk_42 (dk_at dksX1_with_0 0 rfl rfl)
theorem dX1_with_1 : decode cX1_with 1 = .ok (.getfield 47, 3) := dk_180 0 47 (dk_at dksX1_with_0 1 rfl rfl)
theorem dX1_with_4 : decode cX1_with 4 = .ok (.aload_n 0, 1) := dk_42 (dk_at dksX1_with_0 4 rfl rfl)
theorem dX1_with_5 : decode cX1_with 5 = .ok (.getfield 36, 3) := dk_180 0 36 (dk_at dksX1_with_0 5 rfl rfl)
theorem dX1_with_8 : decode cX1_with 8 = .ok (.invokevirtual 244, 3) := dk_182 0 244 (dk_at dksX1_with_0 8 rfl rfl)
theorem dX1_with_11 : decode cX1_with 11 = .ok (.aload_n 0, 1) := dk_42 (dk_at dksX1_with_0 11 rfl rfl)
theorem dX1_with_12 : decode cX1_with 12 = .ok (.getfield 47, 3) := dk_180 0 47 (dk_at dksX1_with_0 12 rfl rfl)
theorem dX1_with_15 : decode cX1_with 15 = .ok (.iload_n 1, 1) := dk_27 (dk_at dksX1_with_0 15 rfl rfl)
theorem dX1_with_16 : decode cX1_with 16 = .ok (.iload_n 2, 1) := dk_28 (dk_at dksX1_with_0 16 rfl rfl)
theorem dX1_with_17 : decode cX1_with 17 = .ok (.bipush 12, 2) := dk_16 12 (dk_at dksX1_with_0 17 rfl rfl)
theorem dX1_with_19 : decode cX1_with 19 = .ok (.invokevirtual 251, 3) := dk_182 0 251 (dk_at dksX1_with_0 19 rfl rfl)
theorem dX1_with_22 : decode cX1_with 22 = .ok (.aload_n 0, 1) := dk_42 (dk_at dksX1_with_0 22 rfl rfl)
theorem dX1_with_23 : decode cX1_with 23 = .ok (.getfield 47, 3) := dk_180 0 47 (dk_at dksX1_with_1 0 rfl rfl)
theorem dX1_with_26 : decode cX1_with 26 = .ok (.areturn, 1) := dk_176 (dk_at dksX1_with_1 3 rfl rfl)
abbrev cX1_next_2 : ByteArray := prog_1_method_58_code
def yX1_next_2 : MethodName := ⟨RX1, "next", "(IIII)I"⟩
def dkwX1_next_2_7 : List UInt8 := [21, 5, 181, 0, 196, 42, 21, 8, 182, 0, 176, 172]
abbrev dktX1_next_2_7 : List UInt8 := dkwX1_next_2_7 ++ []
def dkwX1_next_2_6 : List UInt8 := [160, 0, 7, 4, 167, 0, 4, 3, 54, 8, 42, 180, 0, 36, 21, 6, 182, 1, 98, 42, 180, 0, 36]
abbrev dktX1_next_2_6 : List UInt8 := dkwX1_next_2_6 ++ dktX1_next_2_7
def dkwX1_next_2_5 : List UInt8 := [180, 0, 36, 180, 1, 6, 21, 7, 46, 167, 0, 23, 42, 180, 0, 36, 180, 1, 8, 21, 7, 46, 16, 12]
abbrev dktX1_next_2_5 : List UInt8 := dkwX1_next_2_5 ++ dktX1_next_2_6
def dkwX1_next_2_4 : List UInt8 := [154, 0, 16, 42, 180, 0, 36, 180, 1, 4, 21, 7, 46, 167, 0, 42, 21, 4, 4, 160, 0, 16, 42]
abbrev dktX1_next_2_4 : List UInt8 := dkwX1_next_2_4 ++ dktX1_next_2_5
def dkwX1_next_2_3 : List UInt8 := [54, 7, 16, 254, 54, 8, 29, 42, 180, 0, 36, 180, 0, 196, 21, 5, 100, 162, 0, 62, 21, 4]
abbrev dktX1_next_2_3 : List UInt8 := dkwX1_next_2_3 ++ dktX1_next_2_4
def dkwX1_next_2_2 : List UInt8 := [180, 0, 36, 182, 1, 95, 54, 6, 42, 180, 0, 36, 27, 28, 16, 12, 182, 0, 165, 21, 5, 29, 96]
abbrev dktX1_next_2_2 : List UInt8 := dkwX1_next_2_2 ++ dktX1_next_2_3
def dkwX1_next_2_1 : List UInt8 := [3, 5, 184, 0, 94, 154, 0, 9, 42, 4, 182, 0, 98, 172, 42, 180, 0, 36, 180, 0, 196, 54, 5, 42]
abbrev dktX1_next_2_1 : List UInt8 := dkwX1_next_2_1 ++ dktX1_next_2_2
def dkwX1_next_2_0 : List UInt8 := [42, 5, 188, 10, 89, 3, 27, 79, 89, 4, 28, 79, 182, 0, 230, 153, 0, 17, 29, 155, 0, 13, 21, 4]
abbrev dktX1_next_2_0 : List UInt8 := dkwX1_next_2_0 ++ dktX1_next_2_1
theorem dksX1_next_2_0 : cX1_next_2.data.toList.drop 0 = dktX1_next_2_0 := by decide +kernel
theorem dksX1_next_2_1 : cX1_next_2.data.toList.drop 24 = dktX1_next_2_1 := dk_seg dksX1_next_2_0 24 rfl rfl
theorem dksX1_next_2_2 : cX1_next_2.data.toList.drop 48 = dktX1_next_2_2 := dk_seg dksX1_next_2_1 24 rfl rfl
theorem dksX1_next_2_3 : cX1_next_2.data.toList.drop 71 = dktX1_next_2_3 := dk_seg dksX1_next_2_2 23 rfl rfl
theorem dksX1_next_2_4 : cX1_next_2.data.toList.drop 93 = dktX1_next_2_4 := dk_seg dksX1_next_2_3 22 rfl rfl
theorem dksX1_next_2_5 : cX1_next_2.data.toList.drop 116 = dktX1_next_2_5 := dk_seg dksX1_next_2_4 23 rfl rfl
theorem dksX1_next_2_6 : cX1_next_2.data.toList.drop 140 = dktX1_next_2_6 := dk_seg dksX1_next_2_5 24 rfl rfl
theorem dksX1_next_2_7 : cX1_next_2.data.toList.drop 163 = dktX1_next_2_7 := dk_seg dksX1_next_2_6 23 rfl rfl
theorem dX1_next_2_0 : decode cX1_next_2 0 = .ok (.aload_n 0, 1) := dk_42 (dk_at dksX1_next_2_0 0 rfl rfl)
theorem dX1_next_2_1 : decode cX1_next_2 1 = .ok (.iconst 2, 1) := dk_5 (dk_at dksX1_next_2_0 1 rfl rfl)
theorem dX1_next_2_2 : decode cX1_next_2 2 = .ok (.newarray .int, 2) := dk_188_10 (dk_at dksX1_next_2_0 2 rfl rfl)
theorem dX1_next_2_4 : decode cX1_next_2 4 = .ok (.dup, 1) := dk_89 (dk_at dksX1_next_2_0 4 rfl rfl)
theorem dX1_next_2_5 : decode cX1_next_2 5 = .ok (.iconst 0, 1) := dk_3 (dk_at dksX1_next_2_0 5 rfl rfl)
theorem dX1_next_2_6 : decode cX1_next_2 6 = .ok (.iload_n 1, 1) := dk_27 (dk_at dksX1_next_2_0 6 rfl rfl)
theorem dX1_next_2_7 : decode cX1_next_2 7 = .ok (.iastore, 1) := dk_79 (dk_at dksX1_next_2_0 7 rfl rfl)
theorem dX1_next_2_8 : decode cX1_next_2 8 = .ok (.dup, 1) := dk_89 (dk_at dksX1_next_2_0 8 rfl rfl)
theorem dX1_next_2_9 : decode cX1_next_2 9 = .ok (.iconst 1, 1) := dk_4 (dk_at dksX1_next_2_0 9 rfl rfl)
theorem dX1_next_2_10 : decode cX1_next_2 10 = .ok (.iload_n 2, 1) := dk_28 (dk_at dksX1_next_2_0 10 rfl rfl)
theorem dX1_next_2_11 : decode cX1_next_2 11 = .ok (.iastore, 1) := dk_79 (dk_at dksX1_next_2_0 11 rfl rfl)
theorem dX1_next_2_12 : decode cX1_next_2 12 = .ok (.invokevirtual 230, 3) := dk_182 0 230 (dk_at dksX1_next_2_0 12 rfl rfl)
theorem dX1_next_2_15 : decode cX1_next_2 15 = .ok (.ifCond .eq 17, 3) := dk_153 0 17 (dk_at dksX1_next_2_0 15 rfl rfl)
theorem dX1_next_2_18 : decode cX1_next_2 18 = .ok (.iload_n 3, 1) := dk_29 (dk_at dksX1_next_2_0 18 rfl rfl)
theorem dX1_next_2_19 : decode cX1_next_2 19 = .ok (.ifCond .lt 13, 3) := dk_155 0 13 (dk_at dksX1_next_2_0 19 rfl rfl)
theorem dX1_next_2_22 : decode cX1_next_2 22 = .ok (.iload 4, 2) := dk_21 4 (dk_at dksX1_next_2_0 22 rfl rfl)
theorem dX1_next_2_24 : decode cX1_next_2 24 = .ok (.iconst 0, 1) := dk_3 (dk_at dksX1_next_2_1 0 rfl rfl)
theorem dX1_next_2_25 : decode cX1_next_2 25 = .ok (.iconst 2, 1) := dk_5 (dk_at dksX1_next_2_1 1 rfl rfl)
theorem dX1_next_2_26 : decode cX1_next_2 26 = .ok (.invokestatic 94, 3) := dk_184 0 94 (dk_at dksX1_next_2_1 2 rfl rfl)
theorem dX1_next_2_29 : decode cX1_next_2 29 = .ok (.ifCond .ne 9, 3) := dk_154 0 9 (dk_at dksX1_next_2_1 5 rfl rfl)
theorem dX1_next_2_32 : decode cX1_next_2 32 = .ok (.aload_n 0, 1) := dk_42 (dk_at dksX1_next_2_1 8 rfl rfl)
theorem dX1_next_2_33 : decode cX1_next_2 33 = .ok (.iconst 1, 1) := dk_4 (dk_at dksX1_next_2_1 9 rfl rfl)
theorem dX1_next_2_34 : decode cX1_next_2 34 = .ok (.invokevirtual 98, 3) := dk_182 0 98 (dk_at dksX1_next_2_1 10 rfl rfl)
theorem dX1_next_2_37 : decode cX1_next_2 37 = .ok (.ireturn, 1) := dk_172 (dk_at dksX1_next_2_1 13 rfl rfl)
theorem dX1_next_2_38 : decode cX1_next_2 38 = .ok (.aload_n 0, 1) := dk_42 (dk_at dksX1_next_2_1 14 rfl rfl)
theorem dX1_next_2_39 : decode cX1_next_2 39 = .ok (.getfield 36, 3) := dk_180 0 36 (dk_at dksX1_next_2_1 15 rfl rfl)
theorem dX1_next_2_42 : decode cX1_next_2 42 = .ok (.getfield 196, 3) := dk_180 0 196 (dk_at dksX1_next_2_1 18 rfl rfl)
theorem dX1_next_2_45 : decode cX1_next_2 45 = .ok (.istore 5, 2) := dk_54 5 (dk_at dksX1_next_2_1 21 rfl rfl)
theorem dX1_next_2_47 : decode cX1_next_2 47 = .ok (.aload_n 0, 1) := dk_42 (dk_at dksX1_next_2_1 23 rfl rfl)
theorem dX1_next_2_48 : decode cX1_next_2 48 = .ok (.getfield 36, 3) := dk_180 0 36 (dk_at dksX1_next_2_2 0 rfl rfl)
theorem dX1_next_2_51 : decode cX1_next_2 51 = .ok (.invokevirtual 351, 3) := dk_182 1 95 (dk_at dksX1_next_2_2 3 rfl rfl)
theorem dX1_next_2_54 : decode cX1_next_2 54 = .ok (.istore 6, 2) := dk_54 6 (dk_at dksX1_next_2_2 6 rfl rfl)
theorem dX1_next_2_56 : decode cX1_next_2 56 = .ok (.aload_n 0, 1) := dk_42 (dk_at dksX1_next_2_2 8 rfl rfl)
theorem dX1_next_2_57 : decode cX1_next_2 57 = .ok (.getfield 36, 3) := dk_180 0 36 (dk_at dksX1_next_2_2 9 rfl rfl)
theorem dX1_next_2_60 : decode cX1_next_2 60 = .ok (.iload_n 1, 1) := dk_27 (dk_at dksX1_next_2_2 12 rfl rfl)
theorem dX1_next_2_61 : decode cX1_next_2 61 = .ok (.iload_n 2, 1) := dk_28 (dk_at dksX1_next_2_2 13 rfl rfl)
theorem dX1_next_2_62 : decode cX1_next_2 62 = .ok (.bipush 12, 2) := dk_16 12 (dk_at dksX1_next_2_2 14 rfl rfl)
theorem dX1_next_2_64 : decode cX1_next_2 64 = .ok (.invokevirtual 165, 3) := dk_182 0 165 (dk_at dksX1_next_2_2 16 rfl rfl)
theorem dX1_next_2_67 : decode cX1_next_2 67 = .ok (.iload 5, 2) := dk_21 5 (dk_at dksX1_next_2_2 19 rfl rfl)
theorem dX1_next_2_69 : decode cX1_next_2 69 = .ok (.iload_n 3, 1) := dk_29 (dk_at dksX1_next_2_2 21 rfl rfl)
theorem dX1_next_2_70 : decode cX1_next_2 70 = .ok (.iadd, 1) := dk_96 (dk_at dksX1_next_2_2 22 rfl rfl)
theorem dX1_next_2_71 : decode cX1_next_2 71 = .ok (.istore 7, 2) := dk_54 7 (dk_at dksX1_next_2_3 0 rfl rfl)
theorem dX1_next_2_73 : decode cX1_next_2 73 = .ok (.bipush (-2), 2) := dk_16 254 (dk_at dksX1_next_2_3 2 rfl rfl)
theorem dX1_next_2_75 : decode cX1_next_2 75 = .ok (.istore 8, 2) := dk_54 8 (dk_at dksX1_next_2_3 4 rfl rfl)
theorem dX1_next_2_77 : decode cX1_next_2 77 = .ok (.iload_n 3, 1) := dk_29 (dk_at dksX1_next_2_3 6 rfl rfl)
theorem dX1_next_2_78 : decode cX1_next_2 78 = .ok (.aload_n 0, 1) := dk_42 (dk_at dksX1_next_2_3 7 rfl rfl)
theorem dX1_next_2_79 : decode cX1_next_2 79 = .ok (.getfield 36, 3) := dk_180 0 36 (dk_at dksX1_next_2_3 8 rfl rfl)
theorem dX1_next_2_82 : decode cX1_next_2 82 = .ok (.getfield 196, 3) := dk_180 0 196 (dk_at dksX1_next_2_3 11 rfl rfl)
theorem dX1_next_2_85 : decode cX1_next_2 85 = .ok (.iload 5, 2) := dk_21 5 (dk_at dksX1_next_2_3 14 rfl rfl)
theorem dX1_next_2_87 : decode cX1_next_2 87 = .ok (.isub, 1) := dk_100 (dk_at dksX1_next_2_3 16 rfl rfl)
theorem dX1_next_2_88 : decode cX1_next_2 88 = .ok (.if_icmp .ge 62, 3) := dk_162 0 62 (dk_at dksX1_next_2_3 17 rfl rfl)
theorem dX1_next_2_91 : decode cX1_next_2 91 = .ok (.iload 4, 2) := dk_21 4 (dk_at dksX1_next_2_3 20 rfl rfl)
theorem dX1_next_2_93 : decode cX1_next_2 93 = .ok (.ifCond .ne 16, 3) := dk_154 0 16 (dk_at dksX1_next_2_4 0 rfl rfl)
theorem dX1_next_2_96 : decode cX1_next_2 96 = .ok (.aload_n 0, 1) := dk_42 (dk_at dksX1_next_2_4 3 rfl rfl)
theorem dX1_next_2_97 : decode cX1_next_2 97 = .ok (.getfield 36, 3) := dk_180 0 36 (dk_at dksX1_next_2_4 4 rfl rfl)
theorem dX1_next_2_100 : decode cX1_next_2 100 = .ok (.getfield 260, 3) := dk_180 1 4 (dk_at dksX1_next_2_4 7 rfl rfl)
theorem dX1_next_2_103 : decode cX1_next_2 103 = .ok (.iload 7, 2) := dk_21 7 (dk_at dksX1_next_2_4 10 rfl rfl)
theorem dX1_next_2_105 : decode cX1_next_2 105 = .ok (.iaload, 1) := dk_46 (dk_at dksX1_next_2_4 12 rfl rfl)
theorem dX1_next_2_106 : decode cX1_next_2 106 = .ok (.goto 42, 3) := dk_167 0 42 (dk_at dksX1_next_2_4 13 rfl rfl)
theorem dX1_next_2_109 : decode cX1_next_2 109 = .ok (.iload 4, 2) := dk_21 4 (dk_at dksX1_next_2_4 16 rfl rfl)
theorem dX1_next_2_111 : decode cX1_next_2 111 = .ok (.iconst 1, 1) := dk_4 (dk_at dksX1_next_2_4 18 rfl rfl)
theorem dX1_next_2_112 : decode cX1_next_2 112 = .ok (.if_icmp .ne 16, 3) := dk_160 0 16 (dk_at dksX1_next_2_4 19 rfl rfl)
theorem dX1_next_2_115 : decode cX1_next_2 115 = .ok (.aload_n 0, 1) := dk_42 (dk_at dksX1_next_2_4 22 rfl rfl)
theorem dX1_next_2_116 : decode cX1_next_2 116 = .ok (.getfield 36, 3) := dk_180 0 36 (dk_at dksX1_next_2_5 0 rfl rfl)
theorem dX1_next_2_119 : decode cX1_next_2 119 = .ok (.getfield 262, 3) := dk_180 1 6 (dk_at dksX1_next_2_5 3 rfl rfl)
theorem dX1_next_2_122 : decode cX1_next_2 122 = .ok (.iload 7, 2) := dk_21 7 (dk_at dksX1_next_2_5 6 rfl rfl)
theorem dX1_next_2_124 : decode cX1_next_2 124 = .ok (.iaload, 1) := dk_46 (dk_at dksX1_next_2_5 8 rfl rfl)
theorem dX1_next_2_125 : decode cX1_next_2 125 = .ok (.goto 23, 3) := dk_167 0 23 (dk_at dksX1_next_2_5 9 rfl rfl)
theorem dX1_next_2_128 : decode cX1_next_2 128 = .ok (.aload_n 0, 1) := dk_42 (dk_at dksX1_next_2_5 12 rfl rfl)
theorem dX1_next_2_129 : decode cX1_next_2 129 = .ok (.getfield 36, 3) := dk_180 0 36 (dk_at dksX1_next_2_5 13 rfl rfl)
theorem dX1_next_2_132 : decode cX1_next_2 132 = .ok (.getfield 264, 3) := dk_180 1 8 (dk_at dksX1_next_2_5 16 rfl rfl)
theorem dX1_next_2_135 : decode cX1_next_2 135 = .ok (.iload 7, 2) := dk_21 7 (dk_at dksX1_next_2_5 19 rfl rfl)
theorem dX1_next_2_137 : decode cX1_next_2 137 = .ok (.iaload, 1) := dk_46 (dk_at dksX1_next_2_5 21 rfl rfl)
theorem dX1_next_2_138 : decode cX1_next_2 138 = .ok (.bipush 12, 2) := dk_16 12 (dk_at dksX1_next_2_5 22 rfl rfl)
theorem dX1_next_2_140 : decode cX1_next_2 140 = .ok (.if_icmp .ne 7, 3) := dk_160 0 7 (dk_at dksX1_next_2_6 0 rfl rfl)
theorem dX1_next_2_143 : decode cX1_next_2 143 = .ok (.iconst 1, 1) := dk_4 (dk_at dksX1_next_2_6 3 rfl rfl)
theorem dX1_next_2_144 : decode cX1_next_2 144 = .ok (.goto 4, 3) := dk_167 0 4 (dk_at dksX1_next_2_6 4 rfl rfl)
theorem dX1_next_2_147 : decode cX1_next_2 147 = .ok (.iconst 0, 1) := dk_3 (dk_at dksX1_next_2_6 7 rfl rfl)
theorem dX1_next_2_148 : decode cX1_next_2 148 = .ok (.istore 8, 2) := dk_54 8 (dk_at dksX1_next_2_6 8 rfl rfl)
theorem dX1_next_2_150 : decode cX1_next_2 150 = .ok (.aload_n 0, 1) := dk_42 (dk_at dksX1_next_2_6 10 rfl rfl)
theorem dX1_next_2_151 : decode cX1_next_2 151 = .ok (.getfield 36, 3) := dk_180 0 36 (dk_at dksX1_next_2_6 11 rfl rfl)
theorem dX1_next_2_154 : decode cX1_next_2 154 = .ok (.iload 6, 2) := dk_21 6 (dk_at dksX1_next_2_6 14 rfl rfl)
theorem dX1_next_2_156 : decode cX1_next_2 156 = .ok (.invokevirtual 354, 3) := dk_182 1 98 (dk_at dksX1_next_2_6 16 rfl rfl)
theorem dX1_next_2_159 : decode cX1_next_2 159 = .ok (.aload_n 0, 1) := dk_42 (dk_at dksX1_next_2_6 19 rfl rfl)
theorem dX1_next_2_160 : decode cX1_next_2 160 = .ok (.getfield 36, 3) := dk_180 0 36 (dk_at dksX1_next_2_6 20 rfl rfl)
theorem dX1_next_2_163 : decode cX1_next_2 163 = .ok (.iload 5, 2) := dk_21 5 (dk_at dksX1_next_2_7 0 rfl rfl)
theorem dX1_next_2_165 : decode cX1_next_2 165 = .ok (.putfield 196, 3) := dk_181 0 196 (dk_at dksX1_next_2_7 2 rfl rfl)
theorem dX1_next_2_168 : decode cX1_next_2 168 = .ok (.aload_n 0, 1) := dk_42 (dk_at dksX1_next_2_7 5 rfl rfl)
theorem dX1_next_2_169 : decode cX1_next_2 169 = .ok (.iload 8, 2) := dk_21 8 (dk_at dksX1_next_2_7 6 rfl rfl)
theorem dX1_next_2_171 : decode cX1_next_2 171 = .ok (.invokevirtual 176, 3) := dk_182 0 176 (dk_at dksX1_next_2_7 8 rfl rfl)
theorem dX1_next_2_174 : decode cX1_next_2 174 = .ok (.ireturn, 1) := dk_172 (dk_at dksX1_next_2_7 11 rfl rfl)
abbrev cX1_without : ByteArray := prog_1_method_59_code
def yX1_without : MethodName := ⟨RX1, "without", "(II)I"⟩
def dkwX1_without_2 : List UInt8 := [154, 0, 10, 45, 182, 1, 94, 167, 0, 8, 42, 45, 182, 0, 199, 182, 0, 176, 172]
abbrev dktX1_without_2 : List UInt8 := dkwX1_without_2 ++ []
def dkwX1_without_1 : List UInt8 := [4, 182, 0, 98, 172, 42, 42, 182, 0, 252, 4, 27, 120, 2, 130, 126, 182, 0, 255, 78, 42, 28]
abbrev dktX1_without_1 : List UInt8 := dkwX1_without_1 ++ dktX1_without_2
def dkwX1_without_0 : List UInt8 := [27, 3, 42, 182, 0, 191, 4, 100, 184, 0, 94, 153, 0, 12, 28, 3, 4, 184, 0, 94, 154, 0, 9, 42]
abbrev dktX1_without_0 : List UInt8 := dkwX1_without_0 ++ dktX1_without_1
theorem dksX1_without_0 : cX1_without.data.toList.drop 0 = dktX1_without_0 := by decide +kernel
theorem dksX1_without_1 : cX1_without.data.toList.drop 24 = dktX1_without_1 := dk_seg dksX1_without_0 24 rfl rfl
theorem dksX1_without_2 : cX1_without.data.toList.drop 46 = dktX1_without_2 := dk_seg dksX1_without_1 22 rfl rfl
theorem dX1_without_0 : decode cX1_without 0 = .ok (.iload_n 1, 1) := dk_27 (dk_at dksX1_without_0 0 rfl rfl)
theorem dX1_without_1 : decode cX1_without 1 = .ok (.iconst 0, 1) := dk_3 (dk_at dksX1_without_0 1 rfl rfl)
theorem dX1_without_2 : decode cX1_without 2 = .ok (.aload_n 0, 1) := dk_42 (dk_at dksX1_without_0 2 rfl rfl)
theorem dX1_without_3 : decode cX1_without 3 = .ok (.invokevirtual 191, 3) := dk_182 0 191 (dk_at dksX1_without_0 3 rfl rfl)
theorem dX1_without_6 : decode cX1_without 6 = .ok (.iconst 1, 1) := dk_4 (dk_at dksX1_without_0 6 rfl rfl)
theorem dX1_without_7 : decode cX1_without 7 = .ok (.isub, 1) := dk_100 (dk_at dksX1_without_0 7 rfl rfl)
theorem dX1_without_8 : decode cX1_without 8 = .ok (.invokestatic 94, 3) := dk_184 0 94 (dk_at dksX1_without_0 8 rfl rfl)
theorem dX1_without_11 : decode cX1_without 11 = .ok (.ifCond .eq 12, 3) := dk_153 0 12 (dk_at dksX1_without_0 11 rfl rfl)
theorem dX1_without_14 : decode cX1_without 14 = .ok (.iload_n 2, 1) := dk_28 (dk_at dksX1_without_0 14 rfl rfl)
theorem dX1_without_15 : decode cX1_without 15 = .ok (.iconst 0, 1) := dk_3 (dk_at dksX1_without_0 15 rfl rfl)
theorem dX1_without_16 : decode cX1_without 16 = .ok (.iconst 1, 1) := dk_4 (dk_at dksX1_without_0 16 rfl rfl)
theorem dX1_without_17 : decode cX1_without 17 = .ok (.invokestatic 94, 3) := dk_184 0 94 (dk_at dksX1_without_0 17 rfl rfl)
theorem dX1_without_20 : decode cX1_without 20 = .ok (.ifCond .ne 9, 3) := dk_154 0 9 (dk_at dksX1_without_0 20 rfl rfl)
theorem dX1_without_23 : decode cX1_without 23 = .ok (.aload_n 0, 1) := dk_42 (dk_at dksX1_without_0 23 rfl rfl)
theorem dX1_without_24 : decode cX1_without 24 = .ok (.iconst 1, 1) := dk_4 (dk_at dksX1_without_1 0 rfl rfl)
theorem dX1_without_25 : decode cX1_without 25 = .ok (.invokevirtual 98, 3) := dk_182 0 98 (dk_at dksX1_without_1 1 rfl rfl)
theorem dX1_without_28 : decode cX1_without 28 = .ok (.ireturn, 1) := dk_172 (dk_at dksX1_without_1 4 rfl rfl)
theorem dX1_without_29 : decode cX1_without 29 = .ok (.aload_n 0, 1) := dk_42 (dk_at dksX1_without_1 5 rfl rfl)
theorem dX1_without_30 : decode cX1_without 30 = .ok (.aload_n 0, 1) := dk_42 (dk_at dksX1_without_1 6 rfl rfl)
theorem dX1_without_31 : decode cX1_without 31 = .ok (.invokevirtual 252, 3) := dk_182 0 252 (dk_at dksX1_without_1 7 rfl rfl)
theorem dX1_without_34 : decode cX1_without 34 = .ok (.iconst 1, 1) := dk_4 (dk_at dksX1_without_1 10 rfl rfl)
theorem dX1_without_35 : decode cX1_without 35 = .ok (.iload_n 1, 1) := dk_27 (dk_at dksX1_without_1 11 rfl rfl)
theorem dX1_without_36 : decode cX1_without 36 = .ok (.ishl, 1) := dk_120 (dk_at dksX1_without_1 12 rfl rfl)
theorem dX1_without_37 : decode cX1_without 37 = .ok (.iconst (-1), 1) := dk_2 (dk_at dksX1_without_1 13 rfl rfl)
theorem dX1_without_38 : decode cX1_without 38 = .ok (.ixor, 1) := dk_130 (dk_at dksX1_without_1 14 rfl rfl)
theorem dX1_without_39 : decode cX1_without 39 = .ok (.iand, 1) := dk_126 (dk_at dksX1_without_1 15 rfl rfl)
theorem dX1_without_40 : decode cX1_without 40 = .ok (.invokevirtual 255, 3) := dk_182 0 255 (dk_at dksX1_without_1 16 rfl rfl)
theorem dX1_without_43 : decode cX1_without 43 = .ok (.astore_n 3, 1) := dk_78 (dk_at dksX1_without_1 19 rfl rfl)
theorem dX1_without_44 : decode cX1_without 44 = .ok (.aload_n 0, 1) := dk_42 (dk_at dksX1_without_1 20 rfl rfl)
theorem dX1_without_45 : decode cX1_without 45 = .ok (.iload_n 2, 1) := dk_28 (dk_at dksX1_without_1 21 rfl rfl)
theorem dX1_without_46 : decode cX1_without 46 = .ok (.ifCond .ne 10, 3) := dk_154 0 10 (dk_at dksX1_without_2 0 rfl rfl)
theorem dX1_without_49 : decode cX1_without 49 = .ok (.aload_n 3, 1) := dk_45 (dk_at dksX1_without_2 3 rfl rfl)
theorem dX1_without_50 : decode cX1_without 50 = .ok (.invokevirtual 350, 3) := dk_182 1 94 (dk_at dksX1_without_2 4 rfl rfl)
theorem dX1_without_53 : decode cX1_without 53 = .ok (.goto 8, 3) := dk_167 0 8 (dk_at dksX1_without_2 7 rfl rfl)
theorem dX1_without_56 : decode cX1_without 56 = .ok (.aload_n 0, 1) := dk_42 (dk_at dksX1_without_2 10 rfl rfl)
theorem dX1_without_57 : decode cX1_without 57 = .ok (.aload_n 3, 1) := dk_45 (dk_at dksX1_without_2 11 rfl rfl)
theorem dX1_without_58 : decode cX1_without 58 = .ok (.invokevirtual 199, 3) := dk_182 0 199 (dk_at dksX1_without_2 12 rfl rfl)
theorem dX1_without_61 : decode cX1_without 61 = .ok (.invokevirtual 176, 3) := dk_182 0 176 (dk_at dksX1_without_2 15 rfl rfl)
theorem dX1_without_64 : decode cX1_without 64 = .ok (.ireturn, 1) := dk_172 (dk_at dksX1_without_2 18 rfl rfl)
abbrev cX1_free : ByteArray := prog_1_method_60_code
def yX1_free : MethodName := ⟨RX1, "free", "()I"⟩
def dkwX1_free_2 : List UInt8 := [160, 0, 6, 132, 1, 1, 132, 3, 1, 167, 255, 215, 132, 2, 1, 167, 255, 197, 27, 172]
abbrev dktX1_free_2 : List UInt8 := dkwX1_free_2 ++ []
def dkwX1_free_1 : List UInt8 := [42, 180, 0, 36, 28, 29, 182, 0, 234, 154, 0, 21, 42, 42, 28, 29, 182, 1, 90, 182, 0, 199, 16, 254]
abbrev dktX1_free_1 : List UInt8 := dkwX1_free_1 ++ dktX1_free_2
def dkwX1_free_0 : List UInt8 := [3, 60, 3, 61, 28, 42, 182, 0, 179, 162, 0, 57, 28, 4, 96, 62, 29, 42, 182, 0, 179, 162, 0, 39]
abbrev dktX1_free_0 : List UInt8 := dkwX1_free_0 ++ dktX1_free_1
theorem dksX1_free_0 : cX1_free.data.toList.drop 0 = dktX1_free_0 := by decide +kernel
theorem dksX1_free_1 : cX1_free.data.toList.drop 24 = dktX1_free_1 := dk_seg dksX1_free_0 24 rfl rfl
theorem dksX1_free_2 : cX1_free.data.toList.drop 48 = dktX1_free_2 := dk_seg dksX1_free_1 24 rfl rfl
theorem dX1_free_0 : decode cX1_free 0 = .ok (.iconst 0, 1) := dk_3 (dk_at dksX1_free_0 0 rfl rfl)
theorem dX1_free_1 : decode cX1_free 1 = .ok (.istore_n 1, 1) := dk_60 (dk_at dksX1_free_0 1 rfl rfl)
theorem dX1_free_2 : decode cX1_free 2 = .ok (.iconst 0, 1) := dk_3 (dk_at dksX1_free_0 2 rfl rfl)
theorem dX1_free_3 : decode cX1_free 3 = .ok (.istore_n 2, 1) := dk_61 (dk_at dksX1_free_0 3 rfl rfl)
theorem dX1_free_4 : decode cX1_free 4 = .ok (.iload_n 2, 1) := dk_28 (dk_at dksX1_free_0 4 rfl rfl)
theorem dX1_free_5 : decode cX1_free 5 = .ok (.aload_n 0, 1) := dk_42 (dk_at dksX1_free_0 5 rfl rfl)
theorem dX1_free_6 : decode cX1_free 6 = .ok (.invokevirtual 179, 3) := dk_182 0 179 (dk_at dksX1_free_0 6 rfl rfl)
theorem dX1_free_9 : decode cX1_free 9 = .ok (.if_icmp .ge 57, 3) := dk_162 0 57 (dk_at dksX1_free_0 9 rfl rfl)
theorem dX1_free_12 : decode cX1_free 12 = .ok (.iload_n 2, 1) := dk_28 (dk_at dksX1_free_0 12 rfl rfl)
theorem dX1_free_13 : decode cX1_free 13 = .ok (.iconst 1, 1) := dk_4 (dk_at dksX1_free_0 13 rfl rfl)
theorem dX1_free_14 : decode cX1_free 14 = .ok (.iadd, 1) := dk_96 (dk_at dksX1_free_0 14 rfl rfl)
theorem dX1_free_15 : decode cX1_free 15 = .ok (.istore_n 3, 1) := dk_62 (dk_at dksX1_free_0 15 rfl rfl)
theorem dX1_free_16 : decode cX1_free 16 = .ok (.iload_n 3, 1) := dk_29 (dk_at dksX1_free_0 16 rfl rfl)
theorem dX1_free_17 : decode cX1_free 17 = .ok (.aload_n 0, 1) := dk_42 (dk_at dksX1_free_0 17 rfl rfl)
theorem dX1_free_18 : decode cX1_free 18 = .ok (.invokevirtual 179, 3) := dk_182 0 179 (dk_at dksX1_free_0 18 rfl rfl)
theorem dX1_free_21 : decode cX1_free 21 = .ok (.if_icmp .ge 39, 3) := dk_162 0 39 (dk_at dksX1_free_0 21 rfl rfl)
theorem dX1_free_24 : decode cX1_free 24 = .ok (.aload_n 0, 1) := dk_42 (dk_at dksX1_free_1 0 rfl rfl)
theorem dX1_free_25 : decode cX1_free 25 = .ok (.getfield 36, 3) := dk_180 0 36 (dk_at dksX1_free_1 1 rfl rfl)
theorem dX1_free_28 : decode cX1_free 28 = .ok (.iload_n 2, 1) := dk_28 (dk_at dksX1_free_1 4 rfl rfl)
theorem dX1_free_29 : decode cX1_free 29 = .ok (.iload_n 3, 1) := dk_29 (dk_at dksX1_free_1 5 rfl rfl)
theorem dX1_free_30 : decode cX1_free 30 = .ok (.invokevirtual 234, 3) := dk_182 0 234 (dk_at dksX1_free_1 6 rfl rfl)
theorem dX1_free_33 : decode cX1_free 33 = .ok (.ifCond .ne 21, 3) := dk_154 0 21 (dk_at dksX1_free_1 9 rfl rfl)
theorem dX1_free_36 : decode cX1_free 36 = .ok (.aload_n 0, 1) := dk_42 (dk_at dksX1_free_1 12 rfl rfl)
theorem dX1_free_37 : decode cX1_free 37 = .ok (.aload_n 0, 1) := dk_42 (dk_at dksX1_free_1 13 rfl rfl)
theorem dX1_free_38 : decode cX1_free 38 = .ok (.iload_n 2, 1) := dk_28 (dk_at dksX1_free_1 14 rfl rfl)
theorem dX1_free_39 : decode cX1_free 39 = .ok (.iload_n 3, 1) := dk_29 (dk_at dksX1_free_1 15 rfl rfl)
theorem dX1_free_40 : decode cX1_free 40 = .ok (.invokevirtual 346, 3) := dk_182 1 90 (dk_at dksX1_free_1 16 rfl rfl)
theorem dX1_free_43 : decode cX1_free 43 = .ok (.invokevirtual 199, 3) := dk_182 0 199 (dk_at dksX1_free_1 19 rfl rfl)
theorem dX1_free_46 : decode cX1_free 46 = .ok (.bipush (-2), 2) := dk_16 254 (dk_at dksX1_free_1 22 rfl rfl)
theorem dX1_free_48 : decode cX1_free 48 = .ok (.if_icmp .ne 6, 3) := dk_160 0 6 (dk_at dksX1_free_2 0 rfl rfl)
theorem dX1_free_51 : decode cX1_free 51 = .ok (.iinc 1 1, 3) := dk_132 1 1 (dk_at dksX1_free_2 3 rfl rfl)
theorem dX1_free_54 : decode cX1_free 54 = .ok (.iinc 3 1, 3) := dk_132 3 1 (dk_at dksX1_free_2 6 rfl rfl)
theorem dX1_free_57 : decode cX1_free 57 = .ok (.goto (-41), 3) := dk_167 255 215 (dk_at dksX1_free_2 9 rfl rfl)
theorem dX1_free_60 : decode cX1_free 60 = .ok (.iinc 2 1, 3) := dk_132 2 1 (dk_at dksX1_free_2 12 rfl rfl)
theorem dX1_free_63 : decode cX1_free 63 = .ok (.goto (-59), 3) := dk_167 255 197 (dk_at dksX1_free_2 15 rfl rfl)
theorem dX1_free_66 : decode cX1_free 66 = .ok (.iload_n 1, 1) := dk_27 (dk_at dksX1_free_2 18 rfl rfl)
theorem dX1_free_67 : decode cX1_free 67 = .ok (.ireturn, 1) := dk_172 (dk_at dksX1_free_2 19 rfl rfl)
abbrev cX1_join : ByteArray := prog_1_method_62_code
def yX1_join : MethodName := ⟨RX1, "join", "(II)I"⟩
def dkwX1_join_3 : List UInt8 := [42, 182, 0, 191, 4, 100, 182, 0, 165, 42, 42, 180, 0, 36, 182, 0, 193, 182, 0, 176, 172]
abbrev dktX1_join_3 : List UInt8 := dkwX1_join_3 ++ []
def dkwX1_join_2 : List UInt8 := [180, 0, 150, 187, 0, 157, 89, 27, 28, 183, 1, 104, 185, 1, 106, 2, 0, 87, 42, 180, 0, 36, 27, 28]
abbrev dktX1_join_2 : List UInt8 := dkwX1_join_2 ++ dktX1_join_3
def dkwX1_join_1 : List UInt8 := [42, 182, 0, 191, 16, 12, 160, 0, 9, 42, 6, 182, 0, 98, 172, 42, 3, 182, 1, 102, 42, 180, 0, 23]
abbrev dktX1_join_1 : List UInt8 := dkwX1_join_1 ++ dktX1_join_2
def dkwX1_join_0 : List UInt8 := [42, 5, 188, 10, 89, 3, 27, 79, 89, 4, 28, 79, 182, 0, 230, 154, 0, 9, 42, 4, 182, 0, 98, 172]
abbrev dktX1_join_0 : List UInt8 := dkwX1_join_0 ++ dktX1_join_1
theorem dksX1_join_0 : cX1_join.data.toList.drop 0 = dktX1_join_0 := by decide +kernel
theorem dksX1_join_1 : cX1_join.data.toList.drop 24 = dktX1_join_1 := dk_seg dksX1_join_0 24 rfl rfl
theorem dksX1_join_2 : cX1_join.data.toList.drop 48 = dktX1_join_2 := dk_seg dksX1_join_1 24 rfl rfl
theorem dksX1_join_3 : cX1_join.data.toList.drop 72 = dktX1_join_3 := dk_seg dksX1_join_2 24 rfl rfl
theorem dX1_join_0 : decode cX1_join 0 = .ok (.aload_n 0, 1) := dk_42 (dk_at dksX1_join_0 0 rfl rfl)
theorem dX1_join_1 : decode cX1_join 1 = .ok (.iconst 2, 1) := dk_5 (dk_at dksX1_join_0 1 rfl rfl)
theorem dX1_join_2 : decode cX1_join 2 = .ok (.newarray .int, 2) := dk_188_10 (dk_at dksX1_join_0 2 rfl rfl)
theorem dX1_join_4 : decode cX1_join 4 = .ok (.dup, 1) := dk_89 (dk_at dksX1_join_0 4 rfl rfl)
theorem dX1_join_5 : decode cX1_join 5 = .ok (.iconst 0, 1) := dk_3 (dk_at dksX1_join_0 5 rfl rfl)
theorem dX1_join_6 : decode cX1_join 6 = .ok (.iload_n 1, 1) := dk_27 (dk_at dksX1_join_0 6 rfl rfl)
theorem dX1_join_7 : decode cX1_join 7 = .ok (.iastore, 1) := dk_79 (dk_at dksX1_join_0 7 rfl rfl)
theorem dX1_join_8 : decode cX1_join 8 = .ok (.dup, 1) := dk_89 (dk_at dksX1_join_0 8 rfl rfl)
theorem dX1_join_9 : decode cX1_join 9 = .ok (.iconst 1, 1) := dk_4 (dk_at dksX1_join_0 9 rfl rfl)
theorem dX1_join_10 : decode cX1_join 10 = .ok (.iload_n 2, 1) := dk_28 (dk_at dksX1_join_0 10 rfl rfl)
theorem dX1_join_11 : decode cX1_join 11 = .ok (.iastore, 1) := dk_79 (dk_at dksX1_join_0 11 rfl rfl)
theorem dX1_join_12 : decode cX1_join 12 = .ok (.invokevirtual 230, 3) := dk_182 0 230 (dk_at dksX1_join_0 12 rfl rfl)
theorem dX1_join_15 : decode cX1_join 15 = .ok (.ifCond .ne 9, 3) := dk_154 0 9 (dk_at dksX1_join_0 15 rfl rfl)
theorem dX1_join_18 : decode cX1_join 18 = .ok (.aload_n 0, 1) := dk_42 (dk_at dksX1_join_0 18 rfl rfl)
theorem dX1_join_19 : decode cX1_join 19 = .ok (.iconst 1, 1) := dk_4 (dk_at dksX1_join_0 19 rfl rfl)
theorem dX1_join_20 : decode cX1_join 20 = .ok (.invokevirtual 98, 3) := dk_182 0 98 (dk_at dksX1_join_0 20 rfl rfl)
theorem dX1_join_23 : decode cX1_join 23 = .ok (.ireturn, 1) := dk_172 (dk_at dksX1_join_0 23 rfl rfl)
theorem dX1_join_24 : decode cX1_join 24 = .ok (.aload_n 0, 1) := dk_42 (dk_at dksX1_join_1 0 rfl rfl)
theorem dX1_join_25 : decode cX1_join 25 = .ok (.invokevirtual 191, 3) := dk_182 0 191 (dk_at dksX1_join_1 1 rfl rfl)
theorem dX1_join_28 : decode cX1_join 28 = .ok (.bipush 12, 2) := dk_16 12 (dk_at dksX1_join_1 4 rfl rfl)
theorem dX1_join_30 : decode cX1_join 30 = .ok (.if_icmp .ne 9, 3) := dk_160 0 9 (dk_at dksX1_join_1 6 rfl rfl)
theorem dX1_join_33 : decode cX1_join 33 = .ok (.aload_n 0, 1) := dk_42 (dk_at dksX1_join_1 9 rfl rfl)
theorem dX1_join_34 : decode cX1_join 34 = .ok (.iconst 3, 1) := dk_6 (dk_at dksX1_join_1 10 rfl rfl)
theorem dX1_join_35 : decode cX1_join 35 = .ok (.invokevirtual 98, 3) := dk_182 0 98 (dk_at dksX1_join_1 11 rfl rfl)
theorem dX1_join_38 : decode cX1_join 38 = .ok (.ireturn, 1) := dk_172 (dk_at dksX1_join_1 14 rfl rfl)
theorem dX1_join_39 : decode cX1_join 39 = .ok (.aload_n 0, 1) := dk_42 (dk_at dksX1_join_1 15 rfl rfl)
theorem dX1_join_40 : decode cX1_join 40 = .ok (.iconst 0, 1) := dk_3 (dk_at dksX1_join_1 16 rfl rfl)
theorem dX1_join_41 : decode cX1_join 41 = .ok (.invokevirtual 358, 3) := dk_182 1 102 (dk_at dksX1_join_1 17 rfl rfl)
theorem dX1_join_44 : decode cX1_join 44 = .ok (.aload_n 0, 1) := dk_42 (dk_at dksX1_join_1 20 rfl rfl)
theorem dX1_join_45 : decode cX1_join 45 = .ok (.getfield 23, 3) := dk_180 0 23 (dk_at dksX1_join_1 21 rfl rfl)
theorem dX1_join_48 : decode cX1_join 48 = .ok (.getfield 150, 3) := dk_180 0 150 (dk_at dksX1_join_2 0 rfl rfl)
theorem dX1_join_51 : decode cX1_join 51 = .ok (.new 157, 3) := dk_187 0 157 (dk_at dksX1_join_2 3 rfl rfl)
theorem dX1_join_54 : decode cX1_join 54 = .ok (.dup, 1) := dk_89 (dk_at dksX1_join_2 6 rfl rfl)
theorem dX1_join_55 : decode cX1_join 55 = .ok (.iload_n 1, 1) := dk_27 (dk_at dksX1_join_2 7 rfl rfl)
theorem dX1_join_56 : decode cX1_join 56 = .ok (.iload_n 2, 1) := dk_28 (dk_at dksX1_join_2 8 rfl rfl)
theorem dX1_join_57 : decode cX1_join 57 = .ok (.invokespecial 360, 3) := dk_183 1 104 (dk_at dksX1_join_2 9 rfl rfl)
theorem dX1_join_60 : decode cX1_join 60 = .ok (.invokeinterface 362 2, 5) := by decide +kernel
theorem dX1_join_65 : decode cX1_join 65 = .ok (.pop, 1) := dk_87 (dk_at dksX1_join_2 17 rfl rfl)
theorem dX1_join_66 : decode cX1_join 66 = .ok (.aload_n 0, 1) := dk_42 (dk_at dksX1_join_2 18 rfl rfl)
theorem dX1_join_67 : decode cX1_join 67 = .ok (.getfield 36, 3) := dk_180 0 36 (dk_at dksX1_join_2 19 rfl rfl)
theorem dX1_join_70 : decode cX1_join 70 = .ok (.iload_n 1, 1) := dk_27 (dk_at dksX1_join_2 22 rfl rfl)
theorem dX1_join_71 : decode cX1_join 71 = .ok (.iload_n 2, 1) := dk_28 (dk_at dksX1_join_2 23 rfl rfl)
theorem dX1_join_72 : decode cX1_join 72 = .ok (.aload_n 0, 1) := dk_42 (dk_at dksX1_join_3 0 rfl rfl)
theorem dX1_join_73 : decode cX1_join 73 = .ok (.invokevirtual 191, 3) := dk_182 0 191 (dk_at dksX1_join_3 1 rfl rfl)
theorem dX1_join_76 : decode cX1_join 76 = .ok (.iconst 1, 1) := dk_4 (dk_at dksX1_join_3 4 rfl rfl)
theorem dX1_join_77 : decode cX1_join 77 = .ok (.isub, 1) := dk_100 (dk_at dksX1_join_3 5 rfl rfl)
theorem dX1_join_78 : decode cX1_join 78 = .ok (.invokevirtual 165, 3) := dk_182 0 165 (dk_at dksX1_join_3 6 rfl rfl)
theorem dX1_join_81 : decode cX1_join 81 = .ok (.aload_n 0, 1) := dk_42 (dk_at dksX1_join_3 9 rfl rfl)
theorem dX1_join_82 : decode cX1_join 82 = .ok (.aload_n 0, 1) := dk_42 (dk_at dksX1_join_3 10 rfl rfl)
theorem dX1_join_83 : decode cX1_join 83 = .ok (.getfield 36, 3) := dk_180 0 36 (dk_at dksX1_join_3 11 rfl rfl)
theorem dX1_join_86 : decode cX1_join 86 = .ok (.invokevirtual 193, 3) := dk_182 0 193 (dk_at dksX1_join_3 14 rfl rfl)
theorem dX1_join_89 : decode cX1_join 89 = .ok (.invokevirtual 176, 3) := dk_182 0 176 (dk_at dksX1_join_3 17 rfl rfl)
theorem dX1_join_92 : decode cX1_join 92 = .ok (.ireturn, 1) := dk_172 (dk_at dksX1_join_3 20 rfl rfl)
abbrev cX1_acts : ByteArray := prog_1_method_61_code
def yX1_acts : MethodName := ⟨RX1, "acts", "(I)V"⟩
def dkwX1_acts_2 : List UInt8 := [180, 0, 173, 4, 96, 181, 0, 173, 177]
abbrev dktX1_acts_2 : List UInt8 := dkwX1_acts_2 ++ []
def dkwX1_acts_1 : List UInt8 := [182, 1, 95, 79, 42, 180, 0, 57, 42, 180, 0, 173, 42, 180, 0, 36, 180, 0, 196, 79, 42, 89]
abbrev dktX1_acts_1 : List UInt8 := dkwX1_acts_1 ++ dktX1_acts_2
def dkwX1_acts_0 : List UInt8 := [42, 180, 0, 50, 42, 180, 0, 173, 27, 79, 42, 180, 0, 54, 42, 180, 0, 173, 42, 180, 0, 36]
abbrev dktX1_acts_0 : List UInt8 := dkwX1_acts_0 ++ dktX1_acts_1
theorem dksX1_acts_0 : cX1_acts.data.toList.drop 0 = dktX1_acts_0 := by decide +kernel
theorem dksX1_acts_1 : cX1_acts.data.toList.drop 22 = dktX1_acts_1 := dk_seg dksX1_acts_0 22 rfl rfl
theorem dksX1_acts_2 : cX1_acts.data.toList.drop 44 = dktX1_acts_2 := dk_seg dksX1_acts_1 22 rfl rfl
theorem dX1_acts_0 : decode cX1_acts 0 = .ok (.aload_n 0, 1) := dk_42 (dk_at dksX1_acts_0 0 rfl rfl)
theorem dX1_acts_1 : decode cX1_acts 1 = .ok (.getfield 50, 3) := dk_180 0 50 (dk_at dksX1_acts_0 1 rfl rfl)
theorem dX1_acts_4 : decode cX1_acts 4 = .ok (.aload_n 0, 1) := dk_42 (dk_at dksX1_acts_0 4 rfl rfl)
theorem dX1_acts_5 : decode cX1_acts 5 = .ok (.getfield 173, 3) := dk_180 0 173 (dk_at dksX1_acts_0 5 rfl rfl)
theorem dX1_acts_8 : decode cX1_acts 8 = .ok (.iload_n 1, 1) := dk_27 (dk_at dksX1_acts_0 8 rfl rfl)
theorem dX1_acts_9 : decode cX1_acts 9 = .ok (.iastore, 1) := dk_79 (dk_at dksX1_acts_0 9 rfl rfl)
theorem dX1_acts_10 : decode cX1_acts 10 = .ok (.aload_n 0, 1) := dk_42 (dk_at dksX1_acts_0 10 rfl rfl)
theorem dX1_acts_11 : decode cX1_acts 11 = .ok (.getfield 54, 3) := dk_180 0 54 (dk_at dksX1_acts_0 11 rfl rfl)
theorem dX1_acts_14 : decode cX1_acts 14 = .ok (.aload_n 0, 1) := dk_42 (dk_at dksX1_acts_0 14 rfl rfl)
theorem dX1_acts_15 : decode cX1_acts 15 = .ok (.getfield 173, 3) := dk_180 0 173 (dk_at dksX1_acts_0 15 rfl rfl)
theorem dX1_acts_18 : decode cX1_acts 18 = .ok (.aload_n 0, 1) := dk_42 (dk_at dksX1_acts_0 18 rfl rfl)
theorem dX1_acts_19 : decode cX1_acts 19 = .ok (.getfield 36, 3) := dk_180 0 36 (dk_at dksX1_acts_0 19 rfl rfl)
theorem dX1_acts_22 : decode cX1_acts 22 = .ok (.invokevirtual 351, 3) := dk_182 1 95 (dk_at dksX1_acts_1 0 rfl rfl)
theorem dX1_acts_25 : decode cX1_acts 25 = .ok (.iastore, 1) := dk_79 (dk_at dksX1_acts_1 3 rfl rfl)
theorem dX1_acts_26 : decode cX1_acts 26 = .ok (.aload_n 0, 1) := dk_42 (dk_at dksX1_acts_1 4 rfl rfl)
theorem dX1_acts_27 : decode cX1_acts 27 = .ok (.getfield 57, 3) := dk_180 0 57 (dk_at dksX1_acts_1 5 rfl rfl)
theorem dX1_acts_30 : decode cX1_acts 30 = .ok (.aload_n 0, 1) := dk_42 (dk_at dksX1_acts_1 8 rfl rfl)
theorem dX1_acts_31 : decode cX1_acts 31 = .ok (.getfield 173, 3) := dk_180 0 173 (dk_at dksX1_acts_1 9 rfl rfl)
theorem dX1_acts_34 : decode cX1_acts 34 = .ok (.aload_n 0, 1) := dk_42 (dk_at dksX1_acts_1 12 rfl rfl)
theorem dX1_acts_35 : decode cX1_acts 35 = .ok (.getfield 36, 3) := dk_180 0 36 (dk_at dksX1_acts_1 13 rfl rfl)
theorem dX1_acts_38 : decode cX1_acts 38 = .ok (.getfield 196, 3) := dk_180 0 196 (dk_at dksX1_acts_1 16 rfl rfl)
theorem dX1_acts_41 : decode cX1_acts 41 = .ok (.iastore, 1) := dk_79 (dk_at dksX1_acts_1 19 rfl rfl)
theorem dX1_acts_42 : decode cX1_acts 42 = .ok (.aload_n 0, 1) := dk_42 (dk_at dksX1_acts_1 20 rfl rfl)
theorem dX1_acts_43 : decode cX1_acts 43 = .ok (.dup, 1) := dk_89 (dk_at dksX1_acts_1 21 rfl rfl)
theorem dX1_acts_44 : decode cX1_acts 44 = .ok (.getfield 173, 3) := dk_180 0 173 (dk_at dksX1_acts_2 0 rfl rfl)
theorem dX1_acts_47 : decode cX1_acts 47 = .ok (.iconst 1, 1) := dk_4 (dk_at dksX1_acts_2 3 rfl rfl)
theorem dX1_acts_48 : decode cX1_acts 48 = .ok (.iadd, 1) := dk_96 (dk_at dksX1_acts_2 4 rfl rfl)
theorem dX1_acts_49 : decode cX1_acts 49 = .ok (.putfield 173, 3) := dk_181 0 173 (dk_at dksX1_acts_2 5 rfl rfl)
theorem dX1_acts_52 : decode cX1_acts 52 = .ok (.return_, 1) := dk_177 (dk_at dksX1_acts_2 8 rfl rfl)
abbrev cX1_part : ByteArray := prog_1_method_63_code
def yX1_part : MethodName := ⟨RX1, "part", "(II)I"⟩
def dkwX1_part_4 : List UInt8 := [182, 0, 176, 172]
abbrev dktX1_part_4 : List UInt8 := dkwX1_part_4 ++ []
def dkwX1_part_3 : List UInt8 := [185, 1, 106, 2, 0, 87, 42, 42, 180, 0, 36, 27, 28, 182, 0, 234, 153, 0, 7, 4, 167, 0, 4, 3]
abbrev dktX1_part_3 : List UInt8 := dkwX1_part_3 ++ dktX1_part_4
def dkwX1_part_2 : List UInt8 := [4, 182, 1, 102, 42, 180, 0, 23, 180, 0, 181, 187, 0, 157, 89, 27, 28, 183, 1, 104]
abbrev dktX1_part_2 : List UInt8 := dkwX1_part_2 ++ dktX1_part_3
def dkwX1_part_1 : List UInt8 := [42, 180, 0, 23, 180, 0, 181, 185, 0, 169, 1, 0, 16, 8, 160, 0, 9, 42, 6, 182, 0, 98, 172, 42]
abbrev dktX1_part_1 : List UInt8 := dkwX1_part_1 ++ dktX1_part_2
def dkwX1_part_0 : List UInt8 := [42, 5, 188, 10, 89, 3, 27, 79, 89, 4, 28, 79, 182, 0, 230, 154, 0, 9, 42, 4, 182, 0, 98, 172]
abbrev dktX1_part_0 : List UInt8 := dkwX1_part_0 ++ dktX1_part_1
theorem dksX1_part_0 : cX1_part.data.toList.drop 0 = dktX1_part_0 := by decide +kernel
theorem dksX1_part_1 : cX1_part.data.toList.drop 24 = dktX1_part_1 := dk_seg dksX1_part_0 24 rfl rfl
theorem dksX1_part_2 : cX1_part.data.toList.drop 48 = dktX1_part_2 := dk_seg dksX1_part_1 24 rfl rfl
theorem dksX1_part_3 : cX1_part.data.toList.drop 68 = dktX1_part_3 := dk_seg dksX1_part_2 20 rfl rfl
theorem dksX1_part_4 : cX1_part.data.toList.drop 92 = dktX1_part_4 := dk_seg dksX1_part_3 24 rfl rfl
theorem dX1_part_0 : decode cX1_part 0 = .ok (.aload_n 0, 1) := dk_42 (dk_at dksX1_part_0 0 rfl rfl)
theorem dX1_part_1 : decode cX1_part 1 = .ok (.iconst 2, 1) := dk_5 (dk_at dksX1_part_0 1 rfl rfl)
theorem dX1_part_2 : decode cX1_part 2 = .ok (.newarray .int, 2) := dk_188_10 (dk_at dksX1_part_0 2 rfl rfl)
theorem dX1_part_4 : decode cX1_part 4 = .ok (.dup, 1) := dk_89 (dk_at dksX1_part_0 4 rfl rfl)
theorem dX1_part_5 : decode cX1_part 5 = .ok (.iconst 0, 1) := dk_3 (dk_at dksX1_part_0 5 rfl rfl)
theorem dX1_part_6 : decode cX1_part 6 = .ok (.iload_n 1, 1) := dk_27 (dk_at dksX1_part_0 6 rfl rfl)
theorem dX1_part_7 : decode cX1_part 7 = .ok (.iastore, 1) := dk_79 (dk_at dksX1_part_0 7 rfl rfl)
theorem dX1_part_8 : decode cX1_part 8 = .ok (.dup, 1) := dk_89 (dk_at dksX1_part_0 8 rfl rfl)
theorem dX1_part_9 : decode cX1_part 9 = .ok (.iconst 1, 1) := dk_4 (dk_at dksX1_part_0 9 rfl rfl)
theorem dX1_part_10 : decode cX1_part 10 = .ok (.iload_n 2, 1) := dk_28 (dk_at dksX1_part_0 10 rfl rfl)
theorem dX1_part_11 : decode cX1_part 11 = .ok (.iastore, 1) := dk_79 (dk_at dksX1_part_0 11 rfl rfl)
theorem dX1_part_12 : decode cX1_part 12 = .ok (.invokevirtual 230, 3) := dk_182 0 230 (dk_at dksX1_part_0 12 rfl rfl)
theorem dX1_part_15 : decode cX1_part 15 = .ok (.ifCond .ne 9, 3) := dk_154 0 9 (dk_at dksX1_part_0 15 rfl rfl)
theorem dX1_part_18 : decode cX1_part 18 = .ok (.aload_n 0, 1) := dk_42 (dk_at dksX1_part_0 18 rfl rfl)
theorem dX1_part_19 : decode cX1_part 19 = .ok (.iconst 1, 1) := dk_4 (dk_at dksX1_part_0 19 rfl rfl)
theorem dX1_part_20 : decode cX1_part 20 = .ok (.invokevirtual 98, 3) := dk_182 0 98 (dk_at dksX1_part_0 20 rfl rfl)
theorem dX1_part_23 : decode cX1_part 23 = .ok (.ireturn, 1) := dk_172 (dk_at dksX1_part_0 23 rfl rfl)
theorem dX1_part_24 : decode cX1_part 24 = .ok (.aload_n 0, 1) := dk_42 (dk_at dksX1_part_1 0 rfl rfl)
theorem dX1_part_25 : decode cX1_part 25 = .ok (.getfield 23, 3) := dk_180 0 23 (dk_at dksX1_part_1 1 rfl rfl)
theorem dX1_part_28 : decode cX1_part 28 = .ok (.getfield 181, 3) := dk_180 0 181 (dk_at dksX1_part_1 4 rfl rfl)
theorem dX1_part_31 : decode cX1_part 31 = .ok (.invokeinterface 169 1, 5) := by decide +kernel
theorem dX1_part_36 : decode cX1_part 36 = .ok (.bipush 8, 2) := dk_16 8 (dk_at dksX1_part_1 12 rfl rfl)
theorem dX1_part_38 : decode cX1_part 38 = .ok (.if_icmp .ne 9, 3) := dk_160 0 9 (dk_at dksX1_part_1 14 rfl rfl)
theorem dX1_part_41 : decode cX1_part 41 = .ok (.aload_n 0, 1) := dk_42 (dk_at dksX1_part_1 17 rfl rfl)
theorem dX1_part_42 : decode cX1_part 42 = .ok (.iconst 3, 1) := dk_6 (dk_at dksX1_part_1 18 rfl rfl)
theorem dX1_part_43 : decode cX1_part 43 = .ok (.invokevirtual 98, 3) := dk_182 0 98 (dk_at dksX1_part_1 19 rfl rfl)
theorem dX1_part_46 : decode cX1_part 46 = .ok (.ireturn, 1) := dk_172 (dk_at dksX1_part_1 22 rfl rfl)
theorem dX1_part_47 : decode cX1_part 47 = .ok (.aload_n 0, 1) := dk_42 (dk_at dksX1_part_1 23 rfl rfl)
theorem dX1_part_48 : decode cX1_part 48 = .ok (.iconst 1, 1) := dk_4 (dk_at dksX1_part_2 0 rfl rfl)
theorem dX1_part_49 : decode cX1_part 49 = .ok (.invokevirtual 358, 3) := dk_182 1 102 (dk_at dksX1_part_2 1 rfl rfl)
theorem dX1_part_52 : decode cX1_part 52 = .ok (.aload_n 0, 1) := dk_42 (dk_at dksX1_part_2 4 rfl rfl)
theorem dX1_part_53 : decode cX1_part 53 = .ok (.getfield 23, 3) := dk_180 0 23 (dk_at dksX1_part_2 5 rfl rfl)
theorem dX1_part_56 : decode cX1_part 56 = .ok (.getfield 181, 3) := dk_180 0 181 (dk_at dksX1_part_2 8 rfl rfl)
theorem dX1_part_59 : decode cX1_part 59 = .ok (.new 157, 3) := dk_187 0 157 (dk_at dksX1_part_2 11 rfl rfl)
theorem dX1_part_62 : decode cX1_part 62 = .ok (.dup, 1) := dk_89 (dk_at dksX1_part_2 14 rfl rfl)
theorem dX1_part_63 : decode cX1_part 63 = .ok (.iload_n 1, 1) := dk_27 (dk_at dksX1_part_2 15 rfl rfl)
theorem dX1_part_64 : decode cX1_part 64 = .ok (.iload_n 2, 1) := dk_28 (dk_at dksX1_part_2 16 rfl rfl)
theorem dX1_part_65 : decode cX1_part 65 = .ok (.invokespecial 360, 3) := dk_183 1 104 (dk_at dksX1_part_2 17 rfl rfl)
theorem dX1_part_68 : decode cX1_part 68 = .ok (.invokeinterface 362 2, 5) := by decide +kernel
theorem dX1_part_73 : decode cX1_part 73 = .ok (.pop, 1) := dk_87 (dk_at dksX1_part_3 5 rfl rfl)
theorem dX1_part_74 : decode cX1_part 74 = .ok (.aload_n 0, 1) := dk_42 (dk_at dksX1_part_3 6 rfl rfl)
theorem dX1_part_75 : decode cX1_part 75 = .ok (.aload_n 0, 1) := dk_42 (dk_at dksX1_part_3 7 rfl rfl)
theorem dX1_part_76 : decode cX1_part 76 = .ok (.getfield 36, 3) := dk_180 0 36 (dk_at dksX1_part_3 8 rfl rfl)
theorem dX1_part_79 : decode cX1_part 79 = .ok (.iload_n 1, 1) := dk_27 (dk_at dksX1_part_3 11 rfl rfl)
theorem dX1_part_80 : decode cX1_part 80 = .ok (.iload_n 2, 1) := dk_28 (dk_at dksX1_part_3 12 rfl rfl)
theorem dX1_part_81 : decode cX1_part 81 = .ok (.invokevirtual 234, 3) := dk_182 0 234 (dk_at dksX1_part_3 13 rfl rfl)
theorem dX1_part_84 : decode cX1_part 84 = .ok (.ifCond .eq 7, 3) := dk_153 0 7 (dk_at dksX1_part_3 16 rfl rfl)
theorem dX1_part_87 : decode cX1_part 87 = .ok (.iconst 1, 1) := dk_4 (dk_at dksX1_part_3 19 rfl rfl)
theorem dX1_part_88 : decode cX1_part 88 = .ok (.goto 4, 3) := dk_167 0 4 (dk_at dksX1_part_3 20 rfl rfl)
theorem dX1_part_91 : decode cX1_part 91 = .ok (.iconst 0, 1) := dk_3 (dk_at dksX1_part_3 23 rfl rfl)
theorem dX1_part_92 : decode cX1_part 92 = .ok (.invokevirtual 176, 3) := dk_182 0 176 (dk_at dksX1_part_4 0 rfl rfl)
theorem dX1_part_95 : decode cX1_part 95 = .ok (.ireturn, 1) := dk_172 (dk_at dksX1_part_4 3 rfl rfl)
abbrev cX1_make : ByteArray := prog_1_method_64_code
def yX1_make : MethodName := ⟨RX1, "make", "(IIII)I"⟩
def dkwX1_make_7 : List UInt8 := [180, 0, 36, 182, 0, 147, 42, 182, 1, 113, 42, 42, 182, 0, 179, 4, 100, 182, 0, 176, 172]
abbrev dktX1_make_7 : List UInt8 := dkwX1_make_7 ++ []
def dkwX1_make_6 : List UInt8 := [180, 0, 29, 187, 0, 208, 89, 25, 5, 27, 25, 7, 183, 1, 110, 185, 1, 106, 2, 0, 87, 42]
abbrev dktX1_make_6 : List UInt8 := dkwX1_make_6 ++ dktX1_make_7
def dkwX1_make_5 : List UInt8 := [182, 0, 179, 16, 24, 160, 0, 9, 42, 6, 182, 0, 98, 172, 42, 5, 182, 1, 102, 42, 180, 0, 23]
abbrev dktX1_make_5 : List UInt8 := dkwX1_make_5 ++ dktX1_make_6
def dkwX1_make_4 : List UInt8 := [132, 8, 1, 167, 255, 235, 42, 25, 7, 182, 0, 230, 154, 0, 9, 42, 4, 182, 0, 98, 172, 42]
abbrev dktX1_make_4 : List UInt8 := dkwX1_make_4 ++ dktX1_make_5
def dkwX1_make_3 : List UInt8 := [58, 7, 3, 54, 8, 21, 8, 25, 7, 190, 162, 0, 19, 25, 7, 21, 8, 25, 6, 21, 8, 46, 79]
abbrev dktX1_make_3 : List UInt8 := dkwX1_make_3 ++ dktX1_make_4
def dkwX1_make_2 : List UInt8 := [188, 10, 89, 3, 28, 79, 89, 4, 29, 79, 89, 5, 21, 4, 79, 58, 6, 25, 5, 180, 0, 205, 188, 10]
abbrev dktX1_make_2 : List UInt8 := dkwX1_make_2 ++ dktX1_make_3
def dkwX1_make_1 : List UInt8 := [182, 0, 98, 172, 42, 180, 0, 23, 180, 0, 188, 27, 185, 0, 153, 2, 0, 192, 0, 203, 58, 5, 6]
abbrev dktX1_make_1 : List UInt8 := dkwX1_make_1 ++ dktX1_make_2
def dkwX1_make_0 : List UInt8 := [27, 3, 42, 180, 0, 23, 180, 0, 188, 185, 0, 169, 1, 0, 4, 100, 184, 0, 94, 154, 0, 9, 42, 4]
abbrev dktX1_make_0 : List UInt8 := dkwX1_make_0 ++ dktX1_make_1
theorem dksX1_make_0 : cX1_make.data.toList.drop 0 = dktX1_make_0 := by decide +kernel
theorem dksX1_make_1 : cX1_make.data.toList.drop 24 = dktX1_make_1 := dk_seg dksX1_make_0 24 rfl rfl
theorem dksX1_make_2 : cX1_make.data.toList.drop 47 = dktX1_make_2 := dk_seg dksX1_make_1 23 rfl rfl
theorem dksX1_make_3 : cX1_make.data.toList.drop 71 = dktX1_make_3 := dk_seg dksX1_make_2 24 rfl rfl
theorem dksX1_make_4 : cX1_make.data.toList.drop 94 = dktX1_make_4 := dk_seg dksX1_make_3 23 rfl rfl
theorem dksX1_make_5 : cX1_make.data.toList.drop 116 = dktX1_make_5 := dk_seg dksX1_make_4 22 rfl rfl
theorem dksX1_make_6 : cX1_make.data.toList.drop 139 = dktX1_make_6 := dk_seg dksX1_make_5 23 rfl rfl
theorem dksX1_make_7 : cX1_make.data.toList.drop 161 = dktX1_make_7 := dk_seg dksX1_make_6 22 rfl rfl
theorem dX1_make_0 : decode cX1_make 0 = .ok (.iload_n 1, 1) := dk_27 (dk_at dksX1_make_0 0 rfl rfl)
theorem dX1_make_1 : decode cX1_make 1 = .ok (.iconst 0, 1) := dk_3 (dk_at dksX1_make_0 1 rfl rfl)
theorem dX1_make_2 : decode cX1_make 2 = .ok (.aload_n 0, 1) := dk_42 (dk_at dksX1_make_0 2 rfl rfl)
theorem dX1_make_3 : decode cX1_make 3 = .ok (.getfield 23, 3) := dk_180 0 23 (dk_at dksX1_make_0 3 rfl rfl)
theorem dX1_make_6 : decode cX1_make 6 = .ok (.getfield 188, 3) := dk_180 0 188 (dk_at dksX1_make_0 6 rfl rfl)
theorem dX1_make_9 : decode cX1_make 9 = .ok (.invokeinterface 169 1, 5) := by decide +kernel
theorem dX1_make_14 : decode cX1_make 14 = .ok (.iconst 1, 1) := dk_4 (dk_at dksX1_make_0 14 rfl rfl)
theorem dX1_make_15 : decode cX1_make 15 = .ok (.isub, 1) := dk_100 (dk_at dksX1_make_0 15 rfl rfl)
theorem dX1_make_16 : decode cX1_make 16 = .ok (.invokestatic 94, 3) := dk_184 0 94 (dk_at dksX1_make_0 16 rfl rfl)
theorem dX1_make_19 : decode cX1_make 19 = .ok (.ifCond .ne 9, 3) := dk_154 0 9 (dk_at dksX1_make_0 19 rfl rfl)
theorem dX1_make_22 : decode cX1_make 22 = .ok (.aload_n 0, 1) := dk_42 (dk_at dksX1_make_0 22 rfl rfl)
theorem dX1_make_23 : decode cX1_make 23 = .ok (.iconst 1, 1) := dk_4 (dk_at dksX1_make_0 23 rfl rfl)
theorem dX1_make_24 : decode cX1_make 24 = .ok (.invokevirtual 98, 3) := dk_182 0 98 (dk_at dksX1_make_1 0 rfl rfl)
theorem dX1_make_27 : decode cX1_make 27 = .ok (.ireturn, 1) := dk_172 (dk_at dksX1_make_1 3 rfl rfl)
theorem dX1_make_28 : decode cX1_make 28 = .ok (.aload_n 0, 1) := dk_42 (dk_at dksX1_make_1 4 rfl rfl)
theorem dX1_make_29 : decode cX1_make 29 = .ok (.getfield 23, 3) := dk_180 0 23 (dk_at dksX1_make_1 5 rfl rfl)
theorem dX1_make_32 : decode cX1_make 32 = .ok (.getfield 188, 3) := dk_180 0 188 (dk_at dksX1_make_1 8 rfl rfl)
theorem dX1_make_35 : decode cX1_make 35 = .ok (.iload_n 1, 1) := dk_27 (dk_at dksX1_make_1 11 rfl rfl)
theorem dX1_make_36 : decode cX1_make 36 = .ok (.invokeinterface 153 2, 5) := by decide +kernel
theorem dX1_make_41 : decode cX1_make 41 = .ok (.checkcast 203, 3) := dk_192 0 203 (dk_at dksX1_make_1 17 rfl rfl)
theorem dX1_make_44 : decode cX1_make 44 = .ok (.astore 5, 2) := dk_58 5 (dk_at dksX1_make_1 20 rfl rfl)
theorem dX1_make_46 : decode cX1_make 46 = .ok (.iconst 3, 1) := dk_6 (dk_at dksX1_make_1 22 rfl rfl)
theorem dX1_make_47 : decode cX1_make 47 = .ok (.newarray .int, 2) := dk_188_10 (dk_at dksX1_make_2 0 rfl rfl)
theorem dX1_make_49 : decode cX1_make 49 = .ok (.dup, 1) := dk_89 (dk_at dksX1_make_2 2 rfl rfl)
theorem dX1_make_50 : decode cX1_make 50 = .ok (.iconst 0, 1) := dk_3 (dk_at dksX1_make_2 3 rfl rfl)
theorem dX1_make_51 : decode cX1_make 51 = .ok (.iload_n 2, 1) := dk_28 (dk_at dksX1_make_2 4 rfl rfl)
theorem dX1_make_52 : decode cX1_make 52 = .ok (.iastore, 1) := dk_79 (dk_at dksX1_make_2 5 rfl rfl)
theorem dX1_make_53 : decode cX1_make 53 = .ok (.dup, 1) := dk_89 (dk_at dksX1_make_2 6 rfl rfl)
theorem dX1_make_54 : decode cX1_make 54 = .ok (.iconst 1, 1) := dk_4 (dk_at dksX1_make_2 7 rfl rfl)
theorem dX1_make_55 : decode cX1_make 55 = .ok (.iload_n 3, 1) := dk_29 (dk_at dksX1_make_2 8 rfl rfl)
theorem dX1_make_56 : decode cX1_make 56 = .ok (.iastore, 1) := dk_79 (dk_at dksX1_make_2 9 rfl rfl)
theorem dX1_make_57 : decode cX1_make 57 = .ok (.dup, 1) := dk_89 (dk_at dksX1_make_2 10 rfl rfl)
theorem dX1_make_58 : decode cX1_make 58 = .ok (.iconst 2, 1) := dk_5 (dk_at dksX1_make_2 11 rfl rfl)
theorem dX1_make_59 : decode cX1_make 59 = .ok (.iload 4, 2) := dk_21 4 (dk_at dksX1_make_2 12 rfl rfl)
theorem dX1_make_61 : decode cX1_make 61 = .ok (.iastore, 1) := dk_79 (dk_at dksX1_make_2 14 rfl rfl)
theorem dX1_make_62 : decode cX1_make 62 = .ok (.astore 6, 2) := dk_58 6 (dk_at dksX1_make_2 15 rfl rfl)
theorem dX1_make_64 : decode cX1_make 64 = .ok (.aload 5, 2) := dk_25 5 (dk_at dksX1_make_2 17 rfl rfl)
theorem dX1_make_66 : decode cX1_make 66 = .ok (.getfield 205, 3) := dk_180 0 205 (dk_at dksX1_make_2 19 rfl rfl)
theorem dX1_make_69 : decode cX1_make 69 = .ok (.newarray .int, 2) := dk_188_10 (dk_at dksX1_make_2 22 rfl rfl)
theorem dX1_make_71 : decode cX1_make 71 = .ok (.astore 7, 2) := dk_58 7 (dk_at dksX1_make_3 0 rfl rfl)
theorem dX1_make_73 : decode cX1_make 73 = .ok (.iconst 0, 1) := dk_3 (dk_at dksX1_make_3 2 rfl rfl)
theorem dX1_make_74 : decode cX1_make 74 = .ok (.istore 8, 2) := dk_54 8 (dk_at dksX1_make_3 3 rfl rfl)
theorem dX1_make_76 : decode cX1_make 76 = .ok (.iload 8, 2) := dk_21 8 (dk_at dksX1_make_3 5 rfl rfl)
theorem dX1_make_78 : decode cX1_make 78 = .ok (.aload 7, 2) := dk_25 7 (dk_at dksX1_make_3 7 rfl rfl)
theorem dX1_make_80 : decode cX1_make 80 = .ok (.arraylength, 1) := dk_190 (dk_at dksX1_make_3 9 rfl rfl)
theorem dX1_make_81 : decode cX1_make 81 = .ok (.if_icmp .ge 19, 3) := dk_162 0 19 (dk_at dksX1_make_3 10 rfl rfl)
theorem dX1_make_84 : decode cX1_make 84 = .ok (.aload 7, 2) := dk_25 7 (dk_at dksX1_make_3 13 rfl rfl)
theorem dX1_make_86 : decode cX1_make 86 = .ok (.iload 8, 2) := dk_21 8 (dk_at dksX1_make_3 15 rfl rfl)
theorem dX1_make_88 : decode cX1_make 88 = .ok (.aload 6, 2) := dk_25 6 (dk_at dksX1_make_3 17 rfl rfl)
theorem dX1_make_90 : decode cX1_make 90 = .ok (.iload 8, 2) := dk_21 8 (dk_at dksX1_make_3 19 rfl rfl)
theorem dX1_make_92 : decode cX1_make 92 = .ok (.iaload, 1) := dk_46 (dk_at dksX1_make_3 21 rfl rfl)
theorem dX1_make_93 : decode cX1_make 93 = .ok (.iastore, 1) := dk_79 (dk_at dksX1_make_3 22 rfl rfl)
theorem dX1_make_94 : decode cX1_make 94 = .ok (.iinc 8 1, 3) := dk_132 8 1 (dk_at dksX1_make_4 0 rfl rfl)
theorem dX1_make_97 : decode cX1_make 97 = .ok (.goto (-21), 3) := dk_167 255 235 (dk_at dksX1_make_4 3 rfl rfl)
theorem dX1_make_100 : decode cX1_make 100 = .ok (.aload_n 0, 1) := dk_42 (dk_at dksX1_make_4 6 rfl rfl)
theorem dX1_make_101 : decode cX1_make 101 = .ok (.aload 7, 2) := dk_25 7 (dk_at dksX1_make_4 7 rfl rfl)
theorem dX1_make_103 : decode cX1_make 103 = .ok (.invokevirtual 230, 3) := dk_182 0 230 (dk_at dksX1_make_4 9 rfl rfl)
theorem dX1_make_106 : decode cX1_make 106 = .ok (.ifCond .ne 9, 3) := dk_154 0 9 (dk_at dksX1_make_4 12 rfl rfl)
theorem dX1_make_109 : decode cX1_make 109 = .ok (.aload_n 0, 1) := dk_42 (dk_at dksX1_make_4 15 rfl rfl)
theorem dX1_make_110 : decode cX1_make 110 = .ok (.iconst 1, 1) := dk_4 (dk_at dksX1_make_4 16 rfl rfl)
theorem dX1_make_111 : decode cX1_make 111 = .ok (.invokevirtual 98, 3) := dk_182 0 98 (dk_at dksX1_make_4 17 rfl rfl)
theorem dX1_make_114 : decode cX1_make 114 = .ok (.ireturn, 1) := dk_172 (dk_at dksX1_make_4 20 rfl rfl)
theorem dX1_make_115 : decode cX1_make 115 = .ok (.aload_n 0, 1) := dk_42 (dk_at dksX1_make_4 21 rfl rfl)
theorem dX1_make_116 : decode cX1_make 116 = .ok (.invokevirtual 179, 3) := dk_182 0 179 (dk_at dksX1_make_5 0 rfl rfl)
theorem dX1_make_119 : decode cX1_make 119 = .ok (.bipush 24, 2) := dk_16 24 (dk_at dksX1_make_5 3 rfl rfl)
theorem dX1_make_121 : decode cX1_make 121 = .ok (.if_icmp .ne 9, 3) := dk_160 0 9 (dk_at dksX1_make_5 5 rfl rfl)
theorem dX1_make_124 : decode cX1_make 124 = .ok (.aload_n 0, 1) := dk_42 (dk_at dksX1_make_5 8 rfl rfl)
theorem dX1_make_125 : decode cX1_make 125 = .ok (.iconst 3, 1) := dk_6 (dk_at dksX1_make_5 9 rfl rfl)
theorem dX1_make_126 : decode cX1_make 126 = .ok (.invokevirtual 98, 3) := dk_182 0 98 (dk_at dksX1_make_5 10 rfl rfl)
theorem dX1_make_129 : decode cX1_make 129 = .ok (.ireturn, 1) := dk_172 (dk_at dksX1_make_5 13 rfl rfl)
theorem dX1_make_130 : decode cX1_make 130 = .ok (.aload_n 0, 1) := dk_42 (dk_at dksX1_make_5 14 rfl rfl)
theorem dX1_make_131 : decode cX1_make 131 = .ok (.iconst 2, 1) := dk_5 (dk_at dksX1_make_5 15 rfl rfl)
theorem dX1_make_132 : decode cX1_make 132 = .ok (.invokevirtual 358, 3) := dk_182 1 102 (dk_at dksX1_make_5 16 rfl rfl)
theorem dX1_make_135 : decode cX1_make 135 = .ok (.aload_n 0, 1) := dk_42 (dk_at dksX1_make_5 19 rfl rfl)
theorem dX1_make_136 : decode cX1_make 136 = .ok (.getfield 23, 3) := dk_180 0 23 (dk_at dksX1_make_5 20 rfl rfl)
theorem dX1_make_139 : decode cX1_make 139 = .ok (.getfield 29, 3) := dk_180 0 29 (dk_at dksX1_make_6 0 rfl rfl)
theorem dX1_make_142 : decode cX1_make 142 = .ok (.new 208, 3) := dk_187 0 208 (dk_at dksX1_make_6 3 rfl rfl)
theorem dX1_make_145 : decode cX1_make 145 = .ok (.dup, 1) := dk_89 (dk_at dksX1_make_6 6 rfl rfl)
theorem dX1_make_146 : decode cX1_make 146 = .ok (.aload 5, 2) := dk_25 5 (dk_at dksX1_make_6 7 rfl rfl)
theorem dX1_make_148 : decode cX1_make 148 = .ok (.iload_n 1, 1) := dk_27 (dk_at dksX1_make_6 9 rfl rfl)
theorem dX1_make_149 : decode cX1_make 149 = .ok (.aload 7, 2) := dk_25 7 (dk_at dksX1_make_6 10 rfl rfl)
theorem dX1_make_151 : decode cX1_make 151 = .ok (.invokespecial 366, 3) := dk_183 1 110 (dk_at dksX1_make_6 12 rfl rfl)
theorem dX1_make_154 : decode cX1_make 154 = .ok (.invokeinterface 362 2, 5) := by decide +kernel
theorem dX1_make_159 : decode cX1_make 159 = .ok (.pop, 1) := dk_87 (dk_at dksX1_make_6 20 rfl rfl)
theorem dX1_make_160 : decode cX1_make 160 = .ok (.aload_n 0, 1) := dk_42 (dk_at dksX1_make_6 21 rfl rfl)
theorem dX1_make_161 : decode cX1_make 161 = .ok (.getfield 36, 3) := dk_180 0 36 (dk_at dksX1_make_7 0 rfl rfl)
theorem dX1_make_164 : decode cX1_make 164 = .ok (.invokevirtual 147, 3) := dk_182 0 147 (dk_at dksX1_make_7 3 rfl rfl)
theorem dX1_make_167 : decode cX1_make 167 = .ok (.aload_n 0, 1) := dk_42 (dk_at dksX1_make_7 6 rfl rfl)
theorem dX1_make_168 : decode cX1_make 168 = .ok (.invokevirtual 369, 3) := dk_182 1 113 (dk_at dksX1_make_7 7 rfl rfl)
theorem dX1_make_171 : decode cX1_make 171 = .ok (.aload_n 0, 1) := dk_42 (dk_at dksX1_make_7 10 rfl rfl)
theorem dX1_make_172 : decode cX1_make 172 = .ok (.aload_n 0, 1) := dk_42 (dk_at dksX1_make_7 11 rfl rfl)
theorem dX1_make_173 : decode cX1_make 173 = .ok (.invokevirtual 179, 3) := dk_182 0 179 (dk_at dksX1_make_7 12 rfl rfl)
theorem dX1_make_176 : decode cX1_make 176 = .ok (.iconst 1, 1) := dk_4 (dk_at dksX1_make_7 15 rfl rfl)
theorem dX1_make_177 : decode cX1_make 177 = .ok (.isub, 1) := dk_100 (dk_at dksX1_make_7 16 rfl rfl)
theorem dX1_make_178 : decode cX1_make 178 = .ok (.invokevirtual 176, 3) := dk_182 0 176 (dk_at dksX1_make_7 17 rfl rfl)
theorem dX1_make_181 : decode cX1_make 181 = .ok (.ireturn, 1) := dk_172 (dk_at dksX1_make_7 20 rfl rfl)
abbrev cX1_lays : ByteArray := prog_1_method_65_code
def yX1_lays : MethodName := ⟨RX1, "lays", "()V"⟩
def dkwX1_lays_1 : List UInt8 := [182, 0, 172, 132, 1, 1, 167, 255, 238, 177]
abbrev dktX1_lays_1 : List UInt8 := dkwX1_lays_1 ++ []
def dkwX1_lays_0 : List UInt8 := [42, 180, 0, 43, 3, 181, 1, 116, 3, 60, 27, 42, 182, 0, 179, 162, 0, 16, 42, 180, 0, 43]
abbrev dktX1_lays_0 : List UInt8 := dkwX1_lays_0 ++ dktX1_lays_1
theorem dksX1_lays_0 : cX1_lays.data.toList.drop 0 = dktX1_lays_0 := by decide +kernel
theorem dksX1_lays_1 : cX1_lays.data.toList.drop 22 = dktX1_lays_1 := dk_seg dksX1_lays_0 22 rfl rfl
theorem dX1_lays_0 : decode cX1_lays 0 = .ok (.aload_n 0, 1) := dk_42 (dk_at dksX1_lays_0 0 rfl rfl)
theorem dX1_lays_1 : decode cX1_lays 1 = .ok (.getfield 43, 3) := dk_180 0 43 (dk_at dksX1_lays_0 1 rfl rfl)
theorem dX1_lays_4 : decode cX1_lays 4 = .ok (.iconst 0, 1) := dk_3 (dk_at dksX1_lays_0 4 rfl rfl)
theorem dX1_lays_5 : decode cX1_lays 5 = .ok (.putfield 372, 3) := dk_181 1 116 (dk_at dksX1_lays_0 5 rfl rfl)
theorem dX1_lays_8 : decode cX1_lays 8 = .ok (.iconst 0, 1) := dk_3 (dk_at dksX1_lays_0 8 rfl rfl)
theorem dX1_lays_9 : decode cX1_lays 9 = .ok (.istore_n 1, 1) := dk_60 (dk_at dksX1_lays_0 9 rfl rfl)
theorem dX1_lays_10 : decode cX1_lays 10 = .ok (.iload_n 1, 1) := dk_27 (dk_at dksX1_lays_0 10 rfl rfl)
theorem dX1_lays_11 : decode cX1_lays 11 = .ok (.aload_n 0, 1) := dk_42 (dk_at dksX1_lays_0 11 rfl rfl)
theorem dX1_lays_12 : decode cX1_lays 12 = .ok (.invokevirtual 179, 3) := dk_182 0 179 (dk_at dksX1_lays_0 12 rfl rfl)
theorem dX1_lays_15 : decode cX1_lays 15 = .ok (.if_icmp .ge 16, 3) := dk_162 0 16 (dk_at dksX1_lays_0 15 rfl rfl)
theorem dX1_lays_18 : decode cX1_lays 18 = .ok (.aload_n 0, 1) := dk_42 (dk_at dksX1_lays_0 18 rfl rfl)
theorem dX1_lays_19 : decode cX1_lays 19 = .ok (.getfield 43, 3) := dk_180 0 43 (dk_at dksX1_lays_0 19 rfl rfl)
theorem dX1_lays_22 : decode cX1_lays 22 = .ok (.invokevirtual 172, 3) := dk_182 0 172 (dk_at dksX1_lays_1 0 rfl rfl)
theorem dX1_lays_25 : decode cX1_lays 25 = .ok (.iinc 1 1, 3) := dk_132 1 1 (dk_at dksX1_lays_1 3 rfl rfl)
theorem dX1_lays_28 : decode cX1_lays 28 = .ok (.goto (-18), 3) := dk_167 255 238 (dk_at dksX1_lays_1 6 rfl rfl)
theorem dX1_lays_31 : decode cX1_lays 31 = .ok (.return_, 1) := dk_177 (dk_at dksX1_lays_1 9 rfl rfl)
abbrev cX1_undo : ByteArray := prog_1_method_66_code
def yX1_undo : MethodName := ⟨RX1, "undo", "()Z"⟩
def dkwX1_undo_7 : List UInt8 := [172]
abbrev dktX1_undo_7 : List UInt8 := dkwX1_undo_7 ++ []
def dkwX1_undo_6 : List UInt8 := [185, 1, 117, 2, 0, 87, 42, 180, 0, 36, 89, 180, 1, 120, 4, 100, 181, 1, 120, 42, 182, 1, 113, 4]
abbrev dktX1_undo_6 : List UInt8 := dkwX1_undo_6 ++ dktX1_undo_7
def dkwX1_undo_5 : List UInt8 := [185, 1, 117, 2, 0, 87, 167, 0, 39, 42, 180, 0, 23, 180, 0, 29, 42, 182, 0, 179, 4, 100]
abbrev dktX1_undo_5 : List UInt8 := dkwX1_undo_5 ++ dktX1_undo_6
def dkwX1_undo_4 : List UInt8 := [160, 0, 33, 42, 180, 0, 23, 180, 0, 181, 42, 180, 0, 23, 180, 0, 181, 185, 0, 169, 1, 0, 4, 100]
abbrev dktX1_undo_4 : List UInt8 := dkwX1_undo_4 ++ dktX1_undo_5
def dkwX1_undo_3 : List UInt8 := [182, 0, 191, 4, 100, 185, 1, 117, 2, 0, 87, 167, 0, 82, 42, 180, 0, 50, 42, 180, 0, 173, 46, 4]
abbrev dktX1_undo_3 : List UInt8 := dkwX1_undo_3 ++ dktX1_undo_4
def dkwX1_undo_2 : List UInt8 := [181, 0, 196, 42, 180, 0, 50, 42, 180, 0, 173, 46, 154, 0, 25, 42, 180, 0, 23, 180, 0, 150, 42]
abbrev dktX1_undo_2 : List UInt8 := dkwX1_undo_2 ++ dktX1_undo_3
def dkwX1_undo_1 : List UInt8 := [180, 0, 54, 42, 180, 0, 173, 46, 182, 1, 98, 42, 180, 0, 36, 42, 180, 0, 57, 42, 180, 0, 173, 46]
abbrev dktX1_undo_1 : List UInt8 := dkwX1_undo_1 ++ dktX1_undo_2
def dkwX1_undo_0 : List UInt8 := [42, 180, 0, 173, 154, 0, 5, 3, 172, 42, 89, 180, 0, 173, 4, 100, 181, 0, 173, 42, 180, 0, 36, 42]
abbrev dktX1_undo_0 : List UInt8 := dkwX1_undo_0 ++ dktX1_undo_1
theorem dksX1_undo_0 : cX1_undo.data.toList.drop 0 = dktX1_undo_0 := by decide +kernel
theorem dksX1_undo_1 : cX1_undo.data.toList.drop 24 = dktX1_undo_1 := dk_seg dksX1_undo_0 24 rfl rfl
theorem dksX1_undo_2 : cX1_undo.data.toList.drop 48 = dktX1_undo_2 := dk_seg dksX1_undo_1 24 rfl rfl
theorem dksX1_undo_3 : cX1_undo.data.toList.drop 71 = dktX1_undo_3 := dk_seg dksX1_undo_2 23 rfl rfl
theorem dksX1_undo_4 : cX1_undo.data.toList.drop 95 = dktX1_undo_4 := dk_seg dksX1_undo_3 24 rfl rfl
theorem dksX1_undo_5 : cX1_undo.data.toList.drop 119 = dktX1_undo_5 := dk_seg dksX1_undo_4 24 rfl rfl
theorem dksX1_undo_6 : cX1_undo.data.toList.drop 141 = dktX1_undo_6 := dk_seg dksX1_undo_5 22 rfl rfl
theorem dksX1_undo_7 : cX1_undo.data.toList.drop 165 = dktX1_undo_7 := dk_seg dksX1_undo_6 24 rfl rfl
theorem dX1_undo_0 : decode cX1_undo 0 = .ok (.aload_n 0, 1) := dk_42 (dk_at dksX1_undo_0 0 rfl rfl)
theorem dX1_undo_1 : decode cX1_undo 1 = .ok (.getfield 173, 3) := dk_180 0 173 (dk_at dksX1_undo_0 1 rfl rfl)
theorem dX1_undo_4 : decode cX1_undo 4 = .ok (.ifCond .ne 5, 3) := dk_154 0 5 (dk_at dksX1_undo_0 4 rfl rfl)
theorem dX1_undo_7 : decode cX1_undo 7 = .ok (.iconst 0, 1) := dk_3 (dk_at dksX1_undo_0 7 rfl rfl)
theorem dX1_undo_8 : decode cX1_undo 8 = .ok (.ireturn, 1) := dk_172 (dk_at dksX1_undo_0 8 rfl rfl)
theorem dX1_undo_9 : decode cX1_undo 9 = .ok (.aload_n 0, 1) := dk_42 (dk_at dksX1_undo_0 9 rfl rfl)
theorem dX1_undo_10 : decode cX1_undo 10 = .ok (.dup, 1) := dk_89 (dk_at dksX1_undo_0 10 rfl rfl)
theorem dX1_undo_11 : decode cX1_undo 11 = .ok (.getfield 173, 3) := dk_180 0 173 (dk_at dksX1_undo_0 11 rfl rfl)
theorem dX1_undo_14 : decode cX1_undo 14 = .ok (.iconst 1, 1) := dk_4 (dk_at dksX1_undo_0 14 rfl rfl)
theorem dX1_undo_15 : decode cX1_undo 15 = .ok (.isub, 1) := dk_100 (dk_at dksX1_undo_0 15 rfl rfl)
theorem dX1_undo_16 : decode cX1_undo 16 = .ok (.putfield 173, 3) := dk_181 0 173 (dk_at dksX1_undo_0 16 rfl rfl)
theorem dX1_undo_19 : decode cX1_undo 19 = .ok (.aload_n 0, 1) := dk_42 (dk_at dksX1_undo_0 19 rfl rfl)
theorem dX1_undo_20 : decode cX1_undo 20 = .ok (.getfield 36, 3) := dk_180 0 36 (dk_at dksX1_undo_0 20 rfl rfl)
theorem dX1_undo_23 : decode cX1_undo 23 = .ok (.aload_n 0, 1) := dk_42 (dk_at dksX1_undo_0 23 rfl rfl)
theorem dX1_undo_24 : decode cX1_undo 24 = .ok (.getfield 54, 3) := dk_180 0 54 (dk_at dksX1_undo_1 0 rfl rfl)
theorem dX1_undo_27 : decode cX1_undo 27 = .ok (.aload_n 0, 1) := dk_42 (dk_at dksX1_undo_1 3 rfl rfl)
theorem dX1_undo_28 : decode cX1_undo 28 = .ok (.getfield 173, 3) := dk_180 0 173 (dk_at dksX1_undo_1 4 rfl rfl)
theorem dX1_undo_31 : decode cX1_undo 31 = .ok (.iaload, 1) := dk_46 (dk_at dksX1_undo_1 7 rfl rfl)
theorem dX1_undo_32 : decode cX1_undo 32 = .ok (.invokevirtual 354, 3) := dk_182 1 98 (dk_at dksX1_undo_1 8 rfl rfl)
theorem dX1_undo_35 : decode cX1_undo 35 = .ok (.aload_n 0, 1) := dk_42 (dk_at dksX1_undo_1 11 rfl rfl)
theorem dX1_undo_36 : decode cX1_undo 36 = .ok (.getfield 36, 3) := dk_180 0 36 (dk_at dksX1_undo_1 12 rfl rfl)
theorem dX1_undo_39 : decode cX1_undo 39 = .ok (.aload_n 0, 1) := dk_42 (dk_at dksX1_undo_1 15 rfl rfl)
theorem dX1_undo_40 : decode cX1_undo 40 = .ok (.getfield 57, 3) := dk_180 0 57 (dk_at dksX1_undo_1 16 rfl rfl)
theorem dX1_undo_43 : decode cX1_undo 43 = .ok (.aload_n 0, 1) := dk_42 (dk_at dksX1_undo_1 19 rfl rfl)
theorem dX1_undo_44 : decode cX1_undo 44 = .ok (.getfield 173, 3) := dk_180 0 173 (dk_at dksX1_undo_1 20 rfl rfl)
theorem dX1_undo_47 : decode cX1_undo 47 = .ok (.iaload, 1) := dk_46 (dk_at dksX1_undo_1 23 rfl rfl)
theorem dX1_undo_48 : decode cX1_undo 48 = .ok (.putfield 196, 3) := dk_181 0 196 (dk_at dksX1_undo_2 0 rfl rfl)
theorem dX1_undo_51 : decode cX1_undo 51 = .ok (.aload_n 0, 1) := dk_42 (dk_at dksX1_undo_2 3 rfl rfl)
theorem dX1_undo_52 : decode cX1_undo 52 = .ok (.getfield 50, 3) := dk_180 0 50 (dk_at dksX1_undo_2 4 rfl rfl)
theorem dX1_undo_55 : decode cX1_undo 55 = .ok (.aload_n 0, 1) := dk_42 (dk_at dksX1_undo_2 7 rfl rfl)
theorem dX1_undo_56 : decode cX1_undo 56 = .ok (.getfield 173, 3) := dk_180 0 173 (dk_at dksX1_undo_2 8 rfl rfl)
theorem dX1_undo_59 : decode cX1_undo 59 = .ok (.iaload, 1) := dk_46 (dk_at dksX1_undo_2 11 rfl rfl)
theorem dX1_undo_60 : decode cX1_undo 60 = .ok (.ifCond .ne 25, 3) := dk_154 0 25 (dk_at dksX1_undo_2 12 rfl rfl)
theorem dX1_undo_63 : decode cX1_undo 63 = .ok (.aload_n 0, 1) := dk_42 (dk_at dksX1_undo_2 15 rfl rfl)
theorem dX1_undo_64 : decode cX1_undo 64 = .ok (.getfield 23, 3) := dk_180 0 23 (dk_at dksX1_undo_2 16 rfl rfl)
theorem dX1_undo_67 : decode cX1_undo 67 = .ok (.getfield 150, 3) := dk_180 0 150 (dk_at dksX1_undo_2 19 rfl rfl)
theorem dX1_undo_70 : decode cX1_undo 70 = .ok (.aload_n 0, 1) := dk_42 (dk_at dksX1_undo_2 22 rfl rfl)
theorem dX1_undo_71 : decode cX1_undo 71 = .ok (.invokevirtual 191, 3) := dk_182 0 191 (dk_at dksX1_undo_3 0 rfl rfl)
theorem dX1_undo_74 : decode cX1_undo 74 = .ok (.iconst 1, 1) := dk_4 (dk_at dksX1_undo_3 3 rfl rfl)
theorem dX1_undo_75 : decode cX1_undo 75 = .ok (.isub, 1) := dk_100 (dk_at dksX1_undo_3 4 rfl rfl)
theorem dX1_undo_76 : decode cX1_undo 76 = .ok (.invokeinterface 373 2, 5) := by decide +kernel
theorem dX1_undo_81 : decode cX1_undo 81 = .ok (.pop, 1) := dk_87 (dk_at dksX1_undo_3 10 rfl rfl)
theorem dX1_undo_82 : decode cX1_undo 82 = .ok (.goto 82, 3) := dk_167 0 82 (dk_at dksX1_undo_3 11 rfl rfl)
theorem dX1_undo_85 : decode cX1_undo 85 = .ok (.aload_n 0, 1) := dk_42 (dk_at dksX1_undo_3 14 rfl rfl)
theorem dX1_undo_86 : decode cX1_undo 86 = .ok (.getfield 50, 3) := dk_180 0 50 (dk_at dksX1_undo_3 15 rfl rfl)
theorem dX1_undo_89 : decode cX1_undo 89 = .ok (.aload_n 0, 1) := dk_42 (dk_at dksX1_undo_3 18 rfl rfl)
theorem dX1_undo_90 : decode cX1_undo 90 = .ok (.getfield 173, 3) := dk_180 0 173 (dk_at dksX1_undo_3 19 rfl rfl)
theorem dX1_undo_93 : decode cX1_undo 93 = .ok (.iaload, 1) := dk_46 (dk_at dksX1_undo_3 22 rfl rfl)
theorem dX1_undo_94 : decode cX1_undo 94 = .ok (.iconst 1, 1) := dk_4 (dk_at dksX1_undo_3 23 rfl rfl)
theorem dX1_undo_95 : decode cX1_undo 95 = .ok (.if_icmp .ne 33, 3) := dk_160 0 33 (dk_at dksX1_undo_4 0 rfl rfl)
theorem dX1_undo_98 : decode cX1_undo 98 = .ok (.aload_n 0, 1) := dk_42 (dk_at dksX1_undo_4 3 rfl rfl)
theorem dX1_undo_99 : decode cX1_undo 99 = .ok (.getfield 23, 3) := dk_180 0 23 (dk_at dksX1_undo_4 4 rfl rfl)
theorem dX1_undo_102 : decode cX1_undo 102 = .ok (.getfield 181, 3) := dk_180 0 181 (dk_at dksX1_undo_4 7 rfl rfl)
theorem dX1_undo_105 : decode cX1_undo 105 = .ok (.aload_n 0, 1) := dk_42 (dk_at dksX1_undo_4 10 rfl rfl)
theorem dX1_undo_106 : decode cX1_undo 106 = .ok (.getfield 23, 3) := dk_180 0 23 (dk_at dksX1_undo_4 11 rfl rfl)
theorem dX1_undo_109 : decode cX1_undo 109 = .ok (.getfield 181, 3) := dk_180 0 181 (dk_at dksX1_undo_4 14 rfl rfl)
theorem dX1_undo_112 : decode cX1_undo 112 = .ok (.invokeinterface 169 1, 5) := by decide +kernel
theorem dX1_undo_117 : decode cX1_undo 117 = .ok (.iconst 1, 1) := dk_4 (dk_at dksX1_undo_4 22 rfl rfl)
theorem dX1_undo_118 : decode cX1_undo 118 = .ok (.isub, 1) := dk_100 (dk_at dksX1_undo_4 23 rfl rfl)
theorem dX1_undo_119 : decode cX1_undo 119 = .ok (.invokeinterface 373 2, 5) := by decide +kernel
theorem dX1_undo_124 : decode cX1_undo 124 = .ok (.pop, 1) := dk_87 (dk_at dksX1_undo_5 5 rfl rfl)
theorem dX1_undo_125 : decode cX1_undo 125 = .ok (.goto 39, 3) := dk_167 0 39 (dk_at dksX1_undo_5 6 rfl rfl)
theorem dX1_undo_128 : decode cX1_undo 128 = .ok (.aload_n 0, 1) := dk_42 (dk_at dksX1_undo_5 9 rfl rfl)
theorem dX1_undo_129 : decode cX1_undo 129 = .ok (.getfield 23, 3) := dk_180 0 23 (dk_at dksX1_undo_5 10 rfl rfl)
theorem dX1_undo_132 : decode cX1_undo 132 = .ok (.getfield 29, 3) := dk_180 0 29 (dk_at dksX1_undo_5 13 rfl rfl)
theorem dX1_undo_135 : decode cX1_undo 135 = .ok (.aload_n 0, 1) := dk_42 (dk_at dksX1_undo_5 16 rfl rfl)
theorem dX1_undo_136 : decode cX1_undo 136 = .ok (.invokevirtual 179, 3) := dk_182 0 179 (dk_at dksX1_undo_5 17 rfl rfl)
theorem dX1_undo_139 : decode cX1_undo 139 = .ok (.iconst 1, 1) := dk_4 (dk_at dksX1_undo_5 20 rfl rfl)
theorem dX1_undo_140 : decode cX1_undo 140 = .ok (.isub, 1) := dk_100 (dk_at dksX1_undo_5 21 rfl rfl)
theorem dX1_undo_141 : decode cX1_undo 141 = .ok (.invokeinterface 373 2, 5) := by decide +kernel
theorem dX1_undo_146 : decode cX1_undo 146 = .ok (.pop, 1) := dk_87 (dk_at dksX1_undo_6 5 rfl rfl)
theorem dX1_undo_147 : decode cX1_undo 147 = .ok (.aload_n 0, 1) := dk_42 (dk_at dksX1_undo_6 6 rfl rfl)
theorem dX1_undo_148 : decode cX1_undo 148 = .ok (.getfield 36, 3) := dk_180 0 36 (dk_at dksX1_undo_6 7 rfl rfl)
theorem dX1_undo_151 : decode cX1_undo 151 = .ok (.dup, 1) := dk_89 (dk_at dksX1_undo_6 10 rfl rfl)
theorem dX1_undo_152 : decode cX1_undo 152 = .ok (.getfield 376, 3) := dk_180 1 120 (dk_at dksX1_undo_6 11 rfl rfl)
theorem dX1_undo_155 : decode cX1_undo 155 = .ok (.iconst 1, 1) := dk_4 (dk_at dksX1_undo_6 14 rfl rfl)
theorem dX1_undo_156 : decode cX1_undo 156 = .ok (.isub, 1) := dk_100 (dk_at dksX1_undo_6 15 rfl rfl)
theorem dX1_undo_157 : decode cX1_undo 157 = .ok (.putfield 376, 3) := dk_181 1 120 (dk_at dksX1_undo_6 16 rfl rfl)
theorem dX1_undo_160 : decode cX1_undo 160 = .ok (.aload_n 0, 1) := dk_42 (dk_at dksX1_undo_6 19 rfl rfl)
theorem dX1_undo_161 : decode cX1_undo 161 = .ok (.invokevirtual 369, 3) := dk_182 1 113 (dk_at dksX1_undo_6 20 rfl rfl)
theorem dX1_undo_164 : decode cX1_undo 164 = .ok (.iconst 1, 1) := dk_4 (dk_at dksX1_undo_6 23 rfl rfl)
theorem dX1_undo_165 : decode cX1_undo 165 = .ok (.ireturn, 1) := dk_172 (dk_at dksX1_undo_7 0 rfl rfl)
abbrev cX1_size : ByteArray := prog_1_method_68_code
def yX1_size : MethodName := ⟨RX1, "size", "()I"⟩
theorem dX1_size_0 : decode cX1_size 0 = .ok (.aload_n 0, 1) := by decide +kernel
theorem dX1_size_1 : decode cX1_size 1 = .ok (.getfield 87, 3) := by decide +kernel
theorem dX1_size_4 : decode cX1_size 4 = .ok (.ireturn, 1) := by decide +kernel
abbrev cX1_trouble : ByteArray := prog_1_method_69_code
def yX1_trouble : MethodName := ⟨RX1, "trouble", "()I"⟩
theorem dX1_trouble_0 : decode cX1_trouble 0 = .ok (.aload_n 0, 1) := by decide +kernel
theorem dX1_trouble_1 : decode cX1_trouble 1 = .ok (.getfield 3, 3) := by decide +kernel
theorem dX1_trouble_4 : decode cX1_trouble 4 = .ok (.ireturn, 1) := by decide +kernel
abbrev cX1_named : ByteArray := prog_1_method_67_code
def yX1_named : MethodName := ⟨RX1, "named", "(I)I"⟩
def dkwX1_named_8 : List UInt8 := [21, 7, 172]
abbrev dktX1_named_8 : List UInt8 := dkwX1_named_8 ++ []
def dkwX1_named_7 : List UInt8 := [182, 1, 121, 167, 0, 4, 2, 54, 7, 21, 7, 2, 160, 0, 11, 187, 1, 125, 89, 183, 1, 127, 191]
abbrev dktX1_named_7 : List UInt8 := dkwX1_named_7 ++ dktX1_named_8
def dkwX1_named_6 : List UInt8 := [167, 255, 223, 21, 6, 27, 160, 0, 22, 22, 4, 9, 148, 153, 0, 15, 42, 180, 0, 23, 22, 4]
abbrev dktX1_named_6 : List UInt8 := dkwX1_named_6 ++ dktX1_named_7
def dkwX1_named_5 : List UInt8 := [153, 0, 27, 21, 6, 27, 162, 0, 21, 42, 180, 0, 16, 21, 6, 51, 16, 32, 160, 0, 9, 132, 6, 1]
abbrev dktX1_named_5 : List UInt8 := dkwX1_named_5 ++ dktX1_named_6
def dkwX1_named_4 : List UInt8 := [167, 0, 4, 9, 55, 4, 132, 3, 1, 167, 255, 193, 29, 54, 6, 27, 3, 42, 180, 0, 87, 184, 0, 94]
abbrev dktX1_named_4 : List UInt8 := dkwX1_named_4 ++ dktX1_named_5
def dkwX1_named_3 : List UInt8 := [153, 0, 36, 29, 28, 100, 16, 6, 162, 0, 19, 22, 4, 16, 8, 121, 42, 180, 0, 16, 29, 51, 133, 129]
abbrev dktX1_named_3 : List UInt8 := dkwX1_named_3 ++ dktX1_named_4
def dkwX1_named_2 : List UInt8 := [184, 0, 94, 153, 0, 57, 29, 27, 162, 0, 52, 42, 180, 0, 16, 29, 51, 16, 97, 16, 122, 184, 0, 94]
abbrev dktX1_named_2 : List UInt8 := dkwX1_named_2 ++ dktX1_named_3
def dkwX1_named_1 : List UInt8 := [51, 16, 32, 160, 0, 9, 132, 2, 1, 167, 255, 225, 28, 62, 9, 55, 4, 27, 3, 42, 180, 0, 87]
abbrev dktX1_named_1 : List UInt8 := dkwX1_named_1 ++ dktX1_named_2
def dkwX1_named_0 : List UInt8 := [3, 61, 27, 3, 42, 180, 0, 87, 184, 0, 94, 153, 0, 25, 28, 27, 162, 0, 20, 42, 180, 0, 16, 28]
abbrev dktX1_named_0 : List UInt8 := dkwX1_named_0 ++ dktX1_named_1
theorem dksX1_named_0 : cX1_named.data.toList.drop 0 = dktX1_named_0 := by decide +kernel
theorem dksX1_named_1 : cX1_named.data.toList.drop 24 = dktX1_named_1 := dk_seg dksX1_named_0 24 rfl rfl
theorem dksX1_named_2 : cX1_named.data.toList.drop 47 = dktX1_named_2 := dk_seg dksX1_named_1 23 rfl rfl
theorem dksX1_named_3 : cX1_named.data.toList.drop 71 = dktX1_named_3 := dk_seg dksX1_named_2 24 rfl rfl
theorem dksX1_named_4 : cX1_named.data.toList.drop 95 = dktX1_named_4 := dk_seg dksX1_named_3 24 rfl rfl
theorem dksX1_named_5 : cX1_named.data.toList.drop 119 = dktX1_named_5 := dk_seg dksX1_named_4 24 rfl rfl
theorem dksX1_named_6 : cX1_named.data.toList.drop 143 = dktX1_named_6 := dk_seg dksX1_named_5 24 rfl rfl
theorem dksX1_named_7 : cX1_named.data.toList.drop 165 = dktX1_named_7 := dk_seg dksX1_named_6 22 rfl rfl
theorem dksX1_named_8 : cX1_named.data.toList.drop 188 = dktX1_named_8 := dk_seg dksX1_named_7 23 rfl rfl
theorem dX1_named_0 : decode cX1_named 0 = .ok (.iconst 0, 1) := dk_3 (dk_at dksX1_named_0 0 rfl rfl)
theorem dX1_named_1 : decode cX1_named 1 = .ok (.istore_n 2, 1) := dk_61 (dk_at dksX1_named_0 1 rfl rfl)
theorem dX1_named_2 : decode cX1_named 2 = .ok (.iload_n 1, 1) := dk_27 (dk_at dksX1_named_0 2 rfl rfl)
theorem dX1_named_3 : decode cX1_named 3 = .ok (.iconst 0, 1) := dk_3 (dk_at dksX1_named_0 3 rfl rfl)
theorem dX1_named_4 : decode cX1_named 4 = .ok (.aload_n 0, 1) := dk_42 (dk_at dksX1_named_0 4 rfl rfl)
theorem dX1_named_5 : decode cX1_named 5 = .ok (.getfield 87, 3) := dk_180 0 87 (dk_at dksX1_named_0 5 rfl rfl)
theorem dX1_named_8 : decode cX1_named 8 = .ok (.invokestatic 94, 3) := dk_184 0 94 (dk_at dksX1_named_0 8 rfl rfl)
theorem dX1_named_11 : decode cX1_named 11 = .ok (.ifCond .eq 25, 3) := dk_153 0 25 (dk_at dksX1_named_0 11 rfl rfl)
theorem dX1_named_14 : decode cX1_named 14 = .ok (.iload_n 2, 1) := dk_28 (dk_at dksX1_named_0 14 rfl rfl)
theorem dX1_named_15 : decode cX1_named 15 = .ok (.iload_n 1, 1) := dk_27 (dk_at dksX1_named_0 15 rfl rfl)
theorem dX1_named_16 : decode cX1_named 16 = .ok (.if_icmp .ge 20, 3) := dk_162 0 20 (dk_at dksX1_named_0 16 rfl rfl)
theorem dX1_named_19 : decode cX1_named 19 = .ok (.aload_n 0, 1) := dk_42 (dk_at dksX1_named_0 19 rfl rfl)
theorem dX1_named_20 : decode cX1_named 20 = .ok (.getfield 16, 3) := dk_180 0 16 (dk_at dksX1_named_0 20 rfl rfl)
theorem dX1_named_23 : decode cX1_named 23 = .ok (.iload_n 2, 1) := dk_28 (dk_at dksX1_named_0 23 rfl rfl)
theorem dX1_named_24 : decode cX1_named 24 = .ok (.baload, 1) := dk_51 (dk_at dksX1_named_1 0 rfl rfl)
theorem dX1_named_25 : decode cX1_named 25 = .ok (.bipush 32, 2) := dk_16 32 (dk_at dksX1_named_1 1 rfl rfl)
theorem dX1_named_27 : decode cX1_named 27 = .ok (.if_icmp .ne 9, 3) := dk_160 0 9 (dk_at dksX1_named_1 3 rfl rfl)
theorem dX1_named_30 : decode cX1_named 30 = .ok (.iinc 2 1, 3) := dk_132 2 1 (dk_at dksX1_named_1 6 rfl rfl)
theorem dX1_named_33 : decode cX1_named 33 = .ok (.goto (-31), 3) := dk_167 255 225 (dk_at dksX1_named_1 9 rfl rfl)
theorem dX1_named_36 : decode cX1_named 36 = .ok (.iload_n 2, 1) := dk_28 (dk_at dksX1_named_1 12 rfl rfl)
theorem dX1_named_37 : decode cX1_named 37 = .ok (.istore_n 3, 1) := dk_62 (dk_at dksX1_named_1 13 rfl rfl)
theorem dX1_named_38 : decode cX1_named 38 = .ok (.lconst 0, 1) := dk_9 (dk_at dksX1_named_1 14 rfl rfl)
theorem dX1_named_39 : decode cX1_named 39 = .ok (.lstore 4, 2) := dk_55 4 (dk_at dksX1_named_1 15 rfl rfl)
theorem dX1_named_41 : decode cX1_named 41 = .ok (.iload_n 1, 1) := dk_27 (dk_at dksX1_named_1 17 rfl rfl)
theorem dX1_named_42 : decode cX1_named 42 = .ok (.iconst 0, 1) := dk_3 (dk_at dksX1_named_1 18 rfl rfl)
theorem dX1_named_43 : decode cX1_named 43 = .ok (.aload_n 0, 1) := dk_42 (dk_at dksX1_named_1 19 rfl rfl)
theorem dX1_named_44 : decode cX1_named 44 = .ok (.getfield 87, 3) := dk_180 0 87 (dk_at dksX1_named_1 20 rfl rfl)
theorem dX1_named_47 : decode cX1_named 47 = .ok (.invokestatic 94, 3) := dk_184 0 94 (dk_at dksX1_named_2 0 rfl rfl)
theorem dX1_named_50 : decode cX1_named 50 = .ok (.ifCond .eq 57, 3) := dk_153 0 57 (dk_at dksX1_named_2 3 rfl rfl)
theorem dX1_named_53 : decode cX1_named 53 = .ok (.iload_n 3, 1) := dk_29 (dk_at dksX1_named_2 6 rfl rfl)
theorem dX1_named_54 : decode cX1_named 54 = .ok (.iload_n 1, 1) := dk_27 (dk_at dksX1_named_2 7 rfl rfl)
theorem dX1_named_55 : decode cX1_named 55 = .ok (.if_icmp .ge 52, 3) := dk_162 0 52 (dk_at dksX1_named_2 8 rfl rfl)
theorem dX1_named_58 : decode cX1_named 58 = .ok (.aload_n 0, 1) := dk_42 (dk_at dksX1_named_2 11 rfl rfl)
theorem dX1_named_59 : decode cX1_named 59 = .ok (.getfield 16, 3) := dk_180 0 16 (dk_at dksX1_named_2 12 rfl rfl)
theorem dX1_named_62 : decode cX1_named 62 = .ok (.iload_n 3, 1) := dk_29 (dk_at dksX1_named_2 15 rfl rfl)
theorem dX1_named_63 : decode cX1_named 63 = .ok (.baload, 1) := dk_51 (dk_at dksX1_named_2 16 rfl rfl)
theorem dX1_named_64 : decode cX1_named 64 = .ok (.bipush 97, 2) := dk_16 97 (dk_at dksX1_named_2 17 rfl rfl)
theorem dX1_named_66 : decode cX1_named 66 = .ok (.bipush 122, 2) := dk_16 122 (dk_at dksX1_named_2 19 rfl rfl)
theorem dX1_named_68 : decode cX1_named 68 = .ok (.invokestatic 94, 3) := dk_184 0 94 (dk_at dksX1_named_2 21 rfl rfl)
theorem dX1_named_71 : decode cX1_named 71 = .ok (.ifCond .eq 36, 3) := dk_153 0 36 (dk_at dksX1_named_3 0 rfl rfl)
theorem dX1_named_74 : decode cX1_named 74 = .ok (.iload_n 3, 1) := dk_29 (dk_at dksX1_named_3 3 rfl rfl)
theorem dX1_named_75 : decode cX1_named 75 = .ok (.iload_n 2, 1) := dk_28 (dk_at dksX1_named_3 4 rfl rfl)
theorem dX1_named_76 : decode cX1_named 76 = .ok (.isub, 1) := dk_100 (dk_at dksX1_named_3 5 rfl rfl)
theorem dX1_named_77 : decode cX1_named 77 = .ok (.bipush 6, 2) := dk_16 6 (dk_at dksX1_named_3 6 rfl rfl)
theorem dX1_named_79 : decode cX1_named 79 = .ok (.if_icmp .ge 19, 3) := dk_162 0 19 (dk_at dksX1_named_3 8 rfl rfl)
theorem dX1_named_82 : decode cX1_named 82 = .ok (.lload 4, 2) := dk_22 4 (dk_at dksX1_named_3 11 rfl rfl)
theorem dX1_named_84 : decode cX1_named 84 = .ok (.bipush 8, 2) := dk_16 8 (dk_at dksX1_named_3 13 rfl rfl)
theorem dX1_named_86 : decode cX1_named 86 = .ok (.lshl, 1) := dk_121 (dk_at dksX1_named_3 15 rfl rfl)
theorem dX1_named_87 : decode cX1_named 87 = .ok (.aload_n 0, 1) := dk_42 (dk_at dksX1_named_3 16 rfl rfl)
theorem dX1_named_88 : decode cX1_named 88 = .ok (.getfield 16, 3) := dk_180 0 16 (dk_at dksX1_named_3 17 rfl rfl)
theorem dX1_named_91 : decode cX1_named 91 = .ok (.iload_n 3, 1) := dk_29 (dk_at dksX1_named_3 20 rfl rfl)
theorem dX1_named_92 : decode cX1_named 92 = .ok (.baload, 1) := dk_51 (dk_at dksX1_named_3 21 rfl rfl)
theorem dX1_named_93 : decode cX1_named 93 = .ok (.i2l, 1) := dk_133 (dk_at dksX1_named_3 22 rfl rfl)
theorem dX1_named_94 : decode cX1_named 94 = .ok (.lor, 1) := dk_129 (dk_at dksX1_named_3 23 rfl rfl)
theorem dX1_named_95 : decode cX1_named 95 = .ok (.goto 4, 3) := dk_167 0 4 (dk_at dksX1_named_4 0 rfl rfl)
theorem dX1_named_98 : decode cX1_named 98 = .ok (.lconst 0, 1) := dk_9 (dk_at dksX1_named_4 3 rfl rfl)
theorem dX1_named_99 : decode cX1_named 99 = .ok (.lstore 4, 2) := dk_55 4 (dk_at dksX1_named_4 4 rfl rfl)
theorem dX1_named_101 : decode cX1_named 101 = .ok (.iinc 3 1, 3) := dk_132 3 1 (dk_at dksX1_named_4 6 rfl rfl)
theorem dX1_named_104 : decode cX1_named 104 = .ok (.goto (-63), 3) := dk_167 255 193 (dk_at dksX1_named_4 9 rfl rfl)
theorem dX1_named_107 : decode cX1_named 107 = .ok (.iload_n 3, 1) := dk_29 (dk_at dksX1_named_4 12 rfl rfl)
theorem dX1_named_108 : decode cX1_named 108 = .ok (.istore 6, 2) := dk_54 6 (dk_at dksX1_named_4 13 rfl rfl)
theorem dX1_named_110 : decode cX1_named 110 = .ok (.iload_n 1, 1) := dk_27 (dk_at dksX1_named_4 15 rfl rfl)
theorem dX1_named_111 : decode cX1_named 111 = .ok (.iconst 0, 1) := dk_3 (dk_at dksX1_named_4 16 rfl rfl)
theorem dX1_named_112 : decode cX1_named 112 = .ok (.aload_n 0, 1) := dk_42 (dk_at dksX1_named_4 17 rfl rfl)
theorem dX1_named_113 : decode cX1_named 113 = .ok (.getfield 87, 3) := dk_180 0 87 (dk_at dksX1_named_4 18 rfl rfl)
theorem dX1_named_116 : decode cX1_named 116 = .ok (.invokestatic 94, 3) := dk_184 0 94 (dk_at dksX1_named_4 21 rfl rfl)
theorem dX1_named_119 : decode cX1_named 119 = .ok (.ifCond .eq 27, 3) := dk_153 0 27 (dk_at dksX1_named_5 0 rfl rfl)
theorem dX1_named_122 : decode cX1_named 122 = .ok (.iload 6, 2) := dk_21 6 (dk_at dksX1_named_5 3 rfl rfl)
theorem dX1_named_124 : decode cX1_named 124 = .ok (.iload_n 1, 1) := dk_27 (dk_at dksX1_named_5 5 rfl rfl)
theorem dX1_named_125 : decode cX1_named 125 = .ok (.if_icmp .ge 21, 3) := dk_162 0 21 (dk_at dksX1_named_5 6 rfl rfl)
theorem dX1_named_128 : decode cX1_named 128 = .ok (.aload_n 0, 1) := dk_42 (dk_at dksX1_named_5 9 rfl rfl)
theorem dX1_named_129 : decode cX1_named 129 = .ok (.getfield 16, 3) := dk_180 0 16 (dk_at dksX1_named_5 10 rfl rfl)
theorem dX1_named_132 : decode cX1_named 132 = .ok (.iload 6, 2) := dk_21 6 (dk_at dksX1_named_5 13 rfl rfl)
theorem dX1_named_134 : decode cX1_named 134 = .ok (.baload, 1) := dk_51 (dk_at dksX1_named_5 15 rfl rfl)
theorem dX1_named_135 : decode cX1_named 135 = .ok (.bipush 32, 2) := dk_16 32 (dk_at dksX1_named_5 16 rfl rfl)
theorem dX1_named_137 : decode cX1_named 137 = .ok (.if_icmp .ne 9, 3) := dk_160 0 9 (dk_at dksX1_named_5 18 rfl rfl)
theorem dX1_named_140 : decode cX1_named 140 = .ok (.iinc 6 1, 3) := dk_132 6 1 (dk_at dksX1_named_5 21 rfl rfl)
theorem dX1_named_143 : decode cX1_named 143 = .ok (.goto (-33), 3) := dk_167 255 223 (dk_at dksX1_named_6 0 rfl rfl)
theorem dX1_named_146 : decode cX1_named 146 = .ok (.iload 6, 2) := dk_21 6 (dk_at dksX1_named_6 3 rfl rfl)
theorem dX1_named_148 : decode cX1_named 148 = .ok (.iload_n 1, 1) := dk_27 (dk_at dksX1_named_6 5 rfl rfl)
theorem dX1_named_149 : decode cX1_named 149 = .ok (.if_icmp .ne 22, 3) := dk_160 0 22 (dk_at dksX1_named_6 6 rfl rfl)
theorem dX1_named_152 : decode cX1_named 152 = .ok (.lload 4, 2) := dk_22 4 (dk_at dksX1_named_6 9 rfl rfl)
theorem dX1_named_154 : decode cX1_named 154 = .ok (.lconst 0, 1) := dk_9 (dk_at dksX1_named_6 11 rfl rfl)
theorem dX1_named_155 : decode cX1_named 155 = .ok (.lcmp, 1) := dk_148 (dk_at dksX1_named_6 12 rfl rfl)
theorem dX1_named_156 : decode cX1_named 156 = .ok (.ifCond .eq 15, 3) := dk_153 0 15 (dk_at dksX1_named_6 13 rfl rfl)
theorem dX1_named_159 : decode cX1_named 159 = .ok (.aload_n 0, 1) := dk_42 (dk_at dksX1_named_6 16 rfl rfl)
theorem dX1_named_160 : decode cX1_named 160 = .ok (.getfield 23, 3) := dk_180 0 23 (dk_at dksX1_named_6 17 rfl rfl)
theorem dX1_named_163 : decode cX1_named 163 = .ok (.lload 4, 2) := dk_22 4 (dk_at dksX1_named_6 20 rfl rfl)
theorem dX1_named_165 : decode cX1_named 165 = .ok (.invokevirtual 377, 3) := dk_182 1 121 (dk_at dksX1_named_7 0 rfl rfl)
theorem dX1_named_168 : decode cX1_named 168 = .ok (.goto 4, 3) := dk_167 0 4 (dk_at dksX1_named_7 3 rfl rfl)
theorem dX1_named_171 : decode cX1_named 171 = .ok (.iconst (-1), 1) := dk_2 (dk_at dksX1_named_7 6 rfl rfl)
theorem dX1_named_172 : decode cX1_named 172 = .ok (.istore 7, 2) := dk_54 7 (dk_at dksX1_named_7 7 rfl rfl)
theorem dX1_named_174 : decode cX1_named 174 = .ok (.iload 7, 2) := dk_21 7 (dk_at dksX1_named_7 9 rfl rfl)
theorem dX1_named_176 : decode cX1_named 176 = .ok (.iconst (-1), 1) := dk_2 (dk_at dksX1_named_7 11 rfl rfl)
theorem dX1_named_177 : decode cX1_named 177 = .ok (.if_icmp .ne 11, 3) := dk_160 0 11 (dk_at dksX1_named_7 12 rfl rfl)
theorem dX1_named_180 : decode cX1_named 180 = .ok (.new 381, 3) := dk_187 1 125 (dk_at dksX1_named_7 15 rfl rfl)
theorem dX1_named_183 : decode cX1_named 183 = .ok (.dup, 1) := dk_89 (dk_at dksX1_named_7 18 rfl rfl)
theorem dX1_named_184 : decode cX1_named 184 = .ok (.invokespecial 383, 3) := dk_183 1 127 (dk_at dksX1_named_7 19 rfl rfl)
theorem dX1_named_187 : decode cX1_named 187 = .ok (.athrow, 1) := dk_191 (dk_at dksX1_named_7 22 rfl rfl)
theorem dX1_named_188 : decode cX1_named 188 = .ok (.iload 7, 2) := dk_21 7 (dk_at dksX1_named_8 0 rfl rfl)
theorem dX1_named_190 : decode cX1_named 190 = .ok (.ireturn, 1) := dk_172 (dk_at dksX1_named_8 2 rfl rfl)

def RX0 : String := "ReasonCloserLaw"
abbrev cX0_named : ByteArray := method_3_code
def yX0_named : MethodName := ⟨RX0, "named", "(LReasonCloser;I[J)I"⟩
def dkwX0_named_0 : List UInt8 := [44, 3, 42, 27, 182, 0, 7, 133, 80, 167, 0, 6, 78, 4, 172, 3, 172]
abbrev dktX0_named_0 : List UInt8 := dkwX0_named_0 ++ []
theorem dksX0_named_0 : cX0_named.data.toList.drop 0 = dktX0_named_0 := by decide +kernel
theorem dX0_named_0 : decode cX0_named 0 = .ok (.aload_n 2, 1) := dk_44 (dk_at dksX0_named_0 0 rfl rfl)
theorem dX0_named_1 : decode cX0_named 1 = .ok (.iconst 0, 1) := dk_3 (dk_at dksX0_named_0 1 rfl rfl)
theorem dX0_named_2 : decode cX0_named 2 = .ok (.aload_n 0, 1) := dk_42 (dk_at dksX0_named_0 2 rfl rfl)
theorem dX0_named_3 : decode cX0_named 3 = .ok (.iload_n 1, 1) := dk_27 (dk_at dksX0_named_0 3 rfl rfl)
theorem dX0_named_4 : decode cX0_named 4 = .ok (.invokevirtual 7, 3) := dk_182 0 7 (dk_at dksX0_named_0 4 rfl rfl)
theorem dX0_named_7 : decode cX0_named 7 = .ok (.i2l, 1) := dk_133 (dk_at dksX0_named_0 7 rfl rfl)
theorem dX0_named_8 : decode cX0_named 8 = .ok (.lastore, 1) := dk_80 (dk_at dksX0_named_0 8 rfl rfl)
theorem dX0_named_9 : decode cX0_named 9 = .ok (.goto 6, 3) := dk_167 0 6 (dk_at dksX0_named_0 9 rfl rfl)
theorem dX0_named_12 : decode cX0_named 12 = .ok (.astore_n 3, 1) := dk_78 (dk_at dksX0_named_0 12 rfl rfl)
theorem dX0_named_13 : decode cX0_named 13 = .ok (.iconst 1, 1) := dk_4 (dk_at dksX0_named_0 13 rfl rfl)
theorem dX0_named_14 : decode cX0_named 14 = .ok (.ireturn, 1) := dk_172 (dk_at dksX0_named_0 14 rfl rfl)
theorem dX0_named_15 : decode cX0_named 15 = .ok (.iconst 0, 1) := dk_3 (dk_at dksX0_named_0 15 rfl rfl)
theorem dX0_named_16 : decode cX0_named 16 = .ok (.ireturn, 1) := dk_172 (dk_at dksX0_named_0 16 rfl rfl)

