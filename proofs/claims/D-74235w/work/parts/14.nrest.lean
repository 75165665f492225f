set_option maxRecDepth 100000
abbrev cX2_init : ByteArray := prog_3_method_1_code
def yX2_init : MethodName := ⟨RX2, "<init>", "()V"⟩
def dkwX2_init_2 : List UInt8 := [183, 0, 11, 181, 0, 26, 42, 187, 0, 9, 89, 16, 8, 183, 0, 11, 181, 0, 29, 177]
abbrev dktX2_init_2 : List UInt8 := dkwX2_init_2 ++ []
def dkwX2_init_1 : List UInt8 := [183, 0, 11, 181, 0, 20, 42, 187, 0, 9, 89, 7, 183, 0, 11, 181, 0, 23, 42, 187, 0, 9, 89, 7]
abbrev dktX2_init_1 : List UInt8 := dkwX2_init_1 ++ dktX2_init_2
def dkwX2_init_0 : List UInt8 := [42, 183, 0, 3, 42, 187, 0, 9, 89, 7, 183, 0, 11, 181, 0, 14, 42, 187, 0, 9, 89, 16, 8]
abbrev dktX2_init_0 : List UInt8 := dkwX2_init_0 ++ dktX2_init_1
theorem dksX2_init_0 : cX2_init.data.toList.drop 0 = dktX2_init_0 := by decide +kernel
theorem dksX2_init_1 : cX2_init.data.toList.drop 23 = dktX2_init_1 := dk_seg dksX2_init_0 23 rfl rfl
theorem dksX2_init_2 : cX2_init.data.toList.drop 47 = dktX2_init_2 := dk_seg dksX2_init_1 24 rfl rfl
theorem dX2_init_0 : decode cX2_init 0 = .ok (.aload_n 0, 1) := dk_42 (dk_at dksX2_init_0 0 rfl rfl)
theorem dX2_init_1 : decode cX2_init 1 = .ok (.invokespecial 3, 3) := dk_183 0 3 (dk_at dksX2_init_0 1 rfl rfl)
theorem dX2_init_4 : decode cX2_init 4 = .ok (.aload_n 0, 1) := dk_42 (dk_at dksX2_init_0 4 rfl rfl)
theorem dX2_init_5 : decode cX2_init 5 = .ok (.new 9, 3) := dk_187 0 9 (dk_at dksX2_init_0 5 rfl rfl)
theorem dX2_init_8 : decode cX2_init 8 = .ok (.dup, 1) := dk_89 (dk_at dksX2_init_0 8 rfl rfl)
theorem dX2_init_9 : decode cX2_init 9 = .ok (.iconst 4, 1) := dk_7 (dk_at dksX2_init_0 9 rfl rfl)
theorem dX2_init_10 : decode cX2_init 10 = .ok (.invokespecial 11, 3) := dk_183 0 11 (dk_at dksX2_init_0 10 rfl rfl)
theorem dX2_init_13 : decode cX2_init 13 = .ok (.putfield 14, 3) := dk_181 0 14 (dk_at dksX2_init_0 13 rfl rfl)
theorem dX2_init_16 : decode cX2_init 16 = .ok (.aload_n 0, 1) := dk_42 (dk_at dksX2_init_0 16 rfl rfl)
theorem dX2_init_17 : decode cX2_init 17 = .ok (.new 9, 3) := dk_187 0 9 (dk_at dksX2_init_0 17 rfl rfl)
theorem dX2_init_20 : decode cX2_init 20 = .ok (.dup, 1) := dk_89 (dk_at dksX2_init_0 20 rfl rfl)
theorem dX2_init_21 : decode cX2_init 21 = .ok (.bipush 8, 2) := dk_16 8 (dk_at dksX2_init_0 21 rfl rfl)
theorem dX2_init_23 : decode cX2_init 23 = .ok (.invokespecial 11, 3) := dk_183 0 11 (dk_at dksX2_init_1 0 rfl rfl)
theorem dX2_init_26 : decode cX2_init 26 = .ok (.putfield 20, 3) := dk_181 0 20 (dk_at dksX2_init_1 3 rfl rfl)
theorem dX2_init_29 : decode cX2_init 29 = .ok (.aload_n 0, 1) := dk_42 (dk_at dksX2_init_1 6 rfl rfl)
theorem dX2_init_30 : decode cX2_init 30 = .ok (.new 9, 3) := dk_187 0 9 (dk_at dksX2_init_1 7 rfl rfl)
theorem dX2_init_33 : decode cX2_init 33 = .ok (.dup, 1) := dk_89 (dk_at dksX2_init_1 10 rfl rfl)
theorem dX2_init_34 : decode cX2_init 34 = .ok (.iconst 4, 1) := dk_7 (dk_at dksX2_init_1 11 rfl rfl)
theorem dX2_init_35 : decode cX2_init 35 = .ok (.invokespecial 11, 3) := dk_183 0 11 (dk_at dksX2_init_1 12 rfl rfl)
theorem dX2_init_38 : decode cX2_init 38 = .ok (.putfield 23, 3) := dk_181 0 23 (dk_at dksX2_init_1 15 rfl rfl)
theorem dX2_init_41 : decode cX2_init 41 = .ok (.aload_n 0, 1) := dk_42 (dk_at dksX2_init_1 18 rfl rfl)
theorem dX2_init_42 : decode cX2_init 42 = .ok (.new 9, 3) := dk_187 0 9 (dk_at dksX2_init_1 19 rfl rfl)
theorem dX2_init_45 : decode cX2_init 45 = .ok (.dup, 1) := dk_89 (dk_at dksX2_init_1 22 rfl rfl)
theorem dX2_init_46 : decode cX2_init 46 = .ok (.iconst 4, 1) := dk_7 (dk_at dksX2_init_1 23 rfl rfl)
theorem dX2_init_47 : decode cX2_init 47 = .ok (.invokespecial 11, 3) := dk_183 0 11 (dk_at dksX2_init_2 0 rfl rfl)
theorem dX2_init_50 : decode cX2_init 50 = .ok (.putfield 26, 3) := dk_181 0 26 (dk_at dksX2_init_2 3 rfl rfl)
theorem dX2_init_53 : decode cX2_init 53 = .ok (.aload_n 0, 1) := dk_42 (dk_at dksX2_init_2 6 rfl rfl)
theorem dX2_init_54 : decode cX2_init 54 = .ok (.new 9, 3) := dk_187 0 9 (dk_at dksX2_init_2 7 rfl rfl)
theorem dX2_init_57 : decode cX2_init 57 = .ok (.dup, 1) := dk_89 (dk_at dksX2_init_2 10 rfl rfl)
theorem dX2_init_58 : decode cX2_init 58 = .ok (.bipush 8, 2) := dk_16 8 (dk_at dksX2_init_2 11 rfl rfl)
theorem dX2_init_60 : decode cX2_init 60 = .ok (.invokespecial 11, 3) := dk_183 0 11 (dk_at dksX2_init_2 13 rfl rfl)
theorem dX2_init_63 : decode cX2_init 63 = .ok (.putfield 29, 3) := dk_181 0 29 (dk_at dksX2_init_2 16 rfl rfl)
theorem dX2_init_66 : decode cX2_init 66 = .ok (.return_, 1) := dk_177 (dk_at dksX2_init_2 19 rfl rfl)
abbrev cX2_function : ByteArray := prog_3_method_2_code
def yX2_function : MethodName := ⟨RX2, "function", "(J)I"⟩
def dkwX2_function_2 : List UInt8 := [2, 172]
abbrev dktX2_function_2 : List UInt8 := dkwX2_function_2 ++ []
def dkwX2_function_1 : List UInt8 := [185, 0, 38, 2, 0, 192, 0, 42, 180, 0, 44, 31, 148, 154, 0, 5, 29, 172, 132, 3, 1, 167, 255, 217]
abbrev dktX2_function_1 : List UInt8 := dkwX2_function_1 ++ dktX2_function_2
def dkwX2_function_0 : List UInt8 := [3, 62, 29, 42, 180, 0, 14, 185, 0, 32, 1, 0, 162, 0, 32, 42, 180, 0, 14, 29]
abbrev dktX2_function_0 : List UInt8 := dkwX2_function_0 ++ dktX2_function_1
theorem dksX2_function_0 : cX2_function.data.toList.drop 0 = dktX2_function_0 := by decide +kernel
theorem dksX2_function_1 : cX2_function.data.toList.drop 20 = dktX2_function_1 := dk_seg dksX2_function_0 20 rfl rfl
theorem dksX2_function_2 : cX2_function.data.toList.drop 44 = dktX2_function_2 := dk_seg dksX2_function_1 24 rfl rfl
theorem dX2_function_0 : decode cX2_function 0 = .ok (.iconst 0, 1) := dk_3 (dk_at dksX2_function_0 0 rfl rfl)
theorem dX2_function_1 : decode cX2_function 1 = .ok (.istore_n 3, 1) := dk_62 (dk_at dksX2_function_0 1 rfl rfl)
theorem dX2_function_2 : decode cX2_function 2 = .ok (.iload_n 3, 1) := dk_29 (dk_at dksX2_function_0 2 rfl rfl)
theorem dX2_function_3 : decode cX2_function 3 = .ok (.aload_n 0, 1) := dk_42 (dk_at dksX2_function_0 3 rfl rfl)
theorem dX2_function_4 : decode cX2_function 4 = .ok (.getfield 14, 3) := dk_180 0 14 (dk_at dksX2_function_0 4 rfl rfl)
theorem dX2_function_7 : decode cX2_function 7 = .ok (.invokeinterface 32 1, 5) := by decide +kernel
theorem dX2_function_12 : decode cX2_function 12 = .ok (.if_icmp .ge 32, 3) := dk_162 0 32 (dk_at dksX2_function_0 12 rfl rfl)
theorem dX2_function_15 : decode cX2_function 15 = .ok (.aload_n 0, 1) := dk_42 (dk_at dksX2_function_0 15 rfl rfl)
theorem dX2_function_16 : decode cX2_function 16 = .ok (.getfield 14, 3) := dk_180 0 14 (dk_at dksX2_function_0 16 rfl rfl)
theorem dX2_function_19 : decode cX2_function 19 = .ok (.iload_n 3, 1) := dk_29 (dk_at dksX2_function_0 19 rfl rfl)
theorem dX2_function_20 : decode cX2_function 20 = .ok (.invokeinterface 38 2, 5) := by decide +kernel
theorem dX2_function_25 : decode cX2_function 25 = .ok (.checkcast 42, 3) := dk_192 0 42 (dk_at dksX2_function_1 5 rfl rfl)
theorem dX2_function_28 : decode cX2_function 28 = .ok (.getfield 44, 3) := dk_180 0 44 (dk_at dksX2_function_1 8 rfl rfl)
theorem dX2_function_31 : decode cX2_function 31 = .ok (.lload_n 1, 1) := dk_31 (dk_at dksX2_function_1 11 rfl rfl)
theorem dX2_function_32 : decode cX2_function 32 = .ok (.lcmp, 1) := dk_148 (dk_at dksX2_function_1 12 rfl rfl)
theorem dX2_function_33 : decode cX2_function 33 = .ok (.ifCond .ne 5, 3) := dk_154 0 5 (dk_at dksX2_function_1 13 rfl rfl)
theorem dX2_function_36 : decode cX2_function 36 = .ok (.iload_n 3, 1) := dk_29 (dk_at dksX2_function_1 16 rfl rfl)
theorem dX2_function_37 : decode cX2_function 37 = .ok (.ireturn, 1) := dk_172 (dk_at dksX2_function_1 17 rfl rfl)
theorem dX2_function_38 : decode cX2_function 38 = .ok (.iinc 3 1, 3) := dk_132 3 1 (dk_at dksX2_function_1 18 rfl rfl)
theorem dX2_function_41 : decode cX2_function 41 = .ok (.goto (-39), 3) := dk_167 255 217 (dk_at dksX2_function_1 21 rfl rfl)
theorem dX2_function_44 : decode cX2_function 44 = .ok (.iconst (-1), 1) := dk_2 (dk_at dksX2_function_2 0 rfl rfl)
theorem dX2_function_45 : decode cX2_function 45 = .ok (.ireturn, 1) := dk_172 (dk_at dksX2_function_2 1 rfl rfl)
abbrev cX2_term : ByteArray := prog_3_method_3_code
def yX2_term : MethodName := ⟨RX2, "term", "(J)I"⟩
def dkwX2_term_2 : List UInt8 := [2, 172]
abbrev dktX2_term_2 : List UInt8 := dkwX2_term_2 ++ []
def dkwX2_term_1 : List UInt8 := [185, 0, 38, 2, 0, 192, 0, 48, 180, 0, 50, 31, 148, 154, 0, 5, 29, 172, 132, 3, 1, 167, 255, 217]
abbrev dktX2_term_1 : List UInt8 := dkwX2_term_1 ++ dktX2_term_2
def dkwX2_term_0 : List UInt8 := [3, 62, 29, 42, 180, 0, 20, 185, 0, 32, 1, 0, 162, 0, 32, 42, 180, 0, 20, 29]
abbrev dktX2_term_0 : List UInt8 := dkwX2_term_0 ++ dktX2_term_1
theorem dksX2_term_0 : cX2_term.data.toList.drop 0 = dktX2_term_0 := by decide +kernel
theorem dksX2_term_1 : cX2_term.data.toList.drop 20 = dktX2_term_1 := dk_seg dksX2_term_0 20 rfl rfl
theorem dksX2_term_2 : cX2_term.data.toList.drop 44 = dktX2_term_2 := dk_seg dksX2_term_1 24 rfl rfl
theorem dX2_term_0 : decode cX2_term 0 = .ok (.iconst 0, 1) := dk_3 (dk_at dksX2_term_0 0 rfl rfl)
theorem dX2_term_1 : decode cX2_term 1 = .ok (.istore_n 3, 1) := dk_62 (dk_at dksX2_term_0 1 rfl rfl)
theorem dX2_term_2 : decode cX2_term 2 = .ok (.iload_n 3, 1) := dk_29 (dk_at dksX2_term_0 2 rfl rfl)
theorem dX2_term_3 : decode cX2_term 3 = .ok (.aload_n 0, 1) := dk_42 (dk_at dksX2_term_0 3 rfl rfl)
theorem dX2_term_4 : decode cX2_term 4 = .ok (.getfield 20, 3) := dk_180 0 20 (dk_at dksX2_term_0 4 rfl rfl)
theorem dX2_term_7 : decode cX2_term 7 = .ok (.invokeinterface 32 1, 5) := by decide +kernel
theorem dX2_term_12 : decode cX2_term 12 = .ok (.if_icmp .ge 32, 3) := dk_162 0 32 (dk_at dksX2_term_0 12 rfl rfl)
theorem dX2_term_15 : decode cX2_term 15 = .ok (.aload_n 0, 1) := dk_42 (dk_at dksX2_term_0 15 rfl rfl)
theorem dX2_term_16 : decode cX2_term 16 = .ok (.getfield 20, 3) := dk_180 0 20 (dk_at dksX2_term_0 16 rfl rfl)
theorem dX2_term_19 : decode cX2_term 19 = .ok (.iload_n 3, 1) := dk_29 (dk_at dksX2_term_0 19 rfl rfl)
theorem dX2_term_20 : decode cX2_term 20 = .ok (.invokeinterface 38 2, 5) := by decide +kernel
theorem dX2_term_25 : decode cX2_term 25 = .ok (.checkcast 48, 3) := dk_192 0 48 (dk_at dksX2_term_1 5 rfl rfl)
theorem dX2_term_28 : decode cX2_term 28 = .ok (.getfield 50, 3) := dk_180 0 50 (dk_at dksX2_term_1 8 rfl rfl)
theorem dX2_term_31 : decode cX2_term 31 = .ok (.lload_n 1, 1) := dk_31 (dk_at dksX2_term_1 11 rfl rfl)
theorem dX2_term_32 : decode cX2_term 32 = .ok (.lcmp, 1) := dk_148 (dk_at dksX2_term_1 12 rfl rfl)
theorem dX2_term_33 : decode cX2_term 33 = .ok (.ifCond .ne 5, 3) := dk_154 0 5 (dk_at dksX2_term_1 13 rfl rfl)
theorem dX2_term_36 : decode cX2_term 36 = .ok (.iload_n 3, 1) := dk_29 (dk_at dksX2_term_1 16 rfl rfl)
theorem dX2_term_37 : decode cX2_term 37 = .ok (.ireturn, 1) := dk_172 (dk_at dksX2_term_1 17 rfl rfl)
theorem dX2_term_38 : decode cX2_term 38 = .ok (.iinc 3 1, 3) := dk_132 3 1 (dk_at dksX2_term_1 18 rfl rfl)
theorem dX2_term_41 : decode cX2_term 41 = .ok (.goto (-39), 3) := dk_167 255 217 (dk_at dksX2_term_1 21 rfl rfl)
theorem dX2_term_44 : decode cX2_term 44 = .ok (.iconst (-1), 1) := dk_2 (dk_at dksX2_term_2 0 rfl rfl)
theorem dX2_term_45 : decode cX2_term 45 = .ok (.ireturn, 1) := dk_172 (dk_at dksX2_term_2 1 rfl rfl)

abbrev cX3_init : ByteArray := prog_9_method_2_code
def yX3_init : MethodName := ⟨RX3, "<init>", "(I)V"⟩
def dkwX3_init_1 : List UInt8 := [28, 28, 79, 132, 2, 1, 167, 255, 240, 42, 27, 188, 10, 181, 0, 18, 177]
abbrev dktX3_init_1 : List UInt8 := dkwX3_init_1 ++ []
def dkwX3_init_0 : List UInt8 := [42, 183, 0, 9, 42, 16, 24, 188, 10, 181, 0, 14, 3, 61, 28, 16, 24, 162, 0, 16, 42, 180, 0, 14]
abbrev dktX3_init_0 : List UInt8 := dkwX3_init_0 ++ dktX3_init_1
theorem dksX3_init_0 : cX3_init.data.toList.drop 0 = dktX3_init_0 := by decide +kernel
theorem dksX3_init_1 : cX3_init.data.toList.drop 24 = dktX3_init_1 := dk_seg dksX3_init_0 24 rfl rfl
theorem dX3_init_0 : decode cX3_init 0 = .ok (.aload_n 0, 1) := dk_42 (dk_at dksX3_init_0 0 rfl rfl)
theorem dX3_init_1 : decode cX3_init 1 = .ok (.invokespecial 9, 3) := dk_183 0 9 (dk_at dksX3_init_0 1 rfl rfl)
theorem dX3_init_4 : decode cX3_init 4 = .ok (.aload_n 0, 1) := dk_42 (dk_at dksX3_init_0 4 rfl rfl)
theorem dX3_init_5 : decode cX3_init 5 = .ok (.bipush 24, 2) := dk_16 24 (dk_at dksX3_init_0 5 rfl rfl)
theorem dX3_init_7 : decode cX3_init 7 = .ok (.newarray .int, 2) := dk_188_10 (dk_at dksX3_init_0 7 rfl rfl)
theorem dX3_init_9 : decode cX3_init 9 = .ok (.putfield 14, 3) := dk_181 0 14 (dk_at dksX3_init_0 9 rfl rfl)
theorem dX3_init_12 : decode cX3_init 12 = .ok (.iconst 0, 1) := dk_3 (dk_at dksX3_init_0 12 rfl rfl)
theorem dX3_init_13 : decode cX3_init 13 = .ok (.istore_n 2, 1) := dk_61 (dk_at dksX3_init_0 13 rfl rfl)
theorem dX3_init_14 : decode cX3_init 14 = .ok (.iload_n 2, 1) := dk_28 (dk_at dksX3_init_0 14 rfl rfl)
theorem dX3_init_15 : decode cX3_init 15 = .ok (.bipush 24, 2) := dk_16 24 (dk_at dksX3_init_0 15 rfl rfl)
theorem dX3_init_17 : decode cX3_init 17 = .ok (.if_icmp .ge 16, 3) := dk_162 0 16 (dk_at dksX3_init_0 17 rfl rfl)
theorem dX3_init_20 : decode cX3_init 20 = .ok (.aload_n 0, 1) := dk_42 (dk_at dksX3_init_0 20 rfl rfl)
theorem dX3_init_21 : decode cX3_init 21 = .ok (.getfield 14, 3) := dk_180 0 14 (dk_at dksX3_init_0 21 rfl rfl)
theorem dX3_init_24 : decode cX3_init 24 = .ok (.iload_n 2, 1) := dk_28 (dk_at dksX3_init_1 0 rfl rfl)
theorem dX3_init_25 : decode cX3_init 25 = .ok (.iload_n 2, 1) := dk_28 (dk_at dksX3_init_1 1 rfl rfl)
theorem dX3_init_26 : decode cX3_init 26 = .ok (.iastore, 1) := dk_79 (dk_at dksX3_init_1 2 rfl rfl)
theorem dX3_init_27 : decode cX3_init 27 = .ok (.iinc 2 1, 3) := dk_132 2 1 (dk_at dksX3_init_1 3 rfl rfl)
theorem dX3_init_30 : decode cX3_init 30 = .ok (.goto (-16), 3) := dk_167 255 240 (dk_at dksX3_init_1 6 rfl rfl)
theorem dX3_init_33 : decode cX3_init 33 = .ok (.aload_n 0, 1) := dk_42 (dk_at dksX3_init_1 9 rfl rfl)
theorem dX3_init_34 : decode cX3_init 34 = .ok (.iload_n 1, 1) := dk_27 (dk_at dksX3_init_1 10 rfl rfl)
theorem dX3_init_35 : decode cX3_init 35 = .ok (.newarray .int, 2) := dk_188_10 (dk_at dksX3_init_1 11 rfl rfl)
theorem dX3_init_37 : decode cX3_init 37 = .ok (.putfield 18, 3) := dk_181 0 18 (dk_at dksX3_init_1 13 rfl rfl)
theorem dX3_init_40 : decode cX3_init 40 = .ok (.return_, 1) := dk_177 (dk_at dksX3_init_1 16 rfl rfl)
abbrev cX3_init_2 : ByteArray := prog_9_method_1_code
def yX3_init_2 : MethodName := ⟨RX3, "<init>", "()V"⟩
def dkwX3_init_2_0 : List UInt8 := [42, 3, 183, 0, 3, 177]
abbrev dktX3_init_2_0 : List UInt8 := dkwX3_init_2_0 ++ []
theorem dksX3_init_2_0 : cX3_init_2.data.toList.drop 0 = dktX3_init_2_0 := by decide +kernel
theorem dX3_init_2_0 : decode cX3_init_2 0 = .ok (.aload_n 0, 1) := dk_42 (dk_at dksX3_init_2_0 0 rfl rfl)
theorem dX3_init_2_1 : decode cX3_init_2 1 = .ok (.iconst 0, 1) := dk_3 (dk_at dksX3_init_2_0 1 rfl rfl)
theorem dX3_init_2_2 : decode cX3_init_2 2 = .ok (.invokespecial 3, 3) := dk_183 0 3 (dk_at dksX3_init_2_0 2 rfl rfl)
theorem dX3_init_2_5 : decode cX3_init_2 5 = .ok (.return_, 1) := dk_177 (dk_at dksX3_init_2_0 5 rfl rfl)
abbrev cX3_puts : ByteArray := prog_9_method_3_code
def yX3_puts : MethodName := ⟨RX3, "puts", "([IIII)V"⟩
def dkwX3_puts_4 : List UInt8 := [96, 181, 0, 21, 43, 29, 21, 4, 79, 177]
abbrev dktX3_puts_4 : List UInt8 := dkwX3_puts_4 ++ []
def dkwX3_puts_3 : List UInt8 := [4, 96, 29, 79, 42, 180, 0, 18, 42, 180, 0, 21, 5, 96, 43, 29, 46, 79, 42, 89, 180, 0, 21, 6]
abbrev dktX3_puts_3 : List UInt8 := dkwX3_puts_3 ++ dktX3_puts_4
def dkwX3_puts_2 : List UInt8 := [42, 25, 5, 181, 0, 18, 42, 180, 0, 18, 42, 180, 0, 21, 28, 79, 42, 180, 0, 18, 42, 180, 0, 21]
abbrev dktX3_puts_2 : List UInt8 := dkwX3_puts_2 ++ dktX3_puts_3
def dkwX3_puts_1 : List UInt8 := [180, 0, 18, 190, 104, 188, 10, 58, 5, 42, 180, 0, 18, 3, 25, 5, 3, 42, 180, 0, 21, 184, 0, 25]
abbrev dktX3_puts_1 : List UInt8 := dkwX3_puts_1 ++ dktX3_puts_2
def dkwX3_puts_0 : List UInt8 := [42, 180, 0, 18, 190, 158, 0, 95, 42, 180, 0, 21, 6, 96, 42, 180, 0, 18, 190, 164, 0, 35, 5, 42]
abbrev dktX3_puts_0 : List UInt8 := dkwX3_puts_0 ++ dktX3_puts_1
theorem dksX3_puts_0 : cX3_puts.data.toList.drop 0 = dktX3_puts_0 := by decide +kernel
theorem dksX3_puts_1 : cX3_puts.data.toList.drop 24 = dktX3_puts_1 := dk_seg dksX3_puts_0 24 rfl rfl
theorem dksX3_puts_2 : cX3_puts.data.toList.drop 48 = dktX3_puts_2 := dk_seg dksX3_puts_1 24 rfl rfl
theorem dksX3_puts_3 : cX3_puts.data.toList.drop 72 = dktX3_puts_3 := dk_seg dksX3_puts_2 24 rfl rfl
theorem dksX3_puts_4 : cX3_puts.data.toList.drop 96 = dktX3_puts_4 := dk_seg dksX3_puts_3 24 rfl rfl
theorem dX3_puts_0 : decode cX3_puts 0 = .ok (.aload_n 0, 1) := dk_42 (dk_at dksX3_puts_0 0 rfl rfl)
theorem dX3_puts_1 : decode cX3_puts 1 = .ok (.getfield 18, 3) := dk_180 0 18 (dk_at dksX3_puts_0 1 rfl rfl)
theorem dX3_puts_4 : decode cX3_puts 4 = .ok (.arraylength, 1) := dk_190 (dk_at dksX3_puts_0 4 rfl rfl)
theorem dX3_puts_5 : decode cX3_puts 5 = .ok (.ifCond .le 95, 3) := dk_158 0 95 (dk_at dksX3_puts_0 5 rfl rfl)
theorem dX3_puts_8 : decode cX3_puts 8 = .ok (.aload_n 0, 1) := dk_42 (dk_at dksX3_puts_0 8 rfl rfl)
theorem dX3_puts_9 : decode cX3_puts 9 = .ok (.getfield 21, 3) := dk_180 0 21 (dk_at dksX3_puts_0 9 rfl rfl)
theorem dX3_puts_12 : decode cX3_puts 12 = .ok (.iconst 3, 1) := dk_6 (dk_at dksX3_puts_0 12 rfl rfl)
theorem dX3_puts_13 : decode cX3_puts 13 = .ok (.iadd, 1) := dk_96 (dk_at dksX3_puts_0 13 rfl rfl)
theorem dX3_puts_14 : decode cX3_puts 14 = .ok (.aload_n 0, 1) := dk_42 (dk_at dksX3_puts_0 14 rfl rfl)
theorem dX3_puts_15 : decode cX3_puts 15 = .ok (.getfield 18, 3) := dk_180 0 18 (dk_at dksX3_puts_0 15 rfl rfl)
theorem dX3_puts_18 : decode cX3_puts 18 = .ok (.arraylength, 1) := dk_190 (dk_at dksX3_puts_0 18 rfl rfl)
theorem dX3_puts_19 : decode cX3_puts 19 = .ok (.if_icmp .le 35, 3) := dk_164 0 35 (dk_at dksX3_puts_0 19 rfl rfl)
theorem dX3_puts_22 : decode cX3_puts 22 = .ok (.iconst 2, 1) := dk_5 (dk_at dksX3_puts_0 22 rfl rfl)
theorem dX3_puts_23 : decode cX3_puts 23 = .ok (.aload_n 0, 1) := dk_42 (dk_at dksX3_puts_0 23 rfl rfl)
theorem dX3_puts_24 : decode cX3_puts 24 = .ok (.getfield 18, 3) := dk_180 0 18 (dk_at dksX3_puts_1 0 rfl rfl)
theorem dX3_puts_27 : decode cX3_puts 27 = .ok (.arraylength, 1) := dk_190 (dk_at dksX3_puts_1 3 rfl rfl)
theorem dX3_puts_28 : decode cX3_puts 28 = .ok (.imul, 1) := dk_104 (dk_at dksX3_puts_1 4 rfl rfl)
theorem dX3_puts_29 : decode cX3_puts 29 = .ok (.newarray .int, 2) := dk_188_10 (dk_at dksX3_puts_1 5 rfl rfl)
theorem dX3_puts_31 : decode cX3_puts 31 = .ok (.astore 5, 2) := dk_58 5 (dk_at dksX3_puts_1 7 rfl rfl)
theorem dX3_puts_33 : decode cX3_puts 33 = .ok (.aload_n 0, 1) := dk_42 (dk_at dksX3_puts_1 9 rfl rfl)
theorem dX3_puts_34 : decode cX3_puts 34 = .ok (.getfield 18, 3) := dk_180 0 18 (dk_at dksX3_puts_1 10 rfl rfl)
theorem dX3_puts_37 : decode cX3_puts 37 = .ok (.iconst 0, 1) := dk_3 (dk_at dksX3_puts_1 13 rfl rfl)
theorem dX3_puts_38 : decode cX3_puts 38 = .ok (.aload 5, 2) := dk_25 5 (dk_at dksX3_puts_1 14 rfl rfl)
theorem dX3_puts_40 : decode cX3_puts 40 = .ok (.iconst 0, 1) := dk_3 (dk_at dksX3_puts_1 16 rfl rfl)
theorem dX3_puts_41 : decode cX3_puts 41 = .ok (.aload_n 0, 1) := dk_42 (dk_at dksX3_puts_1 17 rfl rfl)
theorem dX3_puts_42 : decode cX3_puts 42 = .ok (.getfield 21, 3) := dk_180 0 21 (dk_at dksX3_puts_1 18 rfl rfl)
theorem dX3_puts_45 : decode cX3_puts 45 = .ok (.invokestatic 25, 3) := dk_184 0 25 (dk_at dksX3_puts_1 21 rfl rfl)
theorem dX3_puts_48 : decode cX3_puts 48 = .ok (.aload_n 0, 1) := dk_42 (dk_at dksX3_puts_2 0 rfl rfl)
theorem dX3_puts_49 : decode cX3_puts 49 = .ok (.aload 5, 2) := dk_25 5 (dk_at dksX3_puts_2 1 rfl rfl)
theorem dX3_puts_51 : decode cX3_puts 51 = .ok (.putfield 18, 3) := dk_181 0 18 (dk_at dksX3_puts_2 3 rfl rfl)
theorem dX3_puts_54 : decode cX3_puts 54 = .ok (.aload_n 0, 1) := dk_42 (dk_at dksX3_puts_2 6 rfl rfl)
theorem dX3_puts_55 : decode cX3_puts 55 = .ok (.getfield 18, 3) := dk_180 0 18 (dk_at dksX3_puts_2 7 rfl rfl)
theorem dX3_puts_58 : decode cX3_puts 58 = .ok (.aload_n 0, 1) := dk_42 (dk_at dksX3_puts_2 10 rfl rfl)
theorem dX3_puts_59 : decode cX3_puts 59 = .ok (.getfield 21, 3) := dk_180 0 21 (dk_at dksX3_puts_2 11 rfl rfl)
theorem dX3_puts_62 : decode cX3_puts 62 = .ok (.iload_n 2, 1) := dk_28 (dk_at dksX3_puts_2 14 rfl rfl)
theorem dX3_puts_63 : decode cX3_puts 63 = .ok (.iastore, 1) := dk_79 (dk_at dksX3_puts_2 15 rfl rfl)
theorem dX3_puts_64 : decode cX3_puts 64 = .ok (.aload_n 0, 1) := dk_42 (dk_at dksX3_puts_2 16 rfl rfl)
theorem dX3_puts_65 : decode cX3_puts 65 = .ok (.getfield 18, 3) := dk_180 0 18 (dk_at dksX3_puts_2 17 rfl rfl)
theorem dX3_puts_68 : decode cX3_puts 68 = .ok (.aload_n 0, 1) := dk_42 (dk_at dksX3_puts_2 20 rfl rfl)
theorem dX3_puts_69 : decode cX3_puts 69 = .ok (.getfield 21, 3) := dk_180 0 21 (dk_at dksX3_puts_2 21 rfl rfl)
theorem dX3_puts_72 : decode cX3_puts 72 = .ok (.iconst 1, 1) := dk_4 (dk_at dksX3_puts_3 0 rfl rfl)
theorem dX3_puts_73 : decode cX3_puts 73 = .ok (.iadd, 1) := dk_96 (dk_at dksX3_puts_3 1 rfl rfl)
theorem dX3_puts_74 : decode cX3_puts 74 = .ok (.iload_n 3, 1) := dk_29 (dk_at dksX3_puts_3 2 rfl rfl)
theorem dX3_puts_75 : decode cX3_puts 75 = .ok (.iastore, 1) := dk_79 (dk_at dksX3_puts_3 3 rfl rfl)
theorem dX3_puts_76 : decode cX3_puts 76 = .ok (.aload_n 0, 1) := dk_42 (dk_at dksX3_puts_3 4 rfl rfl)
theorem dX3_puts_77 : decode cX3_puts 77 = .ok (.getfield 18, 3) := dk_180 0 18 (dk_at dksX3_puts_3 5 rfl rfl)
theorem dX3_puts_80 : decode cX3_puts 80 = .ok (.aload_n 0, 1) := dk_42 (dk_at dksX3_puts_3 8 rfl rfl)
theorem dX3_puts_81 : decode cX3_puts 81 = .ok (.getfield 21, 3) := dk_180 0 21 (dk_at dksX3_puts_3 9 rfl rfl)
theorem dX3_puts_84 : decode cX3_puts 84 = .ok (.iconst 2, 1) := dk_5 (dk_at dksX3_puts_3 12 rfl rfl)
theorem dX3_puts_85 : decode cX3_puts 85 = .ok (.iadd, 1) := dk_96 (dk_at dksX3_puts_3 13 rfl rfl)
theorem dX3_puts_86 : decode cX3_puts 86 = .ok (.aload_n 1, 1) := dk_43 (dk_at dksX3_puts_3 14 rfl rfl)
theorem dX3_puts_87 : decode cX3_puts 87 = .ok (.iload_n 3, 1) := dk_29 (dk_at dksX3_puts_3 15 rfl rfl)
theorem dX3_puts_88 : decode cX3_puts 88 = .ok (.iaload, 1) := dk_46 (dk_at dksX3_puts_3 16 rfl rfl)
theorem dX3_puts_89 : decode cX3_puts 89 = .ok (.iastore, 1) := dk_79 (dk_at dksX3_puts_3 17 rfl rfl)
theorem dX3_puts_90 : decode cX3_puts 90 = .ok (.aload_n 0, 1) := dk_42 (dk_at dksX3_puts_3 18 rfl rfl)
theorem dX3_puts_91 : decode cX3_puts 91 = .ok (.dup, 1) := dk_89 (dk_at dksX3_puts_3 19 rfl rfl)
theorem dX3_puts_92 : decode cX3_puts 92 = .ok (.getfield 21, 3) := dk_180 0 21 (dk_at dksX3_puts_3 20 rfl rfl)
theorem dX3_puts_95 : decode cX3_puts 95 = .ok (.iconst 3, 1) := dk_6 (dk_at dksX3_puts_3 23 rfl rfl)
theorem dX3_puts_96 : decode cX3_puts 96 = .ok (.iadd, 1) := dk_96 (dk_at dksX3_puts_4 0 rfl rfl)
theorem dX3_puts_97 : decode cX3_puts 97 = .ok (.putfield 21, 3) := dk_181 0 21 (dk_at dksX3_puts_4 1 rfl rfl)
theorem dX3_puts_100 : decode cX3_puts 100 = .ok (.aload_n 1, 1) := dk_43 (dk_at dksX3_puts_4 4 rfl rfl)
theorem dX3_puts_101 : decode cX3_puts 101 = .ok (.iload_n 3, 1) := dk_29 (dk_at dksX3_puts_4 5 rfl rfl)
theorem dX3_puts_102 : decode cX3_puts 102 = .ok (.iload 4, 2) := dk_21 4 (dk_at dksX3_puts_4 6 rfl rfl)
theorem dX3_puts_104 : decode cX3_puts 104 = .ok (.iastore, 1) := dk_79 (dk_at dksX3_puts_4 8 rfl rfl)
theorem dX3_puts_105 : decode cX3_puts 105 = .ok (.return_, 1) := dk_177 (dk_at dksX3_puts_4 9 rfl rfl)
abbrev cX3_areOne : ByteArray := prog_9_method_7_code
def yX3_areOne : MethodName := ⟨RX3, "areOne", "(II)Z"⟩
def dkwX3_areOne_0 : List UInt8 := [42, 180, 0, 14, 27, 46, 42, 180, 0, 14, 28, 46, 160, 0, 7, 4, 167, 0, 4, 3, 172]
abbrev dktX3_areOne_0 : List UInt8 := dkwX3_areOne_0 ++ []
theorem dksX3_areOne_0 : cX3_areOne.data.toList.drop 0 = dktX3_areOne_0 := by decide +kernel
theorem dX3_areOne_0 : decode cX3_areOne 0 = .ok (.aload_n 0, 1) := dk_42 (dk_at dksX3_areOne_0 0 rfl rfl)
theorem dX3_areOne_1 : decode cX3_areOne 1 = .ok (.getfield 14, 3) := dk_180 0 14 (dk_at dksX3_areOne_0 1 rfl rfl)
theorem dX3_areOne_4 : decode cX3_areOne 4 = .ok (.iload_n 1, 1) := dk_27 (dk_at dksX3_areOne_0 4 rfl rfl)
theorem dX3_areOne_5 : decode cX3_areOne 5 = .ok (.iaload, 1) := dk_46 (dk_at dksX3_areOne_0 5 rfl rfl)
theorem dX3_areOne_6 : decode cX3_areOne 6 = .ok (.aload_n 0, 1) := dk_42 (dk_at dksX3_areOne_0 6 rfl rfl)
theorem dX3_areOne_7 : decode cX3_areOne 7 = .ok (.getfield 14, 3) := dk_180 0 14 (dk_at dksX3_areOne_0 7 rfl rfl)
theorem dX3_areOne_10 : decode cX3_areOne 10 = .ok (.iload_n 2, 1) := dk_28 (dk_at dksX3_areOne_0 10 rfl rfl)
theorem dX3_areOne_11 : decode cX3_areOne 11 = .ok (.iaload, 1) := dk_46 (dk_at dksX3_areOne_0 11 rfl rfl)
theorem dX3_areOne_12 : decode cX3_areOne 12 = .ok (.if_icmp .ne 7, 3) := dk_160 0 7 (dk_at dksX3_areOne_0 12 rfl rfl)
theorem dX3_areOne_15 : decode cX3_areOne 15 = .ok (.iconst 1, 1) := dk_4 (dk_at dksX3_areOne_0 15 rfl rfl)
theorem dX3_areOne_16 : decode cX3_areOne 16 = .ok (.goto 4, 3) := dk_167 0 4 (dk_at dksX3_areOne_0 16 rfl rfl)
theorem dX3_areOne_19 : decode cX3_areOne 19 = .ok (.iconst 0, 1) := dk_3 (dk_at dksX3_areOne_0 19 rfl rfl)
theorem dX3_areOne_20 : decode cX3_areOne 20 = .ok (.ireturn, 1) := dk_172 (dk_at dksX3_areOne_0 20 rfl rfl)
abbrev cX3_unites : ByteArray := prog_9_method_8_code
def yX3_unites : MethodName := ⟨RX3, "unites", "(II)V"⟩
def dkwX3_unites_3 : List UInt8 := [132, 5, 1, 167, 255, 220, 177]
abbrev dktX3_unites_3 : List UInt8 := dkwX3_unites_3 ++ []
def dkwX3_unites_2 : List UInt8 := [180, 0, 14, 21, 5, 46, 21, 4, 160, 0, 15, 42, 42, 180, 0, 14, 3, 21, 5, 29, 182, 0, 47]
abbrev dktX3_unites_2 : List UInt8 := dkwX3_unites_2 ++ dktX3_unites_3
def dkwX3_unites_1 : List UInt8 := [180, 0, 14, 28, 46, 184, 0, 41, 54, 4, 3, 54, 5, 21, 5, 42, 180, 0, 44, 162, 0, 33, 42]
abbrev dktX3_unites_1 : List UInt8 := dkwX3_unites_1 ++ dktX3_unites_2
def dkwX3_unites_0 : List UInt8 := [42, 180, 0, 14, 27, 46, 42, 180, 0, 14, 28, 46, 184, 0, 35, 62, 42, 180, 0, 14, 27, 46, 42]
abbrev dktX3_unites_0 : List UInt8 := dkwX3_unites_0 ++ dktX3_unites_1
theorem dksX3_unites_0 : cX3_unites.data.toList.drop 0 = dktX3_unites_0 := by decide +kernel
theorem dksX3_unites_1 : cX3_unites.data.toList.drop 23 = dktX3_unites_1 := dk_seg dksX3_unites_0 23 rfl rfl
theorem dksX3_unites_2 : cX3_unites.data.toList.drop 46 = dktX3_unites_2 := dk_seg dksX3_unites_1 23 rfl rfl
theorem dksX3_unites_3 : cX3_unites.data.toList.drop 69 = dktX3_unites_3 := dk_seg dksX3_unites_2 23 rfl rfl
theorem dX3_unites_0 : decode cX3_unites 0 = .ok (.aload_n 0, 1) := dk_42 (dk_at dksX3_unites_0 0 rfl rfl)
theorem dX3_unites_1 : decode cX3_unites 1 = .ok (.getfield 14, 3) := dk_180 0 14 (dk_at dksX3_unites_0 1 rfl rfl)
theorem dX3_unites_4 : decode cX3_unites 4 = .ok (.iload_n 1, 1) := dk_27 (dk_at dksX3_unites_0 4 rfl rfl)
theorem dX3_unites_5 : decode cX3_unites 5 = .ok (.iaload, 1) := dk_46 (dk_at dksX3_unites_0 5 rfl rfl)
theorem dX3_unites_6 : decode cX3_unites 6 = .ok (.aload_n 0, 1) := dk_42 (dk_at dksX3_unites_0 6 rfl rfl)
theorem dX3_unites_7 : decode cX3_unites 7 = .ok (.getfield 14, 3) := dk_180 0 14 (dk_at dksX3_unites_0 7 rfl rfl)
theorem dX3_unites_10 : decode cX3_unites 10 = .ok (.iload_n 2, 1) := dk_28 (dk_at dksX3_unites_0 10 rfl rfl)
theorem dX3_unites_11 : decode cX3_unites 11 = .ok (.iaload, 1) := dk_46 (dk_at dksX3_unites_0 11 rfl rfl)
theorem dX3_unites_12 : decode cX3_unites 12 = .ok (.invokestatic 35, 3) := dk_184 0 35 (dk_at dksX3_unites_0 12 rfl rfl)
theorem dX3_unites_15 : decode cX3_unites 15 = .ok (.istore_n 3, 1) := dk_62 (dk_at dksX3_unites_0 15 rfl rfl)
theorem dX3_unites_16 : decode cX3_unites 16 = .ok (.aload_n 0, 1) := dk_42 (dk_at dksX3_unites_0 16 rfl rfl)
theorem dX3_unites_17 : decode cX3_unites 17 = .ok (.getfield 14, 3) := dk_180 0 14 (dk_at dksX3_unites_0 17 rfl rfl)
theorem dX3_unites_20 : decode cX3_unites 20 = .ok (.iload_n 1, 1) := dk_27 (dk_at dksX3_unites_0 20 rfl rfl)
theorem dX3_unites_21 : decode cX3_unites 21 = .ok (.iaload, 1) := dk_46 (dk_at dksX3_unites_0 21 rfl rfl)
theorem dX3_unites_22 : decode cX3_unites 22 = .ok (.aload_n 0, 1) := dk_42 (dk_at dksX3_unites_0 22 rfl rfl)
theorem dX3_unites_23 : decode cX3_unites 23 = .ok (.getfield 14, 3) := dk_180 0 14 (dk_at dksX3_unites_1 0 rfl rfl)
theorem dX3_unites_26 : decode cX3_unites 26 = .ok (.iload_n 2, 1) := dk_28 (dk_at dksX3_unites_1 3 rfl rfl)
theorem dX3_unites_27 : decode cX3_unites 27 = .ok (.iaload, 1) := dk_46 (dk_at dksX3_unites_1 4 rfl rfl)
theorem dX3_unites_28 : decode cX3_unites 28 = .ok (.invokestatic 41, 3) := dk_184 0 41 (dk_at dksX3_unites_1 5 rfl rfl)
theorem dX3_unites_31 : decode cX3_unites 31 = .ok (.istore 4, 2) := dk_54 4 (dk_at dksX3_unites_1 8 rfl rfl)
theorem dX3_unites_33 : decode cX3_unites 33 = .ok (.iconst 0, 1) := dk_3 (dk_at dksX3_unites_1 10 rfl rfl)
theorem dX3_unites_34 : decode cX3_unites 34 = .ok (.istore 5, 2) := dk_54 5 (dk_at dksX3_unites_1 11 rfl rfl)
theorem dX3_unites_36 : decode cX3_unites 36 = .ok (.iload 5, 2) := dk_21 5 (dk_at dksX3_unites_1 13 rfl rfl)
theorem dX3_unites_38 : decode cX3_unites 38 = .ok (.aload_n 0, 1) := dk_42 (dk_at dksX3_unites_1 15 rfl rfl)
theorem dX3_unites_39 : decode cX3_unites 39 = .ok (.getfield 44, 3) := dk_180 0 44 (dk_at dksX3_unites_1 16 rfl rfl)
theorem dX3_unites_42 : decode cX3_unites 42 = .ok (.if_icmp .ge 33, 3) := dk_162 0 33 (dk_at dksX3_unites_1 19 rfl rfl)
theorem dX3_unites_45 : decode cX3_unites 45 = .ok (.aload_n 0, 1) := dk_42 (dk_at dksX3_unites_1 22 rfl rfl)
theorem dX3_unites_46 : decode cX3_unites 46 = .ok (.getfield 14, 3) := dk_180 0 14 (dk_at dksX3_unites_2 0 rfl rfl)
theorem dX3_unites_49 : decode cX3_unites 49 = .ok (.iload 5, 2) := dk_21 5 (dk_at dksX3_unites_2 3 rfl rfl)
theorem dX3_unites_51 : decode cX3_unites 51 = .ok (.iaload, 1) := dk_46 (dk_at dksX3_unites_2 5 rfl rfl)
theorem dX3_unites_52 : decode cX3_unites 52 = .ok (.iload 4, 2) := dk_21 4 (dk_at dksX3_unites_2 6 rfl rfl)
theorem dX3_unites_54 : decode cX3_unites 54 = .ok (.if_icmp .ne 15, 3) := dk_160 0 15 (dk_at dksX3_unites_2 8 rfl rfl)
theorem dX3_unites_57 : decode cX3_unites 57 = .ok (.aload_n 0, 1) := dk_42 (dk_at dksX3_unites_2 11 rfl rfl)
theorem dX3_unites_58 : decode cX3_unites 58 = .ok (.aload_n 0, 1) := dk_42 (dk_at dksX3_unites_2 12 rfl rfl)
theorem dX3_unites_59 : decode cX3_unites 59 = .ok (.getfield 14, 3) := dk_180 0 14 (dk_at dksX3_unites_2 13 rfl rfl)
theorem dX3_unites_62 : decode cX3_unites 62 = .ok (.iconst 0, 1) := dk_3 (dk_at dksX3_unites_2 16 rfl rfl)
theorem dX3_unites_63 : decode cX3_unites 63 = .ok (.iload 5, 2) := dk_21 5 (dk_at dksX3_unites_2 17 rfl rfl)
theorem dX3_unites_65 : decode cX3_unites 65 = .ok (.iload_n 3, 1) := dk_29 (dk_at dksX3_unites_2 19 rfl rfl)
theorem dX3_unites_66 : decode cX3_unites 66 = .ok (.invokevirtual 47, 3) := dk_182 0 47 (dk_at dksX3_unites_2 20 rfl rfl)
theorem dX3_unites_69 : decode cX3_unites 69 = .ok (.iinc 5 1, 3) := dk_132 5 1 (dk_at dksX3_unites_3 0 rfl rfl)
theorem dX3_unites_72 : decode cX3_unites 72 = .ok (.goto (-36), 3) := dk_167 255 220 (dk_at dksX3_unites_3 3 rfl rfl)
theorem dX3_unites_75 : decode cX3_unites 75 = .ok (.return_, 1) := dk_177 (dk_at dksX3_unites_3 6 rfl rfl)
abbrev cX3_groups : ByteArray := prog_9_method_9_code
def yX3_groups : MethodName := ⟨RX3, "groups", "()I"⟩
def dkwX3_groups_1 : List UInt8 := [167, 0, 4, 3, 96, 60, 132, 2, 1, 167, 255, 227, 27, 172]
abbrev dktX3_groups_1 : List UInt8 := dkwX3_groups_1 ++ []
def dkwX3_groups_0 : List UInt8 := [3, 60, 3, 61, 28, 42, 180, 0, 44, 162, 0, 27, 27, 42, 180, 0, 14, 28, 46, 28, 160, 0, 7, 4]
abbrev dktX3_groups_0 : List UInt8 := dkwX3_groups_0 ++ dktX3_groups_1
theorem dksX3_groups_0 : cX3_groups.data.toList.drop 0 = dktX3_groups_0 := by decide +kernel
theorem dksX3_groups_1 : cX3_groups.data.toList.drop 24 = dktX3_groups_1 := dk_seg dksX3_groups_0 24 rfl rfl
theorem dX3_groups_0 : decode cX3_groups 0 = .ok (.iconst 0, 1) := dk_3 (dk_at dksX3_groups_0 0 rfl rfl)
theorem dX3_groups_1 : decode cX3_groups 1 = .ok (.istore_n 1, 1) := dk_60 (dk_at dksX3_groups_0 1 rfl rfl)
theorem dX3_groups_2 : decode cX3_groups 2 = .ok (.iconst 0, 1) := dk_3 (dk_at dksX3_groups_0 2 rfl rfl)
theorem dX3_groups_3 : decode cX3_groups 3 = .ok (.istore_n 2, 1) := dk_61 (dk_at dksX3_groups_0 3 rfl rfl)
theorem dX3_groups_4 : decode cX3_groups 4 = .ok (.iload_n 2, 1) := dk_28 (dk_at dksX3_groups_0 4 rfl rfl)
theorem dX3_groups_5 : decode cX3_groups 5 = .ok (.aload_n 0, 1) := dk_42 (dk_at dksX3_groups_0 5 rfl rfl)
theorem dX3_groups_6 : decode cX3_groups 6 = .ok (.getfield 44, 3) := dk_180 0 44 (dk_at dksX3_groups_0 6 rfl rfl)
theorem dX3_groups_9 : decode cX3_groups 9 = .ok (.if_icmp .ge 27, 3) := dk_162 0 27 (dk_at dksX3_groups_0 9 rfl rfl)
theorem dX3_groups_12 : decode cX3_groups 12 = .ok (.iload_n 1, 1) := dk_27 (dk_at dksX3_groups_0 12 rfl rfl)
theorem dX3_groups_13 : decode cX3_groups 13 = .ok (.aload_n 0, 1) := dk_42 (dk_at dksX3_groups_0 13 rfl rfl)
theorem dX3_groups_14 : decode cX3_groups 14 = .ok (.getfield 14, 3) := dk_180 0 14 (dk_at dksX3_groups_0 14 rfl rfl)
theorem dX3_groups_17 : decode cX3_groups 17 = .ok (.iload_n 2, 1) := dk_28 (dk_at dksX3_groups_0 17 rfl rfl)
theorem dX3_groups_18 : decode cX3_groups 18 = .ok (.iaload, 1) := dk_46 (dk_at dksX3_groups_0 18 rfl rfl)
theorem dX3_groups_19 : decode cX3_groups 19 = .ok (.iload_n 2, 1) := dk_28 (dk_at dksX3_groups_0 19 rfl rfl)
theorem dX3_groups_20 : decode cX3_groups 20 = .ok (.if_icmp .ne 7, 3) := dk_160 0 7 (dk_at dksX3_groups_0 20 rfl rfl)
theorem dX3_groups_23 : decode cX3_groups 23 = .ok (.iconst 1, 1) := dk_4 (dk_at dksX3_groups_0 23 rfl rfl)
theorem dX3_groups_24 : decode cX3_groups 24 = .ok (.goto 4, 3) := dk_167 0 4 (dk_at dksX3_groups_1 0 rfl rfl)
theorem dX3_groups_27 : decode cX3_groups 27 = .ok (.iconst 0, 1) := dk_3 (dk_at dksX3_groups_1 3 rfl rfl)
theorem dX3_groups_28 : decode cX3_groups 28 = .ok (.iadd, 1) := dk_96 (dk_at dksX3_groups_1 4 rfl rfl)
theorem dX3_groups_29 : decode cX3_groups 29 = .ok (.istore_n 1, 1) := dk_60 (dk_at dksX3_groups_1 5 rfl rfl)
theorem dX3_groups_30 : decode cX3_groups 30 = .ok (.iinc 2 1, 3) := dk_132 2 1 (dk_at dksX3_groups_1 6 rfl rfl)
theorem dX3_groups_33 : decode cX3_groups 33 = .ok (.goto (-29), 3) := dk_167 255 227 (dk_at dksX3_groups_1 9 rfl rfl)
theorem dX3_groups_36 : decode cX3_groups 36 = .ok (.iload_n 1, 1) := dk_27 (dk_at dksX3_groups_1 12 rfl rfl)
theorem dX3_groups_37 : decode cX3_groups 37 = .ok (.ireturn, 1) := dk_172 (dk_at dksX3_groups_1 13 rfl rfl)
abbrev cX3_like : ByteArray := prog_9_method_10_code
def yX3_like : MethodName := ⟨RX3, "like", "(LReasonCloser$Groups;)V"⟩
def dkwX3_like_1 : List UInt8 := [180, 0, 14, 28, 46, 79, 132, 2, 1, 167, 255, 233, 177]
abbrev dktX3_like_1 : List UInt8 := dkwX3_like_1 ++ []
def dkwX3_like_0 : List UInt8 := [42, 43, 180, 0, 44, 181, 0, 44, 3, 61, 28, 42, 180, 0, 44, 162, 0, 21, 42, 180, 0, 14, 28, 43]
abbrev dktX3_like_0 : List UInt8 := dkwX3_like_0 ++ dktX3_like_1
theorem dksX3_like_0 : cX3_like.data.toList.drop 0 = dktX3_like_0 := by decide +kernel
theorem dksX3_like_1 : cX3_like.data.toList.drop 24 = dktX3_like_1 := dk_seg dksX3_like_0 24 rfl rfl
theorem dX3_like_0 : decode cX3_like 0 = .ok (.aload_n 0, 1) := dk_42 (dk_at dksX3_like_0 0 rfl rfl)
theorem dX3_like_1 : decode cX3_like 1 = .ok (.aload_n 1, 1) := dk_43 (dk_at dksX3_like_0 1 rfl rfl)
theorem dX3_like_2 : decode cX3_like 2 = .ok (.getfield 44, 3) := dk_180 0 44 (dk_at dksX3_like_0 2 rfl rfl)
theorem dX3_like_5 : decode cX3_like 5 = .ok (.putfield 44, 3) := dk_181 0 44 (dk_at dksX3_like_0 5 rfl rfl)
theorem dX3_like_8 : decode cX3_like 8 = .ok (.iconst 0, 1) := dk_3 (dk_at dksX3_like_0 8 rfl rfl)
theorem dX3_like_9 : decode cX3_like 9 = .ok (.istore_n 2, 1) := dk_61 (dk_at dksX3_like_0 9 rfl rfl)
theorem dX3_like_10 : decode cX3_like 10 = .ok (.iload_n 2, 1) := dk_28 (dk_at dksX3_like_0 10 rfl rfl)
theorem dX3_like_11 : decode cX3_like 11 = .ok (.aload_n 0, 1) := dk_42 (dk_at dksX3_like_0 11 rfl rfl)
theorem dX3_like_12 : decode cX3_like 12 = .ok (.getfield 44, 3) := dk_180 0 44 (dk_at dksX3_like_0 12 rfl rfl)
theorem dX3_like_15 : decode cX3_like 15 = .ok (.if_icmp .ge 21, 3) := dk_162 0 21 (dk_at dksX3_like_0 15 rfl rfl)
theorem dX3_like_18 : decode cX3_like 18 = .ok (.aload_n 0, 1) := dk_42 (dk_at dksX3_like_0 18 rfl rfl)
theorem dX3_like_19 : decode cX3_like 19 = .ok (.getfield 14, 3) := dk_180 0 14 (dk_at dksX3_like_0 19 rfl rfl)
theorem dX3_like_22 : decode cX3_like 22 = .ok (.iload_n 2, 1) := dk_28 (dk_at dksX3_like_0 22 rfl rfl)
theorem dX3_like_23 : decode cX3_like 23 = .ok (.aload_n 1, 1) := dk_43 (dk_at dksX3_like_0 23 rfl rfl)
theorem dX3_like_24 : decode cX3_like 24 = .ok (.getfield 14, 3) := dk_180 0 14 (dk_at dksX3_like_1 0 rfl rfl)
theorem dX3_like_27 : decode cX3_like 27 = .ok (.iload_n 2, 1) := dk_28 (dk_at dksX3_like_1 3 rfl rfl)
theorem dX3_like_28 : decode cX3_like 28 = .ok (.iaload, 1) := dk_46 (dk_at dksX3_like_1 4 rfl rfl)
theorem dX3_like_29 : decode cX3_like 29 = .ok (.iastore, 1) := dk_79 (dk_at dksX3_like_1 5 rfl rfl)
theorem dX3_like_30 : decode cX3_like 30 = .ok (.iinc 2 1, 3) := dk_132 2 1 (dk_at dksX3_like_1 6 rfl rfl)
theorem dX3_like_33 : decode cX3_like 33 = .ok (.goto (-23), 3) := dk_167 255 233 (dk_at dksX3_like_1 9 rfl rfl)
theorem dX3_like_36 : decode cX3_like 36 = .ok (.return_, 1) := dk_177 (dk_at dksX3_like_1 12 rfl rfl)
abbrev cX3_trailed : ByteArray := prog_9_method_5_code
def yX3_trailed : MethodName := ⟨RX3, "trailed", "()I"⟩
theorem dX3_trailed_0 : decode cX3_trailed 0 = .ok (.aload_n 0, 1) := by decide +kernel
theorem dX3_trailed_1 : decode cX3_trailed 1 = .ok (.getfield 21, 3) := by decide +kernel
theorem dX3_trailed_4 : decode cX3_trailed 4 = .ok (.ireturn, 1) := by decide +kernel
abbrev cX3_goesBack : ByteArray := prog_9_method_6_code
def yX3_goesBack : MethodName := ⟨RX3, "goesBack", "(I)V"⟩
def dkwX3_goesBack_2 : List UInt8 := [180, 0, 21, 5, 96, 46, 79, 167, 255, 202, 177]
abbrev dktX3_goesBack_2 : List UInt8 := dkwX3_goesBack_2 ++ []
def dkwX3_goesBack_1 : List UInt8 := [180, 0, 21, 46, 182, 0, 31, 42, 180, 0, 18, 42, 180, 0, 21, 4, 96, 46, 42, 180, 0, 18, 42]
abbrev dktX3_goesBack_1 : List UInt8 := dkwX3_goesBack_1 ++ dktX3_goesBack_2
def dkwX3_goesBack_0 : List UInt8 := [42, 180, 0, 21, 27, 164, 0, 52, 42, 89, 180, 0, 21, 6, 100, 181, 0, 21, 42, 42, 180, 0, 18, 42]
abbrev dktX3_goesBack_0 : List UInt8 := dkwX3_goesBack_0 ++ dktX3_goesBack_1
theorem dksX3_goesBack_0 : cX3_goesBack.data.toList.drop 0 = dktX3_goesBack_0 := by decide +kernel
theorem dksX3_goesBack_1 : cX3_goesBack.data.toList.drop 24 = dktX3_goesBack_1 := dk_seg dksX3_goesBack_0 24 rfl rfl
theorem dksX3_goesBack_2 : cX3_goesBack.data.toList.drop 47 = dktX3_goesBack_2 := dk_seg dksX3_goesBack_1 23 rfl rfl
theorem dX3_goesBack_0 : decode cX3_goesBack 0 = .ok (.aload_n 0, 1) := dk_42 (dk_at dksX3_goesBack_0 0 rfl rfl)
theorem dX3_goesBack_1 : decode cX3_goesBack 1 = .ok (.getfield 21, 3) := dk_180 0 21 (dk_at dksX3_goesBack_0 1 rfl rfl)
theorem dX3_goesBack_4 : decode cX3_goesBack 4 = .ok (.iload_n 1, 1) := dk_27 (dk_at dksX3_goesBack_0 4 rfl rfl)
theorem dX3_goesBack_5 : decode cX3_goesBack 5 = .ok (.if_icmp .le 52, 3) := dk_164 0 52 (dk_at dksX3_goesBack_0 5 rfl rfl)
theorem dX3_goesBack_8 : decode cX3_goesBack 8 = .ok (.aload_n 0, 1) := dk_42 (dk_at dksX3_goesBack_0 8 rfl rfl)
theorem dX3_goesBack_9 : decode cX3_goesBack 9 = .ok (.dup, 1) := dk_89 (dk_at dksX3_goesBack_0 9 rfl rfl)
theorem dX3_goesBack_10 : decode cX3_goesBack 10 = .ok (.getfield 21, 3) := dk_180 0 21 (dk_at dksX3_goesBack_0 10 rfl rfl)
theorem dX3_goesBack_13 : decode cX3_goesBack 13 = .ok (.iconst 3, 1) := dk_6 (dk_at dksX3_goesBack_0 13 rfl rfl)
theorem dX3_goesBack_14 : decode cX3_goesBack 14 = .ok (.isub, 1) := dk_100 (dk_at dksX3_goesBack_0 14 rfl rfl)
theorem dX3_goesBack_15 : decode cX3_goesBack 15 = .ok (.putfield 21, 3) := dk_181 0 21 (dk_at dksX3_goesBack_0 15 rfl rfl)
theorem dX3_goesBack_18 : decode cX3_goesBack 18 = .ok (.aload_n 0, 1) := dk_42 (dk_at dksX3_goesBack_0 18 rfl rfl)
theorem dX3_goesBack_19 : decode cX3_goesBack 19 = .ok (.aload_n 0, 1) := dk_42 (dk_at dksX3_goesBack_0 19 rfl rfl)
theorem dX3_goesBack_20 : decode cX3_goesBack 20 = .ok (.getfield 18, 3) := dk_180 0 18 (dk_at dksX3_goesBack_0 20 rfl rfl)
theorem dX3_goesBack_23 : decode cX3_goesBack 23 = .ok (.aload_n 0, 1) := dk_42 (dk_at dksX3_goesBack_0 23 rfl rfl)
theorem dX3_goesBack_24 : decode cX3_goesBack 24 = .ok (.getfield 21, 3) := dk_180 0 21 (dk_at dksX3_goesBack_1 0 rfl rfl)
theorem dX3_goesBack_27 : decode cX3_goesBack 27 = .ok (.iaload, 1) := dk_46 (dk_at dksX3_goesBack_1 3 rfl rfl)
theorem dX3_goesBack_28 : decode cX3_goesBack 28 = .ok (.invokevirtual 31, 3) := dk_182 0 31 (dk_at dksX3_goesBack_1 4 rfl rfl)
theorem dX3_goesBack_31 : decode cX3_goesBack 31 = .ok (.aload_n 0, 1) := dk_42 (dk_at dksX3_goesBack_1 7 rfl rfl)
theorem dX3_goesBack_32 : decode cX3_goesBack 32 = .ok (.getfield 18, 3) := dk_180 0 18 (dk_at dksX3_goesBack_1 8 rfl rfl)
theorem dX3_goesBack_35 : decode cX3_goesBack 35 = .ok (.aload_n 0, 1) := dk_42 (dk_at dksX3_goesBack_1 11 rfl rfl)
theorem dX3_goesBack_36 : decode cX3_goesBack 36 = .ok (.getfield 21, 3) := dk_180 0 21 (dk_at dksX3_goesBack_1 12 rfl rfl)
theorem dX3_goesBack_39 : decode cX3_goesBack 39 = .ok (.iconst 1, 1) := dk_4 (dk_at dksX3_goesBack_1 15 rfl rfl)
theorem dX3_goesBack_40 : decode cX3_goesBack 40 = .ok (.iadd, 1) := dk_96 (dk_at dksX3_goesBack_1 16 rfl rfl)
theorem dX3_goesBack_41 : decode cX3_goesBack 41 = .ok (.iaload, 1) := dk_46 (dk_at dksX3_goesBack_1 17 rfl rfl)
theorem dX3_goesBack_42 : decode cX3_goesBack 42 = .ok (.aload_n 0, 1) := dk_42 (dk_at dksX3_goesBack_1 18 rfl rfl)
theorem dX3_goesBack_43 : decode cX3_goesBack 43 = .ok (.getfield 18, 3) := dk_180 0 18 (dk_at dksX3_goesBack_1 19 rfl rfl)
theorem dX3_goesBack_46 : decode cX3_goesBack 46 = .ok (.aload_n 0, 1) := dk_42 (dk_at dksX3_goesBack_1 22 rfl rfl)
theorem dX3_goesBack_47 : decode cX3_goesBack 47 = .ok (.getfield 21, 3) := dk_180 0 21 (dk_at dksX3_goesBack_2 0 rfl rfl)
theorem dX3_goesBack_50 : decode cX3_goesBack 50 = .ok (.iconst 2, 1) := dk_5 (dk_at dksX3_goesBack_2 3 rfl rfl)
theorem dX3_goesBack_51 : decode cX3_goesBack 51 = .ok (.iadd, 1) := dk_96 (dk_at dksX3_goesBack_2 4 rfl rfl)
theorem dX3_goesBack_52 : decode cX3_goesBack 52 = .ok (.iaload, 1) := dk_46 (dk_at dksX3_goesBack_2 5 rfl rfl)
theorem dX3_goesBack_53 : decode cX3_goesBack 53 = .ok (.iastore, 1) := dk_79 (dk_at dksX3_goesBack_2 6 rfl rfl)
theorem dX3_goesBack_54 : decode cX3_goesBack 54 = .ok (.goto (-54), 3) := dk_167 255 202 (dk_at dksX3_goesBack_2 7 rfl rfl)
theorem dX3_goesBack_57 : decode cX3_goesBack 57 = .ok (.return_, 1) := dk_177 (dk_at dksX3_goesBack_2 10 rfl rfl)
abbrev cX3_row : ByteArray := prog_9_method_4_code
def yX3_row : MethodName := ⟨RX3, "row", "(I)[I"⟩
theorem dX3_row_0 : decode cX3_row 0 = .ok (.aload_n 0, 1) := by decide +kernel
theorem dX3_row_1 : decode cX3_row 1 = .ok (.getfield 14, 3) := by decide +kernel
theorem dX3_row_4 : decode cX3_row 4 = .ok (.areturn, 1) := by decide +kernel

abbrev cX4_init : ByteArray := prog_4_method_2_code
def yX4_init : MethodName := ⟨RX4, "<init>", "(Ljava/util/List;I)V"⟩
def dkwX4_init_0 : List UInt8 := [42, 28, 183, 0, 9, 42, 43, 181, 0, 14, 177]
abbrev dktX4_init_0 : List UInt8 := dkwX4_init_0 ++ []
theorem dksX4_init_0 : cX4_init.data.toList.drop 0 = dktX4_init_0 := by decide +kernel
theorem dX4_init_0 : decode cX4_init 0 = .ok (.aload_n 0, 1) := dk_42 (dk_at dksX4_init_0 0 rfl rfl)
theorem dX4_init_1 : decode cX4_init 1 = .ok (.iload_n 2, 1) := dk_28 (dk_at dksX4_init_0 1 rfl rfl)
theorem dX4_init_2 : decode cX4_init 2 = .ok (.invokespecial 9, 3) := dk_183 0 9 (dk_at dksX4_init_0 2 rfl rfl)
theorem dX4_init_5 : decode cX4_init 5 = .ok (.aload_n 0, 1) := dk_42 (dk_at dksX4_init_0 5 rfl rfl)
theorem dX4_init_6 : decode cX4_init 6 = .ok (.aload_n 1, 1) := dk_43 (dk_at dksX4_init_0 6 rfl rfl)
theorem dX4_init_7 : decode cX4_init 7 = .ok (.putfield 14, 3) := dk_181 0 14 (dk_at dksX4_init_0 7 rfl rfl)
theorem dX4_init_10 : decode cX4_init 10 = .ok (.return_, 1) := dk_177 (dk_at dksX4_init_0 10 rfl rfl)
abbrev cX4_init_2 : ByteArray := prog_4_method_1_code
def yX4_init_2 : MethodName := ⟨RX4, "<init>", "(Ljava/util/List;)V"⟩
def dkwX4_init_2_0 : List UInt8 := [42, 43, 3, 183, 0, 3, 177]
abbrev dktX4_init_2_0 : List UInt8 := dkwX4_init_2_0 ++ []
theorem dksX4_init_2_0 : cX4_init_2.data.toList.drop 0 = dktX4_init_2_0 := by decide +kernel
theorem dX4_init_2_0 : decode cX4_init_2 0 = .ok (.aload_n 0, 1) := dk_42 (dk_at dksX4_init_2_0 0 rfl rfl)
theorem dX4_init_2_1 : decode cX4_init_2 1 = .ok (.aload_n 1, 1) := dk_43 (dk_at dksX4_init_2_0 1 rfl rfl)
theorem dX4_init_2_2 : decode cX4_init_2 2 = .ok (.iconst 0, 1) := dk_3 (dk_at dksX4_init_2_0 2 rfl rfl)
theorem dX4_init_2_3 : decode cX4_init_2 3 = .ok (.invokespecial 3, 3) := dk_183 0 3 (dk_at dksX4_init_2_0 3 rfl rfl)
theorem dX4_init_2_6 : decode cX4_init_2 6 = .ok (.return_, 1) := dk_177 (dk_at dksX4_init_2_0 6 rfl rfl)
abbrev cX4_comes : ByteArray := prog_4_method_7_code
def yX4_comes : MethodName := ⟨RX4, "comes", "()V"⟩
def dkwX4_comes_1 : List UInt8 := [181, 0, 42, 42, 182, 0, 63, 177]
abbrev dktX4_comes_1 : List UInt8 := dkwX4_comes_1 ++ []
def dkwX4_comes_0 : List UInt8 := [42, 42, 180, 0, 56, 3, 42, 180, 0, 42, 42, 180, 0, 42, 182, 0, 59, 42, 89, 180, 0, 42, 4, 96]
abbrev dktX4_comes_0 : List UInt8 := dkwX4_comes_0 ++ dktX4_comes_1
theorem dksX4_comes_0 : cX4_comes.data.toList.drop 0 = dktX4_comes_0 := by decide +kernel
theorem dksX4_comes_1 : cX4_comes.data.toList.drop 24 = dktX4_comes_1 := dk_seg dksX4_comes_0 24 rfl rfl
theorem dX4_comes_0 : decode cX4_comes 0 = .ok (.aload_n 0, 1) := dk_42 (dk_at dksX4_comes_0 0 rfl rfl)
theorem dX4_comes_1 : decode cX4_comes 1 = .ok (.aload_n 0, 1) := dk_42 (dk_at dksX4_comes_0 1 rfl rfl)
theorem dX4_comes_2 : decode cX4_comes 2 = .ok (.getfield 56, 3) := dk_180 0 56 (dk_at dksX4_comes_0 2 rfl rfl)
theorem dX4_comes_5 : decode cX4_comes 5 = .ok (.iconst 0, 1) := dk_3 (dk_at dksX4_comes_0 5 rfl rfl)
theorem dX4_comes_6 : decode cX4_comes 6 = .ok (.aload_n 0, 1) := dk_42 (dk_at dksX4_comes_0 6 rfl rfl)
theorem dX4_comes_7 : decode cX4_comes 7 = .ok (.getfield 42, 3) := dk_180 0 42 (dk_at dksX4_comes_0 7 rfl rfl)
theorem dX4_comes_10 : decode cX4_comes 10 = .ok (.aload_n 0, 1) := dk_42 (dk_at dksX4_comes_0 10 rfl rfl)
theorem dX4_comes_11 : decode cX4_comes 11 = .ok (.getfield 42, 3) := dk_180 0 42 (dk_at dksX4_comes_0 11 rfl rfl)
theorem dX4_comes_14 : decode cX4_comes 14 = .ok (.invokevirtual 59, 3) := dk_182 0 59 (dk_at dksX4_comes_0 14 rfl rfl)
theorem dX4_comes_17 : decode cX4_comes 17 = .ok (.aload_n 0, 1) := dk_42 (dk_at dksX4_comes_0 17 rfl rfl)
theorem dX4_comes_18 : decode cX4_comes 18 = .ok (.dup, 1) := dk_89 (dk_at dksX4_comes_0 18 rfl rfl)
theorem dX4_comes_19 : decode cX4_comes 19 = .ok (.getfield 42, 3) := dk_180 0 42 (dk_at dksX4_comes_0 19 rfl rfl)
theorem dX4_comes_22 : decode cX4_comes 22 = .ok (.iconst 1, 1) := dk_4 (dk_at dksX4_comes_0 22 rfl rfl)
theorem dX4_comes_23 : decode cX4_comes 23 = .ok (.iadd, 1) := dk_96 (dk_at dksX4_comes_0 23 rfl rfl)
theorem dX4_comes_24 : decode cX4_comes 24 = .ok (.putfield 42, 3) := dk_181 0 42 (dk_at dksX4_comes_1 0 rfl rfl)
theorem dX4_comes_27 : decode cX4_comes 27 = .ok (.aload_n 0, 1) := dk_42 (dk_at dksX4_comes_1 3 rfl rfl)
theorem dX4_comes_28 : decode cX4_comes 28 = .ok (.invokevirtual 63, 3) := dk_182 0 63 (dk_at dksX4_comes_1 4 rfl rfl)
theorem dX4_comes_31 : decode cX4_comes 31 = .ok (.return_, 1) := dk_177 (dk_at dksX4_comes_1 7 rfl rfl)
abbrev cX4_closes : ByteArray := prog_4_method_6_code
def yX4_closes : MethodName := ⟨RX4, "closes", "()V"⟩
def dkwX4_closes_0 : List UInt8 := [4, 60, 27, 153, 0, 11, 42, 182, 0, 52, 60, 167, 255, 247, 177]
abbrev dktX4_closes_0 : List UInt8 := dkwX4_closes_0 ++ []
theorem dksX4_closes_0 : cX4_closes.data.toList.drop 0 = dktX4_closes_0 := by decide +kernel
theorem dX4_closes_0 : decode cX4_closes 0 = .ok (.iconst 1, 1) := dk_4 (dk_at dksX4_closes_0 0 rfl rfl)
theorem dX4_closes_1 : decode cX4_closes 1 = .ok (.istore_n 1, 1) := dk_60 (dk_at dksX4_closes_0 1 rfl rfl)
theorem dX4_closes_2 : decode cX4_closes 2 = .ok (.iload_n 1, 1) := dk_27 (dk_at dksX4_closes_0 2 rfl rfl)
theorem dX4_closes_3 : decode cX4_closes 3 = .ok (.ifCond .eq 11, 3) := dk_153 0 11 (dk_at dksX4_closes_0 3 rfl rfl)
theorem dX4_closes_6 : decode cX4_closes 6 = .ok (.aload_n 0, 1) := dk_42 (dk_at dksX4_closes_0 6 rfl rfl)
theorem dX4_closes_7 : decode cX4_closes 7 = .ok (.invokevirtual 52, 3) := dk_182 0 52 (dk_at dksX4_closes_0 7 rfl rfl)
theorem dX4_closes_10 : decode cX4_closes 10 = .ok (.istore_n 1, 1) := dk_60 (dk_at dksX4_closes_0 10 rfl rfl)
theorem dX4_closes_11 : decode cX4_closes 11 = .ok (.goto (-9), 3) := dk_167 255 247 (dk_at dksX4_closes_0 11 rfl rfl)
theorem dX4_closes_14 : decode cX4_closes 14 = .ok (.return_, 1) := dk_177 (dk_at dksX4_closes_0 14 rfl rfl)
abbrev cX4_closesOne : ByteArray := prog_4_method_5_code
def yX4_closesOne : MethodName := ⟨RX4, "closesOne", "()Z"⟩
def dkwX4_closesOne_2 : List UInt8 := [182, 0, 48, 4, 172, 132, 2, 1, 167, 255, 214, 132, 1, 1, 167, 255, 196, 3, 172]
abbrev dktX4_closesOne_2 : List UInt8 := dkwX4_closesOne_2 ++ []
def dkwX4_closesOne_1 : List UInt8 := [28, 182, 0, 34, 154, 0, 25, 42, 27, 28, 182, 0, 45, 154, 0, 6, 167, 0, 13, 42, 27, 28, 16, 254]
abbrev dktX4_closesOne_1 : List UInt8 := dkwX4_closesOne_1 ++ dktX4_closesOne_2
def dkwX4_closesOne_0 : List UInt8 := [3, 60, 27, 42, 180, 0, 42, 162, 0, 58, 27, 4, 96, 61, 28, 42, 180, 0, 42, 162, 0, 40, 42, 27]
abbrev dktX4_closesOne_0 : List UInt8 := dkwX4_closesOne_0 ++ dktX4_closesOne_1
theorem dksX4_closesOne_0 : cX4_closesOne.data.toList.drop 0 = dktX4_closesOne_0 := by decide +kernel
theorem dksX4_closesOne_1 : cX4_closesOne.data.toList.drop 24 = dktX4_closesOne_1 := dk_seg dksX4_closesOne_0 24 rfl rfl
theorem dksX4_closesOne_2 : cX4_closesOne.data.toList.drop 48 = dktX4_closesOne_2 := dk_seg dksX4_closesOne_1 24 rfl rfl
theorem dX4_closesOne_0 : decode cX4_closesOne 0 = .ok (.iconst 0, 1) := dk_3 (dk_at dksX4_closesOne_0 0 rfl rfl)
theorem dX4_closesOne_1 : decode cX4_closesOne 1 = .ok (.istore_n 1, 1) := dk_60 (dk_at dksX4_closesOne_0 1 rfl rfl)
theorem dX4_closesOne_2 : decode cX4_closesOne 2 = .ok (.iload_n 1, 1) := dk_27 (dk_at dksX4_closesOne_0 2 rfl rfl)
theorem dX4_closesOne_3 : decode cX4_closesOne 3 = .ok (.aload_n 0, 1) := dk_42 (dk_at dksX4_closesOne_0 3 rfl rfl)
theorem dX4_closesOne_4 : decode cX4_closesOne 4 = .ok (.getfield 42, 3) := dk_180 0 42 (dk_at dksX4_closesOne_0 4 rfl rfl)
theorem dX4_closesOne_7 : decode cX4_closesOne 7 = .ok (.if_icmp .ge 58, 3) := dk_162 0 58 (dk_at dksX4_closesOne_0 7 rfl rfl)
theorem dX4_closesOne_10 : decode cX4_closesOne 10 = .ok (.iload_n 1, 1) := dk_27 (dk_at dksX4_closesOne_0 10 rfl rfl)
theorem dX4_closesOne_11 : decode cX4_closesOne 11 = .ok (.iconst 1, 1) := dk_4 (dk_at dksX4_closesOne_0 11 rfl rfl)
theorem dX4_closesOne_12 : decode cX4_closesOne 12 = .ok (.iadd, 1) := dk_96 (dk_at dksX4_closesOne_0 12 rfl rfl)
theorem dX4_closesOne_13 : decode cX4_closesOne 13 = .ok (.istore_n 2, 1) := dk_61 (dk_at dksX4_closesOne_0 13 rfl rfl)
theorem dX4_closesOne_14 : decode cX4_closesOne 14 = .ok (.iload_n 2, 1) := dk_28 (dk_at dksX4_closesOne_0 14 rfl rfl)
theorem dX4_closesOne_15 : decode cX4_closesOne 15 = .ok (.aload_n 0, 1) := dk_42 (dk_at dksX4_closesOne_0 15 rfl rfl)
theorem dX4_closesOne_16 : decode cX4_closesOne 16 = .ok (.getfield 42, 3) := dk_180 0 42 (dk_at dksX4_closesOne_0 16 rfl rfl)
theorem dX4_closesOne_19 : decode cX4_closesOne 19 = .ok (.if_icmp .ge 40, 3) := dk_162 0 40 (dk_at dksX4_closesOne_0 19 rfl rfl)
theorem dX4_closesOne_22 : decode cX4_closesOne 22 = .ok (.aload_n 0, 1) := dk_42 (dk_at dksX4_closesOne_0 22 rfl rfl)
theorem dX4_closesOne_23 : decode cX4_closesOne 23 = .ok (.iload_n 1, 1) := dk_27 (dk_at dksX4_closesOne_0 23 rfl rfl)
theorem dX4_closesOne_24 : decode cX4_closesOne 24 = .ok (.iload_n 2, 1) := dk_28 (dk_at dksX4_closesOne_1 0 rfl rfl)
theorem dX4_closesOne_25 : decode cX4_closesOne 25 = .ok (.invokevirtual 34, 3) := dk_182 0 34 (dk_at dksX4_closesOne_1 1 rfl rfl)
theorem dX4_closesOne_28 : decode cX4_closesOne 28 = .ok (.ifCond .ne 25, 3) := dk_154 0 25 (dk_at dksX4_closesOne_1 4 rfl rfl)
theorem dX4_closesOne_31 : decode cX4_closesOne 31 = .ok (.aload_n 0, 1) := dk_42 (dk_at dksX4_closesOne_1 7 rfl rfl)
theorem dX4_closesOne_32 : decode cX4_closesOne 32 = .ok (.iload_n 1, 1) := dk_27 (dk_at dksX4_closesOne_1 8 rfl rfl)
theorem dX4_closesOne_33 : decode cX4_closesOne 33 = .ok (.iload_n 2, 1) := dk_28 (dk_at dksX4_closesOne_1 9 rfl rfl)
theorem dX4_closesOne_34 : decode cX4_closesOne 34 = .ok (.invokevirtual 45, 3) := dk_182 0 45 (dk_at dksX4_closesOne_1 10 rfl rfl)
theorem dX4_closesOne_37 : decode cX4_closesOne 37 = .ok (.ifCond .ne 6, 3) := dk_154 0 6 (dk_at dksX4_closesOne_1 13 rfl rfl)
theorem dX4_closesOne_40 : decode cX4_closesOne 40 = .ok (.goto 13, 3) := dk_167 0 13 (dk_at dksX4_closesOne_1 16 rfl rfl)
theorem dX4_closesOne_43 : decode cX4_closesOne 43 = .ok (.aload_n 0, 1) := dk_42 (dk_at dksX4_closesOne_1 19 rfl rfl)
theorem dX4_closesOne_44 : decode cX4_closesOne 44 = .ok (.iload_n 1, 1) := dk_27 (dk_at dksX4_closesOne_1 20 rfl rfl)
theorem dX4_closesOne_45 : decode cX4_closesOne 45 = .ok (.iload_n 2, 1) := dk_28 (dk_at dksX4_closesOne_1 21 rfl rfl)
theorem dX4_closesOne_46 : decode cX4_closesOne 46 = .ok (.bipush (-2), 2) := dk_16 254 (dk_at dksX4_closesOne_1 22 rfl rfl)
theorem dX4_closesOne_48 : decode cX4_closesOne 48 = .ok (.invokevirtual 48, 3) := dk_182 0 48 (dk_at dksX4_closesOne_2 0 rfl rfl)
theorem dX4_closesOne_51 : decode cX4_closesOne 51 = .ok (.iconst 1, 1) := dk_4 (dk_at dksX4_closesOne_2 3 rfl rfl)
theorem dX4_closesOne_52 : decode cX4_closesOne 52 = .ok (.ireturn, 1) := dk_172 (dk_at dksX4_closesOne_2 4 rfl rfl)
theorem dX4_closesOne_53 : decode cX4_closesOne 53 = .ok (.iinc 2 1, 3) := dk_132 2 1 (dk_at dksX4_closesOne_2 5 rfl rfl)
theorem dX4_closesOne_56 : decode cX4_closesOne 56 = .ok (.goto (-42), 3) := dk_167 255 214 (dk_at dksX4_closesOne_2 8 rfl rfl)
theorem dX4_closesOne_59 : decode cX4_closesOne 59 = .ok (.iinc 1 1, 3) := dk_132 1 1 (dk_at dksX4_closesOne_2 11 rfl rfl)
theorem dX4_closesOne_62 : decode cX4_closesOne 62 = .ok (.goto (-60), 3) := dk_167 255 196 (dk_at dksX4_closesOne_2 14 rfl rfl)
theorem dX4_closesOne_65 : decode cX4_closesOne 65 = .ok (.iconst 0, 1) := dk_3 (dk_at dksX4_closesOne_2 17 rfl rfl)
theorem dX4_closesOne_66 : decode cX4_closesOne 66 = .ok (.ireturn, 1) := dk_172 (dk_at dksX4_closesOne_2 18 rfl rfl)
abbrev cX4_follow : ByteArray := prog_4_method_3_code
def yX4_follow : MethodName := ⟨RX4, "follow", "(II)Z"⟩
def dkwX4_follow_3 : List UInt8 := [182, 0, 34, 154, 0, 5, 3, 172, 132, 5, 1, 167, 255, 219, 4, 172]
abbrev dktX4_follow_3 : List UInt8 := dkwX4_follow_3 ++ []
def dkwX4_follow_2 : List UInt8 := [45, 180, 0, 30, 190, 162, 0, 33, 42, 45, 180, 0, 30, 21, 5, 46, 25, 4, 180, 0, 30, 21, 5, 46]
abbrev dktX4_follow_2 : List UInt8 := dkwX4_follow_2 ++ dktX4_follow_3
def dkwX4_follow_1 : List UInt8 := [192, 0, 24, 58, 4, 45, 180, 0, 26, 25, 4, 180, 0, 26, 159, 0, 5, 3, 172, 3, 54, 5, 21, 5]
abbrev dktX4_follow_1 : List UInt8 := dkwX4_follow_1 ++ dktX4_follow_2
def dkwX4_follow_0 : List UInt8 := [42, 180, 0, 14, 27, 185, 0, 18, 2, 0, 192, 0, 24, 78, 42, 180, 0, 14, 28, 185, 0, 18, 2, 0]
abbrev dktX4_follow_0 : List UInt8 := dkwX4_follow_0 ++ dktX4_follow_1
theorem dksX4_follow_0 : cX4_follow.data.toList.drop 0 = dktX4_follow_0 := by decide +kernel
theorem dksX4_follow_1 : cX4_follow.data.toList.drop 24 = dktX4_follow_1 := dk_seg dksX4_follow_0 24 rfl rfl
theorem dksX4_follow_2 : cX4_follow.data.toList.drop 48 = dktX4_follow_2 := dk_seg dksX4_follow_1 24 rfl rfl
theorem dksX4_follow_3 : cX4_follow.data.toList.drop 72 = dktX4_follow_3 := dk_seg dksX4_follow_2 24 rfl rfl
theorem dX4_follow_0 : decode cX4_follow 0 = .ok (.aload_n 0, 1) := dk_42 (dk_at dksX4_follow_0 0 rfl rfl)
theorem dX4_follow_1 : decode cX4_follow 1 = .ok (.getfield 14, 3) := dk_180 0 14 (dk_at dksX4_follow_0 1 rfl rfl)
theorem dX4_follow_4 : decode cX4_follow 4 = .ok (.iload_n 1, 1) := dk_27 (dk_at dksX4_follow_0 4 rfl rfl)
theorem dX4_follow_5 : decode cX4_follow 5 = .ok (.invokeinterface 18 2, 5) := by decide +kernel
theorem dX4_follow_10 : decode cX4_follow 10 = .ok (.checkcast 24, 3) := dk_192 0 24 (dk_at dksX4_follow_0 10 rfl rfl)
theorem dX4_follow_13 : decode cX4_follow 13 = .ok (.astore_n 3, 1) := dk_78 (dk_at dksX4_follow_0 13 rfl rfl)
theorem dX4_follow_14 : decode cX4_follow 14 = .ok (.aload_n 0, 1) := dk_42 (dk_at dksX4_follow_0 14 rfl rfl)
theorem dX4_follow_15 : decode cX4_follow 15 = .ok (.getfield 14, 3) := dk_180 0 14 (dk_at dksX4_follow_0 15 rfl rfl)
theorem dX4_follow_18 : decode cX4_follow 18 = .ok (.iload_n 2, 1) := dk_28 (dk_at dksX4_follow_0 18 rfl rfl)
theorem dX4_follow_19 : decode cX4_follow 19 = .ok (.invokeinterface 18 2, 5) := by decide +kernel
theorem dX4_follow_24 : decode cX4_follow 24 = .ok (.checkcast 24, 3) := dk_192 0 24 (dk_at dksX4_follow_1 0 rfl rfl)
theorem dX4_follow_27 : decode cX4_follow 27 = .ok (.astore 4, 2) := dk_58 4 (dk_at dksX4_follow_1 3 rfl rfl)
theorem dX4_follow_29 : decode cX4_follow 29 = .ok (.aload_n 3, 1) := dk_45 (dk_at dksX4_follow_1 5 rfl rfl)
theorem dX4_follow_30 : decode cX4_follow 30 = .ok (.getfield 26, 3) := dk_180 0 26 (dk_at dksX4_follow_1 6 rfl rfl)
theorem dX4_follow_33 : decode cX4_follow 33 = .ok (.aload 4, 2) := dk_25 4 (dk_at dksX4_follow_1 9 rfl rfl)
theorem dX4_follow_35 : decode cX4_follow 35 = .ok (.getfield 26, 3) := dk_180 0 26 (dk_at dksX4_follow_1 11 rfl rfl)
theorem dX4_follow_38 : decode cX4_follow 38 = .ok (.if_icmp .eq 5, 3) := dk_159 0 5 (dk_at dksX4_follow_1 14 rfl rfl)
theorem dX4_follow_41 : decode cX4_follow 41 = .ok (.iconst 0, 1) := dk_3 (dk_at dksX4_follow_1 17 rfl rfl)
theorem dX4_follow_42 : decode cX4_follow 42 = .ok (.ireturn, 1) := dk_172 (dk_at dksX4_follow_1 18 rfl rfl)
theorem dX4_follow_43 : decode cX4_follow 43 = .ok (.iconst 0, 1) := dk_3 (dk_at dksX4_follow_1 19 rfl rfl)
theorem dX4_follow_44 : decode cX4_follow 44 = .ok (.istore 5, 2) := dk_54 5 (dk_at dksX4_follow_1 20 rfl rfl)
theorem dX4_follow_46 : decode cX4_follow 46 = .ok (.iload 5, 2) := dk_21 5 (dk_at dksX4_follow_1 22 rfl rfl)
theorem dX4_follow_48 : decode cX4_follow 48 = .ok (.aload_n 3, 1) := dk_45 (dk_at dksX4_follow_2 0 rfl rfl)
theorem dX4_follow_49 : decode cX4_follow 49 = .ok (.getfield 30, 3) := dk_180 0 30 (dk_at dksX4_follow_2 1 rfl rfl)
theorem dX4_follow_52 : decode cX4_follow 52 = .ok (.arraylength, 1) := dk_190 (dk_at dksX4_follow_2 4 rfl rfl)
theorem dX4_follow_53 : decode cX4_follow 53 = .ok (.if_icmp .ge 33, 3) := dk_162 0 33 (dk_at dksX4_follow_2 5 rfl rfl)
theorem dX4_follow_56 : decode cX4_follow 56 = .ok (.aload_n 0, 1) := dk_42 (dk_at dksX4_follow_2 8 rfl rfl)
theorem dX4_follow_57 : decode cX4_follow 57 = .ok (.aload_n 3, 1) := dk_45 (dk_at dksX4_follow_2 9 rfl rfl)
theorem dX4_follow_58 : decode cX4_follow 58 = .ok (.getfield 30, 3) := dk_180 0 30 (dk_at dksX4_follow_2 10 rfl rfl)
theorem dX4_follow_61 : decode cX4_follow 61 = .ok (.iload 5, 2) := dk_21 5 (dk_at dksX4_follow_2 13 rfl rfl)
theorem dX4_follow_63 : decode cX4_follow 63 = .ok (.iaload, 1) := dk_46 (dk_at dksX4_follow_2 15 rfl rfl)
theorem dX4_follow_64 : decode cX4_follow 64 = .ok (.aload 4, 2) := dk_25 4 (dk_at dksX4_follow_2 16 rfl rfl)
theorem dX4_follow_66 : decode cX4_follow 66 = .ok (.getfield 30, 3) := dk_180 0 30 (dk_at dksX4_follow_2 18 rfl rfl)
theorem dX4_follow_69 : decode cX4_follow 69 = .ok (.iload 5, 2) := dk_21 5 (dk_at dksX4_follow_2 21 rfl rfl)
theorem dX4_follow_71 : decode cX4_follow 71 = .ok (.iaload, 1) := dk_46 (dk_at dksX4_follow_2 23 rfl rfl)
theorem dX4_follow_72 : decode cX4_follow 72 = .ok (.invokevirtual 34, 3) := dk_182 0 34 (dk_at dksX4_follow_3 0 rfl rfl)
theorem dX4_follow_75 : decode cX4_follow 75 = .ok (.ifCond .ne 5, 3) := dk_154 0 5 (dk_at dksX4_follow_3 3 rfl rfl)
theorem dX4_follow_78 : decode cX4_follow 78 = .ok (.iconst 0, 1) := dk_3 (dk_at dksX4_follow_3 6 rfl rfl)
theorem dX4_follow_79 : decode cX4_follow 79 = .ok (.ireturn, 1) := dk_172 (dk_at dksX4_follow_3 7 rfl rfl)
theorem dX4_follow_80 : decode cX4_follow 80 = .ok (.iinc 5 1, 3) := dk_132 5 1 (dk_at dksX4_follow_3 8 rfl rfl)
theorem dX4_follow_83 : decode cX4_follow 83 = .ok (.goto (-37), 3) := dk_167 255 219 (dk_at dksX4_follow_3 11 rfl rfl)
theorem dX4_follow_86 : decode cX4_follow 86 = .ok (.iconst 1, 1) := dk_4 (dk_at dksX4_follow_3 14 rfl rfl)
theorem dX4_follow_87 : decode cX4_follow 87 = .ok (.ireturn, 1) := dk_172 (dk_at dksX4_follow_3 15 rfl rfl)
abbrev cX4_joins : ByteArray := prog_4_method_4_code
def yX4_joins : MethodName := ⟨RX4, "joins", "(III)V"⟩
def dkwX4_joins_0 : List UInt8 := [42, 27, 28, 182, 0, 38, 177]
abbrev dktX4_joins_0 : List UInt8 := dkwX4_joins_0 ++ []
theorem dksX4_joins_0 : cX4_joins.data.toList.drop 0 = dktX4_joins_0 := by decide +kernel
theorem dX4_joins_0 : decode cX4_joins 0 = .ok (.aload_n 0, 1) := dk_42 (dk_at dksX4_joins_0 0 rfl rfl)
theorem dX4_joins_1 : decode cX4_joins 1 = .ok (.iload_n 1, 1) := dk_27 (dk_at dksX4_joins_0 1 rfl rfl)
theorem dX4_joins_2 : decode cX4_joins 2 = .ok (.iload_n 2, 1) := dk_28 (dk_at dksX4_joins_0 2 rfl rfl)
theorem dX4_joins_3 : decode cX4_joins 3 = .ok (.invokevirtual 38, 3) := dk_182 0 38 (dk_at dksX4_joins_0 3 rfl rfl)
theorem dX4_joins_6 : decode cX4_joins 6 = .ok (.return_, 1) := dk_177 (dk_at dksX4_joins_0 6 rfl rfl)
abbrev cX4_same : ByteArray := prog_4_method_8_code
def yX4_same : MethodName := ⟨RX4, "same", "(III)V"⟩
def dkwX4_same_0 : List UInt8 := [42, 27, 28, 182, 0, 34, 153, 0, 4, 177, 42, 27, 28, 29, 182, 0, 48, 42, 182, 0, 63, 177]
abbrev dktX4_same_0 : List UInt8 := dkwX4_same_0 ++ []
theorem dksX4_same_0 : cX4_same.data.toList.drop 0 = dktX4_same_0 := by decide +kernel
theorem dX4_same_0 : decode cX4_same 0 = .ok (.aload_n 0, 1) := dk_42 (dk_at dksX4_same_0 0 rfl rfl)
theorem dX4_same_1 : decode cX4_same 1 = .ok (.iload_n 1, 1) := dk_27 (dk_at dksX4_same_0 1 rfl rfl)
theorem dX4_same_2 : decode cX4_same 2 = .ok (.iload_n 2, 1) := dk_28 (dk_at dksX4_same_0 2 rfl rfl)
theorem dX4_same_3 : decode cX4_same 3 = .ok (.invokevirtual 34, 3) := dk_182 0 34 (dk_at dksX4_same_0 3 rfl rfl)
theorem dX4_same_6 : decode cX4_same 6 = .ok (.ifCond .eq 4, 3) := dk_153 0 4 (dk_at dksX4_same_0 6 rfl rfl)
theorem dX4_same_9 : decode cX4_same 9 = .ok (.return_, 1) := dk_177 (dk_at dksX4_same_0 9 rfl rfl)
theorem dX4_same_10 : decode cX4_same 10 = .ok (.aload_n 0, 1) := dk_42 (dk_at dksX4_same_0 10 rfl rfl)
theorem dX4_same_11 : decode cX4_same 11 = .ok (.iload_n 1, 1) := dk_27 (dk_at dksX4_same_0 11 rfl rfl)
theorem dX4_same_12 : decode cX4_same 12 = .ok (.iload_n 2, 1) := dk_28 (dk_at dksX4_same_0 12 rfl rfl)
theorem dX4_same_13 : decode cX4_same 13 = .ok (.iload_n 3, 1) := dk_29 (dk_at dksX4_same_0 13 rfl rfl)
theorem dX4_same_14 : decode cX4_same 14 = .ok (.invokevirtual 48, 3) := dk_182 0 48 (dk_at dksX4_same_0 14 rfl rfl)
theorem dX4_same_17 : decode cX4_same 17 = .ok (.aload_n 0, 1) := dk_42 (dk_at dksX4_same_0 17 rfl rfl)
theorem dX4_same_18 : decode cX4_same 18 = .ok (.invokevirtual 63, 3) := dk_182 0 63 (dk_at dksX4_same_0 18 rfl rfl)
theorem dX4_same_21 : decode cX4_same 21 = .ok (.return_, 1) := dk_177 (dk_at dksX4_same_0 21 rfl rfl)

def RX5 : String := "ReasonCloser$Forest"
abbrev cX5_init : ByteArray := prog_7_method_1_code
def yX5_init : MethodName := ⟨RX5, "<init>", "(Ljava/util/List;)V"⟩
def dkwX5_init_2 : List UInt8 := [3, 61, 28, 16, 24, 162, 0, 16, 42, 180, 0, 9, 28, 2, 79, 132, 2, 1, 167, 255, 240, 177]
abbrev dktX5_init_2 : List UInt8 := dkwX5_init_2 ++ []
def dkwX5_init_1 : List UInt8 := [42, 16, 24, 188, 10, 181, 0, 18, 42, 16, 24, 188, 10, 181, 0, 21, 42, 16, 24, 188, 10, 181, 0, 24]
abbrev dktX5_init_1 : List UInt8 := dkwX5_init_1 ++ dktX5_init_2
def dkwX5_init_0 : List UInt8 := [42, 43, 17, 1, 44, 183, 0, 3, 42, 16, 24, 188, 10, 181, 0, 9, 42, 16, 24, 188, 10, 181, 0, 15]
abbrev dktX5_init_0 : List UInt8 := dkwX5_init_0 ++ dktX5_init_1
theorem dksX5_init_0 : cX5_init.data.toList.drop 0 = dktX5_init_0 := by decide +kernel
theorem dksX5_init_1 : cX5_init.data.toList.drop 24 = dktX5_init_1 := dk_seg dksX5_init_0 24 rfl rfl
theorem dksX5_init_2 : cX5_init.data.toList.drop 48 = dktX5_init_2 := dk_seg dksX5_init_1 24 rfl rfl
theorem dX5_init_0 : decode cX5_init 0 = .ok (.aload_n 0, 1) := dk_42 (dk_at dksX5_init_0 0 rfl rfl)
theorem dX5_init_1 : decode cX5_init 1 = .ok (.aload_n 1, 1) := dk_43 (dk_at dksX5_init_0 1 rfl rfl)
theorem dX5_init_2 : decode cX5_init 2 = .ok (.sipush 300, 3) := dk_17 1 44 (dk_at dksX5_init_0 2 rfl rfl)
theorem dX5_init_5 : decode cX5_init 5 = .ok (.invokespecial 3, 3) := dk_183 0 3 (dk_at dksX5_init_0 5 rfl rfl)
theorem dX5_init_8 : decode cX5_init 8 = .ok (.aload_n 0, 1) := dk_42 (dk_at dksX5_init_0 8 rfl rfl)
theorem dX5_init_9 : decode cX5_init 9 = .ok (.bipush 24, 2) := dk_16 24 (dk_at dksX5_init_0 9 rfl rfl)
theorem dX5_init_11 : decode cX5_init 11 = .ok (.newarray .int, 2) := dk_188_10 (dk_at dksX5_init_0 11 rfl rfl)
theorem dX5_init_13 : decode cX5_init 13 = .ok (.putfield 9, 3) := dk_181 0 9 (dk_at dksX5_init_0 13 rfl rfl)
theorem dX5_init_16 : decode cX5_init 16 = .ok (.aload_n 0, 1) := dk_42 (dk_at dksX5_init_0 16 rfl rfl)
theorem dX5_init_17 : decode cX5_init 17 = .ok (.bipush 24, 2) := dk_16 24 (dk_at dksX5_init_0 17 rfl rfl)
theorem dX5_init_19 : decode cX5_init 19 = .ok (.newarray .int, 2) := dk_188_10 (dk_at dksX5_init_0 19 rfl rfl)
theorem dX5_init_21 : decode cX5_init 21 = .ok (.putfield 15, 3) := dk_181 0 15 (dk_at dksX5_init_0 21 rfl rfl)
theorem dX5_init_24 : decode cX5_init 24 = .ok (.aload_n 0, 1) := dk_42 (dk_at dksX5_init_1 0 rfl rfl)
theorem dX5_init_25 : decode cX5_init 25 = .ok (.bipush 24, 2) := dk_16 24 (dk_at dksX5_init_1 1 rfl rfl)
theorem dX5_init_27 : decode cX5_init 27 = .ok (.newarray .int, 2) := dk_188_10 (dk_at dksX5_init_1 3 rfl rfl)
theorem dX5_init_29 : decode cX5_init 29 = .ok (.putfield 18, 3) := dk_181 0 18 (dk_at dksX5_init_1 5 rfl rfl)
theorem dX5_init_32 : decode cX5_init 32 = .ok (.aload_n 0, 1) := dk_42 (dk_at dksX5_init_1 8 rfl rfl)
theorem dX5_init_33 : decode cX5_init 33 = .ok (.bipush 24, 2) := dk_16 24 (dk_at dksX5_init_1 9 rfl rfl)
theorem dX5_init_35 : decode cX5_init 35 = .ok (.newarray .int, 2) := dk_188_10 (dk_at dksX5_init_1 11 rfl rfl)
theorem dX5_init_37 : decode cX5_init 37 = .ok (.putfield 21, 3) := dk_181 0 21 (dk_at dksX5_init_1 13 rfl rfl)
theorem dX5_init_40 : decode cX5_init 40 = .ok (.aload_n 0, 1) := dk_42 (dk_at dksX5_init_1 16 rfl rfl)
theorem dX5_init_41 : decode cX5_init 41 = .ok (.bipush 24, 2) := dk_16 24 (dk_at dksX5_init_1 17 rfl rfl)
theorem dX5_init_43 : decode cX5_init 43 = .ok (.newarray .int, 2) := dk_188_10 (dk_at dksX5_init_1 19 rfl rfl)
theorem dX5_init_45 : decode cX5_init 45 = .ok (.putfield 24, 3) := dk_181 0 24 (dk_at dksX5_init_1 21 rfl rfl)
theorem dX5_init_48 : decode cX5_init 48 = .ok (.iconst 0, 1) := dk_3 (dk_at dksX5_init_2 0 rfl rfl)
theorem dX5_init_49 : decode cX5_init 49 = .ok (.istore_n 2, 1) := dk_61 (dk_at dksX5_init_2 1 rfl rfl)
theorem dX5_init_50 : decode cX5_init 50 = .ok (.iload_n 2, 1) := dk_28 (dk_at dksX5_init_2 2 rfl rfl)
theorem dX5_init_51 : decode cX5_init 51 = .ok (.bipush 24, 2) := dk_16 24 (dk_at dksX5_init_2 3 rfl rfl)
theorem dX5_init_53 : decode cX5_init 53 = .ok (.if_icmp .ge 16, 3) := dk_162 0 16 (dk_at dksX5_init_2 5 rfl rfl)
theorem dX5_init_56 : decode cX5_init 56 = .ok (.aload_n 0, 1) := dk_42 (dk_at dksX5_init_2 8 rfl rfl)
theorem dX5_init_57 : decode cX5_init 57 = .ok (.getfield 9, 3) := dk_180 0 9 (dk_at dksX5_init_2 9 rfl rfl)
theorem dX5_init_60 : decode cX5_init 60 = .ok (.iload_n 2, 1) := dk_28 (dk_at dksX5_init_2 12 rfl rfl)
theorem dX5_init_61 : decode cX5_init 61 = .ok (.iconst (-1), 1) := dk_2 (dk_at dksX5_init_2 13 rfl rfl)
theorem dX5_init_62 : decode cX5_init 62 = .ok (.iastore, 1) := dk_79 (dk_at dksX5_init_2 14 rfl rfl)
theorem dX5_init_63 : decode cX5_init 63 = .ok (.iinc 2 1, 3) := dk_132 2 1 (dk_at dksX5_init_2 15 rfl rfl)
theorem dX5_init_66 : decode cX5_init 66 = .ok (.goto (-16), 3) := dk_167 255 240 (dk_at dksX5_init_2 18 rfl rfl)
theorem dX5_init_69 : decode cX5_init 69 = .ok (.return_, 1) := dk_177 (dk_at dksX5_init_2 21 rfl rfl)
abbrev cX5_joins : ByteArray := prog_7_method_3_code
def yX5_joins : MethodName := ⟨RX5, "joins", "(III)V"⟩
def dkwX5_joins_2 : List UInt8 := [181, 0, 30, 42, 27, 28, 29, 183, 0, 38, 177]
abbrev dktX5_joins_2 : List UInt8 := dkwX5_joins_2 ++ []
def dkwX5_joins_1 : List UInt8 := [42, 180, 0, 30, 29, 79, 42, 28, 27, 42, 180, 0, 30, 182, 0, 34, 42, 89, 180, 0, 30, 4, 96]
abbrev dktX5_joins_1 : List UInt8 := dkwX5_joins_1 ++ dktX5_joins_2
def dkwX5_joins_0 : List UInt8 := [42, 180, 0, 18, 42, 180, 0, 30, 27, 79, 42, 180, 0, 21, 42, 180, 0, 30, 28, 79, 42, 180, 0, 24]
abbrev dktX5_joins_0 : List UInt8 := dkwX5_joins_0 ++ dktX5_joins_1
theorem dksX5_joins_0 : cX5_joins.data.toList.drop 0 = dktX5_joins_0 := by decide +kernel
theorem dksX5_joins_1 : cX5_joins.data.toList.drop 24 = dktX5_joins_1 := dk_seg dksX5_joins_0 24 rfl rfl
theorem dksX5_joins_2 : cX5_joins.data.toList.drop 47 = dktX5_joins_2 := dk_seg dksX5_joins_1 23 rfl rfl
theorem dX5_joins_0 : decode cX5_joins 0 = .ok (.aload_n 0, 1) := dk_42 (dk_at dksX5_joins_0 0 rfl rfl)
theorem dX5_joins_1 : decode cX5_joins 1 = .ok (.getfield 18, 3) := dk_180 0 18 (dk_at dksX5_joins_0 1 rfl rfl)
theorem dX5_joins_4 : decode cX5_joins 4 = .ok (.aload_n 0, 1) := dk_42 (dk_at dksX5_joins_0 4 rfl rfl)
theorem dX5_joins_5 : decode cX5_joins 5 = .ok (.getfield 30, 3) := dk_180 0 30 (dk_at dksX5_joins_0 5 rfl rfl)
theorem dX5_joins_8 : decode cX5_joins 8 = .ok (.iload_n 1, 1) := dk_27 (dk_at dksX5_joins_0 8 rfl rfl)
theorem dX5_joins_9 : decode cX5_joins 9 = .ok (.iastore, 1) := dk_79 (dk_at dksX5_joins_0 9 rfl rfl)
theorem dX5_joins_10 : decode cX5_joins 10 = .ok (.aload_n 0, 1) := dk_42 (dk_at dksX5_joins_0 10 rfl rfl)
theorem dX5_joins_11 : decode cX5_joins 11 = .ok (.getfield 21, 3) := dk_180 0 21 (dk_at dksX5_joins_0 11 rfl rfl)
theorem dX5_joins_14 : decode cX5_joins 14 = .ok (.aload_n 0, 1) := dk_42 (dk_at dksX5_joins_0 14 rfl rfl)
theorem dX5_joins_15 : decode cX5_joins 15 = .ok (.getfield 30, 3) := dk_180 0 30 (dk_at dksX5_joins_0 15 rfl rfl)
theorem dX5_joins_18 : decode cX5_joins 18 = .ok (.iload_n 2, 1) := dk_28 (dk_at dksX5_joins_0 18 rfl rfl)
theorem dX5_joins_19 : decode cX5_joins 19 = .ok (.iastore, 1) := dk_79 (dk_at dksX5_joins_0 19 rfl rfl)
theorem dX5_joins_20 : decode cX5_joins 20 = .ok (.aload_n 0, 1) := dk_42 (dk_at dksX5_joins_0 20 rfl rfl)
theorem dX5_joins_21 : decode cX5_joins 21 = .ok (.getfield 24, 3) := dk_180 0 24 (dk_at dksX5_joins_0 21 rfl rfl)
theorem dX5_joins_24 : decode cX5_joins 24 = .ok (.aload_n 0, 1) := dk_42 (dk_at dksX5_joins_1 0 rfl rfl)
theorem dX5_joins_25 : decode cX5_joins 25 = .ok (.getfield 30, 3) := dk_180 0 30 (dk_at dksX5_joins_1 1 rfl rfl)
theorem dX5_joins_28 : decode cX5_joins 28 = .ok (.iload_n 3, 1) := dk_29 (dk_at dksX5_joins_1 4 rfl rfl)
theorem dX5_joins_29 : decode cX5_joins 29 = .ok (.iastore, 1) := dk_79 (dk_at dksX5_joins_1 5 rfl rfl)
theorem dX5_joins_30 : decode cX5_joins 30 = .ok (.aload_n 0, 1) := dk_42 (dk_at dksX5_joins_1 6 rfl rfl)
theorem dX5_joins_31 : decode cX5_joins 31 = .ok (.iload_n 2, 1) := dk_28 (dk_at dksX5_joins_1 7 rfl rfl)
theorem dX5_joins_32 : decode cX5_joins 32 = .ok (.iload_n 1, 1) := dk_27 (dk_at dksX5_joins_1 8 rfl rfl)
theorem dX5_joins_33 : decode cX5_joins 33 = .ok (.aload_n 0, 1) := dk_42 (dk_at dksX5_joins_1 9 rfl rfl)
theorem dX5_joins_34 : decode cX5_joins 34 = .ok (.getfield 30, 3) := dk_180 0 30 (dk_at dksX5_joins_1 10 rfl rfl)
theorem dX5_joins_37 : decode cX5_joins 37 = .ok (.invokevirtual 34, 3) := dk_182 0 34 (dk_at dksX5_joins_1 13 rfl rfl)
theorem dX5_joins_40 : decode cX5_joins 40 = .ok (.aload_n 0, 1) := dk_42 (dk_at dksX5_joins_1 16 rfl rfl)
theorem dX5_joins_41 : decode cX5_joins 41 = .ok (.dup, 1) := dk_89 (dk_at dksX5_joins_1 17 rfl rfl)
theorem dX5_joins_42 : decode cX5_joins 42 = .ok (.getfield 30, 3) := dk_180 0 30 (dk_at dksX5_joins_1 18 rfl rfl)
theorem dX5_joins_45 : decode cX5_joins 45 = .ok (.iconst 1, 1) := dk_4 (dk_at dksX5_joins_1 21 rfl rfl)
theorem dX5_joins_46 : decode cX5_joins 46 = .ok (.iadd, 1) := dk_96 (dk_at dksX5_joins_1 22 rfl rfl)
theorem dX5_joins_47 : decode cX5_joins 47 = .ok (.putfield 30, 3) := dk_181 0 30 (dk_at dksX5_joins_2 0 rfl rfl)
theorem dX5_joins_50 : decode cX5_joins 50 = .ok (.aload_n 0, 1) := dk_42 (dk_at dksX5_joins_2 3 rfl rfl)
theorem dX5_joins_51 : decode cX5_joins 51 = .ok (.iload_n 1, 1) := dk_27 (dk_at dksX5_joins_2 4 rfl rfl)
theorem dX5_joins_52 : decode cX5_joins 52 = .ok (.iload_n 2, 1) := dk_28 (dk_at dksX5_joins_2 5 rfl rfl)
theorem dX5_joins_53 : decode cX5_joins 53 = .ok (.iload_n 3, 1) := dk_29 (dk_at dksX5_joins_2 6 rfl rfl)
theorem dX5_joins_54 : decode cX5_joins 54 = .ok (.invokespecial 38, 3) := dk_183 0 38 (dk_at dksX5_joins_2 7 rfl rfl)
theorem dX5_joins_57 : decode cX5_joins 57 = .ok (.return_, 1) := dk_177 (dk_at dksX5_joins_2 10 rfl rfl)
abbrev cX5_hangs : ByteArray := prog_7_method_4_code
def yX5_hangs : MethodName := ⟨RX5, "hangs", "(III)V"⟩
def dkwX5_hangs_2 : List UInt8 := [21, 5, 182, 0, 34, 177]
abbrev dktX5_hangs_2 : List UInt8 := dkwX5_hangs_2 ++ []
def dkwX5_hangs_1 : List UInt8 := [182, 0, 41, 42, 42, 180, 0, 15, 5, 27, 29, 182, 0, 41, 21, 4, 2, 159, 0, 12, 42, 21, 4, 27]
abbrev dktX5_hangs_1 : List UInt8 := dkwX5_hangs_1 ++ dktX5_hangs_2
def dkwX5_hangs_0 : List UInt8 := [42, 180, 0, 9, 27, 46, 54, 4, 42, 180, 0, 15, 27, 46, 54, 5, 42, 42, 180, 0, 9, 4, 27, 28]
abbrev dktX5_hangs_0 : List UInt8 := dkwX5_hangs_0 ++ dktX5_hangs_1
theorem dksX5_hangs_0 : cX5_hangs.data.toList.drop 0 = dktX5_hangs_0 := by decide +kernel
theorem dksX5_hangs_1 : cX5_hangs.data.toList.drop 24 = dktX5_hangs_1 := dk_seg dksX5_hangs_0 24 rfl rfl
theorem dksX5_hangs_2 : cX5_hangs.data.toList.drop 48 = dktX5_hangs_2 := dk_seg dksX5_hangs_1 24 rfl rfl
theorem dX5_hangs_0 : decode cX5_hangs 0 = .ok (.aload_n 0, 1) := dk_42 (dk_at dksX5_hangs_0 0 rfl rfl)
theorem dX5_hangs_1 : decode cX5_hangs 1 = .ok (.getfield 9, 3) := dk_180 0 9 (dk_at dksX5_hangs_0 1 rfl rfl)
theorem dX5_hangs_4 : decode cX5_hangs 4 = .ok (.iload_n 1, 1) := dk_27 (dk_at dksX5_hangs_0 4 rfl rfl)
theorem dX5_hangs_5 : decode cX5_hangs 5 = .ok (.iaload, 1) := dk_46 (dk_at dksX5_hangs_0 5 rfl rfl)
theorem dX5_hangs_6 : decode cX5_hangs 6 = .ok (.istore 4, 2) := dk_54 4 (dk_at dksX5_hangs_0 6 rfl rfl)
theorem dX5_hangs_8 : decode cX5_hangs 8 = .ok (.aload_n 0, 1) := dk_42 (dk_at dksX5_hangs_0 8 rfl rfl)
theorem dX5_hangs_9 : decode cX5_hangs 9 = .ok (.getfield 15, 3) := dk_180 0 15 (dk_at dksX5_hangs_0 9 rfl rfl)
theorem dX5_hangs_12 : decode cX5_hangs 12 = .ok (.iload_n 1, 1) := dk_27 (dk_at dksX5_hangs_0 12 rfl rfl)
theorem dX5_hangs_13 : decode cX5_hangs 13 = .ok (.iaload, 1) := dk_46 (dk_at dksX5_hangs_0 13 rfl rfl)
theorem dX5_hangs_14 : decode cX5_hangs 14 = .ok (.istore 5, 2) := dk_54 5 (dk_at dksX5_hangs_0 14 rfl rfl)
theorem dX5_hangs_16 : decode cX5_hangs 16 = .ok (.aload_n 0, 1) := dk_42 (dk_at dksX5_hangs_0 16 rfl rfl)
theorem dX5_hangs_17 : decode cX5_hangs 17 = .ok (.aload_n 0, 1) := dk_42 (dk_at dksX5_hangs_0 17 rfl rfl)
theorem dX5_hangs_18 : decode cX5_hangs 18 = .ok (.getfield 9, 3) := dk_180 0 9 (dk_at dksX5_hangs_0 18 rfl rfl)
theorem dX5_hangs_21 : decode cX5_hangs 21 = .ok (.iconst 1, 1) := dk_4 (dk_at dksX5_hangs_0 21 rfl rfl)
theorem dX5_hangs_22 : decode cX5_hangs 22 = .ok (.iload_n 1, 1) := dk_27 (dk_at dksX5_hangs_0 22 rfl rfl)
theorem dX5_hangs_23 : decode cX5_hangs 23 = .ok (.iload_n 2, 1) := dk_28 (dk_at dksX5_hangs_0 23 rfl rfl)
theorem dX5_hangs_24 : decode cX5_hangs 24 = .ok (.invokevirtual 41, 3) := dk_182 0 41 (dk_at dksX5_hangs_1 0 rfl rfl)
theorem dX5_hangs_27 : decode cX5_hangs 27 = .ok (.aload_n 0, 1) := dk_42 (dk_at dksX5_hangs_1 3 rfl rfl)
theorem dX5_hangs_28 : decode cX5_hangs 28 = .ok (.aload_n 0, 1) := dk_42 (dk_at dksX5_hangs_1 4 rfl rfl)
theorem dX5_hangs_29 : decode cX5_hangs 29 = .ok (.getfield 15, 3) := dk_180 0 15 (dk_at dksX5_hangs_1 5 rfl rfl)
theorem dX5_hangs_32 : decode cX5_hangs 32 = .ok (.iconst 2, 1) := dk_5 (dk_at dksX5_hangs_1 8 rfl rfl)
theorem dX5_hangs_33 : decode cX5_hangs 33 = .ok (.iload_n 1, 1) := dk_27 (dk_at dksX5_hangs_1 9 rfl rfl)
theorem dX5_hangs_34 : decode cX5_hangs 34 = .ok (.iload_n 3, 1) := dk_29 (dk_at dksX5_hangs_1 10 rfl rfl)
theorem dX5_hangs_35 : decode cX5_hangs 35 = .ok (.invokevirtual 41, 3) := dk_182 0 41 (dk_at dksX5_hangs_1 11 rfl rfl)
theorem dX5_hangs_38 : decode cX5_hangs 38 = .ok (.iload 4, 2) := dk_21 4 (dk_at dksX5_hangs_1 14 rfl rfl)
theorem dX5_hangs_40 : decode cX5_hangs 40 = .ok (.iconst (-1), 1) := dk_2 (dk_at dksX5_hangs_1 16 rfl rfl)
theorem dX5_hangs_41 : decode cX5_hangs 41 = .ok (.if_icmp .eq 12, 3) := dk_159 0 12 (dk_at dksX5_hangs_1 17 rfl rfl)
theorem dX5_hangs_44 : decode cX5_hangs 44 = .ok (.aload_n 0, 1) := dk_42 (dk_at dksX5_hangs_1 20 rfl rfl)
theorem dX5_hangs_45 : decode cX5_hangs 45 = .ok (.iload 4, 2) := dk_21 4 (dk_at dksX5_hangs_1 21 rfl rfl)
theorem dX5_hangs_47 : decode cX5_hangs 47 = .ok (.iload_n 1, 1) := dk_27 (dk_at dksX5_hangs_1 23 rfl rfl)
theorem dX5_hangs_48 : decode cX5_hangs 48 = .ok (.iload 5, 2) := dk_21 5 (dk_at dksX5_hangs_2 0 rfl rfl)
theorem dX5_hangs_50 : decode cX5_hangs 50 = .ok (.invokevirtual 34, 3) := dk_182 0 34 (dk_at dksX5_hangs_2 2 rfl rfl)
theorem dX5_hangs_53 : decode cX5_hangs 53 = .ok (.return_, 1) := dk_177 (dk_at dksX5_hangs_2 5 rfl rfl)
abbrev cX5_row : ByteArray := prog_7_method_2_code
def yX5_row : MethodName := ⟨RX5, "row", "(I)[I"⟩
def dkwX5_row_1 : List UInt8 := [180, 0, 15, 176]
abbrev dktX5_row_1 : List UInt8 := dkwX5_row_1 ++ []
def dkwX5_row_0 : List UInt8 := [27, 154, 0, 10, 42, 180, 0, 27, 167, 0, 19, 27, 4, 160, 0, 10, 42, 180, 0, 9, 167, 0, 7, 42]
abbrev dktX5_row_0 : List UInt8 := dkwX5_row_0 ++ dktX5_row_1
theorem dksX5_row_0 : cX5_row.data.toList.drop 0 = dktX5_row_0 := by decide +kernel
theorem dksX5_row_1 : cX5_row.data.toList.drop 24 = dktX5_row_1 := dk_seg dksX5_row_0 24 rfl rfl
theorem dX5_row_0 : decode cX5_row 0 = .ok (.iload_n 1, 1) := dk_27 (dk_at dksX5_row_0 0 rfl rfl)
theorem dX5_row_1 : decode cX5_row 1 = .ok (.ifCond .ne 10, 3) := dk_154 0 10 (dk_at dksX5_row_0 1 rfl rfl)
theorem dX5_row_4 : decode cX5_row 4 = .ok (.aload_n 0, 1) := dk_42 (dk_at dksX5_row_0 4 rfl rfl)
theorem dX5_row_5 : decode cX5_row 5 = .ok (.getfield 27, 3) := dk_180 0 27 (dk_at dksX5_row_0 5 rfl rfl)
theorem dX5_row_8 : decode cX5_row 8 = .ok (.goto 19, 3) := dk_167 0 19 (dk_at dksX5_row_0 8 rfl rfl)
theorem dX5_row_11 : decode cX5_row 11 = .ok (.iload_n 1, 1) := dk_27 (dk_at dksX5_row_0 11 rfl rfl)
theorem dX5_row_12 : decode cX5_row 12 = .ok (.iconst 1, 1) := dk_4 (dk_at dksX5_row_0 12 rfl rfl)
theorem dX5_row_13 : decode cX5_row 13 = .ok (.if_icmp .ne 10, 3) := dk_160 0 10 (dk_at dksX5_row_0 13 rfl rfl)
theorem dX5_row_16 : decode cX5_row 16 = .ok (.aload_n 0, 1) := dk_42 (dk_at dksX5_row_0 16 rfl rfl)
theorem dX5_row_17 : decode cX5_row 17 = .ok (.getfield 9, 3) := dk_180 0 9 (dk_at dksX5_row_0 17 rfl rfl)
theorem dX5_row_20 : decode cX5_row 20 = .ok (.goto 7, 3) := dk_167 0 7 (dk_at dksX5_row_0 20 rfl rfl)
theorem dX5_row_23 : decode cX5_row 23 = .ok (.aload_n 0, 1) := dk_42 (dk_at dksX5_row_0 23 rfl rfl)
theorem dX5_row_24 : decode cX5_row 24 = .ok (.getfield 15, 3) := dk_180 0 15 (dk_at dksX5_row_1 0 rfl rfl)
theorem dX5_row_27 : decode cX5_row 27 = .ok (.areturn, 1) := dk_176 (dk_at dksX5_row_1 3 rfl rfl)

abbrev cX6_init : ByteArray := prog_11_method_1_code
def yX6_init : MethodName := ⟨RX6, "<init>", "(Ljava/util/List;)V"⟩
def dkwX6_init_0 : List UInt8 := [42, 43, 183, 0, 3, 42, 16, 24, 188, 4, 181, 0, 9, 42, 16, 24, 188, 4, 181, 0, 15, 177]
abbrev dktX6_init_0 : List UInt8 := dkwX6_init_0 ++ []
theorem dksX6_init_0 : cX6_init.data.toList.drop 0 = dktX6_init_0 := by decide +kernel
theorem dX6_init_0 : decode cX6_init 0 = .ok (.aload_n 0, 1) := dk_42 (dk_at dksX6_init_0 0 rfl rfl)
theorem dX6_init_1 : decode cX6_init 1 = .ok (.aload_n 1, 1) := dk_43 (dk_at dksX6_init_0 1 rfl rfl)
theorem dX6_init_2 : decode cX6_init 2 = .ok (.invokespecial 3, 3) := dk_183 0 3 (dk_at dksX6_init_0 2 rfl rfl)
theorem dX6_init_5 : decode cX6_init 5 = .ok (.aload_n 0, 1) := dk_42 (dk_at dksX6_init_0 5 rfl rfl)
theorem dX6_init_6 : decode cX6_init 6 = .ok (.bipush 24, 2) := dk_16 24 (dk_at dksX6_init_0 6 rfl rfl)
theorem dX6_init_8 : decode cX6_init 8 = .ok (.newarray .boolean, 2) := dk_188_4 (dk_at dksX6_init_0 8 rfl rfl)
theorem dX6_init_10 : decode cX6_init 10 = .ok (.putfield 9, 3) := dk_181 0 9 (dk_at dksX6_init_0 10 rfl rfl)
theorem dX6_init_13 : decode cX6_init 13 = .ok (.aload_n 0, 1) := dk_42 (dk_at dksX6_init_0 13 rfl rfl)
theorem dX6_init_14 : decode cX6_init 14 = .ok (.bipush 24, 2) := dk_16 24 (dk_at dksX6_init_0 14 rfl rfl)
theorem dX6_init_16 : decode cX6_init 16 = .ok (.newarray .boolean, 2) := dk_188_4 (dk_at dksX6_init_0 16 rfl rfl)
theorem dX6_init_18 : decode cX6_init 18 = .ok (.putfield 15, 3) := dk_181 0 15 (dk_at dksX6_init_0 18 rfl rfl)
theorem dX6_init_21 : decode cX6_init 21 = .ok (.return_, 1) := dk_177 (dk_at dksX6_init_0 21 rfl rfl)
abbrev cX6_of : ByteArray := prog_11_method_2_code
def yX6_of : MethodName := ⟨RX6, "of", "(II)I"⟩
def dkwX6_of_1 : List UInt8 := [167, 255, 240, 42, 27, 28, 182, 0, 22, 42, 180, 0, 18, 172]
abbrev dktX6_of_1 : List UInt8 := dkwX6_of_1 ++ []
def dkwX6_of_0 : List UInt8 := [42, 3, 181, 0, 18, 3, 62, 29, 16, 24, 162, 0, 16, 42, 180, 0, 15, 29, 3, 84, 132, 3, 1]
abbrev dktX6_of_0 : List UInt8 := dkwX6_of_0 ++ dktX6_of_1
theorem dksX6_of_0 : cX6_of.data.toList.drop 0 = dktX6_of_0 := by decide +kernel
theorem dksX6_of_1 : cX6_of.data.toList.drop 23 = dktX6_of_1 := dk_seg dksX6_of_0 23 rfl rfl
theorem dX6_of_0 : decode cX6_of 0 = .ok (.aload_n 0, 1) := dk_42 (dk_at dksX6_of_0 0 rfl rfl)
theorem dX6_of_1 : decode cX6_of 1 = .ok (.iconst 0, 1) := dk_3 (dk_at dksX6_of_0 1 rfl rfl)
theorem dX6_of_2 : decode cX6_of 2 = .ok (.putfield 18, 3) := dk_181 0 18 (dk_at dksX6_of_0 2 rfl rfl)
theorem dX6_of_5 : decode cX6_of 5 = .ok (.iconst 0, 1) := dk_3 (dk_at dksX6_of_0 5 rfl rfl)
theorem dX6_of_6 : decode cX6_of 6 = .ok (.istore_n 3, 1) := dk_62 (dk_at dksX6_of_0 6 rfl rfl)
theorem dX6_of_7 : decode cX6_of 7 = .ok (.iload_n 3, 1) := dk_29 (dk_at dksX6_of_0 7 rfl rfl)
theorem dX6_of_8 : decode cX6_of 8 = .ok (.bipush 24, 2) := dk_16 24 (dk_at dksX6_of_0 8 rfl rfl)
theorem dX6_of_10 : decode cX6_of 10 = .ok (.if_icmp .ge 16, 3) := dk_162 0 16 (dk_at dksX6_of_0 10 rfl rfl)
theorem dX6_of_13 : decode cX6_of 13 = .ok (.aload_n 0, 1) := dk_42 (dk_at dksX6_of_0 13 rfl rfl)
theorem dX6_of_14 : decode cX6_of 14 = .ok (.getfield 15, 3) := dk_180 0 15 (dk_at dksX6_of_0 14 rfl rfl)
theorem dX6_of_17 : decode cX6_of 17 = .ok (.iload_n 3, 1) := dk_29 (dk_at dksX6_of_0 17 rfl rfl)
theorem dX6_of_18 : decode cX6_of 18 = .ok (.iconst 0, 1) := dk_3 (dk_at dksX6_of_0 18 rfl rfl)
theorem dX6_of_19 : decode cX6_of 19 = .ok (.bastore, 1) := dk_84 (dk_at dksX6_of_0 19 rfl rfl)
theorem dX6_of_20 : decode cX6_of 20 = .ok (.iinc 3 1, 3) := dk_132 3 1 (dk_at dksX6_of_0 20 rfl rfl)
theorem dX6_of_23 : decode cX6_of 23 = .ok (.goto (-16), 3) := dk_167 255 240 (dk_at dksX6_of_1 0 rfl rfl)
theorem dX6_of_26 : decode cX6_of 26 = .ok (.aload_n 0, 1) := dk_42 (dk_at dksX6_of_1 3 rfl rfl)
theorem dX6_of_27 : decode cX6_of 27 = .ok (.iload_n 1, 1) := dk_27 (dk_at dksX6_of_1 4 rfl rfl)
theorem dX6_of_28 : decode cX6_of 28 = .ok (.iload_n 2, 1) := dk_28 (dk_at dksX6_of_1 5 rfl rfl)
theorem dX6_of_29 : decode cX6_of 29 = .ok (.invokevirtual 22, 3) := dk_182 0 22 (dk_at dksX6_of_1 6 rfl rfl)
theorem dX6_of_32 : decode cX6_of 32 = .ok (.aload_n 0, 1) := dk_42 (dk_at dksX6_of_1 9 rfl rfl)
theorem dX6_of_33 : decode cX6_of 33 = .ok (.getfield 18, 3) := dk_180 0 18 (dk_at dksX6_of_1 10 rfl rfl)
theorem dX6_of_36 : decode cX6_of 36 = .ok (.ireturn, 1) := dk_172 (dk_at dksX6_of_1 13 rfl rfl)
abbrev cX6_leads : ByteArray := prog_11_method_4_code
def yX6_leads : MethodName := ⟨RX6, "leads", "(II)V"⟩
def dkwX6_leads_2 : List UInt8 := [42, 42, 180, 0, 34, 21, 4, 46, 182, 0, 37, 42, 180, 0, 26, 21, 4, 46, 54, 4, 167, 255, 230, 177]
abbrev dktX6_leads_2 : List UInt8 := dkwX6_leads_2 ++ []
def dkwX6_leads_1 : List UInt8 := [182, 0, 37, 42, 180, 0, 26, 21, 4, 46, 54, 4, 167, 255, 230, 28, 54, 4, 21, 4, 29, 159, 0, 26]
abbrev dktX6_leads_1 : List UInt8 := dkwX6_leads_1 ++ dktX6_leads_2
def dkwX6_leads_0 : List UInt8 := [42, 27, 28, 182, 0, 30, 62, 27, 54, 4, 21, 4, 29, 159, 0, 26, 42, 42, 180, 0, 34, 21, 4, 46]
abbrev dktX6_leads_0 : List UInt8 := dkwX6_leads_0 ++ dktX6_leads_1
theorem dksX6_leads_0 : cX6_leads.data.toList.drop 0 = dktX6_leads_0 := by decide +kernel
theorem dksX6_leads_1 : cX6_leads.data.toList.drop 24 = dktX6_leads_1 := dk_seg dksX6_leads_0 24 rfl rfl
theorem dksX6_leads_2 : cX6_leads.data.toList.drop 48 = dktX6_leads_2 := dk_seg dksX6_leads_1 24 rfl rfl
theorem dX6_leads_0 : decode cX6_leads 0 = .ok (.aload_n 0, 1) := dk_42 (dk_at dksX6_leads_0 0 rfl rfl)
theorem dX6_leads_1 : decode cX6_leads 1 = .ok (.iload_n 1, 1) := dk_27 (dk_at dksX6_leads_0 1 rfl rfl)
theorem dX6_leads_2 : decode cX6_leads 2 = .ok (.iload_n 2, 1) := dk_28 (dk_at dksX6_leads_0 2 rfl rfl)
theorem dX6_leads_3 : decode cX6_leads 3 = .ok (.invokevirtual 30, 3) := dk_182 0 30 (dk_at dksX6_leads_0 3 rfl rfl)
theorem dX6_leads_6 : decode cX6_leads 6 = .ok (.istore_n 3, 1) := dk_62 (dk_at dksX6_leads_0 6 rfl rfl)
theorem dX6_leads_7 : decode cX6_leads 7 = .ok (.iload_n 1, 1) := dk_27 (dk_at dksX6_leads_0 7 rfl rfl)
theorem dX6_leads_8 : decode cX6_leads 8 = .ok (.istore 4, 2) := dk_54 4 (dk_at dksX6_leads_0 8 rfl rfl)
theorem dX6_leads_10 : decode cX6_leads 10 = .ok (.iload 4, 2) := dk_21 4 (dk_at dksX6_leads_0 10 rfl rfl)
theorem dX6_leads_12 : decode cX6_leads 12 = .ok (.iload_n 3, 1) := dk_29 (dk_at dksX6_leads_0 12 rfl rfl)
theorem dX6_leads_13 : decode cX6_leads 13 = .ok (.if_icmp .eq 26, 3) := dk_159 0 26 (dk_at dksX6_leads_0 13 rfl rfl)
theorem dX6_leads_16 : decode cX6_leads 16 = .ok (.aload_n 0, 1) := dk_42 (dk_at dksX6_leads_0 16 rfl rfl)
theorem dX6_leads_17 : decode cX6_leads 17 = .ok (.aload_n 0, 1) := dk_42 (dk_at dksX6_leads_0 17 rfl rfl)
theorem dX6_leads_18 : decode cX6_leads 18 = .ok (.getfield 34, 3) := dk_180 0 34 (dk_at dksX6_leads_0 18 rfl rfl)
theorem dX6_leads_21 : decode cX6_leads 21 = .ok (.iload 4, 2) := dk_21 4 (dk_at dksX6_leads_0 21 rfl rfl)
theorem dX6_leads_23 : decode cX6_leads 23 = .ok (.iaload, 1) := dk_46 (dk_at dksX6_leads_0 23 rfl rfl)
theorem dX6_leads_24 : decode cX6_leads 24 = .ok (.invokevirtual 37, 3) := dk_182 0 37 (dk_at dksX6_leads_1 0 rfl rfl)
theorem dX6_leads_27 : decode cX6_leads 27 = .ok (.aload_n 0, 1) := dk_42 (dk_at dksX6_leads_1 3 rfl rfl)
theorem dX6_leads_28 : decode cX6_leads 28 = .ok (.getfield 26, 3) := dk_180 0 26 (dk_at dksX6_leads_1 4 rfl rfl)
theorem dX6_leads_31 : decode cX6_leads 31 = .ok (.iload 4, 2) := dk_21 4 (dk_at dksX6_leads_1 7 rfl rfl)
theorem dX6_leads_33 : decode cX6_leads 33 = .ok (.iaload, 1) := dk_46 (dk_at dksX6_leads_1 9 rfl rfl)
theorem dX6_leads_34 : decode cX6_leads 34 = .ok (.istore 4, 2) := dk_54 4 (dk_at dksX6_leads_1 10 rfl rfl)
theorem dX6_leads_36 : decode cX6_leads 36 = .ok (.goto (-26), 3) := dk_167 255 230 (dk_at dksX6_leads_1 12 rfl rfl)
theorem dX6_leads_39 : decode cX6_leads 39 = .ok (.iload_n 2, 1) := dk_28 (dk_at dksX6_leads_1 15 rfl rfl)
theorem dX6_leads_40 : decode cX6_leads 40 = .ok (.istore 4, 2) := dk_54 4 (dk_at dksX6_leads_1 16 rfl rfl)
theorem dX6_leads_42 : decode cX6_leads 42 = .ok (.iload 4, 2) := dk_21 4 (dk_at dksX6_leads_1 18 rfl rfl)
theorem dX6_leads_44 : decode cX6_leads 44 = .ok (.iload_n 3, 1) := dk_29 (dk_at dksX6_leads_1 20 rfl rfl)
theorem dX6_leads_45 : decode cX6_leads 45 = .ok (.if_icmp .eq 26, 3) := dk_159 0 26 (dk_at dksX6_leads_1 21 rfl rfl)
theorem dX6_leads_48 : decode cX6_leads 48 = .ok (.aload_n 0, 1) := dk_42 (dk_at dksX6_leads_2 0 rfl rfl)
theorem dX6_leads_49 : decode cX6_leads 49 = .ok (.aload_n 0, 1) := dk_42 (dk_at dksX6_leads_2 1 rfl rfl)
theorem dX6_leads_50 : decode cX6_leads 50 = .ok (.getfield 34, 3) := dk_180 0 34 (dk_at dksX6_leads_2 2 rfl rfl)
theorem dX6_leads_53 : decode cX6_leads 53 = .ok (.iload 4, 2) := dk_21 4 (dk_at dksX6_leads_2 5 rfl rfl)
theorem dX6_leads_55 : decode cX6_leads 55 = .ok (.iaload, 1) := dk_46 (dk_at dksX6_leads_2 7 rfl rfl)
theorem dX6_leads_56 : decode cX6_leads 56 = .ok (.invokevirtual 37, 3) := dk_182 0 37 (dk_at dksX6_leads_2 8 rfl rfl)
theorem dX6_leads_59 : decode cX6_leads 59 = .ok (.aload_n 0, 1) := dk_42 (dk_at dksX6_leads_2 11 rfl rfl)
theorem dX6_leads_60 : decode cX6_leads 60 = .ok (.getfield 26, 3) := dk_180 0 26 (dk_at dksX6_leads_2 12 rfl rfl)
theorem dX6_leads_63 : decode cX6_leads 63 = .ok (.iload 4, 2) := dk_21 4 (dk_at dksX6_leads_2 15 rfl rfl)
theorem dX6_leads_65 : decode cX6_leads 65 = .ok (.iaload, 1) := dk_46 (dk_at dksX6_leads_2 17 rfl rfl)
theorem dX6_leads_66 : decode cX6_leads 66 = .ok (.istore 4, 2) := dk_54 4 (dk_at dksX6_leads_2 18 rfl rfl)
theorem dX6_leads_68 : decode cX6_leads 68 = .ok (.goto (-26), 3) := dk_167 255 230 (dk_at dksX6_leads_2 20 rfl rfl)
theorem dX6_leads_71 : decode cX6_leads 71 = .ok (.return_, 1) := dk_177 (dk_at dksX6_leads_2 23 rfl rfl)
abbrev cX6_common : ByteArray := prog_11_method_3_code
def yX6_common : MethodName := ⟨RX6, "common", "(II)I"⟩
def dkwX6_common_2 : List UInt8 := [180, 0, 9, 29, 51, 154, 0, 13, 42, 180, 0, 26, 29, 46, 62, 167, 255, 240, 29, 172]
abbrev dktX6_common_2 : List UInt8 := dkwX6_common_2 ++ []
def dkwX6_common_1 : List UInt8 := [2, 159, 0, 20, 42, 180, 0, 9, 29, 4, 84, 42, 180, 0, 26, 29, 46, 62, 167, 255, 237, 28, 62, 42]
abbrev dktX6_common_1 : List UInt8 := dkwX6_common_1 ++ dktX6_common_2
def dkwX6_common_0 : List UInt8 := [3, 62, 29, 16, 24, 162, 0, 16, 42, 180, 0, 9, 29, 3, 84, 132, 3, 1, 167, 255, 240, 27, 62, 29]
abbrev dktX6_common_0 : List UInt8 := dkwX6_common_0 ++ dktX6_common_1
theorem dksX6_common_0 : cX6_common.data.toList.drop 0 = dktX6_common_0 := by decide +kernel
theorem dksX6_common_1 : cX6_common.data.toList.drop 24 = dktX6_common_1 := dk_seg dksX6_common_0 24 rfl rfl
theorem dksX6_common_2 : cX6_common.data.toList.drop 48 = dktX6_common_2 := dk_seg dksX6_common_1 24 rfl rfl
theorem dX6_common_0 : decode cX6_common 0 = .ok (.iconst 0, 1) := dk_3 (dk_at dksX6_common_0 0 rfl rfl)
theorem dX6_common_1 : decode cX6_common 1 = .ok (.istore_n 3, 1) := dk_62 (dk_at dksX6_common_0 1 rfl rfl)
theorem dX6_common_2 : decode cX6_common 2 = .ok (.iload_n 3, 1) := dk_29 (dk_at dksX6_common_0 2 rfl rfl)
theorem dX6_common_3 : decode cX6_common 3 = .ok (.bipush 24, 2) := dk_16 24 (dk_at dksX6_common_0 3 rfl rfl)
theorem dX6_common_5 : decode cX6_common 5 = .ok (.if_icmp .ge 16, 3) := dk_162 0 16 (dk_at dksX6_common_0 5 rfl rfl)
theorem dX6_common_8 : decode cX6_common 8 = .ok (.aload_n 0, 1) := dk_42 (dk_at dksX6_common_0 8 rfl rfl)
theorem dX6_common_9 : decode cX6_common 9 = .ok (.getfield 9, 3) := dk_180 0 9 (dk_at dksX6_common_0 9 rfl rfl)
theorem dX6_common_12 : decode cX6_common 12 = .ok (.iload_n 3, 1) := dk_29 (dk_at dksX6_common_0 12 rfl rfl)
theorem dX6_common_13 : decode cX6_common 13 = .ok (.iconst 0, 1) := dk_3 (dk_at dksX6_common_0 13 rfl rfl)
theorem dX6_common_14 : decode cX6_common 14 = .ok (.bastore, 1) := dk_84 (dk_at dksX6_common_0 14 rfl rfl)
theorem dX6_common_15 : decode cX6_common 15 = .ok (.iinc 3 1, 3) := dk_132 3 1 (dk_at dksX6_common_0 15 rfl rfl)
theorem dX6_common_18 : decode cX6_common 18 = .ok (.goto (-16), 3) := dk_167 255 240 (dk_at dksX6_common_0 18 rfl rfl)
theorem dX6_common_21 : decode cX6_common 21 = .ok (.iload_n 1, 1) := dk_27 (dk_at dksX6_common_0 21 rfl rfl)
theorem dX6_common_22 : decode cX6_common 22 = .ok (.istore_n 3, 1) := dk_62 (dk_at dksX6_common_0 22 rfl rfl)
theorem dX6_common_23 : decode cX6_common 23 = .ok (.iload_n 3, 1) := dk_29 (dk_at dksX6_common_0 23 rfl rfl)
theorem dX6_common_24 : decode cX6_common 24 = .ok (.iconst (-1), 1) := dk_2 (dk_at dksX6_common_1 0 rfl rfl)
theorem dX6_common_25 : decode cX6_common 25 = .ok (.if_icmp .eq 20, 3) := dk_159 0 20 (dk_at dksX6_common_1 1 rfl rfl)
theorem dX6_common_28 : decode cX6_common 28 = .ok (.aload_n 0, 1) := dk_42 (dk_at dksX6_common_1 4 rfl rfl)
theorem dX6_common_29 : decode cX6_common 29 = .ok (.getfield 9, 3) := dk_180 0 9 (dk_at dksX6_common_1 5 rfl rfl)
theorem dX6_common_32 : decode cX6_common 32 = .ok (.iload_n 3, 1) := dk_29 (dk_at dksX6_common_1 8 rfl rfl)
theorem dX6_common_33 : decode cX6_common 33 = .ok (.iconst 1, 1) := dk_4 (dk_at dksX6_common_1 9 rfl rfl)
theorem dX6_common_34 : decode cX6_common 34 = .ok (.bastore, 1) := dk_84 (dk_at dksX6_common_1 10 rfl rfl)
theorem dX6_common_35 : decode cX6_common 35 = .ok (.aload_n 0, 1) := dk_42 (dk_at dksX6_common_1 11 rfl rfl)
theorem dX6_common_36 : decode cX6_common 36 = .ok (.getfield 26, 3) := dk_180 0 26 (dk_at dksX6_common_1 12 rfl rfl)
theorem dX6_common_39 : decode cX6_common 39 = .ok (.iload_n 3, 1) := dk_29 (dk_at dksX6_common_1 15 rfl rfl)
theorem dX6_common_40 : decode cX6_common 40 = .ok (.iaload, 1) := dk_46 (dk_at dksX6_common_1 16 rfl rfl)
theorem dX6_common_41 : decode cX6_common 41 = .ok (.istore_n 3, 1) := dk_62 (dk_at dksX6_common_1 17 rfl rfl)
theorem dX6_common_42 : decode cX6_common 42 = .ok (.goto (-19), 3) := dk_167 255 237 (dk_at dksX6_common_1 18 rfl rfl)
theorem dX6_common_45 : decode cX6_common 45 = .ok (.iload_n 2, 1) := dk_28 (dk_at dksX6_common_1 21 rfl rfl)
theorem dX6_common_46 : decode cX6_common 46 = .ok (.istore_n 3, 1) := dk_62 (dk_at dksX6_common_1 22 rfl rfl)
theorem dX6_common_47 : decode cX6_common 47 = .ok (.aload_n 0, 1) := dk_42 (dk_at dksX6_common_1 23 rfl rfl)
theorem dX6_common_48 : decode cX6_common 48 = .ok (.getfield 9, 3) := dk_180 0 9 (dk_at dksX6_common_2 0 rfl rfl)
theorem dX6_common_51 : decode cX6_common 51 = .ok (.iload_n 3, 1) := dk_29 (dk_at dksX6_common_2 3 rfl rfl)
theorem dX6_common_52 : decode cX6_common 52 = .ok (.baload, 1) := dk_51 (dk_at dksX6_common_2 4 rfl rfl)
theorem dX6_common_53 : decode cX6_common 53 = .ok (.ifCond .ne 13, 3) := dk_154 0 13 (dk_at dksX6_common_2 5 rfl rfl)
theorem dX6_common_56 : decode cX6_common 56 = .ok (.aload_n 0, 1) := dk_42 (dk_at dksX6_common_2 8 rfl rfl)
theorem dX6_common_57 : decode cX6_common 57 = .ok (.getfield 26, 3) := dk_180 0 26 (dk_at dksX6_common_2 9 rfl rfl)
theorem dX6_common_60 : decode cX6_common 60 = .ok (.iload_n 3, 1) := dk_29 (dk_at dksX6_common_2 12 rfl rfl)
theorem dX6_common_61 : decode cX6_common 61 = .ok (.iaload, 1) := dk_46 (dk_at dksX6_common_2 13 rfl rfl)
theorem dX6_common_62 : decode cX6_common 62 = .ok (.istore_n 3, 1) := dk_62 (dk_at dksX6_common_2 14 rfl rfl)
theorem dX6_common_63 : decode cX6_common 63 = .ok (.goto (-16), 3) := dk_167 255 240 (dk_at dksX6_common_2 15 rfl rfl)
theorem dX6_common_66 : decode cX6_common 66 = .ok (.iload_n 3, 1) := dk_29 (dk_at dksX6_common_2 18 rfl rfl)
theorem dX6_common_67 : decode cX6_common 67 = .ok (.ireturn, 1) := dk_172 (dk_at dksX6_common_2 19 rfl rfl)
abbrev cX6_takes : ByteArray := prog_11_method_5_code
def yX6_takes : MethodName := ⟨RX6, "takes", "(I)V"⟩
def dkwX6_takes_5 : List UInt8 := [167, 255, 234, 177]
abbrev dktX6_takes_5 : List UInt8 := dkwX6_takes_5 ++ []
def dkwX6_takes_4 : List UInt8 := [21, 4, 44, 190, 162, 0, 21, 42, 44, 21, 4, 46, 45, 21, 4, 46, 182, 0, 22, 132, 4, 1]
abbrev dktX6_takes_4 : List UInt8 := dkwX6_takes_4 ++ dktX6_takes_5
def dkwX6_takes_3 : List UInt8 := [180, 0, 44, 42, 180, 0, 62, 27, 46, 185, 0, 51, 2, 0, 192, 0, 57, 180, 0, 59, 78, 3, 54, 4]
abbrev dktX6_takes_3 : List UInt8 := dkwX6_takes_3 ++ dktX6_takes_4
def dkwX6_takes_2 : List UInt8 := [180, 0, 44, 42, 180, 0, 48, 27, 46, 185, 0, 51, 2, 0, 192, 0, 57, 180, 0, 59, 77, 42]
abbrev dktX6_takes_2 : List UInt8 := dkwX6_takes_2 ++ dktX6_takes_3
def dkwX6_takes_1 : List UInt8 := [16, 254, 159, 0, 21, 42, 89, 180, 0, 18, 4, 42, 180, 0, 41, 27, 46, 120, 128, 181, 0, 18, 177, 42]
abbrev dktX6_takes_1 : List UInt8 := dkwX6_takes_1 ++ dktX6_takes_2
def dkwX6_takes_0 : List UInt8 := [42, 180, 0, 15, 27, 51, 153, 0, 4, 177, 42, 180, 0, 15, 27, 4, 84, 42, 180, 0, 41, 27, 46]
abbrev dktX6_takes_0 : List UInt8 := dkwX6_takes_0 ++ dktX6_takes_1
theorem dksX6_takes_0 : cX6_takes.data.toList.drop 0 = dktX6_takes_0 := by decide +kernel
theorem dksX6_takes_1 : cX6_takes.data.toList.drop 23 = dktX6_takes_1 := dk_seg dksX6_takes_0 23 rfl rfl
theorem dksX6_takes_2 : cX6_takes.data.toList.drop 47 = dktX6_takes_2 := dk_seg dksX6_takes_1 24 rfl rfl
theorem dksX6_takes_3 : cX6_takes.data.toList.drop 69 = dktX6_takes_3 := dk_seg dksX6_takes_2 22 rfl rfl
theorem dksX6_takes_4 : cX6_takes.data.toList.drop 93 = dktX6_takes_4 := dk_seg dksX6_takes_3 24 rfl rfl
theorem dksX6_takes_5 : cX6_takes.data.toList.drop 115 = dktX6_takes_5 := dk_seg dksX6_takes_4 22 rfl rfl
theorem dX6_takes_0 : decode cX6_takes 0 = .ok (.aload_n 0, 1) := dk_42 (dk_at dksX6_takes_0 0 rfl rfl)
theorem dX6_takes_1 : decode cX6_takes 1 = .ok (.getfield 15, 3) := dk_180 0 15 (dk_at dksX6_takes_0 1 rfl rfl)
theorem dX6_takes_4 : decode cX6_takes 4 = .ok (.iload_n 1, 1) := dk_27 (dk_at dksX6_takes_0 4 rfl rfl)
theorem dX6_takes_5 : decode cX6_takes 5 = .ok (.baload, 1) := dk_51 (dk_at dksX6_takes_0 5 rfl rfl)
theorem dX6_takes_6 : decode cX6_takes 6 = .ok (.ifCond .eq 4, 3) := dk_153 0 4 (dk_at dksX6_takes_0 6 rfl rfl)
theorem dX6_takes_9 : decode cX6_takes 9 = .ok (.return_, 1) := dk_177 (dk_at dksX6_takes_0 9 rfl rfl)
theorem dX6_takes_10 : decode cX6_takes 10 = .ok (.aload_n 0, 1) := dk_42 (dk_at dksX6_takes_0 10 rfl rfl)
theorem dX6_takes_11 : decode cX6_takes 11 = .ok (.getfield 15, 3) := dk_180 0 15 (dk_at dksX6_takes_0 11 rfl rfl)
theorem dX6_takes_14 : decode cX6_takes 14 = .ok (.iload_n 1, 1) := dk_27 (dk_at dksX6_takes_0 14 rfl rfl)
theorem dX6_takes_15 : decode cX6_takes 15 = .ok (.iconst 1, 1) := dk_4 (dk_at dksX6_takes_0 15 rfl rfl)
theorem dX6_takes_16 : decode cX6_takes 16 = .ok (.bastore, 1) := dk_84 (dk_at dksX6_takes_0 16 rfl rfl)
theorem dX6_takes_17 : decode cX6_takes 17 = .ok (.aload_n 0, 1) := dk_42 (dk_at dksX6_takes_0 17 rfl rfl)
theorem dX6_takes_18 : decode cX6_takes 18 = .ok (.getfield 41, 3) := dk_180 0 41 (dk_at dksX6_takes_0 18 rfl rfl)
theorem dX6_takes_21 : decode cX6_takes 21 = .ok (.iload_n 1, 1) := dk_27 (dk_at dksX6_takes_0 21 rfl rfl)
theorem dX6_takes_22 : decode cX6_takes 22 = .ok (.iaload, 1) := dk_46 (dk_at dksX6_takes_0 22 rfl rfl)
theorem dX6_takes_23 : decode cX6_takes 23 = .ok (.bipush (-2), 2) := dk_16 254 (dk_at dksX6_takes_1 0 rfl rfl)
theorem dX6_takes_25 : decode cX6_takes 25 = .ok (.if_icmp .eq 21, 3) := dk_159 0 21 (dk_at dksX6_takes_1 2 rfl rfl)
theorem dX6_takes_28 : decode cX6_takes 28 = .ok (.aload_n 0, 1) := dk_42 (dk_at dksX6_takes_1 5 rfl rfl)
theorem dX6_takes_29 : decode cX6_takes 29 = .ok (.dup, 1) := dk_89 (dk_at dksX6_takes_1 6 rfl rfl)
theorem dX6_takes_30 : decode cX6_takes 30 = .ok (.getfield 18, 3) := dk_180 0 18 (dk_at dksX6_takes_1 7 rfl rfl)
theorem dX6_takes_33 : decode cX6_takes 33 = .ok (.iconst 1, 1) := dk_4 (dk_at dksX6_takes_1 10 rfl rfl)
theorem dX6_takes_34 : decode cX6_takes 34 = .ok (.aload_n 0, 1) := dk_42 (dk_at dksX6_takes_1 11 rfl rfl)
theorem dX6_takes_35 : decode cX6_takes 35 = .ok (.getfield 41, 3) := dk_180 0 41 (dk_at dksX6_takes_1 12 rfl rfl)
theorem dX6_takes_38 : decode cX6_takes 38 = .ok (.iload_n 1, 1) := dk_27 (dk_at dksX6_takes_1 15 rfl rfl)
theorem dX6_takes_39 : decode cX6_takes 39 = .ok (.iaload, 1) := dk_46 (dk_at dksX6_takes_1 16 rfl rfl)
theorem dX6_takes_40 : decode cX6_takes 40 = .ok (.ishl, 1) := dk_120 (dk_at dksX6_takes_1 17 rfl rfl)
theorem dX6_takes_41 : decode cX6_takes 41 = .ok (.ior, 1) := dk_128 (dk_at dksX6_takes_1 18 rfl rfl)
theorem dX6_takes_42 : decode cX6_takes 42 = .ok (.putfield 18, 3) := dk_181 0 18 (dk_at dksX6_takes_1 19 rfl rfl)
theorem dX6_takes_45 : decode cX6_takes 45 = .ok (.return_, 1) := dk_177 (dk_at dksX6_takes_1 22 rfl rfl)
theorem dX6_takes_46 : decode cX6_takes 46 = .ok (.aload_n 0, 1) := dk_42 (dk_at dksX6_takes_1 23 rfl rfl)
theorem dX6_takes_47 : decode cX6_takes 47 = .ok (.getfield 44, 3) := dk_180 0 44 (dk_at dksX6_takes_2 0 rfl rfl)
theorem dX6_takes_50 : decode cX6_takes 50 = .ok (.aload_n 0, 1) := dk_42 (dk_at dksX6_takes_2 3 rfl rfl)
theorem dX6_takes_51 : decode cX6_takes 51 = .ok (.getfield 48, 3) := dk_180 0 48 (dk_at dksX6_takes_2 4 rfl rfl)
theorem dX6_takes_54 : decode cX6_takes 54 = .ok (.iload_n 1, 1) := dk_27 (dk_at dksX6_takes_2 7 rfl rfl)
theorem dX6_takes_55 : decode cX6_takes 55 = .ok (.iaload, 1) := dk_46 (dk_at dksX6_takes_2 8 rfl rfl)
theorem dX6_takes_56 : decode cX6_takes 56 = .ok (.invokeinterface 51 2, 5) := by decide +kernel
theorem dX6_takes_61 : decode cX6_takes 61 = .ok (.checkcast 57, 3) := dk_192 0 57 (dk_at dksX6_takes_2 14 rfl rfl)
theorem dX6_takes_64 : decode cX6_takes 64 = .ok (.getfield 59, 3) := dk_180 0 59 (dk_at dksX6_takes_2 17 rfl rfl)
theorem dX6_takes_67 : decode cX6_takes 67 = .ok (.astore_n 2, 1) := dk_77 (dk_at dksX6_takes_2 20 rfl rfl)
theorem dX6_takes_68 : decode cX6_takes 68 = .ok (.aload_n 0, 1) := dk_42 (dk_at dksX6_takes_2 21 rfl rfl)
theorem dX6_takes_69 : decode cX6_takes 69 = .ok (.getfield 44, 3) := dk_180 0 44 (dk_at dksX6_takes_3 0 rfl rfl)
theorem dX6_takes_72 : decode cX6_takes 72 = .ok (.aload_n 0, 1) := dk_42 (dk_at dksX6_takes_3 3 rfl rfl)
theorem dX6_takes_73 : decode cX6_takes 73 = .ok (.getfield 62, 3) := dk_180 0 62 (dk_at dksX6_takes_3 4 rfl rfl)
theorem dX6_takes_76 : decode cX6_takes 76 = .ok (.iload_n 1, 1) := dk_27 (dk_at dksX6_takes_3 7 rfl rfl)
theorem dX6_takes_77 : decode cX6_takes 77 = .ok (.iaload, 1) := dk_46 (dk_at dksX6_takes_3 8 rfl rfl)
theorem dX6_takes_78 : decode cX6_takes 78 = .ok (.invokeinterface 51 2, 5) := by decide +kernel
theorem dX6_takes_83 : decode cX6_takes 83 = .ok (.checkcast 57, 3) := dk_192 0 57 (dk_at dksX6_takes_3 14 rfl rfl)
theorem dX6_takes_86 : decode cX6_takes 86 = .ok (.getfield 59, 3) := dk_180 0 59 (dk_at dksX6_takes_3 17 rfl rfl)
theorem dX6_takes_89 : decode cX6_takes 89 = .ok (.astore_n 3, 1) := dk_78 (dk_at dksX6_takes_3 20 rfl rfl)
theorem dX6_takes_90 : decode cX6_takes 90 = .ok (.iconst 0, 1) := dk_3 (dk_at dksX6_takes_3 21 rfl rfl)
theorem dX6_takes_91 : decode cX6_takes 91 = .ok (.istore 4, 2) := dk_54 4 (dk_at dksX6_takes_3 22 rfl rfl)
theorem dX6_takes_93 : decode cX6_takes 93 = .ok (.iload 4, 2) := dk_21 4 (dk_at dksX6_takes_4 0 rfl rfl)
theorem dX6_takes_95 : decode cX6_takes 95 = .ok (.aload_n 2, 1) := dk_44 (dk_at dksX6_takes_4 2 rfl rfl)
theorem dX6_takes_96 : decode cX6_takes 96 = .ok (.arraylength, 1) := dk_190 (dk_at dksX6_takes_4 3 rfl rfl)
theorem dX6_takes_97 : decode cX6_takes 97 = .ok (.if_icmp .ge 21, 3) := dk_162 0 21 (dk_at dksX6_takes_4 4 rfl rfl)
theorem dX6_takes_100 : decode cX6_takes 100 = .ok (.aload_n 0, 1) := dk_42 (dk_at dksX6_takes_4 7 rfl rfl)
theorem dX6_takes_101 : decode cX6_takes 101 = .ok (.aload_n 2, 1) := dk_44 (dk_at dksX6_takes_4 8 rfl rfl)
theorem dX6_takes_102 : decode cX6_takes 102 = .ok (.iload 4, 2) := dk_21 4 (dk_at dksX6_takes_4 9 rfl rfl)
theorem dX6_takes_104 : decode cX6_takes 104 = .ok (.iaload, 1) := dk_46 (dk_at dksX6_takes_4 11 rfl rfl)
theorem dX6_takes_105 : decode cX6_takes 105 = .ok (.aload_n 3, 1) := dk_45 (dk_at dksX6_takes_4 12 rfl rfl)
theorem dX6_takes_106 : decode cX6_takes 106 = .ok (.iload 4, 2) := dk_21 4 (dk_at dksX6_takes_4 13 rfl rfl)
theorem dX6_takes_108 : decode cX6_takes 108 = .ok (.iaload, 1) := dk_46 (dk_at dksX6_takes_4 15 rfl rfl)
theorem dX6_takes_109 : decode cX6_takes 109 = .ok (.invokevirtual 22, 3) := dk_182 0 22 (dk_at dksX6_takes_4 16 rfl rfl)
theorem dX6_takes_112 : decode cX6_takes 112 = .ok (.iinc 4 1, 3) := dk_132 4 1 (dk_at dksX6_takes_4 19 rfl rfl)
theorem dX6_takes_115 : decode cX6_takes 115 = .ok (.goto (-22), 3) := dk_167 255 234 (dk_at dksX6_takes_5 0 rfl rfl)
theorem dX6_takes_118 : decode cX6_takes 118 = .ok (.return_, 1) := dk_177 (dk_at dksX6_takes_5 3 rfl rfl)

abbrev cX8_init : ByteArray := prog_10_method_1_code
def yX8_init : MethodName := ⟨RX8, "<init>", "(LReasonCloser;I)V"⟩
def dkwX8_init_1 : List UInt8 := [181, 0, 22, 177]
abbrev dktX8_init_1 : List UInt8 := dkwX8_init_1 ++ []
def dkwX8_init_0 : List UInt8 := [42, 43, 181, 0, 3, 42, 183, 0, 9, 42, 187, 0, 15, 89, 183, 0, 17, 181, 0, 18, 42, 28]
abbrev dktX8_init_0 : List UInt8 := dkwX8_init_0 ++ dktX8_init_1
theorem dksX8_init_0 : cX8_init.data.toList.drop 0 = dktX8_init_0 := by decide +kernel
theorem dksX8_init_1 : cX8_init.data.toList.drop 22 = dktX8_init_1 := dk_seg dksX8_init_0 22 rfl rfl
theorem dX8_init_0 : decode cX8_init 0 = .ok (.aload_n 0, 1) := dk_42 (dk_at dksX8_init_0 0 rfl rfl)
theorem dX8_init_1 : decode cX8_init 1 = .ok (.aload_n 1, 1) := dk_43 (dk_at dksX8_init_0 1 rfl rfl)
theorem dX8_init_2 : decode cX8_init 2 = .ok (.putfield 3, 3) := dk_181 0 3 (dk_at dksX8_init_0 2 rfl rfl)
theorem dX8_init_5 : decode cX8_init 5 = .ok (.aload_n 0, 1) := dk_42 (dk_at dksX8_init_0 5 rfl rfl)
theorem dX8_init_6 : decode cX8_init 6 = .ok (.invokespecial 9, 3) := dk_183 0 9 (dk_at dksX8_init_0 6 rfl rfl)
theorem dX8_init_9 : decode cX8_init 9 = .ok (.aload_n 0, 1) := dk_42 (dk_at dksX8_init_0 9 rfl rfl)
theorem dX8_init_10 : decode cX8_init 10 = .ok (.new 15, 3) := dk_187 0 15 (dk_at dksX8_init_0 10 rfl rfl)
theorem dX8_init_13 : decode cX8_init 13 = .ok (.dup, 1) := dk_89 (dk_at dksX8_init_0 13 rfl rfl)
theorem dX8_init_14 : decode cX8_init 14 = .ok (.invokespecial 17, 3) := dk_183 0 17 (dk_at dksX8_init_0 14 rfl rfl)
theorem dX8_init_17 : decode cX8_init 17 = .ok (.putfield 18, 3) := dk_181 0 18 (dk_at dksX8_init_0 17 rfl rfl)
theorem dX8_init_20 : decode cX8_init 20 = .ok (.aload_n 0, 1) := dk_42 (dk_at dksX8_init_0 20 rfl rfl)
theorem dX8_init_21 : decode cX8_init 21 = .ok (.iload_n 2, 1) := dk_28 (dk_at dksX8_init_0 21 rfl rfl)
theorem dX8_init_22 : decode cX8_init 22 = .ok (.putfield 22, 3) := dk_181 0 22 (dk_at dksX8_init_1 0 rfl rfl)
theorem dX8_init_25 : decode cX8_init 25 = .ok (.return_, 1) := dk_177 (dk_at dksX8_init_1 3 rfl rfl)
abbrev cX8_read : ByteArray := prog_10_method_15_code
def yX8_read : MethodName := ⟨RX8, "read", "()LReasonCloser$Book;"⟩
def dkwX8_read_2 : List UInt8 := [42, 180, 0, 18, 176]
abbrev dktX8_read_2 : List UInt8 := dkwX8_read_2 ++ []
def dkwX8_read_1 : List UInt8 := [182, 0, 113, 167, 255, 239, 42, 42, 180, 0, 44, 4, 160, 0, 7, 4, 167, 0, 4, 3, 4, 182, 0, 88]
abbrev dktX8_read_1 : List UInt8 := dkwX8_read_1 ++ dktX8_read_2
def dkwX8_read_0 : List UInt8 := [42, 182, 0, 92, 42, 182, 0, 113, 42, 16, 59, 182, 0, 85, 153, 0, 14, 42, 182, 0, 92, 42]
abbrev dktX8_read_0 : List UInt8 := dkwX8_read_0 ++ dktX8_read_1
theorem dksX8_read_0 : cX8_read.data.toList.drop 0 = dktX8_read_0 := by decide +kernel
theorem dksX8_read_1 : cX8_read.data.toList.drop 22 = dktX8_read_1 := dk_seg dksX8_read_0 22 rfl rfl
theorem dksX8_read_2 : cX8_read.data.toList.drop 46 = dktX8_read_2 := dk_seg dksX8_read_1 24 rfl rfl
theorem dX8_read_0 : decode cX8_read 0 = .ok (.aload_n 0, 1) := dk_42 (dk_at dksX8_read_0 0 rfl rfl)
theorem dX8_read_1 : decode cX8_read 1 = .ok (.invokevirtual 92, 3) := dk_182 0 92 (dk_at dksX8_read_0 1 rfl rfl)
theorem dX8_read_4 : decode cX8_read 4 = .ok (.aload_n 0, 1) := dk_42 (dk_at dksX8_read_0 4 rfl rfl)
theorem dX8_read_5 : decode cX8_read 5 = .ok (.invokevirtual 113, 3) := dk_182 0 113 (dk_at dksX8_read_0 5 rfl rfl)
theorem dX8_read_8 : decode cX8_read 8 = .ok (.aload_n 0, 1) := dk_42 (dk_at dksX8_read_0 8 rfl rfl)
theorem dX8_read_9 : decode cX8_read 9 = .ok (.bipush 59, 2) := dk_16 59 (dk_at dksX8_read_0 9 rfl rfl)
theorem dX8_read_11 : decode cX8_read 11 = .ok (.invokevirtual 85, 3) := dk_182 0 85 (dk_at dksX8_read_0 11 rfl rfl)
theorem dX8_read_14 : decode cX8_read 14 = .ok (.ifCond .eq 14, 3) := dk_153 0 14 (dk_at dksX8_read_0 14 rfl rfl)
theorem dX8_read_17 : decode cX8_read 17 = .ok (.aload_n 0, 1) := dk_42 (dk_at dksX8_read_0 17 rfl rfl)
theorem dX8_read_18 : decode cX8_read 18 = .ok (.invokevirtual 92, 3) := dk_182 0 92 (dk_at dksX8_read_0 18 rfl rfl)
theorem dX8_read_21 : decode cX8_read 21 = .ok (.aload_n 0, 1) := dk_42 (dk_at dksX8_read_0 21 rfl rfl)
theorem dX8_read_22 : decode cX8_read 22 = .ok (.invokevirtual 113, 3) := dk_182 0 113 (dk_at dksX8_read_1 0 rfl rfl)
theorem dX8_read_25 : decode cX8_read 25 = .ok (.goto (-17), 3) := dk_167 255 239 (dk_at dksX8_read_1 3 rfl rfl)
theorem dX8_read_28 : decode cX8_read 28 = .ok (.aload_n 0, 1) := dk_42 (dk_at dksX8_read_1 6 rfl rfl)
theorem dX8_read_29 : decode cX8_read 29 = .ok (.aload_n 0, 1) := dk_42 (dk_at dksX8_read_1 7 rfl rfl)
theorem dX8_read_30 : decode cX8_read 30 = .ok (.getfield 44, 3) := dk_180 0 44 (dk_at dksX8_read_1 8 rfl rfl)
theorem dX8_read_33 : decode cX8_read 33 = .ok (.iconst 1, 1) := dk_4 (dk_at dksX8_read_1 11 rfl rfl)
theorem dX8_read_34 : decode cX8_read 34 = .ok (.if_icmp .ne 7, 3) := dk_160 0 7 (dk_at dksX8_read_1 12 rfl rfl)
theorem dX8_read_37 : decode cX8_read 37 = .ok (.iconst 1, 1) := dk_4 (dk_at dksX8_read_1 15 rfl rfl)
theorem dX8_read_38 : decode cX8_read 38 = .ok (.goto 4, 3) := dk_167 0 4 (dk_at dksX8_read_1 16 rfl rfl)
theorem dX8_read_41 : decode cX8_read 41 = .ok (.iconst 0, 1) := dk_3 (dk_at dksX8_read_1 19 rfl rfl)
theorem dX8_read_42 : decode cX8_read 42 = .ok (.iconst 1, 1) := dk_4 (dk_at dksX8_read_1 20 rfl rfl)
theorem dX8_read_43 : decode cX8_read 43 = .ok (.invokevirtual 88, 3) := dk_182 0 88 (dk_at dksX8_read_1 21 rfl rfl)
theorem dX8_read_46 : decode cX8_read 46 = .ok (.aload_n 0, 1) := dk_42 (dk_at dksX8_read_2 0 rfl rfl)
theorem dX8_read_47 : decode cX8_read 47 = .ok (.getfield 18, 3) := dk_180 0 18 (dk_at dksX8_read_2 1 rfl rfl)
theorem dX8_read_50 : decode cX8_read 50 = .ok (.areturn, 1) := dk_176 (dk_at dksX8_read_2 4 rfl rfl)
abbrev cX8_go : ByteArray := prog_10_method_5_code
def yX8_go : MethodName := ⟨RX8, "go", "()V"⟩
def dkwX8_go_11 : List UInt8 := [3, 167, 0, 4, 7, 181, 0, 44, 42, 89, 180, 0, 38, 4, 96, 181, 0, 38, 177]
abbrev dktX8_go_11 : List UInt8 := dkwX8_go_11 ++ []
def dkwX8_go_10 : List UInt8 := [6, 181, 0, 44, 167, 0, 38, 42, 18, 61, 42, 42, 180, 0, 38, 182, 0, 30, 182, 0, 63, 156, 0, 7]
abbrev dktX8_go_10 : List UInt8 := dkwX8_go_10 ++ dktX8_go_11
def dkwX8_go_9 : List UInt8 := [181, 0, 38, 167, 255, 235, 42, 42, 180, 0, 38, 42, 180, 0, 41, 100, 4, 164, 0, 7, 3, 167, 0, 4]
abbrev dktX8_go_9 : List UInt8 := dkwX8_go_9 ++ dktX8_go_10
def dkwX8_go_8 : List UInt8 := [16, 48, 100, 181, 0, 58, 42, 42, 180, 0, 38, 182, 0, 55, 153, 0, 16, 42, 89, 180, 0, 38, 4, 96]
abbrev dktX8_go_8 : List UInt8 := dkwX8_go_8 ++ dktX8_go_9
def dkwX8_go_7 : List UInt8 := [167, 0, 113, 42, 42, 180, 0, 38, 182, 0, 55, 153, 0, 67, 42, 42, 42, 180, 0, 38, 182, 0, 30]
abbrev dktX8_go_7 : List UInt8 := dkwX8_go_7 ++ dktX8_go_8
def dkwX8_go_6 : List UInt8 := [42, 42, 180, 0, 38, 42, 180, 0, 41, 100, 16, 6, 164, 0, 7, 3, 167, 0, 4, 5, 181, 0, 44]
abbrev dktX8_go_6 : List UInt8 := dkwX8_go_6 ++ dktX8_go_7
def dkwX8_go_5 : List UInt8 := [180, 0, 38, 182, 0, 30, 133, 129, 181, 0, 51, 42, 89, 180, 0, 38, 4, 96, 181, 0, 38, 167, 255, 200]
abbrev dktX8_go_5 : List UInt8 := dkwX8_go_5 ++ dktX8_go_6
def dkwX8_go_4 : List UInt8 := [180, 0, 38, 42, 180, 0, 41, 100, 16, 6, 162, 0, 24, 42, 42, 180, 0, 51, 16, 8, 121, 42, 42]
abbrev dktX8_go_4 : List UInt8 := dkwX8_go_4 ++ dktX8_go_5
def dkwX8_go_3 : List UInt8 := [182, 0, 47, 153, 0, 93, 42, 9, 181, 0, 51, 42, 42, 180, 0, 38, 182, 0, 47, 153, 0, 51, 42]
abbrev dktX8_go_3 : List UInt8 := dkwX8_go_3 ++ dktX8_go_4
def dkwX8_go_2 : List UInt8 := [180, 0, 38, 42, 180, 0, 22, 161, 0, 11, 42, 4, 181, 0, 44, 167, 0, 214, 42, 42, 180, 0, 38]
abbrev dktX8_go_2 : List UInt8 := dkwX8_go_2 ++ dktX8_go_3
def dkwX8_go_1 : List UInt8 := [42, 89, 180, 0, 38, 4, 96, 181, 0, 38, 167, 255, 222, 42, 42, 180, 0, 38, 181, 0, 41, 42]
abbrev dktX8_go_1 : List UInt8 := dkwX8_go_1 ++ dktX8_go_2
def dkwX8_go_0 : List UInt8 := [42, 180, 0, 38, 42, 180, 0, 22, 162, 0, 29, 42, 42, 180, 0, 38, 182, 0, 30, 16, 32, 160, 0, 16]
abbrev dktX8_go_0 : List UInt8 := dkwX8_go_0 ++ dktX8_go_1
theorem dksX8_go_0 : cX8_go.data.toList.drop 0 = dktX8_go_0 := by decide +kernel
theorem dksX8_go_1 : cX8_go.data.toList.drop 24 = dktX8_go_1 := dk_seg dksX8_go_0 24 rfl rfl
theorem dksX8_go_2 : cX8_go.data.toList.drop 46 = dktX8_go_2 := dk_seg dksX8_go_1 22 rfl rfl
theorem dksX8_go_3 : cX8_go.data.toList.drop 69 = dktX8_go_3 := dk_seg dksX8_go_2 23 rfl rfl
theorem dksX8_go_4 : cX8_go.data.toList.drop 92 = dktX8_go_4 := dk_seg dksX8_go_3 23 rfl rfl
theorem dksX8_go_5 : cX8_go.data.toList.drop 115 = dktX8_go_5 := dk_seg dksX8_go_4 23 rfl rfl
theorem dksX8_go_6 : cX8_go.data.toList.drop 139 = dktX8_go_6 := dk_seg dksX8_go_5 24 rfl rfl
theorem dksX8_go_7 : cX8_go.data.toList.drop 162 = dktX8_go_7 := dk_seg dksX8_go_6 23 rfl rfl
theorem dksX8_go_8 : cX8_go.data.toList.drop 185 = dktX8_go_8 := dk_seg dksX8_go_7 23 rfl rfl
theorem dksX8_go_9 : cX8_go.data.toList.drop 209 = dktX8_go_9 := dk_seg dksX8_go_8 24 rfl rfl
theorem dksX8_go_10 : cX8_go.data.toList.drop 233 = dktX8_go_10 := dk_seg dksX8_go_9 24 rfl rfl
theorem dksX8_go_11 : cX8_go.data.toList.drop 257 = dktX8_go_11 := dk_seg dksX8_go_10 24 rfl rfl
theorem dX8_go_0 : decode cX8_go 0 = .ok (.aload_n 0, 1) := dk_42 (dk_at dksX8_go_0 0 rfl rfl)
theorem dX8_go_1 : decode cX8_go 1 = .ok (.getfield 38, 3) := dk_180 0 38 (dk_at dksX8_go_0 1 rfl rfl)
theorem dX8_go_4 : decode cX8_go 4 = .ok (.aload_n 0, 1) := dk_42 (dk_at dksX8_go_0 4 rfl rfl)
theorem dX8_go_5 : decode cX8_go 5 = .ok (.getfield 22, 3) := dk_180 0 22 (dk_at dksX8_go_0 5 rfl rfl)
theorem dX8_go_8 : decode cX8_go 8 = .ok (.if_icmp .ge 29, 3) := dk_162 0 29 (dk_at dksX8_go_0 8 rfl rfl)
theorem dX8_go_11 : decode cX8_go 11 = .ok (.aload_n 0, 1) := dk_42 (dk_at dksX8_go_0 11 rfl rfl)
theorem dX8_go_12 : decode cX8_go 12 = .ok (.aload_n 0, 1) := dk_42 (dk_at dksX8_go_0 12 rfl rfl)
theorem dX8_go_13 : decode cX8_go 13 = .ok (.getfield 38, 3) := dk_180 0 38 (dk_at dksX8_go_0 13 rfl rfl)
theorem dX8_go_16 : decode cX8_go 16 = .ok (.invokevirtual 30, 3) := dk_182 0 30 (dk_at dksX8_go_0 16 rfl rfl)
theorem dX8_go_19 : decode cX8_go 19 = .ok (.bipush 32, 2) := dk_16 32 (dk_at dksX8_go_0 19 rfl rfl)
theorem dX8_go_21 : decode cX8_go 21 = .ok (.if_icmp .ne 16, 3) := dk_160 0 16 (dk_at dksX8_go_0 21 rfl rfl)
theorem dX8_go_24 : decode cX8_go 24 = .ok (.aload_n 0, 1) := dk_42 (dk_at dksX8_go_1 0 rfl rfl)
theorem dX8_go_25 : decode cX8_go 25 = .ok (.dup, 1) := dk_89 (dk_at dksX8_go_1 1 rfl rfl)
theorem dX8_go_26 : decode cX8_go 26 = .ok (.getfield 38, 3) := dk_180 0 38 (dk_at dksX8_go_1 2 rfl rfl)
theorem dX8_go_29 : decode cX8_go 29 = .ok (.iconst 1, 1) := dk_4 (dk_at dksX8_go_1 5 rfl rfl)
theorem dX8_go_30 : decode cX8_go 30 = .ok (.iadd, 1) := dk_96 (dk_at dksX8_go_1 6 rfl rfl)
theorem dX8_go_31 : decode cX8_go 31 = .ok (.putfield 38, 3) := dk_181 0 38 (dk_at dksX8_go_1 7 rfl rfl)
theorem dX8_go_34 : decode cX8_go 34 = .ok (.goto (-34), 3) := dk_167 255 222 (dk_at dksX8_go_1 10 rfl rfl)
theorem dX8_go_37 : decode cX8_go 37 = .ok (.aload_n 0, 1) := dk_42 (dk_at dksX8_go_1 13 rfl rfl)
theorem dX8_go_38 : decode cX8_go 38 = .ok (.aload_n 0, 1) := dk_42 (dk_at dksX8_go_1 14 rfl rfl)
theorem dX8_go_39 : decode cX8_go 39 = .ok (.getfield 38, 3) := dk_180 0 38 (dk_at dksX8_go_1 15 rfl rfl)
theorem dX8_go_42 : decode cX8_go 42 = .ok (.putfield 41, 3) := dk_181 0 41 (dk_at dksX8_go_1 18 rfl rfl)
theorem dX8_go_45 : decode cX8_go 45 = .ok (.aload_n 0, 1) := dk_42 (dk_at dksX8_go_1 21 rfl rfl)
theorem dX8_go_46 : decode cX8_go 46 = .ok (.getfield 38, 3) := dk_180 0 38 (dk_at dksX8_go_2 0 rfl rfl)
theorem dX8_go_49 : decode cX8_go 49 = .ok (.aload_n 0, 1) := dk_42 (dk_at dksX8_go_2 3 rfl rfl)
theorem dX8_go_50 : decode cX8_go 50 = .ok (.getfield 22, 3) := dk_180 0 22 (dk_at dksX8_go_2 4 rfl rfl)
theorem dX8_go_53 : decode cX8_go 53 = .ok (.if_icmp .lt 11, 3) := dk_161 0 11 (dk_at dksX8_go_2 7 rfl rfl)
theorem dX8_go_56 : decode cX8_go 56 = .ok (.aload_n 0, 1) := dk_42 (dk_at dksX8_go_2 10 rfl rfl)
theorem dX8_go_57 : decode cX8_go 57 = .ok (.iconst 1, 1) := dk_4 (dk_at dksX8_go_2 11 rfl rfl)
theorem dX8_go_58 : decode cX8_go 58 = .ok (.putfield 44, 3) := dk_181 0 44 (dk_at dksX8_go_2 12 rfl rfl)
theorem dX8_go_61 : decode cX8_go 61 = .ok (.goto 214, 3) := dk_167 0 214 (dk_at dksX8_go_2 15 rfl rfl)
theorem dX8_go_64 : decode cX8_go 64 = .ok (.aload_n 0, 1) := dk_42 (dk_at dksX8_go_2 18 rfl rfl)
theorem dX8_go_65 : decode cX8_go 65 = .ok (.aload_n 0, 1) := dk_42 (dk_at dksX8_go_2 19 rfl rfl)
theorem dX8_go_66 : decode cX8_go 66 = .ok (.getfield 38, 3) := dk_180 0 38 (dk_at dksX8_go_2 20 rfl rfl)
theorem dX8_go_69 : decode cX8_go 69 = .ok (.invokevirtual 47, 3) := dk_182 0 47 (dk_at dksX8_go_3 0 rfl rfl)
theorem dX8_go_72 : decode cX8_go 72 = .ok (.ifCond .eq 93, 3) := dk_153 0 93 (dk_at dksX8_go_3 3 rfl rfl)
theorem dX8_go_75 : decode cX8_go 75 = .ok (.aload_n 0, 1) := dk_42 (dk_at dksX8_go_3 6 rfl rfl)
theorem dX8_go_76 : decode cX8_go 76 = .ok (.lconst 0, 1) := dk_9 (dk_at dksX8_go_3 7 rfl rfl)
theorem dX8_go_77 : decode cX8_go 77 = .ok (.putfield 51, 3) := dk_181 0 51 (dk_at dksX8_go_3 8 rfl rfl)
theorem dX8_go_80 : decode cX8_go 80 = .ok (.aload_n 0, 1) := dk_42 (dk_at dksX8_go_3 11 rfl rfl)
theorem dX8_go_81 : decode cX8_go 81 = .ok (.aload_n 0, 1) := dk_42 (dk_at dksX8_go_3 12 rfl rfl)
theorem dX8_go_82 : decode cX8_go 82 = .ok (.getfield 38, 3) := dk_180 0 38 (dk_at dksX8_go_3 13 rfl rfl)
theorem dX8_go_85 : decode cX8_go 85 = .ok (.invokevirtual 47, 3) := dk_182 0 47 (dk_at dksX8_go_3 16 rfl rfl)
theorem dX8_go_88 : decode cX8_go 88 = .ok (.ifCond .eq 51, 3) := dk_153 0 51 (dk_at dksX8_go_3 19 rfl rfl)
theorem dX8_go_91 : decode cX8_go 91 = .ok (.aload_n 0, 1) := dk_42 (dk_at dksX8_go_3 22 rfl rfl)
theorem dX8_go_92 : decode cX8_go 92 = .ok (.getfield 38, 3) := dk_180 0 38 (dk_at dksX8_go_4 0 rfl rfl)
theorem dX8_go_95 : decode cX8_go 95 = .ok (.aload_n 0, 1) := dk_42 (dk_at dksX8_go_4 3 rfl rfl)
theorem dX8_go_96 : decode cX8_go 96 = .ok (.getfield 41, 3) := dk_180 0 41 (dk_at dksX8_go_4 4 rfl rfl)
theorem dX8_go_99 : decode cX8_go 99 = .ok (.isub, 1) := dk_100 (dk_at dksX8_go_4 7 rfl rfl)
theorem dX8_go_100 : decode cX8_go 100 = .ok (.bipush 6, 2) := dk_16 6 (dk_at dksX8_go_4 8 rfl rfl)
theorem dX8_go_102 : decode cX8_go 102 = .ok (.if_icmp .ge 24, 3) := dk_162 0 24 (dk_at dksX8_go_4 10 rfl rfl)
theorem dX8_go_105 : decode cX8_go 105 = .ok (.aload_n 0, 1) := dk_42 (dk_at dksX8_go_4 13 rfl rfl)
theorem dX8_go_106 : decode cX8_go 106 = .ok (.aload_n 0, 1) := dk_42 (dk_at dksX8_go_4 14 rfl rfl)
theorem dX8_go_107 : decode cX8_go 107 = .ok (.getfield 51, 3) := dk_180 0 51 (dk_at dksX8_go_4 15 rfl rfl)
theorem dX8_go_110 : decode cX8_go 110 = .ok (.bipush 8, 2) := dk_16 8 (dk_at dksX8_go_4 18 rfl rfl)
theorem dX8_go_112 : decode cX8_go 112 = .ok (.lshl, 1) := dk_121 (dk_at dksX8_go_4 20 rfl rfl)
theorem dX8_go_113 : decode cX8_go 113 = .ok (.aload_n 0, 1) := dk_42 (dk_at dksX8_go_4 21 rfl rfl)
theorem dX8_go_114 : decode cX8_go 114 = .ok (.aload_n 0, 1) := dk_42 (dk_at dksX8_go_4 22 rfl rfl)
theorem dX8_go_115 : decode cX8_go 115 = .ok (.getfield 38, 3) := dk_180 0 38 (dk_at dksX8_go_5 0 rfl rfl)
theorem dX8_go_118 : decode cX8_go 118 = .ok (.invokevirtual 30, 3) := dk_182 0 30 (dk_at dksX8_go_5 3 rfl rfl)
theorem dX8_go_121 : decode cX8_go 121 = .ok (.i2l, 1) := dk_133 (dk_at dksX8_go_5 6 rfl rfl)
theorem dX8_go_122 : decode cX8_go 122 = .ok (.lor, 1) := dk_129 (dk_at dksX8_go_5 7 rfl rfl)
theorem dX8_go_123 : decode cX8_go 123 = .ok (.putfield 51, 3) := dk_181 0 51 (dk_at dksX8_go_5 8 rfl rfl)
theorem dX8_go_126 : decode cX8_go 126 = .ok (.aload_n 0, 1) := dk_42 (dk_at dksX8_go_5 11 rfl rfl)
theorem dX8_go_127 : decode cX8_go 127 = .ok (.dup, 1) := dk_89 (dk_at dksX8_go_5 12 rfl rfl)
theorem dX8_go_128 : decode cX8_go 128 = .ok (.getfield 38, 3) := dk_180 0 38 (dk_at dksX8_go_5 13 rfl rfl)
theorem dX8_go_131 : decode cX8_go 131 = .ok (.iconst 1, 1) := dk_4 (dk_at dksX8_go_5 16 rfl rfl)
theorem dX8_go_132 : decode cX8_go 132 = .ok (.iadd, 1) := dk_96 (dk_at dksX8_go_5 17 rfl rfl)
theorem dX8_go_133 : decode cX8_go 133 = .ok (.putfield 38, 3) := dk_181 0 38 (dk_at dksX8_go_5 18 rfl rfl)
theorem dX8_go_136 : decode cX8_go 136 = .ok (.goto (-56), 3) := dk_167 255 200 (dk_at dksX8_go_5 21 rfl rfl)
theorem dX8_go_139 : decode cX8_go 139 = .ok (.aload_n 0, 1) := dk_42 (dk_at dksX8_go_6 0 rfl rfl)
theorem dX8_go_140 : decode cX8_go 140 = .ok (.aload_n 0, 1) := dk_42 (dk_at dksX8_go_6 1 rfl rfl)
theorem dX8_go_141 : decode cX8_go 141 = .ok (.getfield 38, 3) := dk_180 0 38 (dk_at dksX8_go_6 2 rfl rfl)
theorem dX8_go_144 : decode cX8_go 144 = .ok (.aload_n 0, 1) := dk_42 (dk_at dksX8_go_6 5 rfl rfl)
theorem dX8_go_145 : decode cX8_go 145 = .ok (.getfield 41, 3) := dk_180 0 41 (dk_at dksX8_go_6 6 rfl rfl)
theorem dX8_go_148 : decode cX8_go 148 = .ok (.isub, 1) := dk_100 (dk_at dksX8_go_6 9 rfl rfl)
theorem dX8_go_149 : decode cX8_go 149 = .ok (.bipush 6, 2) := dk_16 6 (dk_at dksX8_go_6 10 rfl rfl)
theorem dX8_go_151 : decode cX8_go 151 = .ok (.if_icmp .le 7, 3) := dk_164 0 7 (dk_at dksX8_go_6 12 rfl rfl)
theorem dX8_go_154 : decode cX8_go 154 = .ok (.iconst 0, 1) := dk_3 (dk_at dksX8_go_6 15 rfl rfl)
theorem dX8_go_155 : decode cX8_go 155 = .ok (.goto 4, 3) := dk_167 0 4 (dk_at dksX8_go_6 16 rfl rfl)
theorem dX8_go_158 : decode cX8_go 158 = .ok (.iconst 2, 1) := dk_5 (dk_at dksX8_go_6 19 rfl rfl)
theorem dX8_go_159 : decode cX8_go 159 = .ok (.putfield 44, 3) := dk_181 0 44 (dk_at dksX8_go_6 20 rfl rfl)
theorem dX8_go_162 : decode cX8_go 162 = .ok (.goto 113, 3) := dk_167 0 113 (dk_at dksX8_go_7 0 rfl rfl)
theorem dX8_go_165 : decode cX8_go 165 = .ok (.aload_n 0, 1) := dk_42 (dk_at dksX8_go_7 3 rfl rfl)
theorem dX8_go_166 : decode cX8_go 166 = .ok (.aload_n 0, 1) := dk_42 (dk_at dksX8_go_7 4 rfl rfl)
theorem dX8_go_167 : decode cX8_go 167 = .ok (.getfield 38, 3) := dk_180 0 38 (dk_at dksX8_go_7 5 rfl rfl)
theorem dX8_go_170 : decode cX8_go 170 = .ok (.invokevirtual 55, 3) := dk_182 0 55 (dk_at dksX8_go_7 8 rfl rfl)
theorem dX8_go_173 : decode cX8_go 173 = .ok (.ifCond .eq 67, 3) := dk_153 0 67 (dk_at dksX8_go_7 11 rfl rfl)
theorem dX8_go_176 : decode cX8_go 176 = .ok (.aload_n 0, 1) := dk_42 (dk_at dksX8_go_7 14 rfl rfl)
theorem dX8_go_177 : decode cX8_go 177 = .ok (.aload_n 0, 1) := dk_42 (dk_at dksX8_go_7 15 rfl rfl)
theorem dX8_go_178 : decode cX8_go 178 = .ok (.aload_n 0, 1) := dk_42 (dk_at dksX8_go_7 16 rfl rfl)
theorem dX8_go_179 : decode cX8_go 179 = .ok (.getfield 38, 3) := dk_180 0 38 (dk_at dksX8_go_7 17 rfl rfl)
theorem dX8_go_182 : decode cX8_go 182 = .ok (.invokevirtual 30, 3) := dk_182 0 30 (dk_at dksX8_go_7 20 rfl rfl)
theorem dX8_go_185 : decode cX8_go 185 = .ok (.bipush 48, 2) := dk_16 48 (dk_at dksX8_go_8 0 rfl rfl)
theorem dX8_go_187 : decode cX8_go 187 = .ok (.isub, 1) := dk_100 (dk_at dksX8_go_8 2 rfl rfl)
theorem dX8_go_188 : decode cX8_go 188 = .ok (.putfield 58, 3) := dk_181 0 58 (dk_at dksX8_go_8 3 rfl rfl)
theorem dX8_go_191 : decode cX8_go 191 = .ok (.aload_n 0, 1) := dk_42 (dk_at dksX8_go_8 6 rfl rfl)
theorem dX8_go_192 : decode cX8_go 192 = .ok (.aload_n 0, 1) := dk_42 (dk_at dksX8_go_8 7 rfl rfl)
theorem dX8_go_193 : decode cX8_go 193 = .ok (.getfield 38, 3) := dk_180 0 38 (dk_at dksX8_go_8 8 rfl rfl)
theorem dX8_go_196 : decode cX8_go 196 = .ok (.invokevirtual 55, 3) := dk_182 0 55 (dk_at dksX8_go_8 11 rfl rfl)
theorem dX8_go_199 : decode cX8_go 199 = .ok (.ifCond .eq 16, 3) := dk_153 0 16 (dk_at dksX8_go_8 14 rfl rfl)
theorem dX8_go_202 : decode cX8_go 202 = .ok (.aload_n 0, 1) := dk_42 (dk_at dksX8_go_8 17 rfl rfl)
theorem dX8_go_203 : decode cX8_go 203 = .ok (.dup, 1) := dk_89 (dk_at dksX8_go_8 18 rfl rfl)
theorem dX8_go_204 : decode cX8_go 204 = .ok (.getfield 38, 3) := dk_180 0 38 (dk_at dksX8_go_8 19 rfl rfl)
theorem dX8_go_207 : decode cX8_go 207 = .ok (.iconst 1, 1) := dk_4 (dk_at dksX8_go_8 22 rfl rfl)
theorem dX8_go_208 : decode cX8_go 208 = .ok (.iadd, 1) := dk_96 (dk_at dksX8_go_8 23 rfl rfl)
theorem dX8_go_209 : decode cX8_go 209 = .ok (.putfield 38, 3) := dk_181 0 38 (dk_at dksX8_go_9 0 rfl rfl)
theorem dX8_go_212 : decode cX8_go 212 = .ok (.goto (-21), 3) := dk_167 255 235 (dk_at dksX8_go_9 3 rfl rfl)
theorem dX8_go_215 : decode cX8_go 215 = .ok (.aload_n 0, 1) := dk_42 (dk_at dksX8_go_9 6 rfl rfl)
theorem dX8_go_216 : decode cX8_go 216 = .ok (.aload_n 0, 1) := dk_42 (dk_at dksX8_go_9 7 rfl rfl)
theorem dX8_go_217 : decode cX8_go 217 = .ok (.getfield 38, 3) := dk_180 0 38 (dk_at dksX8_go_9 8 rfl rfl)
theorem dX8_go_220 : decode cX8_go 220 = .ok (.aload_n 0, 1) := dk_42 (dk_at dksX8_go_9 11 rfl rfl)
theorem dX8_go_221 : decode cX8_go 221 = .ok (.getfield 41, 3) := dk_180 0 41 (dk_at dksX8_go_9 12 rfl rfl)
theorem dX8_go_224 : decode cX8_go 224 = .ok (.isub, 1) := dk_100 (dk_at dksX8_go_9 15 rfl rfl)
theorem dX8_go_225 : decode cX8_go 225 = .ok (.iconst 1, 1) := dk_4 (dk_at dksX8_go_9 16 rfl rfl)
theorem dX8_go_226 : decode cX8_go 226 = .ok (.if_icmp .le 7, 3) := dk_164 0 7 (dk_at dksX8_go_9 17 rfl rfl)
theorem dX8_go_229 : decode cX8_go 229 = .ok (.iconst 0, 1) := dk_3 (dk_at dksX8_go_9 20 rfl rfl)
theorem dX8_go_230 : decode cX8_go 230 = .ok (.goto 4, 3) := dk_167 0 4 (dk_at dksX8_go_9 21 rfl rfl)
theorem dX8_go_233 : decode cX8_go 233 = .ok (.iconst 3, 1) := dk_6 (dk_at dksX8_go_10 0 rfl rfl)
theorem dX8_go_234 : decode cX8_go 234 = .ok (.putfield 44, 3) := dk_181 0 44 (dk_at dksX8_go_10 1 rfl rfl)
theorem dX8_go_237 : decode cX8_go 237 = .ok (.goto 38, 3) := dk_167 0 38 (dk_at dksX8_go_10 4 rfl rfl)
theorem dX8_go_240 : decode cX8_go 240 = .ok (.aload_n 0, 1) := dk_42 (dk_at dksX8_go_10 7 rfl rfl)
theorem dX8_go_241 : decode cX8_go 241 = .ok (.ldc 61, 2) := dk_18 61 (dk_at dksX8_go_10 8 rfl rfl)
theorem dX8_go_243 : decode cX8_go 243 = .ok (.aload_n 0, 1) := dk_42 (dk_at dksX8_go_10 10 rfl rfl)
theorem dX8_go_244 : decode cX8_go 244 = .ok (.aload_n 0, 1) := dk_42 (dk_at dksX8_go_10 11 rfl rfl)
theorem dX8_go_245 : decode cX8_go 245 = .ok (.getfield 38, 3) := dk_180 0 38 (dk_at dksX8_go_10 12 rfl rfl)
theorem dX8_go_248 : decode cX8_go 248 = .ok (.invokevirtual 30, 3) := dk_182 0 30 (dk_at dksX8_go_10 15 rfl rfl)
theorem dX8_go_251 : decode cX8_go 251 = .ok (.invokevirtual 63, 3) := dk_182 0 63 (dk_at dksX8_go_10 18 rfl rfl)
theorem dX8_go_254 : decode cX8_go 254 = .ok (.ifCond .ge 7, 3) := dk_156 0 7 (dk_at dksX8_go_10 21 rfl rfl)
theorem dX8_go_257 : decode cX8_go 257 = .ok (.iconst 0, 1) := dk_3 (dk_at dksX8_go_11 0 rfl rfl)
theorem dX8_go_258 : decode cX8_go 258 = .ok (.goto 4, 3) := dk_167 0 4 (dk_at dksX8_go_11 1 rfl rfl)
theorem dX8_go_261 : decode cX8_go 261 = .ok (.iconst 4, 1) := dk_7 (dk_at dksX8_go_11 4 rfl rfl)
theorem dX8_go_262 : decode cX8_go 262 = .ok (.putfield 44, 3) := dk_181 0 44 (dk_at dksX8_go_11 5 rfl rfl)
theorem dX8_go_265 : decode cX8_go 265 = .ok (.aload_n 0, 1) := dk_42 (dk_at dksX8_go_11 8 rfl rfl)
theorem dX8_go_266 : decode cX8_go 266 = .ok (.dup, 1) := dk_89 (dk_at dksX8_go_11 9 rfl rfl)
theorem dX8_go_267 : decode cX8_go 267 = .ok (.getfield 38, 3) := dk_180 0 38 (dk_at dksX8_go_11 10 rfl rfl)
theorem dX8_go_270 : decode cX8_go 270 = .ok (.iconst 1, 1) := dk_4 (dk_at dksX8_go_11 13 rfl rfl)
theorem dX8_go_271 : decode cX8_go 271 = .ok (.iadd, 1) := dk_96 (dk_at dksX8_go_11 14 rfl rfl)
theorem dX8_go_272 : decode cX8_go 272 = .ok (.putfield 38, 3) := dk_181 0 38 (dk_at dksX8_go_11 15 rfl rfl)
theorem dX8_go_275 : decode cX8_go 275 = .ok (.return_, 1) := dk_177 (dk_at dksX8_go_11 18 rfl rfl)
abbrev cX8_byteAt : ByteArray := prog_10_method_2_code
def yX8_byteAt : MethodName := ⟨RX8, "byteAt", "(I)I"⟩
def dkwX8_byteAt_1 : List UInt8 := [3, 172]
abbrev dktX8_byteAt_1 : List UInt8 := dkwX8_byteAt_1 ++ []
def dkwX8_byteAt_0 : List UInt8 := [27, 42, 180, 0, 22, 162, 0, 19, 42, 180, 0, 3, 180, 0, 26, 27, 51, 17, 0, 255, 126, 167, 0, 4]
abbrev dktX8_byteAt_0 : List UInt8 := dkwX8_byteAt_0 ++ dktX8_byteAt_1
theorem dksX8_byteAt_0 : cX8_byteAt.data.toList.drop 0 = dktX8_byteAt_0 := by decide +kernel
theorem dksX8_byteAt_1 : cX8_byteAt.data.toList.drop 24 = dktX8_byteAt_1 := dk_seg dksX8_byteAt_0 24 rfl rfl
theorem dX8_byteAt_0 : decode cX8_byteAt 0 = .ok (.iload_n 1, 1) := dk_27 (dk_at dksX8_byteAt_0 0 rfl rfl)
theorem dX8_byteAt_1 : decode cX8_byteAt 1 = .ok (.aload_n 0, 1) := dk_42 (dk_at dksX8_byteAt_0 1 rfl rfl)
theorem dX8_byteAt_2 : decode cX8_byteAt 2 = .ok (.getfield 22, 3) := dk_180 0 22 (dk_at dksX8_byteAt_0 2 rfl rfl)
theorem dX8_byteAt_5 : decode cX8_byteAt 5 = .ok (.if_icmp .ge 19, 3) := dk_162 0 19 (dk_at dksX8_byteAt_0 5 rfl rfl)
theorem dX8_byteAt_8 : decode cX8_byteAt 8 = .ok (.aload_n 0, 1) := dk_42 (dk_at dksX8_byteAt_0 8 rfl rfl)
theorem dX8_byteAt_9 : decode cX8_byteAt 9 = .ok (.getfield 3, 3) := dk_180 0 3 (dk_at dksX8_byteAt_0 9 rfl rfl)
theorem dX8_byteAt_12 : decode cX8_byteAt 12 = .ok (.getfield 26, 3) := dk_180 0 26 (dk_at dksX8_byteAt_0 12 rfl rfl)
theorem dX8_byteAt_15 : decode cX8_byteAt 15 = .ok (.iload_n 1, 1) := dk_27 (dk_at dksX8_byteAt_0 15 rfl rfl)
theorem dX8_byteAt_16 : decode cX8_byteAt 16 = .ok (.baload, 1) := dk_51 (dk_at dksX8_byteAt_0 16 rfl rfl)
theorem dX8_byteAt_17 : decode cX8_byteAt 17 = .ok (.sipush 255, 3) := dk_17 0 255 (dk_at dksX8_byteAt_0 17 rfl rfl)
theorem dX8_byteAt_20 : decode cX8_byteAt 20 = .ok (.iand, 1) := dk_126 (dk_at dksX8_byteAt_0 20 rfl rfl)
theorem dX8_byteAt_21 : decode cX8_byteAt 21 = .ok (.goto 4, 3) := dk_167 0 4 (dk_at dksX8_byteAt_0 21 rfl rfl)
theorem dX8_byteAt_24 : decode cX8_byteAt 24 = .ok (.iconst 0, 1) := dk_3 (dk_at dksX8_byteAt_1 0 rfl rfl)
theorem dX8_byteAt_25 : decode cX8_byteAt 25 = .ok (.ireturn, 1) := dk_172 (dk_at dksX8_byteAt_1 1 rfl rfl)
abbrev cX8_isLetter : ByteArray := prog_10_method_3_code
def yX8_isLetter : MethodName := ⟨RX8, "isLetter", "(I)Z"⟩
def dkwX8_isLetter_0 : List UInt8 := [42, 27, 182, 0, 30, 16, 97, 16, 122, 184, 0, 34, 172]
abbrev dktX8_isLetter_0 : List UInt8 := dkwX8_isLetter_0 ++ []
theorem dksX8_isLetter_0 : cX8_isLetter.data.toList.drop 0 = dktX8_isLetter_0 := by decide +kernel
theorem dX8_isLetter_0 : decode cX8_isLetter 0 = .ok (.aload_n 0, 1) := dk_42 (dk_at dksX8_isLetter_0 0 rfl rfl)
theorem dX8_isLetter_1 : decode cX8_isLetter 1 = .ok (.iload_n 1, 1) := dk_27 (dk_at dksX8_isLetter_0 1 rfl rfl)
theorem dX8_isLetter_2 : decode cX8_isLetter 2 = .ok (.invokevirtual 30, 3) := dk_182 0 30 (dk_at dksX8_isLetter_0 2 rfl rfl)
theorem dX8_isLetter_5 : decode cX8_isLetter 5 = .ok (.bipush 97, 2) := dk_16 97 (dk_at dksX8_isLetter_0 5 rfl rfl)
theorem dX8_isLetter_7 : decode cX8_isLetter 7 = .ok (.bipush 122, 2) := dk_16 122 (dk_at dksX8_isLetter_0 7 rfl rfl)
theorem dX8_isLetter_9 : decode cX8_isLetter 9 = .ok (.invokestatic 34, 3) := dk_184 0 34 (dk_at dksX8_isLetter_0 9 rfl rfl)
theorem dX8_isLetter_12 : decode cX8_isLetter 12 = .ok (.ireturn, 1) := dk_172 (dk_at dksX8_isLetter_0 12 rfl rfl)
abbrev cX8_isDigit : ByteArray := prog_10_method_4_code
def yX8_isDigit : MethodName := ⟨RX8, "isDigit", "(I)Z"⟩
def dkwX8_isDigit_0 : List UInt8 := [42, 27, 182, 0, 30, 16, 48, 16, 57, 184, 0, 34, 172]
abbrev dktX8_isDigit_0 : List UInt8 := dkwX8_isDigit_0 ++ []
theorem dksX8_isDigit_0 : cX8_isDigit.data.toList.drop 0 = dktX8_isDigit_0 := by decide +kernel
theorem dX8_isDigit_0 : decode cX8_isDigit 0 = .ok (.aload_n 0, 1) := dk_42 (dk_at dksX8_isDigit_0 0 rfl rfl)
theorem dX8_isDigit_1 : decode cX8_isDigit 1 = .ok (.iload_n 1, 1) := dk_27 (dk_at dksX8_isDigit_0 1 rfl rfl)
theorem dX8_isDigit_2 : decode cX8_isDigit 2 = .ok (.invokevirtual 30, 3) := dk_182 0 30 (dk_at dksX8_isDigit_0 2 rfl rfl)
theorem dX8_isDigit_5 : decode cX8_isDigit 5 = .ok (.bipush 48, 2) := dk_16 48 (dk_at dksX8_isDigit_0 5 rfl rfl)
theorem dX8_isDigit_7 : decode cX8_isDigit 7 = .ok (.bipush 57, 2) := dk_16 57 (dk_at dksX8_isDigit_0 7 rfl rfl)
theorem dX8_isDigit_9 : decode cX8_isDigit 9 = .ok (.invokestatic 34, 3) := dk_184 0 34 (dk_at dksX8_isDigit_0 9 rfl rfl)
theorem dX8_isDigit_12 : decode cX8_isDigit 12 = .ok (.ireturn, 1) := dk_172 (dk_at dksX8_isDigit_0 12 rfl rfl)
abbrev cX8_line : ByteArray := prog_10_method_16_code
def yX8_line : MethodName := ⟨RX8, "line", "()V"⟩
def dkwX8_line_14 : List UInt8 := [177]
abbrev dktX8_line_14 : List UInt8 := dkwX8_line_14 ++ []
def dkwX8_line_13 : List UInt8 := [42, 180, 0, 18, 180, 0, 167, 44, 185, 0, 189, 1, 0, 4, 100, 184, 0, 170, 185, 0, 135, 2, 0, 87]
abbrev dktX8_line_13 : List UInt8 := dkwX8_line_13 ++ dktX8_line_14
def dkwX8_line_12 : List UInt8 := [62, 44, 187, 0, 186, 89, 29, 42, 182, 0, 184, 183, 0, 188, 185, 0, 135, 2, 0, 87, 27, 153, 0, 27]
abbrev dktX8_line_12 : List UInt8 := dkwX8_line_12 ++ dktX8_line_13
def dkwX8_line_11 : List UInt8 := [180, 0, 181, 77, 42, 44, 27, 153, 0, 8, 16, 12, 167, 0, 5, 16, 8, 182, 0, 122, 42, 182, 0, 184]
abbrev dktX8_line_11 : List UInt8 := dkwX8_line_11 ++ dktX8_line_12
def dkwX8_line_10 : List UInt8 := [182, 0, 81, 60, 27, 153, 0, 13, 42, 180, 0, 18, 180, 0, 178, 167, 0, 10, 42, 180, 0, 18]
abbrev dktX8_line_10 : List UInt8 := dkwX8_line_10 ++ dktX8_line_11
def dkwX8_line_9 : List UInt8 := [180, 0, 18, 180, 0, 167, 2, 184, 0, 170, 185, 0, 135, 2, 0, 87, 167, 0, 100, 42, 18, 176]
abbrev dktX8_line_9 : List UInt8 := dkwX8_line_9 ++ dktX8_line_10
def dkwX8_line_8 : List UInt8 := [185, 0, 153, 2, 0, 192, 0, 130, 180, 0, 157, 182, 0, 160, 183, 0, 164, 185, 0, 135, 2, 0, 87, 42]
abbrev dktX8_line_8 : List UInt8 := dkwX8_line_8 ++ dktX8_line_9
def dkwX8_line_7 : List UInt8 := [180, 0, 118, 29, 185, 0, 153, 2, 0, 192, 0, 130, 29, 42, 42, 180, 0, 18, 180, 0, 118, 29]
abbrev dktX8_line_7 : List UInt8 := dkwX8_line_7 ++ dktX8_line_8
def dkwX8_line_6 : List UInt8 := [182, 0, 145, 42, 182, 0, 149, 62, 42, 180, 0, 18, 180, 0, 142, 187, 0, 151, 89, 31, 42, 180, 0, 18]
abbrev dktX8_line_6 : List UInt8 := dkwX8_line_6 ++ dktX8_line_7
def dkwX8_line_5 : List UInt8 := [153, 0, 113, 42, 42, 180, 0, 18, 180, 0, 142, 16, 24, 182, 0, 122, 42, 182, 0, 126, 64, 42, 16, 61]
abbrev dktX8_line_5 : List UInt8 := dkwX8_line_5 ++ dktX8_line_6
def dkwX8_line_4 : List UInt8 := [183, 0, 132, 185, 0, 135, 2, 0, 87, 42, 182, 0, 92, 167, 0, 219, 42, 18, 141, 182, 0, 81]
abbrev dktX8_line_4 : List UInt8 := dkwX8_line_4 ++ dktX8_line_5
def dkwX8_line_3 : List UInt8 := [167, 0, 4, 3, 5, 182, 0, 88, 42, 180, 0, 18, 180, 0, 118, 187, 0, 130, 89, 31, 42, 180, 0, 58]
abbrev dktX8_line_3 : List UInt8 := dkwX8_line_3 ++ dktX8_line_4
def dkwX8_line_2 : List UInt8 := [160, 0, 7, 4, 167, 0, 4, 3, 4, 182, 0, 88, 42, 42, 180, 0, 58, 6, 163, 0, 7, 4]
abbrev dktX8_line_2 : List UInt8 := dkwX8_line_2 ++ dktX8_line_3
def dkwX8_line_1 : List UInt8 := [180, 0, 18, 180, 0, 118, 16, 8, 182, 0, 122, 42, 182, 0, 126, 64, 42, 42, 180, 0, 44, 6]
abbrev dktX8_line_1 : List UInt8 := dkwX8_line_1 ++ dktX8_line_2
def dkwX8_line_0 : List UInt8 := [42, 42, 178, 0, 95, 182, 0, 99, 4, 182, 0, 88, 42, 18, 116, 182, 0, 81, 153, 0, 89, 42, 42]
abbrev dktX8_line_0 : List UInt8 := dkwX8_line_0 ++ dktX8_line_1
theorem dksX8_line_0 : cX8_line.data.toList.drop 0 = dktX8_line_0 := by decide +kernel
theorem dksX8_line_1 : cX8_line.data.toList.drop 23 = dktX8_line_1 := dk_seg dksX8_line_0 23 rfl rfl
theorem dksX8_line_2 : cX8_line.data.toList.drop 45 = dktX8_line_2 := dk_seg dksX8_line_1 22 rfl rfl
theorem dksX8_line_3 : cX8_line.data.toList.drop 67 = dktX8_line_3 := dk_seg dksX8_line_2 22 rfl rfl
theorem dksX8_line_4 : cX8_line.data.toList.drop 91 = dktX8_line_4 := dk_seg dksX8_line_3 24 rfl rfl
theorem dksX8_line_5 : cX8_line.data.toList.drop 113 = dktX8_line_5 := dk_seg dksX8_line_4 22 rfl rfl
theorem dksX8_line_6 : cX8_line.data.toList.drop 137 = dktX8_line_6 := dk_seg dksX8_line_5 24 rfl rfl
theorem dksX8_line_7 : cX8_line.data.toList.drop 161 = dktX8_line_7 := dk_seg dksX8_line_6 24 rfl rfl
theorem dksX8_line_8 : cX8_line.data.toList.drop 183 = dktX8_line_8 := dk_seg dksX8_line_7 22 rfl rfl
theorem dksX8_line_9 : cX8_line.data.toList.drop 207 = dktX8_line_9 := dk_seg dksX8_line_8 24 rfl rfl
theorem dksX8_line_10 : cX8_line.data.toList.drop 229 = dktX8_line_10 := dk_seg dksX8_line_9 22 rfl rfl
theorem dksX8_line_11 : cX8_line.data.toList.drop 251 = dktX8_line_11 := dk_seg dksX8_line_10 22 rfl rfl
theorem dksX8_line_12 : cX8_line.data.toList.drop 275 = dktX8_line_12 := dk_seg dksX8_line_11 24 rfl rfl
theorem dksX8_line_13 : cX8_line.data.toList.drop 299 = dktX8_line_13 := dk_seg dksX8_line_12 24 rfl rfl
theorem dksX8_line_14 : cX8_line.data.toList.drop 323 = dktX8_line_14 := dk_seg dksX8_line_13 24 rfl rfl
theorem dX8_line_0 : decode cX8_line 0 = .ok (.aload_n 0, 1) := dk_42 (dk_at dksX8_line_0 0 rfl rfl)
theorem dX8_line_1 : decode cX8_line 1 = .ok (.aload_n 0, 1) := dk_42 (dk_at dksX8_line_0 1 rfl rfl)
theorem dX8_line_2 : decode cX8_line 2 = .ok (.getstatic 95, 3) := dk_178 0 95 (dk_at dksX8_line_0 2 rfl rfl)
theorem dX8_line_5 : decode cX8_line 5 = .ok (.invokevirtual 99, 3) := dk_182 0 99 (dk_at dksX8_line_0 5 rfl rfl)
theorem dX8_line_8 : decode cX8_line 8 = .ok (.iconst 1, 1) := dk_4 (dk_at dksX8_line_0 8 rfl rfl)
theorem dX8_line_9 : decode cX8_line 9 = .ok (.invokevirtual 88, 3) := dk_182 0 88 (dk_at dksX8_line_0 9 rfl rfl)
theorem dX8_line_12 : decode cX8_line 12 = .ok (.aload_n 0, 1) := dk_42 (dk_at dksX8_line_0 12 rfl rfl)
theorem dX8_line_13 : decode cX8_line 13 = .ok (.ldc 116, 2) := dk_18 116 (dk_at dksX8_line_0 13 rfl rfl)
theorem dX8_line_15 : decode cX8_line 15 = .ok (.invokevirtual 81, 3) := dk_182 0 81 (dk_at dksX8_line_0 15 rfl rfl)
theorem dX8_line_18 : decode cX8_line 18 = .ok (.ifCond .eq 89, 3) := dk_153 0 89 (dk_at dksX8_line_0 18 rfl rfl)
theorem dX8_line_21 : decode cX8_line 21 = .ok (.aload_n 0, 1) := dk_42 (dk_at dksX8_line_0 21 rfl rfl)
theorem dX8_line_22 : decode cX8_line 22 = .ok (.aload_n 0, 1) := dk_42 (dk_at dksX8_line_0 22 rfl rfl)
theorem dX8_line_23 : decode cX8_line 23 = .ok (.getfield 18, 3) := dk_180 0 18 (dk_at dksX8_line_1 0 rfl rfl)
theorem dX8_line_26 : decode cX8_line 26 = .ok (.getfield 118, 3) := dk_180 0 118 (dk_at dksX8_line_1 3 rfl rfl)
theorem dX8_line_29 : decode cX8_line 29 = .ok (.bipush 8, 2) := dk_16 8 (dk_at dksX8_line_1 6 rfl rfl)
theorem dX8_line_31 : decode cX8_line 31 = .ok (.invokevirtual 122, 3) := dk_182 0 122 (dk_at dksX8_line_1 8 rfl rfl)
theorem dX8_line_34 : decode cX8_line 34 = .ok (.aload_n 0, 1) := dk_42 (dk_at dksX8_line_1 11 rfl rfl)
theorem dX8_line_35 : decode cX8_line 35 = .ok (.invokevirtual 126, 3) := dk_182 0 126 (dk_at dksX8_line_1 12 rfl rfl)
theorem dX8_line_38 : decode cX8_line 38 = .ok (.lstore_n 1, 1) := dk_64 (dk_at dksX8_line_1 15 rfl rfl)
theorem dX8_line_39 : decode cX8_line 39 = .ok (.aload_n 0, 1) := dk_42 (dk_at dksX8_line_1 16 rfl rfl)
theorem dX8_line_40 : decode cX8_line 40 = .ok (.aload_n 0, 1) := dk_42 (dk_at dksX8_line_1 17 rfl rfl)
theorem dX8_line_41 : decode cX8_line 41 = .ok (.getfield 44, 3) := dk_180 0 44 (dk_at dksX8_line_1 18 rfl rfl)
theorem dX8_line_44 : decode cX8_line 44 = .ok (.iconst 3, 1) := dk_6 (dk_at dksX8_line_1 21 rfl rfl)
theorem dX8_line_45 : decode cX8_line 45 = .ok (.if_icmp .ne 7, 3) := dk_160 0 7 (dk_at dksX8_line_2 0 rfl rfl)
theorem dX8_line_48 : decode cX8_line 48 = .ok (.iconst 1, 1) := dk_4 (dk_at dksX8_line_2 3 rfl rfl)
theorem dX8_line_49 : decode cX8_line 49 = .ok (.goto 4, 3) := dk_167 0 4 (dk_at dksX8_line_2 4 rfl rfl)
theorem dX8_line_52 : decode cX8_line 52 = .ok (.iconst 0, 1) := dk_3 (dk_at dksX8_line_2 7 rfl rfl)
theorem dX8_line_53 : decode cX8_line 53 = .ok (.iconst 1, 1) := dk_4 (dk_at dksX8_line_2 8 rfl rfl)
theorem dX8_line_54 : decode cX8_line 54 = .ok (.invokevirtual 88, 3) := dk_182 0 88 (dk_at dksX8_line_2 9 rfl rfl)
theorem dX8_line_57 : decode cX8_line 57 = .ok (.aload_n 0, 1) := dk_42 (dk_at dksX8_line_2 12 rfl rfl)
theorem dX8_line_58 : decode cX8_line 58 = .ok (.aload_n 0, 1) := dk_42 (dk_at dksX8_line_2 13 rfl rfl)
theorem dX8_line_59 : decode cX8_line 59 = .ok (.getfield 58, 3) := dk_180 0 58 (dk_at dksX8_line_2 14 rfl rfl)
theorem dX8_line_62 : decode cX8_line 62 = .ok (.iconst 3, 1) := dk_6 (dk_at dksX8_line_2 17 rfl rfl)
theorem dX8_line_63 : decode cX8_line 63 = .ok (.if_icmp .gt 7, 3) := dk_163 0 7 (dk_at dksX8_line_2 18 rfl rfl)
theorem dX8_line_66 : decode cX8_line 66 = .ok (.iconst 1, 1) := dk_4 (dk_at dksX8_line_2 21 rfl rfl)
theorem dX8_line_67 : decode cX8_line 67 = .ok (.goto 4, 3) := dk_167 0 4 (dk_at dksX8_line_3 0 rfl rfl)
theorem dX8_line_70 : decode cX8_line 70 = .ok (.iconst 0, 1) := dk_3 (dk_at dksX8_line_3 3 rfl rfl)
theorem dX8_line_71 : decode cX8_line 71 = .ok (.iconst 2, 1) := dk_5 (dk_at dksX8_line_3 4 rfl rfl)
theorem dX8_line_72 : decode cX8_line 72 = .ok (.invokevirtual 88, 3) := dk_182 0 88 (dk_at dksX8_line_3 5 rfl rfl)
theorem dX8_line_75 : decode cX8_line 75 = .ok (.aload_n 0, 1) := dk_42 (dk_at dksX8_line_3 8 rfl rfl)
theorem dX8_line_76 : decode cX8_line 76 = .ok (.getfield 18, 3) := dk_180 0 18 (dk_at dksX8_line_3 9 rfl rfl)
theorem dX8_line_79 : decode cX8_line 79 = .ok (.getfield 118, 3) := dk_180 0 118 (dk_at dksX8_line_3 12 rfl rfl)
theorem dX8_line_82 : decode cX8_line 82 = .ok (.new 130, 3) := dk_187 0 130 (dk_at dksX8_line_3 15 rfl rfl)
theorem dX8_line_85 : decode cX8_line 85 = .ok (.dup, 1) := dk_89 (dk_at dksX8_line_3 18 rfl rfl)
theorem dX8_line_86 : decode cX8_line 86 = .ok (.lload_n 1, 1) := dk_31 (dk_at dksX8_line_3 19 rfl rfl)
theorem dX8_line_87 : decode cX8_line 87 = .ok (.aload_n 0, 1) := dk_42 (dk_at dksX8_line_3 20 rfl rfl)
theorem dX8_line_88 : decode cX8_line 88 = .ok (.getfield 58, 3) := dk_180 0 58 (dk_at dksX8_line_3 21 rfl rfl)
theorem dX8_line_91 : decode cX8_line 91 = .ok (.invokespecial 132, 3) := dk_183 0 132 (dk_at dksX8_line_4 0 rfl rfl)
theorem dX8_line_94 : decode cX8_line 94 = .ok (.invokeinterface 135 2, 5) := by decide +kernel
theorem dX8_line_99 : decode cX8_line 99 = .ok (.pop, 1) := dk_87 (dk_at dksX8_line_4 8 rfl rfl)
theorem dX8_line_100 : decode cX8_line 100 = .ok (.aload_n 0, 1) := dk_42 (dk_at dksX8_line_4 9 rfl rfl)
theorem dX8_line_101 : decode cX8_line 101 = .ok (.invokevirtual 92, 3) := dk_182 0 92 (dk_at dksX8_line_4 10 rfl rfl)
theorem dX8_line_104 : decode cX8_line 104 = .ok (.goto 219, 3) := dk_167 0 219 (dk_at dksX8_line_4 13 rfl rfl)
theorem dX8_line_107 : decode cX8_line 107 = .ok (.aload_n 0, 1) := dk_42 (dk_at dksX8_line_4 16 rfl rfl)
theorem dX8_line_108 : decode cX8_line 108 = .ok (.ldc 141, 2) := dk_18 141 (dk_at dksX8_line_4 17 rfl rfl)
theorem dX8_line_110 : decode cX8_line 110 = .ok (.invokevirtual 81, 3) := dk_182 0 81 (dk_at dksX8_line_4 19 rfl rfl)
theorem dX8_line_113 : decode cX8_line 113 = .ok (.ifCond .eq 113, 3) := dk_153 0 113 (dk_at dksX8_line_5 0 rfl rfl)
theorem dX8_line_116 : decode cX8_line 116 = .ok (.aload_n 0, 1) := dk_42 (dk_at dksX8_line_5 3 rfl rfl)
theorem dX8_line_117 : decode cX8_line 117 = .ok (.aload_n 0, 1) := dk_42 (dk_at dksX8_line_5 4 rfl rfl)
theorem dX8_line_118 : decode cX8_line 118 = .ok (.getfield 18, 3) := dk_180 0 18 (dk_at dksX8_line_5 5 rfl rfl)
theorem dX8_line_121 : decode cX8_line 121 = .ok (.getfield 142, 3) := dk_180 0 142 (dk_at dksX8_line_5 8 rfl rfl)
theorem dX8_line_124 : decode cX8_line 124 = .ok (.bipush 24, 2) := dk_16 24 (dk_at dksX8_line_5 11 rfl rfl)
theorem dX8_line_126 : decode cX8_line 126 = .ok (.invokevirtual 122, 3) := dk_182 0 122 (dk_at dksX8_line_5 13 rfl rfl)
theorem dX8_line_129 : decode cX8_line 129 = .ok (.aload_n 0, 1) := dk_42 (dk_at dksX8_line_5 16 rfl rfl)
theorem dX8_line_130 : decode cX8_line 130 = .ok (.invokevirtual 126, 3) := dk_182 0 126 (dk_at dksX8_line_5 17 rfl rfl)
theorem dX8_line_133 : decode cX8_line 133 = .ok (.lstore_n 1, 1) := dk_64 (dk_at dksX8_line_5 20 rfl rfl)
theorem dX8_line_134 : decode cX8_line 134 = .ok (.aload_n 0, 1) := dk_42 (dk_at dksX8_line_5 21 rfl rfl)
theorem dX8_line_135 : decode cX8_line 135 = .ok (.bipush 61, 2) := dk_16 61 (dk_at dksX8_line_5 22 rfl rfl)
theorem dX8_line_137 : decode cX8_line 137 = .ok (.invokevirtual 145, 3) := dk_182 0 145 (dk_at dksX8_line_6 0 rfl rfl)
theorem dX8_line_140 : decode cX8_line 140 = .ok (.aload_n 0, 1) := dk_42 (dk_at dksX8_line_6 3 rfl rfl)
theorem dX8_line_141 : decode cX8_line 141 = .ok (.invokevirtual 149, 3) := dk_182 0 149 (dk_at dksX8_line_6 4 rfl rfl)
theorem dX8_line_144 : decode cX8_line 144 = .ok (.istore_n 3, 1) := dk_62 (dk_at dksX8_line_6 7 rfl rfl)
theorem dX8_line_145 : decode cX8_line 145 = .ok (.aload_n 0, 1) := dk_42 (dk_at dksX8_line_6 8 rfl rfl)
theorem dX8_line_146 : decode cX8_line 146 = .ok (.getfield 18, 3) := dk_180 0 18 (dk_at dksX8_line_6 9 rfl rfl)
theorem dX8_line_149 : decode cX8_line 149 = .ok (.getfield 142, 3) := dk_180 0 142 (dk_at dksX8_line_6 12 rfl rfl)
theorem dX8_line_152 : decode cX8_line 152 = .ok (.new 151, 3) := dk_187 0 151 (dk_at dksX8_line_6 15 rfl rfl)
theorem dX8_line_155 : decode cX8_line 155 = .ok (.dup, 1) := dk_89 (dk_at dksX8_line_6 18 rfl rfl)
theorem dX8_line_156 : decode cX8_line 156 = .ok (.lload_n 1, 1) := dk_31 (dk_at dksX8_line_6 19 rfl rfl)
theorem dX8_line_157 : decode cX8_line 157 = .ok (.aload_n 0, 1) := dk_42 (dk_at dksX8_line_6 20 rfl rfl)
theorem dX8_line_158 : decode cX8_line 158 = .ok (.getfield 18, 3) := dk_180 0 18 (dk_at dksX8_line_6 21 rfl rfl)
theorem dX8_line_161 : decode cX8_line 161 = .ok (.getfield 118, 3) := dk_180 0 118 (dk_at dksX8_line_7 0 rfl rfl)
theorem dX8_line_164 : decode cX8_line 164 = .ok (.iload_n 3, 1) := dk_29 (dk_at dksX8_line_7 3 rfl rfl)
theorem dX8_line_165 : decode cX8_line 165 = .ok (.invokeinterface 153 2, 5) := by decide +kernel
theorem dX8_line_170 : decode cX8_line 170 = .ok (.checkcast 130, 3) := dk_192 0 130 (dk_at dksX8_line_7 9 rfl rfl)
theorem dX8_line_173 : decode cX8_line 173 = .ok (.iload_n 3, 1) := dk_29 (dk_at dksX8_line_7 12 rfl rfl)
theorem dX8_line_174 : decode cX8_line 174 = .ok (.aload_n 0, 1) := dk_42 (dk_at dksX8_line_7 13 rfl rfl)
theorem dX8_line_175 : decode cX8_line 175 = .ok (.aload_n 0, 1) := dk_42 (dk_at dksX8_line_7 14 rfl rfl)
theorem dX8_line_176 : decode cX8_line 176 = .ok (.getfield 18, 3) := dk_180 0 18 (dk_at dksX8_line_7 15 rfl rfl)
theorem dX8_line_179 : decode cX8_line 179 = .ok (.getfield 118, 3) := dk_180 0 118 (dk_at dksX8_line_7 18 rfl rfl)
theorem dX8_line_182 : decode cX8_line 182 = .ok (.iload_n 3, 1) := dk_29 (dk_at dksX8_line_7 21 rfl rfl)
theorem dX8_line_183 : decode cX8_line 183 = .ok (.invokeinterface 153 2, 5) := by decide +kernel
theorem dX8_line_188 : decode cX8_line 188 = .ok (.checkcast 130, 3) := dk_192 0 130 (dk_at dksX8_line_8 5 rfl rfl)
theorem dX8_line_191 : decode cX8_line 191 = .ok (.getfield 157, 3) := dk_180 0 157 (dk_at dksX8_line_8 8 rfl rfl)
theorem dX8_line_194 : decode cX8_line 194 = .ok (.invokevirtual 160, 3) := dk_182 0 160 (dk_at dksX8_line_8 11 rfl rfl)
theorem dX8_line_197 : decode cX8_line 197 = .ok (.invokespecial 164, 3) := dk_183 0 164 (dk_at dksX8_line_8 14 rfl rfl)
theorem dX8_line_200 : decode cX8_line 200 = .ok (.invokeinterface 135 2, 5) := by decide +kernel
theorem dX8_line_205 : decode cX8_line 205 = .ok (.pop, 1) := dk_87 (dk_at dksX8_line_8 22 rfl rfl)
theorem dX8_line_206 : decode cX8_line 206 = .ok (.aload_n 0, 1) := dk_42 (dk_at dksX8_line_8 23 rfl rfl)
theorem dX8_line_207 : decode cX8_line 207 = .ok (.getfield 18, 3) := dk_180 0 18 (dk_at dksX8_line_9 0 rfl rfl)
theorem dX8_line_210 : decode cX8_line 210 = .ok (.getfield 167, 3) := dk_180 0 167 (dk_at dksX8_line_9 3 rfl rfl)
theorem dX8_line_213 : decode cX8_line 213 = .ok (.iconst (-1), 1) := dk_2 (dk_at dksX8_line_9 6 rfl rfl)
theorem dX8_line_214 : decode cX8_line 214 = .ok (.invokestatic 170, 3) := dk_184 0 170 (dk_at dksX8_line_9 7 rfl rfl)
theorem dX8_line_217 : decode cX8_line 217 = .ok (.invokeinterface 135 2, 5) := by decide +kernel
theorem dX8_line_222 : decode cX8_line 222 = .ok (.pop, 1) := dk_87 (dk_at dksX8_line_9 15 rfl rfl)
theorem dX8_line_223 : decode cX8_line 223 = .ok (.goto 100, 3) := dk_167 0 100 (dk_at dksX8_line_9 16 rfl rfl)
theorem dX8_line_226 : decode cX8_line 226 = .ok (.aload_n 0, 1) := dk_42 (dk_at dksX8_line_9 19 rfl rfl)
theorem dX8_line_227 : decode cX8_line 227 = .ok (.ldc 176, 2) := dk_18 176 (dk_at dksX8_line_9 20 rfl rfl)
theorem dX8_line_229 : decode cX8_line 229 = .ok (.invokevirtual 81, 3) := dk_182 0 81 (dk_at dksX8_line_10 0 rfl rfl)
theorem dX8_line_232 : decode cX8_line 232 = .ok (.istore_n 1, 1) := dk_60 (dk_at dksX8_line_10 3 rfl rfl)
theorem dX8_line_233 : decode cX8_line 233 = .ok (.iload_n 1, 1) := dk_27 (dk_at dksX8_line_10 4 rfl rfl)
theorem dX8_line_234 : decode cX8_line 234 = .ok (.ifCond .eq 13, 3) := dk_153 0 13 (dk_at dksX8_line_10 5 rfl rfl)
theorem dX8_line_237 : decode cX8_line 237 = .ok (.aload_n 0, 1) := dk_42 (dk_at dksX8_line_10 8 rfl rfl)
theorem dX8_line_238 : decode cX8_line 238 = .ok (.getfield 18, 3) := dk_180 0 18 (dk_at dksX8_line_10 9 rfl rfl)
theorem dX8_line_241 : decode cX8_line 241 = .ok (.getfield 178, 3) := dk_180 0 178 (dk_at dksX8_line_10 12 rfl rfl)
theorem dX8_line_244 : decode cX8_line 244 = .ok (.goto 10, 3) := dk_167 0 10 (dk_at dksX8_line_10 15 rfl rfl)
theorem dX8_line_247 : decode cX8_line 247 = .ok (.aload_n 0, 1) := dk_42 (dk_at dksX8_line_10 18 rfl rfl)
theorem dX8_line_248 : decode cX8_line 248 = .ok (.getfield 18, 3) := dk_180 0 18 (dk_at dksX8_line_10 19 rfl rfl)
theorem dX8_line_251 : decode cX8_line 251 = .ok (.getfield 181, 3) := dk_180 0 181 (dk_at dksX8_line_11 0 rfl rfl)
theorem dX8_line_254 : decode cX8_line 254 = .ok (.astore_n 2, 1) := dk_77 (dk_at dksX8_line_11 3 rfl rfl)
theorem dX8_line_255 : decode cX8_line 255 = .ok (.aload_n 0, 1) := dk_42 (dk_at dksX8_line_11 4 rfl rfl)
theorem dX8_line_256 : decode cX8_line 256 = .ok (.aload_n 2, 1) := dk_44 (dk_at dksX8_line_11 5 rfl rfl)
theorem dX8_line_257 : decode cX8_line 257 = .ok (.iload_n 1, 1) := dk_27 (dk_at dksX8_line_11 6 rfl rfl)
theorem dX8_line_258 : decode cX8_line 258 = .ok (.ifCond .eq 8, 3) := dk_153 0 8 (dk_at dksX8_line_11 7 rfl rfl)
theorem dX8_line_261 : decode cX8_line 261 = .ok (.bipush 12, 2) := dk_16 12 (dk_at dksX8_line_11 10 rfl rfl)
theorem dX8_line_263 : decode cX8_line 263 = .ok (.goto 5, 3) := dk_167 0 5 (dk_at dksX8_line_11 12 rfl rfl)
theorem dX8_line_266 : decode cX8_line 266 = .ok (.bipush 8, 2) := dk_16 8 (dk_at dksX8_line_11 15 rfl rfl)
theorem dX8_line_268 : decode cX8_line 268 = .ok (.invokevirtual 122, 3) := dk_182 0 122 (dk_at dksX8_line_11 17 rfl rfl)
theorem dX8_line_271 : decode cX8_line 271 = .ok (.aload_n 0, 1) := dk_42 (dk_at dksX8_line_11 20 rfl rfl)
theorem dX8_line_272 : decode cX8_line 272 = .ok (.invokevirtual 184, 3) := dk_182 0 184 (dk_at dksX8_line_11 21 rfl rfl)
theorem dX8_line_275 : decode cX8_line 275 = .ok (.istore_n 3, 1) := dk_62 (dk_at dksX8_line_12 0 rfl rfl)
theorem dX8_line_276 : decode cX8_line 276 = .ok (.aload_n 2, 1) := dk_44 (dk_at dksX8_line_12 1 rfl rfl)
theorem dX8_line_277 : decode cX8_line 277 = .ok (.new 186, 3) := dk_187 0 186 (dk_at dksX8_line_12 2 rfl rfl)
theorem dX8_line_280 : decode cX8_line 280 = .ok (.dup, 1) := dk_89 (dk_at dksX8_line_12 5 rfl rfl)
theorem dX8_line_281 : decode cX8_line 281 = .ok (.iload_n 3, 1) := dk_29 (dk_at dksX8_line_12 6 rfl rfl)
theorem dX8_line_282 : decode cX8_line 282 = .ok (.aload_n 0, 1) := dk_42 (dk_at dksX8_line_12 7 rfl rfl)
theorem dX8_line_283 : decode cX8_line 283 = .ok (.invokevirtual 184, 3) := dk_182 0 184 (dk_at dksX8_line_12 8 rfl rfl)
theorem dX8_line_286 : decode cX8_line 286 = .ok (.invokespecial 188, 3) := dk_183 0 188 (dk_at dksX8_line_12 11 rfl rfl)
theorem dX8_line_289 : decode cX8_line 289 = .ok (.invokeinterface 135 2, 5) := by decide +kernel
theorem dX8_line_294 : decode cX8_line 294 = .ok (.pop, 1) := dk_87 (dk_at dksX8_line_12 19 rfl rfl)
theorem dX8_line_295 : decode cX8_line 295 = .ok (.iload_n 1, 1) := dk_27 (dk_at dksX8_line_12 20 rfl rfl)
theorem dX8_line_296 : decode cX8_line 296 = .ok (.ifCond .eq 27, 3) := dk_153 0 27 (dk_at dksX8_line_12 21 rfl rfl)
theorem dX8_line_299 : decode cX8_line 299 = .ok (.aload_n 0, 1) := dk_42 (dk_at dksX8_line_13 0 rfl rfl)
theorem dX8_line_300 : decode cX8_line 300 = .ok (.getfield 18, 3) := dk_180 0 18 (dk_at dksX8_line_13 1 rfl rfl)
theorem dX8_line_303 : decode cX8_line 303 = .ok (.getfield 167, 3) := dk_180 0 167 (dk_at dksX8_line_13 4 rfl rfl)
theorem dX8_line_306 : decode cX8_line 306 = .ok (.aload_n 2, 1) := dk_44 (dk_at dksX8_line_13 7 rfl rfl)
theorem dX8_line_307 : decode cX8_line 307 = .ok (.invokeinterface 189 1, 5) := by decide +kernel
theorem dX8_line_312 : decode cX8_line 312 = .ok (.iconst 1, 1) := dk_4 (dk_at dksX8_line_13 13 rfl rfl)
theorem dX8_line_313 : decode cX8_line 313 = .ok (.isub, 1) := dk_100 (dk_at dksX8_line_13 14 rfl rfl)
theorem dX8_line_314 : decode cX8_line 314 = .ok (.invokestatic 170, 3) := dk_184 0 170 (dk_at dksX8_line_13 15 rfl rfl)
theorem dX8_line_317 : decode cX8_line 317 = .ok (.invokeinterface 135 2, 5) := by decide +kernel
theorem dX8_line_322 : decode cX8_line 322 = .ok (.pop, 1) := dk_87 (dk_at dksX8_line_13 23 rfl rfl)
theorem dX8_line_323 : decode cX8_line 323 = .ok (.return_, 1) := dk_177 (dk_at dksX8_line_14 0 rfl rfl)
abbrev cX8_isAny : ByteArray := prog_10_method_8_code
def yX8_isAny : MethodName := ⟨RX8, "isAny", "([Ljava/lang/String;)Z"⟩
def dkwX8_isAny_1 : List UInt8 := [182, 0, 81, 153, 0, 5, 4, 172, 132, 4, 1, 167, 255, 230, 3, 172]
abbrev dktX8_isAny_1 : List UInt8 := dkwX8_isAny_1 ++ []
def dkwX8_isAny_0 : List UInt8 := [43, 77, 44, 190, 62, 3, 54, 4, 21, 4, 29, 162, 0, 26, 44, 21, 4, 50, 58, 5, 42, 25, 5]
abbrev dktX8_isAny_0 : List UInt8 := dkwX8_isAny_0 ++ dktX8_isAny_1
theorem dksX8_isAny_0 : cX8_isAny.data.toList.drop 0 = dktX8_isAny_0 := by decide +kernel
theorem dksX8_isAny_1 : cX8_isAny.data.toList.drop 23 = dktX8_isAny_1 := dk_seg dksX8_isAny_0 23 rfl rfl
theorem dX8_isAny_0 : decode cX8_isAny 0 = .ok (.aload_n 1, 1) := dk_43 (dk_at dksX8_isAny_0 0 rfl rfl)
theorem dX8_isAny_1 : decode cX8_isAny 1 = .ok (.astore_n 2, 1) := dk_77 (dk_at dksX8_isAny_0 1 rfl rfl)
theorem dX8_isAny_2 : decode cX8_isAny 2 = .ok (.aload_n 2, 1) := dk_44 (dk_at dksX8_isAny_0 2 rfl rfl)
theorem dX8_isAny_3 : decode cX8_isAny 3 = .ok (.arraylength, 1) := dk_190 (dk_at dksX8_isAny_0 3 rfl rfl)
theorem dX8_isAny_4 : decode cX8_isAny 4 = .ok (.istore_n 3, 1) := dk_62 (dk_at dksX8_isAny_0 4 rfl rfl)
theorem dX8_isAny_5 : decode cX8_isAny 5 = .ok (.iconst 0, 1) := dk_3 (dk_at dksX8_isAny_0 5 rfl rfl)
theorem dX8_isAny_6 : decode cX8_isAny 6 = .ok (.istore 4, 2) := dk_54 4 (dk_at dksX8_isAny_0 6 rfl rfl)
theorem dX8_isAny_8 : decode cX8_isAny 8 = .ok (.iload 4, 2) := dk_21 4 (dk_at dksX8_isAny_0 8 rfl rfl)
theorem dX8_isAny_10 : decode cX8_isAny 10 = .ok (.iload_n 3, 1) := dk_29 (dk_at dksX8_isAny_0 10 rfl rfl)
theorem dX8_isAny_11 : decode cX8_isAny 11 = .ok (.if_icmp .ge 26, 3) := dk_162 0 26 (dk_at dksX8_isAny_0 11 rfl rfl)
theorem dX8_isAny_14 : decode cX8_isAny 14 = .ok (.aload_n 2, 1) := dk_44 (dk_at dksX8_isAny_0 14 rfl rfl)
theorem dX8_isAny_15 : decode cX8_isAny 15 = .ok (.iload 4, 2) := dk_21 4 (dk_at dksX8_isAny_0 15 rfl rfl)
theorem dX8_isAny_17 : decode cX8_isAny 17 = .ok (.aaload, 1) := dk_50 (dk_at dksX8_isAny_0 17 rfl rfl)
theorem dX8_isAny_18 : decode cX8_isAny 18 = .ok (.astore 5, 2) := dk_58 5 (dk_at dksX8_isAny_0 18 rfl rfl)
theorem dX8_isAny_20 : decode cX8_isAny 20 = .ok (.aload_n 0, 1) := dk_42 (dk_at dksX8_isAny_0 20 rfl rfl)
theorem dX8_isAny_21 : decode cX8_isAny 21 = .ok (.aload 5, 2) := dk_25 5 (dk_at dksX8_isAny_0 21 rfl rfl)
theorem dX8_isAny_23 : decode cX8_isAny 23 = .ok (.invokevirtual 81, 3) := dk_182 0 81 (dk_at dksX8_isAny_1 0 rfl rfl)
theorem dX8_isAny_26 : decode cX8_isAny 26 = .ok (.ifCond .eq 5, 3) := dk_153 0 5 (dk_at dksX8_isAny_1 3 rfl rfl)
theorem dX8_isAny_29 : decode cX8_isAny 29 = .ok (.iconst 1, 1) := dk_4 (dk_at dksX8_isAny_1 6 rfl rfl)
theorem dX8_isAny_30 : decode cX8_isAny 30 = .ok (.ireturn, 1) := dk_172 (dk_at dksX8_isAny_1 7 rfl rfl)
theorem dX8_isAny_31 : decode cX8_isAny 31 = .ok (.iinc 4 1, 3) := dk_132 4 1 (dk_at dksX8_isAny_1 8 rfl rfl)
theorem dX8_isAny_34 : decode cX8_isAny 34 = .ok (.goto (-26), 3) := dk_167 255 230 (dk_at dksX8_isAny_1 11 rfl rfl)
theorem dX8_isAny_37 : decode cX8_isAny 37 = .ok (.iconst 0, 1) := dk_3 (dk_at dksX8_isAny_1 14 rfl rfl)
theorem dX8_isAny_38 : decode cX8_isAny 38 = .ok (.ireturn, 1) := dk_172 (dk_at dksX8_isAny_1 15 rfl rfl)
abbrev cX8_is : ByteArray := prog_10_method_7_code
def yX8_is : MethodName := ⟨RX8, "is", "(Ljava/lang/String;)Z"⟩
def dkwX8_is_2 : List UInt8 := [182, 0, 77, 159, 0, 5, 3, 172, 132, 2, 1, 167, 255, 225, 4, 172]
abbrev dktX8_is_2 : List UInt8 := dkwX8_is_2 ++ []
def dkwX8_is_1 : List UInt8 := [3, 172, 3, 61, 28, 43, 182, 0, 73, 162, 0, 29, 42, 42, 180, 0, 41, 28, 96, 182, 0, 30, 43, 28]
abbrev dktX8_is_1 : List UInt8 := dkwX8_is_1 ++ dktX8_is_2
def dkwX8_is_0 : List UInt8 := [42, 180, 0, 44, 5, 160, 0, 19, 42, 180, 0, 38, 42, 180, 0, 41, 100, 43, 182, 0, 73, 159, 0, 5]
abbrev dktX8_is_0 : List UInt8 := dkwX8_is_0 ++ dktX8_is_1
theorem dksX8_is_0 : cX8_is.data.toList.drop 0 = dktX8_is_0 := by decide +kernel
theorem dksX8_is_1 : cX8_is.data.toList.drop 24 = dktX8_is_1 := dk_seg dksX8_is_0 24 rfl rfl
theorem dksX8_is_2 : cX8_is.data.toList.drop 48 = dktX8_is_2 := dk_seg dksX8_is_1 24 rfl rfl
theorem dX8_is_0 : decode cX8_is 0 = .ok (.aload_n 0, 1) := dk_42 (dk_at dksX8_is_0 0 rfl rfl)
theorem dX8_is_1 : decode cX8_is 1 = .ok (.getfield 44, 3) := dk_180 0 44 (dk_at dksX8_is_0 1 rfl rfl)
theorem dX8_is_4 : decode cX8_is 4 = .ok (.iconst 2, 1) := dk_5 (dk_at dksX8_is_0 4 rfl rfl)
theorem dX8_is_5 : decode cX8_is 5 = .ok (.if_icmp .ne 19, 3) := dk_160 0 19 (dk_at dksX8_is_0 5 rfl rfl)
theorem dX8_is_8 : decode cX8_is 8 = .ok (.aload_n 0, 1) := dk_42 (dk_at dksX8_is_0 8 rfl rfl)
theorem dX8_is_9 : decode cX8_is 9 = .ok (.getfield 38, 3) := dk_180 0 38 (dk_at dksX8_is_0 9 rfl rfl)
theorem dX8_is_12 : decode cX8_is 12 = .ok (.aload_n 0, 1) := dk_42 (dk_at dksX8_is_0 12 rfl rfl)
theorem dX8_is_13 : decode cX8_is 13 = .ok (.getfield 41, 3) := dk_180 0 41 (dk_at dksX8_is_0 13 rfl rfl)
theorem dX8_is_16 : decode cX8_is 16 = .ok (.isub, 1) := dk_100 (dk_at dksX8_is_0 16 rfl rfl)
theorem dX8_is_17 : decode cX8_is 17 = .ok (.aload_n 1, 1) := dk_43 (dk_at dksX8_is_0 17 rfl rfl)
theorem dX8_is_18 : decode cX8_is 18 = .ok (.invokevirtual 73, 3) := dk_182 0 73 (dk_at dksX8_is_0 18 rfl rfl)
theorem dX8_is_21 : decode cX8_is 21 = .ok (.if_icmp .eq 5, 3) := dk_159 0 5 (dk_at dksX8_is_0 21 rfl rfl)
theorem dX8_is_24 : decode cX8_is 24 = .ok (.iconst 0, 1) := dk_3 (dk_at dksX8_is_1 0 rfl rfl)
theorem dX8_is_25 : decode cX8_is 25 = .ok (.ireturn, 1) := dk_172 (dk_at dksX8_is_1 1 rfl rfl)
theorem dX8_is_26 : decode cX8_is 26 = .ok (.iconst 0, 1) := dk_3 (dk_at dksX8_is_1 2 rfl rfl)
theorem dX8_is_27 : decode cX8_is 27 = .ok (.istore_n 2, 1) := dk_61 (dk_at dksX8_is_1 3 rfl rfl)
theorem dX8_is_28 : decode cX8_is 28 = .ok (.iload_n 2, 1) := dk_28 (dk_at dksX8_is_1 4 rfl rfl)
theorem dX8_is_29 : decode cX8_is 29 = .ok (.aload_n 1, 1) := dk_43 (dk_at dksX8_is_1 5 rfl rfl)
theorem dX8_is_30 : decode cX8_is 30 = .ok (.invokevirtual 73, 3) := dk_182 0 73 (dk_at dksX8_is_1 6 rfl rfl)
theorem dX8_is_33 : decode cX8_is 33 = .ok (.if_icmp .ge 29, 3) := dk_162 0 29 (dk_at dksX8_is_1 9 rfl rfl)
theorem dX8_is_36 : decode cX8_is 36 = .ok (.aload_n 0, 1) := dk_42 (dk_at dksX8_is_1 12 rfl rfl)
theorem dX8_is_37 : decode cX8_is 37 = .ok (.aload_n 0, 1) := dk_42 (dk_at dksX8_is_1 13 rfl rfl)
theorem dX8_is_38 : decode cX8_is 38 = .ok (.getfield 41, 3) := dk_180 0 41 (dk_at dksX8_is_1 14 rfl rfl)
theorem dX8_is_41 : decode cX8_is 41 = .ok (.iload_n 2, 1) := dk_28 (dk_at dksX8_is_1 17 rfl rfl)
theorem dX8_is_42 : decode cX8_is 42 = .ok (.iadd, 1) := dk_96 (dk_at dksX8_is_1 18 rfl rfl)
theorem dX8_is_43 : decode cX8_is 43 = .ok (.invokevirtual 30, 3) := dk_182 0 30 (dk_at dksX8_is_1 19 rfl rfl)
theorem dX8_is_46 : decode cX8_is 46 = .ok (.aload_n 1, 1) := dk_43 (dk_at dksX8_is_1 22 rfl rfl)
theorem dX8_is_47 : decode cX8_is 47 = .ok (.iload_n 2, 1) := dk_28 (dk_at dksX8_is_1 23 rfl rfl)
theorem dX8_is_48 : decode cX8_is 48 = .ok (.invokevirtual 77, 3) := dk_182 0 77 (dk_at dksX8_is_2 0 rfl rfl)
theorem dX8_is_51 : decode cX8_is 51 = .ok (.if_icmp .eq 5, 3) := dk_159 0 5 (dk_at dksX8_is_2 3 rfl rfl)
theorem dX8_is_54 : decode cX8_is 54 = .ok (.iconst 0, 1) := dk_3 (dk_at dksX8_is_2 6 rfl rfl)
theorem dX8_is_55 : decode cX8_is 55 = .ok (.ireturn, 1) := dk_172 (dk_at dksX8_is_2 7 rfl rfl)
theorem dX8_is_56 : decode cX8_is 56 = .ok (.iinc 2 1, 3) := dk_132 2 1 (dk_at dksX8_is_2 8 rfl rfl)
theorem dX8_is_59 : decode cX8_is 59 = .ok (.goto (-31), 3) := dk_167 255 225 (dk_at dksX8_is_2 11 rfl rfl)
theorem dX8_is_62 : decode cX8_is 62 = .ok (.iconst 1, 1) := dk_4 (dk_at dksX8_is_2 14 rfl rfl)
theorem dX8_is_63 : decode cX8_is 63 = .ok (.ireturn, 1) := dk_172 (dk_at dksX8_is_2 15 rfl rfl)
abbrev cX8_need : ByteArray := prog_10_method_6_code
def yX8_need : MethodName := ⟨RX8, "need", "(ZI)V"⟩
def dkwX8_need_0 : List UInt8 := [27, 154, 0, 16, 187, 0, 68, 89, 28, 42, 180, 0, 41, 183, 0, 70, 191, 177]
abbrev dktX8_need_0 : List UInt8 := dkwX8_need_0 ++ []
theorem dksX8_need_0 : cX8_need.data.toList.drop 0 = dktX8_need_0 := by decide +kernel
theorem dX8_need_0 : decode cX8_need 0 = .ok (.iload_n 1, 1) := dk_27 (dk_at dksX8_need_0 0 rfl rfl)
theorem dX8_need_1 : decode cX8_need 1 = .ok (.ifCond .ne 16, 3) := dk_154 0 16 (dk_at dksX8_need_0 1 rfl rfl)
theorem dX8_need_4 : decode cX8_need 4 = .ok (.new 68, 3) := dk_187 0 68 (dk_at dksX8_need_0 4 rfl rfl)
theorem dX8_need_7 : decode cX8_need 7 = .ok (.dup, 1) := dk_89 (dk_at dksX8_need_0 7 rfl rfl)
theorem dX8_need_8 : decode cX8_need 8 = .ok (.iload_n 2, 1) := dk_28 (dk_at dksX8_need_0 8 rfl rfl)
theorem dX8_need_9 : decode cX8_need 9 = .ok (.aload_n 0, 1) := dk_42 (dk_at dksX8_need_0 9 rfl rfl)
theorem dX8_need_10 : decode cX8_need 10 = .ok (.getfield 41, 3) := dk_180 0 41 (dk_at dksX8_need_0 10 rfl rfl)
theorem dX8_need_13 : decode cX8_need 13 = .ok (.invokespecial 70, 3) := dk_183 0 70 (dk_at dksX8_need_0 13 rfl rfl)
theorem dX8_need_16 : decode cX8_need 16 = .ok (.athrow, 1) := dk_191 (dk_at dksX8_need_0 16 rfl rfl)
theorem dX8_need_17 : decode cX8_need 17 = .ok (.return_, 1) := dk_177 (dk_at dksX8_need_0 17 rfl rfl)
abbrev cX8_begin : ByteArray := prog_10_method_17_code
def yX8_begin : MethodName := ⟨RX8, "begin", "(Ljava/util/List;I)V"⟩
def dkwX8_begin_1 : List UInt8 := [177]
abbrev dktX8_begin_1 : List UInt8 := dkwX8_begin_1 ++ []
def dkwX8_begin_0 : List UInt8 := [42, 43, 185, 0, 189, 1, 0, 28, 162, 0, 7, 4, 167, 0, 4, 3, 7, 182, 0, 88, 42, 182, 0, 92]
abbrev dktX8_begin_0 : List UInt8 := dkwX8_begin_0 ++ dktX8_begin_1
theorem dksX8_begin_0 : cX8_begin.data.toList.drop 0 = dktX8_begin_0 := by decide +kernel
theorem dksX8_begin_1 : cX8_begin.data.toList.drop 24 = dktX8_begin_1 := dk_seg dksX8_begin_0 24 rfl rfl
theorem dX8_begin_0 : decode cX8_begin 0 = .ok (.aload_n 0, 1) := dk_42 (dk_at dksX8_begin_0 0 rfl rfl)
theorem dX8_begin_1 : decode cX8_begin 1 = .ok (.aload_n 1, 1) := dk_43 (dk_at dksX8_begin_0 1 rfl rfl)
theorem dX8_begin_2 : decode cX8_begin 2 = .ok (.invokeinterface 189 1, 5) := by decide +kernel
theorem dX8_begin_7 : decode cX8_begin 7 = .ok (.iload_n 2, 1) := dk_28 (dk_at dksX8_begin_0 7 rfl rfl)
theorem dX8_begin_8 : decode cX8_begin 8 = .ok (.if_icmp .ge 7, 3) := dk_162 0 7 (dk_at dksX8_begin_0 8 rfl rfl)
theorem dX8_begin_11 : decode cX8_begin 11 = .ok (.iconst 1, 1) := dk_4 (dk_at dksX8_begin_0 11 rfl rfl)
theorem dX8_begin_12 : decode cX8_begin 12 = .ok (.goto 4, 3) := dk_167 0 4 (dk_at dksX8_begin_0 12 rfl rfl)
theorem dX8_begin_15 : decode cX8_begin 15 = .ok (.iconst 0, 1) := dk_3 (dk_at dksX8_begin_0 15 rfl rfl)
theorem dX8_begin_16 : decode cX8_begin 16 = .ok (.iconst 4, 1) := dk_7 (dk_at dksX8_begin_0 16 rfl rfl)
theorem dX8_begin_17 : decode cX8_begin 17 = .ok (.invokevirtual 88, 3) := dk_182 0 88 (dk_at dksX8_begin_0 17 rfl rfl)
theorem dX8_begin_20 : decode cX8_begin 20 = .ok (.aload_n 0, 1) := dk_42 (dk_at dksX8_begin_0 20 rfl rfl)
theorem dX8_begin_21 : decode cX8_begin 21 = .ok (.invokevirtual 92, 3) := dk_182 0 92 (dk_at dksX8_begin_0 21 rfl rfl)
theorem dX8_begin_24 : decode cX8_begin 24 = .ok (.return_, 1) := dk_177 (dk_at dksX8_begin_1 0 rfl rfl)
abbrev cX8_fresh : ByteArray := prog_10_method_12_code
def yX8_fresh : MethodName := ⟨RX8, "fresh", "()J"⟩
def dkwX8_fresh_2 : List UInt8 := [64, 42, 182, 0, 92, 31, 173]
abbrev dktX8_fresh_2 : List UInt8 := dkwX8_fresh_2 ++ []
def dkwX8_fresh_1 : List UInt8 := [42, 180, 0, 51, 182, 0, 110, 2, 160, 0, 7, 4, 167, 0, 4, 3, 6, 182, 0, 88, 42, 180, 0, 51]
abbrev dktX8_fresh_1 : List UInt8 := dkwX8_fresh_1 ++ dktX8_fresh_2
def dkwX8_fresh_0 : List UInt8 := [42, 182, 0, 103, 42, 42, 180, 0, 18, 42, 180, 0, 51, 182, 0, 106, 2, 160, 0, 22, 42, 180, 0, 18]
abbrev dktX8_fresh_0 : List UInt8 := dkwX8_fresh_0 ++ dktX8_fresh_1
theorem dksX8_fresh_0 : cX8_fresh.data.toList.drop 0 = dktX8_fresh_0 := by decide +kernel
theorem dksX8_fresh_1 : cX8_fresh.data.toList.drop 24 = dktX8_fresh_1 := dk_seg dksX8_fresh_0 24 rfl rfl
theorem dksX8_fresh_2 : cX8_fresh.data.toList.drop 48 = dktX8_fresh_2 := dk_seg dksX8_fresh_1 24 rfl rfl
theorem dX8_fresh_0 : decode cX8_fresh 0 = .ok (.aload_n 0, 1) := dk_42 (dk_at dksX8_fresh_0 0 rfl rfl)
theorem dX8_fresh_1 : decode cX8_fresh 1 = .ok (.invokevirtual 103, 3) := dk_182 0 103 (dk_at dksX8_fresh_0 1 rfl rfl)
theorem dX8_fresh_4 : decode cX8_fresh 4 = .ok (.aload_n 0, 1) := dk_42 (dk_at dksX8_fresh_0 4 rfl rfl)
theorem dX8_fresh_5 : decode cX8_fresh 5 = .ok (.aload_n 0, 1) := dk_42 (dk_at dksX8_fresh_0 5 rfl rfl)
theorem dX8_fresh_6 : decode cX8_fresh 6 = .ok (.getfield 18, 3) := dk_180 0 18 (dk_at dksX8_fresh_0 6 rfl rfl)
theorem dX8_fresh_9 : decode cX8_fresh 9 = .ok (.aload_n 0, 1) := dk_42 (dk_at dksX8_fresh_0 9 rfl rfl)
theorem dX8_fresh_10 : decode cX8_fresh 10 = .ok (.getfield 51, 3) := dk_180 0 51 (dk_at dksX8_fresh_0 10 rfl rfl)
theorem dX8_fresh_13 : decode cX8_fresh 13 = .ok (.invokevirtual 106, 3) := dk_182 0 106 (dk_at dksX8_fresh_0 13 rfl rfl)
theorem dX8_fresh_16 : decode cX8_fresh 16 = .ok (.iconst (-1), 1) := dk_2 (dk_at dksX8_fresh_0 16 rfl rfl)
theorem dX8_fresh_17 : decode cX8_fresh 17 = .ok (.if_icmp .ne 22, 3) := dk_160 0 22 (dk_at dksX8_fresh_0 17 rfl rfl)
theorem dX8_fresh_20 : decode cX8_fresh 20 = .ok (.aload_n 0, 1) := dk_42 (dk_at dksX8_fresh_0 20 rfl rfl)
theorem dX8_fresh_21 : decode cX8_fresh 21 = .ok (.getfield 18, 3) := dk_180 0 18 (dk_at dksX8_fresh_0 21 rfl rfl)
theorem dX8_fresh_24 : decode cX8_fresh 24 = .ok (.aload_n 0, 1) := dk_42 (dk_at dksX8_fresh_1 0 rfl rfl)
theorem dX8_fresh_25 : decode cX8_fresh 25 = .ok (.getfield 51, 3) := dk_180 0 51 (dk_at dksX8_fresh_1 1 rfl rfl)
theorem dX8_fresh_28 : decode cX8_fresh 28 = .ok (.invokevirtual 110, 3) := dk_182 0 110 (dk_at dksX8_fresh_1 4 rfl rfl)
theorem dX8_fresh_31 : decode cX8_fresh 31 = .ok (.iconst (-1), 1) := dk_2 (dk_at dksX8_fresh_1 7 rfl rfl)
theorem dX8_fresh_32 : decode cX8_fresh 32 = .ok (.if_icmp .ne 7, 3) := dk_160 0 7 (dk_at dksX8_fresh_1 8 rfl rfl)
theorem dX8_fresh_35 : decode cX8_fresh 35 = .ok (.iconst 1, 1) := dk_4 (dk_at dksX8_fresh_1 11 rfl rfl)
theorem dX8_fresh_36 : decode cX8_fresh 36 = .ok (.goto 4, 3) := dk_167 0 4 (dk_at dksX8_fresh_1 12 rfl rfl)
theorem dX8_fresh_39 : decode cX8_fresh 39 = .ok (.iconst 0, 1) := dk_3 (dk_at dksX8_fresh_1 15 rfl rfl)
theorem dX8_fresh_40 : decode cX8_fresh 40 = .ok (.iconst 3, 1) := dk_6 (dk_at dksX8_fresh_1 16 rfl rfl)
theorem dX8_fresh_41 : decode cX8_fresh 41 = .ok (.invokevirtual 88, 3) := dk_182 0 88 (dk_at dksX8_fresh_1 17 rfl rfl)
theorem dX8_fresh_44 : decode cX8_fresh 44 = .ok (.aload_n 0, 1) := dk_42 (dk_at dksX8_fresh_1 20 rfl rfl)
theorem dX8_fresh_45 : decode cX8_fresh 45 = .ok (.getfield 51, 3) := dk_180 0 51 (dk_at dksX8_fresh_1 21 rfl rfl)
theorem dX8_fresh_48 : decode cX8_fresh 48 = .ok (.lstore_n 1, 1) := dk_64 (dk_at dksX8_fresh_2 0 rfl rfl)
theorem dX8_fresh_49 : decode cX8_fresh 49 = .ok (.aload_n 0, 1) := dk_42 (dk_at dksX8_fresh_2 1 rfl rfl)
theorem dX8_fresh_50 : decode cX8_fresh 50 = .ok (.invokevirtual 92, 3) := dk_182 0 92 (dk_at dksX8_fresh_2 2 rfl rfl)
theorem dX8_fresh_53 : decode cX8_fresh 53 = .ok (.lload_n 1, 1) := dk_31 (dk_at dksX8_fresh_2 5 rfl rfl)
theorem dX8_fresh_54 : decode cX8_fresh 54 = .ok (.lreturn, 1) := dk_173 (dk_at dksX8_fresh_2 6 rfl rfl)
abbrev cX8_needName : ByteArray := prog_10_method_11_code
def yX8_needName : MethodName := ⟨RX8, "needName", "()V"⟩
def dkwX8_needName_1 : List UInt8 := [4, 182, 0, 88, 177]
abbrev dktX8_needName_1 : List UInt8 := dkwX8_needName_1 ++ []
def dkwX8_needName_0 : List UInt8 := [42, 42, 180, 0, 44, 5, 160, 0, 17, 42, 178, 0, 95, 182, 0, 99, 154, 0, 7, 4, 167, 0, 4, 3]
abbrev dktX8_needName_0 : List UInt8 := dkwX8_needName_0 ++ dktX8_needName_1
theorem dksX8_needName_0 : cX8_needName.data.toList.drop 0 = dktX8_needName_0 := by decide +kernel
theorem dksX8_needName_1 : cX8_needName.data.toList.drop 24 = dktX8_needName_1 := dk_seg dksX8_needName_0 24 rfl rfl
theorem dX8_needName_0 : decode cX8_needName 0 = .ok (.aload_n 0, 1) := dk_42 (dk_at dksX8_needName_0 0 rfl rfl)
theorem dX8_needName_1 : decode cX8_needName 1 = .ok (.aload_n 0, 1) := dk_42 (dk_at dksX8_needName_0 1 rfl rfl)
theorem dX8_needName_2 : decode cX8_needName 2 = .ok (.getfield 44, 3) := dk_180 0 44 (dk_at dksX8_needName_0 2 rfl rfl)
theorem dX8_needName_5 : decode cX8_needName 5 = .ok (.iconst 2, 1) := dk_5 (dk_at dksX8_needName_0 5 rfl rfl)
theorem dX8_needName_6 : decode cX8_needName 6 = .ok (.if_icmp .ne 17, 3) := dk_160 0 17 (dk_at dksX8_needName_0 6 rfl rfl)
theorem dX8_needName_9 : decode cX8_needName 9 = .ok (.aload_n 0, 1) := dk_42 (dk_at dksX8_needName_0 9 rfl rfl)
theorem dX8_needName_10 : decode cX8_needName 10 = .ok (.getstatic 95, 3) := dk_178 0 95 (dk_at dksX8_needName_0 10 rfl rfl)
theorem dX8_needName_13 : decode cX8_needName 13 = .ok (.invokevirtual 99, 3) := dk_182 0 99 (dk_at dksX8_needName_0 13 rfl rfl)
theorem dX8_needName_16 : decode cX8_needName 16 = .ok (.ifCond .ne 7, 3) := dk_154 0 7 (dk_at dksX8_needName_0 16 rfl rfl)
theorem dX8_needName_19 : decode cX8_needName 19 = .ok (.iconst 1, 1) := dk_4 (dk_at dksX8_needName_0 19 rfl rfl)
theorem dX8_needName_20 : decode cX8_needName 20 = .ok (.goto 4, 3) := dk_167 0 4 (dk_at dksX8_needName_0 20 rfl rfl)
theorem dX8_needName_23 : decode cX8_needName 23 = .ok (.iconst 0, 1) := dk_3 (dk_at dksX8_needName_0 23 rfl rfl)
theorem dX8_needName_24 : decode cX8_needName 24 = .ok (.iconst 1, 1) := dk_4 (dk_at dksX8_needName_1 0 rfl rfl)
theorem dX8_needName_25 : decode cX8_needName 25 = .ok (.invokevirtual 88, 3) := dk_182 0 88 (dk_at dksX8_needName_1 1 rfl rfl)
theorem dX8_needName_28 : decode cX8_needName 28 = .ok (.return_, 1) := dk_177 (dk_at dksX8_needName_1 4 rfl rfl)
abbrev cX8_pass : ByteArray := prog_10_method_10_code
def yX8_pass : MethodName := ⟨RX8, "pass", "(I)V"⟩
def dkwX8_pass_0 : List UInt8 := [42, 42, 27, 182, 0, 85, 4, 182, 0, 88, 42, 182, 0, 92, 177]
abbrev dktX8_pass_0 : List UInt8 := dkwX8_pass_0 ++ []
theorem dksX8_pass_0 : cX8_pass.data.toList.drop 0 = dktX8_pass_0 := by decide +kernel
theorem dX8_pass_0 : decode cX8_pass 0 = .ok (.aload_n 0, 1) := dk_42 (dk_at dksX8_pass_0 0 rfl rfl)
theorem dX8_pass_1 : decode cX8_pass 1 = .ok (.aload_n 0, 1) := dk_42 (dk_at dksX8_pass_0 1 rfl rfl)
theorem dX8_pass_2 : decode cX8_pass 2 = .ok (.iload_n 1, 1) := dk_27 (dk_at dksX8_pass_0 2 rfl rfl)
theorem dX8_pass_3 : decode cX8_pass 3 = .ok (.invokevirtual 85, 3) := dk_182 0 85 (dk_at dksX8_pass_0 3 rfl rfl)
theorem dX8_pass_6 : decode cX8_pass 6 = .ok (.iconst 1, 1) := dk_4 (dk_at dksX8_pass_0 6 rfl rfl)
theorem dX8_pass_7 : decode cX8_pass 7 = .ok (.invokevirtual 88, 3) := dk_182 0 88 (dk_at dksX8_pass_0 7 rfl rfl)
theorem dX8_pass_10 : decode cX8_pass 10 = .ok (.aload_n 0, 1) := dk_42 (dk_at dksX8_pass_0 10 rfl rfl)
theorem dX8_pass_11 : decode cX8_pass 11 = .ok (.invokevirtual 92, 3) := dk_182 0 92 (dk_at dksX8_pass_0 11 rfl rfl)
theorem dX8_pass_14 : decode cX8_pass 14 = .ok (.return_, 1) := dk_177 (dk_at dksX8_pass_0 14 rfl rfl)
abbrev cX8_isSign : ByteArray := prog_10_method_9_code
def yX8_isSign : MethodName := ⟨RX8, "isSign", "(I)Z"⟩
def dkwX8_isSign_1 : List UInt8 := [3, 172]
abbrev dktX8_isSign_1 : List UInt8 := dkwX8_isSign_1 ++ []
def dkwX8_isSign_0 : List UInt8 := [42, 180, 0, 44, 7, 160, 0, 19, 42, 42, 180, 0, 41, 182, 0, 30, 27, 160, 0, 7, 4, 167, 0, 4]
abbrev dktX8_isSign_0 : List UInt8 := dkwX8_isSign_0 ++ dktX8_isSign_1
theorem dksX8_isSign_0 : cX8_isSign.data.toList.drop 0 = dktX8_isSign_0 := by decide +kernel
theorem dksX8_isSign_1 : cX8_isSign.data.toList.drop 24 = dktX8_isSign_1 := dk_seg dksX8_isSign_0 24 rfl rfl
theorem dX8_isSign_0 : decode cX8_isSign 0 = .ok (.aload_n 0, 1) := dk_42 (dk_at dksX8_isSign_0 0 rfl rfl)
theorem dX8_isSign_1 : decode cX8_isSign 1 = .ok (.getfield 44, 3) := dk_180 0 44 (dk_at dksX8_isSign_0 1 rfl rfl)
theorem dX8_isSign_4 : decode cX8_isSign 4 = .ok (.iconst 4, 1) := dk_7 (dk_at dksX8_isSign_0 4 rfl rfl)
theorem dX8_isSign_5 : decode cX8_isSign 5 = .ok (.if_icmp .ne 19, 3) := dk_160 0 19 (dk_at dksX8_isSign_0 5 rfl rfl)
theorem dX8_isSign_8 : decode cX8_isSign 8 = .ok (.aload_n 0, 1) := dk_42 (dk_at dksX8_isSign_0 8 rfl rfl)
theorem dX8_isSign_9 : decode cX8_isSign 9 = .ok (.aload_n 0, 1) := dk_42 (dk_at dksX8_isSign_0 9 rfl rfl)
theorem dX8_isSign_10 : decode cX8_isSign 10 = .ok (.getfield 41, 3) := dk_180 0 41 (dk_at dksX8_isSign_0 10 rfl rfl)
theorem dX8_isSign_13 : decode cX8_isSign 13 = .ok (.invokevirtual 30, 3) := dk_182 0 30 (dk_at dksX8_isSign_0 13 rfl rfl)
theorem dX8_isSign_16 : decode cX8_isSign 16 = .ok (.iload_n 1, 1) := dk_27 (dk_at dksX8_isSign_0 16 rfl rfl)
theorem dX8_isSign_17 : decode cX8_isSign 17 = .ok (.if_icmp .ne 7, 3) := dk_160 0 7 (dk_at dksX8_isSign_0 17 rfl rfl)
theorem dX8_isSign_20 : decode cX8_isSign 20 = .ok (.iconst 1, 1) := dk_4 (dk_at dksX8_isSign_0 20 rfl rfl)
theorem dX8_isSign_21 : decode cX8_isSign 21 = .ok (.goto 4, 3) := dk_167 0 4 (dk_at dksX8_isSign_0 21 rfl rfl)
theorem dX8_isSign_24 : decode cX8_isSign 24 = .ok (.iconst 0, 1) := dk_3 (dk_at dksX8_isSign_1 0 rfl rfl)
theorem dX8_isSign_25 : decode cX8_isSign 25 = .ok (.ireturn, 1) := dk_172 (dk_at dksX8_isSign_1 1 rfl rfl)
abbrev cX8_function : ByteArray := prog_10_method_13_code
def yX8_function : MethodName := ⟨RX8, "function", "()I"⟩
def dkwX8_function_1 : List UInt8 := [167, 0, 4, 3, 6, 182, 0, 88, 42, 182, 0, 92, 27, 172]
abbrev dktX8_function_1 : List UInt8 := dkwX8_function_1 ++ []
def dkwX8_function_0 : List UInt8 := [42, 182, 0, 103, 42, 180, 0, 18, 42, 180, 0, 51, 182, 0, 106, 60, 42, 27, 2, 159, 0, 7, 4]
abbrev dktX8_function_0 : List UInt8 := dkwX8_function_0 ++ dktX8_function_1
theorem dksX8_function_0 : cX8_function.data.toList.drop 0 = dktX8_function_0 := by decide +kernel
theorem dksX8_function_1 : cX8_function.data.toList.drop 23 = dktX8_function_1 := dk_seg dksX8_function_0 23 rfl rfl
theorem dX8_function_0 : decode cX8_function 0 = .ok (.aload_n 0, 1) := dk_42 (dk_at dksX8_function_0 0 rfl rfl)
theorem dX8_function_1 : decode cX8_function 1 = .ok (.invokevirtual 103, 3) := dk_182 0 103 (dk_at dksX8_function_0 1 rfl rfl)
theorem dX8_function_4 : decode cX8_function 4 = .ok (.aload_n 0, 1) := dk_42 (dk_at dksX8_function_0 4 rfl rfl)
theorem dX8_function_5 : decode cX8_function 5 = .ok (.getfield 18, 3) := dk_180 0 18 (dk_at dksX8_function_0 5 rfl rfl)
theorem dX8_function_8 : decode cX8_function 8 = .ok (.aload_n 0, 1) := dk_42 (dk_at dksX8_function_0 8 rfl rfl)
theorem dX8_function_9 : decode cX8_function 9 = .ok (.getfield 51, 3) := dk_180 0 51 (dk_at dksX8_function_0 9 rfl rfl)
theorem dX8_function_12 : decode cX8_function 12 = .ok (.invokevirtual 106, 3) := dk_182 0 106 (dk_at dksX8_function_0 12 rfl rfl)
theorem dX8_function_15 : decode cX8_function 15 = .ok (.istore_n 1, 1) := dk_60 (dk_at dksX8_function_0 15 rfl rfl)
theorem dX8_function_16 : decode cX8_function 16 = .ok (.aload_n 0, 1) := dk_42 (dk_at dksX8_function_0 16 rfl rfl)
theorem dX8_function_17 : decode cX8_function 17 = .ok (.iload_n 1, 1) := dk_27 (dk_at dksX8_function_0 17 rfl rfl)
theorem dX8_function_18 : decode cX8_function 18 = .ok (.iconst (-1), 1) := dk_2 (dk_at dksX8_function_0 18 rfl rfl)
theorem dX8_function_19 : decode cX8_function 19 = .ok (.if_icmp .eq 7, 3) := dk_159 0 7 (dk_at dksX8_function_0 19 rfl rfl)
theorem dX8_function_22 : decode cX8_function 22 = .ok (.iconst 1, 1) := dk_4 (dk_at dksX8_function_0 22 rfl rfl)
theorem dX8_function_23 : decode cX8_function 23 = .ok (.goto 4, 3) := dk_167 0 4 (dk_at dksX8_function_1 0 rfl rfl)
theorem dX8_function_26 : decode cX8_function 26 = .ok (.iconst 0, 1) := dk_3 (dk_at dksX8_function_1 3 rfl rfl)
theorem dX8_function_27 : decode cX8_function 27 = .ok (.iconst 3, 1) := dk_6 (dk_at dksX8_function_1 4 rfl rfl)
theorem dX8_function_28 : decode cX8_function 28 = .ok (.invokevirtual 88, 3) := dk_182 0 88 (dk_at dksX8_function_1 5 rfl rfl)
theorem dX8_function_31 : decode cX8_function 31 = .ok (.aload_n 0, 1) := dk_42 (dk_at dksX8_function_1 8 rfl rfl)
theorem dX8_function_32 : decode cX8_function 32 = .ok (.invokevirtual 92, 3) := dk_182 0 92 (dk_at dksX8_function_1 9 rfl rfl)
theorem dX8_function_35 : decode cX8_function 35 = .ok (.iload_n 1, 1) := dk_27 (dk_at dksX8_function_1 12 rfl rfl)
theorem dX8_function_36 : decode cX8_function 36 = .ok (.ireturn, 1) := dk_172 (dk_at dksX8_function_1 13 rfl rfl)
abbrev cX8_parts : ByteArray := prog_10_method_18_code
def yX8_parts : MethodName := ⟨RX8, "parts", "(I)[I"⟩
def dkwX8_parts_7 : List UInt8 := [44, 176]
abbrev dktX8_parts_7 : List UInt8 := dkwX8_parts_7 ++ []
def dkwX8_parts_6 : List UInt8 := [16, 41, 167, 0, 5, 16, 44, 182, 0, 85, 8, 182, 0, 88, 42, 182, 0, 92, 132, 3, 1, 167, 255, 174]
abbrev dktX8_parts_6 : List UInt8 := dkwX8_parts_6 ++ dktX8_parts_7
def dkwX8_parts_5 : List UInt8 := [16, 41, 182, 0, 85, 153, 0, 7, 4, 167, 0, 4, 3, 4, 182, 0, 88, 42, 42, 21, 4, 153, 0, 8]
abbrev dktX8_parts_5 : List UInt8 := dkwX8_parts_5 ++ dktX8_parts_6
def dkwX8_parts_4 : List UInt8 := [4, 100, 160, 0, 7, 4, 167, 0, 4, 3, 54, 4, 42, 42, 16, 44, 182, 0, 85, 154, 0, 12, 42]
abbrev dktX8_parts_4 : List UInt8 := dkwX8_parts_4 ++ dktX8_parts_5
def dkwX8_parts_3 : List UInt8 := [8, 182, 0, 88, 42, 182, 0, 92, 3, 62, 29, 27, 162, 0, 83, 44, 29, 42, 182, 0, 184, 79, 29, 27]
abbrev dktX8_parts_3 : List UInt8 := dkwX8_parts_3 ++ dktX8_parts_4
def dkwX8_parts_2 : List UInt8 := [42, 180, 0, 44, 4, 160, 0, 7, 4, 167, 0, 4, 3, 4, 182, 0, 88, 42, 42, 16, 40, 182, 0, 85]
abbrev dktX8_parts_2 : List UInt8 := dkwX8_parts_2 ++ dktX8_parts_3
def dkwX8_parts_1 : List UInt8 := [182, 0, 88, 44, 176, 42, 42, 16, 40, 182, 0, 85, 154, 0, 20, 42, 16, 59, 182, 0, 85, 154, 0, 11]
abbrev dktX8_parts_1 : List UInt8 := dkwX8_parts_1 ++ dktX8_parts_2
def dkwX8_parts_0 : List UInt8 := [27, 188, 10, 77, 27, 154, 0, 24, 42, 42, 16, 40, 182, 0, 85, 154, 0, 7, 4, 167, 0, 4, 3, 8]
abbrev dktX8_parts_0 : List UInt8 := dkwX8_parts_0 ++ dktX8_parts_1
theorem dksX8_parts_0 : cX8_parts.data.toList.drop 0 = dktX8_parts_0 := by decide +kernel
theorem dksX8_parts_1 : cX8_parts.data.toList.drop 24 = dktX8_parts_1 := dk_seg dksX8_parts_0 24 rfl rfl
theorem dksX8_parts_2 : cX8_parts.data.toList.drop 48 = dktX8_parts_2 := dk_seg dksX8_parts_1 24 rfl rfl
theorem dksX8_parts_3 : cX8_parts.data.toList.drop 72 = dktX8_parts_3 := dk_seg dksX8_parts_2 24 rfl rfl
theorem dksX8_parts_4 : cX8_parts.data.toList.drop 96 = dktX8_parts_4 := dk_seg dksX8_parts_3 24 rfl rfl
theorem dksX8_parts_5 : cX8_parts.data.toList.drop 119 = dktX8_parts_5 := dk_seg dksX8_parts_4 23 rfl rfl
theorem dksX8_parts_6 : cX8_parts.data.toList.drop 143 = dktX8_parts_6 := dk_seg dksX8_parts_5 24 rfl rfl
theorem dksX8_parts_7 : cX8_parts.data.toList.drop 167 = dktX8_parts_7 := dk_seg dksX8_parts_6 24 rfl rfl
theorem dX8_parts_0 : decode cX8_parts 0 = .ok (.iload_n 1, 1) := dk_27 (dk_at dksX8_parts_0 0 rfl rfl)
theorem dX8_parts_1 : decode cX8_parts 1 = .ok (.newarray .int, 2) := dk_188_10 (dk_at dksX8_parts_0 1 rfl rfl)
theorem dX8_parts_3 : decode cX8_parts 3 = .ok (.astore_n 2, 1) := dk_77 (dk_at dksX8_parts_0 3 rfl rfl)
theorem dX8_parts_4 : decode cX8_parts 4 = .ok (.iload_n 1, 1) := dk_27 (dk_at dksX8_parts_0 4 rfl rfl)
theorem dX8_parts_5 : decode cX8_parts 5 = .ok (.ifCond .ne 24, 3) := dk_154 0 24 (dk_at dksX8_parts_0 5 rfl rfl)
theorem dX8_parts_8 : decode cX8_parts 8 = .ok (.aload_n 0, 1) := dk_42 (dk_at dksX8_parts_0 8 rfl rfl)
theorem dX8_parts_9 : decode cX8_parts 9 = .ok (.aload_n 0, 1) := dk_42 (dk_at dksX8_parts_0 9 rfl rfl)
theorem dX8_parts_10 : decode cX8_parts 10 = .ok (.bipush 40, 2) := dk_16 40 (dk_at dksX8_parts_0 10 rfl rfl)
theorem dX8_parts_12 : decode cX8_parts 12 = .ok (.invokevirtual 85, 3) := dk_182 0 85 (dk_at dksX8_parts_0 12 rfl rfl)
theorem dX8_parts_15 : decode cX8_parts 15 = .ok (.ifCond .ne 7, 3) := dk_154 0 7 (dk_at dksX8_parts_0 15 rfl rfl)
theorem dX8_parts_18 : decode cX8_parts 18 = .ok (.iconst 1, 1) := dk_4 (dk_at dksX8_parts_0 18 rfl rfl)
theorem dX8_parts_19 : decode cX8_parts 19 = .ok (.goto 4, 3) := dk_167 0 4 (dk_at dksX8_parts_0 19 rfl rfl)
theorem dX8_parts_22 : decode cX8_parts 22 = .ok (.iconst 0, 1) := dk_3 (dk_at dksX8_parts_0 22 rfl rfl)
theorem dX8_parts_23 : decode cX8_parts 23 = .ok (.iconst 5, 1) := dk_8 (dk_at dksX8_parts_0 23 rfl rfl)
theorem dX8_parts_24 : decode cX8_parts 24 = .ok (.invokevirtual 88, 3) := dk_182 0 88 (dk_at dksX8_parts_1 0 rfl rfl)
theorem dX8_parts_27 : decode cX8_parts 27 = .ok (.aload_n 2, 1) := dk_44 (dk_at dksX8_parts_1 3 rfl rfl)
theorem dX8_parts_28 : decode cX8_parts 28 = .ok (.areturn, 1) := dk_176 (dk_at dksX8_parts_1 4 rfl rfl)
theorem dX8_parts_29 : decode cX8_parts 29 = .ok (.aload_n 0, 1) := dk_42 (dk_at dksX8_parts_1 5 rfl rfl)
theorem dX8_parts_30 : decode cX8_parts 30 = .ok (.aload_n 0, 1) := dk_42 (dk_at dksX8_parts_1 6 rfl rfl)
theorem dX8_parts_31 : decode cX8_parts 31 = .ok (.bipush 40, 2) := dk_16 40 (dk_at dksX8_parts_1 7 rfl rfl)
theorem dX8_parts_33 : decode cX8_parts 33 = .ok (.invokevirtual 85, 3) := dk_182 0 85 (dk_at dksX8_parts_1 9 rfl rfl)
theorem dX8_parts_36 : decode cX8_parts 36 = .ok (.ifCond .ne 20, 3) := dk_154 0 20 (dk_at dksX8_parts_1 12 rfl rfl)
theorem dX8_parts_39 : decode cX8_parts 39 = .ok (.aload_n 0, 1) := dk_42 (dk_at dksX8_parts_1 15 rfl rfl)
theorem dX8_parts_40 : decode cX8_parts 40 = .ok (.bipush 59, 2) := dk_16 59 (dk_at dksX8_parts_1 16 rfl rfl)
theorem dX8_parts_42 : decode cX8_parts 42 = .ok (.invokevirtual 85, 3) := dk_182 0 85 (dk_at dksX8_parts_1 18 rfl rfl)
theorem dX8_parts_45 : decode cX8_parts 45 = .ok (.ifCond .ne 11, 3) := dk_154 0 11 (dk_at dksX8_parts_1 21 rfl rfl)
theorem dX8_parts_48 : decode cX8_parts 48 = .ok (.aload_n 0, 1) := dk_42 (dk_at dksX8_parts_2 0 rfl rfl)
theorem dX8_parts_49 : decode cX8_parts 49 = .ok (.getfield 44, 3) := dk_180 0 44 (dk_at dksX8_parts_2 1 rfl rfl)
theorem dX8_parts_52 : decode cX8_parts 52 = .ok (.iconst 1, 1) := dk_4 (dk_at dksX8_parts_2 4 rfl rfl)
theorem dX8_parts_53 : decode cX8_parts 53 = .ok (.if_icmp .ne 7, 3) := dk_160 0 7 (dk_at dksX8_parts_2 5 rfl rfl)
theorem dX8_parts_56 : decode cX8_parts 56 = .ok (.iconst 1, 1) := dk_4 (dk_at dksX8_parts_2 8 rfl rfl)
theorem dX8_parts_57 : decode cX8_parts 57 = .ok (.goto 4, 3) := dk_167 0 4 (dk_at dksX8_parts_2 9 rfl rfl)
theorem dX8_parts_60 : decode cX8_parts 60 = .ok (.iconst 0, 1) := dk_3 (dk_at dksX8_parts_2 12 rfl rfl)
theorem dX8_parts_61 : decode cX8_parts 61 = .ok (.iconst 1, 1) := dk_4 (dk_at dksX8_parts_2 13 rfl rfl)
theorem dX8_parts_62 : decode cX8_parts 62 = .ok (.invokevirtual 88, 3) := dk_182 0 88 (dk_at dksX8_parts_2 14 rfl rfl)
theorem dX8_parts_65 : decode cX8_parts 65 = .ok (.aload_n 0, 1) := dk_42 (dk_at dksX8_parts_2 17 rfl rfl)
theorem dX8_parts_66 : decode cX8_parts 66 = .ok (.aload_n 0, 1) := dk_42 (dk_at dksX8_parts_2 18 rfl rfl)
theorem dX8_parts_67 : decode cX8_parts 67 = .ok (.bipush 40, 2) := dk_16 40 (dk_at dksX8_parts_2 19 rfl rfl)
theorem dX8_parts_69 : decode cX8_parts 69 = .ok (.invokevirtual 85, 3) := dk_182 0 85 (dk_at dksX8_parts_2 21 rfl rfl)
theorem dX8_parts_72 : decode cX8_parts 72 = .ok (.iconst 5, 1) := dk_8 (dk_at dksX8_parts_3 0 rfl rfl)
theorem dX8_parts_73 : decode cX8_parts 73 = .ok (.invokevirtual 88, 3) := dk_182 0 88 (dk_at dksX8_parts_3 1 rfl rfl)
theorem dX8_parts_76 : decode cX8_parts 76 = .ok (.aload_n 0, 1) := dk_42 (dk_at dksX8_parts_3 4 rfl rfl)
theorem dX8_parts_77 : decode cX8_parts 77 = .ok (.invokevirtual 92, 3) := dk_182 0 92 (dk_at dksX8_parts_3 5 rfl rfl)
theorem dX8_parts_80 : decode cX8_parts 80 = .ok (.iconst 0, 1) := dk_3 (dk_at dksX8_parts_3 8 rfl rfl)
theorem dX8_parts_81 : decode cX8_parts 81 = .ok (.istore_n 3, 1) := dk_62 (dk_at dksX8_parts_3 9 rfl rfl)
theorem dX8_parts_82 : decode cX8_parts 82 = .ok (.iload_n 3, 1) := dk_29 (dk_at dksX8_parts_3 10 rfl rfl)
theorem dX8_parts_83 : decode cX8_parts 83 = .ok (.iload_n 1, 1) := dk_27 (dk_at dksX8_parts_3 11 rfl rfl)
theorem dX8_parts_84 : decode cX8_parts 84 = .ok (.if_icmp .ge 83, 3) := dk_162 0 83 (dk_at dksX8_parts_3 12 rfl rfl)
theorem dX8_parts_87 : decode cX8_parts 87 = .ok (.aload_n 2, 1) := dk_44 (dk_at dksX8_parts_3 15 rfl rfl)
theorem dX8_parts_88 : decode cX8_parts 88 = .ok (.iload_n 3, 1) := dk_29 (dk_at dksX8_parts_3 16 rfl rfl)
theorem dX8_parts_89 : decode cX8_parts 89 = .ok (.aload_n 0, 1) := dk_42 (dk_at dksX8_parts_3 17 rfl rfl)
theorem dX8_parts_90 : decode cX8_parts 90 = .ok (.invokevirtual 184, 3) := dk_182 0 184 (dk_at dksX8_parts_3 18 rfl rfl)
theorem dX8_parts_93 : decode cX8_parts 93 = .ok (.iastore, 1) := dk_79 (dk_at dksX8_parts_3 21 rfl rfl)
theorem dX8_parts_94 : decode cX8_parts 94 = .ok (.iload_n 3, 1) := dk_29 (dk_at dksX8_parts_3 22 rfl rfl)
theorem dX8_parts_95 : decode cX8_parts 95 = .ok (.iload_n 1, 1) := dk_27 (dk_at dksX8_parts_3 23 rfl rfl)
theorem dX8_parts_96 : decode cX8_parts 96 = .ok (.iconst 1, 1) := dk_4 (dk_at dksX8_parts_4 0 rfl rfl)
theorem dX8_parts_97 : decode cX8_parts 97 = .ok (.isub, 1) := dk_100 (dk_at dksX8_parts_4 1 rfl rfl)
theorem dX8_parts_98 : decode cX8_parts 98 = .ok (.if_icmp .ne 7, 3) := dk_160 0 7 (dk_at dksX8_parts_4 2 rfl rfl)
theorem dX8_parts_101 : decode cX8_parts 101 = .ok (.iconst 1, 1) := dk_4 (dk_at dksX8_parts_4 5 rfl rfl)
theorem dX8_parts_102 : decode cX8_parts 102 = .ok (.goto 4, 3) := dk_167 0 4 (dk_at dksX8_parts_4 6 rfl rfl)
theorem dX8_parts_105 : decode cX8_parts 105 = .ok (.iconst 0, 1) := dk_3 (dk_at dksX8_parts_4 9 rfl rfl)
theorem dX8_parts_106 : decode cX8_parts 106 = .ok (.istore 4, 2) := dk_54 4 (dk_at dksX8_parts_4 10 rfl rfl)
theorem dX8_parts_108 : decode cX8_parts 108 = .ok (.aload_n 0, 1) := dk_42 (dk_at dksX8_parts_4 12 rfl rfl)
theorem dX8_parts_109 : decode cX8_parts 109 = .ok (.aload_n 0, 1) := dk_42 (dk_at dksX8_parts_4 13 rfl rfl)
theorem dX8_parts_110 : decode cX8_parts 110 = .ok (.bipush 44, 2) := dk_16 44 (dk_at dksX8_parts_4 14 rfl rfl)
theorem dX8_parts_112 : decode cX8_parts 112 = .ok (.invokevirtual 85, 3) := dk_182 0 85 (dk_at dksX8_parts_4 16 rfl rfl)
theorem dX8_parts_115 : decode cX8_parts 115 = .ok (.ifCond .ne 12, 3) := dk_154 0 12 (dk_at dksX8_parts_4 19 rfl rfl)
theorem dX8_parts_118 : decode cX8_parts 118 = .ok (.aload_n 0, 1) := dk_42 (dk_at dksX8_parts_4 22 rfl rfl)
theorem dX8_parts_119 : decode cX8_parts 119 = .ok (.bipush 41, 2) := dk_16 41 (dk_at dksX8_parts_5 0 rfl rfl)
theorem dX8_parts_121 : decode cX8_parts 121 = .ok (.invokevirtual 85, 3) := dk_182 0 85 (dk_at dksX8_parts_5 2 rfl rfl)
theorem dX8_parts_124 : decode cX8_parts 124 = .ok (.ifCond .eq 7, 3) := dk_153 0 7 (dk_at dksX8_parts_5 5 rfl rfl)
theorem dX8_parts_127 : decode cX8_parts 127 = .ok (.iconst 1, 1) := dk_4 (dk_at dksX8_parts_5 8 rfl rfl)
theorem dX8_parts_128 : decode cX8_parts 128 = .ok (.goto 4, 3) := dk_167 0 4 (dk_at dksX8_parts_5 9 rfl rfl)
theorem dX8_parts_131 : decode cX8_parts 131 = .ok (.iconst 0, 1) := dk_3 (dk_at dksX8_parts_5 12 rfl rfl)
theorem dX8_parts_132 : decode cX8_parts 132 = .ok (.iconst 1, 1) := dk_4 (dk_at dksX8_parts_5 13 rfl rfl)
theorem dX8_parts_133 : decode cX8_parts 133 = .ok (.invokevirtual 88, 3) := dk_182 0 88 (dk_at dksX8_parts_5 14 rfl rfl)
theorem dX8_parts_136 : decode cX8_parts 136 = .ok (.aload_n 0, 1) := dk_42 (dk_at dksX8_parts_5 17 rfl rfl)
theorem dX8_parts_137 : decode cX8_parts 137 = .ok (.aload_n 0, 1) := dk_42 (dk_at dksX8_parts_5 18 rfl rfl)
theorem dX8_parts_138 : decode cX8_parts 138 = .ok (.iload 4, 2) := dk_21 4 (dk_at dksX8_parts_5 19 rfl rfl)
theorem dX8_parts_140 : decode cX8_parts 140 = .ok (.ifCond .eq 8, 3) := dk_153 0 8 (dk_at dksX8_parts_5 21 rfl rfl)
theorem dX8_parts_143 : decode cX8_parts 143 = .ok (.bipush 41, 2) := dk_16 41 (dk_at dksX8_parts_6 0 rfl rfl)
theorem dX8_parts_145 : decode cX8_parts 145 = .ok (.goto 5, 3) := dk_167 0 5 (dk_at dksX8_parts_6 2 rfl rfl)
theorem dX8_parts_148 : decode cX8_parts 148 = .ok (.bipush 44, 2) := dk_16 44 (dk_at dksX8_parts_6 5 rfl rfl)
theorem dX8_parts_150 : decode cX8_parts 150 = .ok (.invokevirtual 85, 3) := dk_182 0 85 (dk_at dksX8_parts_6 7 rfl rfl)
theorem dX8_parts_153 : decode cX8_parts 153 = .ok (.iconst 5, 1) := dk_8 (dk_at dksX8_parts_6 10 rfl rfl)
theorem dX8_parts_154 : decode cX8_parts 154 = .ok (.invokevirtual 88, 3) := dk_182 0 88 (dk_at dksX8_parts_6 11 rfl rfl)
theorem dX8_parts_157 : decode cX8_parts 157 = .ok (.aload_n 0, 1) := dk_42 (dk_at dksX8_parts_6 14 rfl rfl)
theorem dX8_parts_158 : decode cX8_parts 158 = .ok (.invokevirtual 92, 3) := dk_182 0 92 (dk_at dksX8_parts_6 15 rfl rfl)
theorem dX8_parts_161 : decode cX8_parts 161 = .ok (.iinc 3 1, 3) := dk_132 3 1 (dk_at dksX8_parts_6 18 rfl rfl)
theorem dX8_parts_164 : decode cX8_parts 164 = .ok (.goto (-82), 3) := dk_167 255 174 (dk_at dksX8_parts_6 21 rfl rfl)
theorem dX8_parts_167 : decode cX8_parts 167 = .ok (.aload_n 2, 1) := dk_44 (dk_at dksX8_parts_7 0 rfl rfl)
theorem dX8_parts_168 : decode cX8_parts 168 = .ok (.areturn, 1) := dk_176 (dk_at dksX8_parts_7 1 rfl rfl)
abbrev cX8_term : ByteArray := prog_10_method_14_code
def yX8_term : MethodName := ⟨RX8, "term", "()I"⟩
def dkwX8_term_1 : List UInt8 := [167, 0, 4, 3, 6, 182, 0, 88, 42, 182, 0, 92, 27, 172]
abbrev dktX8_term_1 : List UInt8 := dkwX8_term_1 ++ []
def dkwX8_term_0 : List UInt8 := [42, 182, 0, 103, 42, 180, 0, 18, 42, 180, 0, 51, 182, 0, 110, 60, 42, 27, 2, 159, 0, 7, 4]
abbrev dktX8_term_0 : List UInt8 := dkwX8_term_0 ++ dktX8_term_1
theorem dksX8_term_0 : cX8_term.data.toList.drop 0 = dktX8_term_0 := by decide +kernel
theorem dksX8_term_1 : cX8_term.data.toList.drop 23 = dktX8_term_1 := dk_seg dksX8_term_0 23 rfl rfl
theorem dX8_term_0 : decode cX8_term 0 = .ok (.aload_n 0, 1) := dk_42 (dk_at dksX8_term_0 0 rfl rfl)
theorem dX8_term_1 : decode cX8_term 1 = .ok (.invokevirtual 103, 3) := dk_182 0 103 (dk_at dksX8_term_0 1 rfl rfl)
theorem dX8_term_4 : decode cX8_term 4 = .ok (.aload_n 0, 1) := dk_42 (dk_at dksX8_term_0 4 rfl rfl)
theorem dX8_term_5 : decode cX8_term 5 = .ok (.getfield 18, 3) := dk_180 0 18 (dk_at dksX8_term_0 5 rfl rfl)
theorem dX8_term_8 : decode cX8_term 8 = .ok (.aload_n 0, 1) := dk_42 (dk_at dksX8_term_0 8 rfl rfl)
theorem dX8_term_9 : decode cX8_term 9 = .ok (.getfield 51, 3) := dk_180 0 51 (dk_at dksX8_term_0 9 rfl rfl)
theorem dX8_term_12 : decode cX8_term 12 = .ok (.invokevirtual 110, 3) := dk_182 0 110 (dk_at dksX8_term_0 12 rfl rfl)
theorem dX8_term_15 : decode cX8_term 15 = .ok (.istore_n 1, 1) := dk_60 (dk_at dksX8_term_0 15 rfl rfl)
theorem dX8_term_16 : decode cX8_term 16 = .ok (.aload_n 0, 1) := dk_42 (dk_at dksX8_term_0 16 rfl rfl)
theorem dX8_term_17 : decode cX8_term 17 = .ok (.iload_n 1, 1) := dk_27 (dk_at dksX8_term_0 17 rfl rfl)
theorem dX8_term_18 : decode cX8_term 18 = .ok (.iconst (-1), 1) := dk_2 (dk_at dksX8_term_0 18 rfl rfl)
theorem dX8_term_19 : decode cX8_term 19 = .ok (.if_icmp .eq 7, 3) := dk_159 0 7 (dk_at dksX8_term_0 19 rfl rfl)
theorem dX8_term_22 : decode cX8_term 22 = .ok (.iconst 1, 1) := dk_4 (dk_at dksX8_term_0 22 rfl rfl)
theorem dX8_term_23 : decode cX8_term 23 = .ok (.goto 4, 3) := dk_167 0 4 (dk_at dksX8_term_1 0 rfl rfl)
theorem dX8_term_26 : decode cX8_term 26 = .ok (.iconst 0, 1) := dk_3 (dk_at dksX8_term_1 3 rfl rfl)
theorem dX8_term_27 : decode cX8_term 27 = .ok (.iconst 3, 1) := dk_6 (dk_at dksX8_term_1 4 rfl rfl)
theorem dX8_term_28 : decode cX8_term 28 = .ok (.invokevirtual 88, 3) := dk_182 0 88 (dk_at dksX8_term_1 5 rfl rfl)
theorem dX8_term_31 : decode cX8_term 31 = .ok (.aload_n 0, 1) := dk_42 (dk_at dksX8_term_1 8 rfl rfl)
theorem dX8_term_32 : decode cX8_term 32 = .ok (.invokevirtual 92, 3) := dk_182 0 92 (dk_at dksX8_term_1 9 rfl rfl)
theorem dX8_term_35 : decode cX8_term 35 = .ok (.iload_n 1, 1) := dk_27 (dk_at dksX8_term_1 12 rfl rfl)
theorem dX8_term_36 : decode cX8_term 36 = .ok (.ireturn, 1) := dk_172 (dk_at dksX8_term_1 13 rfl rfl)

abbrev cX9_init : ByteArray := prog_6_method_1_code
def yX9_init : MethodName := ⟨RX9, "<init>", "(II)V"⟩
def dkwX9_init_0 : List UInt8 := [42, 1, 1, 3, 3, 183, 0, 1, 42, 27, 181, 0, 7, 42, 28, 181, 0, 13, 177]
abbrev dktX9_init_0 : List UInt8 := dkwX9_init_0 ++ []
theorem dksX9_init_0 : cX9_init.data.toList.drop 0 = dktX9_init_0 := by decide +kernel
theorem dX9_init_0 : decode cX9_init 0 = .ok (.aload_n 0, 1) := dk_42 (dk_at dksX9_init_0 0 rfl rfl)
theorem dX9_init_1 : decode cX9_init 1 = .ok (.aconst_null, 1) := dk_1 (dk_at dksX9_init_0 1 rfl rfl)
theorem dX9_init_2 : decode cX9_init 2 = .ok (.aconst_null, 1) := dk_1 (dk_at dksX9_init_0 2 rfl rfl)
theorem dX9_init_3 : decode cX9_init 3 = .ok (.iconst 0, 1) := dk_3 (dk_at dksX9_init_0 3 rfl rfl)
theorem dX9_init_4 : decode cX9_init 4 = .ok (.iconst 0, 1) := dk_3 (dk_at dksX9_init_0 4 rfl rfl)
theorem dX9_init_5 : decode cX9_init 5 = .ok (.invokespecial 1, 3) := dk_183 0 1 (dk_at dksX9_init_0 5 rfl rfl)
theorem dX9_init_8 : decode cX9_init 8 = .ok (.aload_n 0, 1) := dk_42 (dk_at dksX9_init_0 8 rfl rfl)
theorem dX9_init_9 : decode cX9_init 9 = .ok (.iload_n 1, 1) := dk_27 (dk_at dksX9_init_0 9 rfl rfl)
theorem dX9_init_10 : decode cX9_init 10 = .ok (.putfield 7, 3) := dk_181 0 7 (dk_at dksX9_init_0 10 rfl rfl)
theorem dX9_init_13 : decode cX9_init 13 = .ok (.aload_n 0, 1) := dk_42 (dk_at dksX9_init_0 13 rfl rfl)
theorem dX9_init_14 : decode cX9_init 14 = .ok (.iload_n 2, 1) := dk_28 (dk_at dksX9_init_0 14 rfl rfl)
theorem dX9_init_15 : decode cX9_init 15 = .ok (.putfield 13, 3) := dk_181 0 13 (dk_at dksX9_init_0 15 rfl rfl)
theorem dX9_init_18 : decode cX9_init 18 = .ok (.return_, 1) := dk_177 (dk_at dksX9_init_0 18 rfl rfl)

abbrev cX10_init : ByteArray := prog_8_method_1_code
def yX10_init : MethodName := ⟨RX10, "<init>", "(JI)V"⟩
def dkwX10_init_0 : List UInt8 := [42, 183, 0, 1, 42, 31, 181, 0, 7, 42, 29, 181, 0, 13, 177]
abbrev dktX10_init_0 : List UInt8 := dkwX10_init_0 ++ []
theorem dksX10_init_0 : cX10_init.data.toList.drop 0 = dktX10_init_0 := by decide +kernel
theorem dX10_init_0 : decode cX10_init 0 = .ok (.aload_n 0, 1) := dk_42 (dk_at dksX10_init_0 0 rfl rfl)
theorem dX10_init_1 : decode cX10_init 1 = .ok (.invokespecial 1, 3) := dk_183 0 1 (dk_at dksX10_init_0 1 rfl rfl)
theorem dX10_init_4 : decode cX10_init 4 = .ok (.aload_n 0, 1) := dk_42 (dk_at dksX10_init_0 4 rfl rfl)
theorem dX10_init_5 : decode cX10_init 5 = .ok (.lload_n 1, 1) := dk_31 (dk_at dksX10_init_0 5 rfl rfl)
theorem dX10_init_6 : decode cX10_init 6 = .ok (.putfield 7, 3) := dk_181 0 7 (dk_at dksX10_init_0 6 rfl rfl)
theorem dX10_init_9 : decode cX10_init 9 = .ok (.aload_n 0, 1) := dk_42 (dk_at dksX10_init_0 9 rfl rfl)
theorem dX10_init_10 : decode cX10_init 10 = .ok (.iload_n 3, 1) := dk_29 (dk_at dksX10_init_0 10 rfl rfl)
theorem dX10_init_11 : decode cX10_init 11 = .ok (.putfield 13, 3) := dk_181 0 13 (dk_at dksX10_init_0 11 rfl rfl)
theorem dX10_init_14 : decode cX10_init 14 = .ok (.return_, 1) := dk_177 (dk_at dksX10_init_0 14 rfl rfl)

abbrev cX11_init : ByteArray := prog_12_method_2_code
def yX11_init : MethodName := ⟨RX11, "<init>", "(JLReasonCloser$Function;I[I)V"⟩
def dkwX11_init_1 : List UInt8 := [181, 0, 24, 177]
abbrev dktX11_init_1 : List UInt8 := dkwX11_init_1 ++ []
def dkwX11_init_0 : List UInt8 := [42, 183, 0, 7, 42, 31, 181, 0, 12, 42, 45, 181, 0, 16, 42, 21, 4, 181, 0, 20, 42, 25, 5]
abbrev dktX11_init_0 : List UInt8 := dkwX11_init_0 ++ dktX11_init_1
theorem dksX11_init_0 : cX11_init.data.toList.drop 0 = dktX11_init_0 := by decide +kernel
theorem dksX11_init_1 : cX11_init.data.toList.drop 23 = dktX11_init_1 := dk_seg dksX11_init_0 23 rfl rfl
theorem dX11_init_0 : decode cX11_init 0 = .ok (.aload_n 0, 1) := dk_42 (dk_at dksX11_init_0 0 rfl rfl)
theorem dX11_init_1 : decode cX11_init 1 = .ok (.invokespecial 7, 3) := dk_183 0 7 (dk_at dksX11_init_0 1 rfl rfl)
theorem dX11_init_4 : decode cX11_init 4 = .ok (.aload_n 0, 1) := dk_42 (dk_at dksX11_init_0 4 rfl rfl)
theorem dX11_init_5 : decode cX11_init 5 = .ok (.lload_n 1, 1) := dk_31 (dk_at dksX11_init_0 5 rfl rfl)
theorem dX11_init_6 : decode cX11_init 6 = .ok (.putfield 12, 3) := dk_181 0 12 (dk_at dksX11_init_0 6 rfl rfl)
theorem dX11_init_9 : decode cX11_init 9 = .ok (.aload_n 0, 1) := dk_42 (dk_at dksX11_init_0 9 rfl rfl)
theorem dX11_init_10 : decode cX11_init 10 = .ok (.aload_n 3, 1) := dk_45 (dk_at dksX11_init_0 10 rfl rfl)
theorem dX11_init_11 : decode cX11_init 11 = .ok (.putfield 16, 3) := dk_181 0 16 (dk_at dksX11_init_0 11 rfl rfl)
theorem dX11_init_14 : decode cX11_init 14 = .ok (.aload_n 0, 1) := dk_42 (dk_at dksX11_init_0 14 rfl rfl)
theorem dX11_init_15 : decode cX11_init 15 = .ok (.iload 4, 2) := dk_21 4 (dk_at dksX11_init_0 15 rfl rfl)
theorem dX11_init_17 : decode cX11_init 17 = .ok (.putfield 20, 3) := dk_181 0 20 (dk_at dksX11_init_0 17 rfl rfl)
theorem dX11_init_20 : decode cX11_init 20 = .ok (.aload_n 0, 1) := dk_42 (dk_at dksX11_init_0 20 rfl rfl)
theorem dX11_init_21 : decode cX11_init 21 = .ok (.aload 5, 2) := dk_25 5 (dk_at dksX11_init_0 21 rfl rfl)
theorem dX11_init_23 : decode cX11_init 23 = .ok (.putfield 24, 3) := dk_181 0 24 (dk_at dksX11_init_1 0 rfl rfl)
theorem dX11_init_26 : decode cX11_init 26 = .ok (.return_, 1) := dk_177 (dk_at dksX11_init_1 3 rfl rfl)
abbrev cX11_init_2 : ByteArray := prog_12_method_1_code
def yX11_init_2 : MethodName := ⟨RX11, "<init>", "(LReasonCloser$Function;I[I)V"⟩
def dkwX11_init_2_0 : List UInt8 := [42, 9, 43, 28, 45, 183, 0, 1, 177]
abbrev dktX11_init_2_0 : List UInt8 := dkwX11_init_2_0 ++ []
theorem dksX11_init_2_0 : cX11_init_2.data.toList.drop 0 = dktX11_init_2_0 := by decide +kernel
theorem dX11_init_2_0 : decode cX11_init_2 0 = .ok (.aload_n 0, 1) := dk_42 (dk_at dksX11_init_2_0 0 rfl rfl)
theorem dX11_init_2_1 : decode cX11_init_2 1 = .ok (.lconst 0, 1) := dk_9 (dk_at dksX11_init_2_0 1 rfl rfl)
theorem dX11_init_2_2 : decode cX11_init_2 2 = .ok (.aload_n 1, 1) := dk_43 (dk_at dksX11_init_2_0 2 rfl rfl)
theorem dX11_init_2_3 : decode cX11_init_2 3 = .ok (.iload_n 2, 1) := dk_28 (dk_at dksX11_init_2_0 3 rfl rfl)
theorem dX11_init_2_4 : decode cX11_init_2 4 = .ok (.aload_n 3, 1) := dk_45 (dk_at dksX11_init_2_0 4 rfl rfl)
theorem dX11_init_2_5 : decode cX11_init_2 5 = .ok (.invokespecial 1, 3) := dk_183 0 1 (dk_at dksX11_init_2_0 5 rfl rfl)
theorem dX11_init_2_8 : decode cX11_init_2 8 = .ok (.return_, 1) := dk_177 (dk_at dksX11_init_2_0 8 rfl rfl)

abbrev cX12_init : ByteArray := prog_5_method_1_code
def yX12_init : MethodName := ⟨RX12, "<init>", "(II)V"⟩
def dkwX12_init_0 : List UInt8 := [42, 183, 0, 1, 42, 27, 181, 0, 7, 42, 28, 181, 0, 13, 177]
abbrev dktX12_init_0 : List UInt8 := dkwX12_init_0 ++ []
theorem dksX12_init_0 : cX12_init.data.toList.drop 0 = dktX12_init_0 := by decide +kernel
theorem dX12_init_0 : decode cX12_init 0 = .ok (.aload_n 0, 1) := dk_42 (dk_at dksX12_init_0 0 rfl rfl)
theorem dX12_init_1 : decode cX12_init 1 = .ok (.invokespecial 1, 3) := dk_183 0 1 (dk_at dksX12_init_0 1 rfl rfl)
theorem dX12_init_4 : decode cX12_init 4 = .ok (.aload_n 0, 1) := dk_42 (dk_at dksX12_init_0 4 rfl rfl)
theorem dX12_init_5 : decode cX12_init 5 = .ok (.iload_n 1, 1) := dk_27 (dk_at dksX12_init_0 5 rfl rfl)
theorem dX12_init_6 : decode cX12_init 6 = .ok (.putfield 7, 3) := dk_181 0 7 (dk_at dksX12_init_0 6 rfl rfl)
theorem dX12_init_9 : decode cX12_init 9 = .ok (.aload_n 0, 1) := dk_42 (dk_at dksX12_init_0 9 rfl rfl)
theorem dX12_init_10 : decode cX12_init 10 = .ok (.iload_n 2, 1) := dk_28 (dk_at dksX12_init_0 10 rfl rfl)
theorem dX12_init_11 : decode cX12_init 11 = .ok (.putfield 13, 3) := dk_181 0 13 (dk_at dksX12_init_0 11 rfl rfl)
theorem dX12_init_14 : decode cX12_init 14 = .ok (.return_, 1) := dk_177 (dk_at dksX12_init_0 14 rfl rfl)

def RJ0 : String := "java/util/AbstractCollection"
abbrev cJ0_init : ByteArray := prog_34_method_1_code
def yJ0_init : MethodName := ⟨RJ0, "<init>", "()V"⟩
theorem dJ0_init_0 : decode cJ0_init 0 = .ok (.aload_n 0, 1) := by decide +kernel
theorem dJ0_init_1 : decode cJ0_init 1 = .ok (.invokespecial 1, 3) := by decide +kernel
theorem dJ0_init_4 : decode cJ0_init 4 = .ok (.return_, 1) := by decide +kernel

def RJ1 : String := "java/util/AbstractList"
abbrev cJ1_init : ByteArray := prog_35_method_1_code
def yJ1_init : MethodName := ⟨RJ1, "<init>", "()V"⟩
def dkwJ1_init_0 : List UInt8 := [42, 183, 0, 1, 42, 3, 181, 0, 7, 177]
abbrev dktJ1_init_0 : List UInt8 := dkwJ1_init_0 ++ []
theorem dksJ1_init_0 : cJ1_init.data.toList.drop 0 = dktJ1_init_0 := by decide +kernel
theorem dJ1_init_0 : decode cJ1_init 0 = .ok (.aload_n 0, 1) := dk_42 (dk_at dksJ1_init_0 0 rfl rfl)
theorem dJ1_init_1 : decode cJ1_init 1 = .ok (.invokespecial 1, 3) := dk_183 0 1 (dk_at dksJ1_init_0 1 rfl rfl)
theorem dJ1_init_4 : decode cJ1_init 4 = .ok (.aload_n 0, 1) := dk_42 (dk_at dksJ1_init_0 4 rfl rfl)
theorem dJ1_init_5 : decode cJ1_init 5 = .ok (.iconst 0, 1) := dk_3 (dk_at dksJ1_init_0 5 rfl rfl)
theorem dJ1_init_6 : decode cJ1_init 6 = .ok (.putfield 7, 3) := dk_181 0 7 (dk_at dksJ1_init_0 6 rfl rfl)
theorem dJ1_init_9 : decode cJ1_init 9 = .ok (.return_, 1) := dk_177 (dk_at dksJ1_init_0 9 rfl rfl)

abbrev cJ2_init : ByteArray := prog_36_method_1_code
def yJ2_init : MethodName := ⟨RJ2, "<init>", "(I)V"⟩
def dkwJ2_init_2 : List UInt8 := [182, 0, 25, 27, 182, 0, 29, 182, 0, 32, 183, 0, 36, 191, 177]
abbrev dktJ2_init_2 : List UInt8 := dkwJ2_init_2 ++ []
def dkwJ2_init_1 : List UInt8 := [178, 0, 15, 181, 0, 9, 167, 0, 30, 187, 0, 18, 89, 187, 0, 20, 89, 183, 0, 22, 18, 23]
abbrev dktJ2_init_1 : List UInt8 := dkwJ2_init_1 ++ dktJ2_init_2
def dkwJ2_init_0 : List UInt8 := [42, 183, 0, 1, 27, 158, 0, 14, 42, 27, 189, 0, 7, 181, 0, 9, 167, 0, 44, 27, 154, 0, 13, 42]
abbrev dktJ2_init_0 : List UInt8 := dkwJ2_init_0 ++ dktJ2_init_1
theorem dksJ2_init_0 : cJ2_init.data.toList.drop 0 = dktJ2_init_0 := by decide +kernel
theorem dksJ2_init_1 : cJ2_init.data.toList.drop 24 = dktJ2_init_1 := dk_seg dksJ2_init_0 24 rfl rfl
theorem dksJ2_init_2 : cJ2_init.data.toList.drop 46 = dktJ2_init_2 := dk_seg dksJ2_init_1 22 rfl rfl
theorem dJ2_init_0 : decode cJ2_init 0 = .ok (.aload_n 0, 1) := dk_42 (dk_at dksJ2_init_0 0 rfl rfl)
theorem dJ2_init_1 : decode cJ2_init 1 = .ok (.invokespecial 1, 3) := dk_183 0 1 (dk_at dksJ2_init_0 1 rfl rfl)
theorem dJ2_init_4 : decode cJ2_init 4 = .ok (.iload_n 1, 1) := dk_27 (dk_at dksJ2_init_0 4 rfl rfl)
theorem dJ2_init_5 : decode cJ2_init 5 = .ok (.ifCond .le 14, 3) := dk_158 0 14 (dk_at dksJ2_init_0 5 rfl rfl)
theorem dJ2_init_8 : decode cJ2_init 8 = .ok (.aload_n 0, 1) := dk_42 (dk_at dksJ2_init_0 8 rfl rfl)
theorem dJ2_init_9 : decode cJ2_init 9 = .ok (.iload_n 1, 1) := dk_27 (dk_at dksJ2_init_0 9 rfl rfl)
theorem dJ2_init_10 : decode cJ2_init 10 = .ok (.anewarray 7, 3) := dk_189 0 7 (dk_at dksJ2_init_0 10 rfl rfl)
theorem dJ2_init_13 : decode cJ2_init 13 = .ok (.putfield 9, 3) := dk_181 0 9 (dk_at dksJ2_init_0 13 rfl rfl)
theorem dJ2_init_16 : decode cJ2_init 16 = .ok (.goto 44, 3) := dk_167 0 44 (dk_at dksJ2_init_0 16 rfl rfl)
theorem dJ2_init_19 : decode cJ2_init 19 = .ok (.iload_n 1, 1) := dk_27 (dk_at dksJ2_init_0 19 rfl rfl)
theorem dJ2_init_20 : decode cJ2_init 20 = .ok (.ifCond .ne 13, 3) := dk_154 0 13 (dk_at dksJ2_init_0 20 rfl rfl)
theorem dJ2_init_23 : decode cJ2_init 23 = .ok (.aload_n 0, 1) := dk_42 (dk_at dksJ2_init_0 23 rfl rfl)
theorem dJ2_init_24 : decode cJ2_init 24 = .ok (.getstatic 15, 3) := dk_178 0 15 (dk_at dksJ2_init_1 0 rfl rfl)
theorem dJ2_init_27 : decode cJ2_init 27 = .ok (.putfield 9, 3) := dk_181 0 9 (dk_at dksJ2_init_1 3 rfl rfl)
theorem dJ2_init_30 : decode cJ2_init 30 = .ok (.goto 30, 3) := dk_167 0 30 (dk_at dksJ2_init_1 6 rfl rfl)
theorem dJ2_init_33 : decode cJ2_init 33 = .ok (.new 18, 3) := dk_187 0 18 (dk_at dksJ2_init_1 9 rfl rfl)
theorem dJ2_init_36 : decode cJ2_init 36 = .ok (.dup, 1) := dk_89 (dk_at dksJ2_init_1 12 rfl rfl)
theorem dJ2_init_37 : decode cJ2_init 37 = .ok (.new 20, 3) := dk_187 0 20 (dk_at dksJ2_init_1 13 rfl rfl)
theorem dJ2_init_40 : decode cJ2_init 40 = .ok (.dup, 1) := dk_89 (dk_at dksJ2_init_1 16 rfl rfl)
theorem dJ2_init_41 : decode cJ2_init 41 = .ok (.invokespecial 22, 3) := dk_183 0 22 (dk_at dksJ2_init_1 17 rfl rfl)
theorem dJ2_init_44 : decode cJ2_init 44 = .ok (.ldc 23, 2) := dk_18 23 (dk_at dksJ2_init_1 20 rfl rfl)
theorem dJ2_init_46 : decode cJ2_init 46 = .ok (.invokevirtual 25, 3) := dk_182 0 25 (dk_at dksJ2_init_2 0 rfl rfl)
theorem dJ2_init_49 : decode cJ2_init 49 = .ok (.iload_n 1, 1) := dk_27 (dk_at dksJ2_init_2 3 rfl rfl)
theorem dJ2_init_50 : decode cJ2_init 50 = .ok (.invokevirtual 29, 3) := dk_182 0 29 (dk_at dksJ2_init_2 4 rfl rfl)
theorem dJ2_init_53 : decode cJ2_init 53 = .ok (.invokevirtual 32, 3) := dk_182 0 32 (dk_at dksJ2_init_2 7 rfl rfl)
theorem dJ2_init_56 : decode cJ2_init 56 = .ok (.invokespecial 36, 3) := dk_183 0 36 (dk_at dksJ2_init_2 10 rfl rfl)
theorem dJ2_init_59 : decode cJ2_init 59 = .ok (.athrow, 1) := dk_191 (dk_at dksJ2_init_2 13 rfl rfl)
theorem dJ2_init_60 : decode cJ2_init 60 = .ok (.return_, 1) := dk_177 (dk_at dksJ2_init_2 14 rfl rfl)
abbrev cJ2_size : ByteArray := prog_36_method_8_code
def yJ2_size : MethodName := ⟨RJ2, "size", "()I"⟩
theorem dJ2_size_0 : decode cJ2_size 0 = .ok (.aload_n 0, 1) := by decide +kernel
theorem dJ2_size_1 : decode cJ2_size 1 = .ok (.getfield 48, 3) := by decide +kernel
theorem dJ2_size_4 : decode cJ2_size 4 = .ok (.ireturn, 1) := by decide +kernel
abbrev cJ2_get : ByteArray := prog_36_method_20_code
def yJ2_get : MethodName := ⟨RJ2, "get", "(I)Ljava/lang/Object;"⟩
def dkwJ2_get_0 : List UInt8 := [27, 42, 180, 0, 48, 184, 0, 118, 87, 42, 27, 182, 0, 123, 176]
abbrev dktJ2_get_0 : List UInt8 := dkwJ2_get_0 ++ []
theorem dksJ2_get_0 : cJ2_get.data.toList.drop 0 = dktJ2_get_0 := by decide +kernel
theorem dJ2_get_0 : decode cJ2_get 0 = .ok (.iload_n 1, 1) := dk_27 (dk_at dksJ2_get_0 0 rfl rfl)
theorem dJ2_get_1 : decode cJ2_get 1 = .ok (.aload_n 0, 1) := dk_42 (dk_at dksJ2_get_0 1 rfl rfl)
theorem dJ2_get_2 : decode cJ2_get 2 = .ok (.getfield 48, 3) := dk_180 0 48 (dk_at dksJ2_get_0 2 rfl rfl)
theorem dJ2_get_5 : decode cJ2_get 5 = .ok (.invokestatic 118, 3) := dk_184 0 118 (dk_at dksJ2_get_0 5 rfl rfl)
theorem dJ2_get_8 : decode cJ2_get 8 = .ok (.pop, 1) := dk_87 (dk_at dksJ2_get_0 8 rfl rfl)
theorem dJ2_get_9 : decode cJ2_get 9 = .ok (.aload_n 0, 1) := dk_42 (dk_at dksJ2_get_0 9 rfl rfl)
theorem dJ2_get_10 : decode cJ2_get 10 = .ok (.iload_n 1, 1) := dk_27 (dk_at dksJ2_get_0 10 rfl rfl)
theorem dJ2_get_11 : decode cJ2_get 11 = .ok (.invokevirtual 123, 3) := dk_182 0 123 (dk_at dksJ2_get_0 11 rfl rfl)
theorem dJ2_get_14 : decode cJ2_get 14 = .ok (.areturn, 1) := dk_176 (dk_at dksJ2_get_0 14 rfl rfl)
abbrev cJ2_elementData : ByteArray := prog_36_method_18_code
def yJ2_elementData : MethodName := ⟨RJ2, "elementData", "(I)Ljava/lang/Object;"⟩
def dkwJ2_elementData_0 : List UInt8 := [42, 180, 0, 9, 27, 50, 176]
abbrev dktJ2_elementData_0 : List UInt8 := dkwJ2_elementData_0 ++ []
theorem dksJ2_elementData_0 : cJ2_elementData.data.toList.drop 0 = dktJ2_elementData_0 := by decide +kernel
theorem dJ2_elementData_0 : decode cJ2_elementData 0 = .ok (.aload_n 0, 1) := dk_42 (dk_at dksJ2_elementData_0 0 rfl rfl)
theorem dJ2_elementData_1 : decode cJ2_elementData 1 = .ok (.getfield 9, 3) := dk_180 0 9 (dk_at dksJ2_elementData_0 1 rfl rfl)
theorem dJ2_elementData_4 : decode cJ2_elementData 4 = .ok (.iload_n 1, 1) := dk_27 (dk_at dksJ2_elementData_0 4 rfl rfl)
theorem dJ2_elementData_5 : decode cJ2_elementData 5 = .ok (.aaload, 1) := dk_50 (dk_at dksJ2_elementData_0 5 rfl rfl)
theorem dJ2_elementData_6 : decode cJ2_elementData 6 = .ok (.areturn, 1) := dk_176 (dk_at dksJ2_elementData_0 6 rfl rfl)
abbrev cJ2_add : ByteArray := prog_36_method_25_code
def yJ2_add : MethodName := ⟨RJ2, "add", "(Ljava/lang/Object;)Z"⟩
def dkwJ2_add_1 : List UInt8 := [172]
abbrev dktJ2_add_1 : List UInt8 := dkwJ2_add_1 ++ []
def dkwJ2_add_0 : List UInt8 := [42, 89, 180, 0, 63, 4, 96, 181, 0, 63, 42, 43, 42, 180, 0, 9, 42, 180, 0, 48, 182, 0, 131, 4]
abbrev dktJ2_add_0 : List UInt8 := dkwJ2_add_0 ++ dktJ2_add_1
theorem dksJ2_add_0 : cJ2_add.data.toList.drop 0 = dktJ2_add_0 := by decide +kernel
theorem dksJ2_add_1 : cJ2_add.data.toList.drop 24 = dktJ2_add_1 := dk_seg dksJ2_add_0 24 rfl rfl
theorem dJ2_add_0 : decode cJ2_add 0 = .ok (.aload_n 0, 1) := dk_42 (dk_at dksJ2_add_0 0 rfl rfl)
theorem dJ2_add_1 : decode cJ2_add 1 = .ok (.dup, 1) := dk_89 (dk_at dksJ2_add_0 1 rfl rfl)
theorem dJ2_add_2 : decode cJ2_add 2 = .ok (.getfield 63, 3) := dk_180 0 63 (dk_at dksJ2_add_0 2 rfl rfl)
theorem dJ2_add_5 : decode cJ2_add 5 = .ok (.iconst 1, 1) := dk_4 (dk_at dksJ2_add_0 5 rfl rfl)
theorem dJ2_add_6 : decode cJ2_add 6 = .ok (.iadd, 1) := dk_96 (dk_at dksJ2_add_0 6 rfl rfl)
theorem dJ2_add_7 : decode cJ2_add 7 = .ok (.putfield 63, 3) := dk_181 0 63 (dk_at dksJ2_add_0 7 rfl rfl)
theorem dJ2_add_10 : decode cJ2_add 10 = .ok (.aload_n 0, 1) := dk_42 (dk_at dksJ2_add_0 10 rfl rfl)
theorem dJ2_add_11 : decode cJ2_add 11 = .ok (.aload_n 1, 1) := dk_43 (dk_at dksJ2_add_0 11 rfl rfl)
theorem dJ2_add_12 : decode cJ2_add 12 = .ok (.aload_n 0, 1) := dk_42 (dk_at dksJ2_add_0 12 rfl rfl)
theorem dJ2_add_13 : decode cJ2_add 13 = .ok (.getfield 9, 3) := dk_180 0 9 (dk_at dksJ2_add_0 13 rfl rfl)
theorem dJ2_add_16 : decode cJ2_add 16 = .ok (.aload_n 0, 1) := dk_42 (dk_at dksJ2_add_0 16 rfl rfl)
theorem dJ2_add_17 : decode cJ2_add 17 = .ok (.getfield 48, 3) := dk_180 0 48 (dk_at dksJ2_add_0 17 rfl rfl)
theorem dJ2_add_20 : decode cJ2_add 20 = .ok (.invokevirtual 131, 3) := dk_182 0 131 (dk_at dksJ2_add_0 20 rfl rfl)
theorem dJ2_add_23 : decode cJ2_add 23 = .ok (.iconst 1, 1) := dk_4 (dk_at dksJ2_add_0 23 rfl rfl)
theorem dJ2_add_24 : decode cJ2_add 24 = .ok (.ireturn, 1) := dk_172 (dk_at dksJ2_add_1 0 rfl rfl)
abbrev cJ2_add_2 : ByteArray := prog_36_method_24_code
def yJ2_add_2 : MethodName := ⟨RJ2, "add", "(Ljava/lang/Object;[Ljava/lang/Object;I)V"⟩
def dkwJ2_add_2_0 : List UInt8 := [29, 44, 190, 160, 0, 8, 42, 182, 0, 129, 77, 44, 29, 43, 83, 42, 29, 4, 96, 181, 0, 48, 177]
abbrev dktJ2_add_2_0 : List UInt8 := dkwJ2_add_2_0 ++ []
theorem dksJ2_add_2_0 : cJ2_add_2.data.toList.drop 0 = dktJ2_add_2_0 := by decide +kernel
theorem dJ2_add_2_0 : decode cJ2_add_2 0 = .ok (.iload_n 3, 1) := dk_29 (dk_at dksJ2_add_2_0 0 rfl rfl)
theorem dJ2_add_2_1 : decode cJ2_add_2 1 = .ok (.aload_n 2, 1) := dk_44 (dk_at dksJ2_add_2_0 1 rfl rfl)
theorem dJ2_add_2_2 : decode cJ2_add_2 2 = .ok (.arraylength, 1) := dk_190 (dk_at dksJ2_add_2_0 2 rfl rfl)
theorem dJ2_add_2_3 : decode cJ2_add_2 3 = .ok (.if_icmp .ne 8, 3) := dk_160 0 8 (dk_at dksJ2_add_2_0 3 rfl rfl)
theorem dJ2_add_2_6 : decode cJ2_add_2 6 = .ok (.aload_n 0, 1) := dk_42 (dk_at dksJ2_add_2_0 6 rfl rfl)
theorem dJ2_add_2_7 : decode cJ2_add_2 7 = .ok (.invokevirtual 129, 3) := dk_182 0 129 (dk_at dksJ2_add_2_0 7 rfl rfl)
theorem dJ2_add_2_10 : decode cJ2_add_2 10 = .ok (.astore_n 2, 1) := dk_77 (dk_at dksJ2_add_2_0 10 rfl rfl)
theorem dJ2_add_2_11 : decode cJ2_add_2 11 = .ok (.aload_n 2, 1) := dk_44 (dk_at dksJ2_add_2_0 11 rfl rfl)
theorem dJ2_add_2_12 : decode cJ2_add_2 12 = .ok (.iload_n 3, 1) := dk_29 (dk_at dksJ2_add_2_0 12 rfl rfl)
theorem dJ2_add_2_13 : decode cJ2_add_2 13 = .ok (.aload_n 1, 1) := dk_43 (dk_at dksJ2_add_2_0 13 rfl rfl)
theorem dJ2_add_2_14 : decode cJ2_add_2 14 = .ok (.aastore, 1) := dk_83 (dk_at dksJ2_add_2_0 14 rfl rfl)
theorem dJ2_add_2_15 : decode cJ2_add_2 15 = .ok (.aload_n 0, 1) := dk_42 (dk_at dksJ2_add_2_0 15 rfl rfl)
theorem dJ2_add_2_16 : decode cJ2_add_2 16 = .ok (.iload_n 3, 1) := dk_29 (dk_at dksJ2_add_2_0 16 rfl rfl)
theorem dJ2_add_2_17 : decode cJ2_add_2 17 = .ok (.iconst 1, 1) := dk_4 (dk_at dksJ2_add_2_0 17 rfl rfl)
theorem dJ2_add_2_18 : decode cJ2_add_2 18 = .ok (.iadd, 1) := dk_96 (dk_at dksJ2_add_2_0 18 rfl rfl)
theorem dJ2_add_2_19 : decode cJ2_add_2 19 = .ok (.putfield 48, 3) := dk_181 0 48 (dk_at dksJ2_add_2_0 19 rfl rfl)
theorem dJ2_add_2_22 : decode cJ2_add_2 22 = .ok (.return_, 1) := dk_177 (dk_at dksJ2_add_2_0 22 rfl rfl)
abbrev cJ2_grow : ByteArray := prog_36_method_7_code
def yJ2_grow : MethodName := ⟨RJ2, "grow", "()[Ljava/lang/Object;"⟩
def dkwJ2_grow_0 : List UInt8 := [42, 42, 180, 0, 48, 4, 96, 182, 0, 69, 176]
abbrev dktJ2_grow_0 : List UInt8 := dkwJ2_grow_0 ++ []
theorem dksJ2_grow_0 : cJ2_grow.data.toList.drop 0 = dktJ2_grow_0 := by decide +kernel
theorem dJ2_grow_0 : decode cJ2_grow 0 = .ok (.aload_n 0, 1) := dk_42 (dk_at dksJ2_grow_0 0 rfl rfl)
theorem dJ2_grow_1 : decode cJ2_grow 1 = .ok (.aload_n 0, 1) := dk_42 (dk_at dksJ2_grow_0 1 rfl rfl)
theorem dJ2_grow_2 : decode cJ2_grow 2 = .ok (.getfield 48, 3) := dk_180 0 48 (dk_at dksJ2_grow_0 2 rfl rfl)
theorem dJ2_grow_5 : decode cJ2_grow 5 = .ok (.iconst 1, 1) := dk_4 (dk_at dksJ2_grow_0 5 rfl rfl)
theorem dJ2_grow_6 : decode cJ2_grow 6 = .ok (.iadd, 1) := dk_96 (dk_at dksJ2_grow_0 6 rfl rfl)
theorem dJ2_grow_7 : decode cJ2_grow 7 = .ok (.invokevirtual 69, 3) := dk_182 0 69 (dk_at dksJ2_grow_0 7 rfl rfl)
theorem dJ2_grow_10 : decode cJ2_grow 10 = .ok (.areturn, 1) := dk_176 (dk_at dksJ2_grow_0 10 rfl rfl)
abbrev cJ2_grow_2 : ByteArray := prog_36_method_6_code
def yJ2_grow_2 : MethodName := ⟨RJ2, "grow", "(I)[Ljava/lang/Object;"⟩
def dkwJ2_grow_2_2 : List UInt8 := [27, 184, 0, 79, 189, 0, 7, 90, 181, 0, 9, 176]
abbrev dktJ2_grow_2_2 : List UInt8 := dkwJ2_grow_2_2 ++ []
def dkwJ2_grow_2_1 : List UInt8 := [28, 4, 122, 184, 0, 73, 62, 42, 42, 180, 0, 9, 29, 184, 0, 66, 90, 181, 0, 9, 176, 42, 16, 10]
abbrev dktJ2_grow_2_1 : List UInt8 := dkwJ2_grow_2_1 ++ dktJ2_grow_2_2
def dkwJ2_grow_2_0 : List UInt8 := [42, 180, 0, 9, 190, 61, 28, 157, 0, 13, 42, 180, 0, 9, 178, 0, 39, 165, 0, 28, 28, 27, 28, 100]
abbrev dktJ2_grow_2_0 : List UInt8 := dkwJ2_grow_2_0 ++ dktJ2_grow_2_1
theorem dksJ2_grow_2_0 : cJ2_grow_2.data.toList.drop 0 = dktJ2_grow_2_0 := by decide +kernel
theorem dksJ2_grow_2_1 : cJ2_grow_2.data.toList.drop 24 = dktJ2_grow_2_1 := dk_seg dksJ2_grow_2_0 24 rfl rfl
theorem dksJ2_grow_2_2 : cJ2_grow_2.data.toList.drop 48 = dktJ2_grow_2_2 := dk_seg dksJ2_grow_2_1 24 rfl rfl
theorem dJ2_grow_2_0 : decode cJ2_grow_2 0 = .ok (.aload_n 0, 1) := dk_42 (dk_at dksJ2_grow_2_0 0 rfl rfl)
theorem dJ2_grow_2_1 : decode cJ2_grow_2 1 = .ok (.getfield 9, 3) := dk_180 0 9 (dk_at dksJ2_grow_2_0 1 rfl rfl)
theorem dJ2_grow_2_4 : decode cJ2_grow_2 4 = .ok (.arraylength, 1) := dk_190 (dk_at dksJ2_grow_2_0 4 rfl rfl)
theorem dJ2_grow_2_5 : decode cJ2_grow_2 5 = .ok (.istore_n 2, 1) := dk_61 (dk_at dksJ2_grow_2_0 5 rfl rfl)
theorem dJ2_grow_2_6 : decode cJ2_grow_2 6 = .ok (.iload_n 2, 1) := dk_28 (dk_at dksJ2_grow_2_0 6 rfl rfl)
theorem dJ2_grow_2_7 : decode cJ2_grow_2 7 = .ok (.ifCond .gt 13, 3) := dk_157 0 13 (dk_at dksJ2_grow_2_0 7 rfl rfl)
theorem dJ2_grow_2_10 : decode cJ2_grow_2 10 = .ok (.aload_n 0, 1) := dk_42 (dk_at dksJ2_grow_2_0 10 rfl rfl)
theorem dJ2_grow_2_11 : decode cJ2_grow_2 11 = .ok (.getfield 9, 3) := dk_180 0 9 (dk_at dksJ2_grow_2_0 11 rfl rfl)
theorem dJ2_grow_2_14 : decode cJ2_grow_2 14 = .ok (.getstatic 39, 3) := dk_178 0 39 (dk_at dksJ2_grow_2_0 14 rfl rfl)
theorem dJ2_grow_2_17 : decode cJ2_grow_2 17 = .ok (.if_acmp .eq 28, 3) := dk_165 0 28 (dk_at dksJ2_grow_2_0 17 rfl rfl)
theorem dJ2_grow_2_20 : decode cJ2_grow_2 20 = .ok (.iload_n 2, 1) := dk_28 (dk_at dksJ2_grow_2_0 20 rfl rfl)
theorem dJ2_grow_2_21 : decode cJ2_grow_2 21 = .ok (.iload_n 1, 1) := dk_27 (dk_at dksJ2_grow_2_0 21 rfl rfl)
theorem dJ2_grow_2_22 : decode cJ2_grow_2 22 = .ok (.iload_n 2, 1) := dk_28 (dk_at dksJ2_grow_2_0 22 rfl rfl)
theorem dJ2_grow_2_23 : decode cJ2_grow_2 23 = .ok (.isub, 1) := dk_100 (dk_at dksJ2_grow_2_0 23 rfl rfl)
theorem dJ2_grow_2_24 : decode cJ2_grow_2 24 = .ok (.iload_n 2, 1) := dk_28 (dk_at dksJ2_grow_2_1 0 rfl rfl)
theorem dJ2_grow_2_25 : decode cJ2_grow_2 25 = .ok (.iconst 1, 1) := dk_4 (dk_at dksJ2_grow_2_1 1 rfl rfl)
theorem dJ2_grow_2_26 : decode cJ2_grow_2 26 = .ok (.ishr, 1) := dk_122 (dk_at dksJ2_grow_2_1 2 rfl rfl)
theorem dJ2_grow_2_27 : decode cJ2_grow_2 27 = .ok (.invokestatic 73, 3) := dk_184 0 73 (dk_at dksJ2_grow_2_1 3 rfl rfl)
theorem dJ2_grow_2_30 : decode cJ2_grow_2 30 = .ok (.istore_n 3, 1) := dk_62 (dk_at dksJ2_grow_2_1 6 rfl rfl)
theorem dJ2_grow_2_31 : decode cJ2_grow_2 31 = .ok (.aload_n 0, 1) := dk_42 (dk_at dksJ2_grow_2_1 7 rfl rfl)
theorem dJ2_grow_2_32 : decode cJ2_grow_2 32 = .ok (.aload_n 0, 1) := dk_42 (dk_at dksJ2_grow_2_1 8 rfl rfl)
theorem dJ2_grow_2_33 : decode cJ2_grow_2 33 = .ok (.getfield 9, 3) := dk_180 0 9 (dk_at dksJ2_grow_2_1 9 rfl rfl)
theorem dJ2_grow_2_36 : decode cJ2_grow_2 36 = .ok (.iload_n 3, 1) := dk_29 (dk_at dksJ2_grow_2_1 12 rfl rfl)
theorem dJ2_grow_2_37 : decode cJ2_grow_2 37 = .ok (.invokestatic 66, 3) := dk_184 0 66 (dk_at dksJ2_grow_2_1 13 rfl rfl)
theorem dJ2_grow_2_40 : decode cJ2_grow_2 40 = .ok (.dup_x1, 1) := dk_90 (dk_at dksJ2_grow_2_1 16 rfl rfl)
theorem dJ2_grow_2_41 : decode cJ2_grow_2 41 = .ok (.putfield 9, 3) := dk_181 0 9 (dk_at dksJ2_grow_2_1 17 rfl rfl)
theorem dJ2_grow_2_44 : decode cJ2_grow_2 44 = .ok (.areturn, 1) := dk_176 (dk_at dksJ2_grow_2_1 20 rfl rfl)
theorem dJ2_grow_2_45 : decode cJ2_grow_2 45 = .ok (.aload_n 0, 1) := dk_42 (dk_at dksJ2_grow_2_1 21 rfl rfl)
theorem dJ2_grow_2_46 : decode cJ2_grow_2 46 = .ok (.bipush 10, 2) := dk_16 10 (dk_at dksJ2_grow_2_1 22 rfl rfl)
theorem dJ2_grow_2_48 : decode cJ2_grow_2 48 = .ok (.iload_n 1, 1) := dk_27 (dk_at dksJ2_grow_2_2 0 rfl rfl)
theorem dJ2_grow_2_49 : decode cJ2_grow_2 49 = .ok (.invokestatic 79, 3) := dk_184 0 79 (dk_at dksJ2_grow_2_2 1 rfl rfl)
theorem dJ2_grow_2_52 : decode cJ2_grow_2 52 = .ok (.anewarray 7, 3) := dk_189 0 7 (dk_at dksJ2_grow_2_2 4 rfl rfl)
theorem dJ2_grow_2_55 : decode cJ2_grow_2 55 = .ok (.dup_x1, 1) := dk_90 (dk_at dksJ2_grow_2_2 7 rfl rfl)
theorem dJ2_grow_2_56 : decode cJ2_grow_2 56 = .ok (.putfield 9, 3) := dk_181 0 9 (dk_at dksJ2_grow_2_2 8 rfl rfl)
theorem dJ2_grow_2_59 : decode cJ2_grow_2 59 = .ok (.areturn, 1) := dk_176 (dk_at dksJ2_grow_2_2 11 rfl rfl)
abbrev cJ2_iterator : ByteArray := prog_36_method_55_code
def yJ2_iterator : MethodName := ⟨RJ2, "iterator", "()Ljava/util/Iterator;"⟩
def dkwJ2_iterator_0 : List UInt8 := [187, 1, 11, 89, 42, 183, 1, 13, 176]
abbrev dktJ2_iterator_0 : List UInt8 := dkwJ2_iterator_0 ++ []
theorem dksJ2_iterator_0 : cJ2_iterator.data.toList.drop 0 = dktJ2_iterator_0 := by decide +kernel
theorem dJ2_iterator_0 : decode cJ2_iterator 0 = .ok (.new 267, 3) := dk_187 1 11 (dk_at dksJ2_iterator_0 0 rfl rfl)
theorem dJ2_iterator_3 : decode cJ2_iterator 3 = .ok (.dup, 1) := dk_89 (dk_at dksJ2_iterator_0 3 rfl rfl)
theorem dJ2_iterator_4 : decode cJ2_iterator 4 = .ok (.aload_n 0, 1) := dk_42 (dk_at dksJ2_iterator_0 4 rfl rfl)
theorem dJ2_iterator_5 : decode cJ2_iterator 5 = .ok (.invokespecial 269, 3) := dk_183 1 13 (dk_at dksJ2_iterator_0 5 rfl rfl)
theorem dJ2_iterator_8 : decode cJ2_iterator 8 = .ok (.areturn, 1) := dk_176 (dk_at dksJ2_iterator_0 8 rfl rfl)
abbrev cJ2_remove : ByteArray := prog_36_method_29_code
def yJ2_remove : MethodName := ⟨RJ2, "remove", "(I)Ljava/lang/Object;"⟩
def dkwJ2_remove_1 : List UInt8 := [45, 176]
abbrev dktJ2_remove_1 : List UInt8 := dkwJ2_remove_1 ++ []
def dkwJ2_remove_0 : List UInt8 := [27, 42, 180, 0, 48, 184, 0, 118, 87, 42, 180, 0, 9, 77, 44, 27, 50, 78, 42, 44, 27, 182, 0, 144]
abbrev dktJ2_remove_0 : List UInt8 := dkwJ2_remove_0 ++ dktJ2_remove_1
theorem dksJ2_remove_0 : cJ2_remove.data.toList.drop 0 = dktJ2_remove_0 := by decide +kernel
theorem dksJ2_remove_1 : cJ2_remove.data.toList.drop 24 = dktJ2_remove_1 := dk_seg dksJ2_remove_0 24 rfl rfl
theorem dJ2_remove_0 : decode cJ2_remove 0 = .ok (.iload_n 1, 1) := dk_27 (dk_at dksJ2_remove_0 0 rfl rfl)
theorem dJ2_remove_1 : decode cJ2_remove 1 = .ok (.aload_n 0, 1) := dk_42 (dk_at dksJ2_remove_0 1 rfl rfl)
theorem dJ2_remove_2 : decode cJ2_remove 2 = .ok (.getfield 48, 3) := dk_180 0 48 (dk_at dksJ2_remove_0 2 rfl rfl)
theorem dJ2_remove_5 : decode cJ2_remove 5 = .ok (.invokestatic 118, 3) := dk_184 0 118 (dk_at dksJ2_remove_0 5 rfl rfl)
theorem dJ2_remove_8 : decode cJ2_remove 8 = .ok (.pop, 1) := dk_87 (dk_at dksJ2_remove_0 8 rfl rfl)
theorem dJ2_remove_9 : decode cJ2_remove 9 = .ok (.aload_n 0, 1) := dk_42 (dk_at dksJ2_remove_0 9 rfl rfl)
theorem dJ2_remove_10 : decode cJ2_remove 10 = .ok (.getfield 9, 3) := dk_180 0 9 (dk_at dksJ2_remove_0 10 rfl rfl)
theorem dJ2_remove_13 : decode cJ2_remove 13 = .ok (.astore_n 2, 1) := dk_77 (dk_at dksJ2_remove_0 13 rfl rfl)
theorem dJ2_remove_14 : decode cJ2_remove 14 = .ok (.aload_n 2, 1) := dk_44 (dk_at dksJ2_remove_0 14 rfl rfl)
theorem dJ2_remove_15 : decode cJ2_remove 15 = .ok (.iload_n 1, 1) := dk_27 (dk_at dksJ2_remove_0 15 rfl rfl)
theorem dJ2_remove_16 : decode cJ2_remove 16 = .ok (.aaload, 1) := dk_50 (dk_at dksJ2_remove_0 16 rfl rfl)
theorem dJ2_remove_17 : decode cJ2_remove 17 = .ok (.astore_n 3, 1) := dk_78 (dk_at dksJ2_remove_0 17 rfl rfl)
theorem dJ2_remove_18 : decode cJ2_remove 18 = .ok (.aload_n 0, 1) := dk_42 (dk_at dksJ2_remove_0 18 rfl rfl)
theorem dJ2_remove_19 : decode cJ2_remove 19 = .ok (.aload_n 2, 1) := dk_44 (dk_at dksJ2_remove_0 19 rfl rfl)
theorem dJ2_remove_20 : decode cJ2_remove 20 = .ok (.iload_n 1, 1) := dk_27 (dk_at dksJ2_remove_0 20 rfl rfl)
theorem dJ2_remove_21 : decode cJ2_remove 21 = .ok (.invokevirtual 144, 3) := dk_182 0 144 (dk_at dksJ2_remove_0 21 rfl rfl)
theorem dJ2_remove_24 : decode cJ2_remove 24 = .ok (.aload_n 3, 1) := dk_45 (dk_at dksJ2_remove_1 0 rfl rfl)
theorem dJ2_remove_25 : decode cJ2_remove 25 = .ok (.areturn, 1) := dk_176 (dk_at dksJ2_remove_1 1 rfl rfl)
abbrev cJ2_fastRemove : ByteArray := prog_36_method_39_code
def yJ2_fastRemove : MethodName := ⟨RJ2, "fastRemove", "([Ljava/lang/Object;I)V"⟩
def dkwJ2_fastRemove_1 : List UInt8 := [4, 96, 43, 28, 29, 28, 100, 184, 0, 112, 43, 42, 29, 90, 181, 0, 48, 1, 83, 177]
abbrev dktJ2_fastRemove_1 : List UInt8 := dkwJ2_fastRemove_1 ++ []
def dkwJ2_fastRemove_0 : List UInt8 := [42, 89, 180, 0, 63, 4, 96, 181, 0, 63, 42, 180, 0, 48, 4, 100, 89, 62, 28, 164, 0, 15, 43, 28]
abbrev dktJ2_fastRemove_0 : List UInt8 := dkwJ2_fastRemove_0 ++ dktJ2_fastRemove_1
theorem dksJ2_fastRemove_0 : cJ2_fastRemove.data.toList.drop 0 = dktJ2_fastRemove_0 := by decide +kernel
theorem dksJ2_fastRemove_1 : cJ2_fastRemove.data.toList.drop 24 = dktJ2_fastRemove_1 := dk_seg dksJ2_fastRemove_0 24 rfl rfl
theorem dJ2_fastRemove_0 : decode cJ2_fastRemove 0 = .ok (.aload_n 0, 1) := dk_42 (dk_at dksJ2_fastRemove_0 0 rfl rfl)
theorem dJ2_fastRemove_1 : decode cJ2_fastRemove 1 = .ok (.dup, 1) := dk_89 (dk_at dksJ2_fastRemove_0 1 rfl rfl)
theorem dJ2_fastRemove_2 : decode cJ2_fastRemove 2 = .ok (.getfield 63, 3) := dk_180 0 63 (dk_at dksJ2_fastRemove_0 2 rfl rfl)
theorem dJ2_fastRemove_5 : decode cJ2_fastRemove 5 = .ok (.iconst 1, 1) := dk_4 (dk_at dksJ2_fastRemove_0 5 rfl rfl)
theorem dJ2_fastRemove_6 : decode cJ2_fastRemove 6 = .ok (.iadd, 1) := dk_96 (dk_at dksJ2_fastRemove_0 6 rfl rfl)
theorem dJ2_fastRemove_7 : decode cJ2_fastRemove 7 = .ok (.putfield 63, 3) := dk_181 0 63 (dk_at dksJ2_fastRemove_0 7 rfl rfl)
theorem dJ2_fastRemove_10 : decode cJ2_fastRemove 10 = .ok (.aload_n 0, 1) := dk_42 (dk_at dksJ2_fastRemove_0 10 rfl rfl)
theorem dJ2_fastRemove_11 : decode cJ2_fastRemove 11 = .ok (.getfield 48, 3) := dk_180 0 48 (dk_at dksJ2_fastRemove_0 11 rfl rfl)
theorem dJ2_fastRemove_14 : decode cJ2_fastRemove 14 = .ok (.iconst 1, 1) := dk_4 (dk_at dksJ2_fastRemove_0 14 rfl rfl)
theorem dJ2_fastRemove_15 : decode cJ2_fastRemove 15 = .ok (.isub, 1) := dk_100 (dk_at dksJ2_fastRemove_0 15 rfl rfl)
theorem dJ2_fastRemove_16 : decode cJ2_fastRemove 16 = .ok (.dup, 1) := dk_89 (dk_at dksJ2_fastRemove_0 16 rfl rfl)
theorem dJ2_fastRemove_17 : decode cJ2_fastRemove 17 = .ok (.istore_n 3, 1) := dk_62 (dk_at dksJ2_fastRemove_0 17 rfl rfl)
theorem dJ2_fastRemove_18 : decode cJ2_fastRemove 18 = .ok (.iload_n 2, 1) := dk_28 (dk_at dksJ2_fastRemove_0 18 rfl rfl)
theorem dJ2_fastRemove_19 : decode cJ2_fastRemove 19 = .ok (.if_icmp .le 15, 3) := dk_164 0 15 (dk_at dksJ2_fastRemove_0 19 rfl rfl)
theorem dJ2_fastRemove_22 : decode cJ2_fastRemove 22 = .ok (.aload_n 1, 1) := dk_43 (dk_at dksJ2_fastRemove_0 22 rfl rfl)
theorem dJ2_fastRemove_23 : decode cJ2_fastRemove 23 = .ok (.iload_n 2, 1) := dk_28 (dk_at dksJ2_fastRemove_0 23 rfl rfl)
theorem dJ2_fastRemove_24 : decode cJ2_fastRemove 24 = .ok (.iconst 1, 1) := dk_4 (dk_at dksJ2_fastRemove_1 0 rfl rfl)
theorem dJ2_fastRemove_25 : decode cJ2_fastRemove 25 = .ok (.iadd, 1) := dk_96 (dk_at dksJ2_fastRemove_1 1 rfl rfl)
theorem dJ2_fastRemove_26 : decode cJ2_fastRemove 26 = .ok (.aload_n 1, 1) := dk_43 (dk_at dksJ2_fastRemove_1 2 rfl rfl)
theorem dJ2_fastRemove_27 : decode cJ2_fastRemove 27 = .ok (.iload_n 2, 1) := dk_28 (dk_at dksJ2_fastRemove_1 3 rfl rfl)
theorem dJ2_fastRemove_28 : decode cJ2_fastRemove 28 = .ok (.iload_n 3, 1) := dk_29 (dk_at dksJ2_fastRemove_1 4 rfl rfl)
theorem dJ2_fastRemove_29 : decode cJ2_fastRemove 29 = .ok (.iload_n 2, 1) := dk_28 (dk_at dksJ2_fastRemove_1 5 rfl rfl)
theorem dJ2_fastRemove_30 : decode cJ2_fastRemove 30 = .ok (.isub, 1) := dk_100 (dk_at dksJ2_fastRemove_1 6 rfl rfl)
theorem dJ2_fastRemove_31 : decode cJ2_fastRemove 31 = .ok (.invokestatic 112, 3) := dk_184 0 112 (dk_at dksJ2_fastRemove_1 7 rfl rfl)
theorem dJ2_fastRemove_34 : decode cJ2_fastRemove 34 = .ok (.aload_n 1, 1) := dk_43 (dk_at dksJ2_fastRemove_1 10 rfl rfl)
theorem dJ2_fastRemove_35 : decode cJ2_fastRemove 35 = .ok (.aload_n 0, 1) := dk_42 (dk_at dksJ2_fastRemove_1 11 rfl rfl)
theorem dJ2_fastRemove_36 : decode cJ2_fastRemove 36 = .ok (.iload_n 3, 1) := dk_29 (dk_at dksJ2_fastRemove_1 12 rfl rfl)
theorem dJ2_fastRemove_37 : decode cJ2_fastRemove 37 = .ok (.dup_x1, 1) := dk_90 (dk_at dksJ2_fastRemove_1 13 rfl rfl)
theorem dJ2_fastRemove_38 : decode cJ2_fastRemove 38 = .ok (.putfield 48, 3) := dk_181 0 48 (dk_at dksJ2_fastRemove_1 14 rfl rfl)
theorem dJ2_fastRemove_41 : decode cJ2_fastRemove 41 = .ok (.aconst_null, 1) := dk_1 (dk_at dksJ2_fastRemove_1 17 rfl rfl)
theorem dJ2_fastRemove_42 : decode cJ2_fastRemove 42 = .ok (.aastore, 1) := dk_83 (dk_at dksJ2_fastRemove_1 18 rfl rfl)
theorem dJ2_fastRemove_43 : decode cJ2_fastRemove 43 = .ok (.return_, 1) := dk_177 (dk_at dksJ2_fastRemove_1 19 rfl rfl)

def RJ3 : String := "java/lang/String"
abbrev cJ3_indexOf : ByteArray := prog_27_method_79_code
def yJ3_indexOf : MethodName := ⟨RJ3, "indexOf", "(I)I"⟩
def dkwJ3_indexOf_0 : List UInt8 := [42, 27, 3, 182, 2, 121, 172]
abbrev dktJ3_indexOf_0 : List UInt8 := dkwJ3_indexOf_0 ++ []
theorem dksJ3_indexOf_0 : cJ3_indexOf.data.toList.drop 0 = dktJ3_indexOf_0 := by decide +kernel
theorem dJ3_indexOf_0 : decode cJ3_indexOf 0 = .ok (.aload_n 0, 1) := dk_42 (dk_at dksJ3_indexOf_0 0 rfl rfl)
theorem dJ3_indexOf_1 : decode cJ3_indexOf 1 = .ok (.iload_n 1, 1) := dk_27 (dk_at dksJ3_indexOf_0 1 rfl rfl)
theorem dJ3_indexOf_2 : decode cJ3_indexOf 2 = .ok (.iconst 0, 1) := dk_3 (dk_at dksJ3_indexOf_0 2 rfl rfl)
theorem dJ3_indexOf_3 : decode cJ3_indexOf 3 = .ok (.invokevirtual 633, 3) := dk_182 2 121 (dk_at dksJ3_indexOf_0 3 rfl rfl)
theorem dJ3_indexOf_6 : decode cJ3_indexOf 6 = .ok (.ireturn, 1) := dk_172 (dk_at dksJ3_indexOf_0 6 rfl rfl)
abbrev cJ3_indexOf_2 : ByteArray := prog_27_method_80_code
def yJ3_indexOf_2 : MethodName := ⟨RJ3, "indexOf", "(II)I"⟩
def dkwJ3_indexOf_2_1 : List UInt8 := [180, 0, 9, 27, 28, 42, 182, 1, 249, 184, 2, 128, 172]
abbrev dktJ3_indexOf_2_1 : List UInt8 := dkwJ3_indexOf_2_1 ++ []
def dkwJ3_indexOf_2_0 : List UInt8 := [42, 182, 1, 236, 153, 0, 19, 42, 180, 0, 9, 27, 28, 42, 182, 1, 249, 184, 2, 125, 167, 0, 16, 42]
abbrev dktJ3_indexOf_2_0 : List UInt8 := dkwJ3_indexOf_2_0 ++ dktJ3_indexOf_2_1
theorem dksJ3_indexOf_2_0 : cJ3_indexOf_2.data.toList.drop 0 = dktJ3_indexOf_2_0 := by decide +kernel
theorem dksJ3_indexOf_2_1 : cJ3_indexOf_2.data.toList.drop 24 = dktJ3_indexOf_2_1 := dk_seg dksJ3_indexOf_2_0 24 rfl rfl
theorem dJ3_indexOf_2_0 : decode cJ3_indexOf_2 0 = .ok (.aload_n 0, 1) := dk_42 (dk_at dksJ3_indexOf_2_0 0 rfl rfl)
theorem dJ3_indexOf_2_1 : decode cJ3_indexOf_2 1 = .ok (.invokevirtual 492, 3) := dk_182 1 236 (dk_at dksJ3_indexOf_2_0 1 rfl rfl)
theorem dJ3_indexOf_2_4 : decode cJ3_indexOf_2 4 = .ok (.ifCond .eq 19, 3) := dk_153 0 19 (dk_at dksJ3_indexOf_2_0 4 rfl rfl)
theorem dJ3_indexOf_2_7 : decode cJ3_indexOf_2 7 = .ok (.aload_n 0, 1) := dk_42 (dk_at dksJ3_indexOf_2_0 7 rfl rfl)
theorem dJ3_indexOf_2_8 : decode cJ3_indexOf_2 8 = .ok (.getfield 9, 3) := dk_180 0 9 (dk_at dksJ3_indexOf_2_0 8 rfl rfl)
theorem dJ3_indexOf_2_11 : decode cJ3_indexOf_2 11 = .ok (.iload_n 1, 1) := dk_27 (dk_at dksJ3_indexOf_2_0 11 rfl rfl)
theorem dJ3_indexOf_2_12 : decode cJ3_indexOf_2 12 = .ok (.iload_n 2, 1) := dk_28 (dk_at dksJ3_indexOf_2_0 12 rfl rfl)
theorem dJ3_indexOf_2_13 : decode cJ3_indexOf_2 13 = .ok (.aload_n 0, 1) := dk_42 (dk_at dksJ3_indexOf_2_0 13 rfl rfl)
theorem dJ3_indexOf_2_14 : decode cJ3_indexOf_2 14 = .ok (.invokevirtual 505, 3) := dk_182 1 249 (dk_at dksJ3_indexOf_2_0 14 rfl rfl)
theorem dJ3_indexOf_2_17 : decode cJ3_indexOf_2 17 = .ok (.invokestatic 637, 3) := dk_184 2 125 (dk_at dksJ3_indexOf_2_0 17 rfl rfl)
theorem dJ3_indexOf_2_20 : decode cJ3_indexOf_2 20 = .ok (.goto 16, 3) := dk_167 0 16 (dk_at dksJ3_indexOf_2_0 20 rfl rfl)
theorem dJ3_indexOf_2_23 : decode cJ3_indexOf_2 23 = .ok (.aload_n 0, 1) := dk_42 (dk_at dksJ3_indexOf_2_0 23 rfl rfl)
theorem dJ3_indexOf_2_24 : decode cJ3_indexOf_2 24 = .ok (.getfield 9, 3) := dk_180 0 9 (dk_at dksJ3_indexOf_2_1 0 rfl rfl)
theorem dJ3_indexOf_2_27 : decode cJ3_indexOf_2 27 = .ok (.iload_n 1, 1) := dk_27 (dk_at dksJ3_indexOf_2_1 3 rfl rfl)
theorem dJ3_indexOf_2_28 : decode cJ3_indexOf_2 28 = .ok (.iload_n 2, 1) := dk_28 (dk_at dksJ3_indexOf_2_1 4 rfl rfl)
theorem dJ3_indexOf_2_29 : decode cJ3_indexOf_2 29 = .ok (.aload_n 0, 1) := dk_42 (dk_at dksJ3_indexOf_2_1 5 rfl rfl)
theorem dJ3_indexOf_2_30 : decode cJ3_indexOf_2 30 = .ok (.invokevirtual 505, 3) := dk_182 1 249 (dk_at dksJ3_indexOf_2_1 6 rfl rfl)
theorem dJ3_indexOf_2_33 : decode cJ3_indexOf_2 33 = .ok (.invokestatic 640, 3) := dk_184 2 128 (dk_at dksJ3_indexOf_2_1 9 rfl rfl)
theorem dJ3_indexOf_2_36 : decode cJ3_indexOf_2 36 = .ok (.ireturn, 1) := dk_172 (dk_at dksJ3_indexOf_2_1 12 rfl rfl)
abbrev cJ3_isLatin1 : ByteArray := prog_27_method_154_code
def yJ3_isLatin1 : MethodName := ⟨RJ3, "isLatin1", "()Z"⟩
def dkwJ3_isLatin1_0 : List UInt8 := [178, 0, 38, 153, 0, 14, 42, 180, 0, 15, 154, 0, 7, 4, 167, 0, 4, 3, 172]
abbrev dktJ3_isLatin1_0 : List UInt8 := dkwJ3_isLatin1_0 ++ []
theorem dksJ3_isLatin1_0 : cJ3_isLatin1.data.toList.drop 0 = dktJ3_isLatin1_0 := by decide +kernel
theorem dJ3_isLatin1_0 : decode cJ3_isLatin1 0 = .ok (.getstatic 38, 3) := dk_178 0 38 (dk_at dksJ3_isLatin1_0 0 rfl rfl)
theorem dJ3_isLatin1_3 : decode cJ3_isLatin1 3 = .ok (.ifCond .eq 14, 3) := dk_153 0 14 (dk_at dksJ3_isLatin1_0 3 rfl rfl)
theorem dJ3_isLatin1_6 : decode cJ3_isLatin1 6 = .ok (.aload_n 0, 1) := dk_42 (dk_at dksJ3_isLatin1_0 6 rfl rfl)
theorem dJ3_isLatin1_7 : decode cJ3_isLatin1 7 = .ok (.getfield 15, 3) := dk_180 0 15 (dk_at dksJ3_isLatin1_0 7 rfl rfl)
theorem dJ3_isLatin1_10 : decode cJ3_isLatin1 10 = .ok (.ifCond .ne 7, 3) := dk_154 0 7 (dk_at dksJ3_isLatin1_0 10 rfl rfl)
theorem dJ3_isLatin1_13 : decode cJ3_isLatin1 13 = .ok (.iconst 1, 1) := dk_4 (dk_at dksJ3_isLatin1_0 13 rfl rfl)
theorem dJ3_isLatin1_14 : decode cJ3_isLatin1 14 = .ok (.goto 4, 3) := dk_167 0 4 (dk_at dksJ3_isLatin1_0 14 rfl rfl)
theorem dJ3_isLatin1_17 : decode cJ3_isLatin1 17 = .ok (.iconst 0, 1) := dk_3 (dk_at dksJ3_isLatin1_0 17 rfl rfl)
theorem dJ3_isLatin1_18 : decode cJ3_isLatin1 18 = .ok (.ireturn, 1) := dk_172 (dk_at dksJ3_isLatin1_0 18 rfl rfl)
abbrev cJ3_length : ByteArray := prog_27_method_54_code
def yJ3_length : MethodName := ⟨RJ3, "length", "()I"⟩
def dkwJ3_length_0 : List UInt8 := [42, 180, 0, 9, 190, 42, 182, 1, 79, 122, 172]
abbrev dktJ3_length_0 : List UInt8 := dkwJ3_length_0 ++ []
theorem dksJ3_length_0 : cJ3_length.data.toList.drop 0 = dktJ3_length_0 := by decide +kernel
theorem dJ3_length_0 : decode cJ3_length 0 = .ok (.aload_n 0, 1) := dk_42 (dk_at dksJ3_length_0 0 rfl rfl)
theorem dJ3_length_1 : decode cJ3_length 1 = .ok (.getfield 9, 3) := dk_180 0 9 (dk_at dksJ3_length_0 1 rfl rfl)
theorem dJ3_length_4 : decode cJ3_length 4 = .ok (.arraylength, 1) := dk_190 (dk_at dksJ3_length_0 4 rfl rfl)
theorem dJ3_length_5 : decode cJ3_length 5 = .ok (.aload_n 0, 1) := dk_42 (dk_at dksJ3_length_0 5 rfl rfl)
theorem dJ3_length_6 : decode cJ3_length 6 = .ok (.invokevirtual 335, 3) := dk_182 1 79 (dk_at dksJ3_length_0 6 rfl rfl)
theorem dJ3_length_9 : decode cJ3_length 9 = .ok (.ishr, 1) := dk_122 (dk_at dksJ3_length_0 9 rfl rfl)
theorem dJ3_length_10 : decode cJ3_length 10 = .ok (.ireturn, 1) := dk_172 (dk_at dksJ3_length_0 10 rfl rfl)
abbrev cJ3_coder : ByteArray := prog_27_method_152_code
def yJ3_coder : MethodName := ⟨RJ3, "coder", "()B"⟩
def dkwJ3_coder_0 : List UInt8 := [178, 0, 38, 153, 0, 10, 42, 180, 0, 15, 167, 0, 4, 4, 172]
abbrev dktJ3_coder_0 : List UInt8 := dkwJ3_coder_0 ++ []
theorem dksJ3_coder_0 : cJ3_coder.data.toList.drop 0 = dktJ3_coder_0 := by decide +kernel
theorem dJ3_coder_0 : decode cJ3_coder 0 = .ok (.getstatic 38, 3) := dk_178 0 38 (dk_at dksJ3_coder_0 0 rfl rfl)
theorem dJ3_coder_3 : decode cJ3_coder 3 = .ok (.ifCond .eq 10, 3) := dk_153 0 10 (dk_at dksJ3_coder_0 3 rfl rfl)
theorem dJ3_coder_6 : decode cJ3_coder 6 = .ok (.aload_n 0, 1) := dk_42 (dk_at dksJ3_coder_0 6 rfl rfl)
theorem dJ3_coder_7 : decode cJ3_coder 7 = .ok (.getfield 15, 3) := dk_180 0 15 (dk_at dksJ3_coder_0 7 rfl rfl)
theorem dJ3_coder_10 : decode cJ3_coder 10 = .ok (.goto 4, 3) := dk_167 0 4 (dk_at dksJ3_coder_0 10 rfl rfl)
theorem dJ3_coder_13 : decode cJ3_coder 13 = .ok (.iconst 1, 1) := dk_4 (dk_at dksJ3_coder_0 13 rfl rfl)
theorem dJ3_coder_14 : decode cJ3_coder 14 = .ok (.ireturn, 1) := dk_172 (dk_at dksJ3_coder_0 14 rfl rfl)
abbrev cJ3_checkBoundsBeginEnd : ByteArray := prog_27_method_158_code
def yJ3_checkBoundsBeginEnd : MethodName := ⟨RJ3, "checkBoundsBeginEnd", "(III)V"⟩
def dkwJ3_checkBoundsBeginEnd_0 : List UInt8 := [26, 27, 28, 178, 4, 29, 184, 4, 38, 87, 177]
abbrev dktJ3_checkBoundsBeginEnd_0 : List UInt8 := dkwJ3_checkBoundsBeginEnd_0 ++ []
theorem dksJ3_checkBoundsBeginEnd_0 : cJ3_checkBoundsBeginEnd.data.toList.drop 0 = dktJ3_checkBoundsBeginEnd_0 := by decide +kernel
theorem dJ3_checkBoundsBeginEnd_0 : decode cJ3_checkBoundsBeginEnd 0 = .ok (.iload_n 0, 1) := dk_26 (dk_at dksJ3_checkBoundsBeginEnd_0 0 rfl rfl)
theorem dJ3_checkBoundsBeginEnd_1 : decode cJ3_checkBoundsBeginEnd 1 = .ok (.iload_n 1, 1) := dk_27 (dk_at dksJ3_checkBoundsBeginEnd_0 1 rfl rfl)
theorem dJ3_checkBoundsBeginEnd_2 : decode cJ3_checkBoundsBeginEnd 2 = .ok (.iload_n 2, 1) := dk_28 (dk_at dksJ3_checkBoundsBeginEnd_0 2 rfl rfl)
theorem dJ3_checkBoundsBeginEnd_3 : decode cJ3_checkBoundsBeginEnd 3 = .ok (.getstatic 1053, 3) := dk_178 4 29 (dk_at dksJ3_checkBoundsBeginEnd_0 3 rfl rfl)
theorem dJ3_checkBoundsBeginEnd_6 : decode cJ3_checkBoundsBeginEnd 6 = .ok (.invokestatic 1062, 3) := dk_184 4 38 (dk_at dksJ3_checkBoundsBeginEnd_0 6 rfl rfl)
theorem dJ3_checkBoundsBeginEnd_9 : decode cJ3_checkBoundsBeginEnd 9 = .ok (.pop, 1) := dk_87 (dk_at dksJ3_checkBoundsBeginEnd_0 9 rfl rfl)
theorem dJ3_checkBoundsBeginEnd_10 : decode cJ3_checkBoundsBeginEnd 10 = .ok (.return_, 1) := dk_177 (dk_at dksJ3_checkBoundsBeginEnd_0 10 rfl rfl)
abbrev cJ3_charAt : ByteArray := prog_27_method_56_code
def yJ3_charAt : MethodName := ⟨RJ3, "charAt", "(I)C"⟩
def dkwJ3_charAt_1 : List UInt8 := [172]
abbrev dktJ3_charAt_1 : List UInt8 := dkwJ3_charAt_1 ++ []
def dkwJ3_charAt_0 : List UInt8 := [42, 182, 1, 236, 153, 0, 12, 42, 180, 0, 9, 27, 184, 1, 239, 172, 42, 180, 0, 9, 27, 184, 1, 242]
abbrev dktJ3_charAt_0 : List UInt8 := dkwJ3_charAt_0 ++ dktJ3_charAt_1
theorem dksJ3_charAt_0 : cJ3_charAt.data.toList.drop 0 = dktJ3_charAt_0 := by decide +kernel
theorem dksJ3_charAt_1 : cJ3_charAt.data.toList.drop 24 = dktJ3_charAt_1 := dk_seg dksJ3_charAt_0 24 rfl rfl
theorem dJ3_charAt_0 : decode cJ3_charAt 0 = .ok (.aload_n 0, 1) := dk_42 (dk_at dksJ3_charAt_0 0 rfl rfl)
theorem dJ3_charAt_1 : decode cJ3_charAt 1 = .ok (.invokevirtual 492, 3) := dk_182 1 236 (dk_at dksJ3_charAt_0 1 rfl rfl)
theorem dJ3_charAt_4 : decode cJ3_charAt 4 = .ok (.ifCond .eq 12, 3) := dk_153 0 12 (dk_at dksJ3_charAt_0 4 rfl rfl)
theorem dJ3_charAt_7 : decode cJ3_charAt 7 = .ok (.aload_n 0, 1) := dk_42 (dk_at dksJ3_charAt_0 7 rfl rfl)
theorem dJ3_charAt_8 : decode cJ3_charAt 8 = .ok (.getfield 9, 3) := dk_180 0 9 (dk_at dksJ3_charAt_0 8 rfl rfl)
theorem dJ3_charAt_11 : decode cJ3_charAt 11 = .ok (.iload_n 1, 1) := dk_27 (dk_at dksJ3_charAt_0 11 rfl rfl)
theorem dJ3_charAt_12 : decode cJ3_charAt 12 = .ok (.invokestatic 495, 3) := dk_184 1 239 (dk_at dksJ3_charAt_0 12 rfl rfl)
theorem dJ3_charAt_15 : decode cJ3_charAt 15 = .ok (.ireturn, 1) := dk_172 (dk_at dksJ3_charAt_0 15 rfl rfl)
theorem dJ3_charAt_16 : decode cJ3_charAt 16 = .ok (.aload_n 0, 1) := dk_42 (dk_at dksJ3_charAt_0 16 rfl rfl)
theorem dJ3_charAt_17 : decode cJ3_charAt 17 = .ok (.getfield 9, 3) := dk_180 0 9 (dk_at dksJ3_charAt_0 17 rfl rfl)
theorem dJ3_charAt_20 : decode cJ3_charAt 20 = .ok (.iload_n 1, 1) := dk_27 (dk_at dksJ3_charAt_0 20 rfl rfl)
theorem dJ3_charAt_21 : decode cJ3_charAt 21 = .ok (.invokestatic 498, 3) := dk_184 1 242 (dk_at dksJ3_charAt_0 21 rfl rfl)
theorem dJ3_charAt_24 : decode cJ3_charAt 24 = .ok (.ireturn, 1) := dk_172 (dk_at dksJ3_charAt_1 0 rfl rfl)
abbrev cJ3_checkIndex : ByteArray := prog_27_method_155_code
def yJ3_checkIndex : MethodName := ⟨RJ3, "checkIndex", "(II)V"⟩
def dkwJ3_checkIndex_0 : List UInt8 := [26, 27, 178, 4, 29, 184, 4, 35, 87, 177]
abbrev dktJ3_checkIndex_0 : List UInt8 := dkwJ3_checkIndex_0 ++ []
theorem dksJ3_checkIndex_0 : cJ3_checkIndex.data.toList.drop 0 = dktJ3_checkIndex_0 := by decide +kernel
theorem dJ3_checkIndex_0 : decode cJ3_checkIndex 0 = .ok (.iload_n 0, 1) := dk_26 (dk_at dksJ3_checkIndex_0 0 rfl rfl)
theorem dJ3_checkIndex_1 : decode cJ3_checkIndex 1 = .ok (.iload_n 1, 1) := dk_27 (dk_at dksJ3_checkIndex_0 1 rfl rfl)
theorem dJ3_checkIndex_2 : decode cJ3_checkIndex 2 = .ok (.getstatic 1053, 3) := dk_178 4 29 (dk_at dksJ3_checkIndex_0 2 rfl rfl)
theorem dJ3_checkIndex_5 : decode cJ3_checkIndex 5 = .ok (.invokestatic 1059, 3) := dk_184 4 35 (dk_at dksJ3_checkIndex_0 5 rfl rfl)
theorem dJ3_checkIndex_8 : decode cJ3_checkIndex 8 = .ok (.pop, 1) := dk_87 (dk_at dksJ3_checkIndex_0 8 rfl rfl)
theorem dJ3_checkIndex_9 : decode cJ3_checkIndex 9 = .ok (.return_, 1) := dk_177 (dk_at dksJ3_checkIndex_0 9 rfl rfl)

def RJ4 : String := "java/lang/StringLatin1"
abbrev cJ4_indexOf : ByteArray := prog_28_method_22_code
def yJ4_indexOf : MethodName := ⟨RJ4, "indexOf", "([BIII)I"⟩
def dkwJ4_indexOf_1 : List UInt8 := [161, 0, 5, 2, 172, 42, 27, 28, 29, 184, 0, 95, 172]
abbrev dktJ4_indexOf_1 : List UInt8 := dkwJ4_indexOf_1 ++ []
def dkwJ4_indexOf_0 : List UInt8 := [27, 184, 0, 88, 154, 0, 5, 2, 172, 28, 3, 184, 0, 92, 61, 29, 42, 190, 184, 0, 38, 62, 28, 29]
abbrev dktJ4_indexOf_0 : List UInt8 := dkwJ4_indexOf_0 ++ dktJ4_indexOf_1
theorem dksJ4_indexOf_0 : cJ4_indexOf.data.toList.drop 0 = dktJ4_indexOf_0 := by decide +kernel
theorem dksJ4_indexOf_1 : cJ4_indexOf.data.toList.drop 24 = dktJ4_indexOf_1 := dk_seg dksJ4_indexOf_0 24 rfl rfl
theorem dJ4_indexOf_0 : decode cJ4_indexOf 0 = .ok (.iload_n 1, 1) := dk_27 (dk_at dksJ4_indexOf_0 0 rfl rfl)
theorem dJ4_indexOf_1 : decode cJ4_indexOf 1 = .ok (.invokestatic 88, 3) := dk_184 0 88 (dk_at dksJ4_indexOf_0 1 rfl rfl)
theorem dJ4_indexOf_4 : decode cJ4_indexOf 4 = .ok (.ifCond .ne 5, 3) := dk_154 0 5 (dk_at dksJ4_indexOf_0 4 rfl rfl)
theorem dJ4_indexOf_7 : decode cJ4_indexOf 7 = .ok (.iconst (-1), 1) := dk_2 (dk_at dksJ4_indexOf_0 7 rfl rfl)
theorem dJ4_indexOf_8 : decode cJ4_indexOf 8 = .ok (.ireturn, 1) := dk_172 (dk_at dksJ4_indexOf_0 8 rfl rfl)
theorem dJ4_indexOf_9 : decode cJ4_indexOf 9 = .ok (.iload_n 2, 1) := dk_28 (dk_at dksJ4_indexOf_0 9 rfl rfl)
theorem dJ4_indexOf_10 : decode cJ4_indexOf 10 = .ok (.iconst 0, 1) := dk_3 (dk_at dksJ4_indexOf_0 10 rfl rfl)
theorem dJ4_indexOf_11 : decode cJ4_indexOf 11 = .ok (.invokestatic 92, 3) := dk_184 0 92 (dk_at dksJ4_indexOf_0 11 rfl rfl)
theorem dJ4_indexOf_14 : decode cJ4_indexOf 14 = .ok (.istore_n 2, 1) := dk_61 (dk_at dksJ4_indexOf_0 14 rfl rfl)
theorem dJ4_indexOf_15 : decode cJ4_indexOf 15 = .ok (.iload_n 3, 1) := dk_29 (dk_at dksJ4_indexOf_0 15 rfl rfl)
theorem dJ4_indexOf_16 : decode cJ4_indexOf 16 = .ok (.aload_n 0, 1) := dk_42 (dk_at dksJ4_indexOf_0 16 rfl rfl)
theorem dJ4_indexOf_17 : decode cJ4_indexOf 17 = .ok (.arraylength, 1) := dk_190 (dk_at dksJ4_indexOf_0 17 rfl rfl)
theorem dJ4_indexOf_18 : decode cJ4_indexOf 18 = .ok (.invokestatic 38, 3) := dk_184 0 38 (dk_at dksJ4_indexOf_0 18 rfl rfl)
theorem dJ4_indexOf_21 : decode cJ4_indexOf 21 = .ok (.istore_n 3, 1) := dk_62 (dk_at dksJ4_indexOf_0 21 rfl rfl)
theorem dJ4_indexOf_22 : decode cJ4_indexOf 22 = .ok (.iload_n 2, 1) := dk_28 (dk_at dksJ4_indexOf_0 22 rfl rfl)
theorem dJ4_indexOf_23 : decode cJ4_indexOf 23 = .ok (.iload_n 3, 1) := dk_29 (dk_at dksJ4_indexOf_0 23 rfl rfl)
theorem dJ4_indexOf_24 : decode cJ4_indexOf 24 = .ok (.if_icmp .lt 5, 3) := dk_161 0 5 (dk_at dksJ4_indexOf_1 0 rfl rfl)
theorem dJ4_indexOf_27 : decode cJ4_indexOf 27 = .ok (.iconst (-1), 1) := dk_2 (dk_at dksJ4_indexOf_1 3 rfl rfl)
theorem dJ4_indexOf_28 : decode cJ4_indexOf 28 = .ok (.ireturn, 1) := dk_172 (dk_at dksJ4_indexOf_1 4 rfl rfl)
theorem dJ4_indexOf_29 : decode cJ4_indexOf 29 = .ok (.aload_n 0, 1) := dk_42 (dk_at dksJ4_indexOf_1 5 rfl rfl)
theorem dJ4_indexOf_30 : decode cJ4_indexOf 30 = .ok (.iload_n 1, 1) := dk_27 (dk_at dksJ4_indexOf_1 6 rfl rfl)
theorem dJ4_indexOf_31 : decode cJ4_indexOf 31 = .ok (.iload_n 2, 1) := dk_28 (dk_at dksJ4_indexOf_1 7 rfl rfl)
theorem dJ4_indexOf_32 : decode cJ4_indexOf 32 = .ok (.iload_n 3, 1) := dk_29 (dk_at dksJ4_indexOf_1 8 rfl rfl)
theorem dJ4_indexOf_33 : decode cJ4_indexOf 33 = .ok (.invokestatic 95, 3) := dk_184 0 95 (dk_at dksJ4_indexOf_1 9 rfl rfl)
theorem dJ4_indexOf_36 : decode cJ4_indexOf 36 = .ok (.ireturn, 1) := dk_172 (dk_at dksJ4_indexOf_1 12 rfl rfl)
abbrev cJ4_canEncode : ByteArray := prog_28_method_4_code
def yJ4_canEncode : MethodName := ⟨RJ4, "canEncode", "(I)Z"⟩
def dkwJ4_canEncode_0 : List UInt8 := [26, 155, 0, 14, 26, 17, 0, 255, 163, 0, 7, 4, 167, 0, 4, 3, 172]
abbrev dktJ4_canEncode_0 : List UInt8 := dkwJ4_canEncode_0 ++ []
theorem dksJ4_canEncode_0 : cJ4_canEncode.data.toList.drop 0 = dktJ4_canEncode_0 := by decide +kernel
theorem dJ4_canEncode_0 : decode cJ4_canEncode 0 = .ok (.iload_n 0, 1) := dk_26 (dk_at dksJ4_canEncode_0 0 rfl rfl)
theorem dJ4_canEncode_1 : decode cJ4_canEncode 1 = .ok (.ifCond .lt 14, 3) := dk_155 0 14 (dk_at dksJ4_canEncode_0 1 rfl rfl)
theorem dJ4_canEncode_4 : decode cJ4_canEncode 4 = .ok (.iload_n 0, 1) := dk_26 (dk_at dksJ4_canEncode_0 4 rfl rfl)
theorem dJ4_canEncode_5 : decode cJ4_canEncode 5 = .ok (.sipush 255, 3) := dk_17 0 255 (dk_at dksJ4_canEncode_0 5 rfl rfl)
theorem dJ4_canEncode_8 : decode cJ4_canEncode 8 = .ok (.if_icmp .gt 7, 3) := dk_163 0 7 (dk_at dksJ4_canEncode_0 8 rfl rfl)
theorem dJ4_canEncode_11 : decode cJ4_canEncode 11 = .ok (.iconst 1, 1) := dk_4 (dk_at dksJ4_canEncode_0 11 rfl rfl)
theorem dJ4_canEncode_12 : decode cJ4_canEncode 12 = .ok (.goto 4, 3) := dk_167 0 4 (dk_at dksJ4_canEncode_0 12 rfl rfl)
theorem dJ4_canEncode_15 : decode cJ4_canEncode 15 = .ok (.iconst 0, 1) := dk_3 (dk_at dksJ4_canEncode_0 15 rfl rfl)
theorem dJ4_canEncode_16 : decode cJ4_canEncode 16 = .ok (.ireturn, 1) := dk_172 (dk_at dksJ4_canEncode_0 16 rfl rfl)
abbrev cJ4_indexOfChar : ByteArray := prog_28_method_23_code
def yJ4_indexOfChar : MethodName := ⟨RJ4, "indexOfChar", "([BIII)I"⟩
def dkwJ4_indexOfChar_1 : List UInt8 := [172, 132, 5, 1, 167, 255, 235, 2, 172]
abbrev dktJ4_indexOfChar_1 : List UInt8 := dkwJ4_indexOfChar_1 ++ []
def dkwJ4_indexOfChar_0 : List UInt8 := [27, 145, 54, 4, 28, 54, 5, 21, 5, 29, 162, 0, 21, 42, 21, 5, 51, 21, 4, 160, 0, 6, 21, 5]
abbrev dktJ4_indexOfChar_0 : List UInt8 := dkwJ4_indexOfChar_0 ++ dktJ4_indexOfChar_1
theorem dksJ4_indexOfChar_0 : cJ4_indexOfChar.data.toList.drop 0 = dktJ4_indexOfChar_0 := by decide +kernel
theorem dksJ4_indexOfChar_1 : cJ4_indexOfChar.data.toList.drop 24 = dktJ4_indexOfChar_1 := dk_seg dksJ4_indexOfChar_0 24 rfl rfl
theorem dJ4_indexOfChar_0 : decode cJ4_indexOfChar 0 = .ok (.iload_n 1, 1) := dk_27 (dk_at dksJ4_indexOfChar_0 0 rfl rfl)
theorem dJ4_indexOfChar_1 : decode cJ4_indexOfChar 1 = .ok (.i2b, 1) := dk_145 (dk_at dksJ4_indexOfChar_0 1 rfl rfl)
theorem dJ4_indexOfChar_2 : decode cJ4_indexOfChar 2 = .ok (.istore 4, 2) := dk_54 4 (dk_at dksJ4_indexOfChar_0 2 rfl rfl)
theorem dJ4_indexOfChar_4 : decode cJ4_indexOfChar 4 = .ok (.iload_n 2, 1) := dk_28 (dk_at dksJ4_indexOfChar_0 4 rfl rfl)
theorem dJ4_indexOfChar_5 : decode cJ4_indexOfChar 5 = .ok (.istore 5, 2) := dk_54 5 (dk_at dksJ4_indexOfChar_0 5 rfl rfl)
theorem dJ4_indexOfChar_7 : decode cJ4_indexOfChar 7 = .ok (.iload 5, 2) := dk_21 5 (dk_at dksJ4_indexOfChar_0 7 rfl rfl)
theorem dJ4_indexOfChar_9 : decode cJ4_indexOfChar 9 = .ok (.iload_n 3, 1) := dk_29 (dk_at dksJ4_indexOfChar_0 9 rfl rfl)
theorem dJ4_indexOfChar_10 : decode cJ4_indexOfChar 10 = .ok (.if_icmp .ge 21, 3) := dk_162 0 21 (dk_at dksJ4_indexOfChar_0 10 rfl rfl)
theorem dJ4_indexOfChar_13 : decode cJ4_indexOfChar 13 = .ok (.aload_n 0, 1) := dk_42 (dk_at dksJ4_indexOfChar_0 13 rfl rfl)
theorem dJ4_indexOfChar_14 : decode cJ4_indexOfChar 14 = .ok (.iload 5, 2) := dk_21 5 (dk_at dksJ4_indexOfChar_0 14 rfl rfl)
theorem dJ4_indexOfChar_16 : decode cJ4_indexOfChar 16 = .ok (.baload, 1) := dk_51 (dk_at dksJ4_indexOfChar_0 16 rfl rfl)
theorem dJ4_indexOfChar_17 : decode cJ4_indexOfChar 17 = .ok (.iload 4, 2) := dk_21 4 (dk_at dksJ4_indexOfChar_0 17 rfl rfl)
theorem dJ4_indexOfChar_19 : decode cJ4_indexOfChar 19 = .ok (.if_icmp .ne 6, 3) := dk_160 0 6 (dk_at dksJ4_indexOfChar_0 19 rfl rfl)
theorem dJ4_indexOfChar_22 : decode cJ4_indexOfChar 22 = .ok (.iload 5, 2) := dk_21 5 (dk_at dksJ4_indexOfChar_0 22 rfl rfl)
theorem dJ4_indexOfChar_24 : decode cJ4_indexOfChar 24 = .ok (.ireturn, 1) := dk_172 (dk_at dksJ4_indexOfChar_1 0 rfl rfl)
theorem dJ4_indexOfChar_25 : decode cJ4_indexOfChar 25 = .ok (.iinc 5 1, 3) := dk_132 5 1 (dk_at dksJ4_indexOfChar_1 1 rfl rfl)
theorem dJ4_indexOfChar_28 : decode cJ4_indexOfChar 28 = .ok (.goto (-21), 3) := dk_167 255 235 (dk_at dksJ4_indexOfChar_1 4 rfl rfl)
theorem dJ4_indexOfChar_31 : decode cJ4_indexOfChar 31 = .ok (.iconst (-1), 1) := dk_2 (dk_at dksJ4_indexOfChar_1 7 rfl rfl)
theorem dJ4_indexOfChar_32 : decode cJ4_indexOfChar 32 = .ok (.ireturn, 1) := dk_172 (dk_at dksJ4_indexOfChar_1 8 rfl rfl)
abbrev cJ4_charAt : ByteArray := prog_28_method_2_code
def yJ4_charAt : MethodName := ⟨RJ4, "charAt", "([BI)C"⟩
def dkwJ4_charAt_0 : List UInt8 := [27, 42, 190, 184, 0, 9, 42, 27, 51, 17, 0, 255, 126, 146, 172]
abbrev dktJ4_charAt_0 : List UInt8 := dkwJ4_charAt_0 ++ []
theorem dksJ4_charAt_0 : cJ4_charAt.data.toList.drop 0 = dktJ4_charAt_0 := by decide +kernel
theorem dJ4_charAt_0 : decode cJ4_charAt 0 = .ok (.iload_n 1, 1) := dk_27 (dk_at dksJ4_charAt_0 0 rfl rfl)
theorem dJ4_charAt_1 : decode cJ4_charAt 1 = .ok (.aload_n 0, 1) := dk_42 (dk_at dksJ4_charAt_0 1 rfl rfl)
theorem dJ4_charAt_2 : decode cJ4_charAt 2 = .ok (.arraylength, 1) := dk_190 (dk_at dksJ4_charAt_0 2 rfl rfl)
theorem dJ4_charAt_3 : decode cJ4_charAt 3 = .ok (.invokestatic 9, 3) := dk_184 0 9 (dk_at dksJ4_charAt_0 3 rfl rfl)
theorem dJ4_charAt_6 : decode cJ4_charAt 6 = .ok (.aload_n 0, 1) := dk_42 (dk_at dksJ4_charAt_0 6 rfl rfl)
theorem dJ4_charAt_7 : decode cJ4_charAt 7 = .ok (.iload_n 1, 1) := dk_27 (dk_at dksJ4_charAt_0 7 rfl rfl)
theorem dJ4_charAt_8 : decode cJ4_charAt 8 = .ok (.baload, 1) := dk_51 (dk_at dksJ4_charAt_0 8 rfl rfl)
theorem dJ4_charAt_9 : decode cJ4_charAt 9 = .ok (.sipush 255, 3) := dk_17 0 255 (dk_at dksJ4_charAt_0 9 rfl rfl)
theorem dJ4_charAt_12 : decode cJ4_charAt 12 = .ok (.iand, 1) := dk_126 (dk_at dksJ4_charAt_0 12 rfl rfl)
theorem dJ4_charAt_13 : decode cJ4_charAt 13 = .ok (.i2c, 1) := dk_146 (dk_at dksJ4_charAt_0 13 rfl rfl)
theorem dJ4_charAt_14 : decode cJ4_charAt 14 = .ok (.ireturn, 1) := dk_172 (dk_at dksJ4_charAt_0 14 rfl rfl)

def RJ5 : String := "java/lang/Math"
abbrev cJ5_max : ByteArray := prog_24_method_65_code
def yJ5_max : MethodName := ⟨RJ5, "max", "(II)I"⟩
def dkwJ5_max_0 : List UInt8 := [26, 27, 161, 0, 7, 26, 167, 0, 4, 27, 172]
abbrev dktJ5_max_0 : List UInt8 := dkwJ5_max_0 ++ []
theorem dksJ5_max_0 : cJ5_max.data.toList.drop 0 = dktJ5_max_0 := by decide +kernel
theorem dJ5_max_0 : decode cJ5_max 0 = .ok (.iload_n 0, 1) := dk_26 (dk_at dksJ5_max_0 0 rfl rfl)
theorem dJ5_max_1 : decode cJ5_max 1 = .ok (.iload_n 1, 1) := dk_27 (dk_at dksJ5_max_0 1 rfl rfl)
theorem dJ5_max_2 : decode cJ5_max 2 = .ok (.if_icmp .lt 7, 3) := dk_161 0 7 (dk_at dksJ5_max_0 2 rfl rfl)
theorem dJ5_max_5 : decode cJ5_max 5 = .ok (.iload_n 0, 1) := dk_26 (dk_at dksJ5_max_0 5 rfl rfl)
theorem dJ5_max_6 : decode cJ5_max 6 = .ok (.goto 4, 3) := dk_167 0 4 (dk_at dksJ5_max_0 6 rfl rfl)
theorem dJ5_max_9 : decode cJ5_max 9 = .ok (.iload_n 1, 1) := dk_27 (dk_at dksJ5_max_0 9 rfl rfl)
theorem dJ5_max_10 : decode cJ5_max 10 = .ok (.ireturn, 1) := dk_172 (dk_at dksJ5_max_0 10 rfl rfl)
abbrev cJ5_min : ByteArray := prog_24_method_69_code
def yJ5_min : MethodName := ⟨RJ5, "min", "(II)I"⟩
def dkwJ5_min_0 : List UInt8 := [26, 27, 163, 0, 7, 26, 167, 0, 4, 27, 172]
abbrev dktJ5_min_0 : List UInt8 := dkwJ5_min_0 ++ []
theorem dksJ5_min_0 : cJ5_min.data.toList.drop 0 = dktJ5_min_0 := by decide +kernel
theorem dJ5_min_0 : decode cJ5_min 0 = .ok (.iload_n 0, 1) := dk_26 (dk_at dksJ5_min_0 0 rfl rfl)
theorem dJ5_min_1 : decode cJ5_min 1 = .ok (.iload_n 1, 1) := dk_27 (dk_at dksJ5_min_0 1 rfl rfl)
theorem dJ5_min_2 : decode cJ5_min 2 = .ok (.if_icmp .gt 7, 3) := dk_163 0 7 (dk_at dksJ5_min_0 2 rfl rfl)
theorem dJ5_min_5 : decode cJ5_min 5 = .ok (.iload_n 0, 1) := dk_26 (dk_at dksJ5_min_0 5 rfl rfl)
theorem dJ5_min_6 : decode cJ5_min 6 = .ok (.goto 4, 3) := dk_167 0 4 (dk_at dksJ5_min_0 6 rfl rfl)
theorem dJ5_min_9 : decode cJ5_min 9 = .ok (.iload_n 1, 1) := dk_27 (dk_at dksJ5_min_0 9 rfl rfl)
theorem dJ5_min_10 : decode cJ5_min 10 = .ok (.ireturn, 1) := dk_172 (dk_at dksJ5_min_0 10 rfl rfl)
abbrev cJ5_min_2 : ByteArray := prog_24_method_70_code
def yJ5_min_2 : MethodName := ⟨RJ5, "min", "(JJ)J"⟩
def dkwJ5_min_2_0 : List UInt8 := [30, 32, 148, 157, 0, 7, 30, 167, 0, 4, 32, 173]
abbrev dktJ5_min_2_0 : List UInt8 := dkwJ5_min_2_0 ++ []
theorem dksJ5_min_2_0 : cJ5_min_2.data.toList.drop 0 = dktJ5_min_2_0 := by decide +kernel
theorem dJ5_min_2_0 : decode cJ5_min_2 0 = .ok (.lload_n 0, 1) := dk_30 (dk_at dksJ5_min_2_0 0 rfl rfl)
theorem dJ5_min_2_1 : decode cJ5_min_2 1 = .ok (.lload_n 2, 1) := dk_32 (dk_at dksJ5_min_2_0 1 rfl rfl)
theorem dJ5_min_2_2 : decode cJ5_min_2 2 = .ok (.lcmp, 1) := dk_148 (dk_at dksJ5_min_2_0 2 rfl rfl)
theorem dJ5_min_2_3 : decode cJ5_min_2 3 = .ok (.ifCond .gt 7, 3) := dk_157 0 7 (dk_at dksJ5_min_2_0 3 rfl rfl)
theorem dJ5_min_2_6 : decode cJ5_min_2 6 = .ok (.lload_n 0, 1) := dk_30 (dk_at dksJ5_min_2_0 6 rfl rfl)
theorem dJ5_min_2_7 : decode cJ5_min_2 7 = .ok (.goto 4, 3) := dk_167 0 4 (dk_at dksJ5_min_2_0 7 rfl rfl)
theorem dJ5_min_2_10 : decode cJ5_min_2 10 = .ok (.lload_n 2, 1) := dk_32 (dk_at dksJ5_min_2_0 10 rfl rfl)
theorem dJ5_min_2_11 : decode cJ5_min_2 11 = .ok (.lreturn, 1) := dk_173 (dk_at dksJ5_min_2_0 11 rfl rfl)

def RJ6 : String := "java/lang/StringUTF16"
abbrev cJ6_indexOf : ByteArray := prog_29_method_40_code
def yJ6_indexOf : MethodName := ⟨RJ6, "indexOf", "([BIII)I"⟩
def dkwJ6_indexOf_1 : List UInt8 := [18, 227, 162, 0, 11, 42, 27, 28, 29, 184, 0, 228, 172, 42, 27, 28, 29, 184, 0, 232, 172]
abbrev dktJ6_indexOf_1 : List UInt8 := dkwJ6_indexOf_1 ++ []
def dkwJ6_indexOf_0 : List UInt8 := [28, 3, 184, 0, 224, 61, 29, 42, 190, 4, 122, 184, 0, 183, 62, 28, 29, 161, 0, 5, 2, 172, 27]
abbrev dktJ6_indexOf_0 : List UInt8 := dkwJ6_indexOf_0 ++ dktJ6_indexOf_1
theorem dksJ6_indexOf_0 : cJ6_indexOf.data.toList.drop 0 = dktJ6_indexOf_0 := by decide +kernel
theorem dksJ6_indexOf_1 : cJ6_indexOf.data.toList.drop 23 = dktJ6_indexOf_1 := dk_seg dksJ6_indexOf_0 23 rfl rfl
theorem dJ6_indexOf_0 : decode cJ6_indexOf 0 = .ok (.iload_n 2, 1) := dk_28 (dk_at dksJ6_indexOf_0 0 rfl rfl)
theorem dJ6_indexOf_1 : decode cJ6_indexOf 1 = .ok (.iconst 0, 1) := dk_3 (dk_at dksJ6_indexOf_0 1 rfl rfl)
theorem dJ6_indexOf_2 : decode cJ6_indexOf 2 = .ok (.invokestatic 224, 3) := dk_184 0 224 (dk_at dksJ6_indexOf_0 2 rfl rfl)
theorem dJ6_indexOf_5 : decode cJ6_indexOf 5 = .ok (.istore_n 2, 1) := dk_61 (dk_at dksJ6_indexOf_0 5 rfl rfl)
theorem dJ6_indexOf_6 : decode cJ6_indexOf 6 = .ok (.iload_n 3, 1) := dk_29 (dk_at dksJ6_indexOf_0 6 rfl rfl)
theorem dJ6_indexOf_7 : decode cJ6_indexOf 7 = .ok (.aload_n 0, 1) := dk_42 (dk_at dksJ6_indexOf_0 7 rfl rfl)
theorem dJ6_indexOf_8 : decode cJ6_indexOf 8 = .ok (.arraylength, 1) := dk_190 (dk_at dksJ6_indexOf_0 8 rfl rfl)
theorem dJ6_indexOf_9 : decode cJ6_indexOf 9 = .ok (.iconst 1, 1) := dk_4 (dk_at dksJ6_indexOf_0 9 rfl rfl)
theorem dJ6_indexOf_10 : decode cJ6_indexOf 10 = .ok (.ishr, 1) := dk_122 (dk_at dksJ6_indexOf_0 10 rfl rfl)
theorem dJ6_indexOf_11 : decode cJ6_indexOf 11 = .ok (.invokestatic 183, 3) := dk_184 0 183 (dk_at dksJ6_indexOf_0 11 rfl rfl)
theorem dJ6_indexOf_14 : decode cJ6_indexOf 14 = .ok (.istore_n 3, 1) := dk_62 (dk_at dksJ6_indexOf_0 14 rfl rfl)
theorem dJ6_indexOf_15 : decode cJ6_indexOf 15 = .ok (.iload_n 2, 1) := dk_28 (dk_at dksJ6_indexOf_0 15 rfl rfl)
theorem dJ6_indexOf_16 : decode cJ6_indexOf 16 = .ok (.iload_n 3, 1) := dk_29 (dk_at dksJ6_indexOf_0 16 rfl rfl)
theorem dJ6_indexOf_17 : decode cJ6_indexOf 17 = .ok (.if_icmp .lt 5, 3) := dk_161 0 5 (dk_at dksJ6_indexOf_0 17 rfl rfl)
theorem dJ6_indexOf_20 : decode cJ6_indexOf 20 = .ok (.iconst (-1), 1) := dk_2 (dk_at dksJ6_indexOf_0 20 rfl rfl)
theorem dJ6_indexOf_21 : decode cJ6_indexOf 21 = .ok (.ireturn, 1) := dk_172 (dk_at dksJ6_indexOf_0 21 rfl rfl)
theorem dJ6_indexOf_22 : decode cJ6_indexOf 22 = .ok (.iload_n 1, 1) := dk_27 (dk_at dksJ6_indexOf_0 22 rfl rfl)
theorem dJ6_indexOf_23 : decode cJ6_indexOf 23 = .ok (.ldc 227, 2) := dk_18 227 (dk_at dksJ6_indexOf_1 0 rfl rfl)
theorem dJ6_indexOf_25 : decode cJ6_indexOf 25 = .ok (.if_icmp .ge 11, 3) := dk_162 0 11 (dk_at dksJ6_indexOf_1 2 rfl rfl)
theorem dJ6_indexOf_28 : decode cJ6_indexOf 28 = .ok (.aload_n 0, 1) := dk_42 (dk_at dksJ6_indexOf_1 5 rfl rfl)
theorem dJ6_indexOf_29 : decode cJ6_indexOf 29 = .ok (.iload_n 1, 1) := dk_27 (dk_at dksJ6_indexOf_1 6 rfl rfl)
theorem dJ6_indexOf_30 : decode cJ6_indexOf 30 = .ok (.iload_n 2, 1) := dk_28 (dk_at dksJ6_indexOf_1 7 rfl rfl)
theorem dJ6_indexOf_31 : decode cJ6_indexOf 31 = .ok (.iload_n 3, 1) := dk_29 (dk_at dksJ6_indexOf_1 8 rfl rfl)
theorem dJ6_indexOf_32 : decode cJ6_indexOf 32 = .ok (.invokestatic 228, 3) := dk_184 0 228 (dk_at dksJ6_indexOf_1 9 rfl rfl)
theorem dJ6_indexOf_35 : decode cJ6_indexOf 35 = .ok (.ireturn, 1) := dk_172 (dk_at dksJ6_indexOf_1 12 rfl rfl)
theorem dJ6_indexOf_36 : decode cJ6_indexOf 36 = .ok (.aload_n 0, 1) := dk_42 (dk_at dksJ6_indexOf_1 13 rfl rfl)
theorem dJ6_indexOf_37 : decode cJ6_indexOf 37 = .ok (.iload_n 1, 1) := dk_27 (dk_at dksJ6_indexOf_1 14 rfl rfl)
theorem dJ6_indexOf_38 : decode cJ6_indexOf 38 = .ok (.iload_n 2, 1) := dk_28 (dk_at dksJ6_indexOf_1 15 rfl rfl)
theorem dJ6_indexOf_39 : decode cJ6_indexOf 39 = .ok (.iload_n 3, 1) := dk_29 (dk_at dksJ6_indexOf_1 16 rfl rfl)
theorem dJ6_indexOf_40 : decode cJ6_indexOf 40 = .ok (.invokestatic 232, 3) := dk_184 0 232 (dk_at dksJ6_indexOf_1 17 rfl rfl)
theorem dJ6_indexOf_43 : decode cJ6_indexOf 43 = .ok (.ireturn, 1) := dk_172 (dk_at dksJ6_indexOf_1 20 rfl rfl)
abbrev cJ6_indexOfChar : ByteArray := prog_29_method_47_code
def yJ6_indexOfChar : MethodName := ⟨RJ6, "indexOfChar", "([BIII)I"⟩
def dkwJ6_indexOfChar_0 : List UInt8 := [28, 29, 42, 184, 0, 96, 42, 27, 28, 29, 184, 0, 244, 172]
abbrev dktJ6_indexOfChar_0 : List UInt8 := dkwJ6_indexOfChar_0 ++ []
theorem dksJ6_indexOfChar_0 : cJ6_indexOfChar.data.toList.drop 0 = dktJ6_indexOfChar_0 := by decide +kernel
theorem dJ6_indexOfChar_0 : decode cJ6_indexOfChar 0 = .ok (.iload_n 2, 1) := dk_28 (dk_at dksJ6_indexOfChar_0 0 rfl rfl)
theorem dJ6_indexOfChar_1 : decode cJ6_indexOfChar 1 = .ok (.iload_n 3, 1) := dk_29 (dk_at dksJ6_indexOfChar_0 1 rfl rfl)
theorem dJ6_indexOfChar_2 : decode cJ6_indexOfChar 2 = .ok (.aload_n 0, 1) := dk_42 (dk_at dksJ6_indexOfChar_0 2 rfl rfl)
theorem dJ6_indexOfChar_3 : decode cJ6_indexOfChar 3 = .ok (.invokestatic 96, 3) := dk_184 0 96 (dk_at dksJ6_indexOfChar_0 3 rfl rfl)
theorem dJ6_indexOfChar_6 : decode cJ6_indexOfChar 6 = .ok (.aload_n 0, 1) := dk_42 (dk_at dksJ6_indexOfChar_0 6 rfl rfl)
theorem dJ6_indexOfChar_7 : decode cJ6_indexOfChar 7 = .ok (.iload_n 1, 1) := dk_27 (dk_at dksJ6_indexOfChar_0 7 rfl rfl)
theorem dJ6_indexOfChar_8 : decode cJ6_indexOfChar 8 = .ok (.iload_n 2, 1) := dk_28 (dk_at dksJ6_indexOfChar_0 8 rfl rfl)
theorem dJ6_indexOfChar_9 : decode cJ6_indexOfChar 9 = .ok (.iload_n 3, 1) := dk_29 (dk_at dksJ6_indexOfChar_0 9 rfl rfl)
theorem dJ6_indexOfChar_10 : decode cJ6_indexOfChar 10 = .ok (.invokestatic 244, 3) := dk_184 0 244 (dk_at dksJ6_indexOfChar_0 10 rfl rfl)
theorem dJ6_indexOfChar_13 : decode cJ6_indexOfChar 13 = .ok (.ireturn, 1) := dk_172 (dk_at dksJ6_indexOfChar_0 13 rfl rfl)
abbrev cJ6_checkBoundsBeginEnd : ByteArray := prog_29_method_93_code
def yJ6_checkBoundsBeginEnd : MethodName := ⟨RJ6, "checkBoundsBeginEnd", "(II[B)V"⟩
def dkwJ6_checkBoundsBeginEnd_0 : List UInt8 := [26, 27, 44, 184, 0, 48, 184, 0, 241, 177]
abbrev dktJ6_checkBoundsBeginEnd_0 : List UInt8 := dkwJ6_checkBoundsBeginEnd_0 ++ []
theorem dksJ6_checkBoundsBeginEnd_0 : cJ6_checkBoundsBeginEnd.data.toList.drop 0 = dktJ6_checkBoundsBeginEnd_0 := by decide +kernel
theorem dJ6_checkBoundsBeginEnd_0 : decode cJ6_checkBoundsBeginEnd 0 = .ok (.iload_n 0, 1) := dk_26 (dk_at dksJ6_checkBoundsBeginEnd_0 0 rfl rfl)
theorem dJ6_checkBoundsBeginEnd_1 : decode cJ6_checkBoundsBeginEnd 1 = .ok (.iload_n 1, 1) := dk_27 (dk_at dksJ6_checkBoundsBeginEnd_0 1 rfl rfl)
theorem dJ6_checkBoundsBeginEnd_2 : decode cJ6_checkBoundsBeginEnd 2 = .ok (.aload_n 2, 1) := dk_44 (dk_at dksJ6_checkBoundsBeginEnd_0 2 rfl rfl)
theorem dJ6_checkBoundsBeginEnd_3 : decode cJ6_checkBoundsBeginEnd 3 = .ok (.invokestatic 48, 3) := dk_184 0 48 (dk_at dksJ6_checkBoundsBeginEnd_0 3 rfl rfl)
theorem dJ6_checkBoundsBeginEnd_6 : decode cJ6_checkBoundsBeginEnd 6 = .ok (.invokestatic 241, 3) := dk_184 0 241 (dk_at dksJ6_checkBoundsBeginEnd_0 6 rfl rfl)
theorem dJ6_checkBoundsBeginEnd_9 : decode cJ6_checkBoundsBeginEnd 9 = .ok (.return_, 1) := dk_177 (dk_at dksJ6_checkBoundsBeginEnd_0 9 rfl rfl)
abbrev cJ6_length : ByteArray := prog_29_method_6_code
def yJ6_length : MethodName := ⟨RJ6, "length", "([B)I"⟩
def dkwJ6_length_0 : List UInt8 := [42, 190, 4, 122, 172]
abbrev dktJ6_length_0 : List UInt8 := dkwJ6_length_0 ++ []
theorem dksJ6_length_0 : cJ6_length.data.toList.drop 0 = dktJ6_length_0 := by decide +kernel
theorem dJ6_length_0 : decode cJ6_length 0 = .ok (.aload_n 0, 1) := dk_42 (dk_at dksJ6_length_0 0 rfl rfl)
theorem dJ6_length_1 : decode cJ6_length 1 = .ok (.arraylength, 1) := dk_190 (dk_at dksJ6_length_0 1 rfl rfl)
theorem dJ6_length_2 : decode cJ6_length 2 = .ok (.iconst 1, 1) := dk_4 (dk_at dksJ6_length_0 2 rfl rfl)
theorem dJ6_length_3 : decode cJ6_length 3 = .ok (.ishr, 1) := dk_122 (dk_at dksJ6_length_0 3 rfl rfl)
theorem dJ6_length_4 : decode cJ6_length 4 = .ok (.ireturn, 1) := dk_172 (dk_at dksJ6_length_0 4 rfl rfl)
abbrev cJ6_indexOfCharUnsafe : ByteArray := prog_29_method_48_code
def yJ6_indexOfCharUnsafe : MethodName := ⟨RJ6, "indexOfCharUnsafe", "([BIII)I"⟩
def dkwJ6_indexOfCharUnsafe_1 : List UInt8 := [132, 4, 1, 167, 255, 234, 2, 172]
abbrev dktJ6_indexOfCharUnsafe_1 : List UInt8 := dkwJ6_indexOfCharUnsafe_1 ++ []
def dkwJ6_indexOfCharUnsafe_0 : List UInt8 := [28, 54, 4, 21, 4, 29, 162, 0, 22, 42, 21, 4, 184, 0, 71, 27, 160, 0, 6, 21, 4, 172]
abbrev dktJ6_indexOfCharUnsafe_0 : List UInt8 := dkwJ6_indexOfCharUnsafe_0 ++ dktJ6_indexOfCharUnsafe_1
theorem dksJ6_indexOfCharUnsafe_0 : cJ6_indexOfCharUnsafe.data.toList.drop 0 = dktJ6_indexOfCharUnsafe_0 := by decide +kernel
theorem dksJ6_indexOfCharUnsafe_1 : cJ6_indexOfCharUnsafe.data.toList.drop 22 = dktJ6_indexOfCharUnsafe_1 := dk_seg dksJ6_indexOfCharUnsafe_0 22 rfl rfl
theorem dJ6_indexOfCharUnsafe_0 : decode cJ6_indexOfCharUnsafe 0 = .ok (.iload_n 2, 1) := dk_28 (dk_at dksJ6_indexOfCharUnsafe_0 0 rfl rfl)
theorem dJ6_indexOfCharUnsafe_1 : decode cJ6_indexOfCharUnsafe 1 = .ok (.istore 4, 2) := dk_54 4 (dk_at dksJ6_indexOfCharUnsafe_0 1 rfl rfl)
theorem dJ6_indexOfCharUnsafe_3 : decode cJ6_indexOfCharUnsafe 3 = .ok (.iload 4, 2) := dk_21 4 (dk_at dksJ6_indexOfCharUnsafe_0 3 rfl rfl)
theorem dJ6_indexOfCharUnsafe_5 : decode cJ6_indexOfCharUnsafe 5 = .ok (.iload_n 3, 1) := dk_29 (dk_at dksJ6_indexOfCharUnsafe_0 5 rfl rfl)
theorem dJ6_indexOfCharUnsafe_6 : decode cJ6_indexOfCharUnsafe 6 = .ok (.if_icmp .ge 22, 3) := dk_162 0 22 (dk_at dksJ6_indexOfCharUnsafe_0 6 rfl rfl)
theorem dJ6_indexOfCharUnsafe_9 : decode cJ6_indexOfCharUnsafe 9 = .ok (.aload_n 0, 1) := dk_42 (dk_at dksJ6_indexOfCharUnsafe_0 9 rfl rfl)
theorem dJ6_indexOfCharUnsafe_10 : decode cJ6_indexOfCharUnsafe 10 = .ok (.iload 4, 2) := dk_21 4 (dk_at dksJ6_indexOfCharUnsafe_0 10 rfl rfl)
theorem dJ6_indexOfCharUnsafe_12 : decode cJ6_indexOfCharUnsafe 12 = .ok (.invokestatic 71, 3) := dk_184 0 71 (dk_at dksJ6_indexOfCharUnsafe_0 12 rfl rfl)
theorem dJ6_indexOfCharUnsafe_15 : decode cJ6_indexOfCharUnsafe 15 = .ok (.iload_n 1, 1) := dk_27 (dk_at dksJ6_indexOfCharUnsafe_0 15 rfl rfl)
theorem dJ6_indexOfCharUnsafe_16 : decode cJ6_indexOfCharUnsafe 16 = .ok (.if_icmp .ne 6, 3) := dk_160 0 6 (dk_at dksJ6_indexOfCharUnsafe_0 16 rfl rfl)
theorem dJ6_indexOfCharUnsafe_19 : decode cJ6_indexOfCharUnsafe 19 = .ok (.iload 4, 2) := dk_21 4 (dk_at dksJ6_indexOfCharUnsafe_0 19 rfl rfl)
theorem dJ6_indexOfCharUnsafe_21 : decode cJ6_indexOfCharUnsafe 21 = .ok (.ireturn, 1) := dk_172 (dk_at dksJ6_indexOfCharUnsafe_0 21 rfl rfl)
theorem dJ6_indexOfCharUnsafe_22 : decode cJ6_indexOfCharUnsafe 22 = .ok (.iinc 4 1, 3) := dk_132 4 1 (dk_at dksJ6_indexOfCharUnsafe_1 0 rfl rfl)
theorem dJ6_indexOfCharUnsafe_25 : decode cJ6_indexOfCharUnsafe 25 = .ok (.goto (-22), 3) := dk_167 255 234 (dk_at dksJ6_indexOfCharUnsafe_1 3 rfl rfl)
theorem dJ6_indexOfCharUnsafe_28 : decode cJ6_indexOfCharUnsafe 28 = .ok (.iconst (-1), 1) := dk_2 (dk_at dksJ6_indexOfCharUnsafe_1 6 rfl rfl)
theorem dJ6_indexOfCharUnsafe_29 : decode cJ6_indexOfCharUnsafe 29 = .ok (.ireturn, 1) := dk_172 (dk_at dksJ6_indexOfCharUnsafe_1 7 rfl rfl)
abbrev cJ6_getChar : ByteArray := prog_29_method_5_code
def yJ6_getChar : MethodName := ⟨RJ6, "getChar", "([BI)C"⟩
def dkwJ6_getChar_2 : List UInt8 := [51, 17, 0, 255, 126, 178, 0, 63, 120, 128, 146, 172]
abbrev dktJ6_getChar_2 : List UInt8 := dkwJ6_getChar_2 ++ []
def dkwJ6_getChar_1 : List UInt8 := [183, 0, 56, 191, 27, 4, 120, 60, 42, 27, 132, 1, 1, 51, 17, 0, 255, 126, 178, 0, 59, 120, 42, 27]
abbrev dktJ6_getChar_1 : List UInt8 := dkwJ6_getChar_1 ++ dktJ6_getChar_2
def dkwJ6_getChar_0 : List UInt8 := [178, 0, 44, 154, 0, 25, 27, 155, 0, 11, 27, 42, 184, 0, 48, 161, 0, 13, 187, 0, 52, 89, 18, 54]
abbrev dktJ6_getChar_0 : List UInt8 := dkwJ6_getChar_0 ++ dktJ6_getChar_1
theorem dksJ6_getChar_0 : cJ6_getChar.data.toList.drop 0 = dktJ6_getChar_0 := by decide +kernel
theorem dksJ6_getChar_1 : cJ6_getChar.data.toList.drop 24 = dktJ6_getChar_1 := dk_seg dksJ6_getChar_0 24 rfl rfl
theorem dksJ6_getChar_2 : cJ6_getChar.data.toList.drop 48 = dktJ6_getChar_2 := dk_seg dksJ6_getChar_1 24 rfl rfl
theorem dJ6_getChar_0 : decode cJ6_getChar 0 = .ok (.getstatic 44, 3) := dk_178 0 44 (dk_at dksJ6_getChar_0 0 rfl rfl)
theorem dJ6_getChar_3 : decode cJ6_getChar 3 = .ok (.ifCond .ne 25, 3) := dk_154 0 25 (dk_at dksJ6_getChar_0 3 rfl rfl)
theorem dJ6_getChar_6 : decode cJ6_getChar 6 = .ok (.iload_n 1, 1) := dk_27 (dk_at dksJ6_getChar_0 6 rfl rfl)
theorem dJ6_getChar_7 : decode cJ6_getChar 7 = .ok (.ifCond .lt 11, 3) := dk_155 0 11 (dk_at dksJ6_getChar_0 7 rfl rfl)
theorem dJ6_getChar_10 : decode cJ6_getChar 10 = .ok (.iload_n 1, 1) := dk_27 (dk_at dksJ6_getChar_0 10 rfl rfl)
theorem dJ6_getChar_11 : decode cJ6_getChar 11 = .ok (.aload_n 0, 1) := dk_42 (dk_at dksJ6_getChar_0 11 rfl rfl)
theorem dJ6_getChar_12 : decode cJ6_getChar 12 = .ok (.invokestatic 48, 3) := dk_184 0 48 (dk_at dksJ6_getChar_0 12 rfl rfl)
theorem dJ6_getChar_15 : decode cJ6_getChar 15 = .ok (.if_icmp .lt 13, 3) := dk_161 0 13 (dk_at dksJ6_getChar_0 15 rfl rfl)
theorem dJ6_getChar_18 : decode cJ6_getChar 18 = .ok (.new 52, 3) := dk_187 0 52 (dk_at dksJ6_getChar_0 18 rfl rfl)
theorem dJ6_getChar_21 : decode cJ6_getChar 21 = .ok (.dup, 1) := dk_89 (dk_at dksJ6_getChar_0 21 rfl rfl)
theorem dJ6_getChar_22 : decode cJ6_getChar 22 = .ok (.ldc 54, 2) := dk_18 54 (dk_at dksJ6_getChar_0 22 rfl rfl)
theorem dJ6_getChar_24 : decode cJ6_getChar 24 = .ok (.invokespecial 56, 3) := dk_183 0 56 (dk_at dksJ6_getChar_1 0 rfl rfl)
theorem dJ6_getChar_27 : decode cJ6_getChar 27 = .ok (.athrow, 1) := dk_191 (dk_at dksJ6_getChar_1 3 rfl rfl)
theorem dJ6_getChar_28 : decode cJ6_getChar 28 = .ok (.iload_n 1, 1) := dk_27 (dk_at dksJ6_getChar_1 4 rfl rfl)
theorem dJ6_getChar_29 : decode cJ6_getChar 29 = .ok (.iconst 1, 1) := dk_4 (dk_at dksJ6_getChar_1 5 rfl rfl)
theorem dJ6_getChar_30 : decode cJ6_getChar 30 = .ok (.ishl, 1) := dk_120 (dk_at dksJ6_getChar_1 6 rfl rfl)
theorem dJ6_getChar_31 : decode cJ6_getChar 31 = .ok (.istore_n 1, 1) := dk_60 (dk_at dksJ6_getChar_1 7 rfl rfl)
theorem dJ6_getChar_32 : decode cJ6_getChar 32 = .ok (.aload_n 0, 1) := dk_42 (dk_at dksJ6_getChar_1 8 rfl rfl)
theorem dJ6_getChar_33 : decode cJ6_getChar 33 = .ok (.iload_n 1, 1) := dk_27 (dk_at dksJ6_getChar_1 9 rfl rfl)
theorem dJ6_getChar_34 : decode cJ6_getChar 34 = .ok (.iinc 1 1, 3) := dk_132 1 1 (dk_at dksJ6_getChar_1 10 rfl rfl)
theorem dJ6_getChar_37 : decode cJ6_getChar 37 = .ok (.baload, 1) := dk_51 (dk_at dksJ6_getChar_1 13 rfl rfl)
theorem dJ6_getChar_38 : decode cJ6_getChar 38 = .ok (.sipush 255, 3) := dk_17 0 255 (dk_at dksJ6_getChar_1 14 rfl rfl)
theorem dJ6_getChar_41 : decode cJ6_getChar 41 = .ok (.iand, 1) := dk_126 (dk_at dksJ6_getChar_1 17 rfl rfl)
theorem dJ6_getChar_42 : decode cJ6_getChar 42 = .ok (.getstatic 59, 3) := dk_178 0 59 (dk_at dksJ6_getChar_1 18 rfl rfl)
theorem dJ6_getChar_45 : decode cJ6_getChar 45 = .ok (.ishl, 1) := dk_120 (dk_at dksJ6_getChar_1 21 rfl rfl)
theorem dJ6_getChar_46 : decode cJ6_getChar 46 = .ok (.aload_n 0, 1) := dk_42 (dk_at dksJ6_getChar_1 22 rfl rfl)
theorem dJ6_getChar_47 : decode cJ6_getChar 47 = .ok (.iload_n 1, 1) := dk_27 (dk_at dksJ6_getChar_1 23 rfl rfl)
theorem dJ6_getChar_48 : decode cJ6_getChar 48 = .ok (.baload, 1) := dk_51 (dk_at dksJ6_getChar_2 0 rfl rfl)
theorem dJ6_getChar_49 : decode cJ6_getChar 49 = .ok (.sipush 255, 3) := dk_17 0 255 (dk_at dksJ6_getChar_2 1 rfl rfl)
theorem dJ6_getChar_52 : decode cJ6_getChar 52 = .ok (.iand, 1) := dk_126 (dk_at dksJ6_getChar_2 4 rfl rfl)
theorem dJ6_getChar_53 : decode cJ6_getChar 53 = .ok (.getstatic 63, 3) := dk_178 0 63 (dk_at dksJ6_getChar_2 5 rfl rfl)
theorem dJ6_getChar_56 : decode cJ6_getChar 56 = .ok (.ishl, 1) := dk_120 (dk_at dksJ6_getChar_2 8 rfl rfl)
theorem dJ6_getChar_57 : decode cJ6_getChar 57 = .ok (.ior, 1) := dk_128 (dk_at dksJ6_getChar_2 9 rfl rfl)
theorem dJ6_getChar_58 : decode cJ6_getChar 58 = .ok (.i2c, 1) := dk_146 (dk_at dksJ6_getChar_2 10 rfl rfl)
theorem dJ6_getChar_59 : decode cJ6_getChar 59 = .ok (.ireturn, 1) := dk_172 (dk_at dksJ6_getChar_2 11 rfl rfl)
abbrev cJ6_indexOfSupplementary : ByteArray := prog_29_method_49_code
def yJ6_indexOfSupplementary : MethodName := ⟨RJ6, "indexOfSupplementary", "([BIII)I"⟩
def dkwJ6_indexOfSupplementary_3 : List UInt8 := [167, 255, 218, 2, 172]
abbrev dktJ6_indexOfSupplementary_3 : List UInt8 := dkwJ6_indexOfSupplementary_3 ++ []
def dkwJ6_indexOfSupplementary_2 : List UInt8 := [160, 0, 19, 42, 21, 6, 4, 96, 184, 0, 71, 21, 5, 160, 0, 6, 21, 6, 172, 132, 6, 1]
abbrev dktJ6_indexOfSupplementary_2 : List UInt8 := dkwJ6_indexOfSupplementary_2 ++ dktJ6_indexOfSupplementary_3
def dkwJ6_indexOfSupplementary_1 : List UInt8 := [184, 0, 96, 28, 54, 6, 21, 6, 29, 4, 100, 162, 0, 36, 42, 21, 6, 184, 0, 71, 21, 4]
abbrev dktJ6_indexOfSupplementary_1 : List UInt8 := dkwJ6_indexOfSupplementary_1 ++ dktJ6_indexOfSupplementary_2
def dkwJ6_indexOfSupplementary_0 : List UInt8 := [27, 184, 0, 164, 153, 0, 65, 27, 184, 0, 157, 54, 4, 27, 184, 0, 161, 54, 5, 28, 29, 42]
abbrev dktJ6_indexOfSupplementary_0 : List UInt8 := dkwJ6_indexOfSupplementary_0 ++ dktJ6_indexOfSupplementary_1
theorem dksJ6_indexOfSupplementary_0 : cJ6_indexOfSupplementary.data.toList.drop 0 = dktJ6_indexOfSupplementary_0 := by decide +kernel
theorem dksJ6_indexOfSupplementary_1 : cJ6_indexOfSupplementary.data.toList.drop 22 = dktJ6_indexOfSupplementary_1 := dk_seg dksJ6_indexOfSupplementary_0 22 rfl rfl
theorem dksJ6_indexOfSupplementary_2 : cJ6_indexOfSupplementary.data.toList.drop 44 = dktJ6_indexOfSupplementary_2 := dk_seg dksJ6_indexOfSupplementary_1 22 rfl rfl
theorem dksJ6_indexOfSupplementary_3 : cJ6_indexOfSupplementary.data.toList.drop 66 = dktJ6_indexOfSupplementary_3 := dk_seg dksJ6_indexOfSupplementary_2 22 rfl rfl
theorem dJ6_indexOfSupplementary_0 : decode cJ6_indexOfSupplementary 0 = .ok (.iload_n 1, 1) := dk_27 (dk_at dksJ6_indexOfSupplementary_0 0 rfl rfl)
theorem dJ6_indexOfSupplementary_1 : decode cJ6_indexOfSupplementary 1 = .ok (.invokestatic 164, 3) := dk_184 0 164 (dk_at dksJ6_indexOfSupplementary_0 1 rfl rfl)
theorem dJ6_indexOfSupplementary_4 : decode cJ6_indexOfSupplementary 4 = .ok (.ifCond .eq 65, 3) := dk_153 0 65 (dk_at dksJ6_indexOfSupplementary_0 4 rfl rfl)
theorem dJ6_indexOfSupplementary_7 : decode cJ6_indexOfSupplementary 7 = .ok (.iload_n 1, 1) := dk_27 (dk_at dksJ6_indexOfSupplementary_0 7 rfl rfl)
theorem dJ6_indexOfSupplementary_8 : decode cJ6_indexOfSupplementary 8 = .ok (.invokestatic 157, 3) := dk_184 0 157 (dk_at dksJ6_indexOfSupplementary_0 8 rfl rfl)
theorem dJ6_indexOfSupplementary_11 : decode cJ6_indexOfSupplementary 11 = .ok (.istore 4, 2) := dk_54 4 (dk_at dksJ6_indexOfSupplementary_0 11 rfl rfl)
theorem dJ6_indexOfSupplementary_13 : decode cJ6_indexOfSupplementary 13 = .ok (.iload_n 1, 1) := dk_27 (dk_at dksJ6_indexOfSupplementary_0 13 rfl rfl)
theorem dJ6_indexOfSupplementary_14 : decode cJ6_indexOfSupplementary 14 = .ok (.invokestatic 161, 3) := dk_184 0 161 (dk_at dksJ6_indexOfSupplementary_0 14 rfl rfl)
theorem dJ6_indexOfSupplementary_17 : decode cJ6_indexOfSupplementary 17 = .ok (.istore 5, 2) := dk_54 5 (dk_at dksJ6_indexOfSupplementary_0 17 rfl rfl)
theorem dJ6_indexOfSupplementary_19 : decode cJ6_indexOfSupplementary 19 = .ok (.iload_n 2, 1) := dk_28 (dk_at dksJ6_indexOfSupplementary_0 19 rfl rfl)
theorem dJ6_indexOfSupplementary_20 : decode cJ6_indexOfSupplementary 20 = .ok (.iload_n 3, 1) := dk_29 (dk_at dksJ6_indexOfSupplementary_0 20 rfl rfl)
theorem dJ6_indexOfSupplementary_21 : decode cJ6_indexOfSupplementary 21 = .ok (.aload_n 0, 1) := dk_42 (dk_at dksJ6_indexOfSupplementary_0 21 rfl rfl)
theorem dJ6_indexOfSupplementary_22 : decode cJ6_indexOfSupplementary 22 = .ok (.invokestatic 96, 3) := dk_184 0 96 (dk_at dksJ6_indexOfSupplementary_1 0 rfl rfl)
theorem dJ6_indexOfSupplementary_25 : decode cJ6_indexOfSupplementary 25 = .ok (.iload_n 2, 1) := dk_28 (dk_at dksJ6_indexOfSupplementary_1 3 rfl rfl)
theorem dJ6_indexOfSupplementary_26 : decode cJ6_indexOfSupplementary 26 = .ok (.istore 6, 2) := dk_54 6 (dk_at dksJ6_indexOfSupplementary_1 4 rfl rfl)
theorem dJ6_indexOfSupplementary_28 : decode cJ6_indexOfSupplementary 28 = .ok (.iload 6, 2) := dk_21 6 (dk_at dksJ6_indexOfSupplementary_1 6 rfl rfl)
theorem dJ6_indexOfSupplementary_30 : decode cJ6_indexOfSupplementary 30 = .ok (.iload_n 3, 1) := dk_29 (dk_at dksJ6_indexOfSupplementary_1 8 rfl rfl)
theorem dJ6_indexOfSupplementary_31 : decode cJ6_indexOfSupplementary 31 = .ok (.iconst 1, 1) := dk_4 (dk_at dksJ6_indexOfSupplementary_1 9 rfl rfl)
theorem dJ6_indexOfSupplementary_32 : decode cJ6_indexOfSupplementary 32 = .ok (.isub, 1) := dk_100 (dk_at dksJ6_indexOfSupplementary_1 10 rfl rfl)
theorem dJ6_indexOfSupplementary_33 : decode cJ6_indexOfSupplementary 33 = .ok (.if_icmp .ge 36, 3) := dk_162 0 36 (dk_at dksJ6_indexOfSupplementary_1 11 rfl rfl)
theorem dJ6_indexOfSupplementary_36 : decode cJ6_indexOfSupplementary 36 = .ok (.aload_n 0, 1) := dk_42 (dk_at dksJ6_indexOfSupplementary_1 14 rfl rfl)
theorem dJ6_indexOfSupplementary_37 : decode cJ6_indexOfSupplementary 37 = .ok (.iload 6, 2) := dk_21 6 (dk_at dksJ6_indexOfSupplementary_1 15 rfl rfl)
theorem dJ6_indexOfSupplementary_39 : decode cJ6_indexOfSupplementary 39 = .ok (.invokestatic 71, 3) := dk_184 0 71 (dk_at dksJ6_indexOfSupplementary_1 17 rfl rfl)
theorem dJ6_indexOfSupplementary_42 : decode cJ6_indexOfSupplementary 42 = .ok (.iload 4, 2) := dk_21 4 (dk_at dksJ6_indexOfSupplementary_1 20 rfl rfl)
theorem dJ6_indexOfSupplementary_44 : decode cJ6_indexOfSupplementary 44 = .ok (.if_icmp .ne 19, 3) := dk_160 0 19 (dk_at dksJ6_indexOfSupplementary_2 0 rfl rfl)
theorem dJ6_indexOfSupplementary_47 : decode cJ6_indexOfSupplementary 47 = .ok (.aload_n 0, 1) := dk_42 (dk_at dksJ6_indexOfSupplementary_2 3 rfl rfl)
theorem dJ6_indexOfSupplementary_48 : decode cJ6_indexOfSupplementary 48 = .ok (.iload 6, 2) := dk_21 6 (dk_at dksJ6_indexOfSupplementary_2 4 rfl rfl)
theorem dJ6_indexOfSupplementary_50 : decode cJ6_indexOfSupplementary 50 = .ok (.iconst 1, 1) := dk_4 (dk_at dksJ6_indexOfSupplementary_2 6 rfl rfl)
theorem dJ6_indexOfSupplementary_51 : decode cJ6_indexOfSupplementary 51 = .ok (.iadd, 1) := dk_96 (dk_at dksJ6_indexOfSupplementary_2 7 rfl rfl)
theorem dJ6_indexOfSupplementary_52 : decode cJ6_indexOfSupplementary 52 = .ok (.invokestatic 71, 3) := dk_184 0 71 (dk_at dksJ6_indexOfSupplementary_2 8 rfl rfl)
theorem dJ6_indexOfSupplementary_55 : decode cJ6_indexOfSupplementary 55 = .ok (.iload 5, 2) := dk_21 5 (dk_at dksJ6_indexOfSupplementary_2 11 rfl rfl)
theorem dJ6_indexOfSupplementary_57 : decode cJ6_indexOfSupplementary 57 = .ok (.if_icmp .ne 6, 3) := dk_160 0 6 (dk_at dksJ6_indexOfSupplementary_2 13 rfl rfl)
theorem dJ6_indexOfSupplementary_60 : decode cJ6_indexOfSupplementary 60 = .ok (.iload 6, 2) := dk_21 6 (dk_at dksJ6_indexOfSupplementary_2 16 rfl rfl)
theorem dJ6_indexOfSupplementary_62 : decode cJ6_indexOfSupplementary 62 = .ok (.ireturn, 1) := dk_172 (dk_at dksJ6_indexOfSupplementary_2 18 rfl rfl)
theorem dJ6_indexOfSupplementary_63 : decode cJ6_indexOfSupplementary 63 = .ok (.iinc 6 1, 3) := dk_132 6 1 (dk_at dksJ6_indexOfSupplementary_2 19 rfl rfl)
theorem dJ6_indexOfSupplementary_66 : decode cJ6_indexOfSupplementary 66 = .ok (.goto (-38), 3) := dk_167 255 218 (dk_at dksJ6_indexOfSupplementary_3 0 rfl rfl)
theorem dJ6_indexOfSupplementary_69 : decode cJ6_indexOfSupplementary 69 = .ok (.iconst (-1), 1) := dk_2 (dk_at dksJ6_indexOfSupplementary_3 3 rfl rfl)
theorem dJ6_indexOfSupplementary_70 : decode cJ6_indexOfSupplementary 70 = .ok (.ireturn, 1) := dk_172 (dk_at dksJ6_indexOfSupplementary_3 4 rfl rfl)
abbrev cJ6_charAt : ByteArray := prog_29_method_83_code
def yJ6_charAt : MethodName := ⟨RJ6, "charAt", "([BI)C"⟩
def dkwJ6_charAt_0 : List UInt8 := [27, 42, 184, 0, 67, 42, 27, 184, 0, 71, 172]
abbrev dktJ6_charAt_0 : List UInt8 := dkwJ6_charAt_0 ++ []
theorem dksJ6_charAt_0 : cJ6_charAt.data.toList.drop 0 = dktJ6_charAt_0 := by decide +kernel
theorem dJ6_charAt_0 : decode cJ6_charAt 0 = .ok (.iload_n 1, 1) := dk_27 (dk_at dksJ6_charAt_0 0 rfl rfl)
theorem dJ6_charAt_1 : decode cJ6_charAt 1 = .ok (.aload_n 0, 1) := dk_42 (dk_at dksJ6_charAt_0 1 rfl rfl)
theorem dJ6_charAt_2 : decode cJ6_charAt 2 = .ok (.invokestatic 67, 3) := dk_184 0 67 (dk_at dksJ6_charAt_0 2 rfl rfl)
theorem dJ6_charAt_5 : decode cJ6_charAt 5 = .ok (.aload_n 0, 1) := dk_42 (dk_at dksJ6_charAt_0 5 rfl rfl)
theorem dJ6_charAt_6 : decode cJ6_charAt 6 = .ok (.iload_n 1, 1) := dk_27 (dk_at dksJ6_charAt_0 6 rfl rfl)
theorem dJ6_charAt_7 : decode cJ6_charAt 7 = .ok (.invokestatic 71, 3) := dk_184 0 71 (dk_at dksJ6_charAt_0 7 rfl rfl)
theorem dJ6_charAt_10 : decode cJ6_charAt 10 = .ok (.ireturn, 1) := dk_172 (dk_at dksJ6_charAt_0 10 rfl rfl)
abbrev cJ6_checkIndex : ByteArray := prog_29_method_91_code
def yJ6_checkIndex : MethodName := ⟨RJ6, "checkIndex", "(I[B)V"⟩
def dkwJ6_checkIndex_0 : List UInt8 := [26, 43, 184, 0, 48, 184, 1, 158, 177]
abbrev dktJ6_checkIndex_0 : List UInt8 := dkwJ6_checkIndex_0 ++ []
theorem dksJ6_checkIndex_0 : cJ6_checkIndex.data.toList.drop 0 = dktJ6_checkIndex_0 := by decide +kernel
theorem dJ6_checkIndex_0 : decode cJ6_checkIndex 0 = .ok (.iload_n 0, 1) := dk_26 (dk_at dksJ6_checkIndex_0 0 rfl rfl)
theorem dJ6_checkIndex_1 : decode cJ6_checkIndex 1 = .ok (.aload_n 1, 1) := dk_43 (dk_at dksJ6_checkIndex_0 1 rfl rfl)
theorem dJ6_checkIndex_2 : decode cJ6_checkIndex 2 = .ok (.invokestatic 48, 3) := dk_184 0 48 (dk_at dksJ6_checkIndex_0 2 rfl rfl)
theorem dJ6_checkIndex_5 : decode cJ6_checkIndex 5 = .ok (.invokestatic 414, 3) := dk_184 1 158 (dk_at dksJ6_checkIndex_0 5 rfl rfl)
theorem dJ6_checkIndex_8 : decode cJ6_checkIndex 8 = .ok (.return_, 1) := dk_177 (dk_at dksJ6_checkIndex_0 8 rfl rfl)

def RJ7 : String := "jdk/internal/util/Preconditions"
abbrev cJ7_checkFromToIndex : ByteArray := prog_47_method_12_code
def yJ7_checkFromToIndex : MethodName := ⟨RJ7, "checkFromToIndex", "(IIILjava/util/function/BiFunction;)I"⟩
def dkwJ7_checkFromToIndex_0 : List UInt8 := [26, 155, 0, 13, 26, 27, 163, 0, 8, 27, 28, 164, 0, 11, 45, 26, 27, 28, 184, 0, 99, 191, 26, 172]
abbrev dktJ7_checkFromToIndex_0 : List UInt8 := dkwJ7_checkFromToIndex_0 ++ []
theorem dksJ7_checkFromToIndex_0 : cJ7_checkFromToIndex.data.toList.drop 0 = dktJ7_checkFromToIndex_0 := by decide +kernel
theorem dJ7_checkFromToIndex_0 : decode cJ7_checkFromToIndex 0 = .ok (.iload_n 0, 1) := dk_26 (dk_at dksJ7_checkFromToIndex_0 0 rfl rfl)
theorem dJ7_checkFromToIndex_1 : decode cJ7_checkFromToIndex 1 = .ok (.ifCond .lt 13, 3) := dk_155 0 13 (dk_at dksJ7_checkFromToIndex_0 1 rfl rfl)
theorem dJ7_checkFromToIndex_4 : decode cJ7_checkFromToIndex 4 = .ok (.iload_n 0, 1) := dk_26 (dk_at dksJ7_checkFromToIndex_0 4 rfl rfl)
theorem dJ7_checkFromToIndex_5 : decode cJ7_checkFromToIndex 5 = .ok (.iload_n 1, 1) := dk_27 (dk_at dksJ7_checkFromToIndex_0 5 rfl rfl)
theorem dJ7_checkFromToIndex_6 : decode cJ7_checkFromToIndex 6 = .ok (.if_icmp .gt 8, 3) := dk_163 0 8 (dk_at dksJ7_checkFromToIndex_0 6 rfl rfl)
theorem dJ7_checkFromToIndex_9 : decode cJ7_checkFromToIndex 9 = .ok (.iload_n 1, 1) := dk_27 (dk_at dksJ7_checkFromToIndex_0 9 rfl rfl)
theorem dJ7_checkFromToIndex_10 : decode cJ7_checkFromToIndex 10 = .ok (.iload_n 2, 1) := dk_28 (dk_at dksJ7_checkFromToIndex_0 10 rfl rfl)
theorem dJ7_checkFromToIndex_11 : decode cJ7_checkFromToIndex 11 = .ok (.if_icmp .le 11, 3) := dk_164 0 11 (dk_at dksJ7_checkFromToIndex_0 11 rfl rfl)
theorem dJ7_checkFromToIndex_14 : decode cJ7_checkFromToIndex 14 = .ok (.aload_n 3, 1) := dk_45 (dk_at dksJ7_checkFromToIndex_0 14 rfl rfl)
theorem dJ7_checkFromToIndex_15 : decode cJ7_checkFromToIndex 15 = .ok (.iload_n 0, 1) := dk_26 (dk_at dksJ7_checkFromToIndex_0 15 rfl rfl)
theorem dJ7_checkFromToIndex_16 : decode cJ7_checkFromToIndex 16 = .ok (.iload_n 1, 1) := dk_27 (dk_at dksJ7_checkFromToIndex_0 16 rfl rfl)
theorem dJ7_checkFromToIndex_17 : decode cJ7_checkFromToIndex 17 = .ok (.iload_n 2, 1) := dk_28 (dk_at dksJ7_checkFromToIndex_0 17 rfl rfl)
theorem dJ7_checkFromToIndex_18 : decode cJ7_checkFromToIndex 18 = .ok (.invokestatic 99, 3) := dk_184 0 99 (dk_at dksJ7_checkFromToIndex_0 18 rfl rfl)
theorem dJ7_checkFromToIndex_21 : decode cJ7_checkFromToIndex 21 = .ok (.athrow, 1) := dk_191 (dk_at dksJ7_checkFromToIndex_0 21 rfl rfl)
theorem dJ7_checkFromToIndex_22 : decode cJ7_checkFromToIndex 22 = .ok (.iload_n 0, 1) := dk_26 (dk_at dksJ7_checkFromToIndex_0 22 rfl rfl)
theorem dJ7_checkFromToIndex_23 : decode cJ7_checkFromToIndex 23 = .ok (.ireturn, 1) := dk_172 (dk_at dksJ7_checkFromToIndex_0 23 rfl rfl)
abbrev cJ7_checkIndex : ByteArray := prog_47_method_11_code
def yJ7_checkIndex : MethodName := ⟨RJ7, "checkIndex", "(IILjava/util/function/BiFunction;)I"⟩
def dkwJ7_checkIndex_0 : List UInt8 := [26, 155, 0, 8, 26, 27, 161, 0, 10, 44, 26, 27, 184, 0, 95, 191, 26, 172]
abbrev dktJ7_checkIndex_0 : List UInt8 := dkwJ7_checkIndex_0 ++ []
theorem dksJ7_checkIndex_0 : cJ7_checkIndex.data.toList.drop 0 = dktJ7_checkIndex_0 := by decide +kernel
theorem dJ7_checkIndex_0 : decode cJ7_checkIndex 0 = .ok (.iload_n 0, 1) := dk_26 (dk_at dksJ7_checkIndex_0 0 rfl rfl)
theorem dJ7_checkIndex_1 : decode cJ7_checkIndex 1 = .ok (.ifCond .lt 8, 3) := dk_155 0 8 (dk_at dksJ7_checkIndex_0 1 rfl rfl)
theorem dJ7_checkIndex_4 : decode cJ7_checkIndex 4 = .ok (.iload_n 0, 1) := dk_26 (dk_at dksJ7_checkIndex_0 4 rfl rfl)
theorem dJ7_checkIndex_5 : decode cJ7_checkIndex 5 = .ok (.iload_n 1, 1) := dk_27 (dk_at dksJ7_checkIndex_0 5 rfl rfl)
theorem dJ7_checkIndex_6 : decode cJ7_checkIndex 6 = .ok (.if_icmp .lt 10, 3) := dk_161 0 10 (dk_at dksJ7_checkIndex_0 6 rfl rfl)
theorem dJ7_checkIndex_9 : decode cJ7_checkIndex 9 = .ok (.aload_n 2, 1) := dk_44 (dk_at dksJ7_checkIndex_0 9 rfl rfl)
theorem dJ7_checkIndex_10 : decode cJ7_checkIndex 10 = .ok (.iload_n 0, 1) := dk_26 (dk_at dksJ7_checkIndex_0 10 rfl rfl)
theorem dJ7_checkIndex_11 : decode cJ7_checkIndex 11 = .ok (.iload_n 1, 1) := dk_27 (dk_at dksJ7_checkIndex_0 11 rfl rfl)
theorem dJ7_checkIndex_12 : decode cJ7_checkIndex 12 = .ok (.invokestatic 95, 3) := dk_184 0 95 (dk_at dksJ7_checkIndex_0 12 rfl rfl)
theorem dJ7_checkIndex_15 : decode cJ7_checkIndex 15 = .ok (.athrow, 1) := dk_191 (dk_at dksJ7_checkIndex_0 15 rfl rfl)
theorem dJ7_checkIndex_16 : decode cJ7_checkIndex 16 = .ok (.iload_n 0, 1) := dk_26 (dk_at dksJ7_checkIndex_0 16 rfl rfl)
theorem dJ7_checkIndex_17 : decode cJ7_checkIndex 17 = .ok (.ireturn, 1) := dk_172 (dk_at dksJ7_checkIndex_0 17 rfl rfl)

def RJ8 : String := "java/lang/Character"
abbrev cJ8_isValidCodePoint : ByteArray := prog_17_method_11_code
def yJ8_isValidCodePoint : MethodName := ⟨RJ8, "isValidCodePoint", "(I)Z"⟩
def dkwJ8_isValidCodePoint_0 : List UInt8 := [26, 16, 16, 124, 60, 27, 16, 17, 162, 0, 7, 4, 167, 0, 4, 3, 172]
abbrev dktJ8_isValidCodePoint_0 : List UInt8 := dkwJ8_isValidCodePoint_0 ++ []
theorem dksJ8_isValidCodePoint_0 : cJ8_isValidCodePoint.data.toList.drop 0 = dktJ8_isValidCodePoint_0 := by decide +kernel
theorem dJ8_isValidCodePoint_0 : decode cJ8_isValidCodePoint 0 = .ok (.iload_n 0, 1) := dk_26 (dk_at dksJ8_isValidCodePoint_0 0 rfl rfl)
theorem dJ8_isValidCodePoint_1 : decode cJ8_isValidCodePoint 1 = .ok (.bipush 16, 2) := dk_16 16 (dk_at dksJ8_isValidCodePoint_0 1 rfl rfl)
theorem dJ8_isValidCodePoint_3 : decode cJ8_isValidCodePoint 3 = .ok (.iushr, 1) := dk_124 (dk_at dksJ8_isValidCodePoint_0 3 rfl rfl)
theorem dJ8_isValidCodePoint_4 : decode cJ8_isValidCodePoint 4 = .ok (.istore_n 1, 1) := dk_60 (dk_at dksJ8_isValidCodePoint_0 4 rfl rfl)
theorem dJ8_isValidCodePoint_5 : decode cJ8_isValidCodePoint 5 = .ok (.iload_n 1, 1) := dk_27 (dk_at dksJ8_isValidCodePoint_0 5 rfl rfl)
theorem dJ8_isValidCodePoint_6 : decode cJ8_isValidCodePoint 6 = .ok (.bipush 17, 2) := dk_16 17 (dk_at dksJ8_isValidCodePoint_0 6 rfl rfl)
theorem dJ8_isValidCodePoint_8 : decode cJ8_isValidCodePoint 8 = .ok (.if_icmp .ge 7, 3) := dk_162 0 7 (dk_at dksJ8_isValidCodePoint_0 8 rfl rfl)
theorem dJ8_isValidCodePoint_11 : decode cJ8_isValidCodePoint 11 = .ok (.iconst 1, 1) := dk_4 (dk_at dksJ8_isValidCodePoint_0 11 rfl rfl)
theorem dJ8_isValidCodePoint_12 : decode cJ8_isValidCodePoint 12 = .ok (.goto 4, 3) := dk_167 0 4 (dk_at dksJ8_isValidCodePoint_0 12 rfl rfl)
theorem dJ8_isValidCodePoint_15 : decode cJ8_isValidCodePoint 15 = .ok (.iconst 0, 1) := dk_3 (dk_at dksJ8_isValidCodePoint_0 15 rfl rfl)
theorem dJ8_isValidCodePoint_16 : decode cJ8_isValidCodePoint 16 = .ok (.ireturn, 1) := dk_172 (dk_at dksJ8_isValidCodePoint_0 16 rfl rfl)
abbrev cJ8_highSurrogate : ByteArray := prog_17_method_28_code
def yJ8_highSurrogate : MethodName := ⟨RJ8, "highSurrogate", "(I)C"⟩
def dkwJ8_highSurrogate_0 : List UInt8 := [26, 16, 10, 124, 18, 110, 96, 146, 172]
abbrev dktJ8_highSurrogate_0 : List UInt8 := dkwJ8_highSurrogate_0 ++ []
theorem dksJ8_highSurrogate_0 : cJ8_highSurrogate.data.toList.drop 0 = dktJ8_highSurrogate_0 := by decide +kernel
theorem dJ8_highSurrogate_0 : decode cJ8_highSurrogate 0 = .ok (.iload_n 0, 1) := dk_26 (dk_at dksJ8_highSurrogate_0 0 rfl rfl)
theorem dJ8_highSurrogate_1 : decode cJ8_highSurrogate 1 = .ok (.bipush 10, 2) := dk_16 10 (dk_at dksJ8_highSurrogate_0 1 rfl rfl)
theorem dJ8_highSurrogate_3 : decode cJ8_highSurrogate 3 = .ok (.iushr, 1) := dk_124 (dk_at dksJ8_highSurrogate_0 3 rfl rfl)
theorem dJ8_highSurrogate_4 : decode cJ8_highSurrogate 4 = .ok (.ldc 110, 2) := dk_18 110 (dk_at dksJ8_highSurrogate_0 4 rfl rfl)
theorem dJ8_highSurrogate_6 : decode cJ8_highSurrogate 6 = .ok (.iadd, 1) := dk_96 (dk_at dksJ8_highSurrogate_0 6 rfl rfl)
theorem dJ8_highSurrogate_7 : decode cJ8_highSurrogate 7 = .ok (.i2c, 1) := dk_146 (dk_at dksJ8_highSurrogate_0 7 rfl rfl)
theorem dJ8_highSurrogate_8 : decode cJ8_highSurrogate 8 = .ok (.ireturn, 1) := dk_172 (dk_at dksJ8_highSurrogate_0 8 rfl rfl)
abbrev cJ8_lowSurrogate : ByteArray := prog_17_method_29_code
def yJ8_lowSurrogate : MethodName := ⟨RJ8, "lowSurrogate", "(I)C"⟩
def dkwJ8_lowSurrogate_0 : List UInt8 := [26, 17, 3, 255, 126, 18, 76, 96, 146, 172]
abbrev dktJ8_lowSurrogate_0 : List UInt8 := dkwJ8_lowSurrogate_0 ++ []
theorem dksJ8_lowSurrogate_0 : cJ8_lowSurrogate.data.toList.drop 0 = dktJ8_lowSurrogate_0 := by decide +kernel
theorem dJ8_lowSurrogate_0 : decode cJ8_lowSurrogate 0 = .ok (.iload_n 0, 1) := dk_26 (dk_at dksJ8_lowSurrogate_0 0 rfl rfl)
theorem dJ8_lowSurrogate_1 : decode cJ8_lowSurrogate 1 = .ok (.sipush 1023, 3) := dk_17 3 255 (dk_at dksJ8_lowSurrogate_0 1 rfl rfl)
theorem dJ8_lowSurrogate_4 : decode cJ8_lowSurrogate 4 = .ok (.iand, 1) := dk_126 (dk_at dksJ8_lowSurrogate_0 4 rfl rfl)
theorem dJ8_lowSurrogate_5 : decode cJ8_lowSurrogate 5 = .ok (.ldc 76, 2) := dk_18 76 (dk_at dksJ8_lowSurrogate_0 5 rfl rfl)
theorem dJ8_lowSurrogate_7 : decode cJ8_lowSurrogate 7 = .ok (.iadd, 1) := dk_96 (dk_at dksJ8_lowSurrogate_0 7 rfl rfl)
theorem dJ8_lowSurrogate_8 : decode cJ8_lowSurrogate 8 = .ok (.i2c, 1) := dk_146 (dk_at dksJ8_lowSurrogate_0 8 rfl rfl)
theorem dJ8_lowSurrogate_9 : decode cJ8_lowSurrogate 9 = .ok (.ireturn, 1) := dk_172 (dk_at dksJ8_lowSurrogate_0 9 rfl rfl)

def RJ9 : String := "java/lang/Throwable"
abbrev cJ9_init : ByteArray := prog_31_method_1_code
def yJ9_init : MethodName := ⟨RJ9, "<init>", "()V"⟩
def dkwJ9_init_1 : List UInt8 := [182, 0, 27, 87, 177]
abbrev dktJ9_init_1 : List UInt8 := dkwJ9_init_1 ++ []
def dkwJ9_init_0 : List UInt8 := [42, 183, 0, 1, 42, 42, 181, 0, 7, 42, 178, 0, 13, 181, 0, 17, 42, 178, 0, 20, 181, 0, 24, 42]
abbrev dktJ9_init_0 : List UInt8 := dkwJ9_init_0 ++ dktJ9_init_1
theorem dksJ9_init_0 : cJ9_init.data.toList.drop 0 = dktJ9_init_0 := by decide +kernel
theorem dksJ9_init_1 : cJ9_init.data.toList.drop 24 = dktJ9_init_1 := dk_seg dksJ9_init_0 24 rfl rfl
theorem dJ9_init_0 : decode cJ9_init 0 = .ok (.aload_n 0, 1) := dk_42 (dk_at dksJ9_init_0 0 rfl rfl)
theorem dJ9_init_1 : decode cJ9_init 1 = .ok (.invokespecial 1, 3) := dk_183 0 1 (dk_at dksJ9_init_0 1 rfl rfl)
theorem dJ9_init_4 : decode cJ9_init 4 = .ok (.aload_n 0, 1) := dk_42 (dk_at dksJ9_init_0 4 rfl rfl)
theorem dJ9_init_5 : decode cJ9_init 5 = .ok (.aload_n 0, 1) := dk_42 (dk_at dksJ9_init_0 5 rfl rfl)
theorem dJ9_init_6 : decode cJ9_init 6 = .ok (.putfield 7, 3) := dk_181 0 7 (dk_at dksJ9_init_0 6 rfl rfl)
theorem dJ9_init_9 : decode cJ9_init 9 = .ok (.aload_n 0, 1) := dk_42 (dk_at dksJ9_init_0 9 rfl rfl)
theorem dJ9_init_10 : decode cJ9_init 10 = .ok (.getstatic 13, 3) := dk_178 0 13 (dk_at dksJ9_init_0 10 rfl rfl)
theorem dJ9_init_13 : decode cJ9_init 13 = .ok (.putfield 17, 3) := dk_181 0 17 (dk_at dksJ9_init_0 13 rfl rfl)
theorem dJ9_init_16 : decode cJ9_init 16 = .ok (.aload_n 0, 1) := dk_42 (dk_at dksJ9_init_0 16 rfl rfl)
theorem dJ9_init_17 : decode cJ9_init 17 = .ok (.getstatic 20, 3) := dk_178 0 20 (dk_at dksJ9_init_0 17 rfl rfl)
theorem dJ9_init_20 : decode cJ9_init 20 = .ok (.putfield 24, 3) := dk_181 0 24 (dk_at dksJ9_init_0 20 rfl rfl)
theorem dJ9_init_23 : decode cJ9_init 23 = .ok (.aload_n 0, 1) := dk_42 (dk_at dksJ9_init_0 23 rfl rfl)
theorem dJ9_init_24 : decode cJ9_init 24 = .ok (.invokevirtual 27, 3) := dk_182 0 27 (dk_at dksJ9_init_1 0 rfl rfl)
theorem dJ9_init_27 : decode cJ9_init 27 = .ok (.pop, 1) := dk_87 (dk_at dksJ9_init_1 3 rfl rfl)
theorem dJ9_init_28 : decode cJ9_init 28 = .ok (.return_, 1) := dk_177 (dk_at dksJ9_init_1 4 rfl rfl)
abbrev cJ9_init_2 : ByteArray := prog_31_method_5_code
def yJ9_init_2 : MethodName := ⟨RJ9, "<init>", "(Ljava/lang/String;Ljava/lang/Throwable;ZZ)V"⟩
def dkwJ9_init_2_2 : List UInt8 := [44, 181, 0, 7, 29, 154, 0, 8, 42, 1, 181, 0, 24, 177]
abbrev dktJ9_init_2_2 : List UInt8 := dkwJ9_init_2_2 ++ []
def dkwJ9_init_2_1 : List UInt8 := [21, 4, 153, 0, 11, 42, 182, 0, 27, 87, 167, 0, 8, 42, 1, 181, 0, 17, 42, 43, 181, 0, 31, 42]
abbrev dktJ9_init_2_1 : List UInt8 := dkwJ9_init_2_1 ++ dktJ9_init_2_2
def dkwJ9_init_2_0 : List UInt8 := [42, 183, 0, 1, 42, 42, 181, 0, 7, 42, 178, 0, 13, 181, 0, 17, 42, 178, 0, 20, 181, 0, 24]
abbrev dktJ9_init_2_0 : List UInt8 := dkwJ9_init_2_0 ++ dktJ9_init_2_1
theorem dksJ9_init_2_0 : cJ9_init_2.data.toList.drop 0 = dktJ9_init_2_0 := by decide +kernel
theorem dksJ9_init_2_1 : cJ9_init_2.data.toList.drop 23 = dktJ9_init_2_1 := dk_seg dksJ9_init_2_0 23 rfl rfl
theorem dksJ9_init_2_2 : cJ9_init_2.data.toList.drop 47 = dktJ9_init_2_2 := dk_seg dksJ9_init_2_1 24 rfl rfl
theorem dJ9_init_2_0 : decode cJ9_init_2 0 = .ok (.aload_n 0, 1) := dk_42 (dk_at dksJ9_init_2_0 0 rfl rfl)
theorem dJ9_init_2_1 : decode cJ9_init_2 1 = .ok (.invokespecial 1, 3) := dk_183 0 1 (dk_at dksJ9_init_2_0 1 rfl rfl)
theorem dJ9_init_2_4 : decode cJ9_init_2 4 = .ok (.aload_n 0, 1) := dk_42 (dk_at dksJ9_init_2_0 4 rfl rfl)
theorem dJ9_init_2_5 : decode cJ9_init_2 5 = .ok (.aload_n 0, 1) := dk_42 (dk_at dksJ9_init_2_0 5 rfl rfl)
theorem dJ9_init_2_6 : decode cJ9_init_2 6 = .ok (.putfield 7, 3) := dk_181 0 7 (dk_at dksJ9_init_2_0 6 rfl rfl)
theorem dJ9_init_2_9 : decode cJ9_init_2 9 = .ok (.aload_n 0, 1) := dk_42 (dk_at dksJ9_init_2_0 9 rfl rfl)
theorem dJ9_init_2_10 : decode cJ9_init_2 10 = .ok (.getstatic 13, 3) := dk_178 0 13 (dk_at dksJ9_init_2_0 10 rfl rfl)
theorem dJ9_init_2_13 : decode cJ9_init_2 13 = .ok (.putfield 17, 3) := dk_181 0 17 (dk_at dksJ9_init_2_0 13 rfl rfl)
theorem dJ9_init_2_16 : decode cJ9_init_2 16 = .ok (.aload_n 0, 1) := dk_42 (dk_at dksJ9_init_2_0 16 rfl rfl)
theorem dJ9_init_2_17 : decode cJ9_init_2 17 = .ok (.getstatic 20, 3) := dk_178 0 20 (dk_at dksJ9_init_2_0 17 rfl rfl)
theorem dJ9_init_2_20 : decode cJ9_init_2 20 = .ok (.putfield 24, 3) := dk_181 0 24 (dk_at dksJ9_init_2_0 20 rfl rfl)
theorem dJ9_init_2_23 : decode cJ9_init_2 23 = .ok (.iload 4, 2) := dk_21 4 (dk_at dksJ9_init_2_1 0 rfl rfl)
theorem dJ9_init_2_25 : decode cJ9_init_2 25 = .ok (.ifCond .eq 11, 3) := dk_153 0 11 (dk_at dksJ9_init_2_1 2 rfl rfl)
theorem dJ9_init_2_28 : decode cJ9_init_2 28 = .ok (.aload_n 0, 1) := dk_42 (dk_at dksJ9_init_2_1 5 rfl rfl)
theorem dJ9_init_2_29 : decode cJ9_init_2 29 = .ok (.invokevirtual 27, 3) := dk_182 0 27 (dk_at dksJ9_init_2_1 6 rfl rfl)
theorem dJ9_init_2_32 : decode cJ9_init_2 32 = .ok (.pop, 1) := dk_87 (dk_at dksJ9_init_2_1 9 rfl rfl)
theorem dJ9_init_2_33 : decode cJ9_init_2 33 = .ok (.goto 8, 3) := dk_167 0 8 (dk_at dksJ9_init_2_1 10 rfl rfl)
theorem dJ9_init_2_36 : decode cJ9_init_2 36 = .ok (.aload_n 0, 1) := dk_42 (dk_at dksJ9_init_2_1 13 rfl rfl)
theorem dJ9_init_2_37 : decode cJ9_init_2 37 = .ok (.aconst_null, 1) := dk_1 (dk_at dksJ9_init_2_1 14 rfl rfl)
theorem dJ9_init_2_38 : decode cJ9_init_2 38 = .ok (.putfield 17, 3) := dk_181 0 17 (dk_at dksJ9_init_2_1 15 rfl rfl)
theorem dJ9_init_2_41 : decode cJ9_init_2 41 = .ok (.aload_n 0, 1) := dk_42 (dk_at dksJ9_init_2_1 18 rfl rfl)
theorem dJ9_init_2_42 : decode cJ9_init_2 42 = .ok (.aload_n 1, 1) := dk_43 (dk_at dksJ9_init_2_1 19 rfl rfl)
theorem dJ9_init_2_43 : decode cJ9_init_2 43 = .ok (.putfield 31, 3) := dk_181 0 31 (dk_at dksJ9_init_2_1 20 rfl rfl)
theorem dJ9_init_2_46 : decode cJ9_init_2 46 = .ok (.aload_n 0, 1) := dk_42 (dk_at dksJ9_init_2_1 23 rfl rfl)
theorem dJ9_init_2_47 : decode cJ9_init_2 47 = .ok (.aload_n 2, 1) := dk_44 (dk_at dksJ9_init_2_2 0 rfl rfl)
theorem dJ9_init_2_48 : decode cJ9_init_2 48 = .ok (.putfield 7, 3) := dk_181 0 7 (dk_at dksJ9_init_2_2 1 rfl rfl)
theorem dJ9_init_2_51 : decode cJ9_init_2 51 = .ok (.iload_n 3, 1) := dk_29 (dk_at dksJ9_init_2_2 4 rfl rfl)
theorem dJ9_init_2_52 : decode cJ9_init_2 52 = .ok (.ifCond .ne 8, 3) := dk_154 0 8 (dk_at dksJ9_init_2_2 5 rfl rfl)
theorem dJ9_init_2_55 : decode cJ9_init_2 55 = .ok (.aload_n 0, 1) := dk_42 (dk_at dksJ9_init_2_2 8 rfl rfl)
theorem dJ9_init_2_56 : decode cJ9_init_2 56 = .ok (.aconst_null, 1) := dk_1 (dk_at dksJ9_init_2_2 9 rfl rfl)
theorem dJ9_init_2_57 : decode cJ9_init_2 57 = .ok (.putfield 24, 3) := dk_181 0 24 (dk_at dksJ9_init_2_2 10 rfl rfl)
theorem dJ9_init_2_60 : decode cJ9_init_2 60 = .ok (.return_, 1) := dk_177 (dk_at dksJ9_init_2_2 13 rfl rfl)

def RJ10 : String := "java/lang/Exception"
abbrev cJ10_init : ByteArray := prog_20_method_5_code
def yJ10_init : MethodName := ⟨RJ10, "<init>", "(Ljava/lang/String;Ljava/lang/Throwable;ZZ)V"⟩
def dkwJ10_init_0 : List UInt8 := [42, 43, 44, 29, 21, 4, 183, 0, 16, 177]
abbrev dktJ10_init_0 : List UInt8 := dkwJ10_init_0 ++ []
theorem dksJ10_init_0 : cJ10_init.data.toList.drop 0 = dktJ10_init_0 := by decide +kernel
theorem dJ10_init_0 : decode cJ10_init 0 = .ok (.aload_n 0, 1) := dk_42 (dk_at dksJ10_init_0 0 rfl rfl)
theorem dJ10_init_1 : decode cJ10_init 1 = .ok (.aload_n 1, 1) := dk_43 (dk_at dksJ10_init_0 1 rfl rfl)
theorem dJ10_init_2 : decode cJ10_init 2 = .ok (.aload_n 2, 1) := dk_44 (dk_at dksJ10_init_0 2 rfl rfl)
theorem dJ10_init_3 : decode cJ10_init 3 = .ok (.iload_n 3, 1) := dk_29 (dk_at dksJ10_init_0 3 rfl rfl)
theorem dJ10_init_4 : decode cJ10_init 4 = .ok (.iload 4, 2) := dk_21 4 (dk_at dksJ10_init_0 4 rfl rfl)
theorem dJ10_init_6 : decode cJ10_init 6 = .ok (.invokespecial 16, 3) := dk_183 0 16 (dk_at dksJ10_init_0 6 rfl rfl)
theorem dJ10_init_9 : decode cJ10_init 9 = .ok (.return_, 1) := dk_177 (dk_at dksJ10_init_0 9 rfl rfl)
abbrev cJ10_init_2 : ByteArray := prog_20_method_1_code
def yJ10_init_2 : MethodName := ⟨RJ10, "<init>", "()V"⟩
theorem dJ10_init_2_0 : decode cJ10_init_2 0 = .ok (.aload_n 0, 1) := by decide +kernel
theorem dJ10_init_2_1 : decode cJ10_init_2 1 = .ok (.invokespecial 1, 3) := by decide +kernel
theorem dJ10_init_2_4 : decode cJ10_init_2 4 = .ok (.return_, 1) := by decide +kernel

def RJ11 : String := "java/util/Objects"
abbrev cJ11_checkIndex : ByteArray := prog_43_method_17_code
def yJ11_checkIndex : MethodName := ⟨RJ11, "checkIndex", "(II)I"⟩
def dkwJ11_checkIndex_0 : List UInt8 := [26, 27, 1, 184, 0, 105, 172]
abbrev dktJ11_checkIndex_0 : List UInt8 := dkwJ11_checkIndex_0 ++ []
theorem dksJ11_checkIndex_0 : cJ11_checkIndex.data.toList.drop 0 = dktJ11_checkIndex_0 := by decide +kernel
theorem dJ11_checkIndex_0 : decode cJ11_checkIndex 0 = .ok (.iload_n 0, 1) := dk_26 (dk_at dksJ11_checkIndex_0 0 rfl rfl)
theorem dJ11_checkIndex_1 : decode cJ11_checkIndex 1 = .ok (.iload_n 1, 1) := dk_27 (dk_at dksJ11_checkIndex_0 1 rfl rfl)
theorem dJ11_checkIndex_2 : decode cJ11_checkIndex 2 = .ok (.aconst_null, 1) := dk_1 (dk_at dksJ11_checkIndex_0 2 rfl rfl)
theorem dJ11_checkIndex_3 : decode cJ11_checkIndex 3 = .ok (.invokestatic 105, 3) := dk_184 0 105 (dk_at dksJ11_checkIndex_0 3 rfl rfl)
theorem dJ11_checkIndex_6 : decode cJ11_checkIndex 6 = .ok (.ireturn, 1) := dk_172 (dk_at dksJ11_checkIndex_0 6 rfl rfl)

def RJ12 : String := "jdk/internal/util/ArraysSupport"
abbrev cJ12_newLength : ByteArray := prog_46_method_27_code
def yJ12_newLength : MethodName := ⟨RJ12, "newLength", "(III)I"⟩
def dkwJ12_newLength_1 : List UInt8 := [184, 0, 201, 172]
abbrev dktJ12_newLength_1 : List UInt8 := dkwJ12_newLength_1 ++ []
def dkwJ12_newLength_0 : List UInt8 := [26, 27, 28, 184, 0, 194, 96, 62, 3, 29, 162, 0, 11, 29, 18, 200, 163, 0, 5, 29, 172, 26, 27]
abbrev dktJ12_newLength_0 : List UInt8 := dkwJ12_newLength_0 ++ dktJ12_newLength_1
theorem dksJ12_newLength_0 : cJ12_newLength.data.toList.drop 0 = dktJ12_newLength_0 := by decide +kernel
theorem dksJ12_newLength_1 : cJ12_newLength.data.toList.drop 23 = dktJ12_newLength_1 := dk_seg dksJ12_newLength_0 23 rfl rfl
theorem dJ12_newLength_0 : decode cJ12_newLength 0 = .ok (.iload_n 0, 1) := dk_26 (dk_at dksJ12_newLength_0 0 rfl rfl)
theorem dJ12_newLength_1 : decode cJ12_newLength 1 = .ok (.iload_n 1, 1) := dk_27 (dk_at dksJ12_newLength_0 1 rfl rfl)
theorem dJ12_newLength_2 : decode cJ12_newLength 2 = .ok (.iload_n 2, 1) := dk_28 (dk_at dksJ12_newLength_0 2 rfl rfl)
theorem dJ12_newLength_3 : decode cJ12_newLength 3 = .ok (.invokestatic 194, 3) := dk_184 0 194 (dk_at dksJ12_newLength_0 3 rfl rfl)
theorem dJ12_newLength_6 : decode cJ12_newLength 6 = .ok (.iadd, 1) := dk_96 (dk_at dksJ12_newLength_0 6 rfl rfl)
theorem dJ12_newLength_7 : decode cJ12_newLength 7 = .ok (.istore_n 3, 1) := dk_62 (dk_at dksJ12_newLength_0 7 rfl rfl)
theorem dJ12_newLength_8 : decode cJ12_newLength 8 = .ok (.iconst 0, 1) := dk_3 (dk_at dksJ12_newLength_0 8 rfl rfl)
theorem dJ12_newLength_9 : decode cJ12_newLength 9 = .ok (.iload_n 3, 1) := dk_29 (dk_at dksJ12_newLength_0 9 rfl rfl)
theorem dJ12_newLength_10 : decode cJ12_newLength 10 = .ok (.if_icmp .ge 11, 3) := dk_162 0 11 (dk_at dksJ12_newLength_0 10 rfl rfl)
theorem dJ12_newLength_13 : decode cJ12_newLength 13 = .ok (.iload_n 3, 1) := dk_29 (dk_at dksJ12_newLength_0 13 rfl rfl)
theorem dJ12_newLength_14 : decode cJ12_newLength 14 = .ok (.ldc 200, 2) := dk_18 200 (dk_at dksJ12_newLength_0 14 rfl rfl)
theorem dJ12_newLength_16 : decode cJ12_newLength 16 = .ok (.if_icmp .gt 5, 3) := dk_163 0 5 (dk_at dksJ12_newLength_0 16 rfl rfl)
theorem dJ12_newLength_19 : decode cJ12_newLength 19 = .ok (.iload_n 3, 1) := dk_29 (dk_at dksJ12_newLength_0 19 rfl rfl)
theorem dJ12_newLength_20 : decode cJ12_newLength 20 = .ok (.ireturn, 1) := dk_172 (dk_at dksJ12_newLength_0 20 rfl rfl)
theorem dJ12_newLength_21 : decode cJ12_newLength 21 = .ok (.iload_n 0, 1) := dk_26 (dk_at dksJ12_newLength_0 21 rfl rfl)
theorem dJ12_newLength_22 : decode cJ12_newLength 22 = .ok (.iload_n 1, 1) := dk_27 (dk_at dksJ12_newLength_0 22 rfl rfl)
theorem dJ12_newLength_23 : decode cJ12_newLength 23 = .ok (.invokestatic 201, 3) := dk_184 0 201 (dk_at dksJ12_newLength_1 0 rfl rfl)
theorem dJ12_newLength_26 : decode cJ12_newLength 26 = .ok (.ireturn, 1) := dk_172 (dk_at dksJ12_newLength_1 3 rfl rfl)
abbrev cJ12_hugeLength : ByteArray := prog_46_method_28_code
def yJ12_hugeLength : MethodName := ⟨RJ12, "hugeLength", "(II)I"⟩
def dkwJ12_hugeLength_2 : List UInt8 := [191, 28, 18, 200, 163, 0, 6, 18, 200, 172, 28, 172]
abbrev dktJ12_hugeLength_2 : List UInt8 := dkwJ12_hugeLength_2 ++ []
def dkwJ12_hugeLength_1 : List UInt8 := [26, 182, 0, 98, 18, 208, 182, 0, 94, 27, 182, 0, 98, 18, 210, 182, 0, 94, 182, 0, 101, 183, 0, 212]
abbrev dktJ12_hugeLength_1 : List UInt8 := dkwJ12_hugeLength_1 ++ dktJ12_hugeLength_2
def dkwJ12_hugeLength_0 : List UInt8 := [26, 27, 96, 61, 28, 156, 0, 44, 187, 0, 204, 89, 187, 0, 89, 89, 183, 0, 91, 18, 206, 182, 0, 94]
abbrev dktJ12_hugeLength_0 : List UInt8 := dkwJ12_hugeLength_0 ++ dktJ12_hugeLength_1
theorem dksJ12_hugeLength_0 : cJ12_hugeLength.data.toList.drop 0 = dktJ12_hugeLength_0 := by decide +kernel
theorem dksJ12_hugeLength_1 : cJ12_hugeLength.data.toList.drop 24 = dktJ12_hugeLength_1 := dk_seg dksJ12_hugeLength_0 24 rfl rfl
theorem dksJ12_hugeLength_2 : cJ12_hugeLength.data.toList.drop 48 = dktJ12_hugeLength_2 := dk_seg dksJ12_hugeLength_1 24 rfl rfl
theorem dJ12_hugeLength_0 : decode cJ12_hugeLength 0 = .ok (.iload_n 0, 1) := dk_26 (dk_at dksJ12_hugeLength_0 0 rfl rfl)
theorem dJ12_hugeLength_1 : decode cJ12_hugeLength 1 = .ok (.iload_n 1, 1) := dk_27 (dk_at dksJ12_hugeLength_0 1 rfl rfl)
theorem dJ12_hugeLength_2 : decode cJ12_hugeLength 2 = .ok (.iadd, 1) := dk_96 (dk_at dksJ12_hugeLength_0 2 rfl rfl)
theorem dJ12_hugeLength_3 : decode cJ12_hugeLength 3 = .ok (.istore_n 2, 1) := dk_61 (dk_at dksJ12_hugeLength_0 3 rfl rfl)
theorem dJ12_hugeLength_4 : decode cJ12_hugeLength 4 = .ok (.iload_n 2, 1) := dk_28 (dk_at dksJ12_hugeLength_0 4 rfl rfl)
theorem dJ12_hugeLength_5 : decode cJ12_hugeLength 5 = .ok (.ifCond .ge 44, 3) := dk_156 0 44 (dk_at dksJ12_hugeLength_0 5 rfl rfl)
theorem dJ12_hugeLength_8 : decode cJ12_hugeLength 8 = .ok (.new 204, 3) := dk_187 0 204 (dk_at dksJ12_hugeLength_0 8 rfl rfl)
theorem dJ12_hugeLength_11 : decode cJ12_hugeLength 11 = .ok (.dup, 1) := dk_89 (dk_at dksJ12_hugeLength_0 11 rfl rfl)
theorem dJ12_hugeLength_12 : decode cJ12_hugeLength 12 = .ok (.new 89, 3) := dk_187 0 89 (dk_at dksJ12_hugeLength_0 12 rfl rfl)
theorem dJ12_hugeLength_15 : decode cJ12_hugeLength 15 = .ok (.dup, 1) := dk_89 (dk_at dksJ12_hugeLength_0 15 rfl rfl)
theorem dJ12_hugeLength_16 : decode cJ12_hugeLength 16 = .ok (.invokespecial 91, 3) := dk_183 0 91 (dk_at dksJ12_hugeLength_0 16 rfl rfl)
theorem dJ12_hugeLength_19 : decode cJ12_hugeLength 19 = .ok (.ldc 206, 2) := dk_18 206 (dk_at dksJ12_hugeLength_0 19 rfl rfl)
theorem dJ12_hugeLength_21 : decode cJ12_hugeLength 21 = .ok (.invokevirtual 94, 3) := dk_182 0 94 (dk_at dksJ12_hugeLength_0 21 rfl rfl)
theorem dJ12_hugeLength_24 : decode cJ12_hugeLength 24 = .ok (.iload_n 0, 1) := dk_26 (dk_at dksJ12_hugeLength_1 0 rfl rfl)
theorem dJ12_hugeLength_25 : decode cJ12_hugeLength 25 = .ok (.invokevirtual 98, 3) := dk_182 0 98 (dk_at dksJ12_hugeLength_1 1 rfl rfl)
theorem dJ12_hugeLength_28 : decode cJ12_hugeLength 28 = .ok (.ldc 208, 2) := dk_18 208 (dk_at dksJ12_hugeLength_1 4 rfl rfl)
theorem dJ12_hugeLength_30 : decode cJ12_hugeLength 30 = .ok (.invokevirtual 94, 3) := dk_182 0 94 (dk_at dksJ12_hugeLength_1 6 rfl rfl)
theorem dJ12_hugeLength_33 : decode cJ12_hugeLength 33 = .ok (.iload_n 1, 1) := dk_27 (dk_at dksJ12_hugeLength_1 9 rfl rfl)
theorem dJ12_hugeLength_34 : decode cJ12_hugeLength 34 = .ok (.invokevirtual 98, 3) := dk_182 0 98 (dk_at dksJ12_hugeLength_1 10 rfl rfl)
theorem dJ12_hugeLength_37 : decode cJ12_hugeLength 37 = .ok (.ldc 210, 2) := dk_18 210 (dk_at dksJ12_hugeLength_1 13 rfl rfl)
theorem dJ12_hugeLength_39 : decode cJ12_hugeLength 39 = .ok (.invokevirtual 94, 3) := dk_182 0 94 (dk_at dksJ12_hugeLength_1 15 rfl rfl)
theorem dJ12_hugeLength_42 : decode cJ12_hugeLength 42 = .ok (.invokevirtual 101, 3) := dk_182 0 101 (dk_at dksJ12_hugeLength_1 18 rfl rfl)
theorem dJ12_hugeLength_45 : decode cJ12_hugeLength 45 = .ok (.invokespecial 212, 3) := dk_183 0 212 (dk_at dksJ12_hugeLength_1 21 rfl rfl)
theorem dJ12_hugeLength_48 : decode cJ12_hugeLength 48 = .ok (.athrow, 1) := dk_191 (dk_at dksJ12_hugeLength_2 0 rfl rfl)
theorem dJ12_hugeLength_49 : decode cJ12_hugeLength 49 = .ok (.iload_n 2, 1) := dk_28 (dk_at dksJ12_hugeLength_2 1 rfl rfl)
theorem dJ12_hugeLength_50 : decode cJ12_hugeLength 50 = .ok (.ldc 200, 2) := dk_18 200 (dk_at dksJ12_hugeLength_2 2 rfl rfl)
theorem dJ12_hugeLength_52 : decode cJ12_hugeLength 52 = .ok (.if_icmp .gt 6, 3) := dk_163 0 6 (dk_at dksJ12_hugeLength_2 4 rfl rfl)
theorem dJ12_hugeLength_55 : decode cJ12_hugeLength 55 = .ok (.ldc 200, 2) := dk_18 200 (dk_at dksJ12_hugeLength_2 7 rfl rfl)
theorem dJ12_hugeLength_57 : decode cJ12_hugeLength 57 = .ok (.ireturn, 1) := dk_172 (dk_at dksJ12_hugeLength_2 9 rfl rfl)
theorem dJ12_hugeLength_58 : decode cJ12_hugeLength 58 = .ok (.iload_n 2, 1) := dk_28 (dk_at dksJ12_hugeLength_2 10 rfl rfl)
theorem dJ12_hugeLength_59 : decode cJ12_hugeLength 59 = .ok (.ireturn, 1) := dk_172 (dk_at dksJ12_hugeLength_2 11 rfl rfl)

def RJ13 : String := "java/util/Arrays"
abbrev cJ13_copyOf : ByteArray := prog_38_method_119_code
def yJ13_copyOf : MethodName := ⟨RJ13, "copyOf", "([Ljava/lang/Object;I)[Ljava/lang/Object;"⟩
def dkwJ13_copyOf_0 : List UInt8 := [42, 27, 42, 182, 0, 86, 184, 1, 44, 176]
abbrev dktJ13_copyOf_0 : List UInt8 := dkwJ13_copyOf_0 ++ []
theorem dksJ13_copyOf_0 : cJ13_copyOf.data.toList.drop 0 = dktJ13_copyOf_0 := by decide +kernel
theorem dJ13_copyOf_0 : decode cJ13_copyOf 0 = .ok (.aload_n 0, 1) := dk_42 (dk_at dksJ13_copyOf_0 0 rfl rfl)
theorem dJ13_copyOf_1 : decode cJ13_copyOf 1 = .ok (.iload_n 1, 1) := dk_27 (dk_at dksJ13_copyOf_0 1 rfl rfl)
theorem dJ13_copyOf_2 : decode cJ13_copyOf 2 = .ok (.aload_n 0, 1) := dk_42 (dk_at dksJ13_copyOf_0 2 rfl rfl)
theorem dJ13_copyOf_3 : decode cJ13_copyOf 3 = .ok (.invokevirtual 86, 3) := dk_182 0 86 (dk_at dksJ13_copyOf_0 3 rfl rfl)
theorem dJ13_copyOf_6 : decode cJ13_copyOf 6 = .ok (.invokestatic 300, 3) := dk_184 1 44 (dk_at dksJ13_copyOf_0 6 rfl rfl)
theorem dJ13_copyOf_9 : decode cJ13_copyOf 9 = .ok (.areturn, 1) := dk_176 (dk_at dksJ13_copyOf_0 9 rfl rfl)
abbrev cJ13_copyOf_2 : ByteArray := prog_38_method_120_code
def yJ13_copyOf_2 : MethodName := ⟨RJ13, "copyOf", "([Ljava/lang/Object;ILjava/lang/Class;)[Ljava/lang/Object;"⟩
def dkwJ13_copyOf_2_1 : List UInt8 := [78, 42, 3, 45, 3, 42, 190, 27, 184, 1, 48, 184, 0, 150, 45, 176]
abbrev dktJ13_copyOf_2_1 : List UInt8 := dkwJ13_copyOf_2_1 ++ []
def dkwJ13_copyOf_2_0 : List UInt8 := [44, 18, 110, 166, 0, 10, 27, 189, 0, 2, 167, 0, 14, 44, 182, 0, 90, 27, 184, 0, 95, 192, 0, 110]
abbrev dktJ13_copyOf_2_0 : List UInt8 := dkwJ13_copyOf_2_0 ++ dktJ13_copyOf_2_1
theorem dksJ13_copyOf_2_0 : cJ13_copyOf_2.data.toList.drop 0 = dktJ13_copyOf_2_0 := by decide +kernel
theorem dksJ13_copyOf_2_1 : cJ13_copyOf_2.data.toList.drop 24 = dktJ13_copyOf_2_1 := dk_seg dksJ13_copyOf_2_0 24 rfl rfl
theorem dJ13_copyOf_2_0 : decode cJ13_copyOf_2 0 = .ok (.aload_n 2, 1) := dk_44 (dk_at dksJ13_copyOf_2_0 0 rfl rfl)
theorem dJ13_copyOf_2_1 : decode cJ13_copyOf_2 1 = .ok (.ldc 110, 2) := dk_18 110 (dk_at dksJ13_copyOf_2_0 1 rfl rfl)
theorem dJ13_copyOf_2_3 : decode cJ13_copyOf_2 3 = .ok (.if_acmp .ne 10, 3) := dk_166 0 10 (dk_at dksJ13_copyOf_2_0 3 rfl rfl)
theorem dJ13_copyOf_2_6 : decode cJ13_copyOf_2 6 = .ok (.iload_n 1, 1) := dk_27 (dk_at dksJ13_copyOf_2_0 6 rfl rfl)
theorem dJ13_copyOf_2_7 : decode cJ13_copyOf_2 7 = .ok (.anewarray 2, 3) := dk_189 0 2 (dk_at dksJ13_copyOf_2_0 7 rfl rfl)
theorem dJ13_copyOf_2_10 : decode cJ13_copyOf_2 10 = .ok (.goto 14, 3) := dk_167 0 14 (dk_at dksJ13_copyOf_2_0 10 rfl rfl)
theorem dJ13_copyOf_2_13 : decode cJ13_copyOf_2 13 = .ok (.aload_n 2, 1) := dk_44 (dk_at dksJ13_copyOf_2_0 13 rfl rfl)
theorem dJ13_copyOf_2_14 : decode cJ13_copyOf_2 14 = .ok (.invokevirtual 90, 3) := dk_182 0 90 (dk_at dksJ13_copyOf_2_0 14 rfl rfl)
theorem dJ13_copyOf_2_17 : decode cJ13_copyOf_2 17 = .ok (.iload_n 1, 1) := dk_27 (dk_at dksJ13_copyOf_2_0 17 rfl rfl)
theorem dJ13_copyOf_2_18 : decode cJ13_copyOf_2 18 = .ok (.invokestatic 95, 3) := dk_184 0 95 (dk_at dksJ13_copyOf_2_0 18 rfl rfl)
theorem dJ13_copyOf_2_21 : decode cJ13_copyOf_2 21 = .ok (.checkcast 110, 3) := dk_192 0 110 (dk_at dksJ13_copyOf_2_0 21 rfl rfl)
theorem dJ13_copyOf_2_24 : decode cJ13_copyOf_2 24 = .ok (.astore_n 3, 1) := dk_78 (dk_at dksJ13_copyOf_2_1 0 rfl rfl)
theorem dJ13_copyOf_2_25 : decode cJ13_copyOf_2 25 = .ok (.aload_n 0, 1) := dk_42 (dk_at dksJ13_copyOf_2_1 1 rfl rfl)
theorem dJ13_copyOf_2_26 : decode cJ13_copyOf_2 26 = .ok (.iconst 0, 1) := dk_3 (dk_at dksJ13_copyOf_2_1 2 rfl rfl)
theorem dJ13_copyOf_2_27 : decode cJ13_copyOf_2 27 = .ok (.aload_n 3, 1) := dk_45 (dk_at dksJ13_copyOf_2_1 3 rfl rfl)
theorem dJ13_copyOf_2_28 : decode cJ13_copyOf_2 28 = .ok (.iconst 0, 1) := dk_3 (dk_at dksJ13_copyOf_2_1 4 rfl rfl)
theorem dJ13_copyOf_2_29 : decode cJ13_copyOf_2 29 = .ok (.aload_n 0, 1) := dk_42 (dk_at dksJ13_copyOf_2_1 5 rfl rfl)
theorem dJ13_copyOf_2_30 : decode cJ13_copyOf_2 30 = .ok (.arraylength, 1) := dk_190 (dk_at dksJ13_copyOf_2_1 6 rfl rfl)
theorem dJ13_copyOf_2_31 : decode cJ13_copyOf_2 31 = .ok (.iload_n 1, 1) := dk_27 (dk_at dksJ13_copyOf_2_1 7 rfl rfl)
theorem dJ13_copyOf_2_32 : decode cJ13_copyOf_2 32 = .ok (.invokestatic 304, 3) := dk_184 1 48 (dk_at dksJ13_copyOf_2_1 8 rfl rfl)
theorem dJ13_copyOf_2_35 : decode cJ13_copyOf_2 35 = .ok (.invokestatic 150, 3) := dk_184 0 150 (dk_at dksJ13_copyOf_2_1 11 rfl rfl)
theorem dJ13_copyOf_2_38 : decode cJ13_copyOf_2 38 = .ok (.aload_n 3, 1) := dk_45 (dk_at dksJ13_copyOf_2_1 14 rfl rfl)
theorem dJ13_copyOf_2_39 : decode cJ13_copyOf_2 39 = .ok (.areturn, 1) := dk_176 (dk_at dksJ13_copyOf_2_1 15 rfl rfl)

def RJ14 : String := "java/lang/Number"
abbrev cJ14_init : ByteArray := prog_25_method_1_code
def yJ14_init : MethodName := ⟨RJ14, "<init>", "()V"⟩
theorem dJ14_init_0 : decode cJ14_init 0 = .ok (.aload_n 0, 1) := by decide +kernel
theorem dJ14_init_1 : decode cJ14_init 1 = .ok (.invokespecial 1, 3) := by decide +kernel
theorem dJ14_init_4 : decode cJ14_init 4 = .ok (.return_, 1) := by decide +kernel

abbrev cJ15_valueOf : ByteArray := prog_21_method_22_code
def yJ15_valueOf : MethodName := ⟨RJ15, "valueOf", "(I)Ljava/lang/Integer;"⟩
def dkwJ15_valueOf_1 : List UInt8 := [187, 0, 1, 89, 26, 183, 0, 199, 176]
abbrev dktJ15_valueOf_1 : List UInt8 := dkwJ15_valueOf_1 ++ []
def dkwJ15_valueOf_0 : List UInt8 := [26, 16, 128, 161, 0, 20, 26, 178, 0, 191, 163, 0, 13, 178, 0, 195, 26, 17, 0, 128, 96, 50, 176]
abbrev dktJ15_valueOf_0 : List UInt8 := dkwJ15_valueOf_0 ++ dktJ15_valueOf_1
theorem dksJ15_valueOf_0 : cJ15_valueOf.data.toList.drop 0 = dktJ15_valueOf_0 := by decide +kernel
theorem dksJ15_valueOf_1 : cJ15_valueOf.data.toList.drop 23 = dktJ15_valueOf_1 := dk_seg dksJ15_valueOf_0 23 rfl rfl
theorem dJ15_valueOf_0 : decode cJ15_valueOf 0 = .ok (.iload_n 0, 1) := dk_26 (dk_at dksJ15_valueOf_0 0 rfl rfl)
theorem dJ15_valueOf_1 : decode cJ15_valueOf 1 = .ok (.bipush (-128), 2) := dk_16 128 (dk_at dksJ15_valueOf_0 1 rfl rfl)
theorem dJ15_valueOf_3 : decode cJ15_valueOf 3 = .ok (.if_icmp .lt 20, 3) := dk_161 0 20 (dk_at dksJ15_valueOf_0 3 rfl rfl)
theorem dJ15_valueOf_6 : decode cJ15_valueOf 6 = .ok (.iload_n 0, 1) := dk_26 (dk_at dksJ15_valueOf_0 6 rfl rfl)
theorem dJ15_valueOf_7 : decode cJ15_valueOf 7 = .ok (.getstatic 191, 3) := dk_178 0 191 (dk_at dksJ15_valueOf_0 7 rfl rfl)
theorem dJ15_valueOf_10 : decode cJ15_valueOf 10 = .ok (.if_icmp .gt 13, 3) := dk_163 0 13 (dk_at dksJ15_valueOf_0 10 rfl rfl)
theorem dJ15_valueOf_13 : decode cJ15_valueOf 13 = .ok (.getstatic 195, 3) := dk_178 0 195 (dk_at dksJ15_valueOf_0 13 rfl rfl)
theorem dJ15_valueOf_16 : decode cJ15_valueOf 16 = .ok (.iload_n 0, 1) := dk_26 (dk_at dksJ15_valueOf_0 16 rfl rfl)
theorem dJ15_valueOf_17 : decode cJ15_valueOf 17 = .ok (.sipush 128, 3) := dk_17 0 128 (dk_at dksJ15_valueOf_0 17 rfl rfl)
theorem dJ15_valueOf_20 : decode cJ15_valueOf 20 = .ok (.iadd, 1) := dk_96 (dk_at dksJ15_valueOf_0 20 rfl rfl)
theorem dJ15_valueOf_21 : decode cJ15_valueOf 21 = .ok (.aaload, 1) := dk_50 (dk_at dksJ15_valueOf_0 21 rfl rfl)
theorem dJ15_valueOf_22 : decode cJ15_valueOf 22 = .ok (.areturn, 1) := dk_176 (dk_at dksJ15_valueOf_0 22 rfl rfl)
theorem dJ15_valueOf_23 : decode cJ15_valueOf 23 = .ok (.new 1, 3) := dk_187 0 1 (dk_at dksJ15_valueOf_1 0 rfl rfl)
theorem dJ15_valueOf_26 : decode cJ15_valueOf 26 = .ok (.dup, 1) := dk_89 (dk_at dksJ15_valueOf_1 3 rfl rfl)
theorem dJ15_valueOf_27 : decode cJ15_valueOf 27 = .ok (.iload_n 0, 1) := dk_26 (dk_at dksJ15_valueOf_1 4 rfl rfl)
theorem dJ15_valueOf_28 : decode cJ15_valueOf 28 = .ok (.invokespecial 199, 3) := dk_183 0 199 (dk_at dksJ15_valueOf_1 5 rfl rfl)
theorem dJ15_valueOf_31 : decode cJ15_valueOf 31 = .ok (.areturn, 1) := dk_176 (dk_at dksJ15_valueOf_1 8 rfl rfl)
abbrev cJ15_init : ByteArray := prog_21_method_23_code
def yJ15_init : MethodName := ⟨RJ15, "<init>", "(I)V"⟩
def dkwJ15_init_0 : List UInt8 := [42, 183, 0, 202, 42, 27, 181, 0, 205, 177]
abbrev dktJ15_init_0 : List UInt8 := dkwJ15_init_0 ++ []
theorem dksJ15_init_0 : cJ15_init.data.toList.drop 0 = dktJ15_init_0 := by decide +kernel
theorem dJ15_init_0 : decode cJ15_init 0 = .ok (.aload_n 0, 1) := dk_42 (dk_at dksJ15_init_0 0 rfl rfl)
theorem dJ15_init_1 : decode cJ15_init 1 = .ok (.invokespecial 202, 3) := dk_183 0 202 (dk_at dksJ15_init_0 1 rfl rfl)
theorem dJ15_init_4 : decode cJ15_init 4 = .ok (.aload_n 0, 1) := dk_42 (dk_at dksJ15_init_0 4 rfl rfl)
theorem dJ15_init_5 : decode cJ15_init 5 = .ok (.iload_n 1, 1) := dk_27 (dk_at dksJ15_init_0 5 rfl rfl)
theorem dJ15_init_6 : decode cJ15_init 6 = .ok (.putfield 205, 3) := dk_181 0 205 (dk_at dksJ15_init_0 6 rfl rfl)
theorem dJ15_init_9 : decode cJ15_init 9 = .ok (.return_, 1) := dk_177 (dk_at dksJ15_init_0 9 rfl rfl)
abbrev cJ15_intValue : ByteArray := prog_21_method_27_code
def yJ15_intValue : MethodName := ⟨RJ15, "intValue", "()I"⟩
theorem dJ15_intValue_0 : decode cJ15_intValue 0 = .ok (.aload_n 0, 1) := by decide +kernel
theorem dJ15_intValue_1 : decode cJ15_intValue 1 = .ok (.getfield 205, 3) := by decide +kernel
theorem dJ15_intValue_4 : decode cJ15_intValue 4 = .ok (.ireturn, 1) := by decide +kernel
abbrev cJ15_bitCount : ByteArray := prog_21_method_49_code
def yJ15_bitCount : MethodName := ⟨RJ15, "bitCount", "(I)I"⟩
def dkwJ15_bitCount_2 : List UInt8 := [26, 16, 63, 126, 172]
abbrev dktJ15_bitCount_2 : List UInt8 := dkwJ15_bitCount_2 ++ []
def dkwJ15_bitCount_1 : List UInt8 := [26, 26, 7, 124, 96, 19, 1, 11, 126, 59, 26, 26, 16, 8, 124, 96, 59, 26, 26, 16, 16, 124, 96, 59]
abbrev dktJ15_bitCount_1 : List UInt8 := dkwJ15_bitCount_1 ++ dktJ15_bitCount_2
def dkwJ15_bitCount_0 : List UInt8 := [26, 26, 4, 124, 19, 1, 9, 126, 100, 59, 26, 19, 1, 10, 126, 26, 5, 124, 19, 1, 10, 126, 96, 59]
abbrev dktJ15_bitCount_0 : List UInt8 := dkwJ15_bitCount_0 ++ dktJ15_bitCount_1
theorem dksJ15_bitCount_0 : cJ15_bitCount.data.toList.drop 0 = dktJ15_bitCount_0 := by decide +kernel
theorem dksJ15_bitCount_1 : cJ15_bitCount.data.toList.drop 24 = dktJ15_bitCount_1 := dk_seg dksJ15_bitCount_0 24 rfl rfl
theorem dksJ15_bitCount_2 : cJ15_bitCount.data.toList.drop 48 = dktJ15_bitCount_2 := dk_seg dksJ15_bitCount_1 24 rfl rfl
theorem dJ15_bitCount_0 : decode cJ15_bitCount 0 = .ok (.iload_n 0, 1) := dk_26 (dk_at dksJ15_bitCount_0 0 rfl rfl)
theorem dJ15_bitCount_1 : decode cJ15_bitCount 1 = .ok (.iload_n 0, 1) := dk_26 (dk_at dksJ15_bitCount_0 1 rfl rfl)
theorem dJ15_bitCount_2 : decode cJ15_bitCount 2 = .ok (.iconst 1, 1) := dk_4 (dk_at dksJ15_bitCount_0 2 rfl rfl)
theorem dJ15_bitCount_3 : decode cJ15_bitCount 3 = .ok (.iushr, 1) := dk_124 (dk_at dksJ15_bitCount_0 3 rfl rfl)
theorem dJ15_bitCount_4 : decode cJ15_bitCount 4 = .ok (.ldc_w 265, 3) := dk_19 1 9 (dk_at dksJ15_bitCount_0 4 rfl rfl)
theorem dJ15_bitCount_7 : decode cJ15_bitCount 7 = .ok (.iand, 1) := dk_126 (dk_at dksJ15_bitCount_0 7 rfl rfl)
theorem dJ15_bitCount_8 : decode cJ15_bitCount 8 = .ok (.isub, 1) := dk_100 (dk_at dksJ15_bitCount_0 8 rfl rfl)
theorem dJ15_bitCount_9 : decode cJ15_bitCount 9 = .ok (.istore_n 0, 1) := dk_59 (dk_at dksJ15_bitCount_0 9 rfl rfl)
theorem dJ15_bitCount_10 : decode cJ15_bitCount 10 = .ok (.iload_n 0, 1) := dk_26 (dk_at dksJ15_bitCount_0 10 rfl rfl)
theorem dJ15_bitCount_11 : decode cJ15_bitCount 11 = .ok (.ldc_w 266, 3) := dk_19 1 10 (dk_at dksJ15_bitCount_0 11 rfl rfl)
theorem dJ15_bitCount_14 : decode cJ15_bitCount 14 = .ok (.iand, 1) := dk_126 (dk_at dksJ15_bitCount_0 14 rfl rfl)
theorem dJ15_bitCount_15 : decode cJ15_bitCount 15 = .ok (.iload_n 0, 1) := dk_26 (dk_at dksJ15_bitCount_0 15 rfl rfl)
theorem dJ15_bitCount_16 : decode cJ15_bitCount 16 = .ok (.iconst 2, 1) := dk_5 (dk_at dksJ15_bitCount_0 16 rfl rfl)
theorem dJ15_bitCount_17 : decode cJ15_bitCount 17 = .ok (.iushr, 1) := dk_124 (dk_at dksJ15_bitCount_0 17 rfl rfl)
theorem dJ15_bitCount_18 : decode cJ15_bitCount 18 = .ok (.ldc_w 266, 3) := dk_19 1 10 (dk_at dksJ15_bitCount_0 18 rfl rfl)
theorem dJ15_bitCount_21 : decode cJ15_bitCount 21 = .ok (.iand, 1) := dk_126 (dk_at dksJ15_bitCount_0 21 rfl rfl)
theorem dJ15_bitCount_22 : decode cJ15_bitCount 22 = .ok (.iadd, 1) := dk_96 (dk_at dksJ15_bitCount_0 22 rfl rfl)
theorem dJ15_bitCount_23 : decode cJ15_bitCount 23 = .ok (.istore_n 0, 1) := dk_59 (dk_at dksJ15_bitCount_0 23 rfl rfl)
theorem dJ15_bitCount_24 : decode cJ15_bitCount 24 = .ok (.iload_n 0, 1) := dk_26 (dk_at dksJ15_bitCount_1 0 rfl rfl)
theorem dJ15_bitCount_25 : decode cJ15_bitCount 25 = .ok (.iload_n 0, 1) := dk_26 (dk_at dksJ15_bitCount_1 1 rfl rfl)
theorem dJ15_bitCount_26 : decode cJ15_bitCount 26 = .ok (.iconst 4, 1) := dk_7 (dk_at dksJ15_bitCount_1 2 rfl rfl)
theorem dJ15_bitCount_27 : decode cJ15_bitCount 27 = .ok (.iushr, 1) := dk_124 (dk_at dksJ15_bitCount_1 3 rfl rfl)
theorem dJ15_bitCount_28 : decode cJ15_bitCount 28 = .ok (.iadd, 1) := dk_96 (dk_at dksJ15_bitCount_1 4 rfl rfl)
theorem dJ15_bitCount_29 : decode cJ15_bitCount 29 = .ok (.ldc_w 267, 3) := dk_19 1 11 (dk_at dksJ15_bitCount_1 5 rfl rfl)
theorem dJ15_bitCount_32 : decode cJ15_bitCount 32 = .ok (.iand, 1) := dk_126 (dk_at dksJ15_bitCount_1 8 rfl rfl)
theorem dJ15_bitCount_33 : decode cJ15_bitCount 33 = .ok (.istore_n 0, 1) := dk_59 (dk_at dksJ15_bitCount_1 9 rfl rfl)
theorem dJ15_bitCount_34 : decode cJ15_bitCount 34 = .ok (.iload_n 0, 1) := dk_26 (dk_at dksJ15_bitCount_1 10 rfl rfl)
theorem dJ15_bitCount_35 : decode cJ15_bitCount 35 = .ok (.iload_n 0, 1) := dk_26 (dk_at dksJ15_bitCount_1 11 rfl rfl)
theorem dJ15_bitCount_36 : decode cJ15_bitCount 36 = .ok (.bipush 8, 2) := dk_16 8 (dk_at dksJ15_bitCount_1 12 rfl rfl)
theorem dJ15_bitCount_38 : decode cJ15_bitCount 38 = .ok (.iushr, 1) := dk_124 (dk_at dksJ15_bitCount_1 14 rfl rfl)
theorem dJ15_bitCount_39 : decode cJ15_bitCount 39 = .ok (.iadd, 1) := dk_96 (dk_at dksJ15_bitCount_1 15 rfl rfl)
theorem dJ15_bitCount_40 : decode cJ15_bitCount 40 = .ok (.istore_n 0, 1) := dk_59 (dk_at dksJ15_bitCount_1 16 rfl rfl)
theorem dJ15_bitCount_41 : decode cJ15_bitCount 41 = .ok (.iload_n 0, 1) := dk_26 (dk_at dksJ15_bitCount_1 17 rfl rfl)
theorem dJ15_bitCount_42 : decode cJ15_bitCount 42 = .ok (.iload_n 0, 1) := dk_26 (dk_at dksJ15_bitCount_1 18 rfl rfl)
theorem dJ15_bitCount_43 : decode cJ15_bitCount 43 = .ok (.bipush 16, 2) := dk_16 16 (dk_at dksJ15_bitCount_1 19 rfl rfl)
theorem dJ15_bitCount_45 : decode cJ15_bitCount 45 = .ok (.iushr, 1) := dk_124 (dk_at dksJ15_bitCount_1 21 rfl rfl)
theorem dJ15_bitCount_46 : decode cJ15_bitCount 46 = .ok (.iadd, 1) := dk_96 (dk_at dksJ15_bitCount_1 22 rfl rfl)
theorem dJ15_bitCount_47 : decode cJ15_bitCount 47 = .ok (.istore_n 0, 1) := dk_59 (dk_at dksJ15_bitCount_1 23 rfl rfl)
theorem dJ15_bitCount_48 : decode cJ15_bitCount 48 = .ok (.iload_n 0, 1) := dk_26 (dk_at dksJ15_bitCount_2 0 rfl rfl)
theorem dJ15_bitCount_49 : decode cJ15_bitCount 49 = .ok (.bipush 63, 2) := dk_16 63 (dk_at dksJ15_bitCount_2 1 rfl rfl)
theorem dJ15_bitCount_51 : decode cJ15_bitCount 51 = .ok (.iand, 1) := dk_126 (dk_at dksJ15_bitCount_2 3 rfl rfl)
theorem dJ15_bitCount_52 : decode cJ15_bitCount 52 = .ok (.ireturn, 1) := dk_172 (dk_at dksJ15_bitCount_2 4 rfl rfl)

abbrev cJ16_init : ByteArray := prog_37_method_1_code
def yJ16_init : MethodName := ⟨RJ16, "<init>", "(Ljava/util/ArrayList;)V"⟩
def dkwJ16_init_1 : List UInt8 := [181, 0, 22, 177]
abbrev dktJ16_init_1 : List UInt8 := dkwJ16_init_1 ++ []
def dkwJ16_init_0 : List UInt8 := [42, 43, 181, 0, 1, 42, 183, 0, 7, 42, 2, 181, 0, 13, 42, 42, 180, 0, 1, 180, 0, 17]
abbrev dktJ16_init_0 : List UInt8 := dkwJ16_init_0 ++ dktJ16_init_1
theorem dksJ16_init_0 : cJ16_init.data.toList.drop 0 = dktJ16_init_0 := by decide +kernel
theorem dksJ16_init_1 : cJ16_init.data.toList.drop 22 = dktJ16_init_1 := dk_seg dksJ16_init_0 22 rfl rfl
theorem dJ16_init_0 : decode cJ16_init 0 = .ok (.aload_n 0, 1) := dk_42 (dk_at dksJ16_init_0 0 rfl rfl)
theorem dJ16_init_1 : decode cJ16_init 1 = .ok (.aload_n 1, 1) := dk_43 (dk_at dksJ16_init_0 1 rfl rfl)
theorem dJ16_init_2 : decode cJ16_init 2 = .ok (.putfield 1, 3) := dk_181 0 1 (dk_at dksJ16_init_0 2 rfl rfl)
theorem dJ16_init_5 : decode cJ16_init 5 = .ok (.aload_n 0, 1) := dk_42 (dk_at dksJ16_init_0 5 rfl rfl)
theorem dJ16_init_6 : decode cJ16_init 6 = .ok (.invokespecial 7, 3) := dk_183 0 7 (dk_at dksJ16_init_0 6 rfl rfl)
theorem dJ16_init_9 : decode cJ16_init 9 = .ok (.aload_n 0, 1) := dk_42 (dk_at dksJ16_init_0 9 rfl rfl)
theorem dJ16_init_10 : decode cJ16_init 10 = .ok (.iconst (-1), 1) := dk_2 (dk_at dksJ16_init_0 10 rfl rfl)
theorem dJ16_init_11 : decode cJ16_init 11 = .ok (.putfield 13, 3) := dk_181 0 13 (dk_at dksJ16_init_0 11 rfl rfl)
theorem dJ16_init_14 : decode cJ16_init 14 = .ok (.aload_n 0, 1) := dk_42 (dk_at dksJ16_init_0 14 rfl rfl)
theorem dJ16_init_15 : decode cJ16_init 15 = .ok (.aload_n 0, 1) := dk_42 (dk_at dksJ16_init_0 15 rfl rfl)
theorem dJ16_init_16 : decode cJ16_init 16 = .ok (.getfield 1, 3) := dk_180 0 1 (dk_at dksJ16_init_0 16 rfl rfl)
theorem dJ16_init_19 : decode cJ16_init 19 = .ok (.getfield 17, 3) := dk_180 0 17 (dk_at dksJ16_init_0 19 rfl rfl)
theorem dJ16_init_22 : decode cJ16_init 22 = .ok (.putfield 22, 3) := dk_181 0 22 (dk_at dksJ16_init_1 0 rfl rfl)
theorem dJ16_init_25 : decode cJ16_init 25 = .ok (.return_, 1) := dk_177 (dk_at dksJ16_init_1 3 rfl rfl)
abbrev cJ16_hasNext : ByteArray := prog_37_method_2_code
def yJ16_hasNext : MethodName := ⟨RJ16, "hasNext", "()Z"⟩
def dkwJ16_hasNext_0 : List UInt8 := [42, 180, 0, 25, 42, 180, 0, 1, 180, 0, 28, 159, 0, 7, 4, 167, 0, 4, 3, 172]
abbrev dktJ16_hasNext_0 : List UInt8 := dkwJ16_hasNext_0 ++ []
theorem dksJ16_hasNext_0 : cJ16_hasNext.data.toList.drop 0 = dktJ16_hasNext_0 := by decide +kernel
theorem dJ16_hasNext_0 : decode cJ16_hasNext 0 = .ok (.aload_n 0, 1) := dk_42 (dk_at dksJ16_hasNext_0 0 rfl rfl)
theorem dJ16_hasNext_1 : decode cJ16_hasNext 1 = .ok (.getfield 25, 3) := dk_180 0 25 (dk_at dksJ16_hasNext_0 1 rfl rfl)
theorem dJ16_hasNext_4 : decode cJ16_hasNext 4 = .ok (.aload_n 0, 1) := dk_42 (dk_at dksJ16_hasNext_0 4 rfl rfl)
theorem dJ16_hasNext_5 : decode cJ16_hasNext 5 = .ok (.getfield 1, 3) := dk_180 0 1 (dk_at dksJ16_hasNext_0 5 rfl rfl)
theorem dJ16_hasNext_8 : decode cJ16_hasNext 8 = .ok (.getfield 28, 3) := dk_180 0 28 (dk_at dksJ16_hasNext_0 8 rfl rfl)
theorem dJ16_hasNext_11 : decode cJ16_hasNext 11 = .ok (.if_icmp .eq 7, 3) := dk_159 0 7 (dk_at dksJ16_hasNext_0 11 rfl rfl)
theorem dJ16_hasNext_14 : decode cJ16_hasNext 14 = .ok (.iconst 1, 1) := dk_4 (dk_at dksJ16_hasNext_0 14 rfl rfl)
theorem dJ16_hasNext_15 : decode cJ16_hasNext 15 = .ok (.goto 4, 3) := dk_167 0 4 (dk_at dksJ16_hasNext_0 15 rfl rfl)
theorem dJ16_hasNext_18 : decode cJ16_hasNext 18 = .ok (.iconst 0, 1) := dk_3 (dk_at dksJ16_hasNext_0 18 rfl rfl)
theorem dJ16_hasNext_19 : decode cJ16_hasNext 19 = .ok (.ireturn, 1) := dk_172 (dk_at dksJ16_hasNext_0 19 rfl rfl)
abbrev cJ16_next : ByteArray := prog_37_method_3_code
def yJ16_next : MethodName := ⟨RJ16, "next", "()Ljava/lang/Object;"⟩
def dkwJ16_next_2 : List UInt8 := [183, 0, 43, 191, 42, 27, 4, 96, 181, 0, 25, 44, 42, 27, 90, 181, 0, 13, 50, 176]
abbrev dktJ16_next_2 : List UInt8 := dkwJ16_next_2 ++ []
def dkwJ16_next_1 : List UInt8 := [183, 0, 36, 191, 42, 180, 0, 1, 180, 0, 37, 77, 27, 44, 190, 161, 0, 11, 187, 0, 41, 89]
abbrev dktJ16_next_1 : List UInt8 := dkwJ16_next_1 ++ dktJ16_next_2
def dkwJ16_next_0 : List UInt8 := [42, 182, 0, 31, 42, 180, 0, 25, 60, 27, 42, 180, 0, 1, 180, 0, 28, 161, 0, 11, 187, 0, 34, 89]
abbrev dktJ16_next_0 : List UInt8 := dkwJ16_next_0 ++ dktJ16_next_1
theorem dksJ16_next_0 : cJ16_next.data.toList.drop 0 = dktJ16_next_0 := by decide +kernel
theorem dksJ16_next_1 : cJ16_next.data.toList.drop 24 = dktJ16_next_1 := dk_seg dksJ16_next_0 24 rfl rfl
theorem dksJ16_next_2 : cJ16_next.data.toList.drop 46 = dktJ16_next_2 := dk_seg dksJ16_next_1 22 rfl rfl
theorem dJ16_next_0 : decode cJ16_next 0 = .ok (.aload_n 0, 1) := dk_42 (dk_at dksJ16_next_0 0 rfl rfl)
theorem dJ16_next_1 : decode cJ16_next 1 = .ok (.invokevirtual 31, 3) := dk_182 0 31 (dk_at dksJ16_next_0 1 rfl rfl)
theorem dJ16_next_4 : decode cJ16_next 4 = .ok (.aload_n 0, 1) := dk_42 (dk_at dksJ16_next_0 4 rfl rfl)
theorem dJ16_next_5 : decode cJ16_next 5 = .ok (.getfield 25, 3) := dk_180 0 25 (dk_at dksJ16_next_0 5 rfl rfl)
theorem dJ16_next_8 : decode cJ16_next 8 = .ok (.istore_n 1, 1) := dk_60 (dk_at dksJ16_next_0 8 rfl rfl)
theorem dJ16_next_9 : decode cJ16_next 9 = .ok (.iload_n 1, 1) := dk_27 (dk_at dksJ16_next_0 9 rfl rfl)
theorem dJ16_next_10 : decode cJ16_next 10 = .ok (.aload_n 0, 1) := dk_42 (dk_at dksJ16_next_0 10 rfl rfl)
theorem dJ16_next_11 : decode cJ16_next 11 = .ok (.getfield 1, 3) := dk_180 0 1 (dk_at dksJ16_next_0 11 rfl rfl)
theorem dJ16_next_14 : decode cJ16_next 14 = .ok (.getfield 28, 3) := dk_180 0 28 (dk_at dksJ16_next_0 14 rfl rfl)
theorem dJ16_next_17 : decode cJ16_next 17 = .ok (.if_icmp .lt 11, 3) := dk_161 0 11 (dk_at dksJ16_next_0 17 rfl rfl)
theorem dJ16_next_20 : decode cJ16_next 20 = .ok (.new 34, 3) := dk_187 0 34 (dk_at dksJ16_next_0 20 rfl rfl)
theorem dJ16_next_23 : decode cJ16_next 23 = .ok (.dup, 1) := dk_89 (dk_at dksJ16_next_0 23 rfl rfl)
theorem dJ16_next_24 : decode cJ16_next 24 = .ok (.invokespecial 36, 3) := dk_183 0 36 (dk_at dksJ16_next_1 0 rfl rfl)
theorem dJ16_next_27 : decode cJ16_next 27 = .ok (.athrow, 1) := dk_191 (dk_at dksJ16_next_1 3 rfl rfl)
theorem dJ16_next_28 : decode cJ16_next 28 = .ok (.aload_n 0, 1) := dk_42 (dk_at dksJ16_next_1 4 rfl rfl)
theorem dJ16_next_29 : decode cJ16_next 29 = .ok (.getfield 1, 3) := dk_180 0 1 (dk_at dksJ16_next_1 5 rfl rfl)
theorem dJ16_next_32 : decode cJ16_next 32 = .ok (.getfield 37, 3) := dk_180 0 37 (dk_at dksJ16_next_1 8 rfl rfl)
theorem dJ16_next_35 : decode cJ16_next 35 = .ok (.astore_n 2, 1) := dk_77 (dk_at dksJ16_next_1 11 rfl rfl)
theorem dJ16_next_36 : decode cJ16_next 36 = .ok (.iload_n 1, 1) := dk_27 (dk_at dksJ16_next_1 12 rfl rfl)
theorem dJ16_next_37 : decode cJ16_next 37 = .ok (.aload_n 2, 1) := dk_44 (dk_at dksJ16_next_1 13 rfl rfl)
theorem dJ16_next_38 : decode cJ16_next 38 = .ok (.arraylength, 1) := dk_190 (dk_at dksJ16_next_1 14 rfl rfl)
theorem dJ16_next_39 : decode cJ16_next 39 = .ok (.if_icmp .lt 11, 3) := dk_161 0 11 (dk_at dksJ16_next_1 15 rfl rfl)
theorem dJ16_next_42 : decode cJ16_next 42 = .ok (.new 41, 3) := dk_187 0 41 (dk_at dksJ16_next_1 18 rfl rfl)
theorem dJ16_next_45 : decode cJ16_next 45 = .ok (.dup, 1) := dk_89 (dk_at dksJ16_next_1 21 rfl rfl)
theorem dJ16_next_46 : decode cJ16_next 46 = .ok (.invokespecial 43, 3) := dk_183 0 43 (dk_at dksJ16_next_2 0 rfl rfl)
theorem dJ16_next_49 : decode cJ16_next 49 = .ok (.athrow, 1) := dk_191 (dk_at dksJ16_next_2 3 rfl rfl)
theorem dJ16_next_50 : decode cJ16_next 50 = .ok (.aload_n 0, 1) := dk_42 (dk_at dksJ16_next_2 4 rfl rfl)
theorem dJ16_next_51 : decode cJ16_next 51 = .ok (.iload_n 1, 1) := dk_27 (dk_at dksJ16_next_2 5 rfl rfl)
theorem dJ16_next_52 : decode cJ16_next 52 = .ok (.iconst 1, 1) := dk_4 (dk_at dksJ16_next_2 6 rfl rfl)
theorem dJ16_next_53 : decode cJ16_next 53 = .ok (.iadd, 1) := dk_96 (dk_at dksJ16_next_2 7 rfl rfl)
theorem dJ16_next_54 : decode cJ16_next 54 = .ok (.putfield 25, 3) := dk_181 0 25 (dk_at dksJ16_next_2 8 rfl rfl)
theorem dJ16_next_57 : decode cJ16_next 57 = .ok (.aload_n 2, 1) := dk_44 (dk_at dksJ16_next_2 11 rfl rfl)
theorem dJ16_next_58 : decode cJ16_next 58 = .ok (.aload_n 0, 1) := dk_42 (dk_at dksJ16_next_2 12 rfl rfl)
theorem dJ16_next_59 : decode cJ16_next 59 = .ok (.iload_n 1, 1) := dk_27 (dk_at dksJ16_next_2 13 rfl rfl)
theorem dJ16_next_60 : decode cJ16_next 60 = .ok (.dup_x1, 1) := dk_90 (dk_at dksJ16_next_2 14 rfl rfl)
theorem dJ16_next_61 : decode cJ16_next 61 = .ok (.putfield 13, 3) := dk_181 0 13 (dk_at dksJ16_next_2 15 rfl rfl)
theorem dJ16_next_64 : decode cJ16_next 64 = .ok (.aaload, 1) := dk_50 (dk_at dksJ16_next_2 18 rfl rfl)
theorem dJ16_next_65 : decode cJ16_next 65 = .ok (.areturn, 1) := dk_176 (dk_at dksJ16_next_2 19 rfl rfl)
abbrev cJ16_checkForComodification : ByteArray := prog_37_method_6_code
def yJ16_checkForComodification : MethodName := ⟨RJ16, "checkForComodification", "()V"⟩
def dkwJ16_checkForComodification_0 : List UInt8 := [42, 180, 0, 1, 180, 0, 17, 42, 180, 0, 22, 159, 0, 11, 187, 0, 41, 89, 183, 0, 43, 191, 177]
abbrev dktJ16_checkForComodification_0 : List UInt8 := dkwJ16_checkForComodification_0 ++ []
theorem dksJ16_checkForComodification_0 : cJ16_checkForComodification.data.toList.drop 0 = dktJ16_checkForComodification_0 := by decide +kernel
theorem dJ16_checkForComodification_0 : decode cJ16_checkForComodification 0 = .ok (.aload_n 0, 1) := dk_42 (dk_at dksJ16_checkForComodification_0 0 rfl rfl)
theorem dJ16_checkForComodification_1 : decode cJ16_checkForComodification 1 = .ok (.getfield 1, 3) := dk_180 0 1 (dk_at dksJ16_checkForComodification_0 1 rfl rfl)
theorem dJ16_checkForComodification_4 : decode cJ16_checkForComodification 4 = .ok (.getfield 17, 3) := dk_180 0 17 (dk_at dksJ16_checkForComodification_0 4 rfl rfl)
theorem dJ16_checkForComodification_7 : decode cJ16_checkForComodification 7 = .ok (.aload_n 0, 1) := dk_42 (dk_at dksJ16_checkForComodification_0 7 rfl rfl)
theorem dJ16_checkForComodification_8 : decode cJ16_checkForComodification 8 = .ok (.getfield 22, 3) := dk_180 0 22 (dk_at dksJ16_checkForComodification_0 8 rfl rfl)
theorem dJ16_checkForComodification_11 : decode cJ16_checkForComodification 11 = .ok (.if_icmp .eq 11, 3) := dk_159 0 11 (dk_at dksJ16_checkForComodification_0 11 rfl rfl)
theorem dJ16_checkForComodification_14 : decode cJ16_checkForComodification 14 = .ok (.new 41, 3) := dk_187 0 41 (dk_at dksJ16_checkForComodification_0 14 rfl rfl)
theorem dJ16_checkForComodification_17 : decode cJ16_checkForComodification 17 = .ok (.dup, 1) := dk_89 (dk_at dksJ16_checkForComodification_0 17 rfl rfl)
theorem dJ16_checkForComodification_18 : decode cJ16_checkForComodification 18 = .ok (.invokespecial 43, 3) := dk_183 0 43 (dk_at dksJ16_checkForComodification_0 18 rfl rfl)
theorem dJ16_checkForComodification_21 : decode cJ16_checkForComodification 21 = .ok (.athrow, 1) := dk_191 (dk_at dksJ16_checkForComodification_0 21 rfl rfl)
theorem dJ16_checkForComodification_22 : decode cJ16_checkForComodification 22 = .ok (.return_, 1) := dk_177 (dk_at dksJ16_checkForComodification_0 22 rfl rfl)

def RJ17 : String := "java/lang/RuntimeException"
abbrev cJ17_init : ByteArray := prog_26_method_1_code
def yJ17_init : MethodName := ⟨RJ17, "<init>", "()V"⟩
theorem dJ17_init_0 : decode cJ17_init 0 = .ok (.aload_n 0, 1) := by decide +kernel
theorem dJ17_init_1 : decode cJ17_init 1 = .ok (.invokespecial 1, 3) := by decide +kernel
theorem dJ17_init_4 : decode cJ17_init 4 = .ok (.return_, 1) := by decide +kernel

abbrev cJ18_init : ByteArray := prog_42_method_1_code
def yJ18_init : MethodName := ⟨RJ18, "<init>", "()V"⟩
theorem dJ18_init_0 : decode cJ18_init 0 = .ok (.aload_n 0, 1) := by decide +kernel
theorem dJ18_init_1 : decode cJ18_init 1 = .ok (.invokespecial 1, 3) := by decide +kernel
theorem dJ18_init_4 : decode cJ18_init 4 = .ok (.return_, 1) := by decide +kernel

def RJ19 : String := "java/lang/Object"
abbrev cJ19_init : ByteArray := object_method_1_code
def yJ19_init : MethodName := ⟨RJ19, "<init>", "()V"⟩
theorem dJ19_init_0 : decode cJ19_init 0 = .ok (.return_, 1) := by decide +kernel

