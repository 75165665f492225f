set_option maxRecDepth 100000
theorem q110 : (Jvm.Cond.initialized "java/util/AbstractCollection") ∈ lw_all := lw_g (lw_at lw_m1 3 rfl) rfl
theorem q164 : (Jvm.Cond.instanceMethod ({ cls := "java/util/AbstractCollection", name := "<init>", desc := "()V" } : Jvm.MethodName)) ∈ lw_all := lw_g (lw_at lw_m1 57 rfl) rfl
theorem q165 : (Jvm.Cond.code ({ cls := "java/util/AbstractCollection", name := "<init>", desc := "()V" } : Jvm.MethodName) prog_34_method_1_code (1 : Nat) (Option.none : Option Jvm.ClassFile.FieldType)) ∈ lw_all := lw_g (lw_at lw_m1 58 rfl) rfl
theorem q166 : (Jvm.Cond.methodLink "java/util/AbstractCollection" (1 : Nat) ({ cls := "java/lang/Object", name := "<init>", desc := "()V" } : Jvm.MethodName)) ∈ lw_all := lw_g (lw_at lw_m1 59 rfl) rfl
theorem q111 : (Jvm.Cond.initialized "java/util/AbstractList") ∈ lw_all := lw_g (lw_at lw_m1 4 rfl) rfl
theorem q161 : (Jvm.Cond.instanceMethod ({ cls := "java/util/AbstractList", name := "<init>", desc := "()V" } : Jvm.MethodName)) ∈ lw_all := lw_g (lw_at lw_m1 54 rfl) rfl
theorem q162 : (Jvm.Cond.code ({ cls := "java/util/AbstractList", name := "<init>", desc := "()V" } : Jvm.MethodName) prog_35_method_1_code (1 : Nat) (Option.none : Option Jvm.ClassFile.FieldType)) ∈ lw_all := lw_g (lw_at lw_m1 55 rfl) rfl
theorem q163 : (Jvm.Cond.methodLink "java/util/AbstractList" (1 : Nat) ({ cls := "java/util/AbstractCollection", name := "<init>", desc := "()V" } : Jvm.MethodName)) ∈ lw_all := lw_g (lw_at lw_m1 56 rfl) rfl
theorem q175 : (Jvm.Cond.fieldLink "java/util/AbstractList" (7 : Nat) "java/util/AbstractList" "modCount" "I") ∈ lw_all := lw_g (lw_at lw_m1 68 rfl) rfl
theorem q184 : (Jvm.Cond.soleField "java/util/AbstractList" "modCount") ∈ lw_all := lw_g (lw_at lw_m1 77 rfl) rfl
theorem q126 : (Jvm.Cond.initialized "java/lang/Exception") ∈ lw_all := lw_g (lw_at lw_m1 19 rfl) rfl
theorem q593 : (Jvm.Cond.declares ({ cls := "java/lang/Exception", name := "<init>", desc := "()V" } : Jvm.MethodName)) ∈ lw_tbl := lw_at lw_m3 6 rfl
theorem q594 : (Jvm.Cond.declares ({ cls := "java/lang/Exception", name := "<init>", desc := "(Ljava/lang/String;)V" } : Jvm.MethodName)) ∈ lw_tbl := lw_at lw_m3 7 rfl
theorem q632 : (Jvm.Cond.instanceMethod ({ cls := "java/lang/Exception", name := "<init>", desc := "(Ljava/lang/String;Ljava/lang/Throwable;ZZ)V" } : Jvm.MethodName)) ∈ lw_all := lw_g (lw_at lw_m3 45 rfl) rfl
theorem q633 : (Jvm.Cond.code ({ cls := "java/lang/Exception", name := "<init>", desc := "(Ljava/lang/String;Ljava/lang/Throwable;ZZ)V" } : Jvm.MethodName) prog_20_method_5_code (5 : Nat) (Option.none : Option Jvm.ClassFile.FieldType)) ∈ lw_all := lw_g (lw_at lw_m3 46 rfl) rfl
theorem q634 : (Jvm.Cond.methodLink "java/lang/Exception" (16 : Nat) ({ cls := "java/lang/Throwable", name := "<init>", desc := "(Ljava/lang/String;Ljava/lang/Throwable;ZZ)V" } : Jvm.MethodName)) ∈ lw_all := lw_g (lw_at lw_m3 47 rfl) rfl
theorem q942 : (Jvm.Cond.instanceMethod ({ cls := "java/lang/Exception", name := "<init>", desc := "()V" } : Jvm.MethodName)) ∈ lw_all := lw_g (lw_at lw_m4 115 rfl) rfl
theorem q943 : (Jvm.Cond.code ({ cls := "java/lang/Exception", name := "<init>", desc := "()V" } : Jvm.MethodName) prog_20_method_1_code (1 : Nat) (Option.none : Option Jvm.ClassFile.FieldType)) ∈ lw_all := lw_g (lw_at lw_m4 116 rfl) rfl
theorem q944 : (Jvm.Cond.methodLink "java/lang/Exception" (1 : Nat) ({ cls := "java/lang/Throwable", name := "<init>", desc := "()V" } : Jvm.MethodName)) ∈ lw_all := lw_g (lw_at lw_m4 117 rfl) rfl
theorem q128 : (Jvm.Cond.initialized "java/util/Objects") ∈ lw_all := lw_g (lw_at lw_m1 21 rfl) rfl
theorem q697 : (Jvm.Cond.static ({ cls := "java/util/Objects", name := "checkIndex", desc := "(II)I" } : Jvm.MethodName)) ∈ lw_all := lw_g (lw_at lw_m3 110 rfl) rfl
theorem q698 : (Jvm.Cond.code ({ cls := "java/util/Objects", name := "checkIndex", desc := "(II)I" } : Jvm.MethodName) prog_43_method_17_code (2 : Nat) (Option.some Jvm.ClassFile.FieldType.int)) ∈ lw_all := lw_g (lw_at lw_m3 111 rfl) rfl
theorem q699 : (Jvm.Cond.methodLink "java/util/Objects" (105 : Nat) ({ cls := "jdk/internal/util/Preconditions", name := "checkIndex", desc := "(IILjava/util/function/BiFunction;)I" } : Jvm.MethodName)) ∈ lw_all := lw_g (lw_at lw_m3 112 rfl) rfl
theorem q130 : (Jvm.Cond.initialized "jdk/internal/util/ArraysSupport") ∈ lw_all := lw_g (lw_at lw_m1 23 rfl) rfl
theorem q750 : (Jvm.Cond.static ({ cls := "jdk/internal/util/ArraysSupport", name := "newLength", desc := "(III)I" } : Jvm.MethodName)) ∈ lw_all := lw_g (lw_at lw_m3 163 rfl) rfl
theorem q751 : (Jvm.Cond.code ({ cls := "jdk/internal/util/ArraysSupport", name := "newLength", desc := "(III)I" } : Jvm.MethodName) prog_46_method_27_code (4 : Nat) (Option.some Jvm.ClassFile.FieldType.int)) ∈ lw_all := lw_g (lw_at lw_m3 164 rfl) rfl
theorem q752 : (Jvm.Cond.methodLink "jdk/internal/util/ArraysSupport" (194 : Nat) ({ cls := "java/lang/Math", name := "max", desc := "(II)I" } : Jvm.MethodName)) ∈ lw_all := lw_g (lw_at lw_m3 165 rfl) rfl
theorem q753 : (Jvm.Cond.constant "jdk/internal/util/ArraysSupport" (200 : Nat) (2147483639 : Int32)) ∈ lw_all := lw_g (lw_at lw_m3 166 rfl) rfl
theorem q754 : (Jvm.Cond.methodLink "jdk/internal/util/ArraysSupport" (201 : Nat) ({ cls := "jdk/internal/util/ArraysSupport", name := "hugeLength", desc := "(II)I" } : Jvm.MethodName)) ∈ lw_all := lw_g (lw_at lw_m3 167 rfl) rfl
theorem q755 : (Jvm.Cond.static ({ cls := "jdk/internal/util/ArraysSupport", name := "hugeLength", desc := "(II)I" } : Jvm.MethodName)) ∈ lw_all := lw_g (lw_at lw_m3 168 rfl) rfl
theorem q756 : (Jvm.Cond.code ({ cls := "jdk/internal/util/ArraysSupport", name := "hugeLength", desc := "(II)I" } : Jvm.MethodName) prog_46_method_28_code (3 : Nat) (Option.some Jvm.ClassFile.FieldType.int)) ∈ lw_all := lw_g (lw_at lw_m3 169 rfl) rfl
theorem q131 : (Jvm.Cond.initialized "java/util/Arrays") ∈ lw_all := lw_g (lw_at lw_m1 24 rfl) rfl
theorem q758 : (Jvm.Cond.static ({ cls := "java/util/Arrays", name := "copyOf", desc := "([Ljava/lang/Object;I)[Ljava/lang/Object;" } : Jvm.MethodName)) ∈ lw_all := lw_g (lw_at lw_m3 171 rfl) rfl
theorem q759 : (Jvm.Cond.code ({ cls := "java/util/Arrays", name := "copyOf", desc := "([Ljava/lang/Object;I)[Ljava/lang/Object;" } : Jvm.MethodName) prog_38_method_119_code (2 : Nat) (Option.some (Jvm.ClassFile.FieldType.array (Jvm.ClassFile.FieldType.object "java/lang/Object")))) ∈ lw_all := lw_g (lw_at lw_m3 172 rfl) rfl
theorem q760 : (Jvm.Cond.methodLink "java/util/Arrays" (86 : Nat) ({ cls := "java/lang/Object", name := "getClass", desc := "()Ljava/lang/Class;" } : Jvm.MethodName)) ∈ lw_all := lw_g (lw_at lw_m3 173 rfl) rfl
theorem q779 : (Jvm.Cond.methodLink "java/util/Arrays" (300 : Nat) ({ cls := "java/util/Arrays", name := "copyOf", desc := "([Ljava/lang/Object;ILjava/lang/Class;)[Ljava/lang/Object;" } : Jvm.MethodName)) ∈ lw_all := lw_g (lw_at lw_m3 192 rfl) rfl
theorem q780 : (Jvm.Cond.static ({ cls := "java/util/Arrays", name := "copyOf", desc := "([Ljava/lang/Object;ILjava/lang/Class;)[Ljava/lang/Object;" } : Jvm.MethodName)) ∈ lw_all := lw_g (lw_at lw_m3 193 rfl) rfl
theorem q781 : (Jvm.Cond.code ({ cls := "java/util/Arrays", name := "copyOf", desc := "([Ljava/lang/Object;ILjava/lang/Class;)[Ljava/lang/Object;" } : Jvm.MethodName) prog_38_method_120_code (4 : Nat) (Option.some (Jvm.ClassFile.FieldType.array (Jvm.ClassFile.FieldType.object "java/lang/Object")))) ∈ lw_all := lw_g (lw_at lw_m3 194 rfl) rfl
theorem q782 : (Jvm.Cond.classLink "java/util/Arrays" (110 : Nat) "[Ljava/lang/Object;") ∈ lw_all := lw_g (lw_at lw_m3 195 rfl) rfl
theorem q783 : (Jvm.Cond.classLink "java/util/Arrays" (2 : Nat) "java/lang/Object") ∈ lw_all := lw_g (lw_at lw_m3 196 rfl) rfl
theorem q784 : (Jvm.Cond.methodLink "java/util/Arrays" (304 : Nat) ({ cls := "java/lang/Math", name := "min", desc := "(II)I" } : Jvm.MethodName)) ∈ lw_all := lw_g (lw_at lw_m3 197 rfl) rfl
theorem q785 : (Jvm.Cond.methodLink "java/util/Arrays" (150 : Nat) ({ cls := "java/lang/System", name := "arraycopy", desc := "(Ljava/lang/Object;ILjava/lang/Object;II)V" } : Jvm.MethodName)) ∈ lw_all := lw_g (lw_at lw_m3 198 rfl) rfl
theorem q134 : (Jvm.Cond.initialized "java/lang/Number") ∈ lw_all := lw_g (lw_at lw_m1 27 rfl) rfl
theorem q850 : (Jvm.Cond.instanceMethod ({ cls := "java/lang/Number", name := "<init>", desc := "()V" } : Jvm.MethodName)) ∈ lw_all := lw_g (lw_at lw_m4 23 rfl) rfl
theorem q851 : (Jvm.Cond.code ({ cls := "java/lang/Number", name := "<init>", desc := "()V" } : Jvm.MethodName) prog_25_method_1_code (1 : Nat) (Option.none : Option Jvm.ClassFile.FieldType)) ∈ lw_all := lw_g (lw_at lw_m4 24 rfl) rfl
theorem q852 : (Jvm.Cond.methodLink "java/lang/Number" (1 : Nat) ({ cls := "java/lang/Object", name := "<init>", desc := "()V" } : Jvm.MethodName)) ∈ lw_all := lw_g (lw_at lw_m4 25 rfl) rfl
theorem q135 : (Jvm.Cond.initialized "java/lang/Integer") ∈ lw_all := lw_g (lw_at lw_m1 28 rfl) rfl
theorem q774 : (Jvm.Cond.selects "java/lang/Integer" ({ cls := "java/lang/Object", name := "getClass", desc := "()Ljava/lang/Class;" } : Jvm.MethodName) ({ cls := "java/lang/Object", name := "getClass", desc := "()Ljava/lang/Class;" } : Jvm.MethodName)) ∈ lw_all := lw_g (lw_at lw_m3 187 rfl) rfl
theorem q838 : (Jvm.Cond.static ({ cls := "java/lang/Integer", name := "valueOf", desc := "(I)Ljava/lang/Integer;" } : Jvm.MethodName)) ∈ lw_all := lw_g (lw_at lw_m4 11 rfl) rfl
theorem q839 : (Jvm.Cond.code ({ cls := "java/lang/Integer", name := "valueOf", desc := "(I)Ljava/lang/Integer;" } : Jvm.MethodName) prog_21_method_22_code (1 : Nat) (Option.some (Jvm.ClassFile.FieldType.object "java/lang/Integer"))) ∈ lw_all := lw_g (lw_at lw_m4 12 rfl) rfl
theorem q840 : (Jvm.Cond.fieldLink "java/lang/Integer" (191 : Nat) "java/lang/Integer$IntegerCache" "high" "I") ∈ lw_all := lw_g (lw_at lw_m4 13 rfl) rfl
theorem q842 : (Jvm.Cond.fieldLink "java/lang/Integer" (195 : Nat) "java/lang/Integer$IntegerCache" "cache" "[Ljava/lang/Integer;") ∈ lw_all := lw_g (lw_at lw_m4 15 rfl) rfl
theorem q844 : (Jvm.Cond.classLink "java/lang/Integer" (1 : Nat) "java/lang/Integer") ∈ lw_all := lw_g (lw_at lw_m4 17 rfl) rfl
theorem q845 : (Jvm.Cond.instantiable "java/lang/Integer" (1 : Nat)) ∈ lw_all := lw_g (lw_at lw_m4 18 rfl) rfl
theorem q846 : (Jvm.Cond.methodLink "java/lang/Integer" (199 : Nat) ({ cls := "java/lang/Integer", name := "<init>", desc := "(I)V" } : Jvm.MethodName)) ∈ lw_all := lw_g (lw_at lw_m4 19 rfl) rfl
theorem q847 : (Jvm.Cond.instanceMethod ({ cls := "java/lang/Integer", name := "<init>", desc := "(I)V" } : Jvm.MethodName)) ∈ lw_all := lw_g (lw_at lw_m4 20 rfl) rfl
theorem q848 : (Jvm.Cond.code ({ cls := "java/lang/Integer", name := "<init>", desc := "(I)V" } : Jvm.MethodName) prog_21_method_23_code (2 : Nat) (Option.none : Option Jvm.ClassFile.FieldType)) ∈ lw_all := lw_g (lw_at lw_m4 21 rfl) rfl
theorem q849 : (Jvm.Cond.methodLink "java/lang/Integer" (202 : Nat) ({ cls := "java/lang/Number", name := "<init>", desc := "()V" } : Jvm.MethodName)) ∈ lw_all := lw_g (lw_at lw_m4 22 rfl) rfl
theorem q853 : (Jvm.Cond.fieldLink "java/lang/Integer" (205 : Nat) "java/lang/Integer" "value" "I") ∈ lw_all := lw_g (lw_at lw_m4 26 rfl) rfl
theorem q854 : (Jvm.Cond.laysFinal "java/lang/Integer" "java/lang/Integer" "value" "I") ∈ lw_all := lw_g (lw_at lw_m4 27 rfl) rfl
theorem q855 : (Jvm.Cond.soleField "java/lang/Integer" "value") ∈ lw_all := lw_g (lw_at lw_m4 28 rfl) rfl
theorem q856 : (Jvm.Cond.superclass "java/lang/Integer" "java/lang/Number") ∈ lw_all := lw_g (lw_at lw_m4 29 rfl) rfl
theorem q949 : (Jvm.Cond.instanceMethod ({ cls := "java/lang/Integer", name := "intValue", desc := "()I" } : Jvm.MethodName)) ∈ lw_all := lw_g (lw_at lw_m4 122 rfl) rfl
theorem q950 : (Jvm.Cond.selects "java/lang/Integer" ({ cls := "java/lang/Integer", name := "intValue", desc := "()I" } : Jvm.MethodName) ({ cls := "java/lang/Integer", name := "intValue", desc := "()I" } : Jvm.MethodName)) ∈ lw_all := lw_g (lw_at lw_m4 123 rfl) rfl
theorem q951 : (Jvm.Cond.code ({ cls := "java/lang/Integer", name := "intValue", desc := "()I" } : Jvm.MethodName) prog_21_method_27_code (1 : Nat) (Option.some Jvm.ClassFile.FieldType.int)) ∈ lw_all := lw_g (lw_at lw_m4 124 rfl) rfl
theorem q1195 : (Jvm.Cond.static ({ cls := "java/lang/Integer", name := "bitCount", desc := "(I)I" } : Jvm.MethodName)) ∈ lw_all := lw_g (lw_at lw_m5 128 rfl) rfl
theorem q1196 : (Jvm.Cond.code ({ cls := "java/lang/Integer", name := "bitCount", desc := "(I)I" } : Jvm.MethodName) prog_21_method_49_code (1 : Nat) (Option.some Jvm.ClassFile.FieldType.int)) ∈ lw_all := lw_g (lw_at lw_m5 129 rfl) rfl
theorem q1197 : (Jvm.Cond.constant "java/lang/Integer" (265 : Nat) (1431655765 : Int32)) ∈ lw_all := lw_g (lw_at lw_m5 130 rfl) rfl
theorem q1198 : (Jvm.Cond.constant "java/lang/Integer" (266 : Nat) (858993459 : Int32)) ∈ lw_all := lw_g (lw_at lw_m5 131 rfl) rfl
theorem q1199 : (Jvm.Cond.constant "java/lang/Integer" (267 : Nat) (252645135 : Int32)) ∈ lw_all := lw_g (lw_at lw_m5 132 rfl) rfl
theorem q2000 : (Jvm.Cond.castable "java/lang/Integer" "java/lang/Object") ∈ lw_tbl := lw_at lw_m8 213 rfl
theorem q138 : (Jvm.Cond.initialized "java/util/ArrayList$Itr") ∈ lw_all := lw_g (lw_at lw_m1 31 rfl) rfl
theorem q172 : (Jvm.Cond.fieldLink "java/util/ArrayList$Itr" (37 : Nat) "java/util/ArrayList" "elementData" "[Ljava/lang/Object;") ∈ lw_all := lw_g (lw_at lw_m1 65 rfl) rfl
theorem q173 : (Jvm.Cond.fieldLinkNest "java/util/ArrayList$Itr" (28 : Nat) "java/util/ArrayList" "size" "I" "java/util/ArrayList") ∈ lw_tbl := lw_at lw_m1 66 rfl
theorem q176 : (Jvm.Cond.fieldLink "java/util/ArrayList$Itr" (17 : Nat) "java/util/ArrayList" "modCount" "I") ∈ lw_all := lw_g (lw_at lw_m1 69 rfl) rfl
theorem q776 : (Jvm.Cond.selects "java/util/ArrayList$Itr" ({ cls := "java/lang/Object", name := "getClass", desc := "()Ljava/lang/Class;" } : Jvm.MethodName) ({ cls := "java/lang/Object", name := "getClass", desc := "()Ljava/lang/Class;" } : Jvm.MethodName)) ∈ lw_all := lw_g (lw_at lw_m3 189 rfl) rfl
theorem q883 : (Jvm.Cond.instantiable "java/util/ArrayList$Itr" (4 : Nat)) ∈ lw_all := lw_g (lw_at lw_m4 56 rfl) rfl
theorem q885 : (Jvm.Cond.instanceMethod ({ cls := "java/util/ArrayList$Itr", name := "<init>", desc := "(Ljava/util/ArrayList;)V" } : Jvm.MethodName)) ∈ lw_all := lw_g (lw_at lw_m4 58 rfl) rfl
theorem q886 : (Jvm.Cond.code ({ cls := "java/util/ArrayList$Itr", name := "<init>", desc := "(Ljava/util/ArrayList;)V" } : Jvm.MethodName) prog_37_method_1_code (2 : Nat) (Option.none : Option Jvm.ClassFile.FieldType)) ∈ lw_all := lw_g (lw_at lw_m4 59 rfl) rfl
theorem q887 : (Jvm.Cond.methodLink "java/util/ArrayList$Itr" (7 : Nat) ({ cls := "java/lang/Object", name := "<init>", desc := "()V" } : Jvm.MethodName)) ∈ lw_all := lw_g (lw_at lw_m4 60 rfl) rfl
theorem q888 : (Jvm.Cond.fieldLink "java/util/ArrayList$Itr" (25 : Nat) "java/util/ArrayList$Itr" "cursor" "I") ∈ lw_all := lw_g (lw_at lw_m4 61 rfl) rfl
theorem q889 : (Jvm.Cond.fieldLink "java/util/ArrayList$Itr" (13 : Nat) "java/util/ArrayList$Itr" "lastRet" "I") ∈ lw_all := lw_g (lw_at lw_m4 62 rfl) rfl
theorem q890 : (Jvm.Cond.fieldLink "java/util/ArrayList$Itr" (22 : Nat) "java/util/ArrayList$Itr" "expectedModCount" "I") ∈ lw_all := lw_g (lw_at lw_m4 63 rfl) rfl
theorem q891 : (Jvm.Cond.fieldLink "java/util/ArrayList$Itr" (1 : Nat) "java/util/ArrayList$Itr" "this$0" "Ljava/util/ArrayList;") ∈ lw_all := lw_g (lw_at lw_m4 64 rfl) rfl
theorem q892 : (Jvm.Cond.lays "java/util/ArrayList$Itr" "java/util/ArrayList$Itr" "cursor" "I") ∈ lw_all := lw_g (lw_at lw_m4 65 rfl) rfl
theorem q893 : (Jvm.Cond.soleField "java/util/ArrayList$Itr" "cursor") ∈ lw_all := lw_g (lw_at lw_m4 66 rfl) rfl
theorem q894 : (Jvm.Cond.lays "java/util/ArrayList$Itr" "java/util/ArrayList$Itr" "lastRet" "I") ∈ lw_all := lw_g (lw_at lw_m4 67 rfl) rfl
theorem q895 : (Jvm.Cond.soleField "java/util/ArrayList$Itr" "lastRet") ∈ lw_all := lw_g (lw_at lw_m4 68 rfl) rfl
theorem q896 : (Jvm.Cond.lays "java/util/ArrayList$Itr" "java/util/ArrayList$Itr" "expectedModCount" "I") ∈ lw_all := lw_g (lw_at lw_m4 69 rfl) rfl
theorem q897 : (Jvm.Cond.soleField "java/util/ArrayList$Itr" "expectedModCount") ∈ lw_all := lw_g (lw_at lw_m4 70 rfl) rfl
theorem q898 : (Jvm.Cond.laysFinal "java/util/ArrayList$Itr" "java/util/ArrayList$Itr" "this$0" "Ljava/util/ArrayList;") ∈ lw_all := lw_g (lw_at lw_m4 71 rfl) rfl
theorem q899 : (Jvm.Cond.soleField "java/util/ArrayList$Itr" "this$0") ∈ lw_all := lw_g (lw_at lw_m4 72 rfl) rfl
theorem q900 : (Jvm.Cond.superclass "java/util/ArrayList$Itr" "java/lang/Object") ∈ lw_all := lw_g (lw_at lw_m4 73 rfl) rfl
theorem q905 : (Jvm.Cond.castable "java/util/ArrayList$Itr" "java/util/Iterator") ∈ lw_tbl := lw_at lw_m4 78 rfl
theorem q906 : (Jvm.Cond.selects "java/util/ArrayList$Itr" ({ cls := "java/util/Iterator", name := "hasNext", desc := "()Z" } : Jvm.MethodName) ({ cls := "java/util/ArrayList$Itr", name := "hasNext", desc := "()Z" } : Jvm.MethodName)) ∈ lw_all := lw_g (lw_at lw_m4 79 rfl) rfl
theorem q907 : (Jvm.Cond.unhidden "java/util/ArrayList$Itr" "hasNext" "()Z") ∈ lw_tbl := lw_at lw_m4 80 rfl
theorem q908 : (Jvm.Cond.instanceMethod ({ cls := "java/util/ArrayList$Itr", name := "hasNext", desc := "()Z" } : Jvm.MethodName)) ∈ lw_all := lw_g (lw_at lw_m4 81 rfl) rfl
theorem q909 : (Jvm.Cond.publicMethod ({ cls := "java/util/ArrayList$Itr", name := "hasNext", desc := "()Z" } : Jvm.MethodName)) ∈ lw_tbl := lw_at lw_m4 82 rfl
theorem q910 : (Jvm.Cond.code ({ cls := "java/util/ArrayList$Itr", name := "hasNext", desc := "()Z" } : Jvm.MethodName) prog_37_method_2_code (1 : Nat) (Option.some Jvm.ClassFile.FieldType.boolean)) ∈ lw_all := lw_g (lw_at lw_m4 83 rfl) rfl
theorem q915 : (Jvm.Cond.selects "java/util/ArrayList$Itr" ({ cls := "java/util/Iterator", name := "next", desc := "()Ljava/lang/Object;" } : Jvm.MethodName) ({ cls := "java/util/ArrayList$Itr", name := "next", desc := "()Ljava/lang/Object;" } : Jvm.MethodName)) ∈ lw_all := lw_g (lw_at lw_m4 88 rfl) rfl
theorem q916 : (Jvm.Cond.unhidden "java/util/ArrayList$Itr" "next" "()Ljava/lang/Object;") ∈ lw_tbl := lw_at lw_m4 89 rfl
theorem q917 : (Jvm.Cond.instanceMethod ({ cls := "java/util/ArrayList$Itr", name := "next", desc := "()Ljava/lang/Object;" } : Jvm.MethodName)) ∈ lw_all := lw_g (lw_at lw_m4 90 rfl) rfl
theorem q918 : (Jvm.Cond.publicMethod ({ cls := "java/util/ArrayList$Itr", name := "next", desc := "()Ljava/lang/Object;" } : Jvm.MethodName)) ∈ lw_tbl := lw_at lw_m4 91 rfl
theorem q919 : (Jvm.Cond.code ({ cls := "java/util/ArrayList$Itr", name := "next", desc := "()Ljava/lang/Object;" } : Jvm.MethodName) prog_37_method_3_code (3 : Nat) (Option.some (Jvm.ClassFile.FieldType.object "java/lang/Object"))) ∈ lw_all := lw_g (lw_at lw_m4 92 rfl) rfl
theorem q920 : (Jvm.Cond.methodLink "java/util/ArrayList$Itr" (31 : Nat) ({ cls := "java/util/ArrayList$Itr", name := "checkForComodification", desc := "()V" } : Jvm.MethodName)) ∈ lw_all := lw_g (lw_at lw_m4 93 rfl) rfl
theorem q921 : (Jvm.Cond.instanceMethod ({ cls := "java/util/ArrayList$Itr", name := "checkForComodification", desc := "()V" } : Jvm.MethodName)) ∈ lw_all := lw_g (lw_at lw_m4 94 rfl) rfl
theorem q922 : (Jvm.Cond.selects "java/util/ArrayList$Itr" ({ cls := "java/util/ArrayList$Itr", name := "checkForComodification", desc := "()V" } : Jvm.MethodName) ({ cls := "java/util/ArrayList$Itr", name := "checkForComodification", desc := "()V" } : Jvm.MethodName)) ∈ lw_all := lw_g (lw_at lw_m4 95 rfl) rfl
theorem q923 : (Jvm.Cond.code ({ cls := "java/util/ArrayList$Itr", name := "checkForComodification", desc := "()V" } : Jvm.MethodName) prog_37_method_6_code (1 : Nat) (Option.none : Option Jvm.ClassFile.FieldType)) ∈ lw_all := lw_g (lw_at lw_m4 96 rfl) rfl
theorem q924 : (Jvm.Cond.classLink "java/util/ArrayList$Itr" (34 : Nat) "java/util/NoSuchElementException") ∈ lw_all := lw_g (lw_at lw_m4 97 rfl) rfl
theorem q935 : (Jvm.Cond.methodLink "java/util/ArrayList$Itr" (36 : Nat) ({ cls := "java/util/NoSuchElementException", name := "<init>", desc := "()V" } : Jvm.MethodName)) ∈ lw_all := lw_g (lw_at lw_m4 108 rfl) rfl
theorem q2002 : (Jvm.Cond.castable "java/util/ArrayList$Itr" "java/lang/Object") ∈ lw_tbl := lw_at lw_m8 215 rfl
theorem q139 : (Jvm.Cond.initialized "java/lang/RuntimeException") ∈ lw_all := lw_g (lw_at lw_m1 32 rfl) rfl
theorem q927 : (Jvm.Cond.declares ({ cls := "java/lang/RuntimeException", name := "<init>", desc := "()V" } : Jvm.MethodName)) ∈ lw_tbl := lw_at lw_m4 100 rfl
theorem q928 : (Jvm.Cond.declares ({ cls := "java/lang/RuntimeException", name := "<init>", desc := "(Ljava/lang/String;)V" } : Jvm.MethodName)) ∈ lw_tbl := lw_at lw_m4 101 rfl
theorem q939 : (Jvm.Cond.instanceMethod ({ cls := "java/lang/RuntimeException", name := "<init>", desc := "()V" } : Jvm.MethodName)) ∈ lw_all := lw_g (lw_at lw_m4 112 rfl) rfl
theorem q940 : (Jvm.Cond.code ({ cls := "java/lang/RuntimeException", name := "<init>", desc := "()V" } : Jvm.MethodName) prog_26_method_1_code (1 : Nat) (Option.none : Option Jvm.ClassFile.FieldType)) ∈ lw_all := lw_g (lw_at lw_m4 113 rfl) rfl
theorem q941 : (Jvm.Cond.methodLink "java/lang/RuntimeException" (1 : Nat) ({ cls := "java/lang/Exception", name := "<init>", desc := "()V" } : Jvm.MethodName)) ∈ lw_all := lw_g (lw_at lw_m4 114 rfl) rfl
theorem q140 : (Jvm.Cond.initialized "java/util/NoSuchElementException") ∈ lw_all := lw_g (lw_at lw_m1 33 rfl) rfl
theorem q621 : (Jvm.Cond.selects "java/util/NoSuchElementException" ({ cls := "java/lang/Throwable", name := "fillInStackTrace", desc := "()Ljava/lang/Throwable;" } : Jvm.MethodName) ({ cls := "java/lang/Throwable", name := "fillInStackTrace", desc := "()Ljava/lang/Throwable;" } : Jvm.MethodName)) ∈ lw_all := lw_g (lw_at lw_m3 34 rfl) rfl
theorem q777 : (Jvm.Cond.selects "java/util/NoSuchElementException" ({ cls := "java/lang/Object", name := "getClass", desc := "()Ljava/lang/Class;" } : Jvm.MethodName) ({ cls := "java/lang/Object", name := "getClass", desc := "()Ljava/lang/Class;" } : Jvm.MethodName)) ∈ lw_all := lw_g (lw_at lw_m3 190 rfl) rfl
theorem q925 : (Jvm.Cond.instantiable "java/util/NoSuchElementException" (6 : Nat)) ∈ lw_all := lw_g (lw_at lw_m4 98 rfl) rfl
theorem q926 : (Jvm.Cond.castable "java/util/NoSuchElementException" "java/util/NoSuchElementException") ∈ lw_tbl := lw_at lw_m4 99 rfl
theorem q929 : (Jvm.Cond.selects "java/util/NoSuchElementException" ({ cls := "java/lang/Throwable", name := "fillInStackTrace", desc := "(I)Ljava/lang/Throwable;" } : Jvm.MethodName) ({ cls := "java/lang/Throwable", name := "fillInStackTrace", desc := "(I)Ljava/lang/Throwable;" } : Jvm.MethodName)) ∈ lw_all := lw_g (lw_at lw_m4 102 rfl) rfl
theorem q930 : (Jvm.Cond.lays "java/util/NoSuchElementException" "java/lang/Throwable" "cause" "Ljava/lang/Throwable;") ∈ lw_all := lw_g (lw_at lw_m4 103 rfl) rfl
theorem q931 : (Jvm.Cond.lays "java/util/NoSuchElementException" "java/lang/Throwable" "stackTrace" "[Ljava/lang/StackTraceElement;") ∈ lw_all := lw_g (lw_at lw_m4 104 rfl) rfl
theorem q932 : (Jvm.Cond.lays "java/util/NoSuchElementException" "java/lang/Throwable" "suppressedExceptions" "Ljava/util/List;") ∈ lw_all := lw_g (lw_at lw_m4 105 rfl) rfl
theorem q933 : (Jvm.Cond.lays "java/util/NoSuchElementException" "java/lang/Throwable" "detailMessage" "Ljava/lang/String;") ∈ lw_all := lw_g (lw_at lw_m4 106 rfl) rfl
theorem q934 : (Jvm.Cond.lays "java/util/NoSuchElementException" "java/lang/Throwable" "backtrace" "Ljava/lang/Object;") ∈ lw_all := lw_g (lw_at lw_m4 107 rfl) rfl
theorem q936 : (Jvm.Cond.instanceMethod ({ cls := "java/util/NoSuchElementException", name := "<init>", desc := "()V" } : Jvm.MethodName)) ∈ lw_all := lw_g (lw_at lw_m4 109 rfl) rfl
theorem q937 : (Jvm.Cond.code ({ cls := "java/util/NoSuchElementException", name := "<init>", desc := "()V" } : Jvm.MethodName) prog_42_method_1_code (1 : Nat) (Option.none : Option Jvm.ClassFile.FieldType)) ∈ lw_all := lw_g (lw_at lw_m4 110 rfl) rfl
theorem q938 : (Jvm.Cond.methodLink "java/util/NoSuchElementException" (1 : Nat) ({ cls := "java/lang/RuntimeException", name := "<init>", desc := "()V" } : Jvm.MethodName)) ∈ lw_all := lw_g (lw_at lw_m4 111 rfl) rfl
theorem q945 : (Jvm.Cond.lays "java/util/NoSuchElementException" "java/lang/Throwable" "depth" "I") ∈ lw_all := lw_g (lw_at lw_m4 118 rfl) rfl
theorem q946 : (Jvm.Cond.superclass "java/util/NoSuchElementException" "java/lang/RuntimeException") ∈ lw_all := lw_g (lw_at lw_m4 119 rfl) rfl
theorem q2003 : (Jvm.Cond.castable "java/util/NoSuchElementException" "java/lang/Object") ∈ lw_tbl := lw_at lw_m8 216 rfl
theorem q147 : (Jvm.Cond.instanceMethod ({ cls := "java/lang/Object", name := "<init>", desc := "()V" } : Jvm.MethodName)) ∈ lw_all := lw_g (lw_at lw_m1 40 rfl) rfl
theorem q148 : (Jvm.Cond.code ({ cls := "java/lang/Object", name := "<init>", desc := "()V" } : Jvm.MethodName) object_method_1_code (1 : Nat) (Option.none : Option Jvm.ClassFile.FieldType)) ∈ lw_all := lw_g (lw_at lw_m1 41 rfl) rfl
theorem q761 : (Jvm.Cond.instanceMethod ({ cls := "java/lang/Object", name := "getClass", desc := "()Ljava/lang/Class;" } : Jvm.MethodName)) ∈ lw_all := lw_g (lw_at lw_m3 174 rfl) rfl
theorem q762 : (Jvm.Cond.sameMethod "java/lang/Object" "java/lang/Object" "getClass" "()Ljava/lang/Class;") ∈ lw_all := lw_g (lw_at lw_m3 175 rfl) rfl
theorem q778 : (Jvm.Cond.native ({ cls := "java/lang/Object", name := "getClass", desc := "()Ljava/lang/Class;" } : Jvm.MethodName)) ∈ lw_all := lw_g (lw_at lw_m3 191 rfl) rfl
theorem q1987 : (Jvm.Cond.initialized "java/lang/Object") ∈ lw_all := lw_g (lw_at lw_m8 200 rfl) rfl
theorem q2008 : (Jvm.Cond.declares ({ cls := "java/lang/Object", name := "getClass", desc := "()Ljava/lang/Class;" } : Jvm.MethodName)) ∈ lw_tbl := lw_at lw_m8 221 rfl
theorem q2022 : (Jvm.Cond.instantiable "java/lang/Object" (0 : Nat)) ∈ lw_all := lw_g (lw_at lw_m8 235 rfl) rfl
theorem q112 : (Jvm.Cond.initialized "java/util/ArrayList") ∈ lw_all := lw_g (lw_at lw_m1 5 rfl) rfl
theorem q156 : (Jvm.Cond.instantiable "java/util/ArrayList" (3 : Nat)) ∈ lw_all := lw_g (lw_at lw_m1 49 rfl) rfl
theorem q158 : (Jvm.Cond.instanceMethod ({ cls := "java/util/ArrayList", name := "<init>", desc := "(I)V" } : Jvm.MethodName)) ∈ lw_all := lw_g (lw_at lw_m1 51 rfl) rfl
theorem q159 : (Jvm.Cond.code ({ cls := "java/util/ArrayList", name := "<init>", desc := "(I)V" } : Jvm.MethodName) prog_36_method_1_code (2 : Nat) (Option.none : Option Jvm.ClassFile.FieldType)) ∈ lw_all := lw_g (lw_at lw_m1 52 rfl) rfl
theorem q160 : (Jvm.Cond.methodLink "java/util/ArrayList" (1 : Nat) ({ cls := "java/util/AbstractList", name := "<init>", desc := "()V" } : Jvm.MethodName)) ∈ lw_all := lw_g (lw_at lw_m1 53 rfl) rfl
theorem q167 : (Jvm.Cond.classLink "java/util/ArrayList" (7 : Nat) "java/lang/Object") ∈ lw_all := lw_g (lw_at lw_m1 60 rfl) rfl
theorem q169 : (Jvm.Cond.fieldLink "java/util/ArrayList" (15 : Nat) "java/util/ArrayList" "EMPTY_ELEMENTDATA" "[Ljava/lang/Object;") ∈ lw_all := lw_g (lw_at lw_m1 62 rfl) rfl
theorem q170 : (Jvm.Cond.laysStatic "java/util/ArrayList" "EMPTY_ELEMENTDATA" "[Ljava/lang/Object;") ∈ lw_tbl := lw_at lw_m1 63 rfl
theorem q171 : (Jvm.Cond.fieldLink "java/util/ArrayList" (9 : Nat) "java/util/ArrayList" "elementData" "[Ljava/lang/Object;") ∈ lw_all := lw_g (lw_at lw_m1 64 rfl) rfl
theorem q174 : (Jvm.Cond.fieldLink "java/util/ArrayList" (48 : Nat) "java/util/ArrayList" "size" "I") ∈ lw_all := lw_g (lw_at lw_m1 67 rfl) rfl
theorem q177 : (Jvm.Cond.sameField "java/util/ArrayList" "java/util/AbstractList" "modCount" "I") ∈ lw_all := lw_g (lw_at lw_m1 70 rfl) rfl
theorem q178 : (Jvm.Cond.fieldLink "java/util/ArrayList" (63 : Nat) "java/util/ArrayList" "modCount" "I") ∈ lw_all := lw_g (lw_at lw_m1 71 rfl) rfl
theorem q179 : (Jvm.Cond.lays "java/util/ArrayList" "java/util/ArrayList" "elementData" "[Ljava/lang/Object;") ∈ lw_all := lw_g (lw_at lw_m1 72 rfl) rfl
theorem q180 : (Jvm.Cond.soleField "java/util/ArrayList" "elementData") ∈ lw_all := lw_g (lw_at lw_m1 73 rfl) rfl
theorem q181 : (Jvm.Cond.lays "java/util/ArrayList" "java/util/ArrayList" "size" "I") ∈ lw_all := lw_g (lw_at lw_m1 74 rfl) rfl
theorem q182 : (Jvm.Cond.soleField "java/util/ArrayList" "size") ∈ lw_all := lw_g (lw_at lw_m1 75 rfl) rfl
theorem q183 : (Jvm.Cond.lays "java/util/ArrayList" "java/util/AbstractList" "modCount" "I") ∈ lw_all := lw_g (lw_at lw_m1 76 rfl) rfl
theorem q185 : (Jvm.Cond.superclass "java/util/ArrayList" "java/util/AbstractList") ∈ lw_all := lw_g (lw_at lw_m1 78 rfl) rfl
theorem q667 : (Jvm.Cond.castable "java/util/ArrayList" "java/util/List") ∈ lw_tbl := lw_at lw_m3 80 rfl
theorem q668 : (Jvm.Cond.selects "java/util/ArrayList" ({ cls := "java/util/List", name := "size", desc := "()I" } : Jvm.MethodName) ({ cls := "java/util/ArrayList", name := "size", desc := "()I" } : Jvm.MethodName)) ∈ lw_all := lw_g (lw_at lw_m3 81 rfl) rfl
theorem q669 : (Jvm.Cond.unhidden "java/util/ArrayList" "size" "()I") ∈ lw_tbl := lw_at lw_m3 82 rfl
theorem q670 : (Jvm.Cond.instanceMethod ({ cls := "java/util/ArrayList", name := "size", desc := "()I" } : Jvm.MethodName)) ∈ lw_all := lw_g (lw_at lw_m3 83 rfl) rfl
theorem q671 : (Jvm.Cond.publicMethod ({ cls := "java/util/ArrayList", name := "size", desc := "()I" } : Jvm.MethodName)) ∈ lw_tbl := lw_at lw_m3 84 rfl
theorem q672 : (Jvm.Cond.code ({ cls := "java/util/ArrayList", name := "size", desc := "()I" } : Jvm.MethodName) prog_36_method_8_code (1 : Nat) (Option.some Jvm.ClassFile.FieldType.int)) ∈ lw_all := lw_g (lw_at lw_m3 85 rfl) rfl
theorem q691 : (Jvm.Cond.selects "java/util/ArrayList" ({ cls := "java/util/List", name := "get", desc := "(I)Ljava/lang/Object;" } : Jvm.MethodName) ({ cls := "java/util/ArrayList", name := "get", desc := "(I)Ljava/lang/Object;" } : Jvm.MethodName)) ∈ lw_all := lw_g (lw_at lw_m3 104 rfl) rfl
theorem q692 : (Jvm.Cond.unhidden "java/util/ArrayList" "get" "(I)Ljava/lang/Object;") ∈ lw_tbl := lw_at lw_m3 105 rfl
theorem q693 : (Jvm.Cond.instanceMethod ({ cls := "java/util/ArrayList", name := "get", desc := "(I)Ljava/lang/Object;" } : Jvm.MethodName)) ∈ lw_all := lw_g (lw_at lw_m3 106 rfl) rfl
theorem q694 : (Jvm.Cond.publicMethod ({ cls := "java/util/ArrayList", name := "get", desc := "(I)Ljava/lang/Object;" } : Jvm.MethodName)) ∈ lw_tbl := lw_at lw_m3 107 rfl
theorem q695 : (Jvm.Cond.code ({ cls := "java/util/ArrayList", name := "get", desc := "(I)Ljava/lang/Object;" } : Jvm.MethodName) prog_36_method_20_code (2 : Nat) (Option.some (Jvm.ClassFile.FieldType.object "java/lang/Object"))) ∈ lw_all := lw_g (lw_at lw_m3 108 rfl) rfl
theorem q696 : (Jvm.Cond.methodLink "java/util/ArrayList" (118 : Nat) ({ cls := "java/util/Objects", name := "checkIndex", desc := "(II)I" } : Jvm.MethodName)) ∈ lw_all := lw_g (lw_at lw_m3 109 rfl) rfl
theorem q700 : (Jvm.Cond.methodLink "java/util/ArrayList" (123 : Nat) ({ cls := "java/util/ArrayList", name := "elementData", desc := "(I)Ljava/lang/Object;" } : Jvm.MethodName)) ∈ lw_all := lw_g (lw_at lw_m3 113 rfl) rfl
theorem q701 : (Jvm.Cond.instanceMethod ({ cls := "java/util/ArrayList", name := "elementData", desc := "(I)Ljava/lang/Object;" } : Jvm.MethodName)) ∈ lw_all := lw_g (lw_at lw_m3 114 rfl) rfl
theorem q702 : (Jvm.Cond.selects "java/util/ArrayList" ({ cls := "java/util/ArrayList", name := "elementData", desc := "(I)Ljava/lang/Object;" } : Jvm.MethodName) ({ cls := "java/util/ArrayList", name := "elementData", desc := "(I)Ljava/lang/Object;" } : Jvm.MethodName)) ∈ lw_all := lw_g (lw_at lw_m3 115 rfl) rfl
theorem q703 : (Jvm.Cond.code ({ cls := "java/util/ArrayList", name := "elementData", desc := "(I)Ljava/lang/Object;" } : Jvm.MethodName) prog_36_method_18_code (2 : Nat) (Option.some (Jvm.ClassFile.FieldType.object "java/lang/Object"))) ∈ lw_all := lw_g (lw_at lw_m3 116 rfl) rfl
theorem q730 : (Jvm.Cond.selects "java/util/ArrayList" ({ cls := "java/util/List", name := "add", desc := "(Ljava/lang/Object;)Z" } : Jvm.MethodName) ({ cls := "java/util/ArrayList", name := "add", desc := "(Ljava/lang/Object;)Z" } : Jvm.MethodName)) ∈ lw_all := lw_g (lw_at lw_m3 143 rfl) rfl
theorem q731 : (Jvm.Cond.unhidden "java/util/ArrayList" "add" "(Ljava/lang/Object;)Z") ∈ lw_tbl := lw_at lw_m3 144 rfl
theorem q732 : (Jvm.Cond.instanceMethod ({ cls := "java/util/ArrayList", name := "add", desc := "(Ljava/lang/Object;)Z" } : Jvm.MethodName)) ∈ lw_all := lw_g (lw_at lw_m3 145 rfl) rfl
theorem q733 : (Jvm.Cond.publicMethod ({ cls := "java/util/ArrayList", name := "add", desc := "(Ljava/lang/Object;)Z" } : Jvm.MethodName)) ∈ lw_tbl := lw_at lw_m3 146 rfl
theorem q734 : (Jvm.Cond.code ({ cls := "java/util/ArrayList", name := "add", desc := "(Ljava/lang/Object;)Z" } : Jvm.MethodName) prog_36_method_25_code (2 : Nat) (Option.some Jvm.ClassFile.FieldType.boolean)) ∈ lw_all := lw_g (lw_at lw_m3 147 rfl) rfl
theorem q735 : (Jvm.Cond.methodLink "java/util/ArrayList" (131 : Nat) ({ cls := "java/util/ArrayList", name := "add", desc := "(Ljava/lang/Object;[Ljava/lang/Object;I)V" } : Jvm.MethodName)) ∈ lw_all := lw_g (lw_at lw_m3 148 rfl) rfl
theorem q736 : (Jvm.Cond.privateMethod ({ cls := "java/util/ArrayList", name := "add", desc := "(Ljava/lang/Object;[Ljava/lang/Object;I)V" } : Jvm.MethodName)) ∈ lw_tbl := lw_at lw_m3 149 rfl
theorem q737 : (Jvm.Cond.instanceMethod ({ cls := "java/util/ArrayList", name := "add", desc := "(Ljava/lang/Object;[Ljava/lang/Object;I)V" } : Jvm.MethodName)) ∈ lw_all := lw_g (lw_at lw_m3 150 rfl) rfl
theorem q738 : (Jvm.Cond.code ({ cls := "java/util/ArrayList", name := "add", desc := "(Ljava/lang/Object;[Ljava/lang/Object;I)V" } : Jvm.MethodName) prog_36_method_24_code (4 : Nat) (Option.none : Option Jvm.ClassFile.FieldType)) ∈ lw_all := lw_g (lw_at lw_m3 151 rfl) rfl
theorem q739 : (Jvm.Cond.methodLink "java/util/ArrayList" (129 : Nat) ({ cls := "java/util/ArrayList", name := "grow", desc := "()[Ljava/lang/Object;" } : Jvm.MethodName)) ∈ lw_all := lw_g (lw_at lw_m3 152 rfl) rfl
theorem q740 : (Jvm.Cond.privateMethod ({ cls := "java/util/ArrayList", name := "grow", desc := "()[Ljava/lang/Object;" } : Jvm.MethodName)) ∈ lw_tbl := lw_at lw_m3 153 rfl
theorem q741 : (Jvm.Cond.instanceMethod ({ cls := "java/util/ArrayList", name := "grow", desc := "()[Ljava/lang/Object;" } : Jvm.MethodName)) ∈ lw_all := lw_g (lw_at lw_m3 154 rfl) rfl
theorem q742 : (Jvm.Cond.code ({ cls := "java/util/ArrayList", name := "grow", desc := "()[Ljava/lang/Object;" } : Jvm.MethodName) prog_36_method_7_code (1 : Nat) (Option.some (Jvm.ClassFile.FieldType.array (Jvm.ClassFile.FieldType.object "java/lang/Object")))) ∈ lw_all := lw_g (lw_at lw_m3 155 rfl) rfl
theorem q743 : (Jvm.Cond.methodLink "java/util/ArrayList" (69 : Nat) ({ cls := "java/util/ArrayList", name := "grow", desc := "(I)[Ljava/lang/Object;" } : Jvm.MethodName)) ∈ lw_all := lw_g (lw_at lw_m3 156 rfl) rfl
theorem q744 : (Jvm.Cond.privateMethod ({ cls := "java/util/ArrayList", name := "grow", desc := "(I)[Ljava/lang/Object;" } : Jvm.MethodName)) ∈ lw_tbl := lw_at lw_m3 157 rfl
theorem q745 : (Jvm.Cond.instanceMethod ({ cls := "java/util/ArrayList", name := "grow", desc := "(I)[Ljava/lang/Object;" } : Jvm.MethodName)) ∈ lw_all := lw_g (lw_at lw_m3 158 rfl) rfl
theorem q746 : (Jvm.Cond.code ({ cls := "java/util/ArrayList", name := "grow", desc := "(I)[Ljava/lang/Object;" } : Jvm.MethodName) prog_36_method_6_code (4 : Nat) (Option.some (Jvm.ClassFile.FieldType.array (Jvm.ClassFile.FieldType.object "java/lang/Object")))) ∈ lw_all := lw_g (lw_at lw_m3 159 rfl) rfl
theorem q747 : (Jvm.Cond.fieldLink "java/util/ArrayList" (39 : Nat) "java/util/ArrayList" "DEFAULTCAPACITY_EMPTY_ELEMENTDATA" "[Ljava/lang/Object;") ∈ lw_all := lw_g (lw_at lw_m3 160 rfl) rfl
theorem q748 : (Jvm.Cond.laysStatic "java/util/ArrayList" "DEFAULTCAPACITY_EMPTY_ELEMENTDATA" "[Ljava/lang/Object;") ∈ lw_tbl := lw_at lw_m3 161 rfl
theorem q749 : (Jvm.Cond.methodLink "java/util/ArrayList" (73 : Nat) ({ cls := "jdk/internal/util/ArraysSupport", name := "newLength", desc := "(III)I" } : Jvm.MethodName)) ∈ lw_all := lw_g (lw_at lw_m3 162 rfl) rfl
theorem q757 : (Jvm.Cond.methodLink "java/util/ArrayList" (66 : Nat) ({ cls := "java/util/Arrays", name := "copyOf", desc := "([Ljava/lang/Object;I)[Ljava/lang/Object;" } : Jvm.MethodName)) ∈ lw_all := lw_g (lw_at lw_m3 170 rfl) rfl
theorem q775 : (Jvm.Cond.selects "java/util/ArrayList" ({ cls := "java/lang/Object", name := "getClass", desc := "()Ljava/lang/Class;" } : Jvm.MethodName) ({ cls := "java/lang/Object", name := "getClass", desc := "()Ljava/lang/Class;" } : Jvm.MethodName)) ∈ lw_all := lw_g (lw_at lw_m3 188 rfl) rfl
theorem q788 : (Jvm.Cond.methodLink "java/util/ArrayList" (79 : Nat) ({ cls := "java/lang/Math", name := "max", desc := "(II)I" } : Jvm.MethodName)) ∈ lw_all := lw_g (lw_at lw_m3 201 rfl) rfl
theorem q877 : (Jvm.Cond.selects "java/util/ArrayList" ({ cls := "java/util/List", name := "iterator", desc := "()Ljava/util/Iterator;" } : Jvm.MethodName) ({ cls := "java/util/ArrayList", name := "iterator", desc := "()Ljava/util/Iterator;" } : Jvm.MethodName)) ∈ lw_all := lw_g (lw_at lw_m4 50 rfl) rfl
theorem q878 : (Jvm.Cond.unhidden "java/util/ArrayList" "iterator" "()Ljava/util/Iterator;") ∈ lw_tbl := lw_at lw_m4 51 rfl
theorem q879 : (Jvm.Cond.instanceMethod ({ cls := "java/util/ArrayList", name := "iterator", desc := "()Ljava/util/Iterator;" } : Jvm.MethodName)) ∈ lw_all := lw_g (lw_at lw_m4 52 rfl) rfl
theorem q880 : (Jvm.Cond.publicMethod ({ cls := "java/util/ArrayList", name := "iterator", desc := "()Ljava/util/Iterator;" } : Jvm.MethodName)) ∈ lw_tbl := lw_at lw_m4 53 rfl
theorem q881 : (Jvm.Cond.code ({ cls := "java/util/ArrayList", name := "iterator", desc := "()Ljava/util/Iterator;" } : Jvm.MethodName) prog_36_method_55_code (1 : Nat) (Option.some (Jvm.ClassFile.FieldType.object "java/util/Iterator"))) ∈ lw_all := lw_g (lw_at lw_m4 54 rfl) rfl
theorem q882 : (Jvm.Cond.classLink "java/util/ArrayList" (267 : Nat) "java/util/ArrayList$Itr") ∈ lw_all := lw_g (lw_at lw_m4 55 rfl) rfl
theorem q884 : (Jvm.Cond.methodLink "java/util/ArrayList" (269 : Nat) ({ cls := "java/util/ArrayList$Itr", name := "<init>", desc := "(Ljava/util/ArrayList;)V" } : Jvm.MethodName)) ∈ lw_all := lw_g (lw_at lw_m4 57 rfl) rfl
theorem q1371 : (Jvm.Cond.selects "java/util/ArrayList" ({ cls := "java/util/List", name := "remove", desc := "(I)Ljava/lang/Object;" } : Jvm.MethodName) ({ cls := "java/util/ArrayList", name := "remove", desc := "(I)Ljava/lang/Object;" } : Jvm.MethodName)) ∈ lw_all := lw_g (lw_at lw_m6 64 rfl) rfl
theorem q1372 : (Jvm.Cond.unhidden "java/util/ArrayList" "remove" "(I)Ljava/lang/Object;") ∈ lw_tbl := lw_at lw_m6 65 rfl
theorem q1373 : (Jvm.Cond.instanceMethod ({ cls := "java/util/ArrayList", name := "remove", desc := "(I)Ljava/lang/Object;" } : Jvm.MethodName)) ∈ lw_all := lw_g (lw_at lw_m6 66 rfl) rfl
theorem q1374 : (Jvm.Cond.publicMethod ({ cls := "java/util/ArrayList", name := "remove", desc := "(I)Ljava/lang/Object;" } : Jvm.MethodName)) ∈ lw_tbl := lw_at lw_m6 67 rfl
theorem q1375 : (Jvm.Cond.code ({ cls := "java/util/ArrayList", name := "remove", desc := "(I)Ljava/lang/Object;" } : Jvm.MethodName) prog_36_method_29_code (4 : Nat) (Option.some (Jvm.ClassFile.FieldType.object "java/lang/Object"))) ∈ lw_all := lw_g (lw_at lw_m6 68 rfl) rfl
theorem q1376 : (Jvm.Cond.methodLink "java/util/ArrayList" (144 : Nat) ({ cls := "java/util/ArrayList", name := "fastRemove", desc := "([Ljava/lang/Object;I)V" } : Jvm.MethodName)) ∈ lw_all := lw_g (lw_at lw_m6 69 rfl) rfl
theorem q1377 : (Jvm.Cond.privateMethod ({ cls := "java/util/ArrayList", name := "fastRemove", desc := "([Ljava/lang/Object;I)V" } : Jvm.MethodName)) ∈ lw_tbl := lw_at lw_m6 70 rfl
theorem q1378 : (Jvm.Cond.instanceMethod ({ cls := "java/util/ArrayList", name := "fastRemove", desc := "([Ljava/lang/Object;I)V" } : Jvm.MethodName)) ∈ lw_all := lw_g (lw_at lw_m6 71 rfl) rfl
theorem q1379 : (Jvm.Cond.code ({ cls := "java/util/ArrayList", name := "fastRemove", desc := "([Ljava/lang/Object;I)V" } : Jvm.MethodName) prog_36_method_39_code (4 : Nat) (Option.none : Option Jvm.ClassFile.FieldType)) ∈ lw_all := lw_g (lw_at lw_m6 72 rfl) rfl
theorem q1380 : (Jvm.Cond.methodLink "java/util/ArrayList" (112 : Nat) ({ cls := "java/lang/System", name := "arraycopy", desc := "(Ljava/lang/Object;ILjava/lang/Object;II)V" } : Jvm.MethodName)) ∈ lw_all := lw_g (lw_at lw_m6 73 rfl) rfl
theorem q1991 : (Jvm.Cond.castable "java/util/ArrayList" "java/lang/Object") ∈ lw_tbl := lw_at lw_m8 204 rfl
theorem q119 : (Jvm.Cond.initialized "java/lang/String") ∈ lw_all := lw_g (lw_at lw_m1 12 rfl) rfl
theorem q466 : (Jvm.Cond.instanceMethod ({ cls := "java/lang/String", name := "indexOf", desc := "(I)I" } : Jvm.MethodName)) ∈ lw_all := lw_g (lw_at lw_m2 119 rfl) rfl
theorem q467 : (Jvm.Cond.selects "java/lang/String" ({ cls := "java/lang/String", name := "indexOf", desc := "(I)I" } : Jvm.MethodName) ({ cls := "java/lang/String", name := "indexOf", desc := "(I)I" } : Jvm.MethodName)) ∈ lw_all := lw_g (lw_at lw_m2 120 rfl) rfl
theorem q468 : (Jvm.Cond.code ({ cls := "java/lang/String", name := "indexOf", desc := "(I)I" } : Jvm.MethodName) prog_27_method_79_code (2 : Nat) (Option.some Jvm.ClassFile.FieldType.int)) ∈ lw_all := lw_g (lw_at lw_m2 121 rfl) rfl
theorem q469 : (Jvm.Cond.methodLink "java/lang/String" (633 : Nat) ({ cls := "java/lang/String", name := "indexOf", desc := "(II)I" } : Jvm.MethodName)) ∈ lw_all := lw_g (lw_at lw_m2 122 rfl) rfl
theorem q470 : (Jvm.Cond.instanceMethod ({ cls := "java/lang/String", name := "indexOf", desc := "(II)I" } : Jvm.MethodName)) ∈ lw_all := lw_g (lw_at lw_m2 123 rfl) rfl
theorem q471 : (Jvm.Cond.selects "java/lang/String" ({ cls := "java/lang/String", name := "indexOf", desc := "(II)I" } : Jvm.MethodName) ({ cls := "java/lang/String", name := "indexOf", desc := "(II)I" } : Jvm.MethodName)) ∈ lw_all := lw_g (lw_at lw_m2 124 rfl) rfl
theorem q472 : (Jvm.Cond.code ({ cls := "java/lang/String", name := "indexOf", desc := "(II)I" } : Jvm.MethodName) prog_27_method_80_code (3 : Nat) (Option.some Jvm.ClassFile.FieldType.int)) ∈ lw_all := lw_g (lw_at lw_m2 125 rfl) rfl
theorem q473 : (Jvm.Cond.methodLink "java/lang/String" (492 : Nat) ({ cls := "java/lang/String", name := "isLatin1", desc := "()Z" } : Jvm.MethodName)) ∈ lw_all := lw_g (lw_at lw_m2 126 rfl) rfl
theorem q474 : (Jvm.Cond.instanceMethod ({ cls := "java/lang/String", name := "isLatin1", desc := "()Z" } : Jvm.MethodName)) ∈ lw_all := lw_g (lw_at lw_m2 127 rfl) rfl
theorem q475 : (Jvm.Cond.selects "java/lang/String" ({ cls := "java/lang/String", name := "isLatin1", desc := "()Z" } : Jvm.MethodName) ({ cls := "java/lang/String", name := "isLatin1", desc := "()Z" } : Jvm.MethodName)) ∈ lw_all := lw_g (lw_at lw_m2 128 rfl) rfl
theorem q476 : (Jvm.Cond.code ({ cls := "java/lang/String", name := "isLatin1", desc := "()Z" } : Jvm.MethodName) prog_27_method_154_code (1 : Nat) (Option.some Jvm.ClassFile.FieldType.boolean)) ∈ lw_all := lw_g (lw_at lw_m2 129 rfl) rfl
theorem q477 : (Jvm.Cond.fieldLink "java/lang/String" (38 : Nat) "java/lang/String" "COMPACT_STRINGS" "Z") ∈ lw_all := lw_g (lw_at lw_m2 130 rfl) rfl
theorem q478 : (Jvm.Cond.laysStatic "java/lang/String" "COMPACT_STRINGS" "Z") ∈ lw_tbl := lw_at lw_m2 131 rfl
theorem q479 : (Jvm.Cond.methodLink "java/lang/String" (505 : Nat) ({ cls := "java/lang/String", name := "length", desc := "()I" } : Jvm.MethodName)) ∈ lw_all := lw_g (lw_at lw_m2 132 rfl) rfl
theorem q480 : (Jvm.Cond.instanceMethod ({ cls := "java/lang/String", name := "length", desc := "()I" } : Jvm.MethodName)) ∈ lw_all := lw_g (lw_at lw_m2 133 rfl) rfl
theorem q481 : (Jvm.Cond.selects "java/lang/String" ({ cls := "java/lang/String", name := "length", desc := "()I" } : Jvm.MethodName) ({ cls := "java/lang/String", name := "length", desc := "()I" } : Jvm.MethodName)) ∈ lw_all := lw_g (lw_at lw_m2 134 rfl) rfl
theorem q482 : (Jvm.Cond.code ({ cls := "java/lang/String", name := "length", desc := "()I" } : Jvm.MethodName) prog_27_method_54_code (1 : Nat) (Option.some Jvm.ClassFile.FieldType.int)) ∈ lw_all := lw_g (lw_at lw_m2 135 rfl) rfl
theorem q483 : (Jvm.Cond.methodLink "java/lang/String" (335 : Nat) ({ cls := "java/lang/String", name := "coder", desc := "()B" } : Jvm.MethodName)) ∈ lw_all := lw_g (lw_at lw_m2 136 rfl) rfl
theorem q484 : (Jvm.Cond.instanceMethod ({ cls := "java/lang/String", name := "coder", desc := "()B" } : Jvm.MethodName)) ∈ lw_all := lw_g (lw_at lw_m2 137 rfl) rfl
theorem q485 : (Jvm.Cond.selects "java/lang/String" ({ cls := "java/lang/String", name := "coder", desc := "()B" } : Jvm.MethodName) ({ cls := "java/lang/String", name := "coder", desc := "()B" } : Jvm.MethodName)) ∈ lw_all := lw_g (lw_at lw_m2 138 rfl) rfl
theorem q486 : (Jvm.Cond.code ({ cls := "java/lang/String", name := "coder", desc := "()B" } : Jvm.MethodName) prog_27_method_152_code (1 : Nat) (Option.some Jvm.ClassFile.FieldType.byte)) ∈ lw_all := lw_g (lw_at lw_m2 139 rfl) rfl
theorem q487 : (Jvm.Cond.methodLink "java/lang/String" (637 : Nat) ({ cls := "java/lang/StringLatin1", name := "indexOf", desc := "([BIII)I" } : Jvm.MethodName)) ∈ lw_all := lw_g (lw_at lw_m2 140 rfl) rfl
theorem q502 : (Jvm.Cond.methodLink "java/lang/String" (640 : Nat) ({ cls := "java/lang/StringUTF16", name := "indexOf", desc := "([BIII)I" } : Jvm.MethodName)) ∈ lw_all := lw_g (lw_at lw_m2 155 rfl) rfl
theorem q518 : (Jvm.Cond.static ({ cls := "java/lang/String", name := "checkBoundsBeginEnd", desc := "(III)V" } : Jvm.MethodName)) ∈ lw_all := lw_g (lw_at lw_m2 171 rfl) rfl
theorem q519 : (Jvm.Cond.code ({ cls := "java/lang/String", name := "checkBoundsBeginEnd", desc := "(III)V" } : Jvm.MethodName) prog_27_method_158_code (3 : Nat) (Option.none : Option Jvm.ClassFile.FieldType)) ∈ lw_all := lw_g (lw_at lw_m2 172 rfl) rfl
theorem q520 : (Jvm.Cond.fieldLink "java/lang/String" (1053 : Nat) "jdk/internal/util/Preconditions" "SIOOBE_FORMATTER" "Ljava/util/function/BiFunction;") ∈ lw_all := lw_g (lw_at lw_m2 173 rfl) rfl
theorem q522 : (Jvm.Cond.methodLink "java/lang/String" (1062 : Nat) ({ cls := "jdk/internal/util/Preconditions", name := "checkFromToIndex", desc := "(IIILjava/util/function/BiFunction;)I" } : Jvm.MethodName)) ∈ lw_all := lw_g (lw_at lw_m2 175 rfl) rfl
theorem q567 : (Jvm.Cond.instanceMethod ({ cls := "java/lang/String", name := "charAt", desc := "(I)C" } : Jvm.MethodName)) ∈ lw_all := lw_g (lw_at lw_m2 220 rfl) rfl
theorem q568 : (Jvm.Cond.selects "java/lang/String" ({ cls := "java/lang/String", name := "charAt", desc := "(I)C" } : Jvm.MethodName) ({ cls := "java/lang/String", name := "charAt", desc := "(I)C" } : Jvm.MethodName)) ∈ lw_all := lw_g (lw_at lw_m2 221 rfl) rfl
theorem q569 : (Jvm.Cond.code ({ cls := "java/lang/String", name := "charAt", desc := "(I)C" } : Jvm.MethodName) prog_27_method_56_code (2 : Nat) (Option.some Jvm.ClassFile.FieldType.char)) ∈ lw_all := lw_g (lw_at lw_m2 222 rfl) rfl
theorem q570 : (Jvm.Cond.methodLink "java/lang/String" (495 : Nat) ({ cls := "java/lang/StringLatin1", name := "charAt", desc := "([BI)C" } : Jvm.MethodName)) ∈ lw_all := lw_g (lw_at lw_m2 223 rfl) rfl
theorem q574 : (Jvm.Cond.static ({ cls := "java/lang/String", name := "checkIndex", desc := "(II)V" } : Jvm.MethodName)) ∈ lw_all := lw_g (lw_at lw_m2 227 rfl) rfl
theorem q575 : (Jvm.Cond.code ({ cls := "java/lang/String", name := "checkIndex", desc := "(II)V" } : Jvm.MethodName) prog_27_method_155_code (2 : Nat) (Option.none : Option Jvm.ClassFile.FieldType)) ∈ lw_all := lw_g (lw_at lw_m2 228 rfl) rfl
theorem q576 : (Jvm.Cond.methodLink "java/lang/String" (1059 : Nat) ({ cls := "jdk/internal/util/Preconditions", name := "checkIndex", desc := "(IILjava/util/function/BiFunction;)I" } : Jvm.MethodName)) ∈ lw_all := lw_g (lw_at lw_m2 229 rfl) rfl
theorem q579 : (Jvm.Cond.methodLink "java/lang/String" (498 : Nat) ({ cls := "java/lang/StringUTF16", name := "charAt", desc := "([BI)C" } : Jvm.MethodName)) ∈ lw_all := lw_g (lw_at lw_m2 232 rfl) rfl
theorem q1988 : (Jvm.Cond.castable "java/lang/String" "java/lang/Object") ∈ lw_tbl := lw_at lw_m8 201 rfl
theorem q2015 : (Jvm.Cond.fieldLink "java/lang/String" (15 : Nat) "java/lang/String" "coder" "B") ∈ lw_all := lw_g (lw_at lw_m8 228 rfl) rfl
theorem q2016 : (Jvm.Cond.fieldLink "java/lang/String" (9 : Nat) "java/lang/String" "value" "[B") ∈ lw_all := lw_g (lw_at lw_m8 229 rfl) rfl
theorem q120 : (Jvm.Cond.initialized "java/lang/StringLatin1") ∈ lw_all := lw_g (lw_at lw_m1 13 rfl) rfl
theorem q488 : (Jvm.Cond.static ({ cls := "java/lang/StringLatin1", name := "indexOf", desc := "([BIII)I" } : Jvm.MethodName)) ∈ lw_all := lw_g (lw_at lw_m2 141 rfl) rfl
theorem q489 : (Jvm.Cond.code ({ cls := "java/lang/StringLatin1", name := "indexOf", desc := "([BIII)I" } : Jvm.MethodName) prog_28_method_22_code (4 : Nat) (Option.some Jvm.ClassFile.FieldType.int)) ∈ lw_all := lw_g (lw_at lw_m2 142 rfl) rfl
theorem q490 : (Jvm.Cond.methodLink "java/lang/StringLatin1" (88 : Nat) ({ cls := "java/lang/StringLatin1", name := "canEncode", desc := "(I)Z" } : Jvm.MethodName)) ∈ lw_all := lw_g (lw_at lw_m2 143 rfl) rfl
theorem q491 : (Jvm.Cond.static ({ cls := "java/lang/StringLatin1", name := "canEncode", desc := "(I)Z" } : Jvm.MethodName)) ∈ lw_all := lw_g (lw_at lw_m2 144 rfl) rfl
theorem q492 : (Jvm.Cond.code ({ cls := "java/lang/StringLatin1", name := "canEncode", desc := "(I)Z" } : Jvm.MethodName) prog_28_method_4_code (1 : Nat) (Option.some Jvm.ClassFile.FieldType.boolean)) ∈ lw_all := lw_g (lw_at lw_m2 145 rfl) rfl
theorem q493 : (Jvm.Cond.methodLink "java/lang/StringLatin1" (92 : Nat) ({ cls := "java/lang/Math", name := "max", desc := "(II)I" } : Jvm.MethodName)) ∈ lw_all := lw_g (lw_at lw_m2 146 rfl) rfl
theorem q496 : (Jvm.Cond.methodLink "java/lang/StringLatin1" (38 : Nat) ({ cls := "java/lang/Math", name := "min", desc := "(II)I" } : Jvm.MethodName)) ∈ lw_all := lw_g (lw_at lw_m2 149 rfl) rfl
theorem q499 : (Jvm.Cond.methodLink "java/lang/StringLatin1" (95 : Nat) ({ cls := "java/lang/StringLatin1", name := "indexOfChar", desc := "([BIII)I" } : Jvm.MethodName)) ∈ lw_all := lw_g (lw_at lw_m2 152 rfl) rfl
theorem q500 : (Jvm.Cond.static ({ cls := "java/lang/StringLatin1", name := "indexOfChar", desc := "([BIII)I" } : Jvm.MethodName)) ∈ lw_all := lw_g (lw_at lw_m2 153 rfl) rfl
theorem q501 : (Jvm.Cond.code ({ cls := "java/lang/StringLatin1", name := "indexOfChar", desc := "([BIII)I" } : Jvm.MethodName) prog_28_method_23_code (6 : Nat) (Option.some Jvm.ClassFile.FieldType.int)) ∈ lw_all := lw_g (lw_at lw_m2 154 rfl) rfl
theorem q571 : (Jvm.Cond.static ({ cls := "java/lang/StringLatin1", name := "charAt", desc := "([BI)C" } : Jvm.MethodName)) ∈ lw_all := lw_g (lw_at lw_m2 224 rfl) rfl
theorem q572 : (Jvm.Cond.code ({ cls := "java/lang/StringLatin1", name := "charAt", desc := "([BI)C" } : Jvm.MethodName) prog_28_method_2_code (2 : Nat) (Option.some Jvm.ClassFile.FieldType.char)) ∈ lw_all := lw_g (lw_at lw_m2 225 rfl) rfl
theorem q573 : (Jvm.Cond.methodLink "java/lang/StringLatin1" (9 : Nat) ({ cls := "java/lang/String", name := "checkIndex", desc := "(II)V" } : Jvm.MethodName)) ∈ lw_all := lw_g (lw_at lw_m2 226 rfl) rfl
theorem q121 : (Jvm.Cond.initialized "java/lang/Math") ∈ lw_all := lw_g (lw_at lw_m1 14 rfl) rfl
theorem q494 : (Jvm.Cond.static ({ cls := "java/lang/Math", name := "max", desc := "(II)I" } : Jvm.MethodName)) ∈ lw_all := lw_g (lw_at lw_m2 147 rfl) rfl
theorem q495 : (Jvm.Cond.code ({ cls := "java/lang/Math", name := "max", desc := "(II)I" } : Jvm.MethodName) prog_24_method_65_code (2 : Nat) (Option.some Jvm.ClassFile.FieldType.int)) ∈ lw_all := lw_g (lw_at lw_m2 148 rfl) rfl
theorem q497 : (Jvm.Cond.static ({ cls := "java/lang/Math", name := "min", desc := "(II)I" } : Jvm.MethodName)) ∈ lw_all := lw_g (lw_at lw_m2 150 rfl) rfl
theorem q498 : (Jvm.Cond.code ({ cls := "java/lang/Math", name := "min", desc := "(II)I" } : Jvm.MethodName) prog_24_method_69_code (2 : Nat) (Option.some Jvm.ClassFile.FieldType.int)) ∈ lw_all := lw_g (lw_at lw_m2 151 rfl) rfl
theorem q1271 : (Jvm.Cond.static ({ cls := "java/lang/Math", name := "min", desc := "(JJ)J" } : Jvm.MethodName)) ∈ lw_all := lw_g (lw_at lw_m5 204 rfl) rfl
theorem q1272 : (Jvm.Cond.code ({ cls := "java/lang/Math", name := "min", desc := "(JJ)J" } : Jvm.MethodName) prog_24_method_70_code (4 : Nat) (Option.some Jvm.ClassFile.FieldType.long)) ∈ lw_all := lw_g (lw_at lw_m5 205 rfl) rfl
theorem q122 : (Jvm.Cond.initialized "java/lang/StringUTF16") ∈ lw_all := lw_g (lw_at lw_m1 15 rfl) rfl
theorem q503 : (Jvm.Cond.static ({ cls := "java/lang/StringUTF16", name := "indexOf", desc := "([BIII)I" } : Jvm.MethodName)) ∈ lw_all := lw_g (lw_at lw_m2 156 rfl) rfl
theorem q504 : (Jvm.Cond.code ({ cls := "java/lang/StringUTF16", name := "indexOf", desc := "([BIII)I" } : Jvm.MethodName) prog_29_method_40_code (4 : Nat) (Option.some Jvm.ClassFile.FieldType.int)) ∈ lw_all := lw_g (lw_at lw_m2 157 rfl) rfl
theorem q505 : (Jvm.Cond.methodLink "java/lang/StringUTF16" (224 : Nat) ({ cls := "java/lang/Math", name := "max", desc := "(II)I" } : Jvm.MethodName)) ∈ lw_all := lw_g (lw_at lw_m2 158 rfl) rfl
theorem q506 : (Jvm.Cond.methodLink "java/lang/StringUTF16" (183 : Nat) ({ cls := "java/lang/Math", name := "min", desc := "(II)I" } : Jvm.MethodName)) ∈ lw_all := lw_g (lw_at lw_m2 159 rfl) rfl
theorem q507 : (Jvm.Cond.constant "java/lang/StringUTF16" (227 : Nat) (65536 : Int32)) ∈ lw_all := lw_g (lw_at lw_m2 160 rfl) rfl
theorem q508 : (Jvm.Cond.methodLink "java/lang/StringUTF16" (228 : Nat) ({ cls := "java/lang/StringUTF16", name := "indexOfChar", desc := "([BIII)I" } : Jvm.MethodName)) ∈ lw_all := lw_g (lw_at lw_m2 161 rfl) rfl
theorem q509 : (Jvm.Cond.static ({ cls := "java/lang/StringUTF16", name := "indexOfChar", desc := "([BIII)I" } : Jvm.MethodName)) ∈ lw_all := lw_g (lw_at lw_m2 162 rfl) rfl
theorem q510 : (Jvm.Cond.code ({ cls := "java/lang/StringUTF16", name := "indexOfChar", desc := "([BIII)I" } : Jvm.MethodName) prog_29_method_47_code (4 : Nat) (Option.some Jvm.ClassFile.FieldType.int)) ∈ lw_all := lw_g (lw_at lw_m2 163 rfl) rfl
theorem q511 : (Jvm.Cond.methodLink "java/lang/StringUTF16" (96 : Nat) ({ cls := "java/lang/StringUTF16", name := "checkBoundsBeginEnd", desc := "(II[B)V" } : Jvm.MethodName)) ∈ lw_all := lw_g (lw_at lw_m2 164 rfl) rfl
theorem q512 : (Jvm.Cond.static ({ cls := "java/lang/StringUTF16", name := "checkBoundsBeginEnd", desc := "(II[B)V" } : Jvm.MethodName)) ∈ lw_all := lw_g (lw_at lw_m2 165 rfl) rfl
theorem q513 : (Jvm.Cond.code ({ cls := "java/lang/StringUTF16", name := "checkBoundsBeginEnd", desc := "(II[B)V" } : Jvm.MethodName) prog_29_method_93_code (3 : Nat) (Option.none : Option Jvm.ClassFile.FieldType)) ∈ lw_all := lw_g (lw_at lw_m2 166 rfl) rfl
theorem q514 : (Jvm.Cond.methodLink "java/lang/StringUTF16" (48 : Nat) ({ cls := "java/lang/StringUTF16", name := "length", desc := "([B)I" } : Jvm.MethodName)) ∈ lw_all := lw_g (lw_at lw_m2 167 rfl) rfl
theorem q515 : (Jvm.Cond.static ({ cls := "java/lang/StringUTF16", name := "length", desc := "([B)I" } : Jvm.MethodName)) ∈ lw_all := lw_g (lw_at lw_m2 168 rfl) rfl
theorem q516 : (Jvm.Cond.code ({ cls := "java/lang/StringUTF16", name := "length", desc := "([B)I" } : Jvm.MethodName) prog_29_method_6_code (1 : Nat) (Option.some Jvm.ClassFile.FieldType.int)) ∈ lw_all := lw_g (lw_at lw_m2 169 rfl) rfl
theorem q517 : (Jvm.Cond.methodLink "java/lang/StringUTF16" (241 : Nat) ({ cls := "java/lang/String", name := "checkBoundsBeginEnd", desc := "(III)V" } : Jvm.MethodName)) ∈ lw_all := lw_g (lw_at lw_m2 170 rfl) rfl
theorem q525 : (Jvm.Cond.methodLink "java/lang/StringUTF16" (244 : Nat) ({ cls := "java/lang/StringUTF16", name := "indexOfCharUnsafe", desc := "([BIII)I" } : Jvm.MethodName)) ∈ lw_all := lw_g (lw_at lw_m2 178 rfl) rfl
theorem q526 : (Jvm.Cond.static ({ cls := "java/lang/StringUTF16", name := "indexOfCharUnsafe", desc := "([BIII)I" } : Jvm.MethodName)) ∈ lw_all := lw_g (lw_at lw_m2 179 rfl) rfl
theorem q527 : (Jvm.Cond.code ({ cls := "java/lang/StringUTF16", name := "indexOfCharUnsafe", desc := "([BIII)I" } : Jvm.MethodName) prog_29_method_48_code (5 : Nat) (Option.some Jvm.ClassFile.FieldType.int)) ∈ lw_all := lw_g (lw_at lw_m2 180 rfl) rfl
theorem q528 : (Jvm.Cond.methodLink "java/lang/StringUTF16" (71 : Nat) ({ cls := "java/lang/StringUTF16", name := "getChar", desc := "([BI)C" } : Jvm.MethodName)) ∈ lw_all := lw_g (lw_at lw_m2 181 rfl) rfl
theorem q529 : (Jvm.Cond.static ({ cls := "java/lang/StringUTF16", name := "getChar", desc := "([BI)C" } : Jvm.MethodName)) ∈ lw_all := lw_g (lw_at lw_m2 182 rfl) rfl
theorem q530 : (Jvm.Cond.code ({ cls := "java/lang/StringUTF16", name := "getChar", desc := "([BI)C" } : Jvm.MethodName) prog_29_method_5_code (2 : Nat) (Option.some Jvm.ClassFile.FieldType.char)) ∈ lw_all := lw_g (lw_at lw_m2 183 rfl) rfl
theorem q531 : (Jvm.Cond.fieldLink "java/lang/StringUTF16" (44 : Nat) "java/lang/StringUTF16" "$assertionsDisabled" "Z") ∈ lw_all := lw_g (lw_at lw_m2 184 rfl) rfl
theorem q532 : (Jvm.Cond.laysStatic "java/lang/StringUTF16" "$assertionsDisabled" "Z") ∈ lw_tbl := lw_at lw_m2 185 rfl
theorem q533 : (Jvm.Cond.fieldLink "java/lang/StringUTF16" (59 : Nat) "java/lang/StringUTF16" "HI_BYTE_SHIFT" "I") ∈ lw_all := lw_g (lw_at lw_m2 186 rfl) rfl
theorem q534 : (Jvm.Cond.laysStatic "java/lang/StringUTF16" "HI_BYTE_SHIFT" "I") ∈ lw_tbl := lw_at lw_m2 187 rfl
theorem q535 : (Jvm.Cond.fieldLink "java/lang/StringUTF16" (63 : Nat) "java/lang/StringUTF16" "LO_BYTE_SHIFT" "I") ∈ lw_all := lw_g (lw_at lw_m2 188 rfl) rfl
theorem q536 : (Jvm.Cond.laysStatic "java/lang/StringUTF16" "LO_BYTE_SHIFT" "I") ∈ lw_tbl := lw_at lw_m2 189 rfl
theorem q537 : (Jvm.Cond.methodLink "java/lang/StringUTF16" (232 : Nat) ({ cls := "java/lang/StringUTF16", name := "indexOfSupplementary", desc := "([BIII)I" } : Jvm.MethodName)) ∈ lw_all := lw_g (lw_at lw_m2 190 rfl) rfl
theorem q538 : (Jvm.Cond.static ({ cls := "java/lang/StringUTF16", name := "indexOfSupplementary", desc := "([BIII)I" } : Jvm.MethodName)) ∈ lw_all := lw_g (lw_at lw_m2 191 rfl) rfl
theorem q539 : (Jvm.Cond.code ({ cls := "java/lang/StringUTF16", name := "indexOfSupplementary", desc := "([BIII)I" } : Jvm.MethodName) prog_29_method_49_code (7 : Nat) (Option.some Jvm.ClassFile.FieldType.int)) ∈ lw_all := lw_g (lw_at lw_m2 192 rfl) rfl
theorem q540 : (Jvm.Cond.methodLink "java/lang/StringUTF16" (164 : Nat) ({ cls := "java/lang/Character", name := "isValidCodePoint", desc := "(I)Z" } : Jvm.MethodName)) ∈ lw_all := lw_g (lw_at lw_m2 193 rfl) rfl
theorem q543 : (Jvm.Cond.methodLink "java/lang/StringUTF16" (157 : Nat) ({ cls := "java/lang/Character", name := "highSurrogate", desc := "(I)C" } : Jvm.MethodName)) ∈ lw_all := lw_g (lw_at lw_m2 196 rfl) rfl
theorem q547 : (Jvm.Cond.methodLink "java/lang/StringUTF16" (161 : Nat) ({ cls := "java/lang/Character", name := "lowSurrogate", desc := "(I)C" } : Jvm.MethodName)) ∈ lw_all := lw_g (lw_at lw_m2 200 rfl) rfl
theorem q580 : (Jvm.Cond.static ({ cls := "java/lang/StringUTF16", name := "charAt", desc := "([BI)C" } : Jvm.MethodName)) ∈ lw_all := lw_g (lw_at lw_m2 233 rfl) rfl
theorem q581 : (Jvm.Cond.code ({ cls := "java/lang/StringUTF16", name := "charAt", desc := "([BI)C" } : Jvm.MethodName) prog_29_method_83_code (2 : Nat) (Option.some Jvm.ClassFile.FieldType.char)) ∈ lw_all := lw_g (lw_at lw_m2 234 rfl) rfl
theorem q582 : (Jvm.Cond.methodLink "java/lang/StringUTF16" (67 : Nat) ({ cls := "java/lang/StringUTF16", name := "checkIndex", desc := "(I[B)V" } : Jvm.MethodName)) ∈ lw_all := lw_g (lw_at lw_m2 235 rfl) rfl
theorem q583 : (Jvm.Cond.static ({ cls := "java/lang/StringUTF16", name := "checkIndex", desc := "(I[B)V" } : Jvm.MethodName)) ∈ lw_all := lw_g (lw_at lw_m2 236 rfl) rfl
theorem q584 : (Jvm.Cond.code ({ cls := "java/lang/StringUTF16", name := "checkIndex", desc := "(I[B)V" } : Jvm.MethodName) prog_29_method_91_code (2 : Nat) (Option.none : Option Jvm.ClassFile.FieldType)) ∈ lw_all := lw_g (lw_at lw_m2 237 rfl) rfl
theorem q585 : (Jvm.Cond.methodLink "java/lang/StringUTF16" (414 : Nat) ({ cls := "java/lang/String", name := "checkIndex", desc := "(II)V" } : Jvm.MethodName)) ∈ lw_all := lw_g (lw_at lw_m2 238 rfl) rfl
theorem q123 : (Jvm.Cond.initialized "jdk/internal/util/Preconditions") ∈ lw_all := lw_g (lw_at lw_m1 16 rfl) rfl
theorem q521 : (Jvm.Cond.laysStatic "jdk/internal/util/Preconditions" "SIOOBE_FORMATTER" "Ljava/util/function/BiFunction;") ∈ lw_tbl := lw_at lw_m2 174 rfl
theorem q523 : (Jvm.Cond.static ({ cls := "jdk/internal/util/Preconditions", name := "checkFromToIndex", desc := "(IIILjava/util/function/BiFunction;)I" } : Jvm.MethodName)) ∈ lw_all := lw_g (lw_at lw_m2 176 rfl) rfl
theorem q524 : (Jvm.Cond.code ({ cls := "jdk/internal/util/Preconditions", name := "checkFromToIndex", desc := "(IIILjava/util/function/BiFunction;)I" } : Jvm.MethodName) prog_47_method_12_code (4 : Nat) (Option.some Jvm.ClassFile.FieldType.int)) ∈ lw_all := lw_g (lw_at lw_m2 177 rfl) rfl
theorem q577 : (Jvm.Cond.static ({ cls := "jdk/internal/util/Preconditions", name := "checkIndex", desc := "(IILjava/util/function/BiFunction;)I" } : Jvm.MethodName)) ∈ lw_all := lw_g (lw_at lw_m2 230 rfl) rfl
theorem q578 : (Jvm.Cond.code ({ cls := "jdk/internal/util/Preconditions", name := "checkIndex", desc := "(IILjava/util/function/BiFunction;)I" } : Jvm.MethodName) prog_47_method_11_code (3 : Nat) (Option.some Jvm.ClassFile.FieldType.int)) ∈ lw_all := lw_g (lw_at lw_m2 231 rfl) rfl
theorem q124 : (Jvm.Cond.initialized "java/lang/Character") ∈ lw_all := lw_g (lw_at lw_m1 17 rfl) rfl
theorem q541 : (Jvm.Cond.static ({ cls := "java/lang/Character", name := "isValidCodePoint", desc := "(I)Z" } : Jvm.MethodName)) ∈ lw_all := lw_g (lw_at lw_m2 194 rfl) rfl
theorem q542 : (Jvm.Cond.code ({ cls := "java/lang/Character", name := "isValidCodePoint", desc := "(I)Z" } : Jvm.MethodName) prog_17_method_11_code (2 : Nat) (Option.some Jvm.ClassFile.FieldType.boolean)) ∈ lw_all := lw_g (lw_at lw_m2 195 rfl) rfl
theorem q544 : (Jvm.Cond.static ({ cls := "java/lang/Character", name := "highSurrogate", desc := "(I)C" } : Jvm.MethodName)) ∈ lw_all := lw_g (lw_at lw_m2 197 rfl) rfl
theorem q545 : (Jvm.Cond.code ({ cls := "java/lang/Character", name := "highSurrogate", desc := "(I)C" } : Jvm.MethodName) prog_17_method_28_code (1 : Nat) (Option.some Jvm.ClassFile.FieldType.char)) ∈ lw_all := lw_g (lw_at lw_m2 198 rfl) rfl
theorem q546 : (Jvm.Cond.constant "java/lang/Character" (110 : Nat) (55232 : Int32)) ∈ lw_all := lw_g (lw_at lw_m2 199 rfl) rfl
theorem q548 : (Jvm.Cond.static ({ cls := "java/lang/Character", name := "lowSurrogate", desc := "(I)C" } : Jvm.MethodName)) ∈ lw_all := lw_g (lw_at lw_m2 201 rfl) rfl
theorem q549 : (Jvm.Cond.code ({ cls := "java/lang/Character", name := "lowSurrogate", desc := "(I)C" } : Jvm.MethodName) prog_17_method_29_code (1 : Nat) (Option.some Jvm.ClassFile.FieldType.char)) ∈ lw_all := lw_g (lw_at lw_m2 202 rfl) rfl
theorem q550 : (Jvm.Cond.constant "java/lang/Character" (76 : Nat) (56320 : Int32)) ∈ lw_all := lw_g (lw_at lw_m2 203 rfl) rfl
theorem q125 : (Jvm.Cond.initialized "java/lang/Throwable") ∈ lw_all := lw_g (lw_at lw_m1 18 rfl) rfl
theorem q595 : (Jvm.Cond.declares ({ cls := "java/lang/Throwable", name := "<init>", desc := "()V" } : Jvm.MethodName)) ∈ lw_tbl := lw_at lw_m3 8 rfl
theorem q596 : (Jvm.Cond.declares ({ cls := "java/lang/Throwable", name := "<init>", desc := "(Ljava/lang/String;)V" } : Jvm.MethodName)) ∈ lw_tbl := lw_at lw_m3 9 rfl
theorem q600 : (Jvm.Cond.lays "java/lang/Throwable" "java/lang/Throwable" "cause" "Ljava/lang/Throwable;") ∈ lw_all := lw_g (lw_at lw_m3 13 rfl) rfl
theorem q602 : (Jvm.Cond.lays "java/lang/Throwable" "java/lang/Throwable" "stackTrace" "[Ljava/lang/StackTraceElement;") ∈ lw_all := lw_g (lw_at lw_m3 15 rfl) rfl
theorem q604 : (Jvm.Cond.lays "java/lang/Throwable" "java/lang/Throwable" "suppressedExceptions" "Ljava/util/List;") ∈ lw_all := lw_g (lw_at lw_m3 17 rfl) rfl
theorem q606 : (Jvm.Cond.lays "java/lang/Throwable" "java/lang/Throwable" "detailMessage" "Ljava/lang/String;") ∈ lw_all := lw_g (lw_at lw_m3 19 rfl) rfl
theorem q608 : (Jvm.Cond.lays "java/lang/Throwable" "java/lang/Throwable" "backtrace" "Ljava/lang/Object;") ∈ lw_all := lw_g (lw_at lw_m3 21 rfl) rfl
theorem q609 : (Jvm.Cond.fieldLink "java/lang/Throwable" (198 : Nat) "java/lang/Throwable" "backtrace" "Ljava/lang/Object;") ∈ lw_all := lw_g (lw_at lw_m3 22 rfl) rfl
theorem q610 : (Jvm.Cond.superclass "java/lang/Throwable" "java/lang/Object") ∈ lw_all := lw_g (lw_at lw_m3 23 rfl) rfl
theorem q611 : (Jvm.Cond.instanceMethod ({ cls := "java/lang/Throwable", name := "<init>", desc := "()V" } : Jvm.MethodName)) ∈ lw_all := lw_g (lw_at lw_m3 24 rfl) rfl
theorem q612 : (Jvm.Cond.code ({ cls := "java/lang/Throwable", name := "<init>", desc := "()V" } : Jvm.MethodName) prog_31_method_1_code (1 : Nat) (Option.none : Option Jvm.ClassFile.FieldType)) ∈ lw_all := lw_g (lw_at lw_m3 25 rfl) rfl
theorem q613 : (Jvm.Cond.methodLink "java/lang/Throwable" (1 : Nat) ({ cls := "java/lang/Object", name := "<init>", desc := "()V" } : Jvm.MethodName)) ∈ lw_all := lw_g (lw_at lw_m3 26 rfl) rfl
theorem q614 : (Jvm.Cond.fieldLink "java/lang/Throwable" (13 : Nat) "java/lang/Throwable" "UNASSIGNED_STACK" "[Ljava/lang/StackTraceElement;") ∈ lw_all := lw_g (lw_at lw_m3 27 rfl) rfl
theorem q615 : (Jvm.Cond.laysStatic "java/lang/Throwable" "UNASSIGNED_STACK" "[Ljava/lang/StackTraceElement;") ∈ lw_tbl := lw_at lw_m3 28 rfl
theorem q616 : (Jvm.Cond.fieldLink "java/lang/Throwable" (20 : Nat) "java/lang/Throwable" "SUPPRESSED_SENTINEL" "Ljava/util/List;") ∈ lw_all := lw_g (lw_at lw_m3 29 rfl) rfl
theorem q617 : (Jvm.Cond.laysStatic "java/lang/Throwable" "SUPPRESSED_SENTINEL" "Ljava/util/List;") ∈ lw_tbl := lw_at lw_m3 30 rfl
theorem q618 : (Jvm.Cond.methodLink "java/lang/Throwable" (27 : Nat) ({ cls := "java/lang/Throwable", name := "fillInStackTrace", desc := "()Ljava/lang/Throwable;" } : Jvm.MethodName)) ∈ lw_all := lw_g (lw_at lw_m3 31 rfl) rfl
theorem q619 : (Jvm.Cond.instanceMethod ({ cls := "java/lang/Throwable", name := "fillInStackTrace", desc := "()Ljava/lang/Throwable;" } : Jvm.MethodName)) ∈ lw_all := lw_g (lw_at lw_m3 32 rfl) rfl
theorem q620 : (Jvm.Cond.sameMethod "java/lang/Throwable" "java/lang/Throwable" "fillInStackTrace" "()Ljava/lang/Throwable;") ∈ lw_all := lw_g (lw_at lw_m3 33 rfl) rfl
theorem q622 : (Jvm.Cond.codeSync ({ cls := "java/lang/Throwable", name := "fillInStackTrace", desc := "()Ljava/lang/Throwable;" } : Jvm.MethodName) prog_31_method_18_code (1 : Nat) (Option.some (Jvm.ClassFile.FieldType.object "java/lang/Throwable"))) ∈ lw_all := lw_g (lw_at lw_m3 35 rfl) rfl
theorem q623 : (Jvm.Cond.methodLink "java/lang/Throwable" (202 : Nat) ({ cls := "java/lang/Throwable", name := "fillInStackTrace", desc := "(I)Ljava/lang/Throwable;" } : Jvm.MethodName)) ∈ lw_all := lw_g (lw_at lw_m3 36 rfl) rfl
theorem q624 : (Jvm.Cond.privateMethod ({ cls := "java/lang/Throwable", name := "fillInStackTrace", desc := "(I)Ljava/lang/Throwable;" } : Jvm.MethodName)) ∈ lw_tbl := lw_at lw_m3 37 rfl
theorem q625 : (Jvm.Cond.instanceMethod ({ cls := "java/lang/Throwable", name := "fillInStackTrace", desc := "(I)Ljava/lang/Throwable;" } : Jvm.MethodName)) ∈ lw_all := lw_g (lw_at lw_m3 38 rfl) rfl
theorem q626 : (Jvm.Cond.instantiable "java/lang/Throwable" (6 : Nat)) ∈ lw_all := lw_g (lw_at lw_m3 39 rfl) rfl
theorem q627 : (Jvm.Cond.native ({ cls := "java/lang/Throwable", name := "fillInStackTrace", desc := "(I)Ljava/lang/Throwable;" } : Jvm.MethodName)) ∈ lw_all := lw_g (lw_at lw_m3 40 rfl) rfl
theorem q635 : (Jvm.Cond.instanceMethod ({ cls := "java/lang/Throwable", name := "<init>", desc := "(Ljava/lang/String;Ljava/lang/Throwable;ZZ)V" } : Jvm.MethodName)) ∈ lw_all := lw_g (lw_at lw_m3 48 rfl) rfl
theorem q636 : (Jvm.Cond.code ({ cls := "java/lang/Throwable", name := "<init>", desc := "(Ljava/lang/String;Ljava/lang/Throwable;ZZ)V" } : Jvm.MethodName) prog_31_method_5_code (5 : Nat) (Option.none : Option Jvm.ClassFile.FieldType)) ∈ lw_all := lw_g (lw_at lw_m3 49 rfl) rfl
theorem q641 : (Jvm.Cond.fieldLink "java/lang/Throwable" (198 : Nat) "java/lang/Throwable" "backtrace" "Ljava/lang/Object;") ∈ lw_all := lw_g (lw_at lw_m3 54 rfl) rfl
theorem q642 : (Jvm.Cond.fieldLink "java/lang/Throwable" (31 : Nat) "java/lang/Throwable" "detailMessage" "Ljava/lang/String;") ∈ lw_all := lw_g (lw_at lw_m3 55 rfl) rfl
theorem q643 : (Jvm.Cond.fieldLink "java/lang/Throwable" (7 : Nat) "java/lang/Throwable" "cause" "Ljava/lang/Throwable;") ∈ lw_all := lw_g (lw_at lw_m3 56 rfl) rfl
theorem q644 : (Jvm.Cond.fieldLink "java/lang/Throwable" (17 : Nat) "java/lang/Throwable" "stackTrace" "[Ljava/lang/StackTraceElement;") ∈ lw_all := lw_g (lw_at lw_m3 57 rfl) rfl
theorem q645 : (Jvm.Cond.fieldLink "java/lang/Throwable" (24 : Nat) "java/lang/Throwable" "suppressedExceptions" "Ljava/util/List;") ∈ lw_all := lw_g (lw_at lw_m3 58 rfl) rfl
theorem q650 : (Jvm.Cond.soleField "java/lang/Throwable" "backtrace") ∈ lw_all := lw_g (lw_at lw_m3 63 rfl) rfl
theorem q651 : (Jvm.Cond.soleField "java/lang/Throwable" "detailMessage") ∈ lw_all := lw_g (lw_at lw_m3 64 rfl) rfl
theorem q652 : (Jvm.Cond.soleField "java/lang/Throwable" "cause") ∈ lw_all := lw_g (lw_at lw_m3 65 rfl) rfl
theorem q653 : (Jvm.Cond.soleField "java/lang/Throwable" "stackTrace") ∈ lw_all := lw_g (lw_at lw_m3 66 rfl) rfl
theorem q655 : (Jvm.Cond.soleField "java/lang/Throwable" "depth") ∈ lw_all := lw_g (lw_at lw_m3 68 rfl) rfl
theorem q656 : (Jvm.Cond.soleField "java/lang/Throwable" "suppressedExceptions") ∈ lw_all := lw_g (lw_at lw_m3 69 rfl) rfl
theorem q1962 : (Jvm.Cond.sameMethod "java/lang/Throwable" "java/lang/Throwable" "fillInStackTrace" "(I)Ljava/lang/Throwable;") ∈ lw_all := lw_g (lw_at lw_m8 175 rfl) rfl
theorem q2004 : (Jvm.Cond.castable "java/lang/Throwable" "java/lang/Object") ∈ lw_tbl := lw_at lw_m8 217 rfl
theorem q107 : (Jvm.Cond.initialized "ReasonCloserLaw") ∈ lw_all := lw_g (lw_at lw_m1 0 rfl) rfl
theorem q141 : (Jvm.Cond.classLink "ReasonCloserLaw" (8 : Nat) "ReasonCloser") ∈ lw_all := lw_g (lw_at lw_m1 34 rfl) rfl
theorem q143 : (Jvm.Cond.methodLink "ReasonCloserLaw" (15 : Nat) ({ cls := "ReasonCloser", name := "<init>", desc := "()V" } : Jvm.MethodName)) ∈ lw_all := lw_g (lw_at lw_m1 36 rfl) rfl
theorem q390 : (Jvm.Cond.methodLink "ReasonCloserLaw" (19 : Nat) ({ cls := "ReasonCloser", name := "feed", desc := "(IIIII)I" } : Jvm.MethodName)) ∈ lw_all := lw_g (lw_at lw_m2 43 rfl) rfl
theorem q398 : (Jvm.Cond.methodLink "ReasonCloserLaw" (24 : Nat) ({ cls := "ReasonCloser", name := "text", desc := "(I)I" } : Jvm.MethodName)) ∈ lw_all := lw_g (lw_at lw_m2 51 rfl) rfl
theorem q1036 : (Jvm.Cond.methodLink "ReasonCloserLaw" (28 : Nat) ({ cls := "ReasonCloser", name := "fault", desc := "()I" } : Jvm.MethodName)) ∈ lw_all := lw_g (lw_at lw_m4 209 rfl) rfl
theorem q1040 : (Jvm.Cond.methodLink "ReasonCloserLaw" (33 : Nat) ({ cls := "ReasonCloser", name := "where", desc := "()I" } : Jvm.MethodName)) ∈ lw_all := lw_g (lw_at lw_m4 213 rfl) rfl
theorem q1044 : (Jvm.Cond.methodLink "ReasonCloserLaw" (37 : Nat) ({ cls := "ReasonCloser", name := "about", desc := "(I)I" } : Jvm.MethodName)) ∈ lw_all := lw_g (lw_at lw_m4 217 rfl) rfl
theorem q1067 : (Jvm.Cond.methodLink "ReasonCloserLaw" (41 : Nat) ({ cls := "ReasonCloser", name := "function", desc := "(II)I" } : Jvm.MethodName)) ∈ lw_all := lw_g (lw_at lw_m5 0 rfl) rfl
theorem q1077 : (Jvm.Cond.methodLink "ReasonCloserLaw" (46 : Nat) ({ cls := "ReasonCloser", name := "term", desc := "(II)I" } : Jvm.MethodName)) ∈ lw_all := lw_g (lw_at lw_m5 10 rfl) rfl
theorem q1101 : (Jvm.Cond.methodLink "ReasonCloserLaw" (50 : Nat) ({ cls := "ReasonCloser", name := "partOf", desc := "(II)I" } : Jvm.MethodName)) ∈ lw_all := lw_g (lw_at lw_m5 34 rfl) rfl
theorem q1105 : (Jvm.Cond.methodLink "ReasonCloserLaw" (54 : Nat) ({ cls := "ReasonCloser", name := "sameOf", desc := "(II)I" } : Jvm.MethodName)) ∈ lw_all := lw_g (lw_at lw_m5 38 rfl) rfl
theorem q1129 : (Jvm.Cond.methodLink "ReasonCloserLaw" (58 : Nat) ({ cls := "ReasonCloser", name := "diffOf", desc := "(II)I" } : Jvm.MethodName)) ∈ lw_all := lw_g (lw_at lw_m5 62 rfl) rfl
theorem q1133 : (Jvm.Cond.methodLink "ReasonCloserLaw" (62 : Nat) ({ cls := "ReasonCloser", name := "joinOf", desc := "(II)I" } : Jvm.MethodName)) ∈ lw_all := lw_g (lw_at lw_m5 66 rfl) rfl
theorem q1137 : (Jvm.Cond.methodLink "ReasonCloserLaw" (66 : Nat) ({ cls := "ReasonCloser", name := "height", desc := "(I)I" } : Jvm.MethodName)) ∈ lw_all := lw_g (lw_at lw_m5 70 rfl) rfl
theorem q1141 : (Jvm.Cond.methodLink "ReasonCloserLaw" (70 : Nat) ({ cls := "ReasonCloser", name := "hung", desc := "(II)I" } : Jvm.MethodName)) ∈ lw_all := lw_g (lw_at lw_m5 74 rfl) rfl
theorem q1145 : (Jvm.Cond.methodLink "ReasonCloserLaw" (74 : Nat) ({ cls := "ReasonCloser", name := "equal", desc := "(II)I" } : Jvm.MethodName)) ∈ lw_all := lw_g (lw_at lw_m5 78 rfl) rfl
theorem q1149 : (Jvm.Cond.methodLink "ReasonCloserLaw" (78 : Nat) ({ cls := "ReasonCloser", name := "apart", desc := "(II)I" } : Jvm.MethodName)) ∈ lw_all := lw_g (lw_at lw_m5 82 rfl) rfl
theorem q1153 : (Jvm.Cond.methodLink "ReasonCloserLaw" (82 : Nat) ({ cls := "ReasonCloser", name := "reasons", desc := "(II)I" } : Jvm.MethodName)) ∈ lw_all := lw_g (lw_at lw_m5 86 rfl) rfl
theorem q1180 : (Jvm.Cond.methodLink "ReasonCloserLaw" (86 : Nat) ({ cls := "ReasonCloser", name := "pruned", desc := "(II)I" } : Jvm.MethodName)) ∈ lw_all := lw_g (lw_at lw_m5 113 rfl) rfl
theorem q1184 : (Jvm.Cond.methodLink "ReasonCloserLaw" (90 : Nat) ({ cls := "ReasonCloser", name := "fewest", desc := "(II)I" } : Jvm.MethodName)) ∈ lw_all := lw_g (lw_at lw_m5 117 rfl) rfl
theorem q1204 : (Jvm.Cond.methodLink "ReasonCloserLaw" (94 : Nat) ({ cls := "ReasonCloser", name := "proves", desc := "(III)I" } : Jvm.MethodName)) ∈ lw_all := lw_g (lw_at lw_m5 137 rfl) rfl
theorem q1208 : (Jvm.Cond.methodLink "ReasonCloserLaw" (99 : Nat) ({ cls := "ReasonCloser", name := "since", desc := "(II)I" } : Jvm.MethodName)) ∈ lw_all := lw_g (lw_at lw_m5 141 rfl) rfl
theorem q1212 : (Jvm.Cond.methodLink "ReasonCloserLaw" (103 : Nat) ({ cls := "ReasonCloser", name := "needed", desc := "(II)I" } : Jvm.MethodName)) ∈ lw_all := lw_g (lw_at lw_m5 145 rfl) rfl
theorem q1216 : (Jvm.Cond.methodLink "ReasonCloserLaw" (107 : Nat) ({ cls := "ReasonCloser", name := "many", desc := "(II)I" } : Jvm.MethodName)) ∈ lw_all := lw_g (lw_at lw_m5 149 rfl) rfl
theorem q1224 : (Jvm.Cond.methodLink "ReasonCloserLaw" (111 : Nat) ({ cls := "ReasonCloser", name := "base", desc := "()I" } : Jvm.MethodName)) ∈ lw_all := lw_g (lw_at lw_m5 157 rfl) rfl
theorem q1228 : (Jvm.Cond.methodLink "ReasonCloserLaw" (127 : Nat) ({ cls := "ReasonCloser", name := "core", desc := "()I" } : Jvm.MethodName)) ∈ lw_all := lw_g (lw_at lw_m5 161 rfl) rfl
theorem q1235 : (Jvm.Cond.methodLink "ReasonCloserLaw" (115 : Nat) ({ cls := "ReasonCloser", name := "level", desc := "(II)I" } : Jvm.MethodName)) ∈ lw_all := lw_g (lw_at lw_m5 168 rfl) rfl
theorem q1249 : (Jvm.Cond.methodLink "ReasonCloserLaw" (119 : Nat) ({ cls := "ReasonCloser", name := "cost", desc := "(II)I" } : Jvm.MethodName)) ∈ lw_all := lw_g (lw_at lw_m5 182 rfl) rfl
theorem q1277 : (Jvm.Cond.methodLink "ReasonCloserLaw" (123 : Nat) ({ cls := "ReasonCloser", name := "way", desc := "(III)I" } : Jvm.MethodName)) ∈ lw_all := lw_g (lw_at lw_m5 210 rfl) rfl
theorem q1291 : (Jvm.Cond.methodLink "ReasonCloserLaw" (131 : Nat) ({ cls := "ReasonCloser", name := "would", desc := "(III)I" } : Jvm.MethodName)) ∈ lw_all := lw_g (lw_at lw_m5 224 rfl) rfl
theorem q1303 : (Jvm.Cond.methodLink "ReasonCloserLaw" (135 : Nat) ({ cls := "ReasonCloser", name := "next", desc := "(IIII)I" } : Jvm.MethodName)) ∈ lw_all := lw_g (lw_at lw_m5 236 rfl) rfl
theorem q1328 : (Jvm.Cond.methodLink "ReasonCloserLaw" (140 : Nat) ({ cls := "ReasonCloser", name := "without", desc := "(II)I" } : Jvm.MethodName)) ∈ lw_all := lw_g (lw_at lw_m6 21 rfl) rfl
theorem q1332 : (Jvm.Cond.methodLink "ReasonCloserLaw" (144 : Nat) ({ cls := "ReasonCloser", name := "free", desc := "()I" } : Jvm.MethodName)) ∈ lw_all := lw_g (lw_at lw_m6 25 rfl) rfl
theorem q1336 : (Jvm.Cond.methodLink "ReasonCloserLaw" (148 : Nat) ({ cls := "ReasonCloser", name := "join", desc := "(II)I" } : Jvm.MethodName)) ∈ lw_all := lw_g (lw_at lw_m6 29 rfl) rfl
theorem q1347 : (Jvm.Cond.methodLink "ReasonCloserLaw" (152 : Nat) ({ cls := "ReasonCloser", name := "part", desc := "(II)I" } : Jvm.MethodName)) ∈ lw_all := lw_g (lw_at lw_m6 40 rfl) rfl
theorem q1351 : (Jvm.Cond.methodLink "ReasonCloserLaw" (156 : Nat) ({ cls := "ReasonCloser", name := "make", desc := "(IIII)I" } : Jvm.MethodName)) ∈ lw_all := lw_g (lw_at lw_m6 44 rfl) rfl
theorem q1363 : (Jvm.Cond.methodLink "ReasonCloserLaw" (160 : Nat) ({ cls := "ReasonCloser", name := "undo", desc := "()Z" } : Jvm.MethodName)) ∈ lw_all := lw_g (lw_at lw_m6 56 rfl) rfl
theorem q1381 : (Jvm.Cond.methodLink "ReasonCloserLaw" (174 : Nat) ({ cls := "ReasonCloser", name := "size", desc := "()I" } : Jvm.MethodName)) ∈ lw_all := lw_g (lw_at lw_m6 74 rfl) rfl
theorem q1385 : (Jvm.Cond.methodLink "ReasonCloserLaw" (178 : Nat) ({ cls := "ReasonCloser", name := "trouble", desc := "()I" } : Jvm.MethodName)) ∈ lw_all := lw_g (lw_at lw_m6 78 rfl) rfl
theorem q1389 : (Jvm.Cond.methodLink "ReasonCloserLaw" (165 : Nat) ({ cls := "ReasonCloserLaw", name := "named", desc := "(LReasonCloser;I[J)I" } : Jvm.MethodName)) ∈ lw_all := lw_g (lw_at lw_m6 82 rfl) rfl
theorem q1390 : (Jvm.Cond.static ({ cls := "ReasonCloserLaw", name := "named", desc := "(LReasonCloser;I[J)I" } : Jvm.MethodName)) ∈ lw_all := lw_g (lw_at lw_m6 83 rfl) rfl
theorem q1391 : (Jvm.Cond.codeWith ({ cls := "ReasonCloserLaw", name := "named", desc := "(LReasonCloser;I[J)I" } : Jvm.MethodName) method_3_code (4 : Nat) (Option.some Jvm.ClassFile.FieldType.int) [((0 : Nat), (9 : Nat), (12 : Nat), (13 : Nat))]) ∈ lw_all := lw_g (lw_at lw_m6 84 rfl) rfl
theorem q1392 : (Jvm.Cond.classLink "ReasonCloserLaw" (13 : Nat) "java/util/NoSuchElementException") ∈ lw_all := lw_g (lw_at lw_m6 85 rfl) rfl
theorem q1393 : (Jvm.Cond.methodLink "ReasonCloserLaw" (7 : Nat) ({ cls := "ReasonCloser", name := "named", desc := "(I)I" } : Jvm.MethodName)) ∈ lw_all := lw_g (lw_at lw_m6 86 rfl) rfl
theorem q1400 : (Jvm.Cond.classLink "ReasonCloserLaw" (16 : Nat) "ReasonCloserModel") ∈ lw_all := lw_g (lw_at lw_m6 93 rfl) rfl
theorem q1402 : (Jvm.Cond.methodLink "ReasonCloserLaw" (18 : Nat) ({ cls := "ReasonCloserModel", name := "<init>", desc := "()V" } : Jvm.MethodName)) ∈ lw_all := lw_g (lw_at lw_m6 95 rfl) rfl
theorem q1575 : (Jvm.Cond.methodLink "ReasonCloserLaw" (171 : Nat) ({ cls := "ReasonCloserModel", name := "thrown", desc := "()I" } : Jvm.MethodName)) ∈ lw_all := lw_g (lw_at lw_m7 28 rfl) rfl
theorem q1579 : (Jvm.Cond.methodLink "ReasonCloserLaw" (23 : Nat) ({ cls := "ReasonCloserModel", name := "feed", desc := "(IIIII)I" } : Jvm.MethodName)) ∈ lw_all := lw_g (lw_at lw_m7 32 rfl) rfl
theorem q1587 : (Jvm.Cond.methodLink "ReasonCloserLaw" (27 : Nat) ({ cls := "ReasonCloserModel", name := "text", desc := "(I)I" } : Jvm.MethodName)) ∈ lw_all := lw_g (lw_at lw_m7 40 rfl) rfl
theorem q1720 : (Jvm.Cond.methodLink "ReasonCloserLaw" (32 : Nat) ({ cls := "ReasonCloserModel", name := "fault", desc := "()I" } : Jvm.MethodName)) ∈ lw_all := lw_g (lw_at lw_m7 173 rfl) rfl
theorem q1724 : (Jvm.Cond.methodLink "ReasonCloserLaw" (36 : Nat) ({ cls := "ReasonCloserModel", name := "where", desc := "()I" } : Jvm.MethodName)) ∈ lw_all := lw_g (lw_at lw_m7 177 rfl) rfl
theorem q1728 : (Jvm.Cond.methodLink "ReasonCloserLaw" (40 : Nat) ({ cls := "ReasonCloserModel", name := "about", desc := "(I)I" } : Jvm.MethodName)) ∈ lw_all := lw_g (lw_at lw_m7 181 rfl) rfl
theorem q1743 : (Jvm.Cond.methodLink "ReasonCloserLaw" (45 : Nat) ({ cls := "ReasonCloserModel", name := "function", desc := "(II)I" } : Jvm.MethodName)) ∈ lw_all := lw_g (lw_at lw_m7 196 rfl) rfl
theorem q1747 : (Jvm.Cond.methodLink "ReasonCloserLaw" (49 : Nat) ({ cls := "ReasonCloserModel", name := "term", desc := "(II)I" } : Jvm.MethodName)) ∈ lw_all := lw_g (lw_at lw_m7 200 rfl) rfl
theorem q1767 : (Jvm.Cond.methodLink "ReasonCloserLaw" (69 : Nat) ({ cls := "ReasonCloserModel", name := "height", desc := "(I)I" } : Jvm.MethodName)) ∈ lw_all := lw_g (lw_at lw_m7 220 rfl) rfl
theorem q1771 : (Jvm.Cond.methodLink "ReasonCloserLaw" (73 : Nat) ({ cls := "ReasonCloserModel", name := "hung", desc := "(II)I" } : Jvm.MethodName)) ∈ lw_all := lw_g (lw_at lw_m7 224 rfl) rfl
theorem q1775 : (Jvm.Cond.methodLink "ReasonCloserLaw" (53 : Nat) ({ cls := "ReasonCloserModel", name := "partOf", desc := "(II)I" } : Jvm.MethodName)) ∈ lw_all := lw_g (lw_at lw_m7 228 rfl) rfl
theorem q1779 : (Jvm.Cond.methodLink "ReasonCloserLaw" (57 : Nat) ({ cls := "ReasonCloserModel", name := "sameOf", desc := "(II)I" } : Jvm.MethodName)) ∈ lw_all := lw_g (lw_at lw_m7 232 rfl) rfl
theorem q1795 : (Jvm.Cond.methodLink "ReasonCloserLaw" (61 : Nat) ({ cls := "ReasonCloserModel", name := "diffOf", desc := "(II)I" } : Jvm.MethodName)) ∈ lw_all := lw_g (lw_at lw_m8 8 rfl) rfl
theorem q1799 : (Jvm.Cond.methodLink "ReasonCloserLaw" (65 : Nat) ({ cls := "ReasonCloserModel", name := "joinOf", desc := "(II)I" } : Jvm.MethodName)) ∈ lw_all := lw_g (lw_at lw_m8 12 rfl) rfl
theorem q1803 : (Jvm.Cond.methodLink "ReasonCloserLaw" (77 : Nat) ({ cls := "ReasonCloserModel", name := "equal", desc := "(II)I" } : Jvm.MethodName)) ∈ lw_all := lw_g (lw_at lw_m8 16 rfl) rfl
theorem q1807 : (Jvm.Cond.methodLink "ReasonCloserLaw" (81 : Nat) ({ cls := "ReasonCloserModel", name := "apart", desc := "(II)I" } : Jvm.MethodName)) ∈ lw_all := lw_g (lw_at lw_m8 20 rfl) rfl
theorem q1811 : (Jvm.Cond.methodLink "ReasonCloserLaw" (85 : Nat) ({ cls := "ReasonCloserModel", name := "reasons", desc := "(II)I" } : Jvm.MethodName)) ∈ lw_all := lw_g (lw_at lw_m8 24 rfl) rfl
theorem q1819 : (Jvm.Cond.methodLink "ReasonCloserLaw" (89 : Nat) ({ cls := "ReasonCloserModel", name := "pruned", desc := "(II)I" } : Jvm.MethodName)) ∈ lw_all := lw_g (lw_at lw_m8 32 rfl) rfl
theorem q1823 : (Jvm.Cond.methodLink "ReasonCloserLaw" (93 : Nat) ({ cls := "ReasonCloserModel", name := "fewest", desc := "(II)I" } : Jvm.MethodName)) ∈ lw_all := lw_g (lw_at lw_m8 36 rfl) rfl
theorem q1830 : (Jvm.Cond.methodLink "ReasonCloserLaw" (106 : Nat) ({ cls := "ReasonCloserModel", name := "needed", desc := "(II)I" } : Jvm.MethodName)) ∈ lw_all := lw_g (lw_at lw_m8 43 rfl) rfl
theorem q1834 : (Jvm.Cond.methodLink "ReasonCloserLaw" (110 : Nat) ({ cls := "ReasonCloserModel", name := "many", desc := "(II)I" } : Jvm.MethodName)) ∈ lw_all := lw_g (lw_at lw_m8 47 rfl) rfl
theorem q1838 : (Jvm.Cond.methodLink "ReasonCloserLaw" (114 : Nat) ({ cls := "ReasonCloserModel", name := "base", desc := "()I" } : Jvm.MethodName)) ∈ lw_all := lw_g (lw_at lw_m8 51 rfl) rfl
theorem q1842 : (Jvm.Cond.methodLink "ReasonCloserLaw" (98 : Nat) ({ cls := "ReasonCloserModel", name := "proves", desc := "(III)I" } : Jvm.MethodName)) ∈ lw_all := lw_g (lw_at lw_m8 55 rfl) rfl
theorem q1846 : (Jvm.Cond.methodLink "ReasonCloserLaw" (102 : Nat) ({ cls := "ReasonCloserModel", name := "since", desc := "(II)I" } : Jvm.MethodName)) ∈ lw_all := lw_g (lw_at lw_m8 59 rfl) rfl
theorem q1850 : (Jvm.Cond.methodLink "ReasonCloserLaw" (118 : Nat) ({ cls := "ReasonCloserModel", name := "level", desc := "(II)I" } : Jvm.MethodName)) ∈ lw_all := lw_g (lw_at lw_m8 63 rfl) rfl
theorem q1854 : (Jvm.Cond.methodLink "ReasonCloserLaw" (122 : Nat) ({ cls := "ReasonCloserModel", name := "cost", desc := "(II)I" } : Jvm.MethodName)) ∈ lw_all := lw_g (lw_at lw_m8 67 rfl) rfl
theorem q1878 : (Jvm.Cond.methodLink "ReasonCloserLaw" (126 : Nat) ({ cls := "ReasonCloserModel", name := "way", desc := "(III)I" } : Jvm.MethodName)) ∈ lw_all := lw_g (lw_at lw_m8 91 rfl) rfl
theorem q1890 : (Jvm.Cond.methodLink "ReasonCloserLaw" (130 : Nat) ({ cls := "ReasonCloserModel", name := "core", desc := "()I" } : Jvm.MethodName)) ∈ lw_all := lw_g (lw_at lw_m8 103 rfl) rfl
theorem q1894 : (Jvm.Cond.methodLink "ReasonCloserLaw" (134 : Nat) ({ cls := "ReasonCloserModel", name := "would", desc := "(III)I" } : Jvm.MethodName)) ∈ lw_all := lw_g (lw_at lw_m8 107 rfl) rfl
theorem q1902 : (Jvm.Cond.methodLink "ReasonCloserLaw" (139 : Nat) ({ cls := "ReasonCloserModel", name := "next", desc := "(IIII)I" } : Jvm.MethodName)) ∈ lw_all := lw_g (lw_at lw_m8 115 rfl) rfl
theorem q1918 : (Jvm.Cond.methodLink "ReasonCloserLaw" (143 : Nat) ({ cls := "ReasonCloserModel", name := "without", desc := "(II)I" } : Jvm.MethodName)) ∈ lw_all := lw_g (lw_at lw_m8 131 rfl) rfl
theorem q1922 : (Jvm.Cond.methodLink "ReasonCloserLaw" (147 : Nat) ({ cls := "ReasonCloserModel", name := "free", desc := "()I" } : Jvm.MethodName)) ∈ lw_all := lw_g (lw_at lw_m8 135 rfl) rfl
theorem q1926 : (Jvm.Cond.methodLink "ReasonCloserLaw" (151 : Nat) ({ cls := "ReasonCloserModel", name := "join", desc := "(II)I" } : Jvm.MethodName)) ∈ lw_all := lw_g (lw_at lw_m8 139 rfl) rfl
theorem q1938 : (Jvm.Cond.methodLink "ReasonCloserLaw" (155 : Nat) ({ cls := "ReasonCloserModel", name := "part", desc := "(II)I" } : Jvm.MethodName)) ∈ lw_all := lw_g (lw_at lw_m8 151 rfl) rfl
theorem q1942 : (Jvm.Cond.methodLink "ReasonCloserLaw" (159 : Nat) ({ cls := "ReasonCloserModel", name := "make", desc := "(IIII)I" } : Jvm.MethodName)) ∈ lw_all := lw_g (lw_at lw_m8 155 rfl) rfl
theorem q1946 : (Jvm.Cond.methodLink "ReasonCloserLaw" (164 : Nat) ({ cls := "ReasonCloserModel", name := "undo", desc := "()Z" } : Jvm.MethodName)) ∈ lw_all := lw_g (lw_at lw_m8 159 rfl) rfl
theorem q1950 : (Jvm.Cond.methodLink "ReasonCloserLaw" (170 : Nat) ({ cls := "ReasonCloserModel", name := "named", desc := "(I)I" } : Jvm.MethodName)) ∈ lw_all := lw_g (lw_at lw_m8 163 rfl) rfl
theorem q1954 : (Jvm.Cond.methodLink "ReasonCloserLaw" (177 : Nat) ({ cls := "ReasonCloserModel", name := "size", desc := "()I" } : Jvm.MethodName)) ∈ lw_all := lw_g (lw_at lw_m8 167 rfl) rfl
theorem q1958 : (Jvm.Cond.methodLink "ReasonCloserLaw" (181 : Nat) ({ cls := "ReasonCloserModel", name := "trouble", desc := "()I" } : Jvm.MethodName)) ∈ lw_all := lw_g (lw_at lw_m8 171 rfl) rfl
theorem q108 : (Jvm.Cond.initialized "ReasonCloser") ∈ lw_all := lw_g (lw_at lw_m1 1 rfl) rfl
theorem q142 : (Jvm.Cond.instantiable "ReasonCloser" (20 : Nat)) ∈ lw_all := lw_g (lw_at lw_m1 35 rfl) rfl
theorem q144 : (Jvm.Cond.instanceMethod ({ cls := "ReasonCloser", name := "<init>", desc := "()V" } : Jvm.MethodName)) ∈ lw_all := lw_g (lw_at lw_m1 37 rfl) rfl
theorem q145 : (Jvm.Cond.code ({ cls := "ReasonCloser", name := "<init>", desc := "()V" } : Jvm.MethodName) prog_1_method_5_code (1 : Nat) (Option.none : Option Jvm.ClassFile.FieldType)) ∈ lw_all := lw_g (lw_at lw_m1 38 rfl) rfl
theorem q146 : (Jvm.Cond.methodLink "ReasonCloser" (10 : Nat) ({ cls := "java/lang/Object", name := "<init>", desc := "()V" } : Jvm.MethodName)) ∈ lw_all := lw_g (lw_at lw_m1 39 rfl) rfl
theorem q149 : (Jvm.Cond.classLink "ReasonCloser" (20 : Nat) "ReasonCloser$Book") ∈ lw_all := lw_g (lw_at lw_m1 42 rfl) rfl
theorem q151 : (Jvm.Cond.methodLinkNest "ReasonCloser" (22 : Nat) ({ cls := "ReasonCloser$Book", name := "<init>", desc := "()V" } : Jvm.MethodName) "ReasonCloser") ∈ lw_tbl := lw_at lw_m1 44 rfl
theorem q188 : (Jvm.Cond.fieldLinkNest "ReasonCloser" (188 : Nat) "ReasonCloser$Book" "functions" "Ljava/util/List;" "ReasonCloser") ∈ lw_tbl := lw_at lw_m1 81 rfl
theorem q191 : (Jvm.Cond.fieldLinkNest "ReasonCloser" (29 : Nat) "ReasonCloser$Book" "terms" "Ljava/util/List;" "ReasonCloser") ∈ lw_tbl := lw_at lw_m1 84 rfl
theorem q194 : (Jvm.Cond.fieldLinkNest "ReasonCloser" (150 : Nat) "ReasonCloser$Book" "sames" "Ljava/util/List;" "ReasonCloser") ∈ lw_tbl := lw_at lw_m1 87 rfl
theorem q197 : (Jvm.Cond.fieldLinkNest "ReasonCloser" (181 : Nat) "ReasonCloser$Book" "diffs" "Ljava/util/List;" "ReasonCloser") ∈ lw_tbl := lw_at lw_m1 90 rfl
theorem q200 : (Jvm.Cond.fieldLinkNest "ReasonCloser" (122 : Nat) "ReasonCloser$Book" "order" "Ljava/util/List;" "ReasonCloser") ∈ lw_tbl := lw_at lw_m1 93 rfl
theorem q213 : (Jvm.Cond.classLink "ReasonCloser" (27 : Nat) "ReasonCloser$Reasons") ∈ lw_all := lw_g (lw_at lw_m1 106 rfl) rfl
theorem q215 : (Jvm.Cond.methodLink "ReasonCloser" (33 : Nat) ({ cls := "ReasonCloser$Reasons", name := "<init>", desc := "(Ljava/util/List;)V" } : Jvm.MethodName)) ∈ lw_all := lw_g (lw_at lw_m1 108 rfl) rfl
theorem q234 : (Jvm.Cond.fieldLink "ReasonCloser" (241 : Nat) "ReasonCloser$Reasons" "up" "[I") ∈ lw_all := lw_g (lw_at lw_m1 127 rfl) rfl
theorem q241 : (Jvm.Cond.fieldLink "ReasonCloser" (260 : Nat) "ReasonCloser$Reasons" "first" "[I") ∈ lw_all := lw_g (lw_at lw_m1 134 rfl) rfl
theorem q245 : (Jvm.Cond.fieldLink "ReasonCloser" (262 : Nat) "ReasonCloser$Reasons" "second" "[I") ∈ lw_all := lw_g (lw_at lw_m1 138 rfl) rfl
theorem q249 : (Jvm.Cond.fieldLink "ReasonCloser" (264 : Nat) "ReasonCloser$Reasons" "cause" "[I") ∈ lw_all := lw_g (lw_at lw_m1 142 rfl) rfl
theorem q251 : (Jvm.Cond.fieldLink "ReasonCloser" (196 : Nat) "ReasonCloser$Reasons" "joinMany" "I") ∈ lw_all := lw_g (lw_at lw_m1 144 rfl) rfl
theorem q261 : (Jvm.Cond.fieldLink "ReasonCloser" (213 : Nat) "ReasonCloser$Reasons" "lead" "[I") ∈ lw_all := lw_g (lw_at lw_m1 154 rfl) rfl
theorem q263 : (Jvm.Cond.fieldLink "ReasonCloser" (299 : Nat) "ReasonCloser$Groups" "lead" "[I") ∈ lw_all := lw_g (lw_at lw_m1 156 rfl) rfl
theorem q267 : (Jvm.Cond.fieldLink "ReasonCloser" (296 : Nat) "ReasonCloser$Groups" "many" "I") ∈ lw_all := lw_g (lw_at lw_m1 160 rfl) rfl
theorem q268 : (Jvm.Cond.fieldLink "ReasonCloser" (372 : Nat) "ReasonCloser$Closed" "many" "I") ∈ lw_all := lw_g (lw_at lw_m1 161 rfl) rfl
theorem q269 : (Jvm.Cond.fieldLink "ReasonCloser" (376 : Nat) "ReasonCloser$Reasons" "many" "I") ∈ lw_all := lw_g (lw_at lw_m1 162 rfl) rfl
theorem q304 : (Jvm.Cond.classLink "ReasonCloser" (40 : Nat) "ReasonCloser$Closed") ∈ lw_all := lw_g (lw_at lw_m1 197 rfl) rfl
theorem q306 : (Jvm.Cond.methodLink "ReasonCloser" (42 : Nat) ({ cls := "ReasonCloser$Closed", name := "<init>", desc := "(Ljava/util/List;)V" } : Jvm.MethodName)) ∈ lw_all := lw_g (lw_at lw_m1 199 rfl) rfl
theorem q316 : (Jvm.Cond.classLink "ReasonCloser" (67 : Nat) "ReasonCloser$Groups") ∈ lw_all := lw_g (lw_at lw_m1 209 rfl) rfl
theorem q318 : (Jvm.Cond.methodLink "ReasonCloser" (69 : Nat) ({ cls := "ReasonCloser$Groups", name := "<init>", desc := "()V" } : Jvm.MethodName)) ∈ lw_all := lw_g (lw_at lw_m1 211 rfl) rfl
theorem q327 : (Jvm.Cond.fieldLink "ReasonCloser" (3 : Nat) "ReasonCloser" "trouble" "I") ∈ lw_all := lw_g (lw_at lw_m1 220 rfl) rfl
theorem q328 : (Jvm.Cond.fieldLink "ReasonCloser" (7 : Nat) "ReasonCloser" "where" "I") ∈ lw_all := lw_g (lw_at lw_m1 221 rfl) rfl
theorem q330 : (Jvm.Cond.fieldLink "ReasonCloser" (16 : Nat) "ReasonCloser" "tape" "[B") ∈ lw_all := lw_g (lw_at lw_m1 223 rfl) rfl
theorem q331 : (Jvm.Cond.fieldLink "ReasonCloser" (87 : Nat) "ReasonCloser" "taped" "I") ∈ lw_all := lw_g (lw_at lw_m1 224 rfl) rfl
theorem q332 : (Jvm.Cond.fieldLink "ReasonCloser" (102 : Nat) "ReasonCloser" "fault" "I") ∈ lw_all := lw_g (lw_at lw_m1 225 rfl) rfl
theorem q333 : (Jvm.Cond.fieldLink "ReasonCloser" (23 : Nat) "ReasonCloser" "book" "LReasonCloser$Book;") ∈ lw_all := lw_g (lw_at lw_m1 226 rfl) rfl
theorem q334 : (Jvm.Cond.fieldLink "ReasonCloser" (36 : Nat) "ReasonCloser" "now" "LReasonCloser$Reasons;") ∈ lw_all := lw_g (lw_at lw_m1 227 rfl) rfl
theorem q335 : (Jvm.Cond.fieldLink "ReasonCloser" (43 : Nat) "ReasonCloser" "bare" "LReasonCloser$Closed;") ∈ lw_all := lw_g (lw_at lw_m1 228 rfl) rfl
theorem q336 : (Jvm.Cond.fieldLink "ReasonCloser" (47 : Nat) "ReasonCloser" "paper" "LReasonCloser$Closed;") ∈ lw_all := lw_g (lw_at lw_m1 229 rfl) rfl
theorem q337 : (Jvm.Cond.fieldLink "ReasonCloser" (50 : Nat) "ReasonCloser" "actKind" "[I") ∈ lw_all := lw_g (lw_at lw_m1 230 rfl) rfl
theorem q338 : (Jvm.Cond.fieldLink "ReasonCloser" (54 : Nat) "ReasonCloser" "actTrail" "[I") ∈ lw_all := lw_g (lw_at lw_m1 231 rfl) rfl
theorem q339 : (Jvm.Cond.fieldLink "ReasonCloser" (57 : Nat) "ReasonCloser" "actJoins" "[I") ∈ lw_all := lw_g (lw_at lw_m1 232 rfl) rfl
theorem q340 : (Jvm.Cond.fieldLink "ReasonCloser" (173 : Nat) "ReasonCloser" "acts" "I") ∈ lw_all := lw_g (lw_at lw_m1 233 rfl) rfl
theorem q341 : (Jvm.Cond.fieldLink "ReasonCloser" (60 : Nat) "ReasonCloser" "depths" "[I") ∈ lw_all := lw_g (lw_at lw_m1 234 rfl) rfl
theorem q342 : (Jvm.Cond.fieldLink "ReasonCloser" (63 : Nat) "ReasonCloser" "isBy" "[Z") ∈ lw_all := lw_g (lw_at lw_m1 235 rfl) rfl
theorem q343 : (Jvm.Cond.fieldLink "ReasonCloser" (70 : Nat) "ReasonCloser" "lower" "LReasonCloser$Groups;") ∈ lw_all := lw_g (lw_at lw_m1 236 rfl) rfl
theorem q344 : (Jvm.Cond.fieldLink "ReasonCloser" (74 : Nat) "ReasonCloser" "upper" "LReasonCloser$Groups;") ∈ lw_all := lw_g (lw_at lw_m1 237 rfl) rfl
theorem q345 : (Jvm.Cond.fieldLink "ReasonCloser" (77 : Nat) "ReasonCloser" "cost" "[J") ∈ lw_all := lw_g (lw_at lw_m1 238 rfl) rfl
theorem q346 : (Jvm.Cond.fieldLink "ReasonCloser" (81 : Nat) "ReasonCloser" "edge" "[J") ∈ lw_all := lw_g (lw_at lw_m1 239 rfl) rfl
theorem q347 : (Jvm.Cond.fieldLink "ReasonCloser" (84 : Nat) "ReasonCloser" "far" "[J") ∈ lw_all := lw_g (lw_at lw_m2 0 rfl) rfl
theorem q348 : (Jvm.Cond.lays "ReasonCloser" "ReasonCloser" "trouble" "I") ∈ lw_all := lw_g (lw_at lw_m2 1 rfl) rfl
theorem q349 : (Jvm.Cond.soleField "ReasonCloser" "trouble") ∈ lw_all := lw_g (lw_at lw_m2 2 rfl) rfl
theorem q350 : (Jvm.Cond.lays "ReasonCloser" "ReasonCloser" "where" "I") ∈ lw_all := lw_g (lw_at lw_m2 3 rfl) rfl
theorem q351 : (Jvm.Cond.soleField "ReasonCloser" "where") ∈ lw_all := lw_g (lw_at lw_m2 4 rfl) rfl
theorem q352 : (Jvm.Cond.laysFinal "ReasonCloser" "ReasonCloser" "tape" "[B") ∈ lw_all := lw_g (lw_at lw_m2 5 rfl) rfl
theorem q353 : (Jvm.Cond.soleField "ReasonCloser" "tape") ∈ lw_all := lw_g (lw_at lw_m2 6 rfl) rfl
theorem q354 : (Jvm.Cond.lays "ReasonCloser" "ReasonCloser" "taped" "I") ∈ lw_all := lw_g (lw_at lw_m2 7 rfl) rfl
theorem q355 : (Jvm.Cond.soleField "ReasonCloser" "taped") ∈ lw_all := lw_g (lw_at lw_m2 8 rfl) rfl
theorem q356 : (Jvm.Cond.lays "ReasonCloser" "ReasonCloser" "fault" "I") ∈ lw_all := lw_g (lw_at lw_m2 9 rfl) rfl
theorem q357 : (Jvm.Cond.soleField "ReasonCloser" "fault") ∈ lw_all := lw_g (lw_at lw_m2 10 rfl) rfl
theorem q358 : (Jvm.Cond.lays "ReasonCloser" "ReasonCloser" "book" "LReasonCloser$Book;") ∈ lw_all := lw_g (lw_at lw_m2 11 rfl) rfl
theorem q359 : (Jvm.Cond.soleField "ReasonCloser" "book") ∈ lw_all := lw_g (lw_at lw_m2 12 rfl) rfl
theorem q360 : (Jvm.Cond.lays "ReasonCloser" "ReasonCloser" "now" "LReasonCloser$Reasons;") ∈ lw_all := lw_g (lw_at lw_m2 13 rfl) rfl
theorem q361 : (Jvm.Cond.soleField "ReasonCloser" "now") ∈ lw_all := lw_g (lw_at lw_m2 14 rfl) rfl
theorem q362 : (Jvm.Cond.lays "ReasonCloser" "ReasonCloser" "bare" "LReasonCloser$Closed;") ∈ lw_all := lw_g (lw_at lw_m2 15 rfl) rfl
theorem q363 : (Jvm.Cond.soleField "ReasonCloser" "bare") ∈ lw_all := lw_g (lw_at lw_m2 16 rfl) rfl
theorem q364 : (Jvm.Cond.lays "ReasonCloser" "ReasonCloser" "paper" "LReasonCloser$Closed;") ∈ lw_all := lw_g (lw_at lw_m2 17 rfl) rfl
theorem q365 : (Jvm.Cond.soleField "ReasonCloser" "paper") ∈ lw_all := lw_g (lw_at lw_m2 18 rfl) rfl
theorem q366 : (Jvm.Cond.laysFinal "ReasonCloser" "ReasonCloser" "actKind" "[I") ∈ lw_all := lw_g (lw_at lw_m2 19 rfl) rfl
theorem q367 : (Jvm.Cond.soleField "ReasonCloser" "actKind") ∈ lw_all := lw_g (lw_at lw_m2 20 rfl) rfl
theorem q368 : (Jvm.Cond.laysFinal "ReasonCloser" "ReasonCloser" "actTrail" "[I") ∈ lw_all := lw_g (lw_at lw_m2 21 rfl) rfl
theorem q369 : (Jvm.Cond.soleField "ReasonCloser" "actTrail") ∈ lw_all := lw_g (lw_at lw_m2 22 rfl) rfl
theorem q370 : (Jvm.Cond.laysFinal "ReasonCloser" "ReasonCloser" "actJoins" "[I") ∈ lw_all := lw_g (lw_at lw_m2 23 rfl) rfl
theorem q371 : (Jvm.Cond.soleField "ReasonCloser" "actJoins") ∈ lw_all := lw_g (lw_at lw_m2 24 rfl) rfl
theorem q372 : (Jvm.Cond.lays "ReasonCloser" "ReasonCloser" "acts" "I") ∈ lw_all := lw_g (lw_at lw_m2 25 rfl) rfl
theorem q373 : (Jvm.Cond.soleField "ReasonCloser" "acts") ∈ lw_all := lw_g (lw_at lw_m2 26 rfl) rfl
theorem q374 : (Jvm.Cond.laysFinal "ReasonCloser" "ReasonCloser" "depths" "[I") ∈ lw_all := lw_g (lw_at lw_m2 27 rfl) rfl
theorem q375 : (Jvm.Cond.soleField "ReasonCloser" "depths") ∈ lw_all := lw_g (lw_at lw_m2 28 rfl) rfl
theorem q376 : (Jvm.Cond.laysFinal "ReasonCloser" "ReasonCloser" "isBy" "[Z") ∈ lw_all := lw_g (lw_at lw_m2 29 rfl) rfl
theorem q377 : (Jvm.Cond.soleField "ReasonCloser" "isBy") ∈ lw_all := lw_g (lw_at lw_m2 30 rfl) rfl
theorem q378 : (Jvm.Cond.laysFinal "ReasonCloser" "ReasonCloser" "lower" "LReasonCloser$Groups;") ∈ lw_all := lw_g (lw_at lw_m2 31 rfl) rfl
theorem q379 : (Jvm.Cond.soleField "ReasonCloser" "lower") ∈ lw_all := lw_g (lw_at lw_m2 32 rfl) rfl
theorem q380 : (Jvm.Cond.laysFinal "ReasonCloser" "ReasonCloser" "upper" "LReasonCloser$Groups;") ∈ lw_all := lw_g (lw_at lw_m2 33 rfl) rfl
theorem q381 : (Jvm.Cond.soleField "ReasonCloser" "upper") ∈ lw_all := lw_g (lw_at lw_m2 34 rfl) rfl
theorem q382 : (Jvm.Cond.laysFinal "ReasonCloser" "ReasonCloser" "cost" "[J") ∈ lw_all := lw_g (lw_at lw_m2 35 rfl) rfl
theorem q383 : (Jvm.Cond.soleField "ReasonCloser" "cost") ∈ lw_all := lw_g (lw_at lw_m2 36 rfl) rfl
theorem q384 : (Jvm.Cond.laysFinal "ReasonCloser" "ReasonCloser" "edge" "[J") ∈ lw_all := lw_g (lw_at lw_m2 37 rfl) rfl
theorem q385 : (Jvm.Cond.soleField "ReasonCloser" "edge") ∈ lw_all := lw_g (lw_at lw_m2 38 rfl) rfl
theorem q386 : (Jvm.Cond.laysFinal "ReasonCloser" "ReasonCloser" "far" "[J") ∈ lw_all := lw_g (lw_at lw_m2 39 rfl) rfl
theorem q387 : (Jvm.Cond.soleField "ReasonCloser" "far") ∈ lw_all := lw_g (lw_at lw_m2 40 rfl) rfl
theorem q388 : (Jvm.Cond.superclass "ReasonCloser" "java/lang/Object") ∈ lw_all := lw_g (lw_at lw_m2 41 rfl) rfl
theorem q391 : (Jvm.Cond.instanceMethod ({ cls := "ReasonCloser", name := "feed", desc := "(IIIII)I" } : Jvm.MethodName)) ∈ lw_all := lw_g (lw_at lw_m2 44 rfl) rfl
theorem q392 : (Jvm.Cond.selects "ReasonCloser" ({ cls := "ReasonCloser", name := "feed", desc := "(IIIII)I" } : Jvm.MethodName) ({ cls := "ReasonCloser", name := "feed", desc := "(IIIII)I" } : Jvm.MethodName)) ∈ lw_all := lw_g (lw_at lw_m2 45 rfl) rfl
theorem q393 : (Jvm.Cond.code ({ cls := "ReasonCloser", name := "feed", desc := "(IIIII)I" } : Jvm.MethodName) prog_1_method_7_code (6 : Nat) (Option.some Jvm.ClassFile.FieldType.int)) ∈ lw_all := lw_g (lw_at lw_m2 46 rfl) rfl
theorem q394 : (Jvm.Cond.methodLink "ReasonCloser" (90 : Nat) ({ cls := "ReasonCloser", name := "feedAll", desc := "([I)V" } : Jvm.MethodName)) ∈ lw_all := lw_g (lw_at lw_m2 47 rfl) rfl
theorem q395 : (Jvm.Cond.privateMethod ({ cls := "ReasonCloser", name := "feedAll", desc := "([I)V" } : Jvm.MethodName)) ∈ lw_tbl := lw_at lw_m2 48 rfl
theorem q396 : (Jvm.Cond.instanceMethod ({ cls := "ReasonCloser", name := "feedAll", desc := "([I)V" } : Jvm.MethodName)) ∈ lw_all := lw_g (lw_at lw_m2 49 rfl) rfl
theorem q397 : (Jvm.Cond.code ({ cls := "ReasonCloser", name := "feedAll", desc := "([I)V" } : Jvm.MethodName) prog_1_method_6_code (7 : Nat) (Option.none : Option Jvm.ClassFile.FieldType)) ∈ lw_all := lw_g (lw_at lw_m2 50 rfl) rfl
theorem q399 : (Jvm.Cond.instanceMethod ({ cls := "ReasonCloser", name := "text", desc := "(I)I" } : Jvm.MethodName)) ∈ lw_all := lw_g (lw_at lw_m2 52 rfl) rfl
theorem q400 : (Jvm.Cond.selects "ReasonCloser" ({ cls := "ReasonCloser", name := "text", desc := "(I)I" } : Jvm.MethodName) ({ cls := "ReasonCloser", name := "text", desc := "(I)I" } : Jvm.MethodName)) ∈ lw_all := lw_g (lw_at lw_m2 53 rfl) rfl
theorem q401 : (Jvm.Cond.codeWith ({ cls := "ReasonCloser", name := "text", desc := "(I)I" } : Jvm.MethodName) prog_1_method_8_code (4 : Nat) (Option.some Jvm.ClassFile.FieldType.int) [((28 : Nat), (44 : Nat), (47 : Nat), (114 : Nat))]) ∈ lw_all := lw_g (lw_at lw_m2 54 rfl) rfl
theorem q402 : (Jvm.Cond.classLink "ReasonCloser" (114 : Nat) "ReasonCloser$Fault") ∈ lw_all := lw_g (lw_at lw_m2 55 rfl) rfl
theorem q403 : (Jvm.Cond.methodLink "ReasonCloser" (94 : Nat) ({ cls := "ReasonCloser", name := "isIn", desc := "(III)Z" } : Jvm.MethodName)) ∈ lw_all := lw_g (lw_at lw_m2 56 rfl) rfl
theorem q404 : (Jvm.Cond.static ({ cls := "ReasonCloser", name := "isIn", desc := "(III)Z" } : Jvm.MethodName)) ∈ lw_all := lw_g (lw_at lw_m2 57 rfl) rfl
theorem q405 : (Jvm.Cond.code ({ cls := "ReasonCloser", name := "isIn", desc := "(III)Z" } : Jvm.MethodName) prog_1_method_1_code (3 : Nat) (Option.some Jvm.ClassFile.FieldType.boolean)) ∈ lw_all := lw_g (lw_at lw_m2 58 rfl) rfl
theorem q406 : (Jvm.Cond.methodLink "ReasonCloser" (98 : Nat) ({ cls := "ReasonCloser", name := "refused", desc := "(I)I" } : Jvm.MethodName)) ∈ lw_all := lw_g (lw_at lw_m2 59 rfl) rfl
theorem q407 : (Jvm.Cond.privateMethod ({ cls := "ReasonCloser", name := "refused", desc := "(I)I" } : Jvm.MethodName)) ∈ lw_tbl := lw_at lw_m2 60 rfl
theorem q408 : (Jvm.Cond.instanceMethod ({ cls := "ReasonCloser", name := "refused", desc := "(I)I" } : Jvm.MethodName)) ∈ lw_all := lw_g (lw_at lw_m2 61 rfl) rfl
theorem q409 : (Jvm.Cond.code ({ cls := "ReasonCloser", name := "refused", desc := "(I)I" } : Jvm.MethodName) prog_1_method_3_code (2 : Nat) (Option.some Jvm.ClassFile.FieldType.int)) ∈ lw_all := lw_g (lw_at lw_m2 62 rfl) rfl
theorem q410 : (Jvm.Cond.classLink "ReasonCloser" (105 : Nat) "ReasonCloser$Reader") ∈ lw_all := lw_g (lw_at lw_m2 63 rfl) rfl
theorem q412 : (Jvm.Cond.methodLink "ReasonCloser" (107 : Nat) ({ cls := "ReasonCloser$Reader", name := "<init>", desc := "(LReasonCloser;I)V" } : Jvm.MethodName)) ∈ lw_all := lw_g (lw_at lw_m2 65 rfl) rfl
theorem q443 : (Jvm.Cond.methodLink "ReasonCloser" (110 : Nat) ({ cls := "ReasonCloser$Reader", name := "read", desc := "()LReasonCloser$Book;" } : Jvm.MethodName)) ∈ lw_all := lw_g (lw_at lw_m2 96 rfl) rfl
theorem q556 : (Jvm.Cond.laysStatic "ReasonCloser" "OWN" "[Ljava/lang/String;") ∈ lw_tbl := lw_at lw_m2 209 rfl
theorem q638 : (Jvm.Cond.fieldLinkNest "ReasonCloser" (116 : Nat) "ReasonCloser$Fault" "kind" "I" "ReasonCloser") ∈ lw_tbl := lw_at lw_m3 51 rfl
theorem q640 : (Jvm.Cond.fieldLinkNest "ReasonCloser" (119 : Nat) "ReasonCloser$Fault" "place" "I" "ReasonCloser") ∈ lw_tbl := lw_at lw_m3 53 rfl
theorem q719 : (Jvm.Cond.fieldLinkNest "ReasonCloser" (205 : Nat) "ReasonCloser$Function" "takes" "I" "ReasonCloser") ∈ lw_tbl := lw_at lw_m3 132 rfl
theorem q763 : (Jvm.Cond.selects "ReasonCloser" ({ cls := "java/lang/Object", name := "getClass", desc := "()Ljava/lang/Class;" } : Jvm.MethodName) ({ cls := "java/lang/Object", name := "getClass", desc := "()Ljava/lang/Class;" } : Jvm.MethodName)) ∈ lw_all := lw_g (lw_at lw_m3 176 rfl) rfl
theorem q823 : (Jvm.Cond.fieldLinkNest "ReasonCloser" (210 : Nat) "ReasonCloser$Term" "function" "I" "ReasonCloser") ∈ lw_tbl := lw_at lw_m3 236 rfl
theorem q827 : (Jvm.Cond.fieldLinkNest "ReasonCloser" (218 : Nat) "ReasonCloser$Term" "parts" "[I" "ReasonCloser") ∈ lw_tbl := lw_at lw_m4 0 rfl
theorem q865 : (Jvm.Cond.fieldLinkNest "ReasonCloser" (159 : Nat) "ReasonCloser$Fact" "first" "I" "ReasonCloser") ∈ lw_tbl := lw_at lw_m4 38 rfl
theorem q867 : (Jvm.Cond.fieldLinkNest "ReasonCloser" (162 : Nat) "ReasonCloser$Fact" "second" "I" "ReasonCloser") ∈ lw_tbl := lw_at lw_m4 40 rfl
theorem q873 : (Jvm.Cond.interfaceEntry "ReasonCloser" (125 : Nat)) ∈ lw_tbl := lw_at lw_m4 46 rfl
theorem q874 : (Jvm.Cond.methodLink "ReasonCloser" (125 : Nat) ({ cls := "java/util/List", name := "iterator", desc := "()Ljava/util/Iterator;" } : Jvm.MethodName)) ∈ lw_all := lw_g (lw_at lw_m4 47 rfl) rfl
theorem q901 : (Jvm.Cond.interfaceEntry "ReasonCloser" (131 : Nat)) ∈ lw_tbl := lw_at lw_m4 74 rfl
theorem q902 : (Jvm.Cond.methodLink "ReasonCloser" (131 : Nat) ({ cls := "java/util/Iterator", name := "hasNext", desc := "()Z" } : Jvm.MethodName)) ∈ lw_all := lw_g (lw_at lw_m4 75 rfl) rfl
theorem q911 : (Jvm.Cond.interfaceEntry "ReasonCloser" (137 : Nat)) ∈ lw_tbl := lw_at lw_m4 84 rfl
theorem q912 : (Jvm.Cond.methodLink "ReasonCloser" (137 : Nat) ({ cls := "java/util/Iterator", name := "next", desc := "()Ljava/lang/Object;" } : Jvm.MethodName)) ∈ lw_all := lw_g (lw_at lw_m4 85 rfl) rfl
theorem q947 : (Jvm.Cond.classLink "ReasonCloser" (141 : Nat) "java/lang/Integer") ∈ lw_all := lw_g (lw_at lw_m4 120 rfl) rfl
theorem q948 : (Jvm.Cond.methodLink "ReasonCloser" (143 : Nat) ({ cls := "java/lang/Integer", name := "intValue", desc := "()I" } : Jvm.MethodName)) ∈ lw_all := lw_g (lw_at lw_m4 121 rfl) rfl
theorem q952 : (Jvm.Cond.methodLink "ReasonCloser" (147 : Nat) ({ cls := "ReasonCloser$Reasons", name := "comes", desc := "()V" } : Jvm.MethodName)) ∈ lw_all := lw_g (lw_at lw_m4 125 rfl) rfl
theorem q1020 : (Jvm.Cond.interfaceEntry "ReasonCloser" (153 : Nat)) ∈ lw_tbl := lw_at lw_m4 193 rfl
theorem q1021 : (Jvm.Cond.methodLink "ReasonCloser" (153 : Nat) ({ cls := "java/util/List", name := "get", desc := "(I)Ljava/lang/Object;" } : Jvm.MethodName)) ∈ lw_all := lw_g (lw_at lw_m4 194 rfl) rfl
theorem q1022 : (Jvm.Cond.classLink "ReasonCloser" (157 : Nat) "ReasonCloser$Fact") ∈ lw_all := lw_g (lw_at lw_m4 195 rfl) rfl
theorem q1023 : (Jvm.Cond.methodLink "ReasonCloser" (165 : Nat) ({ cls := "ReasonCloser$Reasons", name := "same", desc := "(III)V" } : Jvm.MethodName)) ∈ lw_all := lw_g (lw_at lw_m4 196 rfl) rfl
theorem q1029 : (Jvm.Cond.interfaceEntry "ReasonCloser" (169 : Nat)) ∈ lw_tbl := lw_at lw_m4 202 rfl
theorem q1030 : (Jvm.Cond.methodLink "ReasonCloser" (169 : Nat) ({ cls := "java/util/List", name := "size", desc := "()I" } : Jvm.MethodName)) ∈ lw_all := lw_g (lw_at lw_m4 203 rfl) rfl
theorem q1031 : (Jvm.Cond.methodLink "ReasonCloser" (172 : Nat) ({ cls := "ReasonCloser$Closed", name := "comes", desc := "()V" } : Jvm.MethodName)) ∈ lw_all := lw_g (lw_at lw_m4 204 rfl) rfl
theorem q1032 : (Jvm.Cond.methodLink "ReasonCloser" (176 : Nat) ({ cls := "ReasonCloser", name := "fine", desc := "(I)I" } : Jvm.MethodName)) ∈ lw_all := lw_g (lw_at lw_m4 205 rfl) rfl
theorem q1033 : (Jvm.Cond.privateMethod ({ cls := "ReasonCloser", name := "fine", desc := "(I)I" } : Jvm.MethodName)) ∈ lw_tbl := lw_at lw_m4 206 rfl
theorem q1034 : (Jvm.Cond.instanceMethod ({ cls := "ReasonCloser", name := "fine", desc := "(I)I" } : Jvm.MethodName)) ∈ lw_all := lw_g (lw_at lw_m4 207 rfl) rfl
theorem q1035 : (Jvm.Cond.code ({ cls := "ReasonCloser", name := "fine", desc := "(I)I" } : Jvm.MethodName) prog_1_method_4_code (2 : Nat) (Option.some Jvm.ClassFile.FieldType.int)) ∈ lw_all := lw_g (lw_at lw_m4 208 rfl) rfl
theorem q1037 : (Jvm.Cond.instanceMethod ({ cls := "ReasonCloser", name := "fault", desc := "()I" } : Jvm.MethodName)) ∈ lw_all := lw_g (lw_at lw_m4 210 rfl) rfl
theorem q1038 : (Jvm.Cond.selects "ReasonCloser" ({ cls := "ReasonCloser", name := "fault", desc := "()I" } : Jvm.MethodName) ({ cls := "ReasonCloser", name := "fault", desc := "()I" } : Jvm.MethodName)) ∈ lw_all := lw_g (lw_at lw_m4 211 rfl) rfl
theorem q1039 : (Jvm.Cond.code ({ cls := "ReasonCloser", name := "fault", desc := "()I" } : Jvm.MethodName) prog_1_method_9_code (1 : Nat) (Option.some Jvm.ClassFile.FieldType.int)) ∈ lw_all := lw_g (lw_at lw_m4 212 rfl) rfl
theorem q1041 : (Jvm.Cond.instanceMethod ({ cls := "ReasonCloser", name := "where", desc := "()I" } : Jvm.MethodName)) ∈ lw_all := lw_g (lw_at lw_m4 214 rfl) rfl
theorem q1042 : (Jvm.Cond.selects "ReasonCloser" ({ cls := "ReasonCloser", name := "where", desc := "()I" } : Jvm.MethodName) ({ cls := "ReasonCloser", name := "where", desc := "()I" } : Jvm.MethodName)) ∈ lw_all := lw_g (lw_at lw_m4 215 rfl) rfl
theorem q1043 : (Jvm.Cond.code ({ cls := "ReasonCloser", name := "where", desc := "()I" } : Jvm.MethodName) prog_1_method_10_code (1 : Nat) (Option.some Jvm.ClassFile.FieldType.int)) ∈ lw_all := lw_g (lw_at lw_m4 216 rfl) rfl
theorem q1045 : (Jvm.Cond.instanceMethod ({ cls := "ReasonCloser", name := "about", desc := "(I)I" } : Jvm.MethodName)) ∈ lw_all := lw_g (lw_at lw_m4 218 rfl) rfl
theorem q1046 : (Jvm.Cond.selects "ReasonCloser" ({ cls := "ReasonCloser", name := "about", desc := "(I)I" } : Jvm.MethodName) ({ cls := "ReasonCloser", name := "about", desc := "(I)I" } : Jvm.MethodName)) ∈ lw_all := lw_g (lw_at lw_m4 219 rfl) rfl
theorem q1047 : (Jvm.Cond.code ({ cls := "ReasonCloser", name := "about", desc := "(I)I" } : Jvm.MethodName) prog_1_method_15_code (2 : Nat) (Option.some Jvm.ClassFile.FieldType.int)) ∈ lw_all := lw_g (lw_at lw_m4 220 rfl) rfl
theorem q1048 : (Jvm.Cond.methodLink "ReasonCloser" (179 : Nat) ({ cls := "ReasonCloser", name := "terms", desc := "()I" } : Jvm.MethodName)) ∈ lw_all := lw_g (lw_at lw_m4 221 rfl) rfl
theorem q1049 : (Jvm.Cond.privateMethod ({ cls := "ReasonCloser", name := "terms", desc := "()I" } : Jvm.MethodName)) ∈ lw_tbl := lw_at lw_m4 222 rfl
theorem q1050 : (Jvm.Cond.instanceMethod ({ cls := "ReasonCloser", name := "terms", desc := "()I" } : Jvm.MethodName)) ∈ lw_all := lw_g (lw_at lw_m4 223 rfl) rfl
theorem q1051 : (Jvm.Cond.code ({ cls := "ReasonCloser", name := "terms", desc := "()I" } : Jvm.MethodName) prog_1_method_11_code (1 : Nat) (Option.some Jvm.ClassFile.FieldType.int)) ∈ lw_all := lw_g (lw_at lw_m4 224 rfl) rfl
theorem q1052 : (Jvm.Cond.methodLink "ReasonCloser" (191 : Nat) ({ cls := "ReasonCloser", name := "sames", desc := "()I" } : Jvm.MethodName)) ∈ lw_all := lw_g (lw_at lw_m4 225 rfl) rfl
theorem q1053 : (Jvm.Cond.privateMethod ({ cls := "ReasonCloser", name := "sames", desc := "()I" } : Jvm.MethodName)) ∈ lw_tbl := lw_at lw_m4 226 rfl
theorem q1054 : (Jvm.Cond.instanceMethod ({ cls := "ReasonCloser", name := "sames", desc := "()I" } : Jvm.MethodName)) ∈ lw_all := lw_g (lw_at lw_m4 227 rfl) rfl
theorem q1055 : (Jvm.Cond.code ({ cls := "ReasonCloser", name := "sames", desc := "()I" } : Jvm.MethodName) prog_1_method_12_code (1 : Nat) (Option.some Jvm.ClassFile.FieldType.int)) ∈ lw_all := lw_g (lw_at lw_m4 228 rfl) rfl
theorem q1056 : (Jvm.Cond.methodLink "ReasonCloser" (193 : Nat) ({ cls := "ReasonCloser$Reasons", name := "groups", desc := "()I" } : Jvm.MethodName)) ∈ lw_all := lw_g (lw_at lw_m4 229 rfl) rfl
theorem q1062 : (Jvm.Cond.methodLink "ReasonCloser" (199 : Nat) ({ cls := "ReasonCloser", name := "clash", desc := "(LReasonCloser$Groups;)I" } : Jvm.MethodName)) ∈ lw_all := lw_g (lw_at lw_m4 235 rfl) rfl
theorem q1063 : (Jvm.Cond.privateMethod ({ cls := "ReasonCloser", name := "clash", desc := "(LReasonCloser$Groups;)I" } : Jvm.MethodName)) ∈ lw_tbl := lw_at lw_m4 236 rfl
theorem q1064 : (Jvm.Cond.instanceMethod ({ cls := "ReasonCloser", name := "clash", desc := "(LReasonCloser$Groups;)I" } : Jvm.MethodName)) ∈ lw_all := lw_g (lw_at lw_m4 237 rfl) rfl
theorem q1065 : (Jvm.Cond.code ({ cls := "ReasonCloser", name := "clash", desc := "(LReasonCloser$Groups;)I" } : Jvm.MethodName) prog_1_method_14_code (3 : Nat) (Option.some Jvm.ClassFile.FieldType.int)) ∈ lw_all := lw_g (lw_at lw_m4 238 rfl) rfl
theorem q1066 : (Jvm.Cond.methodLink "ReasonCloser" (184 : Nat) ({ cls := "ReasonCloser$Groups", name := "areOne", desc := "(II)Z" } : Jvm.MethodName)) ∈ lw_all := lw_g (lw_at lw_m4 239 rfl) rfl
theorem q1068 : (Jvm.Cond.instanceMethod ({ cls := "ReasonCloser", name := "function", desc := "(II)I" } : Jvm.MethodName)) ∈ lw_all := lw_g (lw_at lw_m5 1 rfl) rfl
theorem q1069 : (Jvm.Cond.selects "ReasonCloser" ({ cls := "ReasonCloser", name := "function", desc := "(II)I" } : Jvm.MethodName) ({ cls := "ReasonCloser", name := "function", desc := "(II)I" } : Jvm.MethodName)) ∈ lw_all := lw_g (lw_at lw_m5 2 rfl) rfl
theorem q1070 : (Jvm.Cond.code ({ cls := "ReasonCloser", name := "function", desc := "(II)I" } : Jvm.MethodName) prog_1_method_16_code (6 : Nat) (Option.some Jvm.ClassFile.FieldType.int)) ∈ lw_all := lw_g (lw_at lw_m5 3 rfl) rfl
theorem q1071 : (Jvm.Cond.classLink "ReasonCloser" (203 : Nat) "ReasonCloser$Function") ∈ lw_all := lw_g (lw_at lw_m5 4 rfl) rfl
theorem q1072 : (Jvm.Cond.classLink "ReasonCloser" (208 : Nat) "ReasonCloser$Term") ∈ lw_all := lw_g (lw_at lw_m5 5 rfl) rfl
theorem q1073 : (Jvm.Cond.methodLink "ReasonCloser" (216 : Nat) ({ cls := "ReasonCloser", name := "isIn", desc := "(II)Z" } : Jvm.MethodName)) ∈ lw_all := lw_g (lw_at lw_m5 6 rfl) rfl
theorem q1074 : (Jvm.Cond.privateMethod ({ cls := "ReasonCloser", name := "isIn", desc := "(II)Z" } : Jvm.MethodName)) ∈ lw_tbl := lw_at lw_m5 7 rfl
theorem q1075 : (Jvm.Cond.instanceMethod ({ cls := "ReasonCloser", name := "isIn", desc := "(II)Z" } : Jvm.MethodName)) ∈ lw_all := lw_g (lw_at lw_m5 8 rfl) rfl
theorem q1076 : (Jvm.Cond.code ({ cls := "ReasonCloser", name := "isIn", desc := "(II)Z" } : Jvm.MethodName) prog_1_method_17_code (4 : Nat) (Option.some Jvm.ClassFile.FieldType.boolean)) ∈ lw_all := lw_g (lw_at lw_m5 9 rfl) rfl
theorem q1078 : (Jvm.Cond.instanceMethod ({ cls := "ReasonCloser", name := "term", desc := "(II)I" } : Jvm.MethodName)) ∈ lw_all := lw_g (lw_at lw_m5 11 rfl) rfl
theorem q1079 : (Jvm.Cond.selects "ReasonCloser" ({ cls := "ReasonCloser", name := "term", desc := "(II)I" } : Jvm.MethodName) ({ cls := "ReasonCloser", name := "term", desc := "(II)I" } : Jvm.MethodName)) ∈ lw_all := lw_g (lw_at lw_m5 12 rfl) rfl
theorem q1080 : (Jvm.Cond.code ({ cls := "ReasonCloser", name := "term", desc := "(II)I" } : Jvm.MethodName) prog_1_method_21_code (5 : Nat) (Option.some Jvm.ClassFile.FieldType.int)) ∈ lw_all := lw_g (lw_at lw_m5 13 rfl) rfl
theorem q1081 : (Jvm.Cond.methodLink "ReasonCloser" (230 : Nat) ({ cls := "ReasonCloser", name := "isTerm", desc := "([I)Z" } : Jvm.MethodName)) ∈ lw_all := lw_g (lw_at lw_m5 14 rfl) rfl
theorem q1082 : (Jvm.Cond.privateMethod ({ cls := "ReasonCloser", name := "isTerm", desc := "([I)Z" } : Jvm.MethodName)) ∈ lw_tbl := lw_at lw_m5 15 rfl
theorem q1083 : (Jvm.Cond.instanceMethod ({ cls := "ReasonCloser", name := "isTerm", desc := "([I)Z" } : Jvm.MethodName)) ∈ lw_all := lw_g (lw_at lw_m5 16 rfl) rfl
theorem q1084 : (Jvm.Cond.code ({ cls := "ReasonCloser", name := "isTerm", desc := "([I)Z" } : Jvm.MethodName) prog_1_method_13_code (6 : Nat) (Option.some Jvm.ClassFile.FieldType.boolean)) ∈ lw_all := lw_g (lw_at lw_m5 17 rfl) rfl
theorem q1085 : (Jvm.Cond.methodLink "ReasonCloser" (234 : Nat) ({ cls := "ReasonCloser$Reasons", name := "areOne", desc := "(II)Z" } : Jvm.MethodName)) ∈ lw_all := lw_g (lw_at lw_m5 18 rfl) rfl
theorem q1088 : (Jvm.Cond.methodLink "ReasonCloser" (235 : Nat) ({ cls := "ReasonCloser", name := "uses", desc := "(II)Z" } : Jvm.MethodName)) ∈ lw_all := lw_g (lw_at lw_m5 21 rfl) rfl
theorem q1089 : (Jvm.Cond.privateMethod ({ cls := "ReasonCloser", name := "uses", desc := "(II)Z" } : Jvm.MethodName)) ∈ lw_tbl := lw_at lw_m5 22 rfl
theorem q1090 : (Jvm.Cond.instanceMethod ({ cls := "ReasonCloser", name := "uses", desc := "(II)Z" } : Jvm.MethodName)) ∈ lw_all := lw_g (lw_at lw_m5 23 rfl) rfl
theorem q1091 : (Jvm.Cond.code ({ cls := "ReasonCloser", name := "uses", desc := "(II)Z" } : Jvm.MethodName) prog_1_method_20_code (7 : Nat) (Option.some Jvm.ClassFile.FieldType.boolean)) ∈ lw_all := lw_g (lw_at lw_m5 24 rfl) rfl
theorem q1092 : (Jvm.Cond.methodLink "ReasonCloser" (238 : Nat) ({ cls := "ReasonCloser", name := "deep", desc := "(I)I" } : Jvm.MethodName)) ∈ lw_all := lw_g (lw_at lw_m5 25 rfl) rfl
theorem q1093 : (Jvm.Cond.privateMethod ({ cls := "ReasonCloser", name := "deep", desc := "(I)I" } : Jvm.MethodName)) ∈ lw_tbl := lw_at lw_m5 26 rfl
theorem q1094 : (Jvm.Cond.instanceMethod ({ cls := "ReasonCloser", name := "deep", desc := "(I)I" } : Jvm.MethodName)) ∈ lw_all := lw_g (lw_at lw_m5 27 rfl) rfl
theorem q1095 : (Jvm.Cond.code ({ cls := "ReasonCloser", name := "deep", desc := "(I)I" } : Jvm.MethodName) prog_1_method_19_code (3 : Nat) (Option.some Jvm.ClassFile.FieldType.int)) ∈ lw_all := lw_g (lw_at lw_m5 28 rfl) rfl
theorem q1096 : (Jvm.Cond.methodLink "ReasonCloser" (227 : Nat) ({ cls := "ReasonCloser", name := "depth", desc := "(I)I" } : Jvm.MethodName)) ∈ lw_all := lw_g (lw_at lw_m5 29 rfl) rfl
theorem q1097 : (Jvm.Cond.privateMethod ({ cls := "ReasonCloser", name := "depth", desc := "(I)I" } : Jvm.MethodName)) ∈ lw_tbl := lw_at lw_m5 30 rfl
theorem q1098 : (Jvm.Cond.instanceMethod ({ cls := "ReasonCloser", name := "depth", desc := "(I)I" } : Jvm.MethodName)) ∈ lw_all := lw_g (lw_at lw_m5 31 rfl) rfl
theorem q1099 : (Jvm.Cond.code ({ cls := "ReasonCloser", name := "depth", desc := "(I)I" } : Jvm.MethodName) prog_1_method_18_code (7 : Nat) (Option.some Jvm.ClassFile.FieldType.int)) ∈ lw_all := lw_g (lw_at lw_m5 32 rfl) rfl
theorem q1100 : (Jvm.Cond.methodLink "ReasonCloser" (221 : Nat) ({ cls := "java/lang/Math", name := "max", desc := "(II)I" } : Jvm.MethodName)) ∈ lw_all := lw_g (lw_at lw_m5 33 rfl) rfl
theorem q1102 : (Jvm.Cond.instanceMethod ({ cls := "ReasonCloser", name := "partOf", desc := "(II)I" } : Jvm.MethodName)) ∈ lw_all := lw_g (lw_at lw_m5 35 rfl) rfl
theorem q1103 : (Jvm.Cond.selects "ReasonCloser" ({ cls := "ReasonCloser", name := "partOf", desc := "(II)I" } : Jvm.MethodName) ({ cls := "ReasonCloser", name := "partOf", desc := "(II)I" } : Jvm.MethodName)) ∈ lw_all := lw_g (lw_at lw_m5 36 rfl) rfl
theorem q1104 : (Jvm.Cond.code ({ cls := "ReasonCloser", name := "partOf", desc := "(II)I" } : Jvm.MethodName) prog_1_method_22_code (4 : Nat) (Option.some Jvm.ClassFile.FieldType.int)) ∈ lw_all := lw_g (lw_at lw_m5 37 rfl) rfl
theorem q1106 : (Jvm.Cond.instanceMethod ({ cls := "ReasonCloser", name := "sameOf", desc := "(II)I" } : Jvm.MethodName)) ∈ lw_all := lw_g (lw_at lw_m5 39 rfl) rfl
theorem q1107 : (Jvm.Cond.selects "ReasonCloser" ({ cls := "ReasonCloser", name := "sameOf", desc := "(II)I" } : Jvm.MethodName) ({ cls := "ReasonCloser", name := "sameOf", desc := "(II)I" } : Jvm.MethodName)) ∈ lw_all := lw_g (lw_at lw_m5 40 rfl) rfl
theorem q1108 : (Jvm.Cond.code ({ cls := "ReasonCloser", name := "sameOf", desc := "(II)I" } : Jvm.MethodName) prog_1_method_25_code (4 : Nat) (Option.some Jvm.ClassFile.FieldType.int)) ∈ lw_all := lw_g (lw_at lw_m5 41 rfl) rfl
theorem q1109 : (Jvm.Cond.methodLink "ReasonCloser" (252 : Nat) ({ cls := "ReasonCloser", name := "every", desc := "()I" } : Jvm.MethodName)) ∈ lw_all := lw_g (lw_at lw_m5 42 rfl) rfl
theorem q1110 : (Jvm.Cond.privateMethod ({ cls := "ReasonCloser", name := "every", desc := "()I" } : Jvm.MethodName)) ∈ lw_tbl := lw_at lw_m5 43 rfl
theorem q1111 : (Jvm.Cond.instanceMethod ({ cls := "ReasonCloser", name := "every", desc := "()I" } : Jvm.MethodName)) ∈ lw_all := lw_g (lw_at lw_m5 44 rfl) rfl
theorem q1112 : (Jvm.Cond.code ({ cls := "ReasonCloser", name := "every", desc := "()I" } : Jvm.MethodName) prog_1_method_24_code (1 : Nat) (Option.some Jvm.ClassFile.FieldType.int)) ∈ lw_all := lw_g (lw_at lw_m5 45 rfl) rfl
theorem q1113 : (Jvm.Cond.methodLink "ReasonCloser" (255 : Nat) ({ cls := "ReasonCloser", name := "by", desc := "(I)LReasonCloser$Closed;" } : Jvm.MethodName)) ∈ lw_all := lw_g (lw_at lw_m5 46 rfl) rfl
theorem q1114 : (Jvm.Cond.privateMethod ({ cls := "ReasonCloser", name := "by", desc := "(I)LReasonCloser$Closed;" } : Jvm.MethodName)) ∈ lw_tbl := lw_at lw_m5 47 rfl
theorem q1115 : (Jvm.Cond.instanceMethod ({ cls := "ReasonCloser", name := "by", desc := "(I)LReasonCloser$Closed;" } : Jvm.MethodName)) ∈ lw_all := lw_g (lw_at lw_m5 48 rfl) rfl
theorem q1116 : (Jvm.Cond.code ({ cls := "ReasonCloser", name := "by", desc := "(I)LReasonCloser$Closed;" } : Jvm.MethodName) prog_1_method_23_code (3 : Nat) (Option.some (Jvm.ClassFile.FieldType.object "ReasonCloser$Closed"))) ∈ lw_all := lw_g (lw_at lw_m5 49 rfl) rfl
theorem q1117 : (Jvm.Cond.methodLink "ReasonCloser" (244 : Nat) ({ cls := "ReasonCloser$Closed", name := "like", desc := "(LReasonCloser$Groups;)V" } : Jvm.MethodName)) ∈ lw_all := lw_g (lw_at lw_m5 50 rfl) rfl
theorem q1124 : (Jvm.Cond.methodLink "ReasonCloser" (248 : Nat) ({ cls := "ReasonCloser", name := "has", desc := "(II)Z" } : Jvm.MethodName)) ∈ lw_all := lw_g (lw_at lw_m5 57 rfl) rfl
theorem q1125 : (Jvm.Cond.static ({ cls := "ReasonCloser", name := "has", desc := "(II)Z" } : Jvm.MethodName)) ∈ lw_all := lw_g (lw_at lw_m5 58 rfl) rfl
theorem q1126 : (Jvm.Cond.code ({ cls := "ReasonCloser", name := "has", desc := "(II)Z" } : Jvm.MethodName) prog_1_method_2_code (2 : Nat) (Option.some Jvm.ClassFile.FieldType.boolean)) ∈ lw_all := lw_g (lw_at lw_m5 59 rfl) rfl
theorem q1127 : (Jvm.Cond.methodLink "ReasonCloser" (251 : Nat) ({ cls := "ReasonCloser$Closed", name := "same", desc := "(III)V" } : Jvm.MethodName)) ∈ lw_all := lw_g (lw_at lw_m5 60 rfl) rfl
theorem q1128 : (Jvm.Cond.methodLink "ReasonCloser" (259 : Nat) ({ cls := "ReasonCloser$Closed", name := "areOne", desc := "(II)Z" } : Jvm.MethodName)) ∈ lw_all := lw_g (lw_at lw_m5 61 rfl) rfl
theorem q1130 : (Jvm.Cond.instanceMethod ({ cls := "ReasonCloser", name := "diffOf", desc := "(II)I" } : Jvm.MethodName)) ∈ lw_all := lw_g (lw_at lw_m5 63 rfl) rfl
theorem q1131 : (Jvm.Cond.selects "ReasonCloser" ({ cls := "ReasonCloser", name := "diffOf", desc := "(II)I" } : Jvm.MethodName) ({ cls := "ReasonCloser", name := "diffOf", desc := "(II)I" } : Jvm.MethodName)) ∈ lw_all := lw_g (lw_at lw_m5 64 rfl) rfl
theorem q1132 : (Jvm.Cond.code ({ cls := "ReasonCloser", name := "diffOf", desc := "(II)I" } : Jvm.MethodName) prog_1_method_26_code (4 : Nat) (Option.some Jvm.ClassFile.FieldType.int)) ∈ lw_all := lw_g (lw_at lw_m5 65 rfl) rfl
theorem q1134 : (Jvm.Cond.instanceMethod ({ cls := "ReasonCloser", name := "joinOf", desc := "(II)I" } : Jvm.MethodName)) ∈ lw_all := lw_g (lw_at lw_m5 67 rfl) rfl
theorem q1135 : (Jvm.Cond.selects "ReasonCloser" ({ cls := "ReasonCloser", name := "joinOf", desc := "(II)I" } : Jvm.MethodName) ({ cls := "ReasonCloser", name := "joinOf", desc := "(II)I" } : Jvm.MethodName)) ∈ lw_all := lw_g (lw_at lw_m5 68 rfl) rfl
theorem q1136 : (Jvm.Cond.code ({ cls := "ReasonCloser", name := "joinOf", desc := "(II)I" } : Jvm.MethodName) prog_1_method_27_code (3 : Nat) (Option.some Jvm.ClassFile.FieldType.int)) ∈ lw_all := lw_g (lw_at lw_m5 69 rfl) rfl
theorem q1138 : (Jvm.Cond.instanceMethod ({ cls := "ReasonCloser", name := "height", desc := "(I)I" } : Jvm.MethodName)) ∈ lw_all := lw_g (lw_at lw_m5 71 rfl) rfl
theorem q1139 : (Jvm.Cond.selects "ReasonCloser" ({ cls := "ReasonCloser", name := "height", desc := "(I)I" } : Jvm.MethodName) ({ cls := "ReasonCloser", name := "height", desc := "(I)I" } : Jvm.MethodName)) ∈ lw_all := lw_g (lw_at lw_m5 72 rfl) rfl
theorem q1140 : (Jvm.Cond.code ({ cls := "ReasonCloser", name := "height", desc := "(I)I" } : Jvm.MethodName) prog_1_method_28_code (4 : Nat) (Option.some Jvm.ClassFile.FieldType.int)) ∈ lw_all := lw_g (lw_at lw_m5 73 rfl) rfl
theorem q1142 : (Jvm.Cond.instanceMethod ({ cls := "ReasonCloser", name := "hung", desc := "(II)I" } : Jvm.MethodName)) ∈ lw_all := lw_g (lw_at lw_m5 75 rfl) rfl
theorem q1143 : (Jvm.Cond.selects "ReasonCloser" ({ cls := "ReasonCloser", name := "hung", desc := "(II)I" } : Jvm.MethodName) ({ cls := "ReasonCloser", name := "hung", desc := "(II)I" } : Jvm.MethodName)) ∈ lw_all := lw_g (lw_at lw_m5 76 rfl) rfl
theorem q1144 : (Jvm.Cond.code ({ cls := "ReasonCloser", name := "hung", desc := "(II)I" } : Jvm.MethodName) prog_1_method_29_code (5 : Nat) (Option.some Jvm.ClassFile.FieldType.int)) ∈ lw_all := lw_g (lw_at lw_m5 77 rfl) rfl
theorem q1146 : (Jvm.Cond.instanceMethod ({ cls := "ReasonCloser", name := "equal", desc := "(II)I" } : Jvm.MethodName)) ∈ lw_all := lw_g (lw_at lw_m5 79 rfl) rfl
theorem q1147 : (Jvm.Cond.selects "ReasonCloser" ({ cls := "ReasonCloser", name := "equal", desc := "(II)I" } : Jvm.MethodName) ({ cls := "ReasonCloser", name := "equal", desc := "(II)I" } : Jvm.MethodName)) ∈ lw_all := lw_g (lw_at lw_m5 80 rfl) rfl
theorem q1148 : (Jvm.Cond.code ({ cls := "ReasonCloser", name := "equal", desc := "(II)I" } : Jvm.MethodName) prog_1_method_30_code (3 : Nat) (Option.some Jvm.ClassFile.FieldType.int)) ∈ lw_all := lw_g (lw_at lw_m5 81 rfl) rfl
theorem q1150 : (Jvm.Cond.instanceMethod ({ cls := "ReasonCloser", name := "apart", desc := "(II)I" } : Jvm.MethodName)) ∈ lw_all := lw_g (lw_at lw_m5 83 rfl) rfl
theorem q1151 : (Jvm.Cond.selects "ReasonCloser" ({ cls := "ReasonCloser", name := "apart", desc := "(II)I" } : Jvm.MethodName) ({ cls := "ReasonCloser", name := "apart", desc := "(II)I" } : Jvm.MethodName)) ∈ lw_all := lw_g (lw_at lw_m5 84 rfl) rfl
theorem q1152 : (Jvm.Cond.code ({ cls := "ReasonCloser", name := "apart", desc := "(II)I" } : Jvm.MethodName) prog_1_method_31_code (5 : Nat) (Option.some Jvm.ClassFile.FieldType.int)) ∈ lw_all := lw_g (lw_at lw_m5 85 rfl) rfl
theorem q1154 : (Jvm.Cond.instanceMethod ({ cls := "ReasonCloser", name := "reasons", desc := "(II)I" } : Jvm.MethodName)) ∈ lw_all := lw_g (lw_at lw_m5 87 rfl) rfl
theorem q1155 : (Jvm.Cond.selects "ReasonCloser" ({ cls := "ReasonCloser", name := "reasons", desc := "(II)I" } : Jvm.MethodName) ({ cls := "ReasonCloser", name := "reasons", desc := "(II)I" } : Jvm.MethodName)) ∈ lw_all := lw_g (lw_at lw_m5 88 rfl) rfl
theorem q1156 : (Jvm.Cond.code ({ cls := "ReasonCloser", name := "reasons", desc := "(II)I" } : Jvm.MethodName) prog_1_method_33_code (4 : Nat) (Option.some Jvm.ClassFile.FieldType.int)) ∈ lw_all := lw_g (lw_at lw_m5 89 rfl) rfl
theorem q1157 : (Jvm.Cond.methodLink "ReasonCloser" (267 : Nat) ({ cls := "ReasonCloser", name := "why", desc := "(II)I" } : Jvm.MethodName)) ∈ lw_all := lw_g (lw_at lw_m5 90 rfl) rfl
theorem q1158 : (Jvm.Cond.privateMethod ({ cls := "ReasonCloser", name := "why", desc := "(II)I" } : Jvm.MethodName)) ∈ lw_tbl := lw_at lw_m5 91 rfl
theorem q1159 : (Jvm.Cond.instanceMethod ({ cls := "ReasonCloser", name := "why", desc := "(II)I" } : Jvm.MethodName)) ∈ lw_all := lw_g (lw_at lw_m5 92 rfl) rfl
theorem q1160 : (Jvm.Cond.code ({ cls := "ReasonCloser", name := "why", desc := "(II)I" } : Jvm.MethodName) prog_1_method_32_code (3 : Nat) (Option.some Jvm.ClassFile.FieldType.int)) ∈ lw_all := lw_g (lw_at lw_m5 93 rfl) rfl
theorem q1161 : (Jvm.Cond.methodLink "ReasonCloser" (270 : Nat) ({ cls := "ReasonCloser$Reasons", name := "of", desc := "(II)I" } : Jvm.MethodName)) ∈ lw_all := lw_g (lw_at lw_m5 94 rfl) rfl
theorem q1181 : (Jvm.Cond.instanceMethod ({ cls := "ReasonCloser", name := "pruned", desc := "(II)I" } : Jvm.MethodName)) ∈ lw_all := lw_g (lw_at lw_m5 114 rfl) rfl
theorem q1182 : (Jvm.Cond.selects "ReasonCloser" ({ cls := "ReasonCloser", name := "pruned", desc := "(II)I" } : Jvm.MethodName) ({ cls := "ReasonCloser", name := "pruned", desc := "(II)I" } : Jvm.MethodName)) ∈ lw_all := lw_g (lw_at lw_m5 115 rfl) rfl
theorem q1183 : (Jvm.Cond.code ({ cls := "ReasonCloser", name := "pruned", desc := "(II)I" } : Jvm.MethodName) prog_1_method_34_code (6 : Nat) (Option.some Jvm.ClassFile.FieldType.int)) ∈ lw_all := lw_g (lw_at lw_m5 116 rfl) rfl
theorem q1185 : (Jvm.Cond.instanceMethod ({ cls := "ReasonCloser", name := "fewest", desc := "(II)I" } : Jvm.MethodName)) ∈ lw_all := lw_g (lw_at lw_m5 118 rfl) rfl
theorem q1186 : (Jvm.Cond.selects "ReasonCloser" ({ cls := "ReasonCloser", name := "fewest", desc := "(II)I" } : Jvm.MethodName) ({ cls := "ReasonCloser", name := "fewest", desc := "(II)I" } : Jvm.MethodName)) ∈ lw_all := lw_g (lw_at lw_m5 119 rfl) rfl
theorem q1187 : (Jvm.Cond.code ({ cls := "ReasonCloser", name := "fewest", desc := "(II)I" } : Jvm.MethodName) prog_1_method_36_code (4 : Nat) (Option.some Jvm.ClassFile.FieldType.int)) ∈ lw_all := lw_g (lw_at lw_m5 120 rfl) rfl
theorem q1188 : (Jvm.Cond.static ({ cls := "ReasonCloser", name := "lambda$fewest$0", desc := "(IILReasonCloser$Closed;)Z" } : Jvm.MethodName)) ∈ lw_all := lw_g (lw_at lw_m5 121 rfl) rfl
theorem q1189 : (Jvm.Cond.code ({ cls := "ReasonCloser", name := "lambda$fewest$0", desc := "(IILReasonCloser$Closed;)Z" } : Jvm.MethodName) prog_1_method_71_code (3 : Nat) (Option.some Jvm.ClassFile.FieldType.boolean)) ∈ lw_all := lw_g (lw_at lw_m5 122 rfl) rfl
theorem q1190 : (Jvm.Cond.methodLink "ReasonCloser" (285 : Nat) ({ cls := "ReasonCloser", name := "fewestBy", desc := "(LReasonCloser$Asked;)I" } : Jvm.MethodName)) ∈ lw_all := lw_g (lw_at lw_m5 123 rfl) rfl
theorem q1191 : (Jvm.Cond.privateMethod ({ cls := "ReasonCloser", name := "fewestBy", desc := "(LReasonCloser$Asked;)I" } : Jvm.MethodName)) ∈ lw_tbl := lw_at lw_m5 124 rfl
theorem q1192 : (Jvm.Cond.instanceMethod ({ cls := "ReasonCloser", name := "fewestBy", desc := "(LReasonCloser$Asked;)I" } : Jvm.MethodName)) ∈ lw_all := lw_g (lw_at lw_m5 125 rfl) rfl
theorem q1193 : (Jvm.Cond.code ({ cls := "ReasonCloser", name := "fewestBy", desc := "(LReasonCloser$Asked;)I" } : Jvm.MethodName) prog_1_method_35_code (4 : Nat) (Option.some Jvm.ClassFile.FieldType.int)) ∈ lw_all := lw_g (lw_at lw_m5 126 rfl) rfl
theorem q1194 : (Jvm.Cond.methodLink "ReasonCloser" (273 : Nat) ({ cls := "java/lang/Integer", name := "bitCount", desc := "(I)I" } : Jvm.MethodName)) ∈ lw_all := lw_g (lw_at lw_m5 127 rfl) rfl
theorem q1200 : (Jvm.Cond.interfaceEntry "ReasonCloser" (276 : Nat)) ∈ lw_tbl := lw_at lw_m5 133 rfl
theorem q1201 : (Jvm.Cond.methodLink "ReasonCloser" (276 : Nat) ({ cls := "ReasonCloser$Asked", name := "holds", desc := "(LReasonCloser$Closed;)Z" } : Jvm.MethodName)) ∈ lw_all := lw_g (lw_at lw_m5 134 rfl) rfl
theorem q1205 : (Jvm.Cond.instanceMethod ({ cls := "ReasonCloser", name := "proves", desc := "(III)I" } : Jvm.MethodName)) ∈ lw_all := lw_g (lw_at lw_m5 138 rfl) rfl
theorem q1206 : (Jvm.Cond.selects "ReasonCloser" ({ cls := "ReasonCloser", name := "proves", desc := "(III)I" } : Jvm.MethodName) ({ cls := "ReasonCloser", name := "proves", desc := "(III)I" } : Jvm.MethodName)) ∈ lw_all := lw_g (lw_at lw_m5 139 rfl) rfl
theorem q1207 : (Jvm.Cond.code ({ cls := "ReasonCloser", name := "proves", desc := "(III)I" } : Jvm.MethodName) prog_1_method_37_code (4 : Nat) (Option.some Jvm.ClassFile.FieldType.int)) ∈ lw_all := lw_g (lw_at lw_m5 140 rfl) rfl
theorem q1209 : (Jvm.Cond.instanceMethod ({ cls := "ReasonCloser", name := "since", desc := "(II)I" } : Jvm.MethodName)) ∈ lw_all := lw_g (lw_at lw_m5 142 rfl) rfl
theorem q1210 : (Jvm.Cond.selects "ReasonCloser" ({ cls := "ReasonCloser", name := "since", desc := "(II)I" } : Jvm.MethodName) ({ cls := "ReasonCloser", name := "since", desc := "(II)I" } : Jvm.MethodName)) ∈ lw_all := lw_g (lw_at lw_m5 143 rfl) rfl
theorem q1211 : (Jvm.Cond.code ({ cls := "ReasonCloser", name := "since", desc := "(II)I" } : Jvm.MethodName) prog_1_method_38_code (5 : Nat) (Option.some Jvm.ClassFile.FieldType.int)) ∈ lw_all := lw_g (lw_at lw_m5 144 rfl) rfl
theorem q1213 : (Jvm.Cond.instanceMethod ({ cls := "ReasonCloser", name := "needed", desc := "(II)I" } : Jvm.MethodName)) ∈ lw_all := lw_g (lw_at lw_m5 146 rfl) rfl
theorem q1214 : (Jvm.Cond.selects "ReasonCloser" ({ cls := "ReasonCloser", name := "needed", desc := "(II)I" } : Jvm.MethodName) ({ cls := "ReasonCloser", name := "needed", desc := "(II)I" } : Jvm.MethodName)) ∈ lw_all := lw_g (lw_at lw_m5 147 rfl) rfl
theorem q1215 : (Jvm.Cond.code ({ cls := "ReasonCloser", name := "needed", desc := "(II)I" } : Jvm.MethodName) prog_1_method_39_code (6 : Nat) (Option.some Jvm.ClassFile.FieldType.int)) ∈ lw_all := lw_g (lw_at lw_m5 148 rfl) rfl
theorem q1217 : (Jvm.Cond.instanceMethod ({ cls := "ReasonCloser", name := "many", desc := "(II)I" } : Jvm.MethodName)) ∈ lw_all := lw_g (lw_at lw_m5 150 rfl) rfl
theorem q1218 : (Jvm.Cond.selects "ReasonCloser" ({ cls := "ReasonCloser", name := "many", desc := "(II)I" } : Jvm.MethodName) ({ cls := "ReasonCloser", name := "many", desc := "(II)I" } : Jvm.MethodName)) ∈ lw_all := lw_g (lw_at lw_m5 151 rfl) rfl
theorem q1219 : (Jvm.Cond.code ({ cls := "ReasonCloser", name := "many", desc := "(II)I" } : Jvm.MethodName) prog_1_method_41_code (6 : Nat) (Option.some Jvm.ClassFile.FieldType.int)) ∈ lw_all := lw_g (lw_at lw_m5 152 rfl) rfl
theorem q1220 : (Jvm.Cond.methodLink "ReasonCloser" (289 : Nat) ({ cls := "ReasonCloser", name := "isLeast", desc := "(I)Z" } : Jvm.MethodName)) ∈ lw_all := lw_g (lw_at lw_m5 153 rfl) rfl
theorem q1221 : (Jvm.Cond.privateMethod ({ cls := "ReasonCloser", name := "isLeast", desc := "(I)Z" } : Jvm.MethodName)) ∈ lw_tbl := lw_at lw_m5 154 rfl
theorem q1222 : (Jvm.Cond.instanceMethod ({ cls := "ReasonCloser", name := "isLeast", desc := "(I)Z" } : Jvm.MethodName)) ∈ lw_all := lw_g (lw_at lw_m5 155 rfl) rfl
theorem q1223 : (Jvm.Cond.code ({ cls := "ReasonCloser", name := "isLeast", desc := "(I)Z" } : Jvm.MethodName) prog_1_method_40_code (3 : Nat) (Option.some Jvm.ClassFile.FieldType.boolean)) ∈ lw_all := lw_g (lw_at lw_m5 156 rfl) rfl
theorem q1225 : (Jvm.Cond.instanceMethod ({ cls := "ReasonCloser", name := "base", desc := "()I" } : Jvm.MethodName)) ∈ lw_all := lw_g (lw_at lw_m5 158 rfl) rfl
theorem q1226 : (Jvm.Cond.selects "ReasonCloser" ({ cls := "ReasonCloser", name := "base", desc := "()I" } : Jvm.MethodName) ({ cls := "ReasonCloser", name := "base", desc := "()I" } : Jvm.MethodName)) ∈ lw_all := lw_g (lw_at lw_m5 159 rfl) rfl
theorem q1227 : (Jvm.Cond.code ({ cls := "ReasonCloser", name := "base", desc := "()I" } : Jvm.MethodName) prog_1_method_42_code (4 : Nat) (Option.some Jvm.ClassFile.FieldType.int)) ∈ lw_all := lw_g (lw_at lw_m5 160 rfl) rfl
theorem q1229 : (Jvm.Cond.instanceMethod ({ cls := "ReasonCloser", name := "core", desc := "()I" } : Jvm.MethodName)) ∈ lw_all := lw_g (lw_at lw_m5 162 rfl) rfl
theorem q1230 : (Jvm.Cond.selects "ReasonCloser" ({ cls := "ReasonCloser", name := "core", desc := "()I" } : Jvm.MethodName) ({ cls := "ReasonCloser", name := "core", desc := "()I" } : Jvm.MethodName)) ∈ lw_all := lw_g (lw_at lw_m5 163 rfl) rfl
theorem q1231 : (Jvm.Cond.code ({ cls := "ReasonCloser", name := "core", desc := "()I" } : Jvm.MethodName) prog_1_method_43_code (1 : Nat) (Option.some Jvm.ClassFile.FieldType.int)) ∈ lw_all := lw_g (lw_at lw_m5 164 rfl) rfl
theorem q1232 : (Jvm.Cond.privateMethod ({ cls := "ReasonCloser", name := "lambda$core$1", desc := "(LReasonCloser$Closed;)Z" } : Jvm.MethodName)) ∈ lw_tbl := lw_at lw_m5 165 rfl
theorem q1233 : (Jvm.Cond.instanceMethod ({ cls := "ReasonCloser", name := "lambda$core$1", desc := "(LReasonCloser$Closed;)Z" } : Jvm.MethodName)) ∈ lw_all := lw_g (lw_at lw_m5 166 rfl) rfl
theorem q1234 : (Jvm.Cond.code ({ cls := "ReasonCloser", name := "lambda$core$1", desc := "(LReasonCloser$Closed;)Z" } : Jvm.MethodName) prog_1_method_70_code (2 : Nat) (Option.some Jvm.ClassFile.FieldType.boolean)) ∈ lw_all := lw_g (lw_at lw_m5 167 rfl) rfl
theorem q1236 : (Jvm.Cond.instanceMethod ({ cls := "ReasonCloser", name := "level", desc := "(II)I" } : Jvm.MethodName)) ∈ lw_all := lw_g (lw_at lw_m5 169 rfl) rfl
theorem q1237 : (Jvm.Cond.selects "ReasonCloser" ({ cls := "ReasonCloser", name := "level", desc := "(II)I" } : Jvm.MethodName) ({ cls := "ReasonCloser", name := "level", desc := "(II)I" } : Jvm.MethodName)) ∈ lw_all := lw_g (lw_at lw_m5 170 rfl) rfl
theorem q1238 : (Jvm.Cond.code ({ cls := "ReasonCloser", name := "level", desc := "(II)I" } : Jvm.MethodName) prog_1_method_46_code (7 : Nat) (Option.some Jvm.ClassFile.FieldType.int)) ∈ lw_all := lw_g (lw_at lw_m5 171 rfl) rfl
theorem q1239 : (Jvm.Cond.methodLink "ReasonCloser" (304 : Nat) ({ cls := "ReasonCloser", name := "bySames", desc := "(LReasonCloser$Groups;)V" } : Jvm.MethodName)) ∈ lw_all := lw_g (lw_at lw_m5 172 rfl) rfl
theorem q1240 : (Jvm.Cond.privateMethod ({ cls := "ReasonCloser", name := "bySames", desc := "(LReasonCloser$Groups;)V" } : Jvm.MethodName)) ∈ lw_tbl := lw_at lw_m5 173 rfl
theorem q1241 : (Jvm.Cond.instanceMethod ({ cls := "ReasonCloser", name := "bySames", desc := "(LReasonCloser$Groups;)V" } : Jvm.MethodName)) ∈ lw_all := lw_g (lw_at lw_m5 174 rfl) rfl
theorem q1242 : (Jvm.Cond.code ({ cls := "ReasonCloser", name := "bySames", desc := "(LReasonCloser$Groups;)V" } : Jvm.MethodName) prog_1_method_45_code (3 : Nat) (Option.none : Option Jvm.ClassFile.FieldType)) ∈ lw_all := lw_g (lw_at lw_m5 175 rfl) rfl
theorem q1243 : (Jvm.Cond.methodLink "ReasonCloser" (300 : Nat) ({ cls := "ReasonCloser$Groups", name := "unites", desc := "(II)V" } : Jvm.MethodName)) ∈ lw_all := lw_g (lw_at lw_m5 176 rfl) rfl
theorem q1244 : (Jvm.Cond.methodLink "ReasonCloser" (307 : Nat) ({ cls := "ReasonCloser$Groups", name := "like", desc := "(LReasonCloser$Groups;)V" } : Jvm.MethodName)) ∈ lw_all := lw_g (lw_at lw_m5 177 rfl) rfl
theorem q1245 : (Jvm.Cond.methodLink "ReasonCloser" (308 : Nat) ({ cls := "ReasonCloser", name := "follow", desc := "(LReasonCloser$Groups;II)Z" } : Jvm.MethodName)) ∈ lw_all := lw_g (lw_at lw_m5 178 rfl) rfl
theorem q1246 : (Jvm.Cond.privateMethod ({ cls := "ReasonCloser", name := "follow", desc := "(LReasonCloser$Groups;II)Z" } : Jvm.MethodName)) ∈ lw_tbl := lw_at lw_m5 179 rfl
theorem q1247 : (Jvm.Cond.instanceMethod ({ cls := "ReasonCloser", name := "follow", desc := "(LReasonCloser$Groups;II)Z" } : Jvm.MethodName)) ∈ lw_all := lw_g (lw_at lw_m5 180 rfl) rfl
theorem q1248 : (Jvm.Cond.code ({ cls := "ReasonCloser", name := "follow", desc := "(LReasonCloser$Groups;II)Z" } : Jvm.MethodName) prog_1_method_44_code (7 : Nat) (Option.some Jvm.ClassFile.FieldType.boolean)) ∈ lw_all := lw_g (lw_at lw_m5 181 rfl) rfl
theorem q1250 : (Jvm.Cond.instanceMethod ({ cls := "ReasonCloser", name := "cost", desc := "(II)I" } : Jvm.MethodName)) ∈ lw_all := lw_g (lw_at lw_m5 183 rfl) rfl
theorem q1251 : (Jvm.Cond.selects "ReasonCloser" ({ cls := "ReasonCloser", name := "cost", desc := "(II)I" } : Jvm.MethodName) ({ cls := "ReasonCloser", name := "cost", desc := "(II)I" } : Jvm.MethodName)) ∈ lw_all := lw_g (lw_at lw_m5 184 rfl) rfl
theorem q1252 : (Jvm.Cond.code ({ cls := "ReasonCloser", name := "cost", desc := "(II)I" } : Jvm.MethodName) prog_1_method_52_code (4 : Nat) (Option.some Jvm.ClassFile.FieldType.int)) ∈ lw_all := lw_g (lw_at lw_m5 185 rfl) rfl
theorem q1253 : (Jvm.Cond.methodLink "ReasonCloser" (332 : Nat) ({ cls := "ReasonCloser", name := "laysCosts", desc := "()V" } : Jvm.MethodName)) ∈ lw_all := lw_g (lw_at lw_m5 186 rfl) rfl
theorem q1254 : (Jvm.Cond.privateMethod ({ cls := "ReasonCloser", name := "laysCosts", desc := "()V" } : Jvm.MethodName)) ∈ lw_tbl := lw_at lw_m5 187 rfl
theorem q1255 : (Jvm.Cond.instanceMethod ({ cls := "ReasonCloser", name := "laysCosts", desc := "()V" } : Jvm.MethodName)) ∈ lw_all := lw_g (lw_at lw_m5 188 rfl) rfl
theorem q1256 : (Jvm.Cond.code ({ cls := "ReasonCloser", name := "laysCosts", desc := "()V" } : Jvm.MethodName) prog_1_method_51_code (4 : Nat) (Option.none : Option Jvm.ClassFile.FieldType)) ∈ lw_all := lw_g (lw_at lw_m5 189 rfl) rfl
theorem q1257 : (Jvm.Cond.constantLong "ReasonCloser" (312 : Nat) (1000000000 : Int64)) ∈ lw_all := lw_g (lw_at lw_m5 190 rfl) rfl
theorem q1258 : (Jvm.Cond.methodLink "ReasonCloser" (325 : Nat) ({ cls := "ReasonCloser", name := "laysEdges", desc := "()V" } : Jvm.MethodName)) ∈ lw_all := lw_g (lw_at lw_m5 191 rfl) rfl
theorem q1259 : (Jvm.Cond.privateMethod ({ cls := "ReasonCloser", name := "laysEdges", desc := "()V" } : Jvm.MethodName)) ∈ lw_tbl := lw_at lw_m5 192 rfl
theorem q1260 : (Jvm.Cond.instanceMethod ({ cls := "ReasonCloser", name := "laysEdges", desc := "()V" } : Jvm.MethodName)) ∈ lw_all := lw_g (lw_at lw_m5 193 rfl) rfl
theorem q1261 : (Jvm.Cond.code ({ cls := "ReasonCloser", name := "laysEdges", desc := "()V" } : Jvm.MethodName) prog_1_method_49_code (5 : Nat) (Option.none : Option Jvm.ClassFile.FieldType)) ∈ lw_all := lw_g (lw_at lw_m5 194 rfl) rfl
theorem q1262 : (Jvm.Cond.methodLink "ReasonCloser" (318 : Nat) ({ cls := "ReasonCloser", name := "isSame", desc := "(II)Z" } : Jvm.MethodName)) ∈ lw_all := lw_g (lw_at lw_m5 195 rfl) rfl
theorem q1263 : (Jvm.Cond.privateMethod ({ cls := "ReasonCloser", name := "isSame", desc := "(II)Z" } : Jvm.MethodName)) ∈ lw_tbl := lw_at lw_m5 196 rfl
theorem q1264 : (Jvm.Cond.instanceMethod ({ cls := "ReasonCloser", name := "isSame", desc := "(II)Z" } : Jvm.MethodName)) ∈ lw_all := lw_g (lw_at lw_m5 197 rfl) rfl
theorem q1265 : (Jvm.Cond.code ({ cls := "ReasonCloser", name := "isSame", desc := "(II)Z" } : Jvm.MethodName) prog_1_method_47_code (5 : Nat) (Option.some Jvm.ClassFile.FieldType.boolean)) ∈ lw_all := lw_g (lw_at lw_m5 198 rfl) rfl
theorem q1266 : (Jvm.Cond.methodLink "ReasonCloser" (321 : Nat) ({ cls := "ReasonCloser", name := "partsCost", desc := "(II)J" } : Jvm.MethodName)) ∈ lw_all := lw_g (lw_at lw_m5 199 rfl) rfl
theorem q1267 : (Jvm.Cond.privateMethod ({ cls := "ReasonCloser", name := "partsCost", desc := "(II)J" } : Jvm.MethodName)) ∈ lw_tbl := lw_at lw_m5 200 rfl
theorem q1268 : (Jvm.Cond.instanceMethod ({ cls := "ReasonCloser", name := "partsCost", desc := "(II)J" } : Jvm.MethodName)) ∈ lw_all := lw_g (lw_at lw_m5 201 rfl) rfl
theorem q1269 : (Jvm.Cond.code ({ cls := "ReasonCloser", name := "partsCost", desc := "(II)J" } : Jvm.MethodName) prog_1_method_48_code (8 : Nat) (Option.some Jvm.ClassFile.FieldType.long)) ∈ lw_all := lw_g (lw_at lw_m5 202 rfl) rfl
theorem q1270 : (Jvm.Cond.methodLink "ReasonCloser" (314 : Nat) ({ cls := "java/lang/Math", name := "min", desc := "(JJ)J" } : Jvm.MethodName)) ∈ lw_all := lw_g (lw_at lw_m5 203 rfl) rfl
theorem q1273 : (Jvm.Cond.methodLink "ReasonCloser" (328 : Nat) ({ cls := "ReasonCloser", name := "spreads", desc := "([JJ)Z" } : Jvm.MethodName)) ∈ lw_all := lw_g (lw_at lw_m5 206 rfl) rfl
theorem q1274 : (Jvm.Cond.privateMethod ({ cls := "ReasonCloser", name := "spreads", desc := "([JJ)Z" } : Jvm.MethodName)) ∈ lw_tbl := lw_at lw_m5 207 rfl
theorem q1275 : (Jvm.Cond.instanceMethod ({ cls := "ReasonCloser", name := "spreads", desc := "([JJ)Z" } : Jvm.MethodName)) ∈ lw_all := lw_g (lw_at lw_m5 208 rfl) rfl
theorem q1276 : (Jvm.Cond.code ({ cls := "ReasonCloser", name := "spreads", desc := "([JJ)Z" } : Jvm.MethodName) prog_1_method_50_code (10 : Nat) (Option.some Jvm.ClassFile.FieldType.boolean)) ∈ lw_all := lw_g (lw_at lw_m5 209 rfl) rfl
theorem q1278 : (Jvm.Cond.instanceMethod ({ cls := "ReasonCloser", name := "way", desc := "(III)I" } : Jvm.MethodName)) ∈ lw_all := lw_g (lw_at lw_m5 211 rfl) rfl
theorem q1279 : (Jvm.Cond.selects "ReasonCloser" ({ cls := "ReasonCloser", name := "way", desc := "(III)I" } : Jvm.MethodName) ({ cls := "ReasonCloser", name := "way", desc := "(III)I" } : Jvm.MethodName)) ∈ lw_all := lw_g (lw_at lw_m5 212 rfl) rfl
theorem q1280 : (Jvm.Cond.code ({ cls := "ReasonCloser", name := "way", desc := "(III)I" } : Jvm.MethodName) prog_1_method_53_code (8 : Nat) (Option.some Jvm.ClassFile.FieldType.int)) ∈ lw_all := lw_g (lw_at lw_m5 213 rfl) rfl
theorem q1281 : (Jvm.Cond.methodLink "ReasonCloser" (335 : Nat) ({ cls := "ReasonCloser", name := "weight", desc := "(IIZ)J" } : Jvm.MethodName)) ∈ lw_all := lw_g (lw_at lw_m5 214 rfl) rfl
theorem q1282 : (Jvm.Cond.privateMethod ({ cls := "ReasonCloser", name := "weight", desc := "(IIZ)J" } : Jvm.MethodName)) ∈ lw_tbl := lw_at lw_m5 215 rfl
theorem q1283 : (Jvm.Cond.instanceMethod ({ cls := "ReasonCloser", name := "weight", desc := "(IIZ)J" } : Jvm.MethodName)) ∈ lw_all := lw_g (lw_at lw_m5 216 rfl) rfl
theorem q1284 : (Jvm.Cond.code ({ cls := "ReasonCloser", name := "weight", desc := "(IIZ)J" } : Jvm.MethodName) prog_1_method_54_code (4 : Nat) (Option.some Jvm.ClassFile.FieldType.long)) ∈ lw_all := lw_g (lw_at lw_m5 217 rfl) rfl
theorem q1285 : (Jvm.Cond.constantLong "ReasonCloser" (339 : Nat) (10000000000000 : Int64)) ∈ lw_all := lw_g (lw_at lw_m5 218 rfl) rfl
theorem q1286 : (Jvm.Cond.constantLong "ReasonCloser" (344 : Nat) (100 : Int64)) ∈ lw_all := lw_g (lw_at lw_m5 219 rfl) rfl
theorem q1287 : (Jvm.Cond.methodLink "ReasonCloser" (341 : Nat) ({ cls := "ReasonCloser", name := "next", desc := "(IIZ)I" } : Jvm.MethodName)) ∈ lw_all := lw_g (lw_at lw_m5 220 rfl) rfl
theorem q1288 : (Jvm.Cond.privateMethod ({ cls := "ReasonCloser", name := "next", desc := "(IIZ)I" } : Jvm.MethodName)) ∈ lw_tbl := lw_at lw_m5 221 rfl
theorem q1289 : (Jvm.Cond.instanceMethod ({ cls := "ReasonCloser", name := "next", desc := "(IIZ)I" } : Jvm.MethodName)) ∈ lw_all := lw_g (lw_at lw_m5 222 rfl) rfl
theorem q1290 : (Jvm.Cond.code ({ cls := "ReasonCloser", name := "next", desc := "(IIZ)I" } : Jvm.MethodName) prog_1_method_55_code (5 : Nat) (Option.some Jvm.ClassFile.FieldType.int)) ∈ lw_all := lw_g (lw_at lw_m5 223 rfl) rfl
theorem q1292 : (Jvm.Cond.instanceMethod ({ cls := "ReasonCloser", name := "would", desc := "(III)I" } : Jvm.MethodName)) ∈ lw_all := lw_g (lw_at lw_m5 225 rfl) rfl
theorem q1293 : (Jvm.Cond.selects "ReasonCloser" ({ cls := "ReasonCloser", name := "would", desc := "(III)I" } : Jvm.MethodName) ({ cls := "ReasonCloser", name := "would", desc := "(III)I" } : Jvm.MethodName)) ∈ lw_all := lw_g (lw_at lw_m5 226 rfl) rfl
theorem q1294 : (Jvm.Cond.code ({ cls := "ReasonCloser", name := "would", desc := "(III)I" } : Jvm.MethodName) prog_1_method_57_code (5 : Nat) (Option.some Jvm.ClassFile.FieldType.int)) ∈ lw_all := lw_g (lw_at lw_m5 227 rfl) rfl
theorem q1295 : (Jvm.Cond.methodLink "ReasonCloser" (346 : Nat) ({ cls := "ReasonCloser", name := "with", desc := "(II)LReasonCloser$Closed;" } : Jvm.MethodName)) ∈ lw_all := lw_g (lw_at lw_m5 228 rfl) rfl
theorem q1296 : (Jvm.Cond.privateMethod ({ cls := "ReasonCloser", name := "with", desc := "(II)LReasonCloser$Closed;" } : Jvm.MethodName)) ∈ lw_tbl := lw_at lw_m5 229 rfl
theorem q1297 : (Jvm.Cond.instanceMethod ({ cls := "ReasonCloser", name := "with", desc := "(II)LReasonCloser$Closed;" } : Jvm.MethodName)) ∈ lw_all := lw_g (lw_at lw_m5 230 rfl) rfl
theorem q1298 : (Jvm.Cond.code ({ cls := "ReasonCloser", name := "with", desc := "(II)LReasonCloser$Closed;" } : Jvm.MethodName) prog_1_method_56_code (3 : Nat) (Option.some (Jvm.ClassFile.FieldType.object "ReasonCloser$Closed"))) ∈ lw_all := lw_g (lw_at lw_m5 231 rfl) rfl
theorem q1299 : (Jvm.Cond.methodLink "ReasonCloser" (350 : Nat) ({ cls := "ReasonCloser$Closed", name := "groups", desc := "()I" } : Jvm.MethodName)) ∈ lw_all := lw_g (lw_at lw_m5 232 rfl) rfl
theorem q1304 : (Jvm.Cond.instanceMethod ({ cls := "ReasonCloser", name := "next", desc := "(IIII)I" } : Jvm.MethodName)) ∈ lw_all := lw_g (lw_at lw_m5 237 rfl) rfl
theorem q1305 : (Jvm.Cond.selects "ReasonCloser" ({ cls := "ReasonCloser", name := "next", desc := "(IIII)I" } : Jvm.MethodName) ({ cls := "ReasonCloser", name := "next", desc := "(IIII)I" } : Jvm.MethodName)) ∈ lw_all := lw_g (lw_at lw_m5 238 rfl) rfl
theorem q1306 : (Jvm.Cond.code ({ cls := "ReasonCloser", name := "next", desc := "(IIII)I" } : Jvm.MethodName) prog_1_method_58_code (9 : Nat) (Option.some Jvm.ClassFile.FieldType.int)) ∈ lw_all := lw_g (lw_at lw_m5 239 rfl) rfl
theorem q1307 : (Jvm.Cond.methodLink "ReasonCloser" (351 : Nat) ({ cls := "ReasonCloser$Reasons", name := "trailed", desc := "()I" } : Jvm.MethodName)) ∈ lw_all := lw_g (lw_at lw_m6 0 rfl) rfl
theorem q1313 : (Jvm.Cond.methodLink "ReasonCloser" (354 : Nat) ({ cls := "ReasonCloser$Reasons", name := "goesBack", desc := "(I)V" } : Jvm.MethodName)) ∈ lw_all := lw_g (lw_at lw_m6 6 rfl) rfl
theorem q1329 : (Jvm.Cond.instanceMethod ({ cls := "ReasonCloser", name := "without", desc := "(II)I" } : Jvm.MethodName)) ∈ lw_all := lw_g (lw_at lw_m6 22 rfl) rfl
theorem q1330 : (Jvm.Cond.selects "ReasonCloser" ({ cls := "ReasonCloser", name := "without", desc := "(II)I" } : Jvm.MethodName) ({ cls := "ReasonCloser", name := "without", desc := "(II)I" } : Jvm.MethodName)) ∈ lw_all := lw_g (lw_at lw_m6 23 rfl) rfl
theorem q1331 : (Jvm.Cond.code ({ cls := "ReasonCloser", name := "without", desc := "(II)I" } : Jvm.MethodName) prog_1_method_59_code (4 : Nat) (Option.some Jvm.ClassFile.FieldType.int)) ∈ lw_all := lw_g (lw_at lw_m6 24 rfl) rfl
theorem q1333 : (Jvm.Cond.instanceMethod ({ cls := "ReasonCloser", name := "free", desc := "()I" } : Jvm.MethodName)) ∈ lw_all := lw_g (lw_at lw_m6 26 rfl) rfl
theorem q1334 : (Jvm.Cond.selects "ReasonCloser" ({ cls := "ReasonCloser", name := "free", desc := "()I" } : Jvm.MethodName) ({ cls := "ReasonCloser", name := "free", desc := "()I" } : Jvm.MethodName)) ∈ lw_all := lw_g (lw_at lw_m6 27 rfl) rfl
theorem q1335 : (Jvm.Cond.code ({ cls := "ReasonCloser", name := "free", desc := "()I" } : Jvm.MethodName) prog_1_method_60_code (4 : Nat) (Option.some Jvm.ClassFile.FieldType.int)) ∈ lw_all := lw_g (lw_at lw_m6 28 rfl) rfl
theorem q1337 : (Jvm.Cond.instanceMethod ({ cls := "ReasonCloser", name := "join", desc := "(II)I" } : Jvm.MethodName)) ∈ lw_all := lw_g (lw_at lw_m6 30 rfl) rfl
theorem q1338 : (Jvm.Cond.selects "ReasonCloser" ({ cls := "ReasonCloser", name := "join", desc := "(II)I" } : Jvm.MethodName) ({ cls := "ReasonCloser", name := "join", desc := "(II)I" } : Jvm.MethodName)) ∈ lw_all := lw_g (lw_at lw_m6 31 rfl) rfl
theorem q1339 : (Jvm.Cond.code ({ cls := "ReasonCloser", name := "join", desc := "(II)I" } : Jvm.MethodName) prog_1_method_62_code (3 : Nat) (Option.some Jvm.ClassFile.FieldType.int)) ∈ lw_all := lw_g (lw_at lw_m6 32 rfl) rfl
theorem q1340 : (Jvm.Cond.methodLink "ReasonCloser" (358 : Nat) ({ cls := "ReasonCloser", name := "acts", desc := "(I)V" } : Jvm.MethodName)) ∈ lw_all := lw_g (lw_at lw_m6 33 rfl) rfl
theorem q1341 : (Jvm.Cond.privateMethod ({ cls := "ReasonCloser", name := "acts", desc := "(I)V" } : Jvm.MethodName)) ∈ lw_tbl := lw_at lw_m6 34 rfl
theorem q1342 : (Jvm.Cond.instanceMethod ({ cls := "ReasonCloser", name := "acts", desc := "(I)V" } : Jvm.MethodName)) ∈ lw_all := lw_g (lw_at lw_m6 35 rfl) rfl
theorem q1343 : (Jvm.Cond.code ({ cls := "ReasonCloser", name := "acts", desc := "(I)V" } : Jvm.MethodName) prog_1_method_61_code (2 : Nat) (Option.none : Option Jvm.ClassFile.FieldType)) ∈ lw_all := lw_g (lw_at lw_m6 36 rfl) rfl
theorem q1344 : (Jvm.Cond.methodLink "ReasonCloser" (360 : Nat) ({ cls := "ReasonCloser$Fact", name := "<init>", desc := "(II)V" } : Jvm.MethodName)) ∈ lw_all := lw_g (lw_at lw_m6 37 rfl) rfl
theorem q1345 : (Jvm.Cond.interfaceEntry "ReasonCloser" (362 : Nat)) ∈ lw_tbl := lw_at lw_m6 38 rfl
theorem q1346 : (Jvm.Cond.methodLink "ReasonCloser" (362 : Nat) ({ cls := "java/util/List", name := "add", desc := "(Ljava/lang/Object;)Z" } : Jvm.MethodName)) ∈ lw_all := lw_g (lw_at lw_m6 39 rfl) rfl
theorem q1348 : (Jvm.Cond.instanceMethod ({ cls := "ReasonCloser", name := "part", desc := "(II)I" } : Jvm.MethodName)) ∈ lw_all := lw_g (lw_at lw_m6 41 rfl) rfl
theorem q1349 : (Jvm.Cond.selects "ReasonCloser" ({ cls := "ReasonCloser", name := "part", desc := "(II)I" } : Jvm.MethodName) ({ cls := "ReasonCloser", name := "part", desc := "(II)I" } : Jvm.MethodName)) ∈ lw_all := lw_g (lw_at lw_m6 42 rfl) rfl
theorem q1350 : (Jvm.Cond.code ({ cls := "ReasonCloser", name := "part", desc := "(II)I" } : Jvm.MethodName) prog_1_method_63_code (3 : Nat) (Option.some Jvm.ClassFile.FieldType.int)) ∈ lw_all := lw_g (lw_at lw_m6 43 rfl) rfl
theorem q1352 : (Jvm.Cond.instanceMethod ({ cls := "ReasonCloser", name := "make", desc := "(IIII)I" } : Jvm.MethodName)) ∈ lw_all := lw_g (lw_at lw_m6 45 rfl) rfl
theorem q1353 : (Jvm.Cond.selects "ReasonCloser" ({ cls := "ReasonCloser", name := "make", desc := "(IIII)I" } : Jvm.MethodName) ({ cls := "ReasonCloser", name := "make", desc := "(IIII)I" } : Jvm.MethodName)) ∈ lw_all := lw_g (lw_at lw_m6 46 rfl) rfl
theorem q1354 : (Jvm.Cond.code ({ cls := "ReasonCloser", name := "make", desc := "(IIII)I" } : Jvm.MethodName) prog_1_method_64_code (9 : Nat) (Option.some Jvm.ClassFile.FieldType.int)) ∈ lw_all := lw_g (lw_at lw_m6 47 rfl) rfl
theorem q1355 : (Jvm.Cond.methodLink "ReasonCloser" (366 : Nat) ({ cls := "ReasonCloser$Term", name := "<init>", desc := "(LReasonCloser$Function;I[I)V" } : Jvm.MethodName)) ∈ lw_all := lw_g (lw_at lw_m6 48 rfl) rfl
theorem q1359 : (Jvm.Cond.methodLink "ReasonCloser" (369 : Nat) ({ cls := "ReasonCloser", name := "lays", desc := "()V" } : Jvm.MethodName)) ∈ lw_all := lw_g (lw_at lw_m6 52 rfl) rfl
theorem q1360 : (Jvm.Cond.privateMethod ({ cls := "ReasonCloser", name := "lays", desc := "()V" } : Jvm.MethodName)) ∈ lw_tbl := lw_at lw_m6 53 rfl
theorem q1361 : (Jvm.Cond.instanceMethod ({ cls := "ReasonCloser", name := "lays", desc := "()V" } : Jvm.MethodName)) ∈ lw_all := lw_g (lw_at lw_m6 54 rfl) rfl
theorem q1362 : (Jvm.Cond.code ({ cls := "ReasonCloser", name := "lays", desc := "()V" } : Jvm.MethodName) prog_1_method_65_code (2 : Nat) (Option.none : Option Jvm.ClassFile.FieldType)) ∈ lw_all := lw_g (lw_at lw_m6 55 rfl) rfl
theorem q1364 : (Jvm.Cond.instanceMethod ({ cls := "ReasonCloser", name := "undo", desc := "()Z" } : Jvm.MethodName)) ∈ lw_all := lw_g (lw_at lw_m6 57 rfl) rfl
theorem q1365 : (Jvm.Cond.selects "ReasonCloser" ({ cls := "ReasonCloser", name := "undo", desc := "()Z" } : Jvm.MethodName) ({ cls := "ReasonCloser", name := "undo", desc := "()Z" } : Jvm.MethodName)) ∈ lw_all := lw_g (lw_at lw_m6 58 rfl) rfl
theorem q1366 : (Jvm.Cond.code ({ cls := "ReasonCloser", name := "undo", desc := "()Z" } : Jvm.MethodName) prog_1_method_66_code (1 : Nat) (Option.some Jvm.ClassFile.FieldType.boolean)) ∈ lw_all := lw_g (lw_at lw_m6 59 rfl) rfl
theorem q1367 : (Jvm.Cond.interfaceEntry "ReasonCloser" (373 : Nat)) ∈ lw_tbl := lw_at lw_m6 60 rfl
theorem q1368 : (Jvm.Cond.methodLink "ReasonCloser" (373 : Nat) ({ cls := "java/util/List", name := "remove", desc := "(I)Ljava/lang/Object;" } : Jvm.MethodName)) ∈ lw_all := lw_g (lw_at lw_m6 61 rfl) rfl
theorem q1382 : (Jvm.Cond.instanceMethod ({ cls := "ReasonCloser", name := "size", desc := "()I" } : Jvm.MethodName)) ∈ lw_all := lw_g (lw_at lw_m6 75 rfl) rfl
theorem q1383 : (Jvm.Cond.selects "ReasonCloser" ({ cls := "ReasonCloser", name := "size", desc := "()I" } : Jvm.MethodName) ({ cls := "ReasonCloser", name := "size", desc := "()I" } : Jvm.MethodName)) ∈ lw_all := lw_g (lw_at lw_m6 76 rfl) rfl
theorem q1384 : (Jvm.Cond.code ({ cls := "ReasonCloser", name := "size", desc := "()I" } : Jvm.MethodName) prog_1_method_68_code (1 : Nat) (Option.some Jvm.ClassFile.FieldType.int)) ∈ lw_all := lw_g (lw_at lw_m6 77 rfl) rfl
theorem q1386 : (Jvm.Cond.instanceMethod ({ cls := "ReasonCloser", name := "trouble", desc := "()I" } : Jvm.MethodName)) ∈ lw_all := lw_g (lw_at lw_m6 79 rfl) rfl
theorem q1387 : (Jvm.Cond.selects "ReasonCloser" ({ cls := "ReasonCloser", name := "trouble", desc := "()I" } : Jvm.MethodName) ({ cls := "ReasonCloser", name := "trouble", desc := "()I" } : Jvm.MethodName)) ∈ lw_all := lw_g (lw_at lw_m6 80 rfl) rfl
theorem q1388 : (Jvm.Cond.code ({ cls := "ReasonCloser", name := "trouble", desc := "()I" } : Jvm.MethodName) prog_1_method_69_code (1 : Nat) (Option.some Jvm.ClassFile.FieldType.int)) ∈ lw_all := lw_g (lw_at lw_m6 81 rfl) rfl
theorem q1394 : (Jvm.Cond.instanceMethod ({ cls := "ReasonCloser", name := "named", desc := "(I)I" } : Jvm.MethodName)) ∈ lw_all := lw_g (lw_at lw_m6 87 rfl) rfl
theorem q1395 : (Jvm.Cond.selects "ReasonCloser" ({ cls := "ReasonCloser", name := "named", desc := "(I)I" } : Jvm.MethodName) ({ cls := "ReasonCloser", name := "named", desc := "(I)I" } : Jvm.MethodName)) ∈ lw_all := lw_g (lw_at lw_m6 88 rfl) rfl
theorem q1396 : (Jvm.Cond.code ({ cls := "ReasonCloser", name := "named", desc := "(I)I" } : Jvm.MethodName) prog_1_method_67_code (8 : Nat) (Option.some Jvm.ClassFile.FieldType.int)) ∈ lw_all := lw_g (lw_at lw_m6 89 rfl) rfl
theorem q1397 : (Jvm.Cond.methodLink "ReasonCloser" (377 : Nat) ({ cls := "ReasonCloser$Book", name := "term", desc := "(J)I" } : Jvm.MethodName)) ∈ lw_all := lw_g (lw_at lw_m6 90 rfl) rfl
theorem q1398 : (Jvm.Cond.classLink "ReasonCloser" (381 : Nat) "java/util/NoSuchElementException") ∈ lw_all := lw_g (lw_at lw_m6 91 rfl) rfl
theorem q1399 : (Jvm.Cond.methodLink "ReasonCloser" (383 : Nat) ({ cls := "java/util/NoSuchElementException", name := "<init>", desc := "()V" } : Jvm.MethodName)) ∈ lw_all := lw_g (lw_at lw_m6 92 rfl) rfl
theorem q1989 : (Jvm.Cond.castable "ReasonCloser" "java/lang/Object") ∈ lw_tbl := lw_at lw_m8 202 rfl
theorem q2017 : (Jvm.Cond.stringRef "ReasonCloser" (386 : Nat) "fun") ∈ lw_tbl := lw_at lw_m8 230 rfl
theorem q2018 : (Jvm.Cond.stringRef "ReasonCloser" (388 : Nat) "term") ∈ lw_tbl := lw_at lw_m8 231 rfl
theorem q2019 : (Jvm.Cond.stringRef "ReasonCloser" (389 : Nat) "same") ∈ lw_tbl := lw_at lw_m8 232 rfl
theorem q2020 : (Jvm.Cond.stringRef "ReasonCloser" (390 : Nat) "diff") ∈ lw_tbl := lw_at lw_m8 233 rfl
theorem q129 : (Jvm.Cond.initialized "ReasonCloser$Function") ∈ lw_all := lw_g (lw_at lw_m1 22 rfl) rfl
theorem q711 : (Jvm.Cond.instantiable "ReasonCloser$Function" (2 : Nat)) ∈ lw_all := lw_g (lw_at lw_m3 124 rfl) rfl
theorem q713 : (Jvm.Cond.instanceMethod ({ cls := "ReasonCloser$Function", name := "<init>", desc := "(JI)V" } : Jvm.MethodName)) ∈ lw_all := lw_g (lw_at lw_m3 126 rfl) rfl
theorem q714 : (Jvm.Cond.code ({ cls := "ReasonCloser$Function", name := "<init>", desc := "(JI)V" } : Jvm.MethodName) prog_8_method_1_code (4 : Nat) (Option.none : Option Jvm.ClassFile.FieldType)) ∈ lw_all := lw_g (lw_at lw_m3 127 rfl) rfl
theorem q715 : (Jvm.Cond.methodLink "ReasonCloser$Function" (1 : Nat) ({ cls := "java/lang/Object", name := "<init>", desc := "()V" } : Jvm.MethodName)) ∈ lw_all := lw_g (lw_at lw_m3 128 rfl) rfl
theorem q716 : (Jvm.Cond.fieldLink "ReasonCloser$Function" (7 : Nat) "ReasonCloser$Function" "name" "J") ∈ lw_all := lw_g (lw_at lw_m3 129 rfl) rfl
theorem q718 : (Jvm.Cond.fieldLink "ReasonCloser$Function" (13 : Nat) "ReasonCloser$Function" "takes" "I") ∈ lw_all := lw_g (lw_at lw_m3 131 rfl) rfl
theorem q721 : (Jvm.Cond.laysFinal "ReasonCloser$Function" "ReasonCloser$Function" "name" "J") ∈ lw_all := lw_g (lw_at lw_m3 134 rfl) rfl
theorem q722 : (Jvm.Cond.soleField "ReasonCloser$Function" "name") ∈ lw_all := lw_g (lw_at lw_m3 135 rfl) rfl
theorem q723 : (Jvm.Cond.laysFinal "ReasonCloser$Function" "ReasonCloser$Function" "takes" "I") ∈ lw_all := lw_g (lw_at lw_m3 136 rfl) rfl
theorem q724 : (Jvm.Cond.soleField "ReasonCloser$Function" "takes") ∈ lw_all := lw_g (lw_at lw_m3 137 rfl) rfl
theorem q725 : (Jvm.Cond.superclass "ReasonCloser$Function" "java/lang/Object") ∈ lw_all := lw_g (lw_at lw_m3 138 rfl) rfl
theorem q768 : (Jvm.Cond.selects "ReasonCloser$Function" ({ cls := "java/lang/Object", name := "getClass", desc := "()Ljava/lang/Class;" } : Jvm.MethodName) ({ cls := "java/lang/Object", name := "getClass", desc := "()Ljava/lang/Class;" } : Jvm.MethodName)) ∈ lw_all := lw_g (lw_at lw_m3 181 rfl) rfl
theorem q1998 : (Jvm.Cond.castable "ReasonCloser$Function" "java/lang/Object") ∈ lw_tbl := lw_at lw_m8 211 rfl
theorem q133 : (Jvm.Cond.initialized "ReasonCloser$Term") ∈ lw_all := lw_g (lw_at lw_m1 26 rfl) rfl
theorem q772 : (Jvm.Cond.selects "ReasonCloser$Term" ({ cls := "java/lang/Object", name := "getClass", desc := "()Ljava/lang/Class;" } : Jvm.MethodName) ({ cls := "java/lang/Object", name := "getClass", desc := "()Ljava/lang/Class;" } : Jvm.MethodName)) ∈ lw_all := lw_g (lw_at lw_m3 185 rfl) rfl
theorem q803 : (Jvm.Cond.instantiable "ReasonCloser$Term" (4 : Nat)) ∈ lw_all := lw_g (lw_at lw_m3 216 rfl) rfl
theorem q815 : (Jvm.Cond.instanceMethod ({ cls := "ReasonCloser$Term", name := "<init>", desc := "(JLReasonCloser$Function;I[I)V" } : Jvm.MethodName)) ∈ lw_all := lw_g (lw_at lw_m3 228 rfl) rfl
theorem q816 : (Jvm.Cond.code ({ cls := "ReasonCloser$Term", name := "<init>", desc := "(JLReasonCloser$Function;I[I)V" } : Jvm.MethodName) prog_12_method_2_code (6 : Nat) (Option.none : Option Jvm.ClassFile.FieldType)) ∈ lw_all := lw_g (lw_at lw_m3 229 rfl) rfl
theorem q817 : (Jvm.Cond.methodLink "ReasonCloser$Term" (7 : Nat) ({ cls := "java/lang/Object", name := "<init>", desc := "()V" } : Jvm.MethodName)) ∈ lw_all := lw_g (lw_at lw_m3 230 rfl) rfl
theorem q818 : (Jvm.Cond.fieldLink "ReasonCloser$Term" (12 : Nat) "ReasonCloser$Term" "name" "J") ∈ lw_all := lw_g (lw_at lw_m3 231 rfl) rfl
theorem q820 : (Jvm.Cond.fieldLink "ReasonCloser$Term" (16 : Nat) "ReasonCloser$Term" "of" "LReasonCloser$Function;") ∈ lw_all := lw_g (lw_at lw_m3 233 rfl) rfl
theorem q821 : (Jvm.Cond.fieldLink "ReasonCloser$Term" (20 : Nat) "ReasonCloser$Term" "function" "I") ∈ lw_all := lw_g (lw_at lw_m3 234 rfl) rfl
theorem q824 : (Jvm.Cond.fieldLink "ReasonCloser$Term" (24 : Nat) "ReasonCloser$Term" "parts" "[I") ∈ lw_all := lw_g (lw_at lw_m3 237 rfl) rfl
theorem q828 : (Jvm.Cond.laysFinal "ReasonCloser$Term" "ReasonCloser$Term" "name" "J") ∈ lw_all := lw_g (lw_at lw_m4 1 rfl) rfl
theorem q829 : (Jvm.Cond.soleField "ReasonCloser$Term" "name") ∈ lw_all := lw_g (lw_at lw_m4 2 rfl) rfl
theorem q830 : (Jvm.Cond.laysFinal "ReasonCloser$Term" "ReasonCloser$Term" "of" "LReasonCloser$Function;") ∈ lw_all := lw_g (lw_at lw_m4 3 rfl) rfl
theorem q831 : (Jvm.Cond.soleField "ReasonCloser$Term" "of") ∈ lw_all := lw_g (lw_at lw_m4 4 rfl) rfl
theorem q832 : (Jvm.Cond.laysFinal "ReasonCloser$Term" "ReasonCloser$Term" "function" "I") ∈ lw_all := lw_g (lw_at lw_m4 5 rfl) rfl
theorem q833 : (Jvm.Cond.soleField "ReasonCloser$Term" "function") ∈ lw_all := lw_g (lw_at lw_m4 6 rfl) rfl
theorem q834 : (Jvm.Cond.laysFinal "ReasonCloser$Term" "ReasonCloser$Term" "parts" "[I") ∈ lw_all := lw_g (lw_at lw_m4 7 rfl) rfl
theorem q835 : (Jvm.Cond.soleField "ReasonCloser$Term" "parts") ∈ lw_all := lw_g (lw_at lw_m4 8 rfl) rfl
theorem q836 : (Jvm.Cond.superclass "ReasonCloser$Term" "java/lang/Object") ∈ lw_all := lw_g (lw_at lw_m4 9 rfl) rfl
theorem q1356 : (Jvm.Cond.instanceMethod ({ cls := "ReasonCloser$Term", name := "<init>", desc := "(LReasonCloser$Function;I[I)V" } : Jvm.MethodName)) ∈ lw_all := lw_g (lw_at lw_m6 49 rfl) rfl
theorem q1357 : (Jvm.Cond.code ({ cls := "ReasonCloser$Term", name := "<init>", desc := "(LReasonCloser$Function;I[I)V" } : Jvm.MethodName) prog_12_method_1_code (4 : Nat) (Option.none : Option Jvm.ClassFile.FieldType)) ∈ lw_all := lw_g (lw_at lw_m6 50 rfl) rfl
theorem q1358 : (Jvm.Cond.methodLink "ReasonCloser$Term" (1 : Nat) ({ cls := "ReasonCloser$Term", name := "<init>", desc := "(JLReasonCloser$Function;I[I)V" } : Jvm.MethodName)) ∈ lw_all := lw_g (lw_at lw_m6 51 rfl) rfl
theorem q1999 : (Jvm.Cond.castable "ReasonCloser$Term" "java/lang/Object") ∈ lw_tbl := lw_at lw_m8 212 rfl
theorem q137 : (Jvm.Cond.initialized "ReasonCloser$Fact") ∈ lw_all := lw_g (lw_at lw_m1 30 rfl) rfl
theorem q766 : (Jvm.Cond.selects "ReasonCloser$Fact" ({ cls := "java/lang/Object", name := "getClass", desc := "()Ljava/lang/Class;" } : Jvm.MethodName) ({ cls := "java/lang/Object", name := "getClass", desc := "()Ljava/lang/Class;" } : Jvm.MethodName)) ∈ lw_all := lw_g (lw_at lw_m3 179 rfl) rfl
theorem q859 : (Jvm.Cond.instantiable "ReasonCloser$Fact" (2 : Nat)) ∈ lw_all := lw_g (lw_at lw_m4 32 rfl) rfl
theorem q861 : (Jvm.Cond.instanceMethod ({ cls := "ReasonCloser$Fact", name := "<init>", desc := "(II)V" } : Jvm.MethodName)) ∈ lw_all := lw_g (lw_at lw_m4 34 rfl) rfl
theorem q862 : (Jvm.Cond.code ({ cls := "ReasonCloser$Fact", name := "<init>", desc := "(II)V" } : Jvm.MethodName) prog_5_method_1_code (3 : Nat) (Option.none : Option Jvm.ClassFile.FieldType)) ∈ lw_all := lw_g (lw_at lw_m4 35 rfl) rfl
theorem q863 : (Jvm.Cond.methodLink "ReasonCloser$Fact" (1 : Nat) ({ cls := "java/lang/Object", name := "<init>", desc := "()V" } : Jvm.MethodName)) ∈ lw_all := lw_g (lw_at lw_m4 36 rfl) rfl
theorem q864 : (Jvm.Cond.fieldLink "ReasonCloser$Fact" (7 : Nat) "ReasonCloser$Fact" "first" "I") ∈ lw_all := lw_g (lw_at lw_m4 37 rfl) rfl
theorem q866 : (Jvm.Cond.fieldLink "ReasonCloser$Fact" (13 : Nat) "ReasonCloser$Fact" "second" "I") ∈ lw_all := lw_g (lw_at lw_m4 39 rfl) rfl
theorem q868 : (Jvm.Cond.laysFinal "ReasonCloser$Fact" "ReasonCloser$Fact" "first" "I") ∈ lw_all := lw_g (lw_at lw_m4 41 rfl) rfl
theorem q869 : (Jvm.Cond.soleField "ReasonCloser$Fact" "first") ∈ lw_all := lw_g (lw_at lw_m4 42 rfl) rfl
theorem q870 : (Jvm.Cond.laysFinal "ReasonCloser$Fact" "ReasonCloser$Fact" "second" "I") ∈ lw_all := lw_g (lw_at lw_m4 43 rfl) rfl
theorem q871 : (Jvm.Cond.soleField "ReasonCloser$Fact" "second") ∈ lw_all := lw_g (lw_at lw_m4 44 rfl) rfl
theorem q872 : (Jvm.Cond.superclass "ReasonCloser$Fact" "java/lang/Object") ∈ lw_all := lw_g (lw_at lw_m4 45 rfl) rfl
theorem q2001 : (Jvm.Cond.castable "ReasonCloser$Fact" "java/lang/Object") ∈ lw_tbl := lw_at lw_m8 214 rfl
theorem q109 : (Jvm.Cond.initialized "ReasonCloser$Book") ∈ lw_all := lw_g (lw_at lw_m1 2 rfl) rfl
theorem q150 : (Jvm.Cond.instantiable "ReasonCloser$Book" (5 : Nat)) ∈ lw_all := lw_g (lw_at lw_m1 43 rfl) rfl
theorem q152 : (Jvm.Cond.instanceMethod ({ cls := "ReasonCloser$Book", name := "<init>", desc := "()V" } : Jvm.MethodName)) ∈ lw_all := lw_g (lw_at lw_m1 45 rfl) rfl
theorem q153 : (Jvm.Cond.code ({ cls := "ReasonCloser$Book", name := "<init>", desc := "()V" } : Jvm.MethodName) prog_3_method_1_code (1 : Nat) (Option.none : Option Jvm.ClassFile.FieldType)) ∈ lw_all := lw_g (lw_at lw_m1 46 rfl) rfl
theorem q154 : (Jvm.Cond.methodLink "ReasonCloser$Book" (3 : Nat) ({ cls := "java/lang/Object", name := "<init>", desc := "()V" } : Jvm.MethodName)) ∈ lw_all := lw_g (lw_at lw_m1 47 rfl) rfl
theorem q155 : (Jvm.Cond.classLink "ReasonCloser$Book" (9 : Nat) "java/util/ArrayList") ∈ lw_all := lw_g (lw_at lw_m1 48 rfl) rfl
theorem q157 : (Jvm.Cond.methodLink "ReasonCloser$Book" (11 : Nat) ({ cls := "java/util/ArrayList", name := "<init>", desc := "(I)V" } : Jvm.MethodName)) ∈ lw_all := lw_g (lw_at lw_m1 50 rfl) rfl
theorem q187 : (Jvm.Cond.fieldLink "ReasonCloser$Book" (14 : Nat) "ReasonCloser$Book" "functions" "Ljava/util/List;") ∈ lw_all := lw_g (lw_at lw_m1 80 rfl) rfl
theorem q190 : (Jvm.Cond.fieldLink "ReasonCloser$Book" (20 : Nat) "ReasonCloser$Book" "terms" "Ljava/util/List;") ∈ lw_all := lw_g (lw_at lw_m1 83 rfl) rfl
theorem q193 : (Jvm.Cond.fieldLink "ReasonCloser$Book" (23 : Nat) "ReasonCloser$Book" "sames" "Ljava/util/List;") ∈ lw_all := lw_g (lw_at lw_m1 86 rfl) rfl
theorem q196 : (Jvm.Cond.fieldLink "ReasonCloser$Book" (26 : Nat) "ReasonCloser$Book" "diffs" "Ljava/util/List;") ∈ lw_all := lw_g (lw_at lw_m1 89 rfl) rfl
theorem q199 : (Jvm.Cond.fieldLink "ReasonCloser$Book" (29 : Nat) "ReasonCloser$Book" "order" "Ljava/util/List;") ∈ lw_all := lw_g (lw_at lw_m1 92 rfl) rfl
theorem q202 : (Jvm.Cond.laysFinal "ReasonCloser$Book" "ReasonCloser$Book" "functions" "Ljava/util/List;") ∈ lw_all := lw_g (lw_at lw_m1 95 rfl) rfl
theorem q203 : (Jvm.Cond.soleField "ReasonCloser$Book" "functions") ∈ lw_all := lw_g (lw_at lw_m1 96 rfl) rfl
theorem q204 : (Jvm.Cond.laysFinal "ReasonCloser$Book" "ReasonCloser$Book" "terms" "Ljava/util/List;") ∈ lw_all := lw_g (lw_at lw_m1 97 rfl) rfl
theorem q205 : (Jvm.Cond.soleField "ReasonCloser$Book" "terms") ∈ lw_all := lw_g (lw_at lw_m1 98 rfl) rfl
theorem q206 : (Jvm.Cond.laysFinal "ReasonCloser$Book" "ReasonCloser$Book" "sames" "Ljava/util/List;") ∈ lw_all := lw_g (lw_at lw_m1 99 rfl) rfl
theorem q207 : (Jvm.Cond.soleField "ReasonCloser$Book" "sames") ∈ lw_all := lw_g (lw_at lw_m1 100 rfl) rfl
theorem q208 : (Jvm.Cond.laysFinal "ReasonCloser$Book" "ReasonCloser$Book" "diffs" "Ljava/util/List;") ∈ lw_all := lw_g (lw_at lw_m1 101 rfl) rfl
theorem q209 : (Jvm.Cond.soleField "ReasonCloser$Book" "diffs") ∈ lw_all := lw_g (lw_at lw_m1 102 rfl) rfl
theorem q210 : (Jvm.Cond.laysFinal "ReasonCloser$Book" "ReasonCloser$Book" "order" "Ljava/util/List;") ∈ lw_all := lw_g (lw_at lw_m1 103 rfl) rfl
theorem q211 : (Jvm.Cond.soleField "ReasonCloser$Book" "order") ∈ lw_all := lw_g (lw_at lw_m1 104 rfl) rfl
theorem q212 : (Jvm.Cond.superclass "ReasonCloser$Book" "java/lang/Object") ∈ lw_all := lw_g (lw_at lw_m1 105 rfl) rfl
theorem q682 : (Jvm.Cond.instanceMethod ({ cls := "ReasonCloser$Book", name := "function", desc := "(J)I" } : Jvm.MethodName)) ∈ lw_all := lw_g (lw_at lw_m3 95 rfl) rfl
theorem q683 : (Jvm.Cond.selects "ReasonCloser$Book" ({ cls := "ReasonCloser$Book", name := "function", desc := "(J)I" } : Jvm.MethodName) ({ cls := "ReasonCloser$Book", name := "function", desc := "(J)I" } : Jvm.MethodName)) ∈ lw_all := lw_g (lw_at lw_m3 96 rfl) rfl
theorem q684 : (Jvm.Cond.code ({ cls := "ReasonCloser$Book", name := "function", desc := "(J)I" } : Jvm.MethodName) prog_3_method_2_code (4 : Nat) (Option.some Jvm.ClassFile.FieldType.int)) ∈ lw_all := lw_g (lw_at lw_m3 97 rfl) rfl
theorem q685 : (Jvm.Cond.interfaceEntry "ReasonCloser$Book" (32 : Nat)) ∈ lw_tbl := lw_at lw_m3 98 rfl
theorem q686 : (Jvm.Cond.methodLink "ReasonCloser$Book" (32 : Nat) ({ cls := "java/util/List", name := "size", desc := "()I" } : Jvm.MethodName)) ∈ lw_all := lw_g (lw_at lw_m3 99 rfl) rfl
theorem q687 : (Jvm.Cond.interfaceEntry "ReasonCloser$Book" (38 : Nat)) ∈ lw_tbl := lw_at lw_m3 100 rfl
theorem q688 : (Jvm.Cond.methodLink "ReasonCloser$Book" (38 : Nat) ({ cls := "java/util/List", name := "get", desc := "(I)Ljava/lang/Object;" } : Jvm.MethodName)) ∈ lw_all := lw_g (lw_at lw_m3 101 rfl) rfl
theorem q704 : (Jvm.Cond.classLink "ReasonCloser$Book" (42 : Nat) "ReasonCloser$Function") ∈ lw_all := lw_g (lw_at lw_m3 117 rfl) rfl
theorem q706 : (Jvm.Cond.instanceMethod ({ cls := "ReasonCloser$Book", name := "term", desc := "(J)I" } : Jvm.MethodName)) ∈ lw_all := lw_g (lw_at lw_m3 119 rfl) rfl
theorem q707 : (Jvm.Cond.selects "ReasonCloser$Book" ({ cls := "ReasonCloser$Book", name := "term", desc := "(J)I" } : Jvm.MethodName) ({ cls := "ReasonCloser$Book", name := "term", desc := "(J)I" } : Jvm.MethodName)) ∈ lw_all := lw_g (lw_at lw_m3 120 rfl) rfl
theorem q708 : (Jvm.Cond.code ({ cls := "ReasonCloser$Book", name := "term", desc := "(J)I" } : Jvm.MethodName) prog_3_method_3_code (4 : Nat) (Option.some Jvm.ClassFile.FieldType.int)) ∈ lw_all := lw_g (lw_at lw_m3 121 rfl) rfl
theorem q709 : (Jvm.Cond.classLink "ReasonCloser$Book" (48 : Nat) "ReasonCloser$Term") ∈ lw_all := lw_g (lw_at lw_m3 122 rfl) rfl
theorem q717 : (Jvm.Cond.fieldLinkNest "ReasonCloser$Book" (44 : Nat) "ReasonCloser$Function" "name" "J" "ReasonCloser") ∈ lw_tbl := lw_at lw_m3 130 rfl
theorem q764 : (Jvm.Cond.selects "ReasonCloser$Book" ({ cls := "java/lang/Object", name := "getClass", desc := "()Ljava/lang/Class;" } : Jvm.MethodName) ({ cls := "java/lang/Object", name := "getClass", desc := "()Ljava/lang/Class;" } : Jvm.MethodName)) ∈ lw_all := lw_g (lw_at lw_m3 177 rfl) rfl
theorem q819 : (Jvm.Cond.fieldLinkNest "ReasonCloser$Book" (50 : Nat) "ReasonCloser$Term" "name" "J" "ReasonCloser") ∈ lw_tbl := lw_at lw_m3 232 rfl
theorem q1990 : (Jvm.Cond.castable "ReasonCloser$Book" "java/lang/Object") ∈ lw_tbl := lw_at lw_m8 203 rfl
theorem q113 : (Jvm.Cond.initialized "ReasonCloser$Groups") ∈ lw_all := lw_g (lw_at lw_m1 6 rfl) rfl
theorem q225 : (Jvm.Cond.instanceMethod ({ cls := "ReasonCloser$Groups", name := "<init>", desc := "(I)V" } : Jvm.MethodName)) ∈ lw_all := lw_g (lw_at lw_m1 118 rfl) rfl
theorem q226 : (Jvm.Cond.code ({ cls := "ReasonCloser$Groups", name := "<init>", desc := "(I)V" } : Jvm.MethodName) prog_9_method_2_code (3 : Nat) (Option.none : Option Jvm.ClassFile.FieldType)) ∈ lw_all := lw_g (lw_at lw_m1 119 rfl) rfl
theorem q227 : (Jvm.Cond.methodLink "ReasonCloser$Groups" (9 : Nat) ({ cls := "java/lang/Object", name := "<init>", desc := "()V" } : Jvm.MethodName)) ∈ lw_all := lw_g (lw_at lw_m1 120 rfl) rfl
theorem q258 : (Jvm.Cond.fieldLink "ReasonCloser$Groups" (14 : Nat) "ReasonCloser$Groups" "lead" "[I") ∈ lw_all := lw_g (lw_at lw_m1 151 rfl) rfl
theorem q266 : (Jvm.Cond.fieldLink "ReasonCloser$Groups" (44 : Nat) "ReasonCloser$Groups" "many" "I") ∈ lw_all := lw_g (lw_at lw_m1 159 rfl) rfl
theorem q271 : (Jvm.Cond.fieldLink "ReasonCloser$Groups" (18 : Nat) "ReasonCloser$Groups" "trail" "[I") ∈ lw_all := lw_g (lw_at lw_m1 164 rfl) rfl
theorem q272 : (Jvm.Cond.fieldLink "ReasonCloser$Groups" (21 : Nat) "ReasonCloser$Groups" "trailed" "I") ∈ lw_all := lw_g (lw_at lw_m1 165 rfl) rfl
theorem q294 : (Jvm.Cond.soleField "ReasonCloser$Groups" "lead") ∈ lw_all := lw_g (lw_at lw_m1 187 rfl) rfl
theorem q296 : (Jvm.Cond.soleField "ReasonCloser$Groups" "many") ∈ lw_all := lw_g (lw_at lw_m1 189 rfl) rfl
theorem q298 : (Jvm.Cond.soleField "ReasonCloser$Groups" "trail") ∈ lw_all := lw_g (lw_at lw_m1 191 rfl) rfl
theorem q300 : (Jvm.Cond.soleField "ReasonCloser$Groups" "trailed") ∈ lw_all := lw_g (lw_at lw_m1 193 rfl) rfl
theorem q317 : (Jvm.Cond.instantiable "ReasonCloser$Groups" (4 : Nat)) ∈ lw_all := lw_g (lw_at lw_m1 210 rfl) rfl
theorem q319 : (Jvm.Cond.instanceMethod ({ cls := "ReasonCloser$Groups", name := "<init>", desc := "()V" } : Jvm.MethodName)) ∈ lw_all := lw_g (lw_at lw_m1 212 rfl) rfl
theorem q320 : (Jvm.Cond.code ({ cls := "ReasonCloser$Groups", name := "<init>", desc := "()V" } : Jvm.MethodName) prog_9_method_1_code (1 : Nat) (Option.none : Option Jvm.ClassFile.FieldType)) ∈ lw_all := lw_g (lw_at lw_m1 213 rfl) rfl
theorem q321 : (Jvm.Cond.methodLink "ReasonCloser$Groups" (3 : Nat) ({ cls := "ReasonCloser$Groups", name := "<init>", desc := "(I)V" } : Jvm.MethodName)) ∈ lw_all := lw_g (lw_at lw_m1 214 rfl) rfl
theorem q322 : (Jvm.Cond.laysFinal "ReasonCloser$Groups" "ReasonCloser$Groups" "lead" "[I") ∈ lw_all := lw_g (lw_at lw_m1 215 rfl) rfl
theorem q323 : (Jvm.Cond.lays "ReasonCloser$Groups" "ReasonCloser$Groups" "many" "I") ∈ lw_all := lw_g (lw_at lw_m1 216 rfl) rfl
theorem q324 : (Jvm.Cond.lays "ReasonCloser$Groups" "ReasonCloser$Groups" "trail" "[I") ∈ lw_all := lw_g (lw_at lw_m1 217 rfl) rfl
theorem q325 : (Jvm.Cond.lays "ReasonCloser$Groups" "ReasonCloser$Groups" "trailed" "I") ∈ lw_all := lw_g (lw_at lw_m1 218 rfl) rfl
theorem q326 : (Jvm.Cond.superclass "ReasonCloser$Groups" "java/lang/Object") ∈ lw_all := lw_g (lw_at lw_m1 219 rfl) rfl
theorem q769 : (Jvm.Cond.selects "ReasonCloser$Groups" ({ cls := "java/lang/Object", name := "getClass", desc := "()Ljava/lang/Class;" } : Jvm.MethodName) ({ cls := "java/lang/Object", name := "getClass", desc := "()Ljava/lang/Class;" } : Jvm.MethodName)) ∈ lw_all := lw_g (lw_at lw_m3 182 rfl) rfl
theorem q960 : (Jvm.Cond.declares ({ cls := "ReasonCloser$Groups", name := "puts", desc := "([IIII)V" } : Jvm.MethodName)) ∈ lw_tbl := lw_at lw_m4 133 rfl
theorem q963 : (Jvm.Cond.instanceMethod ({ cls := "ReasonCloser$Groups", name := "puts", desc := "([IIII)V" } : Jvm.MethodName)) ∈ lw_all := lw_g (lw_at lw_m4 136 rfl) rfl
theorem q964 : (Jvm.Cond.code ({ cls := "ReasonCloser$Groups", name := "puts", desc := "([IIII)V" } : Jvm.MethodName) prog_9_method_3_code (6 : Nat) (Option.none : Option Jvm.ClassFile.FieldType)) ∈ lw_all := lw_g (lw_at lw_m4 137 rfl) rfl
theorem q965 : (Jvm.Cond.methodLink "ReasonCloser$Groups" (25 : Nat) ({ cls := "java/lang/System", name := "arraycopy", desc := "(Ljava/lang/Object;ILjava/lang/Object;II)V" } : Jvm.MethodName)) ∈ lw_all := lw_g (lw_at lw_m4 138 rfl) rfl
theorem q978 : (Jvm.Cond.declares ({ cls := "ReasonCloser$Groups", name := "areOne", desc := "(II)Z" } : Jvm.MethodName)) ∈ lw_tbl := lw_at lw_m4 151 rfl
theorem q981 : (Jvm.Cond.instanceMethod ({ cls := "ReasonCloser$Groups", name := "areOne", desc := "(II)Z" } : Jvm.MethodName)) ∈ lw_all := lw_g (lw_at lw_m4 154 rfl) rfl
theorem q982 : (Jvm.Cond.code ({ cls := "ReasonCloser$Groups", name := "areOne", desc := "(II)Z" } : Jvm.MethodName) prog_9_method_7_code (3 : Nat) (Option.some Jvm.ClassFile.FieldType.boolean)) ∈ lw_all := lw_g (lw_at lw_m4 155 rfl) rfl
theorem q1012 : (Jvm.Cond.declares ({ cls := "ReasonCloser$Groups", name := "unites", desc := "(II)V" } : Jvm.MethodName)) ∈ lw_tbl := lw_at lw_m4 185 rfl
theorem q1015 : (Jvm.Cond.instanceMethod ({ cls := "ReasonCloser$Groups", name := "unites", desc := "(II)V" } : Jvm.MethodName)) ∈ lw_all := lw_g (lw_at lw_m4 188 rfl) rfl
theorem q1016 : (Jvm.Cond.code ({ cls := "ReasonCloser$Groups", name := "unites", desc := "(II)V" } : Jvm.MethodName) prog_9_method_8_code (6 : Nat) (Option.none : Option Jvm.ClassFile.FieldType)) ∈ lw_all := lw_g (lw_at lw_m4 189 rfl) rfl
theorem q1017 : (Jvm.Cond.methodLink "ReasonCloser$Groups" (35 : Nat) ({ cls := "java/lang/Math", name := "min", desc := "(II)I" } : Jvm.MethodName)) ∈ lw_all := lw_g (lw_at lw_m4 190 rfl) rfl
theorem q1018 : (Jvm.Cond.methodLink "ReasonCloser$Groups" (41 : Nat) ({ cls := "java/lang/Math", name := "max", desc := "(II)I" } : Jvm.MethodName)) ∈ lw_all := lw_g (lw_at lw_m4 191 rfl) rfl
theorem q1019 : (Jvm.Cond.methodLink "ReasonCloser$Groups" (47 : Nat) ({ cls := "ReasonCloser$Groups", name := "puts", desc := "([IIII)V" } : Jvm.MethodName)) ∈ lw_all := lw_g (lw_at lw_m4 192 rfl) rfl
theorem q1058 : (Jvm.Cond.declares ({ cls := "ReasonCloser$Groups", name := "groups", desc := "()I" } : Jvm.MethodName)) ∈ lw_tbl := lw_at lw_m4 231 rfl
theorem q1060 : (Jvm.Cond.instanceMethod ({ cls := "ReasonCloser$Groups", name := "groups", desc := "()I" } : Jvm.MethodName)) ∈ lw_all := lw_g (lw_at lw_m4 233 rfl) rfl
theorem q1061 : (Jvm.Cond.code ({ cls := "ReasonCloser$Groups", name := "groups", desc := "()I" } : Jvm.MethodName) prog_9_method_9_code (3 : Nat) (Option.some Jvm.ClassFile.FieldType.int)) ∈ lw_all := lw_g (lw_at lw_m4 234 rfl) rfl
theorem q1119 : (Jvm.Cond.declares ({ cls := "ReasonCloser$Groups", name := "like", desc := "(LReasonCloser$Groups;)V" } : Jvm.MethodName)) ∈ lw_tbl := lw_at lw_m5 52 rfl
theorem q1122 : (Jvm.Cond.instanceMethod ({ cls := "ReasonCloser$Groups", name := "like", desc := "(LReasonCloser$Groups;)V" } : Jvm.MethodName)) ∈ lw_all := lw_g (lw_at lw_m5 55 rfl) rfl
theorem q1123 : (Jvm.Cond.code ({ cls := "ReasonCloser$Groups", name := "like", desc := "(LReasonCloser$Groups;)V" } : Jvm.MethodName) prog_9_method_10_code (3 : Nat) (Option.none : Option Jvm.ClassFile.FieldType)) ∈ lw_all := lw_g (lw_at lw_m5 56 rfl) rfl
theorem q1309 : (Jvm.Cond.declares ({ cls := "ReasonCloser$Groups", name := "trailed", desc := "()I" } : Jvm.MethodName)) ∈ lw_tbl := lw_at lw_m6 2 rfl
theorem q1311 : (Jvm.Cond.instanceMethod ({ cls := "ReasonCloser$Groups", name := "trailed", desc := "()I" } : Jvm.MethodName)) ∈ lw_all := lw_g (lw_at lw_m6 4 rfl) rfl
theorem q1312 : (Jvm.Cond.code ({ cls := "ReasonCloser$Groups", name := "trailed", desc := "()I" } : Jvm.MethodName) prog_9_method_5_code (1 : Nat) (Option.some Jvm.ClassFile.FieldType.int)) ∈ lw_all := lw_g (lw_at lw_m6 5 rfl) rfl
theorem q1315 : (Jvm.Cond.declares ({ cls := "ReasonCloser$Groups", name := "goesBack", desc := "(I)V" } : Jvm.MethodName)) ∈ lw_tbl := lw_at lw_m6 8 rfl
theorem q1317 : (Jvm.Cond.instanceMethod ({ cls := "ReasonCloser$Groups", name := "goesBack", desc := "(I)V" } : Jvm.MethodName)) ∈ lw_all := lw_g (lw_at lw_m6 10 rfl) rfl
theorem q1318 : (Jvm.Cond.code ({ cls := "ReasonCloser$Groups", name := "goesBack", desc := "(I)V" } : Jvm.MethodName) prog_9_method_6_code (2 : Nat) (Option.none : Option Jvm.ClassFile.FieldType)) ∈ lw_all := lw_g (lw_at lw_m6 11 rfl) rfl
theorem q1319 : (Jvm.Cond.methodLink "ReasonCloser$Groups" (31 : Nat) ({ cls := "ReasonCloser$Groups", name := "row", desc := "(I)[I" } : Jvm.MethodName)) ∈ lw_all := lw_g (lw_at lw_m6 12 rfl) rfl
theorem q1320 : (Jvm.Cond.instanceMethod ({ cls := "ReasonCloser$Groups", name := "row", desc := "(I)[I" } : Jvm.MethodName)) ∈ lw_all := lw_g (lw_at lw_m6 13 rfl) rfl
theorem q1321 : (Jvm.Cond.selects "ReasonCloser$Groups" ({ cls := "ReasonCloser$Groups", name := "row", desc := "(I)[I" } : Jvm.MethodName) ({ cls := "ReasonCloser$Groups", name := "row", desc := "(I)[I" } : Jvm.MethodName)) ∈ lw_all := lw_g (lw_at lw_m6 14 rfl) rfl
theorem q1322 : (Jvm.Cond.sameMethod "ReasonCloser$Groups" "ReasonCloser$Groups" "row" "(I)[I") ∈ lw_all := lw_g (lw_at lw_m6 15 rfl) rfl
theorem q1327 : (Jvm.Cond.code ({ cls := "ReasonCloser$Groups", name := "row", desc := "(I)[I" } : Jvm.MethodName) prog_9_method_4_code (2 : Nat) (Option.some (Jvm.ClassFile.FieldType.array Jvm.ClassFile.FieldType.int))) ∈ lw_all := lw_g (lw_at lw_m6 20 rfl) rfl
theorem q1965 : (Jvm.Cond.sameMethod "ReasonCloser$Groups" "ReasonCloser$Groups" "puts" "([IIII)V") ∈ lw_all := lw_g (lw_at lw_m8 178 rfl) rfl
theorem q1967 : (Jvm.Cond.selects "ReasonCloser$Groups" ({ cls := "ReasonCloser$Groups", name := "puts", desc := "([IIII)V" } : Jvm.MethodName) ({ cls := "ReasonCloser$Groups", name := "puts", desc := "([IIII)V" } : Jvm.MethodName)) ∈ lw_all := lw_g (lw_at lw_m8 180 rfl) rfl
theorem q1972 : (Jvm.Cond.sameMethod "ReasonCloser$Groups" "ReasonCloser$Groups" "areOne" "(II)Z") ∈ lw_all := lw_g (lw_at lw_m8 185 rfl) rfl
theorem q1974 : (Jvm.Cond.selects "ReasonCloser$Groups" ({ cls := "ReasonCloser$Groups", name := "areOne", desc := "(II)Z" } : Jvm.MethodName) ({ cls := "ReasonCloser$Groups", name := "areOne", desc := "(II)Z" } : Jvm.MethodName)) ∈ lw_all := lw_g (lw_at lw_m8 187 rfl) rfl
theorem q1979 : (Jvm.Cond.sameMethod "ReasonCloser$Groups" "ReasonCloser$Groups" "unites" "(II)V") ∈ lw_all := lw_g (lw_at lw_m8 192 rfl) rfl
theorem q1981 : (Jvm.Cond.selects "ReasonCloser$Groups" ({ cls := "ReasonCloser$Groups", name := "unites", desc := "(II)V" } : Jvm.MethodName) ({ cls := "ReasonCloser$Groups", name := "unites", desc := "(II)V" } : Jvm.MethodName)) ∈ lw_all := lw_g (lw_at lw_m8 194 rfl) rfl
theorem q1983 : (Jvm.Cond.sameMethod "ReasonCloser$Groups" "ReasonCloser$Groups" "like" "(LReasonCloser$Groups;)V") ∈ lw_all := lw_g (lw_at lw_m8 196 rfl) rfl
theorem q1985 : (Jvm.Cond.selects "ReasonCloser$Groups" ({ cls := "ReasonCloser$Groups", name := "like", desc := "(LReasonCloser$Groups;)V" } : Jvm.MethodName) ({ cls := "ReasonCloser$Groups", name := "like", desc := "(LReasonCloser$Groups;)V" } : Jvm.MethodName)) ∈ lw_all := lw_g (lw_at lw_m8 198 rfl) rfl
theorem q1994 : (Jvm.Cond.castable "ReasonCloser$Groups" "java/lang/Object") ∈ lw_tbl := lw_at lw_m8 207 rfl
theorem q114 : (Jvm.Cond.initialized "ReasonCloser$Closed") ∈ lw_all := lw_g (lw_at lw_m1 7 rfl) rfl
theorem q222 : (Jvm.Cond.instanceMethod ({ cls := "ReasonCloser$Closed", name := "<init>", desc := "(Ljava/util/List;I)V" } : Jvm.MethodName)) ∈ lw_all := lw_g (lw_at lw_m1 115 rfl) rfl
theorem q223 : (Jvm.Cond.code ({ cls := "ReasonCloser$Closed", name := "<init>", desc := "(Ljava/util/List;I)V" } : Jvm.MethodName) prog_4_method_2_code (3 : Nat) (Option.none : Option Jvm.ClassFile.FieldType)) ∈ lw_all := lw_g (lw_at lw_m1 116 rfl) rfl
theorem q224 : (Jvm.Cond.methodLink "ReasonCloser$Closed" (9 : Nat) ({ cls := "ReasonCloser$Groups", name := "<init>", desc := "(I)V" } : Jvm.MethodName)) ∈ lw_all := lw_g (lw_at lw_m1 117 rfl) rfl
theorem q253 : (Jvm.Cond.fieldLink "ReasonCloser$Closed" (14 : Nat) "ReasonCloser$Closed" "terms" "Ljava/util/List;") ∈ lw_all := lw_g (lw_at lw_m1 146 rfl) rfl
theorem q259 : (Jvm.Cond.fieldLink "ReasonCloser$Closed" (56 : Nat) "ReasonCloser$Closed" "lead" "[I") ∈ lw_all := lw_g (lw_at lw_m1 152 rfl) rfl
theorem q260 : (Jvm.Cond.sameField "ReasonCloser$Closed" "ReasonCloser$Groups" "lead" "[I") ∈ lw_all := lw_g (lw_at lw_m1 153 rfl) rfl
theorem q264 : (Jvm.Cond.fieldLink "ReasonCloser$Closed" (42 : Nat) "ReasonCloser$Closed" "many" "I") ∈ lw_all := lw_g (lw_at lw_m1 157 rfl) rfl
theorem q265 : (Jvm.Cond.sameField "ReasonCloser$Closed" "ReasonCloser$Groups" "many" "I") ∈ lw_all := lw_g (lw_at lw_m1 158 rfl) rfl
theorem q292 : (Jvm.Cond.soleField "ReasonCloser$Closed" "terms") ∈ lw_all := lw_g (lw_at lw_m1 185 rfl) rfl
theorem q305 : (Jvm.Cond.instantiable "ReasonCloser$Closed" (5 : Nat)) ∈ lw_all := lw_g (lw_at lw_m1 198 rfl) rfl
theorem q307 : (Jvm.Cond.instanceMethod ({ cls := "ReasonCloser$Closed", name := "<init>", desc := "(Ljava/util/List;)V" } : Jvm.MethodName)) ∈ lw_all := lw_g (lw_at lw_m1 200 rfl) rfl
theorem q308 : (Jvm.Cond.code ({ cls := "ReasonCloser$Closed", name := "<init>", desc := "(Ljava/util/List;)V" } : Jvm.MethodName) prog_4_method_1_code (2 : Nat) (Option.none : Option Jvm.ClassFile.FieldType)) ∈ lw_all := lw_g (lw_at lw_m1 201 rfl) rfl
theorem q309 : (Jvm.Cond.methodLink "ReasonCloser$Closed" (3 : Nat) ({ cls := "ReasonCloser$Closed", name := "<init>", desc := "(Ljava/util/List;I)V" } : Jvm.MethodName)) ∈ lw_all := lw_g (lw_at lw_m1 202 rfl) rfl
theorem q310 : (Jvm.Cond.laysFinal "ReasonCloser$Closed" "ReasonCloser$Closed" "terms" "Ljava/util/List;") ∈ lw_all := lw_g (lw_at lw_m1 203 rfl) rfl
theorem q311 : (Jvm.Cond.laysFinal "ReasonCloser$Closed" "ReasonCloser$Groups" "lead" "[I") ∈ lw_all := lw_g (lw_at lw_m1 204 rfl) rfl
theorem q312 : (Jvm.Cond.lays "ReasonCloser$Closed" "ReasonCloser$Groups" "many" "I") ∈ lw_all := lw_g (lw_at lw_m1 205 rfl) rfl
theorem q313 : (Jvm.Cond.lays "ReasonCloser$Closed" "ReasonCloser$Groups" "trail" "[I") ∈ lw_all := lw_g (lw_at lw_m1 206 rfl) rfl
theorem q314 : (Jvm.Cond.lays "ReasonCloser$Closed" "ReasonCloser$Groups" "trailed" "I") ∈ lw_all := lw_g (lw_at lw_m1 207 rfl) rfl
theorem q315 : (Jvm.Cond.superclass "ReasonCloser$Closed" "ReasonCloser$Groups") ∈ lw_all := lw_g (lw_at lw_m1 208 rfl) rfl
theorem q765 : (Jvm.Cond.selects "ReasonCloser$Closed" ({ cls := "java/lang/Object", name := "getClass", desc := "()Ljava/lang/Class;" } : Jvm.MethodName) ({ cls := "java/lang/Object", name := "getClass", desc := "()Ljava/lang/Class;" } : Jvm.MethodName)) ∈ lw_all := lw_g (lw_at lw_m3 178 rfl) rfl
theorem q822 : (Jvm.Cond.fieldLinkNest "ReasonCloser$Closed" (26 : Nat) "ReasonCloser$Term" "function" "I" "ReasonCloser") ∈ lw_tbl := lw_at lw_m3 235 rfl
theorem q825 : (Jvm.Cond.fieldLinkNest "ReasonCloser$Closed" (30 : Nat) "ReasonCloser$Term" "parts" "[I" "ReasonCloser") ∈ lw_tbl := lw_at lw_m3 238 rfl
theorem q954 : (Jvm.Cond.declares ({ cls := "ReasonCloser$Closed", name := "comes", desc := "()V" } : Jvm.MethodName)) ∈ lw_tbl := lw_at lw_m4 127 rfl
theorem q956 : (Jvm.Cond.instanceMethod ({ cls := "ReasonCloser$Closed", name := "comes", desc := "()V" } : Jvm.MethodName)) ∈ lw_all := lw_g (lw_at lw_m4 129 rfl) rfl
theorem q957 : (Jvm.Cond.code ({ cls := "ReasonCloser$Closed", name := "comes", desc := "()V" } : Jvm.MethodName) prog_4_method_7_code (1 : Nat) (Option.none : Option Jvm.ClassFile.FieldType)) ∈ lw_all := lw_g (lw_at lw_m4 130 rfl) rfl
theorem q958 : (Jvm.Cond.methodLink "ReasonCloser$Closed" (59 : Nat) ({ cls := "ReasonCloser$Closed", name := "puts", desc := "([IIII)V" } : Jvm.MethodName)) ∈ lw_all := lw_g (lw_at lw_m4 131 rfl) rfl
theorem q959 : (Jvm.Cond.sameMethod "ReasonCloser$Closed" "ReasonCloser$Groups" "puts" "([IIII)V") ∈ lw_all := lw_g (lw_at lw_m4 132 rfl) rfl
theorem q961 : (Jvm.Cond.selects "ReasonCloser$Closed" ({ cls := "ReasonCloser$Closed", name := "puts", desc := "([IIII)V" } : Jvm.MethodName) ({ cls := "ReasonCloser$Groups", name := "puts", desc := "([IIII)V" } : Jvm.MethodName)) ∈ lw_all := lw_g (lw_at lw_m4 134 rfl) rfl
theorem q966 : (Jvm.Cond.methodLink "ReasonCloser$Closed" (63 : Nat) ({ cls := "ReasonCloser$Closed", name := "closes", desc := "()V" } : Jvm.MethodName)) ∈ lw_all := lw_g (lw_at lw_m4 139 rfl) rfl
theorem q967 : (Jvm.Cond.instanceMethod ({ cls := "ReasonCloser$Closed", name := "closes", desc := "()V" } : Jvm.MethodName)) ∈ lw_all := lw_g (lw_at lw_m4 140 rfl) rfl
theorem q968 : (Jvm.Cond.selects "ReasonCloser$Closed" ({ cls := "ReasonCloser$Closed", name := "closes", desc := "()V" } : Jvm.MethodName) ({ cls := "ReasonCloser$Closed", name := "closes", desc := "()V" } : Jvm.MethodName)) ∈ lw_all := lw_g (lw_at lw_m4 141 rfl) rfl
theorem q969 : (Jvm.Cond.sameMethod "ReasonCloser$Closed" "ReasonCloser$Closed" "closes" "()V") ∈ lw_all := lw_g (lw_at lw_m4 142 rfl) rfl
theorem q971 : (Jvm.Cond.code ({ cls := "ReasonCloser$Closed", name := "closes", desc := "()V" } : Jvm.MethodName) prog_4_method_6_code (2 : Nat) (Option.none : Option Jvm.ClassFile.FieldType)) ∈ lw_all := lw_g (lw_at lw_m4 144 rfl) rfl
theorem q972 : (Jvm.Cond.methodLink "ReasonCloser$Closed" (52 : Nat) ({ cls := "ReasonCloser$Closed", name := "closesOne", desc := "()Z" } : Jvm.MethodName)) ∈ lw_all := lw_g (lw_at lw_m4 145 rfl) rfl
theorem q973 : (Jvm.Cond.privateMethod ({ cls := "ReasonCloser$Closed", name := "closesOne", desc := "()Z" } : Jvm.MethodName)) ∈ lw_tbl := lw_at lw_m4 146 rfl
theorem q974 : (Jvm.Cond.instanceMethod ({ cls := "ReasonCloser$Closed", name := "closesOne", desc := "()Z" } : Jvm.MethodName)) ∈ lw_all := lw_g (lw_at lw_m4 147 rfl) rfl
theorem q975 : (Jvm.Cond.code ({ cls := "ReasonCloser$Closed", name := "closesOne", desc := "()Z" } : Jvm.MethodName) prog_4_method_5_code (3 : Nat) (Option.some Jvm.ClassFile.FieldType.boolean)) ∈ lw_all := lw_g (lw_at lw_m4 148 rfl) rfl
theorem q976 : (Jvm.Cond.methodLink "ReasonCloser$Closed" (34 : Nat) ({ cls := "ReasonCloser$Closed", name := "areOne", desc := "(II)Z" } : Jvm.MethodName)) ∈ lw_all := lw_g (lw_at lw_m4 149 rfl) rfl
theorem q977 : (Jvm.Cond.sameMethod "ReasonCloser$Closed" "ReasonCloser$Groups" "areOne" "(II)Z") ∈ lw_all := lw_g (lw_at lw_m4 150 rfl) rfl
theorem q979 : (Jvm.Cond.selects "ReasonCloser$Closed" ({ cls := "ReasonCloser$Closed", name := "areOne", desc := "(II)Z" } : Jvm.MethodName) ({ cls := "ReasonCloser$Groups", name := "areOne", desc := "(II)Z" } : Jvm.MethodName)) ∈ lw_all := lw_g (lw_at lw_m4 152 rfl) rfl
theorem q983 : (Jvm.Cond.methodLink "ReasonCloser$Closed" (45 : Nat) ({ cls := "ReasonCloser$Closed", name := "follow", desc := "(II)Z" } : Jvm.MethodName)) ∈ lw_all := lw_g (lw_at lw_m4 156 rfl) rfl
theorem q984 : (Jvm.Cond.instanceMethod ({ cls := "ReasonCloser$Closed", name := "follow", desc := "(II)Z" } : Jvm.MethodName)) ∈ lw_all := lw_g (lw_at lw_m4 157 rfl) rfl
theorem q985 : (Jvm.Cond.selects "ReasonCloser$Closed" ({ cls := "ReasonCloser$Closed", name := "follow", desc := "(II)Z" } : Jvm.MethodName) ({ cls := "ReasonCloser$Closed", name := "follow", desc := "(II)Z" } : Jvm.MethodName)) ∈ lw_all := lw_g (lw_at lw_m4 158 rfl) rfl
theorem q986 : (Jvm.Cond.sameMethod "ReasonCloser$Closed" "ReasonCloser$Closed" "follow" "(II)Z") ∈ lw_all := lw_g (lw_at lw_m4 159 rfl) rfl
theorem q988 : (Jvm.Cond.code ({ cls := "ReasonCloser$Closed", name := "follow", desc := "(II)Z" } : Jvm.MethodName) prog_4_method_3_code (6 : Nat) (Option.some Jvm.ClassFile.FieldType.boolean)) ∈ lw_all := lw_g (lw_at lw_m4 161 rfl) rfl
theorem q989 : (Jvm.Cond.interfaceEntry "ReasonCloser$Closed" (18 : Nat)) ∈ lw_tbl := lw_at lw_m4 162 rfl
theorem q990 : (Jvm.Cond.methodLink "ReasonCloser$Closed" (18 : Nat) ({ cls := "java/util/List", name := "get", desc := "(I)Ljava/lang/Object;" } : Jvm.MethodName)) ∈ lw_all := lw_g (lw_at lw_m4 163 rfl) rfl
theorem q991 : (Jvm.Cond.classLink "ReasonCloser$Closed" (24 : Nat) "ReasonCloser$Term") ∈ lw_all := lw_g (lw_at lw_m4 164 rfl) rfl
theorem q992 : (Jvm.Cond.methodLink "ReasonCloser$Closed" (48 : Nat) ({ cls := "ReasonCloser$Closed", name := "joins", desc := "(III)V" } : Jvm.MethodName)) ∈ lw_all := lw_g (lw_at lw_m4 165 rfl) rfl
theorem q993 : (Jvm.Cond.instanceMethod ({ cls := "ReasonCloser$Closed", name := "joins", desc := "(III)V" } : Jvm.MethodName)) ∈ lw_all := lw_g (lw_at lw_m4 166 rfl) rfl
theorem q994 : (Jvm.Cond.selects "ReasonCloser$Closed" ({ cls := "ReasonCloser$Closed", name := "joins", desc := "(III)V" } : Jvm.MethodName) ({ cls := "ReasonCloser$Closed", name := "joins", desc := "(III)V" } : Jvm.MethodName)) ∈ lw_all := lw_g (lw_at lw_m4 167 rfl) rfl
theorem q995 : (Jvm.Cond.sameMethod "ReasonCloser$Closed" "ReasonCloser$Closed" "joins" "(III)V") ∈ lw_all := lw_g (lw_at lw_m4 168 rfl) rfl
theorem q1009 : (Jvm.Cond.code ({ cls := "ReasonCloser$Closed", name := "joins", desc := "(III)V" } : Jvm.MethodName) prog_4_method_4_code (4 : Nat) (Option.none : Option Jvm.ClassFile.FieldType)) ∈ lw_all := lw_g (lw_at lw_m4 182 rfl) rfl
theorem q1010 : (Jvm.Cond.methodLink "ReasonCloser$Closed" (38 : Nat) ({ cls := "ReasonCloser$Closed", name := "unites", desc := "(II)V" } : Jvm.MethodName)) ∈ lw_all := lw_g (lw_at lw_m4 183 rfl) rfl
theorem q1011 : (Jvm.Cond.sameMethod "ReasonCloser$Closed" "ReasonCloser$Groups" "unites" "(II)V") ∈ lw_all := lw_g (lw_at lw_m4 184 rfl) rfl
theorem q1013 : (Jvm.Cond.selects "ReasonCloser$Closed" ({ cls := "ReasonCloser$Closed", name := "unites", desc := "(II)V" } : Jvm.MethodName) ({ cls := "ReasonCloser$Groups", name := "unites", desc := "(II)V" } : Jvm.MethodName)) ∈ lw_all := lw_g (lw_at lw_m4 186 rfl) rfl
theorem q1025 : (Jvm.Cond.declares ({ cls := "ReasonCloser$Closed", name := "same", desc := "(III)V" } : Jvm.MethodName)) ∈ lw_tbl := lw_at lw_m4 198 rfl
theorem q1027 : (Jvm.Cond.instanceMethod ({ cls := "ReasonCloser$Closed", name := "same", desc := "(III)V" } : Jvm.MethodName)) ∈ lw_all := lw_g (lw_at lw_m4 200 rfl) rfl
theorem q1028 : (Jvm.Cond.code ({ cls := "ReasonCloser$Closed", name := "same", desc := "(III)V" } : Jvm.MethodName) prog_4_method_8_code (4 : Nat) (Option.none : Option Jvm.ClassFile.FieldType)) ∈ lw_all := lw_g (lw_at lw_m4 201 rfl) rfl
theorem q1118 : (Jvm.Cond.sameMethod "ReasonCloser$Closed" "ReasonCloser$Groups" "like" "(LReasonCloser$Groups;)V") ∈ lw_all := lw_g (lw_at lw_m5 51 rfl) rfl
theorem q1120 : (Jvm.Cond.selects "ReasonCloser$Closed" ({ cls := "ReasonCloser$Closed", name := "like", desc := "(LReasonCloser$Groups;)V" } : Jvm.MethodName) ({ cls := "ReasonCloser$Groups", name := "like", desc := "(LReasonCloser$Groups;)V" } : Jvm.MethodName)) ∈ lw_all := lw_g (lw_at lw_m5 53 rfl) rfl
theorem q1300 : (Jvm.Cond.sameMethod "ReasonCloser$Closed" "ReasonCloser$Groups" "groups" "()I") ∈ lw_all := lw_g (lw_at lw_m5 233 rfl) rfl
theorem q1301 : (Jvm.Cond.selects "ReasonCloser$Closed" ({ cls := "ReasonCloser$Closed", name := "groups", desc := "()I" } : Jvm.MethodName) ({ cls := "ReasonCloser$Groups", name := "groups", desc := "()I" } : Jvm.MethodName)) ∈ lw_all := lw_g (lw_at lw_m5 234 rfl) rfl
theorem q1323 : (Jvm.Cond.selects "ReasonCloser$Closed" ({ cls := "ReasonCloser$Groups", name := "row", desc := "(I)[I" } : Jvm.MethodName) ({ cls := "ReasonCloser$Groups", name := "row", desc := "(I)[I" } : Jvm.MethodName)) ∈ lw_all := lw_g (lw_at lw_m6 16 rfl) rfl
theorem q1963 : (Jvm.Cond.sameMethod "ReasonCloser$Closed" "ReasonCloser$Closed" "closesOne" "()Z") ∈ lw_all := lw_g (lw_at lw_m8 176 rfl) rfl
theorem q1966 : (Jvm.Cond.selects "ReasonCloser$Closed" ({ cls := "ReasonCloser$Groups", name := "puts", desc := "([IIII)V" } : Jvm.MethodName) ({ cls := "ReasonCloser$Groups", name := "puts", desc := "([IIII)V" } : Jvm.MethodName)) ∈ lw_all := lw_g (lw_at lw_m8 179 rfl) rfl
theorem q1969 : (Jvm.Cond.sameMethod "ReasonCloser$Closed" "ReasonCloser$Closed" "comes" "()V") ∈ lw_all := lw_g (lw_at lw_m8 182 rfl) rfl
theorem q1970 : (Jvm.Cond.selects "ReasonCloser$Closed" ({ cls := "ReasonCloser$Closed", name := "comes", desc := "()V" } : Jvm.MethodName) ({ cls := "ReasonCloser$Closed", name := "comes", desc := "()V" } : Jvm.MethodName)) ∈ lw_all := lw_g (lw_at lw_m8 183 rfl) rfl
theorem q1973 : (Jvm.Cond.selects "ReasonCloser$Closed" ({ cls := "ReasonCloser$Groups", name := "areOne", desc := "(II)Z" } : Jvm.MethodName) ({ cls := "ReasonCloser$Groups", name := "areOne", desc := "(II)Z" } : Jvm.MethodName)) ∈ lw_all := lw_g (lw_at lw_m8 186 rfl) rfl
theorem q1976 : (Jvm.Cond.sameMethod "ReasonCloser$Closed" "ReasonCloser$Closed" "same" "(III)V") ∈ lw_all := lw_g (lw_at lw_m8 189 rfl) rfl
theorem q1977 : (Jvm.Cond.selects "ReasonCloser$Closed" ({ cls := "ReasonCloser$Closed", name := "same", desc := "(III)V" } : Jvm.MethodName) ({ cls := "ReasonCloser$Closed", name := "same", desc := "(III)V" } : Jvm.MethodName)) ∈ lw_all := lw_g (lw_at lw_m8 190 rfl) rfl
theorem q1980 : (Jvm.Cond.selects "ReasonCloser$Closed" ({ cls := "ReasonCloser$Groups", name := "unites", desc := "(II)V" } : Jvm.MethodName) ({ cls := "ReasonCloser$Groups", name := "unites", desc := "(II)V" } : Jvm.MethodName)) ∈ lw_all := lw_g (lw_at lw_m8 193 rfl) rfl
theorem q1984 : (Jvm.Cond.selects "ReasonCloser$Closed" ({ cls := "ReasonCloser$Groups", name := "like", desc := "(LReasonCloser$Groups;)V" } : Jvm.MethodName) ({ cls := "ReasonCloser$Groups", name := "like", desc := "(LReasonCloser$Groups;)V" } : Jvm.MethodName)) ∈ lw_all := lw_g (lw_at lw_m8 197 rfl) rfl
theorem q1993 : (Jvm.Cond.castable "ReasonCloser$Closed" "java/lang/Object") ∈ lw_tbl := lw_at lw_m8 206 rfl
theorem q115 : (Jvm.Cond.initialized "ReasonCloser$Forest") ∈ lw_all := lw_g (lw_at lw_m1 8 rfl) rfl
theorem q219 : (Jvm.Cond.instanceMethod ({ cls := "ReasonCloser$Forest", name := "<init>", desc := "(Ljava/util/List;)V" } : Jvm.MethodName)) ∈ lw_all := lw_g (lw_at lw_m1 112 rfl) rfl
theorem q220 : (Jvm.Cond.code ({ cls := "ReasonCloser$Forest", name := "<init>", desc := "(Ljava/util/List;)V" } : Jvm.MethodName) prog_7_method_1_code (3 : Nat) (Option.none : Option Jvm.ClassFile.FieldType)) ∈ lw_all := lw_g (lw_at lw_m1 113 rfl) rfl
theorem q221 : (Jvm.Cond.methodLink "ReasonCloser$Forest" (3 : Nat) ({ cls := "ReasonCloser$Closed", name := "<init>", desc := "(Ljava/util/List;I)V" } : Jvm.MethodName)) ∈ lw_all := lw_g (lw_at lw_m1 114 rfl) rfl
theorem q231 : (Jvm.Cond.fieldLink "ReasonCloser$Forest" (9 : Nat) "ReasonCloser$Forest" "up" "[I") ∈ lw_all := lw_g (lw_at lw_m1 124 rfl) rfl
theorem q235 : (Jvm.Cond.fieldLink "ReasonCloser$Forest" (15 : Nat) "ReasonCloser$Forest" "by" "[I") ∈ lw_all := lw_g (lw_at lw_m1 128 rfl) rfl
theorem q238 : (Jvm.Cond.fieldLink "ReasonCloser$Forest" (18 : Nat) "ReasonCloser$Forest" "first" "[I") ∈ lw_all := lw_g (lw_at lw_m1 131 rfl) rfl
theorem q242 : (Jvm.Cond.fieldLink "ReasonCloser$Forest" (21 : Nat) "ReasonCloser$Forest" "second" "[I") ∈ lw_all := lw_g (lw_at lw_m1 135 rfl) rfl
theorem q246 : (Jvm.Cond.fieldLink "ReasonCloser$Forest" (24 : Nat) "ReasonCloser$Forest" "cause" "[I") ∈ lw_all := lw_g (lw_at lw_m1 139 rfl) rfl
theorem q250 : (Jvm.Cond.fieldLink "ReasonCloser$Forest" (30 : Nat) "ReasonCloser$Forest" "joinMany" "I") ∈ lw_all := lw_g (lw_at lw_m1 143 rfl) rfl
theorem q256 : (Jvm.Cond.fieldLink "ReasonCloser$Forest" (27 : Nat) "ReasonCloser$Forest" "lead" "[I") ∈ lw_all := lw_g (lw_at lw_m1 149 rfl) rfl
theorem q257 : (Jvm.Cond.sameField "ReasonCloser$Forest" "ReasonCloser$Groups" "lead" "[I") ∈ lw_all := lw_g (lw_at lw_m1 150 rfl) rfl
theorem q280 : (Jvm.Cond.soleField "ReasonCloser$Forest" "up") ∈ lw_all := lw_g (lw_at lw_m1 173 rfl) rfl
theorem q282 : (Jvm.Cond.soleField "ReasonCloser$Forest" "by") ∈ lw_all := lw_g (lw_at lw_m1 175 rfl) rfl
theorem q284 : (Jvm.Cond.soleField "ReasonCloser$Forest" "first") ∈ lw_all := lw_g (lw_at lw_m1 177 rfl) rfl
theorem q286 : (Jvm.Cond.soleField "ReasonCloser$Forest" "second") ∈ lw_all := lw_g (lw_at lw_m1 179 rfl) rfl
theorem q288 : (Jvm.Cond.soleField "ReasonCloser$Forest" "cause") ∈ lw_all := lw_g (lw_at lw_m1 181 rfl) rfl
theorem q290 : (Jvm.Cond.soleField "ReasonCloser$Forest" "joinMany") ∈ lw_all := lw_g (lw_at lw_m1 183 rfl) rfl
theorem q997 : (Jvm.Cond.instanceMethod ({ cls := "ReasonCloser$Forest", name := "joins", desc := "(III)V" } : Jvm.MethodName)) ∈ lw_all := lw_g (lw_at lw_m4 170 rfl) rfl
theorem q998 : (Jvm.Cond.code ({ cls := "ReasonCloser$Forest", name := "joins", desc := "(III)V" } : Jvm.MethodName) prog_7_method_3_code (4 : Nat) (Option.none : Option Jvm.ClassFile.FieldType)) ∈ lw_all := lw_g (lw_at lw_m4 171 rfl) rfl
theorem q999 : (Jvm.Cond.methodLink "ReasonCloser$Forest" (34 : Nat) ({ cls := "ReasonCloser$Forest", name := "hangs", desc := "(III)V" } : Jvm.MethodName)) ∈ lw_all := lw_g (lw_at lw_m4 172 rfl) rfl
theorem q1000 : (Jvm.Cond.privateMethod ({ cls := "ReasonCloser$Forest", name := "hangs", desc := "(III)V" } : Jvm.MethodName)) ∈ lw_tbl := lw_at lw_m4 173 rfl
theorem q1001 : (Jvm.Cond.instanceMethod ({ cls := "ReasonCloser$Forest", name := "hangs", desc := "(III)V" } : Jvm.MethodName)) ∈ lw_all := lw_g (lw_at lw_m4 174 rfl) rfl
theorem q1002 : (Jvm.Cond.instantiable "ReasonCloser$Forest" (11 : Nat)) ∈ lw_all := lw_g (lw_at lw_m4 175 rfl) rfl
theorem q1003 : (Jvm.Cond.code ({ cls := "ReasonCloser$Forest", name := "hangs", desc := "(III)V" } : Jvm.MethodName) prog_7_method_4_code (6 : Nat) (Option.none : Option Jvm.ClassFile.FieldType)) ∈ lw_all := lw_g (lw_at lw_m4 176 rfl) rfl
theorem q1004 : (Jvm.Cond.methodLink "ReasonCloser$Forest" (41 : Nat) ({ cls := "ReasonCloser$Forest", name := "puts", desc := "([IIII)V" } : Jvm.MethodName)) ∈ lw_all := lw_g (lw_at lw_m4 177 rfl) rfl
theorem q1005 : (Jvm.Cond.sameMethod "ReasonCloser$Forest" "ReasonCloser$Groups" "puts" "([IIII)V") ∈ lw_all := lw_g (lw_at lw_m4 178 rfl) rfl
theorem q1007 : (Jvm.Cond.methodLink "ReasonCloser$Forest" (38 : Nat) ({ cls := "ReasonCloser$Closed", name := "joins", desc := "(III)V" } : Jvm.MethodName)) ∈ lw_all := lw_g (lw_at lw_m4 180 rfl) rfl
theorem q1008 : (Jvm.Cond.superclass "ReasonCloser$Forest" "ReasonCloser$Closed") ∈ lw_all := lw_g (lw_at lw_m4 181 rfl) rfl
theorem q1325 : (Jvm.Cond.instanceMethod ({ cls := "ReasonCloser$Forest", name := "row", desc := "(I)[I" } : Jvm.MethodName)) ∈ lw_all := lw_g (lw_at lw_m6 18 rfl) rfl
theorem q1326 : (Jvm.Cond.code ({ cls := "ReasonCloser$Forest", name := "row", desc := "(I)[I" } : Jvm.MethodName) prog_7_method_2_code (2 : Nat) (Option.some (Jvm.ClassFile.FieldType.array Jvm.ClassFile.FieldType.int))) ∈ lw_all := lw_g (lw_at lw_m6 19 rfl) rfl
theorem q1964 : (Jvm.Cond.sameMethod "ReasonCloser$Forest" "ReasonCloser$Forest" "hangs" "(III)V") ∈ lw_all := lw_g (lw_at lw_m8 177 rfl) rfl
theorem q2005 : (Jvm.Cond.castable "ReasonCloser$Forest" "java/lang/Object") ∈ lw_tbl := lw_at lw_m8 218 rfl
theorem q116 : (Jvm.Cond.initialized "ReasonCloser$Reasons") ∈ lw_all := lw_g (lw_at lw_m1 9 rfl) rfl
theorem q214 : (Jvm.Cond.instantiable "ReasonCloser$Reasons" (14 : Nat)) ∈ lw_all := lw_g (lw_at lw_m1 107 rfl) rfl
theorem q216 : (Jvm.Cond.instanceMethod ({ cls := "ReasonCloser$Reasons", name := "<init>", desc := "(Ljava/util/List;)V" } : Jvm.MethodName)) ∈ lw_all := lw_g (lw_at lw_m1 109 rfl) rfl
theorem q217 : (Jvm.Cond.code ({ cls := "ReasonCloser$Reasons", name := "<init>", desc := "(Ljava/util/List;)V" } : Jvm.MethodName) prog_11_method_1_code (2 : Nat) (Option.none : Option Jvm.ClassFile.FieldType)) ∈ lw_all := lw_g (lw_at lw_m1 110 rfl) rfl
theorem q218 : (Jvm.Cond.methodLink "ReasonCloser$Reasons" (3 : Nat) ({ cls := "ReasonCloser$Forest", name := "<init>", desc := "(Ljava/util/List;)V" } : Jvm.MethodName)) ∈ lw_all := lw_g (lw_at lw_m1 111 rfl) rfl
theorem q228 : (Jvm.Cond.fieldLink "ReasonCloser$Reasons" (9 : Nat) "ReasonCloser$Reasons" "isAbove" "[Z") ∈ lw_all := lw_g (lw_at lw_m1 121 rfl) rfl
theorem q229 : (Jvm.Cond.fieldLink "ReasonCloser$Reasons" (15 : Nat) "ReasonCloser$Reasons" "isDone" "[Z") ∈ lw_all := lw_g (lw_at lw_m1 122 rfl) rfl
theorem q230 : (Jvm.Cond.fieldLink "ReasonCloser$Reasons" (18 : Nat) "ReasonCloser$Reasons" "set" "I") ∈ lw_all := lw_g (lw_at lw_m1 123 rfl) rfl
theorem q232 : (Jvm.Cond.fieldLink "ReasonCloser$Reasons" (26 : Nat) "ReasonCloser$Reasons" "up" "[I") ∈ lw_all := lw_g (lw_at lw_m1 125 rfl) rfl
theorem q233 : (Jvm.Cond.sameField "ReasonCloser$Reasons" "ReasonCloser$Forest" "up" "[I") ∈ lw_all := lw_g (lw_at lw_m1 126 rfl) rfl
theorem q236 : (Jvm.Cond.fieldLink "ReasonCloser$Reasons" (34 : Nat) "ReasonCloser$Reasons" "by" "[I") ∈ lw_all := lw_g (lw_at lw_m1 129 rfl) rfl
theorem q237 : (Jvm.Cond.sameField "ReasonCloser$Reasons" "ReasonCloser$Forest" "by" "[I") ∈ lw_all := lw_g (lw_at lw_m1 130 rfl) rfl
theorem q239 : (Jvm.Cond.fieldLink "ReasonCloser$Reasons" (48 : Nat) "ReasonCloser$Reasons" "first" "[I") ∈ lw_all := lw_g (lw_at lw_m1 132 rfl) rfl
theorem q240 : (Jvm.Cond.sameField "ReasonCloser$Reasons" "ReasonCloser$Forest" "first" "[I") ∈ lw_all := lw_g (lw_at lw_m1 133 rfl) rfl
theorem q243 : (Jvm.Cond.fieldLink "ReasonCloser$Reasons" (62 : Nat) "ReasonCloser$Reasons" "second" "[I") ∈ lw_all := lw_g (lw_at lw_m1 136 rfl) rfl
theorem q244 : (Jvm.Cond.sameField "ReasonCloser$Reasons" "ReasonCloser$Forest" "second" "[I") ∈ lw_all := lw_g (lw_at lw_m1 137 rfl) rfl
theorem q247 : (Jvm.Cond.fieldLink "ReasonCloser$Reasons" (41 : Nat) "ReasonCloser$Reasons" "cause" "[I") ∈ lw_all := lw_g (lw_at lw_m1 140 rfl) rfl
theorem q248 : (Jvm.Cond.sameField "ReasonCloser$Reasons" "ReasonCloser$Forest" "cause" "[I") ∈ lw_all := lw_g (lw_at lw_m1 141 rfl) rfl
theorem q252 : (Jvm.Cond.sameField "ReasonCloser$Reasons" "ReasonCloser$Forest" "joinMany" "I") ∈ lw_all := lw_g (lw_at lw_m1 145 rfl) rfl
theorem q254 : (Jvm.Cond.fieldLink "ReasonCloser$Reasons" (44 : Nat) "ReasonCloser$Reasons" "terms" "Ljava/util/List;") ∈ lw_all := lw_g (lw_at lw_m1 147 rfl) rfl
theorem q255 : (Jvm.Cond.sameField "ReasonCloser$Reasons" "ReasonCloser$Closed" "terms" "Ljava/util/List;") ∈ lw_all := lw_g (lw_at lw_m1 148 rfl) rfl
theorem q262 : (Jvm.Cond.sameField "ReasonCloser$Reasons" "ReasonCloser$Groups" "lead" "[I") ∈ lw_all := lw_g (lw_at lw_m1 155 rfl) rfl
theorem q270 : (Jvm.Cond.sameField "ReasonCloser$Reasons" "ReasonCloser$Groups" "many" "I") ∈ lw_all := lw_g (lw_at lw_m1 163 rfl) rfl
theorem q273 : (Jvm.Cond.laysFinal "ReasonCloser$Reasons" "ReasonCloser$Reasons" "isAbove" "[Z") ∈ lw_all := lw_g (lw_at lw_m1 166 rfl) rfl
theorem q274 : (Jvm.Cond.soleField "ReasonCloser$Reasons" "isAbove") ∈ lw_all := lw_g (lw_at lw_m1 167 rfl) rfl
theorem q275 : (Jvm.Cond.laysFinal "ReasonCloser$Reasons" "ReasonCloser$Reasons" "isDone" "[Z") ∈ lw_all := lw_g (lw_at lw_m1 168 rfl) rfl
theorem q276 : (Jvm.Cond.soleField "ReasonCloser$Reasons" "isDone") ∈ lw_all := lw_g (lw_at lw_m1 169 rfl) rfl
theorem q277 : (Jvm.Cond.lays "ReasonCloser$Reasons" "ReasonCloser$Reasons" "set" "I") ∈ lw_all := lw_g (lw_at lw_m1 170 rfl) rfl
theorem q278 : (Jvm.Cond.soleField "ReasonCloser$Reasons" "set") ∈ lw_all := lw_g (lw_at lw_m1 171 rfl) rfl
theorem q279 : (Jvm.Cond.laysFinal "ReasonCloser$Reasons" "ReasonCloser$Forest" "up" "[I") ∈ lw_all := lw_g (lw_at lw_m1 172 rfl) rfl
theorem q281 : (Jvm.Cond.laysFinal "ReasonCloser$Reasons" "ReasonCloser$Forest" "by" "[I") ∈ lw_all := lw_g (lw_at lw_m1 174 rfl) rfl
theorem q283 : (Jvm.Cond.laysFinal "ReasonCloser$Reasons" "ReasonCloser$Forest" "first" "[I") ∈ lw_all := lw_g (lw_at lw_m1 176 rfl) rfl
theorem q285 : (Jvm.Cond.laysFinal "ReasonCloser$Reasons" "ReasonCloser$Forest" "second" "[I") ∈ lw_all := lw_g (lw_at lw_m1 178 rfl) rfl
theorem q287 : (Jvm.Cond.laysFinal "ReasonCloser$Reasons" "ReasonCloser$Forest" "cause" "[I") ∈ lw_all := lw_g (lw_at lw_m1 180 rfl) rfl
theorem q289 : (Jvm.Cond.lays "ReasonCloser$Reasons" "ReasonCloser$Forest" "joinMany" "I") ∈ lw_all := lw_g (lw_at lw_m1 182 rfl) rfl
theorem q291 : (Jvm.Cond.laysFinal "ReasonCloser$Reasons" "ReasonCloser$Closed" "terms" "Ljava/util/List;") ∈ lw_all := lw_g (lw_at lw_m1 184 rfl) rfl
theorem q293 : (Jvm.Cond.laysFinal "ReasonCloser$Reasons" "ReasonCloser$Groups" "lead" "[I") ∈ lw_all := lw_g (lw_at lw_m1 186 rfl) rfl
theorem q295 : (Jvm.Cond.lays "ReasonCloser$Reasons" "ReasonCloser$Groups" "many" "I") ∈ lw_all := lw_g (lw_at lw_m1 188 rfl) rfl
theorem q297 : (Jvm.Cond.lays "ReasonCloser$Reasons" "ReasonCloser$Groups" "trail" "[I") ∈ lw_all := lw_g (lw_at lw_m1 190 rfl) rfl
theorem q299 : (Jvm.Cond.lays "ReasonCloser$Reasons" "ReasonCloser$Groups" "trailed" "I") ∈ lw_all := lw_g (lw_at lw_m1 192 rfl) rfl
theorem q301 : (Jvm.Cond.superclass "ReasonCloser$Reasons" "ReasonCloser$Forest") ∈ lw_all := lw_g (lw_at lw_m1 194 rfl) rfl
theorem q771 : (Jvm.Cond.selects "ReasonCloser$Reasons" ({ cls := "java/lang/Object", name := "getClass", desc := "()Ljava/lang/Class;" } : Jvm.MethodName) ({ cls := "java/lang/Object", name := "getClass", desc := "()Ljava/lang/Class;" } : Jvm.MethodName)) ∈ lw_all := lw_g (lw_at lw_m3 184 rfl) rfl
theorem q826 : (Jvm.Cond.fieldLinkNest "ReasonCloser$Reasons" (59 : Nat) "ReasonCloser$Term" "parts" "[I" "ReasonCloser") ∈ lw_tbl := lw_at lw_m3 239 rfl
theorem q953 : (Jvm.Cond.sameMethod "ReasonCloser$Reasons" "ReasonCloser$Closed" "comes" "()V") ∈ lw_all := lw_g (lw_at lw_m4 126 rfl) rfl
theorem q955 : (Jvm.Cond.selects "ReasonCloser$Reasons" ({ cls := "ReasonCloser$Reasons", name := "comes", desc := "()V" } : Jvm.MethodName) ({ cls := "ReasonCloser$Closed", name := "comes", desc := "()V" } : Jvm.MethodName)) ∈ lw_all := lw_g (lw_at lw_m4 128 rfl) rfl
theorem q962 : (Jvm.Cond.selects "ReasonCloser$Reasons" ({ cls := "ReasonCloser$Closed", name := "puts", desc := "([IIII)V" } : Jvm.MethodName) ({ cls := "ReasonCloser$Groups", name := "puts", desc := "([IIII)V" } : Jvm.MethodName)) ∈ lw_all := lw_g (lw_at lw_m4 135 rfl) rfl
theorem q970 : (Jvm.Cond.selects "ReasonCloser$Reasons" ({ cls := "ReasonCloser$Closed", name := "closes", desc := "()V" } : Jvm.MethodName) ({ cls := "ReasonCloser$Closed", name := "closes", desc := "()V" } : Jvm.MethodName)) ∈ lw_all := lw_g (lw_at lw_m4 143 rfl) rfl
theorem q980 : (Jvm.Cond.selects "ReasonCloser$Reasons" ({ cls := "ReasonCloser$Closed", name := "areOne", desc := "(II)Z" } : Jvm.MethodName) ({ cls := "ReasonCloser$Groups", name := "areOne", desc := "(II)Z" } : Jvm.MethodName)) ∈ lw_all := lw_g (lw_at lw_m4 153 rfl) rfl
theorem q987 : (Jvm.Cond.selects "ReasonCloser$Reasons" ({ cls := "ReasonCloser$Closed", name := "follow", desc := "(II)Z" } : Jvm.MethodName) ({ cls := "ReasonCloser$Closed", name := "follow", desc := "(II)Z" } : Jvm.MethodName)) ∈ lw_all := lw_g (lw_at lw_m4 160 rfl) rfl
theorem q996 : (Jvm.Cond.selects "ReasonCloser$Reasons" ({ cls := "ReasonCloser$Closed", name := "joins", desc := "(III)V" } : Jvm.MethodName) ({ cls := "ReasonCloser$Forest", name := "joins", desc := "(III)V" } : Jvm.MethodName)) ∈ lw_all := lw_g (lw_at lw_m4 169 rfl) rfl
theorem q1006 : (Jvm.Cond.selects "ReasonCloser$Reasons" ({ cls := "ReasonCloser$Forest", name := "puts", desc := "([IIII)V" } : Jvm.MethodName) ({ cls := "ReasonCloser$Groups", name := "puts", desc := "([IIII)V" } : Jvm.MethodName)) ∈ lw_all := lw_g (lw_at lw_m4 179 rfl) rfl
theorem q1014 : (Jvm.Cond.selects "ReasonCloser$Reasons" ({ cls := "ReasonCloser$Closed", name := "unites", desc := "(II)V" } : Jvm.MethodName) ({ cls := "ReasonCloser$Groups", name := "unites", desc := "(II)V" } : Jvm.MethodName)) ∈ lw_all := lw_g (lw_at lw_m4 187 rfl) rfl
theorem q1024 : (Jvm.Cond.sameMethod "ReasonCloser$Reasons" "ReasonCloser$Closed" "same" "(III)V") ∈ lw_all := lw_g (lw_at lw_m4 197 rfl) rfl
theorem q1026 : (Jvm.Cond.selects "ReasonCloser$Reasons" ({ cls := "ReasonCloser$Reasons", name := "same", desc := "(III)V" } : Jvm.MethodName) ({ cls := "ReasonCloser$Closed", name := "same", desc := "(III)V" } : Jvm.MethodName)) ∈ lw_all := lw_g (lw_at lw_m4 199 rfl) rfl
theorem q1057 : (Jvm.Cond.sameMethod "ReasonCloser$Reasons" "ReasonCloser$Groups" "groups" "()I") ∈ lw_all := lw_g (lw_at lw_m4 230 rfl) rfl
theorem q1059 : (Jvm.Cond.selects "ReasonCloser$Reasons" ({ cls := "ReasonCloser$Reasons", name := "groups", desc := "()I" } : Jvm.MethodName) ({ cls := "ReasonCloser$Groups", name := "groups", desc := "()I" } : Jvm.MethodName)) ∈ lw_all := lw_g (lw_at lw_m4 232 rfl) rfl
theorem q1086 : (Jvm.Cond.sameMethod "ReasonCloser$Reasons" "ReasonCloser$Groups" "areOne" "(II)Z") ∈ lw_all := lw_g (lw_at lw_m5 19 rfl) rfl
theorem q1087 : (Jvm.Cond.selects "ReasonCloser$Reasons" ({ cls := "ReasonCloser$Reasons", name := "areOne", desc := "(II)Z" } : Jvm.MethodName) ({ cls := "ReasonCloser$Groups", name := "areOne", desc := "(II)Z" } : Jvm.MethodName)) ∈ lw_all := lw_g (lw_at lw_m5 20 rfl) rfl
theorem q1121 : (Jvm.Cond.selects "ReasonCloser$Reasons" ({ cls := "ReasonCloser$Closed", name := "like", desc := "(LReasonCloser$Groups;)V" } : Jvm.MethodName) ({ cls := "ReasonCloser$Groups", name := "like", desc := "(LReasonCloser$Groups;)V" } : Jvm.MethodName)) ∈ lw_all := lw_g (lw_at lw_m5 54 rfl) rfl
theorem q1162 : (Jvm.Cond.instanceMethod ({ cls := "ReasonCloser$Reasons", name := "of", desc := "(II)I" } : Jvm.MethodName)) ∈ lw_all := lw_g (lw_at lw_m5 95 rfl) rfl
theorem q1163 : (Jvm.Cond.selects "ReasonCloser$Reasons" ({ cls := "ReasonCloser$Reasons", name := "of", desc := "(II)I" } : Jvm.MethodName) ({ cls := "ReasonCloser$Reasons", name := "of", desc := "(II)I" } : Jvm.MethodName)) ∈ lw_all := lw_g (lw_at lw_m5 96 rfl) rfl
theorem q1164 : (Jvm.Cond.code ({ cls := "ReasonCloser$Reasons", name := "of", desc := "(II)I" } : Jvm.MethodName) prog_11_method_2_code (4 : Nat) (Option.some Jvm.ClassFile.FieldType.int)) ∈ lw_all := lw_g (lw_at lw_m5 97 rfl) rfl
theorem q1165 : (Jvm.Cond.methodLink "ReasonCloser$Reasons" (22 : Nat) ({ cls := "ReasonCloser$Reasons", name := "leads", desc := "(II)V" } : Jvm.MethodName)) ∈ lw_all := lw_g (lw_at lw_m5 98 rfl) rfl
theorem q1166 : (Jvm.Cond.privateMethod ({ cls := "ReasonCloser$Reasons", name := "leads", desc := "(II)V" } : Jvm.MethodName)) ∈ lw_tbl := lw_at lw_m5 99 rfl
theorem q1167 : (Jvm.Cond.instanceMethod ({ cls := "ReasonCloser$Reasons", name := "leads", desc := "(II)V" } : Jvm.MethodName)) ∈ lw_all := lw_g (lw_at lw_m5 100 rfl) rfl
theorem q1168 : (Jvm.Cond.code ({ cls := "ReasonCloser$Reasons", name := "leads", desc := "(II)V" } : Jvm.MethodName) prog_11_method_4_code (5 : Nat) (Option.none : Option Jvm.ClassFile.FieldType)) ∈ lw_all := lw_g (lw_at lw_m5 101 rfl) rfl
theorem q1169 : (Jvm.Cond.methodLink "ReasonCloser$Reasons" (30 : Nat) ({ cls := "ReasonCloser$Reasons", name := "common", desc := "(II)I" } : Jvm.MethodName)) ∈ lw_all := lw_g (lw_at lw_m5 102 rfl) rfl
theorem q1170 : (Jvm.Cond.privateMethod ({ cls := "ReasonCloser$Reasons", name := "common", desc := "(II)I" } : Jvm.MethodName)) ∈ lw_tbl := lw_at lw_m5 103 rfl
theorem q1171 : (Jvm.Cond.instanceMethod ({ cls := "ReasonCloser$Reasons", name := "common", desc := "(II)I" } : Jvm.MethodName)) ∈ lw_all := lw_g (lw_at lw_m5 104 rfl) rfl
theorem q1172 : (Jvm.Cond.code ({ cls := "ReasonCloser$Reasons", name := "common", desc := "(II)I" } : Jvm.MethodName) prog_11_method_3_code (4 : Nat) (Option.some Jvm.ClassFile.FieldType.int)) ∈ lw_all := lw_g (lw_at lw_m5 105 rfl) rfl
theorem q1173 : (Jvm.Cond.methodLink "ReasonCloser$Reasons" (37 : Nat) ({ cls := "ReasonCloser$Reasons", name := "takes", desc := "(I)V" } : Jvm.MethodName)) ∈ lw_all := lw_g (lw_at lw_m5 106 rfl) rfl
theorem q1174 : (Jvm.Cond.privateMethod ({ cls := "ReasonCloser$Reasons", name := "takes", desc := "(I)V" } : Jvm.MethodName)) ∈ lw_tbl := lw_at lw_m5 107 rfl
theorem q1175 : (Jvm.Cond.instanceMethod ({ cls := "ReasonCloser$Reasons", name := "takes", desc := "(I)V" } : Jvm.MethodName)) ∈ lw_all := lw_g (lw_at lw_m5 108 rfl) rfl
theorem q1176 : (Jvm.Cond.code ({ cls := "ReasonCloser$Reasons", name := "takes", desc := "(I)V" } : Jvm.MethodName) prog_11_method_5_code (5 : Nat) (Option.none : Option Jvm.ClassFile.FieldType)) ∈ lw_all := lw_g (lw_at lw_m5 109 rfl) rfl
theorem q1177 : (Jvm.Cond.interfaceEntry "ReasonCloser$Reasons" (51 : Nat)) ∈ lw_tbl := lw_at lw_m5 110 rfl
theorem q1178 : (Jvm.Cond.methodLink "ReasonCloser$Reasons" (51 : Nat) ({ cls := "java/util/List", name := "get", desc := "(I)Ljava/lang/Object;" } : Jvm.MethodName)) ∈ lw_all := lw_g (lw_at lw_m5 111 rfl) rfl
theorem q1179 : (Jvm.Cond.classLink "ReasonCloser$Reasons" (57 : Nat) "ReasonCloser$Term") ∈ lw_all := lw_g (lw_at lw_m5 112 rfl) rfl
theorem q1302 : (Jvm.Cond.selects "ReasonCloser$Reasons" ({ cls := "ReasonCloser$Closed", name := "groups", desc := "()I" } : Jvm.MethodName) ({ cls := "ReasonCloser$Groups", name := "groups", desc := "()I" } : Jvm.MethodName)) ∈ lw_all := lw_g (lw_at lw_m5 235 rfl) rfl
theorem q1308 : (Jvm.Cond.sameMethod "ReasonCloser$Reasons" "ReasonCloser$Groups" "trailed" "()I") ∈ lw_all := lw_g (lw_at lw_m6 1 rfl) rfl
theorem q1310 : (Jvm.Cond.selects "ReasonCloser$Reasons" ({ cls := "ReasonCloser$Reasons", name := "trailed", desc := "()I" } : Jvm.MethodName) ({ cls := "ReasonCloser$Groups", name := "trailed", desc := "()I" } : Jvm.MethodName)) ∈ lw_all := lw_g (lw_at lw_m6 3 rfl) rfl
theorem q1314 : (Jvm.Cond.sameMethod "ReasonCloser$Reasons" "ReasonCloser$Groups" "goesBack" "(I)V") ∈ lw_all := lw_g (lw_at lw_m6 7 rfl) rfl
theorem q1316 : (Jvm.Cond.selects "ReasonCloser$Reasons" ({ cls := "ReasonCloser$Reasons", name := "goesBack", desc := "(I)V" } : Jvm.MethodName) ({ cls := "ReasonCloser$Groups", name := "goesBack", desc := "(I)V" } : Jvm.MethodName)) ∈ lw_all := lw_g (lw_at lw_m6 9 rfl) rfl
theorem q1324 : (Jvm.Cond.selects "ReasonCloser$Reasons" ({ cls := "ReasonCloser$Groups", name := "row", desc := "(I)[I" } : Jvm.MethodName) ({ cls := "ReasonCloser$Forest", name := "row", desc := "(I)[I" } : Jvm.MethodName)) ∈ lw_all := lw_g (lw_at lw_m6 17 rfl) rfl
theorem q1968 : (Jvm.Cond.selects "ReasonCloser$Reasons" ({ cls := "ReasonCloser$Groups", name := "puts", desc := "([IIII)V" } : Jvm.MethodName) ({ cls := "ReasonCloser$Groups", name := "puts", desc := "([IIII)V" } : Jvm.MethodName)) ∈ lw_all := lw_g (lw_at lw_m8 181 rfl) rfl
theorem q1971 : (Jvm.Cond.selects "ReasonCloser$Reasons" ({ cls := "ReasonCloser$Closed", name := "comes", desc := "()V" } : Jvm.MethodName) ({ cls := "ReasonCloser$Closed", name := "comes", desc := "()V" } : Jvm.MethodName)) ∈ lw_all := lw_g (lw_at lw_m8 184 rfl) rfl
theorem q1975 : (Jvm.Cond.selects "ReasonCloser$Reasons" ({ cls := "ReasonCloser$Groups", name := "areOne", desc := "(II)Z" } : Jvm.MethodName) ({ cls := "ReasonCloser$Groups", name := "areOne", desc := "(II)Z" } : Jvm.MethodName)) ∈ lw_all := lw_g (lw_at lw_m8 188 rfl) rfl
theorem q1978 : (Jvm.Cond.selects "ReasonCloser$Reasons" ({ cls := "ReasonCloser$Closed", name := "same", desc := "(III)V" } : Jvm.MethodName) ({ cls := "ReasonCloser$Closed", name := "same", desc := "(III)V" } : Jvm.MethodName)) ∈ lw_all := lw_g (lw_at lw_m8 191 rfl) rfl
theorem q1982 : (Jvm.Cond.selects "ReasonCloser$Reasons" ({ cls := "ReasonCloser$Groups", name := "unites", desc := "(II)V" } : Jvm.MethodName) ({ cls := "ReasonCloser$Groups", name := "unites", desc := "(II)V" } : Jvm.MethodName)) ∈ lw_all := lw_g (lw_at lw_m8 195 rfl) rfl
theorem q1986 : (Jvm.Cond.selects "ReasonCloser$Reasons" ({ cls := "ReasonCloser$Groups", name := "like", desc := "(LReasonCloser$Groups;)V" } : Jvm.MethodName) ({ cls := "ReasonCloser$Groups", name := "like", desc := "(LReasonCloser$Groups;)V" } : Jvm.MethodName)) ∈ lw_all := lw_g (lw_at lw_m8 199 rfl) rfl
theorem q1992 : (Jvm.Cond.castable "ReasonCloser$Reasons" "java/lang/Object") ∈ lw_tbl := lw_at lw_m8 205 rfl
theorem q117 : (Jvm.Cond.initialized "ReasonCloserModel") ∈ lw_all := lw_g (lw_at lw_m1 10 rfl) rfl
theorem q773 : (Jvm.Cond.selects "ReasonCloserModel" ({ cls := "java/lang/Object", name := "getClass", desc := "()Ljava/lang/Class;" } : Jvm.MethodName) ({ cls := "java/lang/Object", name := "getClass", desc := "()Ljava/lang/Class;" } : Jvm.MethodName)) ∈ lw_all := lw_g (lw_at lw_m3 186 rfl) rfl
theorem q1401 : (Jvm.Cond.instantiable "ReasonCloserModel" (56 : Nat)) ∈ lw_all := lw_g (lw_at lw_m6 94 rfl) rfl
theorem q1403 : (Jvm.Cond.instanceMethod ({ cls := "ReasonCloserModel", name := "<init>", desc := "()V" } : Jvm.MethodName)) ∈ lw_all := lw_g (lw_at lw_m6 96 rfl) rfl
theorem q1404 : (Jvm.Cond.code ({ cls := "ReasonCloserModel", name := "<init>", desc := "()V" } : Jvm.MethodName) prog_14_method_1_code (1 : Nat) (Option.none : Option Jvm.ClassFile.FieldType)) ∈ lw_all := lw_g (lw_at lw_m6 97 rfl) rfl
theorem q1405 : (Jvm.Cond.methodLink "ReasonCloserModel" (1 : Nat) ({ cls := "java/lang/Object", name := "<init>", desc := "()V" } : Jvm.MethodName)) ∈ lw_all := lw_g (lw_at lw_m6 98 rfl) rfl
theorem q1406 : (Jvm.Cond.fieldLink "ReasonCloserModel" (103 : Nat) "ReasonCloserModel" "thrown" "I") ∈ lw_all := lw_g (lw_at lw_m6 99 rfl) rfl
theorem q1407 : (Jvm.Cond.fieldLink "ReasonCloserModel" (106 : Nat) "ReasonCloserModel" "trouble" "I") ∈ lw_all := lw_g (lw_at lw_m6 100 rfl) rfl
theorem q1408 : (Jvm.Cond.fieldLink "ReasonCloserModel" (226 : Nat) "ReasonCloserModel" "fault" "I") ∈ lw_all := lw_g (lw_at lw_m6 101 rfl) rfl
theorem q1409 : (Jvm.Cond.fieldLink "ReasonCloserModel" (9 : Nat) "ReasonCloserModel" "where" "I") ∈ lw_all := lw_g (lw_at lw_m6 102 rfl) rfl
theorem q1410 : (Jvm.Cond.fieldLink "ReasonCloserModel" (13 : Nat) "ReasonCloserModel" "tape" "[I") ∈ lw_all := lw_g (lw_at lw_m6 103 rfl) rfl
theorem q1411 : (Jvm.Cond.fieldLink "ReasonCloserModel" (109 : Nat) "ReasonCloserModel" "taped" "I") ∈ lw_all := lw_g (lw_at lw_m6 104 rfl) rfl
theorem q1412 : (Jvm.Cond.fieldLink "ReasonCloserModel" (235 : Nat) "ReasonCloserModel" "funs" "I") ∈ lw_all := lw_g (lw_at lw_m6 105 rfl) rfl
theorem q1413 : (Jvm.Cond.fieldLink "ReasonCloserModel" (17 : Nat) "ReasonCloserModel" "takes" "[I") ∈ lw_all := lw_g (lw_at lw_m6 106 rfl) rfl
theorem q1414 : (Jvm.Cond.fieldLink "ReasonCloserModel" (238 : Nat) "ReasonCloserModel" "rows" "I") ∈ lw_all := lw_g (lw_at lw_m6 107 rfl) rfl
theorem q1415 : (Jvm.Cond.fieldLink "ReasonCloserModel" (241 : Nat) "ReasonCloserModel" "textRows" "I") ∈ lw_all := lw_g (lw_at lw_m6 108 rfl) rfl
theorem q1416 : (Jvm.Cond.fieldLink "ReasonCloserModel" (20 : Nat) "ReasonCloserModel" "sort" "[I") ∈ lw_all := lw_g (lw_at lw_m6 109 rfl) rfl
theorem q1417 : (Jvm.Cond.fieldLink "ReasonCloserModel" (23 : Nat) "ReasonCloserModel" "told" "[I") ∈ lw_all := lw_g (lw_at lw_m6 110 rfl) rfl
theorem q1418 : (Jvm.Cond.fieldLink "ReasonCloserModel" (26 : Nat) "ReasonCloserModel" "name" "[I") ∈ lw_all := lw_g (lw_at lw_m6 111 rfl) rfl
theorem q1419 : (Jvm.Cond.fieldLink "ReasonCloserModel" (116 : Nat) "ReasonCloserModel" "textLong" "I") ∈ lw_all := lw_g (lw_at lw_m6 112 rfl) rfl
theorem q1420 : (Jvm.Cond.fieldLink "ReasonCloserModel" (126 : Nat) "ReasonCloserModel" "place" "I") ∈ lw_all := lw_g (lw_at lw_m6 113 rfl) rfl
theorem q1421 : (Jvm.Cond.fieldLink "ReasonCloserModel" (119 : Nat) "ReasonCloserModel" "spot" "I") ∈ lw_all := lw_g (lw_at lw_m6 114 rfl) rfl
theorem q1422 : (Jvm.Cond.fieldLink "ReasonCloserModel" (129 : Nat) "ReasonCloserModel" "token" "I") ∈ lw_all := lw_g (lw_at lw_m6 115 rfl) rfl
theorem q1423 : (Jvm.Cond.fieldLink "ReasonCloserModel" (136 : Nat) "ReasonCloserModel" "whole" "I") ∈ lw_all := lw_g (lw_at lw_m6 116 rfl) rfl
theorem q1424 : (Jvm.Cond.fieldLink "ReasonCloserModel" (149 : Nat) "ReasonCloserModel" "readFault" "I") ∈ lw_all := lw_g (lw_at lw_m6 117 rfl) rfl
theorem q1425 : (Jvm.Cond.fieldLink "ReasonCloserModel" (152 : Nat) "ReasonCloserModel" "readPlace" "I") ∈ lw_all := lw_g (lw_at lw_m6 118 rfl) rfl
theorem q1426 : (Jvm.Cond.fieldLink "ReasonCloserModel" (166 : Nat) "ReasonCloserModel" "readFuns" "I") ∈ lw_all := lw_g (lw_at lw_m6 119 rfl) rfl
theorem q1427 : (Jvm.Cond.fieldLink "ReasonCloserModel" (173 : Nat) "ReasonCloserModel" "readTerms" "I") ∈ lw_all := lw_g (lw_at lw_m6 120 rfl) rfl
theorem q1428 : (Jvm.Cond.fieldLink "ReasonCloserModel" (204 : Nat) "ReasonCloserModel" "readSames" "I") ∈ lw_all := lw_g (lw_at lw_m6 121 rfl) rfl
theorem q1429 : (Jvm.Cond.fieldLink "ReasonCloserModel" (207 : Nat) "ReasonCloserModel" "readDiffs" "I") ∈ lw_all := lw_g (lw_at lw_m6 122 rfl) rfl
theorem q1430 : (Jvm.Cond.fieldLink "ReasonCloserModel" (197 : Nat) "ReasonCloserModel" "readRows" "I") ∈ lw_all := lw_g (lw_at lw_m6 123 rfl) rfl
theorem q1431 : (Jvm.Cond.fieldLink "ReasonCloserModel" (29 : Nat) "ReasonCloserModel" "funName" "[I") ∈ lw_all := lw_g (lw_at lw_m6 124 rfl) rfl
theorem q1432 : (Jvm.Cond.fieldLink "ReasonCloserModel" (244 : Nat) "ReasonCloserModel" "named" "I") ∈ lw_all := lw_g (lw_at lw_m6 125 rfl) rfl
theorem q1433 : (Jvm.Cond.fieldLink "ReasonCloserModel" (250 : Nat) "ReasonCloserModel" "terms" "I") ∈ lw_all := lw_g (lw_at lw_m6 126 rfl) rfl
theorem q1434 : (Jvm.Cond.fieldLink "ReasonCloserModel" (32 : Nat) "ReasonCloserModel" "fun" "[I") ∈ lw_all := lw_g (lw_at lw_m6 127 rfl) rfl
theorem q1435 : (Jvm.Cond.fieldLink "ReasonCloserModel" (35 : Nat) "ReasonCloserModel" "part" "[I") ∈ lw_all := lw_g (lw_at lw_m6 128 rfl) rfl
theorem q1436 : (Jvm.Cond.fieldLink "ReasonCloserModel" (287 : Nat) "ReasonCloserModel" "sames" "I") ∈ lw_all := lw_g (lw_at lw_m6 129 rfl) rfl
theorem q1437 : (Jvm.Cond.fieldLink "ReasonCloserModel" (38 : Nat) "ReasonCloserModel" "sameA" "[I") ∈ lw_all := lw_g (lw_at lw_m6 130 rfl) rfl
theorem q1438 : (Jvm.Cond.fieldLink "ReasonCloserModel" (41 : Nat) "ReasonCloserModel" "sameB" "[I") ∈ lw_all := lw_g (lw_at lw_m6 131 rfl) rfl
theorem q1439 : (Jvm.Cond.fieldLink "ReasonCloserModel" (297 : Nat) "ReasonCloserModel" "diffs" "I") ∈ lw_all := lw_g (lw_at lw_m6 132 rfl) rfl
theorem q1440 : (Jvm.Cond.fieldLink "ReasonCloserModel" (44 : Nat) "ReasonCloserModel" "diffA" "[I") ∈ lw_all := lw_g (lw_at lw_m6 133 rfl) rfl
theorem q1441 : (Jvm.Cond.fieldLink "ReasonCloserModel" (47 : Nat) "ReasonCloserModel" "diffB" "[I") ∈ lw_all := lw_g (lw_at lw_m6 134 rfl) rfl
theorem q1442 : (Jvm.Cond.fieldLink "ReasonCloserModel" (50 : Nat) "ReasonCloserModel" "lead" "[I") ∈ lw_all := lw_g (lw_at lw_m6 135 rfl) rfl
theorem q1443 : (Jvm.Cond.fieldLink "ReasonCloserModel" (53 : Nat) "ReasonCloserModel" "hangsOn" "[I") ∈ lw_all := lw_g (lw_at lw_m6 136 rfl) rfl
theorem q1444 : (Jvm.Cond.fieldLink "ReasonCloserModel" (56 : Nat) "ReasonCloserModel" "hangsBy" "[I") ∈ lw_all := lw_g (lw_at lw_m6 137 rfl) rfl
theorem q1445 : (Jvm.Cond.fieldLink "ReasonCloserModel" (259 : Nat) "ReasonCloserModel" "joins" "I") ∈ lw_all := lw_g (lw_at lw_m6 138 rfl) rfl
theorem q1446 : (Jvm.Cond.fieldLink "ReasonCloserModel" (59 : Nat) "ReasonCloserModel" "joinA" "[I") ∈ lw_all := lw_g (lw_at lw_m6 139 rfl) rfl
theorem q1447 : (Jvm.Cond.fieldLink "ReasonCloserModel" (62 : Nat) "ReasonCloserModel" "joinB" "[I") ∈ lw_all := lw_g (lw_at lw_m6 140 rfl) rfl
theorem q1448 : (Jvm.Cond.fieldLink "ReasonCloserModel" (65 : Nat) "ReasonCloserModel" "joinSame" "[I") ∈ lw_all := lw_g (lw_at lw_m6 141 rfl) rfl
theorem q1449 : (Jvm.Cond.fieldLink "ReasonCloserModel" (68 : Nat) "ReasonCloserModel" "joinBits" "[I") ∈ lw_all := lw_g (lw_at lw_m6 142 rfl) rfl
theorem q1450 : (Jvm.Cond.fieldLink "ReasonCloserModel" (71 : Nat) "ReasonCloserModel" "by" "[I") ∈ lw_all := lw_g (lw_at lw_m6 143 rfl) rfl
theorem q1451 : (Jvm.Cond.fieldLink "ReasonCloserModel" (74 : Nat) "ReasonCloserModel" "deep" "[I") ∈ lw_all := lw_g (lw_at lw_m6 144 rfl) rfl
theorem q1452 : (Jvm.Cond.fieldLink "ReasonCloserModel" (77 : Nat) "ReasonCloserModel" "proving" "[Z") ∈ lw_all := lw_g (lw_at lw_m6 145 rfl) rfl
theorem q1453 : (Jvm.Cond.fieldLink "ReasonCloserModel" (81 : Nat) "ReasonCloserModel" "leveled" "[I") ∈ lw_all := lw_g (lw_at lw_m6 146 rfl) rfl
theorem q1454 : (Jvm.Cond.fieldLink "ReasonCloserModel" (84 : Nat) "ReasonCloserModel" "ahead" "[I") ∈ lw_all := lw_g (lw_at lw_m6 147 rfl) rfl
theorem q1455 : (Jvm.Cond.fieldLink "ReasonCloserModel" (87 : Nat) "ReasonCloserModel" "cost" "[J") ∈ lw_all := lw_g (lw_at lw_m6 148 rfl) rfl
theorem q1456 : (Jvm.Cond.fieldLink "ReasonCloserModel" (91 : Nat) "ReasonCloserModel" "side" "[J") ∈ lw_all := lw_g (lw_at lw_m6 149 rfl) rfl
theorem q1457 : (Jvm.Cond.fieldLink "ReasonCloserModel" (94 : Nat) "ReasonCloserModel" "hops" "[I") ∈ lw_all := lw_g (lw_at lw_m6 150 rfl) rfl
theorem q1458 : (Jvm.Cond.fieldLink "ReasonCloserModel" (362 : Nat) "ReasonCloserModel" "isHeld" "Z") ∈ lw_all := lw_g (lw_at lw_m6 151 rfl) rfl
theorem q1459 : (Jvm.Cond.fieldLink "ReasonCloserModel" (97 : Nat) "ReasonCloserModel" "nextA" "[I") ∈ lw_all := lw_g (lw_at lw_m6 152 rfl) rfl
theorem q1460 : (Jvm.Cond.fieldLink "ReasonCloserModel" (100 : Nat) "ReasonCloserModel" "nextB" "[I") ∈ lw_all := lw_g (lw_at lw_m6 153 rfl) rfl
theorem q1461 : (Jvm.Cond.fieldLink "ReasonCloserModel" (375 : Nat) "ReasonCloserModel" "nexts" "I") ∈ lw_all := lw_g (lw_at lw_m6 154 rfl) rfl
theorem q1462 : (Jvm.Cond.lays "ReasonCloserModel" "ReasonCloserModel" "thrown" "I") ∈ lw_all := lw_g (lw_at lw_m6 155 rfl) rfl
theorem q1463 : (Jvm.Cond.soleField "ReasonCloserModel" "thrown") ∈ lw_all := lw_g (lw_at lw_m6 156 rfl) rfl
theorem q1464 : (Jvm.Cond.lays "ReasonCloserModel" "ReasonCloserModel" "trouble" "I") ∈ lw_all := lw_g (lw_at lw_m6 157 rfl) rfl
theorem q1465 : (Jvm.Cond.soleField "ReasonCloserModel" "trouble") ∈ lw_all := lw_g (lw_at lw_m6 158 rfl) rfl
theorem q1466 : (Jvm.Cond.lays "ReasonCloserModel" "ReasonCloserModel" "fault" "I") ∈ lw_all := lw_g (lw_at lw_m6 159 rfl) rfl
theorem q1467 : (Jvm.Cond.soleField "ReasonCloserModel" "fault") ∈ lw_all := lw_g (lw_at lw_m6 160 rfl) rfl
theorem q1468 : (Jvm.Cond.lays "ReasonCloserModel" "ReasonCloserModel" "where" "I") ∈ lw_all := lw_g (lw_at lw_m6 161 rfl) rfl
theorem q1469 : (Jvm.Cond.soleField "ReasonCloserModel" "where") ∈ lw_all := lw_g (lw_at lw_m6 162 rfl) rfl
theorem q1470 : (Jvm.Cond.laysFinal "ReasonCloserModel" "ReasonCloserModel" "tape" "[I") ∈ lw_all := lw_g (lw_at lw_m6 163 rfl) rfl
theorem q1471 : (Jvm.Cond.soleField "ReasonCloserModel" "tape") ∈ lw_all := lw_g (lw_at lw_m6 164 rfl) rfl
theorem q1472 : (Jvm.Cond.lays "ReasonCloserModel" "ReasonCloserModel" "taped" "I") ∈ lw_all := lw_g (lw_at lw_m6 165 rfl) rfl
theorem q1473 : (Jvm.Cond.soleField "ReasonCloserModel" "taped") ∈ lw_all := lw_g (lw_at lw_m6 166 rfl) rfl
theorem q1474 : (Jvm.Cond.lays "ReasonCloserModel" "ReasonCloserModel" "funs" "I") ∈ lw_all := lw_g (lw_at lw_m6 167 rfl) rfl
theorem q1475 : (Jvm.Cond.soleField "ReasonCloserModel" "funs") ∈ lw_all := lw_g (lw_at lw_m6 168 rfl) rfl
theorem q1476 : (Jvm.Cond.laysFinal "ReasonCloserModel" "ReasonCloserModel" "takes" "[I") ∈ lw_all := lw_g (lw_at lw_m6 169 rfl) rfl
theorem q1477 : (Jvm.Cond.soleField "ReasonCloserModel" "takes") ∈ lw_all := lw_g (lw_at lw_m6 170 rfl) rfl
theorem q1478 : (Jvm.Cond.lays "ReasonCloserModel" "ReasonCloserModel" "rows" "I") ∈ lw_all := lw_g (lw_at lw_m6 171 rfl) rfl
theorem q1479 : (Jvm.Cond.soleField "ReasonCloserModel" "rows") ∈ lw_all := lw_g (lw_at lw_m6 172 rfl) rfl
theorem q1480 : (Jvm.Cond.lays "ReasonCloserModel" "ReasonCloserModel" "textRows" "I") ∈ lw_all := lw_g (lw_at lw_m6 173 rfl) rfl
theorem q1481 : (Jvm.Cond.soleField "ReasonCloserModel" "textRows") ∈ lw_all := lw_g (lw_at lw_m6 174 rfl) rfl
theorem q1482 : (Jvm.Cond.laysFinal "ReasonCloserModel" "ReasonCloserModel" "sort" "[I") ∈ lw_all := lw_g (lw_at lw_m6 175 rfl) rfl
theorem q1483 : (Jvm.Cond.soleField "ReasonCloserModel" "sort") ∈ lw_all := lw_g (lw_at lw_m6 176 rfl) rfl
theorem q1484 : (Jvm.Cond.laysFinal "ReasonCloserModel" "ReasonCloserModel" "told" "[I") ∈ lw_all := lw_g (lw_at lw_m6 177 rfl) rfl
theorem q1485 : (Jvm.Cond.soleField "ReasonCloserModel" "told") ∈ lw_all := lw_g (lw_at lw_m6 178 rfl) rfl
theorem q1486 : (Jvm.Cond.laysFinal "ReasonCloserModel" "ReasonCloserModel" "name" "[I") ∈ lw_all := lw_g (lw_at lw_m6 179 rfl) rfl
theorem q1487 : (Jvm.Cond.soleField "ReasonCloserModel" "name") ∈ lw_all := lw_g (lw_at lw_m6 180 rfl) rfl
theorem q1488 : (Jvm.Cond.lays "ReasonCloserModel" "ReasonCloserModel" "textLong" "I") ∈ lw_all := lw_g (lw_at lw_m6 181 rfl) rfl
theorem q1489 : (Jvm.Cond.soleField "ReasonCloserModel" "textLong") ∈ lw_all := lw_g (lw_at lw_m6 182 rfl) rfl
theorem q1490 : (Jvm.Cond.lays "ReasonCloserModel" "ReasonCloserModel" "place" "I") ∈ lw_all := lw_g (lw_at lw_m6 183 rfl) rfl
theorem q1491 : (Jvm.Cond.soleField "ReasonCloserModel" "place") ∈ lw_all := lw_g (lw_at lw_m6 184 rfl) rfl
theorem q1492 : (Jvm.Cond.lays "ReasonCloserModel" "ReasonCloserModel" "spot" "I") ∈ lw_all := lw_g (lw_at lw_m6 185 rfl) rfl
theorem q1493 : (Jvm.Cond.soleField "ReasonCloserModel" "spot") ∈ lw_all := lw_g (lw_at lw_m6 186 rfl) rfl
theorem q1494 : (Jvm.Cond.lays "ReasonCloserModel" "ReasonCloserModel" "token" "I") ∈ lw_all := lw_g (lw_at lw_m6 187 rfl) rfl
theorem q1495 : (Jvm.Cond.soleField "ReasonCloserModel" "token") ∈ lw_all := lw_g (lw_at lw_m6 188 rfl) rfl
theorem q1496 : (Jvm.Cond.lays "ReasonCloserModel" "ReasonCloserModel" "whole" "I") ∈ lw_all := lw_g (lw_at lw_m6 189 rfl) rfl
theorem q1497 : (Jvm.Cond.soleField "ReasonCloserModel" "whole") ∈ lw_all := lw_g (lw_at lw_m6 190 rfl) rfl
theorem q1498 : (Jvm.Cond.lays "ReasonCloserModel" "ReasonCloserModel" "readFault" "I") ∈ lw_all := lw_g (lw_at lw_m6 191 rfl) rfl
theorem q1499 : (Jvm.Cond.soleField "ReasonCloserModel" "readFault") ∈ lw_all := lw_g (lw_at lw_m6 192 rfl) rfl
theorem q1500 : (Jvm.Cond.lays "ReasonCloserModel" "ReasonCloserModel" "readPlace" "I") ∈ lw_all := lw_g (lw_at lw_m6 193 rfl) rfl
theorem q1501 : (Jvm.Cond.soleField "ReasonCloserModel" "readPlace") ∈ lw_all := lw_g (lw_at lw_m6 194 rfl) rfl
theorem q1502 : (Jvm.Cond.lays "ReasonCloserModel" "ReasonCloserModel" "readFuns" "I") ∈ lw_all := lw_g (lw_at lw_m6 195 rfl) rfl
theorem q1503 : (Jvm.Cond.soleField "ReasonCloserModel" "readFuns") ∈ lw_all := lw_g (lw_at lw_m6 196 rfl) rfl
theorem q1504 : (Jvm.Cond.lays "ReasonCloserModel" "ReasonCloserModel" "readTerms" "I") ∈ lw_all := lw_g (lw_at lw_m6 197 rfl) rfl
theorem q1505 : (Jvm.Cond.soleField "ReasonCloserModel" "readTerms") ∈ lw_all := lw_g (lw_at lw_m6 198 rfl) rfl
theorem q1506 : (Jvm.Cond.lays "ReasonCloserModel" "ReasonCloserModel" "readSames" "I") ∈ lw_all := lw_g (lw_at lw_m6 199 rfl) rfl
theorem q1507 : (Jvm.Cond.soleField "ReasonCloserModel" "readSames") ∈ lw_all := lw_g (lw_at lw_m6 200 rfl) rfl
theorem q1508 : (Jvm.Cond.lays "ReasonCloserModel" "ReasonCloserModel" "readDiffs" "I") ∈ lw_all := lw_g (lw_at lw_m6 201 rfl) rfl
theorem q1509 : (Jvm.Cond.soleField "ReasonCloserModel" "readDiffs") ∈ lw_all := lw_g (lw_at lw_m6 202 rfl) rfl
theorem q1510 : (Jvm.Cond.lays "ReasonCloserModel" "ReasonCloserModel" "readRows" "I") ∈ lw_all := lw_g (lw_at lw_m6 203 rfl) rfl
theorem q1511 : (Jvm.Cond.soleField "ReasonCloserModel" "readRows") ∈ lw_all := lw_g (lw_at lw_m6 204 rfl) rfl
theorem q1512 : (Jvm.Cond.laysFinal "ReasonCloserModel" "ReasonCloserModel" "funName" "[I") ∈ lw_all := lw_g (lw_at lw_m6 205 rfl) rfl
theorem q1513 : (Jvm.Cond.soleField "ReasonCloserModel" "funName") ∈ lw_all := lw_g (lw_at lw_m6 206 rfl) rfl
theorem q1514 : (Jvm.Cond.lays "ReasonCloserModel" "ReasonCloserModel" "named" "I") ∈ lw_all := lw_g (lw_at lw_m6 207 rfl) rfl
theorem q1515 : (Jvm.Cond.soleField "ReasonCloserModel" "named") ∈ lw_all := lw_g (lw_at lw_m6 208 rfl) rfl
theorem q1516 : (Jvm.Cond.lays "ReasonCloserModel" "ReasonCloserModel" "terms" "I") ∈ lw_all := lw_g (lw_at lw_m6 209 rfl) rfl
theorem q1517 : (Jvm.Cond.soleField "ReasonCloserModel" "terms") ∈ lw_all := lw_g (lw_at lw_m6 210 rfl) rfl
theorem q1518 : (Jvm.Cond.laysFinal "ReasonCloserModel" "ReasonCloserModel" "fun" "[I") ∈ lw_all := lw_g (lw_at lw_m6 211 rfl) rfl
theorem q1519 : (Jvm.Cond.soleField "ReasonCloserModel" "fun") ∈ lw_all := lw_g (lw_at lw_m6 212 rfl) rfl
theorem q1520 : (Jvm.Cond.laysFinal "ReasonCloserModel" "ReasonCloserModel" "part" "[I") ∈ lw_all := lw_g (lw_at lw_m6 213 rfl) rfl
theorem q1521 : (Jvm.Cond.soleField "ReasonCloserModel" "part") ∈ lw_all := lw_g (lw_at lw_m6 214 rfl) rfl
theorem q1522 : (Jvm.Cond.lays "ReasonCloserModel" "ReasonCloserModel" "sames" "I") ∈ lw_all := lw_g (lw_at lw_m6 215 rfl) rfl
theorem q1523 : (Jvm.Cond.soleField "ReasonCloserModel" "sames") ∈ lw_all := lw_g (lw_at lw_m6 216 rfl) rfl
theorem q1524 : (Jvm.Cond.laysFinal "ReasonCloserModel" "ReasonCloserModel" "sameA" "[I") ∈ lw_all := lw_g (lw_at lw_m6 217 rfl) rfl
theorem q1525 : (Jvm.Cond.soleField "ReasonCloserModel" "sameA") ∈ lw_all := lw_g (lw_at lw_m6 218 rfl) rfl
theorem q1526 : (Jvm.Cond.laysFinal "ReasonCloserModel" "ReasonCloserModel" "sameB" "[I") ∈ lw_all := lw_g (lw_at lw_m6 219 rfl) rfl
theorem q1527 : (Jvm.Cond.soleField "ReasonCloserModel" "sameB") ∈ lw_all := lw_g (lw_at lw_m6 220 rfl) rfl
theorem q1528 : (Jvm.Cond.lays "ReasonCloserModel" "ReasonCloserModel" "diffs" "I") ∈ lw_all := lw_g (lw_at lw_m6 221 rfl) rfl
theorem q1529 : (Jvm.Cond.soleField "ReasonCloserModel" "diffs") ∈ lw_all := lw_g (lw_at lw_m6 222 rfl) rfl
theorem q1530 : (Jvm.Cond.laysFinal "ReasonCloserModel" "ReasonCloserModel" "diffA" "[I") ∈ lw_all := lw_g (lw_at lw_m6 223 rfl) rfl
theorem q1531 : (Jvm.Cond.soleField "ReasonCloserModel" "diffA") ∈ lw_all := lw_g (lw_at lw_m6 224 rfl) rfl
theorem q1532 : (Jvm.Cond.laysFinal "ReasonCloserModel" "ReasonCloserModel" "diffB" "[I") ∈ lw_all := lw_g (lw_at lw_m6 225 rfl) rfl
theorem q1533 : (Jvm.Cond.soleField "ReasonCloserModel" "diffB") ∈ lw_all := lw_g (lw_at lw_m6 226 rfl) rfl
theorem q1534 : (Jvm.Cond.laysFinal "ReasonCloserModel" "ReasonCloserModel" "lead" "[I") ∈ lw_all := lw_g (lw_at lw_m6 227 rfl) rfl
theorem q1535 : (Jvm.Cond.soleField "ReasonCloserModel" "lead") ∈ lw_all := lw_g (lw_at lw_m6 228 rfl) rfl
theorem q1536 : (Jvm.Cond.laysFinal "ReasonCloserModel" "ReasonCloserModel" "hangsOn" "[I") ∈ lw_all := lw_g (lw_at lw_m6 229 rfl) rfl
theorem q1537 : (Jvm.Cond.soleField "ReasonCloserModel" "hangsOn") ∈ lw_all := lw_g (lw_at lw_m6 230 rfl) rfl
theorem q1538 : (Jvm.Cond.laysFinal "ReasonCloserModel" "ReasonCloserModel" "hangsBy" "[I") ∈ lw_all := lw_g (lw_at lw_m6 231 rfl) rfl
theorem q1539 : (Jvm.Cond.soleField "ReasonCloserModel" "hangsBy") ∈ lw_all := lw_g (lw_at lw_m6 232 rfl) rfl
theorem q1540 : (Jvm.Cond.lays "ReasonCloserModel" "ReasonCloserModel" "joins" "I") ∈ lw_all := lw_g (lw_at lw_m6 233 rfl) rfl
theorem q1541 : (Jvm.Cond.soleField "ReasonCloserModel" "joins") ∈ lw_all := lw_g (lw_at lw_m6 234 rfl) rfl
theorem q1542 : (Jvm.Cond.laysFinal "ReasonCloserModel" "ReasonCloserModel" "joinA" "[I") ∈ lw_all := lw_g (lw_at lw_m6 235 rfl) rfl
theorem q1543 : (Jvm.Cond.soleField "ReasonCloserModel" "joinA") ∈ lw_all := lw_g (lw_at lw_m6 236 rfl) rfl
theorem q1544 : (Jvm.Cond.laysFinal "ReasonCloserModel" "ReasonCloserModel" "joinB" "[I") ∈ lw_all := lw_g (lw_at lw_m6 237 rfl) rfl
theorem q1545 : (Jvm.Cond.soleField "ReasonCloserModel" "joinB") ∈ lw_all := lw_g (lw_at lw_m6 238 rfl) rfl
theorem q1546 : (Jvm.Cond.laysFinal "ReasonCloserModel" "ReasonCloserModel" "joinSame" "[I") ∈ lw_all := lw_g (lw_at lw_m6 239 rfl) rfl
theorem q1547 : (Jvm.Cond.soleField "ReasonCloserModel" "joinSame") ∈ lw_all := lw_g (lw_at lw_m7 0 rfl) rfl
theorem q1548 : (Jvm.Cond.laysFinal "ReasonCloserModel" "ReasonCloserModel" "joinBits" "[I") ∈ lw_all := lw_g (lw_at lw_m7 1 rfl) rfl
theorem q1549 : (Jvm.Cond.soleField "ReasonCloserModel" "joinBits") ∈ lw_all := lw_g (lw_at lw_m7 2 rfl) rfl
theorem q1550 : (Jvm.Cond.laysFinal "ReasonCloserModel" "ReasonCloserModel" "by" "[I") ∈ lw_all := lw_g (lw_at lw_m7 3 rfl) rfl
theorem q1551 : (Jvm.Cond.soleField "ReasonCloserModel" "by") ∈ lw_all := lw_g (lw_at lw_m7 4 rfl) rfl
theorem q1552 : (Jvm.Cond.laysFinal "ReasonCloserModel" "ReasonCloserModel" "deep" "[I") ∈ lw_all := lw_g (lw_at lw_m7 5 rfl) rfl
theorem q1553 : (Jvm.Cond.soleField "ReasonCloserModel" "deep") ∈ lw_all := lw_g (lw_at lw_m7 6 rfl) rfl
theorem q1554 : (Jvm.Cond.laysFinal "ReasonCloserModel" "ReasonCloserModel" "proving" "[Z") ∈ lw_all := lw_g (lw_at lw_m7 7 rfl) rfl
theorem q1555 : (Jvm.Cond.soleField "ReasonCloserModel" "proving") ∈ lw_all := lw_g (lw_at lw_m7 8 rfl) rfl
theorem q1556 : (Jvm.Cond.laysFinal "ReasonCloserModel" "ReasonCloserModel" "leveled" "[I") ∈ lw_all := lw_g (lw_at lw_m7 9 rfl) rfl
theorem q1557 : (Jvm.Cond.soleField "ReasonCloserModel" "leveled") ∈ lw_all := lw_g (lw_at lw_m7 10 rfl) rfl
theorem q1558 : (Jvm.Cond.laysFinal "ReasonCloserModel" "ReasonCloserModel" "ahead" "[I") ∈ lw_all := lw_g (lw_at lw_m7 11 rfl) rfl
theorem q1559 : (Jvm.Cond.soleField "ReasonCloserModel" "ahead") ∈ lw_all := lw_g (lw_at lw_m7 12 rfl) rfl
theorem q1560 : (Jvm.Cond.laysFinal "ReasonCloserModel" "ReasonCloserModel" "cost" "[J") ∈ lw_all := lw_g (lw_at lw_m7 13 rfl) rfl
theorem q1561 : (Jvm.Cond.soleField "ReasonCloserModel" "cost") ∈ lw_all := lw_g (lw_at lw_m7 14 rfl) rfl
theorem q1562 : (Jvm.Cond.laysFinal "ReasonCloserModel" "ReasonCloserModel" "side" "[J") ∈ lw_all := lw_g (lw_at lw_m7 15 rfl) rfl
theorem q1563 : (Jvm.Cond.soleField "ReasonCloserModel" "side") ∈ lw_all := lw_g (lw_at lw_m7 16 rfl) rfl
theorem q1564 : (Jvm.Cond.laysFinal "ReasonCloserModel" "ReasonCloserModel" "hops" "[I") ∈ lw_all := lw_g (lw_at lw_m7 17 rfl) rfl
theorem q1565 : (Jvm.Cond.soleField "ReasonCloserModel" "hops") ∈ lw_all := lw_g (lw_at lw_m7 18 rfl) rfl
theorem q1566 : (Jvm.Cond.lays "ReasonCloserModel" "ReasonCloserModel" "isHeld" "Z") ∈ lw_all := lw_g (lw_at lw_m7 19 rfl) rfl
theorem q1567 : (Jvm.Cond.soleField "ReasonCloserModel" "isHeld") ∈ lw_all := lw_g (lw_at lw_m7 20 rfl) rfl
theorem q1568 : (Jvm.Cond.laysFinal "ReasonCloserModel" "ReasonCloserModel" "nextA" "[I") ∈ lw_all := lw_g (lw_at lw_m7 21 rfl) rfl
theorem q1569 : (Jvm.Cond.soleField "ReasonCloserModel" "nextA") ∈ lw_all := lw_g (lw_at lw_m7 22 rfl) rfl
theorem q1570 : (Jvm.Cond.laysFinal "ReasonCloserModel" "ReasonCloserModel" "nextB" "[I") ∈ lw_all := lw_g (lw_at lw_m7 23 rfl) rfl
theorem q1571 : (Jvm.Cond.soleField "ReasonCloserModel" "nextB") ∈ lw_all := lw_g (lw_at lw_m7 24 rfl) rfl
theorem q1572 : (Jvm.Cond.lays "ReasonCloserModel" "ReasonCloserModel" "nexts" "I") ∈ lw_all := lw_g (lw_at lw_m7 25 rfl) rfl
theorem q1573 : (Jvm.Cond.soleField "ReasonCloserModel" "nexts") ∈ lw_all := lw_g (lw_at lw_m7 26 rfl) rfl
theorem q1574 : (Jvm.Cond.superclass "ReasonCloserModel" "java/lang/Object") ∈ lw_all := lw_g (lw_at lw_m7 27 rfl) rfl
theorem q1576 : (Jvm.Cond.instanceMethod ({ cls := "ReasonCloserModel", name := "thrown", desc := "()I" } : Jvm.MethodName)) ∈ lw_all := lw_g (lw_at lw_m7 29 rfl) rfl
theorem q1577 : (Jvm.Cond.selects "ReasonCloserModel" ({ cls := "ReasonCloserModel", name := "thrown", desc := "()I" } : Jvm.MethodName) ({ cls := "ReasonCloserModel", name := "thrown", desc := "()I" } : Jvm.MethodName)) ∈ lw_all := lw_g (lw_at lw_m7 30 rfl) rfl
theorem q1578 : (Jvm.Cond.code ({ cls := "ReasonCloserModel", name := "thrown", desc := "()I" } : Jvm.MethodName) prog_14_method_2_code (1 : Nat) (Option.some Jvm.ClassFile.FieldType.int)) ∈ lw_all := lw_g (lw_at lw_m7 31 rfl) rfl
theorem q1580 : (Jvm.Cond.instanceMethod ({ cls := "ReasonCloserModel", name := "feed", desc := "(IIIII)I" } : Jvm.MethodName)) ∈ lw_all := lw_g (lw_at lw_m7 33 rfl) rfl
theorem q1581 : (Jvm.Cond.selects "ReasonCloserModel" ({ cls := "ReasonCloserModel", name := "feed", desc := "(IIIII)I" } : Jvm.MethodName) ({ cls := "ReasonCloserModel", name := "feed", desc := "(IIIII)I" } : Jvm.MethodName)) ∈ lw_all := lw_g (lw_at lw_m7 34 rfl) rfl
theorem q1582 : (Jvm.Cond.code ({ cls := "ReasonCloserModel", name := "feed", desc := "(IIIII)I" } : Jvm.MethodName) prog_14_method_7_code (6 : Nat) (Option.some Jvm.ClassFile.FieldType.int)) ∈ lw_all := lw_g (lw_at lw_m7 35 rfl) rfl
theorem q1583 : (Jvm.Cond.methodLink "ReasonCloserModel" (112 : Nat) ({ cls := "ReasonCloserModel", name := "laysWord", desc := "(I)V" } : Jvm.MethodName)) ∈ lw_all := lw_g (lw_at lw_m7 36 rfl) rfl
theorem q1584 : (Jvm.Cond.privateMethod ({ cls := "ReasonCloserModel", name := "laysWord", desc := "(I)V" } : Jvm.MethodName)) ∈ lw_tbl := lw_at lw_m7 37 rfl
theorem q1585 : (Jvm.Cond.instanceMethod ({ cls := "ReasonCloserModel", name := "laysWord", desc := "(I)V" } : Jvm.MethodName)) ∈ lw_all := lw_g (lw_at lw_m7 38 rfl) rfl
theorem q1586 : (Jvm.Cond.code ({ cls := "ReasonCloserModel", name := "laysWord", desc := "(I)V" } : Jvm.MethodName) prog_14_method_8_code (3 : Nat) (Option.none : Option Jvm.ClassFile.FieldType)) ∈ lw_all := lw_g (lw_at lw_m7 39 rfl) rfl
theorem q1588 : (Jvm.Cond.instanceMethod ({ cls := "ReasonCloserModel", name := "text", desc := "(I)I" } : Jvm.MethodName)) ∈ lw_all := lw_g (lw_at lw_m7 41 rfl) rfl
theorem q1589 : (Jvm.Cond.selects "ReasonCloserModel" ({ cls := "ReasonCloserModel", name := "text", desc := "(I)I" } : Jvm.MethodName) ({ cls := "ReasonCloserModel", name := "text", desc := "(I)I" } : Jvm.MethodName)) ∈ lw_all := lw_g (lw_at lw_m7 42 rfl) rfl
theorem q1590 : (Jvm.Cond.code ({ cls := "ReasonCloserModel", name := "text", desc := "(I)I" } : Jvm.MethodName) prog_14_method_24_code (4 : Nat) (Option.some Jvm.ClassFile.FieldType.int)) ∈ lw_all := lw_g (lw_at lw_m7 43 rfl) rfl
theorem q1591 : (Jvm.Cond.methodLink "ReasonCloserModel" (132 : Nat) ({ cls := "ReasonCloserModel", name := "in", desc := "(III)Z" } : Jvm.MethodName)) ∈ lw_all := lw_g (lw_at lw_m7 44 rfl) rfl
theorem q1592 : (Jvm.Cond.static ({ cls := "ReasonCloserModel", name := "in", desc := "(III)Z" } : Jvm.MethodName)) ∈ lw_all := lw_g (lw_at lw_m7 45 rfl) rfl
theorem q1593 : (Jvm.Cond.code ({ cls := "ReasonCloserModel", name := "in", desc := "(III)Z" } : Jvm.MethodName) prog_14_method_3_code (3 : Nat) (Option.some Jvm.ClassFile.FieldType.boolean)) ∈ lw_all := lw_g (lw_at lw_m7 46 rfl) rfl
theorem q1594 : (Jvm.Cond.methodLink "ReasonCloserModel" (223 : Nat) ({ cls := "ReasonCloserModel", name := "isRefused", desc := "(I)Z" } : Jvm.MethodName)) ∈ lw_all := lw_g (lw_at lw_m7 47 rfl) rfl
theorem q1595 : (Jvm.Cond.privateMethod ({ cls := "ReasonCloserModel", name := "isRefused", desc := "(I)Z" } : Jvm.MethodName)) ∈ lw_tbl := lw_at lw_m7 48 rfl
theorem q1596 : (Jvm.Cond.instanceMethod ({ cls := "ReasonCloserModel", name := "isRefused", desc := "(I)Z" } : Jvm.MethodName)) ∈ lw_all := lw_g (lw_at lw_m7 49 rfl) rfl
theorem q1597 : (Jvm.Cond.code ({ cls := "ReasonCloserModel", name := "isRefused", desc := "(I)Z" } : Jvm.MethodName) prog_14_method_5_code (2 : Nat) (Option.some Jvm.ClassFile.FieldType.boolean)) ∈ lw_all := lw_g (lw_at lw_m7 50 rfl) rfl
theorem q1598 : (Jvm.Cond.methodLink "ReasonCloserModel" (229 : Nat) ({ cls := "ReasonCloserModel", name := "readAll", desc := "(I)Z" } : Jvm.MethodName)) ∈ lw_all := lw_g (lw_at lw_m7 51 rfl) rfl
theorem q1599 : (Jvm.Cond.privateMethod ({ cls := "ReasonCloserModel", name := "readAll", desc := "(I)Z" } : Jvm.MethodName)) ∈ lw_tbl := lw_at lw_m7 52 rfl
theorem q1600 : (Jvm.Cond.instanceMethod ({ cls := "ReasonCloserModel", name := "readAll", desc := "(I)Z" } : Jvm.MethodName)) ∈ lw_all := lw_g (lw_at lw_m7 53 rfl) rfl
theorem q1601 : (Jvm.Cond.code ({ cls := "ReasonCloserModel", name := "readAll", desc := "(I)Z" } : Jvm.MethodName) prog_14_method_23_code (2 : Nat) (Option.some Jvm.ClassFile.FieldType.boolean)) ∈ lw_all := lw_g (lw_at lw_m7 54 rfl) rfl
theorem q1602 : (Jvm.Cond.methodLink "ReasonCloserModel" (180 : Nat) ({ cls := "ReasonCloserModel", name := "goesOn", desc := "()V" } : Jvm.MethodName)) ∈ lw_all := lw_g (lw_at lw_m7 55 rfl) rfl
theorem q1603 : (Jvm.Cond.privateMethod ({ cls := "ReasonCloserModel", name := "goesOn", desc := "()V" } : Jvm.MethodName)) ∈ lw_tbl := lw_at lw_m7 56 rfl
theorem q1604 : (Jvm.Cond.instanceMethod ({ cls := "ReasonCloserModel", name := "goesOn", desc := "()V" } : Jvm.MethodName)) ∈ lw_all := lw_g (lw_at lw_m7 57 rfl) rfl
theorem q1605 : (Jvm.Cond.code ({ cls := "ReasonCloserModel", name := "goesOn", desc := "()V" } : Jvm.MethodName) prog_14_method_10_code (2 : Nat) (Option.none : Option Jvm.ClassFile.FieldType)) ∈ lw_all := lw_g (lw_at lw_m7 58 rfl) rfl
theorem q1606 : (Jvm.Cond.methodLink "ReasonCloserModel" (122 : Nat) ({ cls := "ReasonCloserModel", name := "see", desc := "(I)I" } : Jvm.MethodName)) ∈ lw_all := lw_g (lw_at lw_m7 59 rfl) rfl
theorem q1607 : (Jvm.Cond.privateMethod ({ cls := "ReasonCloserModel", name := "see", desc := "(I)I" } : Jvm.MethodName)) ∈ lw_tbl := lw_at lw_m7 60 rfl
theorem q1608 : (Jvm.Cond.instanceMethod ({ cls := "ReasonCloserModel", name := "see", desc := "(I)I" } : Jvm.MethodName)) ∈ lw_all := lw_g (lw_at lw_m7 61 rfl) rfl
theorem q1609 : (Jvm.Cond.code ({ cls := "ReasonCloserModel", name := "see", desc := "(I)I" } : Jvm.MethodName) prog_14_method_9_code (2 : Nat) (Option.some Jvm.ClassFile.FieldType.int)) ∈ lw_all := lw_g (lw_at lw_m7 62 rfl) rfl
theorem q1610 : (Jvm.Cond.methodLink "ReasonCloserModel" (220 : Nat) ({ cls := "ReasonCloserModel", name := "readLine", desc := "()Z" } : Jvm.MethodName)) ∈ lw_all := lw_g (lw_at lw_m7 63 rfl) rfl
theorem q1611 : (Jvm.Cond.privateMethod ({ cls := "ReasonCloserModel", name := "readLine", desc := "()Z" } : Jvm.MethodName)) ∈ lw_tbl := lw_at lw_m7 64 rfl
theorem q1612 : (Jvm.Cond.instanceMethod ({ cls := "ReasonCloserModel", name := "readLine", desc := "()Z" } : Jvm.MethodName)) ∈ lw_all := lw_g (lw_at lw_m7 65 rfl) rfl
theorem q1613 : (Jvm.Cond.code ({ cls := "ReasonCloserModel", name := "readLine", desc := "()Z" } : Jvm.MethodName) prog_14_method_22_code (1 : Nat) (Option.some Jvm.ClassFile.FieldType.boolean)) ∈ lw_all := lw_g (lw_at lw_m7 66 rfl) rfl
theorem q1614 : (Jvm.Cond.stringRef "ReasonCloserModel" (155 : Nat) "fun") ∈ lw_tbl := lw_at lw_m7 67 rfl
theorem q1615 : (Jvm.Cond.methodLink "ReasonCloserModel" (156 : Nat) ({ cls := "ReasonCloserModel", name := "isWord", desc := "(Ljava/lang/String;)Z" } : Jvm.MethodName)) ∈ lw_all := lw_g (lw_at lw_m7 68 rfl) rfl
theorem q1616 : (Jvm.Cond.privateMethod ({ cls := "ReasonCloserModel", name := "isWord", desc := "(Ljava/lang/String;)Z" } : Jvm.MethodName)) ∈ lw_tbl := lw_at lw_m7 69 rfl
theorem q1617 : (Jvm.Cond.instanceMethod ({ cls := "ReasonCloserModel", name := "isWord", desc := "(Ljava/lang/String;)Z" } : Jvm.MethodName)) ∈ lw_all := lw_g (lw_at lw_m7 70 rfl) rfl
theorem q1618 : (Jvm.Cond.code ({ cls := "ReasonCloserModel", name := "isWord", desc := "(Ljava/lang/String;)Z" } : Jvm.MethodName) prog_14_method_11_code (3 : Nat) (Option.some Jvm.ClassFile.FieldType.boolean)) ∈ lw_all := lw_g (lw_at lw_m7 71 rfl) rfl
theorem q1619 : (Jvm.Cond.methodLink "ReasonCloserModel" (139 : Nat) ({ cls := "java/lang/String", name := "length", desc := "()I" } : Jvm.MethodName)) ∈ lw_all := lw_g (lw_at lw_m7 72 rfl) rfl
theorem q1620 : (Jvm.Cond.methodLink "ReasonCloserModel" (145 : Nat) ({ cls := "java/lang/String", name := "charAt", desc := "(I)C" } : Jvm.MethodName)) ∈ lw_all := lw_g (lw_at lw_m7 73 rfl) rfl
theorem q1621 : (Jvm.Cond.methodLink "ReasonCloserModel" (210 : Nat) ({ cls := "ReasonCloserModel", name := "readFun", desc := "()Z" } : Jvm.MethodName)) ∈ lw_all := lw_g (lw_at lw_m7 74 rfl) rfl
theorem q1622 : (Jvm.Cond.privateMethod ({ cls := "ReasonCloserModel", name := "readFun", desc := "()Z" } : Jvm.MethodName)) ∈ lw_tbl := lw_at lw_m7 75 rfl
theorem q1623 : (Jvm.Cond.instanceMethod ({ cls := "ReasonCloserModel", name := "readFun", desc := "()Z" } : Jvm.MethodName)) ∈ lw_all := lw_g (lw_at lw_m7 76 rfl) rfl
theorem q1624 : (Jvm.Cond.code ({ cls := "ReasonCloserModel", name := "readFun", desc := "()Z" } : Jvm.MethodName) prog_14_method_18_code (1 : Nat) (Option.some Jvm.ClassFile.FieldType.boolean)) ∈ lw_all := lw_g (lw_at lw_m7 77 rfl) rfl
theorem q1625 : (Jvm.Cond.methodLink "ReasonCloserModel" (176 : Nat) ({ cls := "ReasonCloserModel", name := "errs", desc := "(I)Z" } : Jvm.MethodName)) ∈ lw_all := lw_g (lw_at lw_m7 78 rfl) rfl
theorem q1626 : (Jvm.Cond.privateMethod ({ cls := "ReasonCloserModel", name := "errs", desc := "(I)Z" } : Jvm.MethodName)) ∈ lw_tbl := lw_at lw_m7 79 rfl
theorem q1627 : (Jvm.Cond.instanceMethod ({ cls := "ReasonCloserModel", name := "errs", desc := "(I)Z" } : Jvm.MethodName)) ∈ lw_all := lw_g (lw_at lw_m7 80 rfl) rfl
theorem q1628 : (Jvm.Cond.code ({ cls := "ReasonCloserModel", name := "errs", desc := "(I)Z" } : Jvm.MethodName) prog_14_method_12_code (2 : Nat) (Option.some Jvm.ClassFile.FieldType.boolean)) ∈ lw_all := lw_g (lw_at lw_m7 81 rfl) rfl
theorem q1629 : (Jvm.Cond.methodLink "ReasonCloserModel" (183 : Nat) ({ cls := "ReasonCloserModel", name := "isName", desc := "()Z" } : Jvm.MethodName)) ∈ lw_all := lw_g (lw_at lw_m7 82 rfl) rfl
theorem q1630 : (Jvm.Cond.privateMethod ({ cls := "ReasonCloserModel", name := "isName", desc := "()Z" } : Jvm.MethodName)) ∈ lw_tbl := lw_at lw_m7 83 rfl
theorem q1631 : (Jvm.Cond.instanceMethod ({ cls := "ReasonCloserModel", name := "isName", desc := "()Z" } : Jvm.MethodName)) ∈ lw_all := lw_g (lw_at lw_m7 84 rfl) rfl
theorem q1632 : (Jvm.Cond.code ({ cls := "ReasonCloserModel", name := "isName", desc := "()Z" } : Jvm.MethodName) prog_14_method_13_code (1 : Nat) (Option.some Jvm.ClassFile.FieldType.boolean)) ∈ lw_all := lw_g (lw_at lw_m7 85 rfl) rfl
theorem q1633 : (Jvm.Cond.stringRef "ReasonCloserModel" (160 : Nat) "term") ∈ lw_tbl := lw_at lw_m7 86 rfl
theorem q1634 : (Jvm.Cond.stringRef "ReasonCloserModel" (162 : Nat) "same") ∈ lw_tbl := lw_at lw_m7 87 rfl
theorem q1635 : (Jvm.Cond.stringRef "ReasonCloserModel" (164 : Nat) "diff") ∈ lw_tbl := lw_at lw_m7 88 rfl
theorem q1636 : (Jvm.Cond.methodLink "ReasonCloserModel" (187 : Nat) ({ cls := "ReasonCloserModel", name := "funHere", desc := "()I" } : Jvm.MethodName)) ∈ lw_all := lw_g (lw_at lw_m7 89 rfl) rfl
theorem q1637 : (Jvm.Cond.privateMethod ({ cls := "ReasonCloserModel", name := "funHere", desc := "()I" } : Jvm.MethodName)) ∈ lw_tbl := lw_at lw_m7 90 rfl
theorem q1638 : (Jvm.Cond.instanceMethod ({ cls := "ReasonCloserModel", name := "funHere", desc := "()I" } : Jvm.MethodName)) ∈ lw_all := lw_g (lw_at lw_m7 91 rfl) rfl
theorem q1639 : (Jvm.Cond.code ({ cls := "ReasonCloserModel", name := "funHere", desc := "()I" } : Jvm.MethodName) prog_14_method_16_code (2 : Nat) (Option.some Jvm.ClassFile.FieldType.int)) ∈ lw_all := lw_g (lw_at lw_m7 92 rfl) rfl
theorem q1640 : (Jvm.Cond.methodLink "ReasonCloserModel" (169 : Nat) ({ cls := "ReasonCloserModel", name := "isAt", desc := "([IIII)Z" } : Jvm.MethodName)) ∈ lw_all := lw_g (lw_at lw_m7 93 rfl) rfl
theorem q1641 : (Jvm.Cond.privateMethod ({ cls := "ReasonCloserModel", name := "isAt", desc := "([IIII)Z" } : Jvm.MethodName)) ∈ lw_tbl := lw_at lw_m7 94 rfl
theorem q1642 : (Jvm.Cond.instanceMethod ({ cls := "ReasonCloserModel", name := "isAt", desc := "([IIII)Z" } : Jvm.MethodName)) ∈ lw_all := lw_g (lw_at lw_m7 95 rfl) rfl
theorem q1643 : (Jvm.Cond.code ({ cls := "ReasonCloserModel", name := "isAt", desc := "([IIII)Z" } : Jvm.MethodName) prog_14_method_14_code (7 : Nat) (Option.some Jvm.ClassFile.FieldType.boolean)) ∈ lw_all := lw_g (lw_at lw_m7 96 rfl) rfl
theorem q1644 : (Jvm.Cond.methodLink "ReasonCloserModel" (190 : Nat) ({ cls := "ReasonCloserModel", name := "termHere", desc := "()I" } : Jvm.MethodName)) ∈ lw_all := lw_g (lw_at lw_m7 97 rfl) rfl
theorem q1645 : (Jvm.Cond.privateMethod ({ cls := "ReasonCloserModel", name := "termHere", desc := "()I" } : Jvm.MethodName)) ∈ lw_tbl := lw_at lw_m7 98 rfl
theorem q1646 : (Jvm.Cond.instanceMethod ({ cls := "ReasonCloserModel", name := "termHere", desc := "()I" } : Jvm.MethodName)) ∈ lw_all := lw_g (lw_at lw_m7 99 rfl) rfl
theorem q1647 : (Jvm.Cond.code ({ cls := "ReasonCloserModel", name := "termHere", desc := "()I" } : Jvm.MethodName) prog_14_method_17_code (2 : Nat) (Option.some Jvm.ClassFile.FieldType.int)) ∈ lw_all := lw_g (lw_at lw_m7 100 rfl) rfl
theorem q1648 : (Jvm.Cond.methodLink "ReasonCloserModel" (193 : Nat) ({ cls := "ReasonCloserModel", name := "keeps", desc := "([II)V" } : Jvm.MethodName)) ∈ lw_all := lw_g (lw_at lw_m7 101 rfl) rfl
theorem q1649 : (Jvm.Cond.privateMethod ({ cls := "ReasonCloserModel", name := "keeps", desc := "([II)V" } : Jvm.MethodName)) ∈ lw_tbl := lw_at lw_m7 102 rfl
theorem q1650 : (Jvm.Cond.instanceMethod ({ cls := "ReasonCloserModel", name := "keeps", desc := "([II)V" } : Jvm.MethodName)) ∈ lw_all := lw_g (lw_at lw_m7 103 rfl) rfl
theorem q1651 : (Jvm.Cond.code ({ cls := "ReasonCloserModel", name := "keeps", desc := "([II)V" } : Jvm.MethodName) prog_14_method_15_code (4 : Nat) (Option.none : Option Jvm.ClassFile.FieldType)) ∈ lw_all := lw_g (lw_at lw_m7 104 rfl) rfl
theorem q1652 : (Jvm.Cond.methodLink "ReasonCloserModel" (213 : Nat) ({ cls := "ReasonCloserModel", name := "readTerm", desc := "()Z" } : Jvm.MethodName)) ∈ lw_all := lw_g (lw_at lw_m7 105 rfl) rfl
theorem q1653 : (Jvm.Cond.privateMethod ({ cls := "ReasonCloserModel", name := "readTerm", desc := "()Z" } : Jvm.MethodName)) ∈ lw_tbl := lw_at lw_m7 106 rfl
theorem q1654 : (Jvm.Cond.instanceMethod ({ cls := "ReasonCloserModel", name := "readTerm", desc := "()Z" } : Jvm.MethodName)) ∈ lw_all := lw_g (lw_at lw_m7 107 rfl) rfl
theorem q1655 : (Jvm.Cond.code ({ cls := "ReasonCloserModel", name := "readTerm", desc := "()Z" } : Jvm.MethodName) prog_14_method_20_code (3 : Nat) (Option.some Jvm.ClassFile.FieldType.boolean)) ∈ lw_all := lw_g (lw_at lw_m7 108 rfl) rfl
theorem q1656 : (Jvm.Cond.methodLink "ReasonCloserModel" (200 : Nat) ({ cls := "ReasonCloserModel", name := "readParts", desc := "(II)Z" } : Jvm.MethodName)) ∈ lw_all := lw_g (lw_at lw_m7 109 rfl) rfl
theorem q1657 : (Jvm.Cond.privateMethod ({ cls := "ReasonCloserModel", name := "readParts", desc := "(II)Z" } : Jvm.MethodName)) ∈ lw_tbl := lw_at lw_m7 110 rfl
theorem q1658 : (Jvm.Cond.instanceMethod ({ cls := "ReasonCloserModel", name := "readParts", desc := "(II)Z" } : Jvm.MethodName)) ∈ lw_all := lw_g (lw_at lw_m7 111 rfl) rfl
theorem q1659 : (Jvm.Cond.code ({ cls := "ReasonCloserModel", name := "readParts", desc := "(II)Z" } : Jvm.MethodName) prog_14_method_19_code (5 : Nat) (Option.some Jvm.ClassFile.FieldType.boolean)) ∈ lw_all := lw_g (lw_at lw_m7 112 rfl) rfl
theorem q1660 : (Jvm.Cond.methodLink "ReasonCloserModel" (216 : Nat) ({ cls := "ReasonCloserModel", name := "readPair", desc := "(Z)Z" } : Jvm.MethodName)) ∈ lw_all := lw_g (lw_at lw_m7 113 rfl) rfl
theorem q1661 : (Jvm.Cond.privateMethod ({ cls := "ReasonCloserModel", name := "readPair", desc := "(Z)Z" } : Jvm.MethodName)) ∈ lw_tbl := lw_at lw_m7 114 rfl
theorem q1662 : (Jvm.Cond.instanceMethod ({ cls := "ReasonCloserModel", name := "readPair", desc := "(Z)Z" } : Jvm.MethodName)) ∈ lw_all := lw_g (lw_at lw_m7 115 rfl) rfl
theorem q1663 : (Jvm.Cond.code ({ cls := "ReasonCloserModel", name := "readPair", desc := "(Z)Z" } : Jvm.MethodName) prog_14_method_21_code (4 : Nat) (Option.some Jvm.ClassFile.FieldType.boolean)) ∈ lw_all := lw_g (lw_at lw_m7 116 rfl) rfl
theorem q1664 : (Jvm.Cond.methodLink "ReasonCloserModel" (232 : Nat) ({ cls := "ReasonCloserModel", name := "no", desc := "(I)I" } : Jvm.MethodName)) ∈ lw_all := lw_g (lw_at lw_m7 117 rfl) rfl
theorem q1665 : (Jvm.Cond.privateMethod ({ cls := "ReasonCloserModel", name := "no", desc := "(I)I" } : Jvm.MethodName)) ∈ lw_tbl := lw_at lw_m7 118 rfl
theorem q1666 : (Jvm.Cond.instanceMethod ({ cls := "ReasonCloserModel", name := "no", desc := "(I)I" } : Jvm.MethodName)) ∈ lw_all := lw_g (lw_at lw_m7 119 rfl) rfl
theorem q1667 : (Jvm.Cond.code ({ cls := "ReasonCloserModel", name := "no", desc := "(I)I" } : Jvm.MethodName) prog_14_method_4_code (2 : Nat) (Option.some Jvm.ClassFile.FieldType.int)) ∈ lw_all := lw_g (lw_at lw_m7 120 rfl) rfl
theorem q1668 : (Jvm.Cond.methodLink "ReasonCloserModel" (247 : Nat) ({ cls := "ReasonCloserModel", name := "makes", desc := "()V" } : Jvm.MethodName)) ∈ lw_all := lw_g (lw_at lw_m7 121 rfl) rfl
theorem q1669 : (Jvm.Cond.privateMethod ({ cls := "ReasonCloserModel", name := "makes", desc := "()V" } : Jvm.MethodName)) ∈ lw_tbl := lw_at lw_m7 122 rfl
theorem q1670 : (Jvm.Cond.instanceMethod ({ cls := "ReasonCloserModel", name := "makes", desc := "()V" } : Jvm.MethodName)) ∈ lw_all := lw_g (lw_at lw_m7 123 rfl) rfl
theorem q1671 : (Jvm.Cond.code ({ cls := "ReasonCloserModel", name := "makes", desc := "()V" } : Jvm.MethodName) prog_14_method_39_code (2 : Nat) (Option.none : Option Jvm.ClassFile.FieldType)) ∈ lw_all := lw_g (lw_at lw_m7 124 rfl) rfl
theorem q1672 : (Jvm.Cond.methodLink "ReasonCloserModel" (300 : Nat) ({ cls := "ReasonCloserModel", name := "comes", desc := "(I)V" } : Jvm.MethodName)) ∈ lw_all := lw_g (lw_at lw_m7 125 rfl) rfl
theorem q1673 : (Jvm.Cond.privateMethod ({ cls := "ReasonCloserModel", name := "comes", desc := "(I)V" } : Jvm.MethodName)) ∈ lw_tbl := lw_at lw_m7 126 rfl
theorem q1674 : (Jvm.Cond.instanceMethod ({ cls := "ReasonCloserModel", name := "comes", desc := "(I)V" } : Jvm.MethodName)) ∈ lw_all := lw_g (lw_at lw_m7 127 rfl) rfl
theorem q1675 : (Jvm.Cond.code ({ cls := "ReasonCloserModel", name := "comes", desc := "(I)V" } : Jvm.MethodName) prog_14_method_38_code (3 : Nat) (Option.none : Option Jvm.ClassFile.FieldType)) ∈ lw_all := lw_g (lw_at lw_m7 128 rfl) rfl
theorem q1676 : (Jvm.Cond.methodLink "ReasonCloserModel" (290 : Nat) ({ cls := "ReasonCloserModel", name := "comesTerm", desc := "(I)V" } : Jvm.MethodName)) ∈ lw_all := lw_g (lw_at lw_m7 129 rfl) rfl
theorem q1677 : (Jvm.Cond.privateMethod ({ cls := "ReasonCloserModel", name := "comesTerm", desc := "(I)V" } : Jvm.MethodName)) ∈ lw_tbl := lw_at lw_m7 130 rfl
theorem q1678 : (Jvm.Cond.instanceMethod ({ cls := "ReasonCloserModel", name := "comesTerm", desc := "(I)V" } : Jvm.MethodName)) ∈ lw_all := lw_g (lw_at lw_m7 131 rfl) rfl
theorem q1679 : (Jvm.Cond.code ({ cls := "ReasonCloserModel", name := "comesTerm", desc := "(I)V" } : Jvm.MethodName) prog_14_method_36_code (3 : Nat) (Option.none : Option Jvm.ClassFile.FieldType)) ∈ lw_all := lw_g (lw_at lw_m7 132 rfl) rfl
theorem q1680 : (Jvm.Cond.methodLink "ReasonCloserModel" (284 : Nat) ({ cls := "ReasonCloserModel", name := "closes", desc := "()V" } : Jvm.MethodName)) ∈ lw_all := lw_g (lw_at lw_m7 133 rfl) rfl
theorem q1681 : (Jvm.Cond.privateMethod ({ cls := "ReasonCloserModel", name := "closes", desc := "()V" } : Jvm.MethodName)) ∈ lw_tbl := lw_at lw_m7 134 rfl
theorem q1682 : (Jvm.Cond.instanceMethod ({ cls := "ReasonCloserModel", name := "closes", desc := "()V" } : Jvm.MethodName)) ∈ lw_all := lw_g (lw_at lw_m7 135 rfl) rfl
theorem q1683 : (Jvm.Cond.code ({ cls := "ReasonCloserModel", name := "closes", desc := "()V" } : Jvm.MethodName) prog_14_method_35_code (1 : Nat) (Option.none : Option Jvm.ClassFile.FieldType)) ∈ lw_all := lw_g (lw_at lw_m7 136 rfl) rfl
theorem q1684 : (Jvm.Cond.methodLink "ReasonCloserModel" (281 : Nat) ({ cls := "ReasonCloserModel", name := "joinsNext", desc := "()Z" } : Jvm.MethodName)) ∈ lw_all := lw_g (lw_at lw_m7 137 rfl) rfl
theorem q1685 : (Jvm.Cond.privateMethod ({ cls := "ReasonCloserModel", name := "joinsNext", desc := "()Z" } : Jvm.MethodName)) ∈ lw_tbl := lw_at lw_m7 138 rfl
theorem q1686 : (Jvm.Cond.instanceMethod ({ cls := "ReasonCloserModel", name := "joinsNext", desc := "()Z" } : Jvm.MethodName)) ∈ lw_all := lw_g (lw_at lw_m7 139 rfl) rfl
theorem q1687 : (Jvm.Cond.code ({ cls := "ReasonCloserModel", name := "joinsNext", desc := "()Z" } : Jvm.MethodName) prog_14_method_34_code (3 : Nat) (Option.some Jvm.ClassFile.FieldType.boolean)) ∈ lw_all := lw_g (lw_at lw_m7 140 rfl) rfl
theorem q1688 : (Jvm.Cond.methodLink "ReasonCloserModel" (273 : Nat) ({ cls := "ReasonCloserModel", name := "isAlike", desc := "([III)Z" } : Jvm.MethodName)) ∈ lw_all := lw_g (lw_at lw_m7 141 rfl) rfl
theorem q1689 : (Jvm.Cond.privateMethod ({ cls := "ReasonCloserModel", name := "isAlike", desc := "([III)Z" } : Jvm.MethodName)) ∈ lw_tbl := lw_at lw_m7 142 rfl
theorem q1690 : (Jvm.Cond.instanceMethod ({ cls := "ReasonCloserModel", name := "isAlike", desc := "([III)Z" } : Jvm.MethodName)) ∈ lw_all := lw_g (lw_at lw_m7 143 rfl) rfl
theorem q1691 : (Jvm.Cond.code ({ cls := "ReasonCloserModel", name := "isAlike", desc := "([III)Z" } : Jvm.MethodName) prog_14_method_29_code (5 : Nat) (Option.some Jvm.ClassFile.FieldType.boolean)) ∈ lw_all := lw_g (lw_at lw_m7 144 rfl) rfl
theorem q1692 : (Jvm.Cond.methodLink "ReasonCloserModel" (253 : Nat) ({ cls := "ReasonCloserModel", name := "takesOf", desc := "(I)I" } : Jvm.MethodName)) ∈ lw_all := lw_g (lw_at lw_m7 145 rfl) rfl
theorem q1693 : (Jvm.Cond.privateMethod ({ cls := "ReasonCloserModel", name := "takesOf", desc := "(I)I" } : Jvm.MethodName)) ∈ lw_tbl := lw_at lw_m7 146 rfl
theorem q1694 : (Jvm.Cond.instanceMethod ({ cls := "ReasonCloserModel", name := "takesOf", desc := "(I)I" } : Jvm.MethodName)) ∈ lw_all := lw_g (lw_at lw_m7 147 rfl) rfl
theorem q1695 : (Jvm.Cond.code ({ cls := "ReasonCloserModel", name := "takesOf", desc := "(I)I" } : Jvm.MethodName) prog_14_method_27_code (2 : Nat) (Option.some Jvm.ClassFile.FieldType.int)) ∈ lw_all := lw_g (lw_at lw_m7 148 rfl) rfl
theorem q1696 : (Jvm.Cond.methodLink "ReasonCloserModel" (277 : Nat) ({ cls := "ReasonCloserModel", name := "joinsTwo", desc := "(III)V" } : Jvm.MethodName)) ∈ lw_all := lw_g (lw_at lw_m7 149 rfl) rfl
theorem q1697 : (Jvm.Cond.privateMethod ({ cls := "ReasonCloserModel", name := "joinsTwo", desc := "(III)V" } : Jvm.MethodName)) ∈ lw_tbl := lw_at lw_m7 150 rfl
theorem q1698 : (Jvm.Cond.instanceMethod ({ cls := "ReasonCloserModel", name := "joinsTwo", desc := "(III)V" } : Jvm.MethodName)) ∈ lw_all := lw_g (lw_at lw_m7 151 rfl) rfl
theorem q1699 : (Jvm.Cond.code ({ cls := "ReasonCloserModel", name := "joinsTwo", desc := "(III)V" } : Jvm.MethodName) prog_14_method_33_code (5 : Nat) (Option.none : Option Jvm.ClassFile.FieldType)) ∈ lw_all := lw_g (lw_at lw_m7 152 rfl) rfl
theorem q1700 : (Jvm.Cond.methodLink "ReasonCloserModel" (262 : Nat) ({ cls := "ReasonCloserModel", name := "reasonsOf", desc := "(II)I" } : Jvm.MethodName)) ∈ lw_all := lw_g (lw_at lw_m7 153 rfl) rfl
theorem q1701 : (Jvm.Cond.privateMethod ({ cls := "ReasonCloserModel", name := "reasonsOf", desc := "(II)I" } : Jvm.MethodName)) ∈ lw_tbl := lw_at lw_m7 154 rfl
theorem q1702 : (Jvm.Cond.instanceMethod ({ cls := "ReasonCloserModel", name := "reasonsOf", desc := "(II)I" } : Jvm.MethodName)) ∈ lw_all := lw_g (lw_at lw_m7 155 rfl) rfl
theorem q1703 : (Jvm.Cond.code ({ cls := "ReasonCloserModel", name := "reasonsOf", desc := "(II)I" } : Jvm.MethodName) prog_14_method_31_code (6 : Nat) (Option.some Jvm.ClassFile.FieldType.int)) ∈ lw_all := lw_g (lw_at lw_m7 156 rfl) rfl
theorem q1704 : (Jvm.Cond.methodLink "ReasonCloserModel" (256 : Nat) ({ cls := "ReasonCloserModel", name := "depthOf", desc := "(I)I" } : Jvm.MethodName)) ∈ lw_all := lw_g (lw_at lw_m7 157 rfl) rfl
theorem q1705 : (Jvm.Cond.privateMethod ({ cls := "ReasonCloserModel", name := "depthOf", desc := "(I)I" } : Jvm.MethodName)) ∈ lw_tbl := lw_at lw_m7 158 rfl
theorem q1706 : (Jvm.Cond.instanceMethod ({ cls := "ReasonCloserModel", name := "depthOf", desc := "(I)I" } : Jvm.MethodName)) ∈ lw_all := lw_g (lw_at lw_m7 159 rfl) rfl
theorem q1707 : (Jvm.Cond.code ({ cls := "ReasonCloserModel", name := "depthOf", desc := "(I)I" } : Jvm.MethodName) prog_14_method_30_code (4 : Nat) (Option.some Jvm.ClassFile.FieldType.int)) ∈ lw_all := lw_g (lw_at lw_m7 160 rfl) rfl
theorem q1708 : (Jvm.Cond.methodLink "ReasonCloserModel" (266 : Nat) ({ cls := "ReasonCloserModel", name := "turns", desc := "(I)V" } : Jvm.MethodName)) ∈ lw_all := lw_g (lw_at lw_m7 161 rfl) rfl
theorem q1709 : (Jvm.Cond.privateMethod ({ cls := "ReasonCloserModel", name := "turns", desc := "(I)V" } : Jvm.MethodName)) ∈ lw_tbl := lw_at lw_m7 162 rfl
theorem q1710 : (Jvm.Cond.instanceMethod ({ cls := "ReasonCloserModel", name := "turns", desc := "(I)V" } : Jvm.MethodName)) ∈ lw_all := lw_g (lw_at lw_m7 163 rfl) rfl
theorem q1711 : (Jvm.Cond.code ({ cls := "ReasonCloserModel", name := "turns", desc := "(I)V" } : Jvm.MethodName) prog_14_method_32_code (7 : Nat) (Option.none : Option Jvm.ClassFile.FieldType)) ∈ lw_all := lw_g (lw_at lw_m7 164 rfl) rfl
theorem q1712 : (Jvm.Cond.methodLink "ReasonCloserModel" (269 : Nat) ({ cls := "ReasonCloserModel", name := "unites", desc := "([III)V" } : Jvm.MethodName)) ∈ lw_all := lw_g (lw_at lw_m7 165 rfl) rfl
theorem q1713 : (Jvm.Cond.privateMethod ({ cls := "ReasonCloserModel", name := "unites", desc := "([III)V" } : Jvm.MethodName)) ∈ lw_tbl := lw_at lw_m7 166 rfl
theorem q1714 : (Jvm.Cond.instanceMethod ({ cls := "ReasonCloserModel", name := "unites", desc := "([III)V" } : Jvm.MethodName)) ∈ lw_all := lw_g (lw_at lw_m7 167 rfl) rfl
theorem q1715 : (Jvm.Cond.code ({ cls := "ReasonCloserModel", name := "unites", desc := "([III)V" } : Jvm.MethodName) prog_14_method_28_code (8 : Nat) (Option.none : Option Jvm.ClassFile.FieldType)) ∈ lw_all := lw_g (lw_at lw_m7 168 rfl) rfl
theorem q1716 : (Jvm.Cond.methodLink "ReasonCloserModel" (293 : Nat) ({ cls := "ReasonCloserModel", name := "comesSame", desc := "(II)V" } : Jvm.MethodName)) ∈ lw_all := lw_g (lw_at lw_m7 169 rfl) rfl
theorem q1717 : (Jvm.Cond.privateMethod ({ cls := "ReasonCloserModel", name := "comesSame", desc := "(II)V" } : Jvm.MethodName)) ∈ lw_tbl := lw_at lw_m7 170 rfl
theorem q1718 : (Jvm.Cond.instanceMethod ({ cls := "ReasonCloserModel", name := "comesSame", desc := "(II)V" } : Jvm.MethodName)) ∈ lw_all := lw_g (lw_at lw_m7 171 rfl) rfl
theorem q1719 : (Jvm.Cond.code ({ cls := "ReasonCloserModel", name := "comesSame", desc := "(II)V" } : Jvm.MethodName) prog_14_method_37_code (3 : Nat) (Option.none : Option Jvm.ClassFile.FieldType)) ∈ lw_all := lw_g (lw_at lw_m7 172 rfl) rfl
theorem q1721 : (Jvm.Cond.instanceMethod ({ cls := "ReasonCloserModel", name := "fault", desc := "()I" } : Jvm.MethodName)) ∈ lw_all := lw_g (lw_at lw_m7 174 rfl) rfl
theorem q1722 : (Jvm.Cond.selects "ReasonCloserModel" ({ cls := "ReasonCloserModel", name := "fault", desc := "()I" } : Jvm.MethodName) ({ cls := "ReasonCloserModel", name := "fault", desc := "()I" } : Jvm.MethodName)) ∈ lw_all := lw_g (lw_at lw_m7 175 rfl) rfl
theorem q1723 : (Jvm.Cond.code ({ cls := "ReasonCloserModel", name := "fault", desc := "()I" } : Jvm.MethodName) prog_14_method_25_code (1 : Nat) (Option.some Jvm.ClassFile.FieldType.int)) ∈ lw_all := lw_g (lw_at lw_m7 176 rfl) rfl
theorem q1725 : (Jvm.Cond.instanceMethod ({ cls := "ReasonCloserModel", name := "where", desc := "()I" } : Jvm.MethodName)) ∈ lw_all := lw_g (lw_at lw_m7 178 rfl) rfl
theorem q1726 : (Jvm.Cond.selects "ReasonCloserModel" ({ cls := "ReasonCloserModel", name := "where", desc := "()I" } : Jvm.MethodName) ({ cls := "ReasonCloserModel", name := "where", desc := "()I" } : Jvm.MethodName)) ∈ lw_all := lw_g (lw_at lw_m7 179 rfl) rfl
theorem q1727 : (Jvm.Cond.code ({ cls := "ReasonCloserModel", name := "where", desc := "()I" } : Jvm.MethodName) prog_14_method_26_code (1 : Nat) (Option.some Jvm.ClassFile.FieldType.int)) ∈ lw_all := lw_g (lw_at lw_m7 180 rfl) rfl
theorem q1729 : (Jvm.Cond.instanceMethod ({ cls := "ReasonCloserModel", name := "about", desc := "(I)I" } : Jvm.MethodName)) ∈ lw_all := lw_g (lw_at lw_m7 182 rfl) rfl
theorem q1730 : (Jvm.Cond.selects "ReasonCloserModel" ({ cls := "ReasonCloserModel", name := "about", desc := "(I)I" } : Jvm.MethodName) ({ cls := "ReasonCloserModel", name := "about", desc := "(I)I" } : Jvm.MethodName)) ∈ lw_all := lw_g (lw_at lw_m7 183 rfl) rfl
theorem q1731 : (Jvm.Cond.code ({ cls := "ReasonCloserModel", name := "about", desc := "(I)I" } : Jvm.MethodName) prog_14_method_46_code (2 : Nat) (Option.some Jvm.ClassFile.FieldType.int)) ∈ lw_all := lw_g (lw_at lw_m7 184 rfl) rfl
theorem q1732 : (Jvm.Cond.methodLink "ReasonCloserModel" (306 : Nat) ({ cls := "ReasonCloserModel", name := "unless", desc := "(Z)I" } : Jvm.MethodName)) ∈ lw_all := lw_g (lw_at lw_m7 185 rfl) rfl
theorem q1733 : (Jvm.Cond.static ({ cls := "ReasonCloserModel", name := "unless", desc := "(Z)I" } : Jvm.MethodName)) ∈ lw_all := lw_g (lw_at lw_m7 186 rfl) rfl
theorem q1734 : (Jvm.Cond.code ({ cls := "ReasonCloserModel", name := "unless", desc := "(Z)I" } : Jvm.MethodName) prog_14_method_6_code (1 : Nat) (Option.some Jvm.ClassFile.FieldType.int)) ∈ lw_all := lw_g (lw_at lw_m7 187 rfl) rfl
theorem q1735 : (Jvm.Cond.methodLink "ReasonCloserModel" (310 : Nat) ({ cls := "ReasonCloserModel", name := "groupsIn", desc := "([I)I" } : Jvm.MethodName)) ∈ lw_all := lw_g (lw_at lw_m7 188 rfl) rfl
theorem q1736 : (Jvm.Cond.privateMethod ({ cls := "ReasonCloserModel", name := "groupsIn", desc := "([I)I" } : Jvm.MethodName)) ∈ lw_tbl := lw_at lw_m7 189 rfl
theorem q1737 : (Jvm.Cond.instanceMethod ({ cls := "ReasonCloserModel", name := "groupsIn", desc := "([I)I" } : Jvm.MethodName)) ∈ lw_all := lw_g (lw_at lw_m7 190 rfl) rfl
theorem q1738 : (Jvm.Cond.code ({ cls := "ReasonCloserModel", name := "groupsIn", desc := "([I)I" } : Jvm.MethodName) prog_14_method_42_code (4 : Nat) (Option.some Jvm.ClassFile.FieldType.int)) ∈ lw_all := lw_g (lw_at lw_m7 191 rfl) rfl
theorem q1739 : (Jvm.Cond.methodLink "ReasonCloserModel" (314 : Nat) ({ cls := "ReasonCloserModel", name := "clashIn", desc := "([I)I" } : Jvm.MethodName)) ∈ lw_all := lw_g (lw_at lw_m7 192 rfl) rfl
theorem q1740 : (Jvm.Cond.privateMethod ({ cls := "ReasonCloserModel", name := "clashIn", desc := "([I)I" } : Jvm.MethodName)) ∈ lw_tbl := lw_at lw_m7 193 rfl
theorem q1741 : (Jvm.Cond.instanceMethod ({ cls := "ReasonCloserModel", name := "clashIn", desc := "([I)I" } : Jvm.MethodName)) ∈ lw_all := lw_g (lw_at lw_m7 194 rfl) rfl
theorem q1742 : (Jvm.Cond.code ({ cls := "ReasonCloserModel", name := "clashIn", desc := "([I)I" } : Jvm.MethodName) prog_14_method_43_code (3 : Nat) (Option.some Jvm.ClassFile.FieldType.int)) ∈ lw_all := lw_g (lw_at lw_m7 195 rfl) rfl
theorem q1744 : (Jvm.Cond.instanceMethod ({ cls := "ReasonCloserModel", name := "function", desc := "(II)I" } : Jvm.MethodName)) ∈ lw_all := lw_g (lw_at lw_m7 197 rfl) rfl
theorem q1745 : (Jvm.Cond.selects "ReasonCloserModel" ({ cls := "ReasonCloserModel", name := "function", desc := "(II)I" } : Jvm.MethodName) ({ cls := "ReasonCloserModel", name := "function", desc := "(II)I" } : Jvm.MethodName)) ∈ lw_all := lw_g (lw_at lw_m7 198 rfl) rfl
theorem q1746 : (Jvm.Cond.code ({ cls := "ReasonCloserModel", name := "function", desc := "(II)I" } : Jvm.MethodName) prog_14_method_47_code (7 : Nat) (Option.some Jvm.ClassFile.FieldType.int)) ∈ lw_all := lw_g (lw_at lw_m7 199 rfl) rfl
theorem q1748 : (Jvm.Cond.instanceMethod ({ cls := "ReasonCloserModel", name := "term", desc := "(II)I" } : Jvm.MethodName)) ∈ lw_all := lw_g (lw_at lw_m7 201 rfl) rfl
theorem q1749 : (Jvm.Cond.selects "ReasonCloserModel" ({ cls := "ReasonCloserModel", name := "term", desc := "(II)I" } : Jvm.MethodName) ({ cls := "ReasonCloserModel", name := "term", desc := "(II)I" } : Jvm.MethodName)) ∈ lw_all := lw_g (lw_at lw_m7 202 rfl) rfl
theorem q1750 : (Jvm.Cond.code ({ cls := "ReasonCloserModel", name := "term", desc := "(II)I" } : Jvm.MethodName) prog_14_method_51_code (3 : Nat) (Option.some Jvm.ClassFile.FieldType.int)) ∈ lw_all := lw_g (lw_at lw_m7 203 rfl) rfl
theorem q1751 : (Jvm.Cond.methodLink "ReasonCloserModel" (317 : Nat) ({ cls := "ReasonCloserModel", name := "isTerm", desc := "(I)Z" } : Jvm.MethodName)) ∈ lw_all := lw_g (lw_at lw_m7 204 rfl) rfl
theorem q1752 : (Jvm.Cond.privateMethod ({ cls := "ReasonCloserModel", name := "isTerm", desc := "(I)Z" } : Jvm.MethodName)) ∈ lw_tbl := lw_at lw_m7 205 rfl
theorem q1753 : (Jvm.Cond.instanceMethod ({ cls := "ReasonCloserModel", name := "isTerm", desc := "(I)Z" } : Jvm.MethodName)) ∈ lw_all := lw_g (lw_at lw_m7 206 rfl) rfl
theorem q1754 : (Jvm.Cond.code ({ cls := "ReasonCloserModel", name := "isTerm", desc := "(I)Z" } : Jvm.MethodName) prog_14_method_45_code (2 : Nat) (Option.some Jvm.ClassFile.FieldType.boolean)) ∈ lw_all := lw_g (lw_at lw_m7 207 rfl) rfl
theorem q1755 : (Jvm.Cond.methodLink "ReasonCloserModel" (320 : Nat) ({ cls := "ReasonCloserModel", name := "groupMany", desc := "(I)I" } : Jvm.MethodName)) ∈ lw_all := lw_g (lw_at lw_m7 208 rfl) rfl
theorem q1756 : (Jvm.Cond.privateMethod ({ cls := "ReasonCloserModel", name := "groupMany", desc := "(I)I" } : Jvm.MethodName)) ∈ lw_tbl := lw_at lw_m7 209 rfl
theorem q1757 : (Jvm.Cond.instanceMethod ({ cls := "ReasonCloserModel", name := "groupMany", desc := "(I)I" } : Jvm.MethodName)) ∈ lw_all := lw_g (lw_at lw_m7 210 rfl) rfl
theorem q1758 : (Jvm.Cond.code ({ cls := "ReasonCloserModel", name := "groupMany", desc := "(I)I" } : Jvm.MethodName) prog_14_method_48_code (4 : Nat) (Option.some Jvm.ClassFile.FieldType.int)) ∈ lw_all := lw_g (lw_at lw_m7 211 rfl) rfl
theorem q1759 : (Jvm.Cond.methodLink "ReasonCloserModel" (323 : Nat) ({ cls := "ReasonCloserModel", name := "usersOf", desc := "(I)I" } : Jvm.MethodName)) ∈ lw_all := lw_g (lw_at lw_m7 212 rfl) rfl
theorem q1760 : (Jvm.Cond.privateMethod ({ cls := "ReasonCloserModel", name := "usersOf", desc := "(I)I" } : Jvm.MethodName)) ∈ lw_tbl := lw_at lw_m7 213 rfl
theorem q1761 : (Jvm.Cond.instanceMethod ({ cls := "ReasonCloserModel", name := "usersOf", desc := "(I)I" } : Jvm.MethodName)) ∈ lw_all := lw_g (lw_at lw_m7 214 rfl) rfl
theorem q1762 : (Jvm.Cond.code ({ cls := "ReasonCloserModel", name := "usersOf", desc := "(I)I" } : Jvm.MethodName) prog_14_method_49_code (6 : Nat) (Option.some Jvm.ClassFile.FieldType.int)) ∈ lw_all := lw_g (lw_at lw_m7 215 rfl) rfl
theorem q1763 : (Jvm.Cond.methodLink "ReasonCloserModel" (326 : Nat) ({ cls := "ReasonCloserModel", name := "deepOf", desc := "(I)I" } : Jvm.MethodName)) ∈ lw_all := lw_g (lw_at lw_m7 216 rfl) rfl
theorem q1764 : (Jvm.Cond.privateMethod ({ cls := "ReasonCloserModel", name := "deepOf", desc := "(I)I" } : Jvm.MethodName)) ∈ lw_tbl := lw_at lw_m7 217 rfl
theorem q1765 : (Jvm.Cond.instanceMethod ({ cls := "ReasonCloserModel", name := "deepOf", desc := "(I)I" } : Jvm.MethodName)) ∈ lw_all := lw_g (lw_at lw_m7 218 rfl) rfl
theorem q1766 : (Jvm.Cond.code ({ cls := "ReasonCloserModel", name := "deepOf", desc := "(I)I" } : Jvm.MethodName) prog_14_method_50_code (5 : Nat) (Option.some Jvm.ClassFile.FieldType.int)) ∈ lw_all := lw_g (lw_at lw_m7 219 rfl) rfl
theorem q1768 : (Jvm.Cond.instanceMethod ({ cls := "ReasonCloserModel", name := "height", desc := "(I)I" } : Jvm.MethodName)) ∈ lw_all := lw_g (lw_at lw_m7 221 rfl) rfl
theorem q1769 : (Jvm.Cond.selects "ReasonCloserModel" ({ cls := "ReasonCloserModel", name := "height", desc := "(I)I" } : Jvm.MethodName) ({ cls := "ReasonCloserModel", name := "height", desc := "(I)I" } : Jvm.MethodName)) ∈ lw_all := lw_g (lw_at lw_m7 222 rfl) rfl
theorem q1770 : (Jvm.Cond.code ({ cls := "ReasonCloserModel", name := "height", desc := "(I)I" } : Jvm.MethodName) prog_14_method_52_code (2 : Nat) (Option.some Jvm.ClassFile.FieldType.int)) ∈ lw_all := lw_g (lw_at lw_m7 223 rfl) rfl
theorem q1772 : (Jvm.Cond.instanceMethod ({ cls := "ReasonCloserModel", name := "hung", desc := "(II)I" } : Jvm.MethodName)) ∈ lw_all := lw_g (lw_at lw_m7 225 rfl) rfl
theorem q1773 : (Jvm.Cond.selects "ReasonCloserModel" ({ cls := "ReasonCloserModel", name := "hung", desc := "(II)I" } : Jvm.MethodName) ({ cls := "ReasonCloserModel", name := "hung", desc := "(II)I" } : Jvm.MethodName)) ∈ lw_all := lw_g (lw_at lw_m7 226 rfl) rfl
theorem q1774 : (Jvm.Cond.code ({ cls := "ReasonCloserModel", name := "hung", desc := "(II)I" } : Jvm.MethodName) prog_14_method_53_code (5 : Nat) (Option.some Jvm.ClassFile.FieldType.int)) ∈ lw_all := lw_g (lw_at lw_m7 227 rfl) rfl
theorem q1776 : (Jvm.Cond.instanceMethod ({ cls := "ReasonCloserModel", name := "partOf", desc := "(II)I" } : Jvm.MethodName)) ∈ lw_all := lw_g (lw_at lw_m7 229 rfl) rfl
theorem q1777 : (Jvm.Cond.selects "ReasonCloserModel" ({ cls := "ReasonCloserModel", name := "partOf", desc := "(II)I" } : Jvm.MethodName) ({ cls := "ReasonCloserModel", name := "partOf", desc := "(II)I" } : Jvm.MethodName)) ∈ lw_all := lw_g (lw_at lw_m7 230 rfl) rfl
theorem q1778 : (Jvm.Cond.code ({ cls := "ReasonCloserModel", name := "partOf", desc := "(II)I" } : Jvm.MethodName) prog_14_method_54_code (3 : Nat) (Option.some Jvm.ClassFile.FieldType.int)) ∈ lw_all := lw_g (lw_at lw_m7 231 rfl) rfl
theorem q1780 : (Jvm.Cond.instanceMethod ({ cls := "ReasonCloserModel", name := "sameOf", desc := "(II)I" } : Jvm.MethodName)) ∈ lw_all := lw_g (lw_at lw_m7 233 rfl) rfl
theorem q1781 : (Jvm.Cond.selects "ReasonCloserModel" ({ cls := "ReasonCloserModel", name := "sameOf", desc := "(II)I" } : Jvm.MethodName) ({ cls := "ReasonCloserModel", name := "sameOf", desc := "(II)I" } : Jvm.MethodName)) ∈ lw_all := lw_g (lw_at lw_m7 234 rfl) rfl
theorem q1782 : (Jvm.Cond.code ({ cls := "ReasonCloserModel", name := "sameOf", desc := "(II)I" } : Jvm.MethodName) prog_14_method_55_code (3 : Nat) (Option.some Jvm.ClassFile.FieldType.int)) ∈ lw_all := lw_g (lw_at lw_m7 235 rfl) rfl
theorem q1783 : (Jvm.Cond.methodLink "ReasonCloserModel" (329 : Nat) ({ cls := "ReasonCloserModel", name := "allSames", desc := "()I" } : Jvm.MethodName)) ∈ lw_all := lw_g (lw_at lw_m7 236 rfl) rfl
theorem q1784 : (Jvm.Cond.privateMethod ({ cls := "ReasonCloserModel", name := "allSames", desc := "()I" } : Jvm.MethodName)) ∈ lw_tbl := lw_at lw_m7 237 rfl
theorem q1785 : (Jvm.Cond.instanceMethod ({ cls := "ReasonCloserModel", name := "allSames", desc := "()I" } : Jvm.MethodName)) ∈ lw_all := lw_g (lw_at lw_m7 238 rfl) rfl
theorem q1786 : (Jvm.Cond.code ({ cls := "ReasonCloserModel", name := "allSames", desc := "()I" } : Jvm.MethodName) prog_14_method_44_code (1 : Nat) (Option.some Jvm.ClassFile.FieldType.int)) ∈ lw_all := lw_g (lw_at lw_m7 239 rfl) rfl
theorem q1787 : (Jvm.Cond.methodLink "ReasonCloserModel" (332 : Nat) ({ cls := "ReasonCloserModel", name := "isOneBy", desc := "(III)Z" } : Jvm.MethodName)) ∈ lw_all := lw_g (lw_at lw_m8 0 rfl) rfl
theorem q1788 : (Jvm.Cond.privateMethod ({ cls := "ReasonCloserModel", name := "isOneBy", desc := "(III)Z" } : Jvm.MethodName)) ∈ lw_tbl := lw_at lw_m8 1 rfl
theorem q1789 : (Jvm.Cond.instanceMethod ({ cls := "ReasonCloserModel", name := "isOneBy", desc := "(III)Z" } : Jvm.MethodName)) ∈ lw_all := lw_g (lw_at lw_m8 2 rfl) rfl
theorem q1790 : (Jvm.Cond.code ({ cls := "ReasonCloserModel", name := "isOneBy", desc := "(III)Z" } : Jvm.MethodName) prog_14_method_41_code (4 : Nat) (Option.some Jvm.ClassFile.FieldType.boolean)) ∈ lw_all := lw_g (lw_at lw_m8 3 rfl) rfl
theorem q1791 : (Jvm.Cond.methodLink "ReasonCloserModel" (303 : Nat) ({ cls := "ReasonCloserModel", name := "closesBy", desc := "(I)V" } : Jvm.MethodName)) ∈ lw_all := lw_g (lw_at lw_m8 4 rfl) rfl
theorem q1792 : (Jvm.Cond.privateMethod ({ cls := "ReasonCloserModel", name := "closesBy", desc := "(I)V" } : Jvm.MethodName)) ∈ lw_tbl := lw_at lw_m8 5 rfl
theorem q1793 : (Jvm.Cond.instanceMethod ({ cls := "ReasonCloserModel", name := "closesBy", desc := "(I)V" } : Jvm.MethodName)) ∈ lw_all := lw_g (lw_at lw_m8 6 rfl) rfl
theorem q1794 : (Jvm.Cond.code ({ cls := "ReasonCloserModel", name := "closesBy", desc := "(I)V" } : Jvm.MethodName) prog_14_method_40_code (5 : Nat) (Option.none : Option Jvm.ClassFile.FieldType)) ∈ lw_all := lw_g (lw_at lw_m8 7 rfl) rfl
theorem q1796 : (Jvm.Cond.instanceMethod ({ cls := "ReasonCloserModel", name := "diffOf", desc := "(II)I" } : Jvm.MethodName)) ∈ lw_all := lw_g (lw_at lw_m8 9 rfl) rfl
theorem q1797 : (Jvm.Cond.selects "ReasonCloserModel" ({ cls := "ReasonCloserModel", name := "diffOf", desc := "(II)I" } : Jvm.MethodName) ({ cls := "ReasonCloserModel", name := "diffOf", desc := "(II)I" } : Jvm.MethodName)) ∈ lw_all := lw_g (lw_at lw_m8 10 rfl) rfl
theorem q1798 : (Jvm.Cond.code ({ cls := "ReasonCloserModel", name := "diffOf", desc := "(II)I" } : Jvm.MethodName) prog_14_method_56_code (3 : Nat) (Option.some Jvm.ClassFile.FieldType.int)) ∈ lw_all := lw_g (lw_at lw_m8 11 rfl) rfl
theorem q1800 : (Jvm.Cond.instanceMethod ({ cls := "ReasonCloserModel", name := "joinOf", desc := "(II)I" } : Jvm.MethodName)) ∈ lw_all := lw_g (lw_at lw_m8 13 rfl) rfl
theorem q1801 : (Jvm.Cond.selects "ReasonCloserModel" ({ cls := "ReasonCloserModel", name := "joinOf", desc := "(II)I" } : Jvm.MethodName) ({ cls := "ReasonCloserModel", name := "joinOf", desc := "(II)I" } : Jvm.MethodName)) ∈ lw_all := lw_g (lw_at lw_m8 14 rfl) rfl
theorem q1802 : (Jvm.Cond.code ({ cls := "ReasonCloserModel", name := "joinOf", desc := "(II)I" } : Jvm.MethodName) prog_14_method_57_code (3 : Nat) (Option.some Jvm.ClassFile.FieldType.int)) ∈ lw_all := lw_g (lw_at lw_m8 15 rfl) rfl
theorem q1804 : (Jvm.Cond.instanceMethod ({ cls := "ReasonCloserModel", name := "equal", desc := "(II)I" } : Jvm.MethodName)) ∈ lw_all := lw_g (lw_at lw_m8 17 rfl) rfl
theorem q1805 : (Jvm.Cond.selects "ReasonCloserModel" ({ cls := "ReasonCloserModel", name := "equal", desc := "(II)I" } : Jvm.MethodName) ({ cls := "ReasonCloserModel", name := "equal", desc := "(II)I" } : Jvm.MethodName)) ∈ lw_all := lw_g (lw_at lw_m8 18 rfl) rfl
theorem q1806 : (Jvm.Cond.code ({ cls := "ReasonCloserModel", name := "equal", desc := "(II)I" } : Jvm.MethodName) prog_14_method_58_code (3 : Nat) (Option.some Jvm.ClassFile.FieldType.int)) ∈ lw_all := lw_g (lw_at lw_m8 19 rfl) rfl
theorem q1808 : (Jvm.Cond.instanceMethod ({ cls := "ReasonCloserModel", name := "apart", desc := "(II)I" } : Jvm.MethodName)) ∈ lw_all := lw_g (lw_at lw_m8 21 rfl) rfl
theorem q1809 : (Jvm.Cond.selects "ReasonCloserModel" ({ cls := "ReasonCloserModel", name := "apart", desc := "(II)I" } : Jvm.MethodName) ({ cls := "ReasonCloserModel", name := "apart", desc := "(II)I" } : Jvm.MethodName)) ∈ lw_all := lw_g (lw_at lw_m8 22 rfl) rfl
theorem q1810 : (Jvm.Cond.code ({ cls := "ReasonCloserModel", name := "apart", desc := "(II)I" } : Jvm.MethodName) prog_14_method_59_code (6 : Nat) (Option.some Jvm.ClassFile.FieldType.int)) ∈ lw_all := lw_g (lw_at lw_m8 23 rfl) rfl
theorem q1812 : (Jvm.Cond.instanceMethod ({ cls := "ReasonCloserModel", name := "reasons", desc := "(II)I" } : Jvm.MethodName)) ∈ lw_all := lw_g (lw_at lw_m8 25 rfl) rfl
theorem q1813 : (Jvm.Cond.selects "ReasonCloserModel" ({ cls := "ReasonCloserModel", name := "reasons", desc := "(II)I" } : Jvm.MethodName) ({ cls := "ReasonCloserModel", name := "reasons", desc := "(II)I" } : Jvm.MethodName)) ∈ lw_all := lw_g (lw_at lw_m8 26 rfl) rfl
theorem q1814 : (Jvm.Cond.code ({ cls := "ReasonCloserModel", name := "reasons", desc := "(II)I" } : Jvm.MethodName) prog_14_method_61_code (3 : Nat) (Option.some Jvm.ClassFile.FieldType.int)) ∈ lw_all := lw_g (lw_at lw_m8 27 rfl) rfl
theorem q1815 : (Jvm.Cond.methodLink "ReasonCloserModel" (335 : Nat) ({ cls := "ReasonCloserModel", name := "whyNotOne", desc := "(II)I" } : Jvm.MethodName)) ∈ lw_all := lw_g (lw_at lw_m8 28 rfl) rfl
theorem q1816 : (Jvm.Cond.privateMethod ({ cls := "ReasonCloserModel", name := "whyNotOne", desc := "(II)I" } : Jvm.MethodName)) ∈ lw_tbl := lw_at lw_m8 29 rfl
theorem q1817 : (Jvm.Cond.instanceMethod ({ cls := "ReasonCloserModel", name := "whyNotOne", desc := "(II)I" } : Jvm.MethodName)) ∈ lw_all := lw_g (lw_at lw_m8 30 rfl) rfl
theorem q1818 : (Jvm.Cond.code ({ cls := "ReasonCloserModel", name := "whyNotOne", desc := "(II)I" } : Jvm.MethodName) prog_14_method_60_code (3 : Nat) (Option.some Jvm.ClassFile.FieldType.int)) ∈ lw_all := lw_g (lw_at lw_m8 31 rfl) rfl
theorem q1820 : (Jvm.Cond.instanceMethod ({ cls := "ReasonCloserModel", name := "pruned", desc := "(II)I" } : Jvm.MethodName)) ∈ lw_all := lw_g (lw_at lw_m8 33 rfl) rfl
theorem q1821 : (Jvm.Cond.selects "ReasonCloserModel" ({ cls := "ReasonCloserModel", name := "pruned", desc := "(II)I" } : Jvm.MethodName) ({ cls := "ReasonCloserModel", name := "pruned", desc := "(II)I" } : Jvm.MethodName)) ∈ lw_all := lw_g (lw_at lw_m8 34 rfl) rfl
theorem q1822 : (Jvm.Cond.code ({ cls := "ReasonCloserModel", name := "pruned", desc := "(II)I" } : Jvm.MethodName) prog_14_method_62_code (5 : Nat) (Option.some Jvm.ClassFile.FieldType.int)) ∈ lw_all := lw_g (lw_at lw_m8 35 rfl) rfl
theorem q1824 : (Jvm.Cond.instanceMethod ({ cls := "ReasonCloserModel", name := "fewest", desc := "(II)I" } : Jvm.MethodName)) ∈ lw_all := lw_g (lw_at lw_m8 37 rfl) rfl
theorem q1825 : (Jvm.Cond.selects "ReasonCloserModel" ({ cls := "ReasonCloserModel", name := "fewest", desc := "(II)I" } : Jvm.MethodName) ({ cls := "ReasonCloserModel", name := "fewest", desc := "(II)I" } : Jvm.MethodName)) ∈ lw_all := lw_g (lw_at lw_m8 38 rfl) rfl
theorem q1826 : (Jvm.Cond.code ({ cls := "ReasonCloserModel", name := "fewest", desc := "(II)I" } : Jvm.MethodName) prog_14_method_64_code (5 : Nat) (Option.some Jvm.ClassFile.FieldType.int)) ∈ lw_all := lw_g (lw_at lw_m8 39 rfl) rfl
theorem q1827 : (Jvm.Cond.methodLink "ReasonCloserModel" (338 : Nat) ({ cls := "ReasonCloserModel", name := "ones", desc := "(I)I" } : Jvm.MethodName)) ∈ lw_all := lw_g (lw_at lw_m8 40 rfl) rfl
theorem q1828 : (Jvm.Cond.static ({ cls := "ReasonCloserModel", name := "ones", desc := "(I)I" } : Jvm.MethodName)) ∈ lw_all := lw_g (lw_at lw_m8 41 rfl) rfl
theorem q1829 : (Jvm.Cond.code ({ cls := "ReasonCloserModel", name := "ones", desc := "(I)I" } : Jvm.MethodName) prog_14_method_63_code (3 : Nat) (Option.some Jvm.ClassFile.FieldType.int)) ∈ lw_all := lw_g (lw_at lw_m8 42 rfl) rfl
theorem q1831 : (Jvm.Cond.instanceMethod ({ cls := "ReasonCloserModel", name := "needed", desc := "(II)I" } : Jvm.MethodName)) ∈ lw_all := lw_g (lw_at lw_m8 44 rfl) rfl
theorem q1832 : (Jvm.Cond.selects "ReasonCloserModel" ({ cls := "ReasonCloserModel", name := "needed", desc := "(II)I" } : Jvm.MethodName) ({ cls := "ReasonCloserModel", name := "needed", desc := "(II)I" } : Jvm.MethodName)) ∈ lw_all := lw_g (lw_at lw_m8 45 rfl) rfl
theorem q1833 : (Jvm.Cond.code ({ cls := "ReasonCloserModel", name := "needed", desc := "(II)I" } : Jvm.MethodName) prog_14_method_65_code (5 : Nat) (Option.some Jvm.ClassFile.FieldType.int)) ∈ lw_all := lw_g (lw_at lw_m8 46 rfl) rfl
theorem q1835 : (Jvm.Cond.instanceMethod ({ cls := "ReasonCloserModel", name := "many", desc := "(II)I" } : Jvm.MethodName)) ∈ lw_all := lw_g (lw_at lw_m8 48 rfl) rfl
theorem q1836 : (Jvm.Cond.selects "ReasonCloserModel" ({ cls := "ReasonCloserModel", name := "many", desc := "(II)I" } : Jvm.MethodName) ({ cls := "ReasonCloserModel", name := "many", desc := "(II)I" } : Jvm.MethodName)) ∈ lw_all := lw_g (lw_at lw_m8 49 rfl) rfl
theorem q1837 : (Jvm.Cond.code ({ cls := "ReasonCloserModel", name := "many", desc := "(II)I" } : Jvm.MethodName) prog_14_method_66_code (7 : Nat) (Option.some Jvm.ClassFile.FieldType.int)) ∈ lw_all := lw_g (lw_at lw_m8 50 rfl) rfl
theorem q1839 : (Jvm.Cond.instanceMethod ({ cls := "ReasonCloserModel", name := "base", desc := "()I" } : Jvm.MethodName)) ∈ lw_all := lw_g (lw_at lw_m8 52 rfl) rfl
theorem q1840 : (Jvm.Cond.selects "ReasonCloserModel" ({ cls := "ReasonCloserModel", name := "base", desc := "()I" } : Jvm.MethodName) ({ cls := "ReasonCloserModel", name := "base", desc := "()I" } : Jvm.MethodName)) ∈ lw_all := lw_g (lw_at lw_m8 53 rfl) rfl
theorem q1841 : (Jvm.Cond.code ({ cls := "ReasonCloserModel", name := "base", desc := "()I" } : Jvm.MethodName) prog_14_method_67_code (3 : Nat) (Option.some Jvm.ClassFile.FieldType.int)) ∈ lw_all := lw_g (lw_at lw_m8 54 rfl) rfl
theorem q1843 : (Jvm.Cond.instanceMethod ({ cls := "ReasonCloserModel", name := "proves", desc := "(III)I" } : Jvm.MethodName)) ∈ lw_all := lw_g (lw_at lw_m8 56 rfl) rfl
theorem q1844 : (Jvm.Cond.selects "ReasonCloserModel" ({ cls := "ReasonCloserModel", name := "proves", desc := "(III)I" } : Jvm.MethodName) ({ cls := "ReasonCloserModel", name := "proves", desc := "(III)I" } : Jvm.MethodName)) ∈ lw_all := lw_g (lw_at lw_m8 57 rfl) rfl
theorem q1845 : (Jvm.Cond.code ({ cls := "ReasonCloserModel", name := "proves", desc := "(III)I" } : Jvm.MethodName) prog_14_method_68_code (5 : Nat) (Option.some Jvm.ClassFile.FieldType.int)) ∈ lw_all := lw_g (lw_at lw_m8 58 rfl) rfl
theorem q1847 : (Jvm.Cond.instanceMethod ({ cls := "ReasonCloserModel", name := "since", desc := "(II)I" } : Jvm.MethodName)) ∈ lw_all := lw_g (lw_at lw_m8 60 rfl) rfl
theorem q1848 : (Jvm.Cond.selects "ReasonCloserModel" ({ cls := "ReasonCloserModel", name := "since", desc := "(II)I" } : Jvm.MethodName) ({ cls := "ReasonCloserModel", name := "since", desc := "(II)I" } : Jvm.MethodName)) ∈ lw_all := lw_g (lw_at lw_m8 61 rfl) rfl
theorem q1849 : (Jvm.Cond.code ({ cls := "ReasonCloserModel", name := "since", desc := "(II)I" } : Jvm.MethodName) prog_14_method_69_code (4 : Nat) (Option.some Jvm.ClassFile.FieldType.int)) ∈ lw_all := lw_g (lw_at lw_m8 62 rfl) rfl
theorem q1851 : (Jvm.Cond.instanceMethod ({ cls := "ReasonCloserModel", name := "level", desc := "(II)I" } : Jvm.MethodName)) ∈ lw_all := lw_g (lw_at lw_m8 64 rfl) rfl
theorem q1852 : (Jvm.Cond.selects "ReasonCloserModel" ({ cls := "ReasonCloserModel", name := "level", desc := "(II)I" } : Jvm.MethodName) ({ cls := "ReasonCloserModel", name := "level", desc := "(II)I" } : Jvm.MethodName)) ∈ lw_all := lw_g (lw_at lw_m8 65 rfl) rfl
theorem q1853 : (Jvm.Cond.code ({ cls := "ReasonCloserModel", name := "level", desc := "(II)I" } : Jvm.MethodName) prog_14_method_70_code (6 : Nat) (Option.some Jvm.ClassFile.FieldType.int)) ∈ lw_all := lw_g (lw_at lw_m8 66 rfl) rfl
theorem q1855 : (Jvm.Cond.instanceMethod ({ cls := "ReasonCloserModel", name := "cost", desc := "(II)I" } : Jvm.MethodName)) ∈ lw_all := lw_g (lw_at lw_m8 68 rfl) rfl
theorem q1856 : (Jvm.Cond.selects "ReasonCloserModel" ({ cls := "ReasonCloserModel", name := "cost", desc := "(II)I" } : Jvm.MethodName) ({ cls := "ReasonCloserModel", name := "cost", desc := "(II)I" } : Jvm.MethodName)) ∈ lw_all := lw_g (lw_at lw_m8 69 rfl) rfl
theorem q1857 : (Jvm.Cond.code ({ cls := "ReasonCloserModel", name := "cost", desc := "(II)I" } : Jvm.MethodName) prog_14_method_76_code (3 : Nat) (Option.some Jvm.ClassFile.FieldType.int)) ∈ lw_all := lw_g (lw_at lw_m8 70 rfl) rfl
theorem q1858 : (Jvm.Cond.methodLink "ReasonCloserModel" (359 : Nat) ({ cls := "ReasonCloserModel", name := "laysCosts", desc := "()V" } : Jvm.MethodName)) ∈ lw_all := lw_g (lw_at lw_m8 71 rfl) rfl
theorem q1859 : (Jvm.Cond.privateMethod ({ cls := "ReasonCloserModel", name := "laysCosts", desc := "()V" } : Jvm.MethodName)) ∈ lw_tbl := lw_at lw_m8 72 rfl
theorem q1860 : (Jvm.Cond.instanceMethod ({ cls := "ReasonCloserModel", name := "laysCosts", desc := "()V" } : Jvm.MethodName)) ∈ lw_all := lw_g (lw_at lw_m8 73 rfl) rfl
theorem q1861 : (Jvm.Cond.code ({ cls := "ReasonCloserModel", name := "laysCosts", desc := "()V" } : Jvm.MethodName) prog_14_method_75_code (3 : Nat) (Option.none : Option Jvm.ClassFile.FieldType)) ∈ lw_all := lw_g (lw_at lw_m8 74 rfl) rfl
theorem q1862 : (Jvm.Cond.methodLink "ReasonCloserModel" (345 : Nat) ({ cls := "ReasonCloserModel", name := "pair", desc := "(II)I" } : Jvm.MethodName)) ∈ lw_all := lw_g (lw_at lw_m8 75 rfl) rfl
theorem q1863 : (Jvm.Cond.static ({ cls := "ReasonCloserModel", name := "pair", desc := "(II)I" } : Jvm.MethodName)) ∈ lw_all := lw_g (lw_at lw_m8 76 rfl) rfl
theorem q1864 : (Jvm.Cond.code ({ cls := "ReasonCloserModel", name := "pair", desc := "(II)I" } : Jvm.MethodName) prog_14_method_71_code (2 : Nat) (Option.some Jvm.ClassFile.FieldType.int)) ∈ lw_all := lw_g (lw_at lw_m8 77 rfl) rfl
theorem q1865 : (Jvm.Cond.constantLong "ReasonCloserModel" (341 : Nat) (4000000000 : Int64)) ∈ lw_all := lw_g (lw_at lw_m8 78 rfl) rfl
theorem q1866 : (Jvm.Cond.methodLink "ReasonCloserModel" (356 : Nat) ({ cls := "ReasonCloserModel", name := "lessens", desc := "()Z" } : Jvm.MethodName)) ∈ lw_all := lw_g (lw_at lw_m8 79 rfl) rfl
theorem q1867 : (Jvm.Cond.privateMethod ({ cls := "ReasonCloserModel", name := "lessens", desc := "()Z" } : Jvm.MethodName)) ∈ lw_tbl := lw_at lw_m8 80 rfl
theorem q1868 : (Jvm.Cond.instanceMethod ({ cls := "ReasonCloserModel", name := "lessens", desc := "()Z" } : Jvm.MethodName)) ∈ lw_all := lw_g (lw_at lw_m8 81 rfl) rfl
theorem q1869 : (Jvm.Cond.code ({ cls := "ReasonCloserModel", name := "lessens", desc := "()Z" } : Jvm.MethodName) prog_14_method_74_code (11 : Nat) (Option.some Jvm.ClassFile.FieldType.boolean)) ∈ lw_all := lw_g (lw_at lw_m8 82 rfl) rfl
theorem q1870 : (Jvm.Cond.methodLink "ReasonCloserModel" (352 : Nat) ({ cls := "ReasonCloserModel", name := "sideOf", desc := "(II)J" } : Jvm.MethodName)) ∈ lw_all := lw_g (lw_at lw_m8 83 rfl) rfl
theorem q1871 : (Jvm.Cond.privateMethod ({ cls := "ReasonCloserModel", name := "sideOf", desc := "(II)J" } : Jvm.MethodName)) ∈ lw_tbl := lw_at lw_m8 84 rfl
theorem q1872 : (Jvm.Cond.instanceMethod ({ cls := "ReasonCloserModel", name := "sideOf", desc := "(II)J" } : Jvm.MethodName)) ∈ lw_all := lw_g (lw_at lw_m8 85 rfl) rfl
theorem q1873 : (Jvm.Cond.code ({ cls := "ReasonCloserModel", name := "sideOf", desc := "(II)J" } : Jvm.MethodName) prog_14_method_73_code (10 : Nat) (Option.some Jvm.ClassFile.FieldType.long)) ∈ lw_all := lw_g (lw_at lw_m8 86 rfl) rfl
theorem q1874 : (Jvm.Cond.methodLink "ReasonCloserModel" (348 : Nat) ({ cls := "ReasonCloserModel", name := "held", desc := "(J)J" } : Jvm.MethodName)) ∈ lw_all := lw_g (lw_at lw_m8 87 rfl) rfl
theorem q1875 : (Jvm.Cond.static ({ cls := "ReasonCloserModel", name := "held", desc := "(J)J" } : Jvm.MethodName)) ∈ lw_all := lw_g (lw_at lw_m8 88 rfl) rfl
theorem q1876 : (Jvm.Cond.code ({ cls := "ReasonCloserModel", name := "held", desc := "(J)J" } : Jvm.MethodName) prog_14_method_72_code (2 : Nat) (Option.some Jvm.ClassFile.FieldType.long)) ∈ lw_all := lw_g (lw_at lw_m8 89 rfl) rfl
theorem q1877 : (Jvm.Cond.constantLong "ReasonCloserModel" (343 : Nat) (1000000000 : Int64)) ∈ lw_all := lw_g (lw_at lw_m8 90 rfl) rfl
theorem q1879 : (Jvm.Cond.instanceMethod ({ cls := "ReasonCloserModel", name := "way", desc := "(III)I" } : Jvm.MethodName)) ∈ lw_all := lw_g (lw_at lw_m8 92 rfl) rfl
theorem q1880 : (Jvm.Cond.selects "ReasonCloserModel" ({ cls := "ReasonCloserModel", name := "way", desc := "(III)I" } : Jvm.MethodName) ({ cls := "ReasonCloserModel", name := "way", desc := "(III)I" } : Jvm.MethodName)) ∈ lw_all := lw_g (lw_at lw_m8 93 rfl) rfl
theorem q1881 : (Jvm.Cond.code ({ cls := "ReasonCloserModel", name := "way", desc := "(III)I" } : Jvm.MethodName) prog_14_method_79_code (8 : Nat) (Option.some Jvm.ClassFile.FieldType.int)) ∈ lw_all := lw_g (lw_at lw_m8 94 rfl) rfl
theorem q1882 : (Jvm.Cond.methodLink "ReasonCloserModel" (369 : Nat) ({ cls := "ReasonCloserModel", name := "laysHops", desc := "(I)V" } : Jvm.MethodName)) ∈ lw_all := lw_g (lw_at lw_m8 95 rfl) rfl
theorem q1883 : (Jvm.Cond.privateMethod ({ cls := "ReasonCloserModel", name := "laysHops", desc := "(I)V" } : Jvm.MethodName)) ∈ lw_tbl := lw_at lw_m8 96 rfl
theorem q1884 : (Jvm.Cond.instanceMethod ({ cls := "ReasonCloserModel", name := "laysHops", desc := "(I)V" } : Jvm.MethodName)) ∈ lw_all := lw_g (lw_at lw_m8 97 rfl) rfl
theorem q1885 : (Jvm.Cond.code ({ cls := "ReasonCloserModel", name := "laysHops", desc := "(I)V" } : Jvm.MethodName) prog_14_method_78_code (5 : Nat) (Option.none : Option Jvm.ClassFile.FieldType)) ∈ lw_all := lw_g (lw_at lw_m8 98 rfl) rfl
theorem q1886 : (Jvm.Cond.methodLink "ReasonCloserModel" (366 : Nat) ({ cls := "ReasonCloserModel", name := "isNext", desc := "(III)Z" } : Jvm.MethodName)) ∈ lw_all := lw_g (lw_at lw_m8 99 rfl) rfl
theorem q1887 : (Jvm.Cond.privateMethod ({ cls := "ReasonCloserModel", name := "isNext", desc := "(III)Z" } : Jvm.MethodName)) ∈ lw_tbl := lw_at lw_m8 100 rfl
theorem q1888 : (Jvm.Cond.instanceMethod ({ cls := "ReasonCloserModel", name := "isNext", desc := "(III)Z" } : Jvm.MethodName)) ∈ lw_all := lw_g (lw_at lw_m8 101 rfl) rfl
theorem q1889 : (Jvm.Cond.code ({ cls := "ReasonCloserModel", name := "isNext", desc := "(III)Z" } : Jvm.MethodName) prog_14_method_77_code (8 : Nat) (Option.some Jvm.ClassFile.FieldType.boolean)) ∈ lw_all := lw_g (lw_at lw_m8 102 rfl) rfl
theorem q1891 : (Jvm.Cond.instanceMethod ({ cls := "ReasonCloserModel", name := "core", desc := "()I" } : Jvm.MethodName)) ∈ lw_all := lw_g (lw_at lw_m8 104 rfl) rfl
theorem q1892 : (Jvm.Cond.selects "ReasonCloserModel" ({ cls := "ReasonCloserModel", name := "core", desc := "()I" } : Jvm.MethodName) ({ cls := "ReasonCloserModel", name := "core", desc := "()I" } : Jvm.MethodName)) ∈ lw_all := lw_g (lw_at lw_m8 105 rfl) rfl
theorem q1893 : (Jvm.Cond.code ({ cls := "ReasonCloserModel", name := "core", desc := "()I" } : Jvm.MethodName) prog_14_method_80_code (3 : Nat) (Option.some Jvm.ClassFile.FieldType.int)) ∈ lw_all := lw_g (lw_at lw_m8 106 rfl) rfl
theorem q1895 : (Jvm.Cond.instanceMethod ({ cls := "ReasonCloserModel", name := "would", desc := "(III)I" } : Jvm.MethodName)) ∈ lw_all := lw_g (lw_at lw_m8 108 rfl) rfl
theorem q1896 : (Jvm.Cond.selects "ReasonCloserModel" ({ cls := "ReasonCloserModel", name := "would", desc := "(III)I" } : Jvm.MethodName) ({ cls := "ReasonCloserModel", name := "would", desc := "(III)I" } : Jvm.MethodName)) ∈ lw_all := lw_g (lw_at lw_m8 109 rfl) rfl
theorem q1897 : (Jvm.Cond.code ({ cls := "ReasonCloserModel", name := "would", desc := "(III)I" } : Jvm.MethodName) prog_14_method_82_code (4 : Nat) (Option.some Jvm.ClassFile.FieldType.int)) ∈ lw_all := lw_g (lw_at lw_m8 110 rfl) rfl
theorem q1898 : (Jvm.Cond.methodLink "ReasonCloserModel" (372 : Nat) ({ cls := "ReasonCloserModel", name := "closesWith", desc := "(II)V" } : Jvm.MethodName)) ∈ lw_all := lw_g (lw_at lw_m8 111 rfl) rfl
theorem q1899 : (Jvm.Cond.privateMethod ({ cls := "ReasonCloserModel", name := "closesWith", desc := "(II)V" } : Jvm.MethodName)) ∈ lw_tbl := lw_at lw_m8 112 rfl
theorem q1900 : (Jvm.Cond.instanceMethod ({ cls := "ReasonCloserModel", name := "closesWith", desc := "(II)V" } : Jvm.MethodName)) ∈ lw_all := lw_g (lw_at lw_m8 113 rfl) rfl
theorem q1901 : (Jvm.Cond.code ({ cls := "ReasonCloserModel", name := "closesWith", desc := "(II)V" } : Jvm.MethodName) prog_14_method_81_code (3 : Nat) (Option.none : Option Jvm.ClassFile.FieldType)) ∈ lw_all := lw_g (lw_at lw_m8 114 rfl) rfl
theorem q1903 : (Jvm.Cond.instanceMethod ({ cls := "ReasonCloserModel", name := "next", desc := "(IIII)I" } : Jvm.MethodName)) ∈ lw_all := lw_g (lw_at lw_m8 116 rfl) rfl
theorem q1904 : (Jvm.Cond.selects "ReasonCloserModel" ({ cls := "ReasonCloserModel", name := "next", desc := "(IIII)I" } : Jvm.MethodName) ({ cls := "ReasonCloserModel", name := "next", desc := "(IIII)I" } : Jvm.MethodName)) ∈ lw_all := lw_g (lw_at lw_m8 117 rfl) rfl
theorem q1905 : (Jvm.Cond.code ({ cls := "ReasonCloserModel", name := "next", desc := "(IIII)I" } : Jvm.MethodName) prog_14_method_86_code (5 : Nat) (Option.some Jvm.ClassFile.FieldType.int)) ∈ lw_all := lw_g (lw_at lw_m8 118 rfl) rfl
theorem q1906 : (Jvm.Cond.methodLink "ReasonCloserModel" (384 : Nat) ({ cls := "ReasonCloserModel", name := "laysNext", desc := "(II)V" } : Jvm.MethodName)) ∈ lw_all := lw_g (lw_at lw_m8 119 rfl) rfl
theorem q1907 : (Jvm.Cond.privateMethod ({ cls := "ReasonCloserModel", name := "laysNext", desc := "(II)V" } : Jvm.MethodName)) ∈ lw_tbl := lw_at lw_m8 120 rfl
theorem q1908 : (Jvm.Cond.instanceMethod ({ cls := "ReasonCloserModel", name := "laysNext", desc := "(II)V" } : Jvm.MethodName)) ∈ lw_all := lw_g (lw_at lw_m8 121 rfl) rfl
theorem q1909 : (Jvm.Cond.code ({ cls := "ReasonCloserModel", name := "laysNext", desc := "(II)V" } : Jvm.MethodName) prog_14_method_85_code (4 : Nat) (Option.none : Option Jvm.ClassFile.FieldType)) ∈ lw_all := lw_g (lw_at lw_m8 122 rfl) rfl
theorem q1910 : (Jvm.Cond.methodLink "ReasonCloserModel" (378 : Nat) ({ cls := "ReasonCloserModel", name := "nextJoin", desc := "(II)V" } : Jvm.MethodName)) ∈ lw_all := lw_g (lw_at lw_m8 123 rfl) rfl
theorem q1911 : (Jvm.Cond.privateMethod ({ cls := "ReasonCloserModel", name := "nextJoin", desc := "(II)V" } : Jvm.MethodName)) ∈ lw_tbl := lw_at lw_m8 124 rfl
theorem q1912 : (Jvm.Cond.instanceMethod ({ cls := "ReasonCloserModel", name := "nextJoin", desc := "(II)V" } : Jvm.MethodName)) ∈ lw_all := lw_g (lw_at lw_m8 125 rfl) rfl
theorem q1913 : (Jvm.Cond.code ({ cls := "ReasonCloserModel", name := "nextJoin", desc := "(II)V" } : Jvm.MethodName) prog_14_method_83_code (3 : Nat) (Option.none : Option Jvm.ClassFile.FieldType)) ∈ lw_all := lw_g (lw_at lw_m8 126 rfl) rfl
theorem q1914 : (Jvm.Cond.methodLink "ReasonCloserModel" (381 : Nat) ({ cls := "ReasonCloserModel", name := "nextByParts", desc := "()Z" } : Jvm.MethodName)) ∈ lw_all := lw_g (lw_at lw_m8 127 rfl) rfl
theorem q1915 : (Jvm.Cond.privateMethod ({ cls := "ReasonCloserModel", name := "nextByParts", desc := "()Z" } : Jvm.MethodName)) ∈ lw_tbl := lw_at lw_m8 128 rfl
theorem q1916 : (Jvm.Cond.instanceMethod ({ cls := "ReasonCloserModel", name := "nextByParts", desc := "()Z" } : Jvm.MethodName)) ∈ lw_all := lw_g (lw_at lw_m8 129 rfl) rfl
theorem q1917 : (Jvm.Cond.code ({ cls := "ReasonCloserModel", name := "nextByParts", desc := "()Z" } : Jvm.MethodName) prog_14_method_84_code (3 : Nat) (Option.some Jvm.ClassFile.FieldType.boolean)) ∈ lw_all := lw_g (lw_at lw_m8 130 rfl) rfl
theorem q1919 : (Jvm.Cond.instanceMethod ({ cls := "ReasonCloserModel", name := "without", desc := "(II)I" } : Jvm.MethodName)) ∈ lw_all := lw_g (lw_at lw_m8 132 rfl) rfl
theorem q1920 : (Jvm.Cond.selects "ReasonCloserModel" ({ cls := "ReasonCloserModel", name := "without", desc := "(II)I" } : Jvm.MethodName) ({ cls := "ReasonCloserModel", name := "without", desc := "(II)I" } : Jvm.MethodName)) ∈ lw_all := lw_g (lw_at lw_m8 133 rfl) rfl
theorem q1921 : (Jvm.Cond.code ({ cls := "ReasonCloserModel", name := "without", desc := "(II)I" } : Jvm.MethodName) prog_14_method_87_code (3 : Nat) (Option.some Jvm.ClassFile.FieldType.int)) ∈ lw_all := lw_g (lw_at lw_m8 134 rfl) rfl
theorem q1923 : (Jvm.Cond.instanceMethod ({ cls := "ReasonCloserModel", name := "free", desc := "()I" } : Jvm.MethodName)) ∈ lw_all := lw_g (lw_at lw_m8 136 rfl) rfl
theorem q1924 : (Jvm.Cond.selects "ReasonCloserModel" ({ cls := "ReasonCloserModel", name := "free", desc := "()I" } : Jvm.MethodName) ({ cls := "ReasonCloserModel", name := "free", desc := "()I" } : Jvm.MethodName)) ∈ lw_all := lw_g (lw_at lw_m8 137 rfl) rfl
theorem q1925 : (Jvm.Cond.code ({ cls := "ReasonCloserModel", name := "free", desc := "()I" } : Jvm.MethodName) prog_14_method_88_code (4 : Nat) (Option.some Jvm.ClassFile.FieldType.int)) ∈ lw_all := lw_g (lw_at lw_m8 138 rfl) rfl
theorem q1927 : (Jvm.Cond.instanceMethod ({ cls := "ReasonCloserModel", name := "join", desc := "(II)I" } : Jvm.MethodName)) ∈ lw_all := lw_g (lw_at lw_m8 140 rfl) rfl
theorem q1928 : (Jvm.Cond.selects "ReasonCloserModel" ({ cls := "ReasonCloserModel", name := "join", desc := "(II)I" } : Jvm.MethodName) ({ cls := "ReasonCloserModel", name := "join", desc := "(II)I" } : Jvm.MethodName)) ∈ lw_all := lw_g (lw_at lw_m8 141 rfl) rfl
theorem q1929 : (Jvm.Cond.code ({ cls := "ReasonCloserModel", name := "join", desc := "(II)I" } : Jvm.MethodName) prog_14_method_91_code (3 : Nat) (Option.some Jvm.ClassFile.FieldType.int)) ∈ lw_all := lw_g (lw_at lw_m8 142 rfl) rfl
theorem q1930 : (Jvm.Cond.methodLink "ReasonCloserModel" (387 : Nat) ({ cls := "ReasonCloserModel", name := "whyNotTwo", desc := "(IIZ)I" } : Jvm.MethodName)) ∈ lw_all := lw_g (lw_at lw_m8 143 rfl) rfl
theorem q1931 : (Jvm.Cond.privateMethod ({ cls := "ReasonCloserModel", name := "whyNotTwo", desc := "(IIZ)I" } : Jvm.MethodName)) ∈ lw_tbl := lw_at lw_m8 144 rfl
theorem q1932 : (Jvm.Cond.instanceMethod ({ cls := "ReasonCloserModel", name := "whyNotTwo", desc := "(IIZ)I" } : Jvm.MethodName)) ∈ lw_all := lw_g (lw_at lw_m8 145 rfl) rfl
theorem q1933 : (Jvm.Cond.code ({ cls := "ReasonCloserModel", name := "whyNotTwo", desc := "(IIZ)I" } : Jvm.MethodName) prog_14_method_90_code (4 : Nat) (Option.some Jvm.ClassFile.FieldType.int)) ∈ lw_all := lw_g (lw_at lw_m8 146 rfl) rfl
theorem q1934 : (Jvm.Cond.methodLink "ReasonCloserModel" (391 : Nat) ({ cls := "ReasonCloserModel", name := "acts", desc := "(IIIII)V" } : Jvm.MethodName)) ∈ lw_all := lw_g (lw_at lw_m8 147 rfl) rfl
theorem q1935 : (Jvm.Cond.privateMethod ({ cls := "ReasonCloserModel", name := "acts", desc := "(IIIII)V" } : Jvm.MethodName)) ∈ lw_tbl := lw_at lw_m8 148 rfl
theorem q1936 : (Jvm.Cond.instanceMethod ({ cls := "ReasonCloserModel", name := "acts", desc := "(IIIII)V" } : Jvm.MethodName)) ∈ lw_all := lw_g (lw_at lw_m8 149 rfl) rfl
theorem q1937 : (Jvm.Cond.code ({ cls := "ReasonCloserModel", name := "acts", desc := "(IIIII)V" } : Jvm.MethodName) prog_14_method_89_code (6 : Nat) (Option.none : Option Jvm.ClassFile.FieldType)) ∈ lw_all := lw_g (lw_at lw_m8 150 rfl) rfl
theorem q1939 : (Jvm.Cond.instanceMethod ({ cls := "ReasonCloserModel", name := "part", desc := "(II)I" } : Jvm.MethodName)) ∈ lw_all := lw_g (lw_at lw_m8 152 rfl) rfl
theorem q1940 : (Jvm.Cond.selects "ReasonCloserModel" ({ cls := "ReasonCloserModel", name := "part", desc := "(II)I" } : Jvm.MethodName) ({ cls := "ReasonCloserModel", name := "part", desc := "(II)I" } : Jvm.MethodName)) ∈ lw_all := lw_g (lw_at lw_m8 153 rfl) rfl
theorem q1941 : (Jvm.Cond.code ({ cls := "ReasonCloserModel", name := "part", desc := "(II)I" } : Jvm.MethodName) prog_14_method_92_code (3 : Nat) (Option.some Jvm.ClassFile.FieldType.int)) ∈ lw_all := lw_g (lw_at lw_m8 154 rfl) rfl
theorem q1943 : (Jvm.Cond.instanceMethod ({ cls := "ReasonCloserModel", name := "make", desc := "(IIII)I" } : Jvm.MethodName)) ∈ lw_all := lw_g (lw_at lw_m8 156 rfl) rfl
theorem q1944 : (Jvm.Cond.selects "ReasonCloserModel" ({ cls := "ReasonCloserModel", name := "make", desc := "(IIII)I" } : Jvm.MethodName) ({ cls := "ReasonCloserModel", name := "make", desc := "(IIII)I" } : Jvm.MethodName)) ∈ lw_all := lw_g (lw_at lw_m8 157 rfl) rfl
theorem q1945 : (Jvm.Cond.code ({ cls := "ReasonCloserModel", name := "make", desc := "(IIII)I" } : Jvm.MethodName) prog_14_method_93_code (6 : Nat) (Option.some Jvm.ClassFile.FieldType.int)) ∈ lw_all := lw_g (lw_at lw_m8 158 rfl) rfl
theorem q1947 : (Jvm.Cond.instanceMethod ({ cls := "ReasonCloserModel", name := "undo", desc := "()Z" } : Jvm.MethodName)) ∈ lw_all := lw_g (lw_at lw_m8 160 rfl) rfl
theorem q1948 : (Jvm.Cond.selects "ReasonCloserModel" ({ cls := "ReasonCloserModel", name := "undo", desc := "()Z" } : Jvm.MethodName) ({ cls := "ReasonCloserModel", name := "undo", desc := "()Z" } : Jvm.MethodName)) ∈ lw_all := lw_g (lw_at lw_m8 161 rfl) rfl
theorem q1949 : (Jvm.Cond.code ({ cls := "ReasonCloserModel", name := "undo", desc := "()Z" } : Jvm.MethodName) prog_14_method_94_code (1 : Nat) (Option.some Jvm.ClassFile.FieldType.boolean)) ∈ lw_all := lw_g (lw_at lw_m8 162 rfl) rfl
theorem q1951 : (Jvm.Cond.instanceMethod ({ cls := "ReasonCloserModel", name := "named", desc := "(I)I" } : Jvm.MethodName)) ∈ lw_all := lw_g (lw_at lw_m8 164 rfl) rfl
theorem q1952 : (Jvm.Cond.selects "ReasonCloserModel" ({ cls := "ReasonCloserModel", name := "named", desc := "(I)I" } : Jvm.MethodName) ({ cls := "ReasonCloserModel", name := "named", desc := "(I)I" } : Jvm.MethodName)) ∈ lw_all := lw_g (lw_at lw_m8 165 rfl) rfl
theorem q1953 : (Jvm.Cond.code ({ cls := "ReasonCloserModel", name := "named", desc := "(I)I" } : Jvm.MethodName) prog_14_method_95_code (5 : Nat) (Option.some Jvm.ClassFile.FieldType.int)) ∈ lw_all := lw_g (lw_at lw_m8 166 rfl) rfl
theorem q1955 : (Jvm.Cond.instanceMethod ({ cls := "ReasonCloserModel", name := "size", desc := "()I" } : Jvm.MethodName)) ∈ lw_all := lw_g (lw_at lw_m8 168 rfl) rfl
theorem q1956 : (Jvm.Cond.selects "ReasonCloserModel" ({ cls := "ReasonCloserModel", name := "size", desc := "()I" } : Jvm.MethodName) ({ cls := "ReasonCloserModel", name := "size", desc := "()I" } : Jvm.MethodName)) ∈ lw_all := lw_g (lw_at lw_m8 169 rfl) rfl
theorem q1957 : (Jvm.Cond.code ({ cls := "ReasonCloserModel", name := "size", desc := "()I" } : Jvm.MethodName) prog_14_method_96_code (1 : Nat) (Option.some Jvm.ClassFile.FieldType.int)) ∈ lw_all := lw_g (lw_at lw_m8 170 rfl) rfl
theorem q1959 : (Jvm.Cond.instanceMethod ({ cls := "ReasonCloserModel", name := "trouble", desc := "()I" } : Jvm.MethodName)) ∈ lw_all := lw_g (lw_at lw_m8 172 rfl) rfl
theorem q1960 : (Jvm.Cond.selects "ReasonCloserModel" ({ cls := "ReasonCloserModel", name := "trouble", desc := "()I" } : Jvm.MethodName) ({ cls := "ReasonCloserModel", name := "trouble", desc := "()I" } : Jvm.MethodName)) ∈ lw_all := lw_g (lw_at lw_m8 173 rfl) rfl
theorem q1961 : (Jvm.Cond.code ({ cls := "ReasonCloserModel", name := "trouble", desc := "()I" } : Jvm.MethodName) prog_14_method_97_code (1 : Nat) (Option.some Jvm.ClassFile.FieldType.int)) ∈ lw_all := lw_g (lw_at lw_m8 174 rfl) rfl
theorem q1995 : (Jvm.Cond.castable "ReasonCloserModel" "java/lang/Object") ∈ lw_tbl := lw_at lw_m8 208 rfl
theorem q118 : (Jvm.Cond.initialized "ReasonCloser$Reader") ∈ lw_all := lw_g (lw_at lw_m1 11 rfl) rfl
theorem q189 : (Jvm.Cond.fieldLinkNest "ReasonCloser$Reader" (118 : Nat) "ReasonCloser$Book" "functions" "Ljava/util/List;" "ReasonCloser") ∈ lw_tbl := lw_at lw_m1 82 rfl
theorem q192 : (Jvm.Cond.fieldLinkNest "ReasonCloser$Reader" (142 : Nat) "ReasonCloser$Book" "terms" "Ljava/util/List;" "ReasonCloser") ∈ lw_tbl := lw_at lw_m1 85 rfl
theorem q195 : (Jvm.Cond.fieldLinkNest "ReasonCloser$Reader" (178 : Nat) "ReasonCloser$Book" "sames" "Ljava/util/List;" "ReasonCloser") ∈ lw_tbl := lw_at lw_m1 88 rfl
theorem q198 : (Jvm.Cond.fieldLinkNest "ReasonCloser$Reader" (181 : Nat) "ReasonCloser$Book" "diffs" "Ljava/util/List;" "ReasonCloser") ∈ lw_tbl := lw_at lw_m1 91 rfl
theorem q201 : (Jvm.Cond.fieldLinkNest "ReasonCloser$Reader" (167 : Nat) "ReasonCloser$Book" "order" "Ljava/util/List;" "ReasonCloser") ∈ lw_tbl := lw_at lw_m1 94 rfl
theorem q329 : (Jvm.Cond.fieldLinkNest "ReasonCloser$Reader" (26 : Nat) "ReasonCloser" "tape" "[B" "ReasonCloser") ∈ lw_tbl := lw_at lw_m1 222 rfl
theorem q411 : (Jvm.Cond.instantiable "ReasonCloser$Reader" (8 : Nat)) ∈ lw_all := lw_g (lw_at lw_m2 64 rfl) rfl
theorem q413 : (Jvm.Cond.instanceMethod ({ cls := "ReasonCloser$Reader", name := "<init>", desc := "(LReasonCloser;I)V" } : Jvm.MethodName)) ∈ lw_all := lw_g (lw_at lw_m2 66 rfl) rfl
theorem q414 : (Jvm.Cond.code ({ cls := "ReasonCloser$Reader", name := "<init>", desc := "(LReasonCloser;I)V" } : Jvm.MethodName) prog_10_method_1_code (3 : Nat) (Option.none : Option Jvm.ClassFile.FieldType)) ∈ lw_all := lw_g (lw_at lw_m2 67 rfl) rfl
theorem q415 : (Jvm.Cond.methodLink "ReasonCloser$Reader" (9 : Nat) ({ cls := "java/lang/Object", name := "<init>", desc := "()V" } : Jvm.MethodName)) ∈ lw_all := lw_g (lw_at lw_m2 68 rfl) rfl
theorem q416 : (Jvm.Cond.classLink "ReasonCloser$Reader" (15 : Nat) "ReasonCloser$Book") ∈ lw_all := lw_g (lw_at lw_m2 69 rfl) rfl
theorem q417 : (Jvm.Cond.methodLinkNest "ReasonCloser$Reader" (17 : Nat) ({ cls := "ReasonCloser$Book", name := "<init>", desc := "()V" } : Jvm.MethodName) "ReasonCloser") ∈ lw_tbl := lw_at lw_m2 70 rfl
theorem q418 : (Jvm.Cond.fieldLink "ReasonCloser$Reader" (22 : Nat) "ReasonCloser$Reader" "size" "I") ∈ lw_all := lw_g (lw_at lw_m2 71 rfl) rfl
theorem q419 : (Jvm.Cond.fieldLink "ReasonCloser$Reader" (18 : Nat) "ReasonCloser$Reader" "told" "LReasonCloser$Book;") ∈ lw_all := lw_g (lw_at lw_m2 72 rfl) rfl
theorem q420 : (Jvm.Cond.fieldLink "ReasonCloser$Reader" (38 : Nat) "ReasonCloser$Reader" "to" "I") ∈ lw_all := lw_g (lw_at lw_m2 73 rfl) rfl
theorem q421 : (Jvm.Cond.fieldLink "ReasonCloser$Reader" (41 : Nat) "ReasonCloser$Reader" "from" "I") ∈ lw_all := lw_g (lw_at lw_m2 74 rfl) rfl
theorem q422 : (Jvm.Cond.fieldLink "ReasonCloser$Reader" (44 : Nat) "ReasonCloser$Reader" "sort" "I") ∈ lw_all := lw_g (lw_at lw_m2 75 rfl) rfl
theorem q423 : (Jvm.Cond.fieldLink "ReasonCloser$Reader" (58 : Nat) "ReasonCloser$Reader" "value" "I") ∈ lw_all := lw_g (lw_at lw_m2 76 rfl) rfl
theorem q424 : (Jvm.Cond.fieldLink "ReasonCloser$Reader" (51 : Nat) "ReasonCloser$Reader" "word" "J") ∈ lw_all := lw_g (lw_at lw_m2 77 rfl) rfl
theorem q425 : (Jvm.Cond.fieldLink "ReasonCloser$Reader" (3 : Nat) "ReasonCloser$Reader" "this$0" "LReasonCloser;") ∈ lw_all := lw_g (lw_at lw_m2 78 rfl) rfl
theorem q426 : (Jvm.Cond.laysFinal "ReasonCloser$Reader" "ReasonCloser$Reader" "size" "I") ∈ lw_all := lw_g (lw_at lw_m2 79 rfl) rfl
theorem q427 : (Jvm.Cond.soleField "ReasonCloser$Reader" "size") ∈ lw_all := lw_g (lw_at lw_m2 80 rfl) rfl
theorem q428 : (Jvm.Cond.laysFinal "ReasonCloser$Reader" "ReasonCloser$Reader" "told" "LReasonCloser$Book;") ∈ lw_all := lw_g (lw_at lw_m2 81 rfl) rfl
theorem q429 : (Jvm.Cond.soleField "ReasonCloser$Reader" "told") ∈ lw_all := lw_g (lw_at lw_m2 82 rfl) rfl
theorem q430 : (Jvm.Cond.lays "ReasonCloser$Reader" "ReasonCloser$Reader" "to" "I") ∈ lw_all := lw_g (lw_at lw_m2 83 rfl) rfl
theorem q431 : (Jvm.Cond.soleField "ReasonCloser$Reader" "to") ∈ lw_all := lw_g (lw_at lw_m2 84 rfl) rfl
theorem q432 : (Jvm.Cond.lays "ReasonCloser$Reader" "ReasonCloser$Reader" "from" "I") ∈ lw_all := lw_g (lw_at lw_m2 85 rfl) rfl
theorem q433 : (Jvm.Cond.soleField "ReasonCloser$Reader" "from") ∈ lw_all := lw_g (lw_at lw_m2 86 rfl) rfl
theorem q434 : (Jvm.Cond.lays "ReasonCloser$Reader" "ReasonCloser$Reader" "sort" "I") ∈ lw_all := lw_g (lw_at lw_m2 87 rfl) rfl
theorem q435 : (Jvm.Cond.soleField "ReasonCloser$Reader" "sort") ∈ lw_all := lw_g (lw_at lw_m2 88 rfl) rfl
theorem q436 : (Jvm.Cond.lays "ReasonCloser$Reader" "ReasonCloser$Reader" "value" "I") ∈ lw_all := lw_g (lw_at lw_m2 89 rfl) rfl
theorem q437 : (Jvm.Cond.soleField "ReasonCloser$Reader" "value") ∈ lw_all := lw_g (lw_at lw_m2 90 rfl) rfl
theorem q438 : (Jvm.Cond.lays "ReasonCloser$Reader" "ReasonCloser$Reader" "word" "J") ∈ lw_all := lw_g (lw_at lw_m2 91 rfl) rfl
theorem q439 : (Jvm.Cond.soleField "ReasonCloser$Reader" "word") ∈ lw_all := lw_g (lw_at lw_m2 92 rfl) rfl
theorem q440 : (Jvm.Cond.laysFinal "ReasonCloser$Reader" "ReasonCloser$Reader" "this$0" "LReasonCloser;") ∈ lw_all := lw_g (lw_at lw_m2 93 rfl) rfl
theorem q441 : (Jvm.Cond.soleField "ReasonCloser$Reader" "this$0") ∈ lw_all := lw_g (lw_at lw_m2 94 rfl) rfl
theorem q442 : (Jvm.Cond.superclass "ReasonCloser$Reader" "java/lang/Object") ∈ lw_all := lw_g (lw_at lw_m2 95 rfl) rfl
theorem q444 : (Jvm.Cond.instanceMethod ({ cls := "ReasonCloser$Reader", name := "read", desc := "()LReasonCloser$Book;" } : Jvm.MethodName)) ∈ lw_all := lw_g (lw_at lw_m2 97 rfl) rfl
theorem q445 : (Jvm.Cond.selects "ReasonCloser$Reader" ({ cls := "ReasonCloser$Reader", name := "read", desc := "()LReasonCloser$Book;" } : Jvm.MethodName) ({ cls := "ReasonCloser$Reader", name := "read", desc := "()LReasonCloser$Book;" } : Jvm.MethodName)) ∈ lw_all := lw_g (lw_at lw_m2 98 rfl) rfl
theorem q446 : (Jvm.Cond.code ({ cls := "ReasonCloser$Reader", name := "read", desc := "()LReasonCloser$Book;" } : Jvm.MethodName) prog_10_method_15_code (1 : Nat) (Option.some (Jvm.ClassFile.FieldType.object "ReasonCloser$Book"))) ∈ lw_all := lw_g (lw_at lw_m2 99 rfl) rfl
theorem q447 : (Jvm.Cond.methodLink "ReasonCloser$Reader" (92 : Nat) ({ cls := "ReasonCloser$Reader", name := "go", desc := "()V" } : Jvm.MethodName)) ∈ lw_all := lw_g (lw_at lw_m2 100 rfl) rfl
theorem q448 : (Jvm.Cond.privateMethod ({ cls := "ReasonCloser$Reader", name := "go", desc := "()V" } : Jvm.MethodName)) ∈ lw_tbl := lw_at lw_m2 101 rfl
theorem q449 : (Jvm.Cond.instanceMethod ({ cls := "ReasonCloser$Reader", name := "go", desc := "()V" } : Jvm.MethodName)) ∈ lw_all := lw_g (lw_at lw_m2 102 rfl) rfl
theorem q450 : (Jvm.Cond.code ({ cls := "ReasonCloser$Reader", name := "go", desc := "()V" } : Jvm.MethodName) prog_10_method_5_code (1 : Nat) (Option.none : Option Jvm.ClassFile.FieldType)) ∈ lw_all := lw_g (lw_at lw_m2 103 rfl) rfl
theorem q451 : (Jvm.Cond.methodLink "ReasonCloser$Reader" (30 : Nat) ({ cls := "ReasonCloser$Reader", name := "byteAt", desc := "(I)I" } : Jvm.MethodName)) ∈ lw_all := lw_g (lw_at lw_m2 104 rfl) rfl
theorem q452 : (Jvm.Cond.privateMethod ({ cls := "ReasonCloser$Reader", name := "byteAt", desc := "(I)I" } : Jvm.MethodName)) ∈ lw_tbl := lw_at lw_m2 105 rfl
theorem q453 : (Jvm.Cond.instanceMethod ({ cls := "ReasonCloser$Reader", name := "byteAt", desc := "(I)I" } : Jvm.MethodName)) ∈ lw_all := lw_g (lw_at lw_m2 106 rfl) rfl
theorem q454 : (Jvm.Cond.code ({ cls := "ReasonCloser$Reader", name := "byteAt", desc := "(I)I" } : Jvm.MethodName) prog_10_method_2_code (2 : Nat) (Option.some Jvm.ClassFile.FieldType.int)) ∈ lw_all := lw_g (lw_at lw_m2 107 rfl) rfl
theorem q455 : (Jvm.Cond.methodLink "ReasonCloser$Reader" (47 : Nat) ({ cls := "ReasonCloser$Reader", name := "isLetter", desc := "(I)Z" } : Jvm.MethodName)) ∈ lw_all := lw_g (lw_at lw_m2 108 rfl) rfl
theorem q456 : (Jvm.Cond.privateMethod ({ cls := "ReasonCloser$Reader", name := "isLetter", desc := "(I)Z" } : Jvm.MethodName)) ∈ lw_tbl := lw_at lw_m2 109 rfl
theorem q457 : (Jvm.Cond.instanceMethod ({ cls := "ReasonCloser$Reader", name := "isLetter", desc := "(I)Z" } : Jvm.MethodName)) ∈ lw_all := lw_g (lw_at lw_m2 110 rfl) rfl
theorem q458 : (Jvm.Cond.code ({ cls := "ReasonCloser$Reader", name := "isLetter", desc := "(I)Z" } : Jvm.MethodName) prog_10_method_3_code (2 : Nat) (Option.some Jvm.ClassFile.FieldType.boolean)) ∈ lw_all := lw_g (lw_at lw_m2 111 rfl) rfl
theorem q459 : (Jvm.Cond.methodLinkNest "ReasonCloser$Reader" (34 : Nat) ({ cls := "ReasonCloser", name := "isIn", desc := "(III)Z" } : Jvm.MethodName) "ReasonCloser") ∈ lw_tbl := lw_at lw_m2 112 rfl
theorem q460 : (Jvm.Cond.methodLink "ReasonCloser$Reader" (55 : Nat) ({ cls := "ReasonCloser$Reader", name := "isDigit", desc := "(I)Z" } : Jvm.MethodName)) ∈ lw_all := lw_g (lw_at lw_m2 113 rfl) rfl
theorem q461 : (Jvm.Cond.privateMethod ({ cls := "ReasonCloser$Reader", name := "isDigit", desc := "(I)Z" } : Jvm.MethodName)) ∈ lw_tbl := lw_at lw_m2 114 rfl
theorem q462 : (Jvm.Cond.instanceMethod ({ cls := "ReasonCloser$Reader", name := "isDigit", desc := "(I)Z" } : Jvm.MethodName)) ∈ lw_all := lw_g (lw_at lw_m2 115 rfl) rfl
theorem q463 : (Jvm.Cond.code ({ cls := "ReasonCloser$Reader", name := "isDigit", desc := "(I)Z" } : Jvm.MethodName) prog_10_method_4_code (2 : Nat) (Option.some Jvm.ClassFile.FieldType.boolean)) ∈ lw_all := lw_g (lw_at lw_m2 116 rfl) rfl
theorem q464 : (Jvm.Cond.stringRef "ReasonCloser$Reader" (61 : Nat) ";,=()") ∈ lw_tbl := lw_at lw_m2 117 rfl
theorem q465 : (Jvm.Cond.methodLink "ReasonCloser$Reader" (63 : Nat) ({ cls := "java/lang/String", name := "indexOf", desc := "(I)I" } : Jvm.MethodName)) ∈ lw_all := lw_g (lw_at lw_m2 118 rfl) rfl
theorem q551 : (Jvm.Cond.methodLink "ReasonCloser$Reader" (113 : Nat) ({ cls := "ReasonCloser$Reader", name := "line", desc := "()V" } : Jvm.MethodName)) ∈ lw_all := lw_g (lw_at lw_m2 204 rfl) rfl
theorem q552 : (Jvm.Cond.privateMethod ({ cls := "ReasonCloser$Reader", name := "line", desc := "()V" } : Jvm.MethodName)) ∈ lw_tbl := lw_at lw_m2 205 rfl
theorem q553 : (Jvm.Cond.instanceMethod ({ cls := "ReasonCloser$Reader", name := "line", desc := "()V" } : Jvm.MethodName)) ∈ lw_all := lw_g (lw_at lw_m2 206 rfl) rfl
theorem q554 : (Jvm.Cond.code ({ cls := "ReasonCloser$Reader", name := "line", desc := "()V" } : Jvm.MethodName) prog_10_method_16_code (4 : Nat) (Option.none : Option Jvm.ClassFile.FieldType)) ∈ lw_all := lw_g (lw_at lw_m2 207 rfl) rfl
theorem q555 : (Jvm.Cond.fieldLinkNest "ReasonCloser$Reader" (95 : Nat) "ReasonCloser" "OWN" "[Ljava/lang/String;" "ReasonCloser") ∈ lw_tbl := lw_at lw_m2 208 rfl
theorem q557 : (Jvm.Cond.methodLink "ReasonCloser$Reader" (99 : Nat) ({ cls := "ReasonCloser$Reader", name := "isAny", desc := "([Ljava/lang/String;)Z" } : Jvm.MethodName)) ∈ lw_all := lw_g (lw_at lw_m2 210 rfl) rfl
theorem q558 : (Jvm.Cond.privateMethod ({ cls := "ReasonCloser$Reader", name := "isAny", desc := "([Ljava/lang/String;)Z" } : Jvm.MethodName)) ∈ lw_tbl := lw_at lw_m2 211 rfl
theorem q559 : (Jvm.Cond.instanceMethod ({ cls := "ReasonCloser$Reader", name := "isAny", desc := "([Ljava/lang/String;)Z" } : Jvm.MethodName)) ∈ lw_all := lw_g (lw_at lw_m2 212 rfl) rfl
theorem q560 : (Jvm.Cond.code ({ cls := "ReasonCloser$Reader", name := "isAny", desc := "([Ljava/lang/String;)Z" } : Jvm.MethodName) prog_10_method_8_code (6 : Nat) (Option.some Jvm.ClassFile.FieldType.boolean)) ∈ lw_all := lw_g (lw_at lw_m2 213 rfl) rfl
theorem q561 : (Jvm.Cond.methodLink "ReasonCloser$Reader" (81 : Nat) ({ cls := "ReasonCloser$Reader", name := "is", desc := "(Ljava/lang/String;)Z" } : Jvm.MethodName)) ∈ lw_all := lw_g (lw_at lw_m2 214 rfl) rfl
theorem q562 : (Jvm.Cond.privateMethod ({ cls := "ReasonCloser$Reader", name := "is", desc := "(Ljava/lang/String;)Z" } : Jvm.MethodName)) ∈ lw_tbl := lw_at lw_m2 215 rfl
theorem q563 : (Jvm.Cond.instanceMethod ({ cls := "ReasonCloser$Reader", name := "is", desc := "(Ljava/lang/String;)Z" } : Jvm.MethodName)) ∈ lw_all := lw_g (lw_at lw_m2 216 rfl) rfl
theorem q564 : (Jvm.Cond.code ({ cls := "ReasonCloser$Reader", name := "is", desc := "(Ljava/lang/String;)Z" } : Jvm.MethodName) prog_10_method_7_code (3 : Nat) (Option.some Jvm.ClassFile.FieldType.boolean)) ∈ lw_all := lw_g (lw_at lw_m2 217 rfl) rfl
theorem q565 : (Jvm.Cond.methodLink "ReasonCloser$Reader" (73 : Nat) ({ cls := "java/lang/String", name := "length", desc := "()I" } : Jvm.MethodName)) ∈ lw_all := lw_g (lw_at lw_m2 218 rfl) rfl
theorem q566 : (Jvm.Cond.methodLink "ReasonCloser$Reader" (77 : Nat) ({ cls := "java/lang/String", name := "charAt", desc := "(I)C" } : Jvm.MethodName)) ∈ lw_all := lw_g (lw_at lw_m2 219 rfl) rfl
theorem q586 : (Jvm.Cond.methodLink "ReasonCloser$Reader" (88 : Nat) ({ cls := "ReasonCloser$Reader", name := "need", desc := "(ZI)V" } : Jvm.MethodName)) ∈ lw_all := lw_g (lw_at lw_m2 239 rfl) rfl
theorem q587 : (Jvm.Cond.privateMethod ({ cls := "ReasonCloser$Reader", name := "need", desc := "(ZI)V" } : Jvm.MethodName)) ∈ lw_tbl := lw_at lw_m3 0 rfl
theorem q588 : (Jvm.Cond.instanceMethod ({ cls := "ReasonCloser$Reader", name := "need", desc := "(ZI)V" } : Jvm.MethodName)) ∈ lw_all := lw_g (lw_at lw_m3 1 rfl) rfl
theorem q589 : (Jvm.Cond.code ({ cls := "ReasonCloser$Reader", name := "need", desc := "(ZI)V" } : Jvm.MethodName) prog_10_method_6_code (3 : Nat) (Option.none : Option Jvm.ClassFile.FieldType)) ∈ lw_all := lw_g (lw_at lw_m3 2 rfl) rfl
theorem q590 : (Jvm.Cond.classLink "ReasonCloser$Reader" (68 : Nat) "ReasonCloser$Fault") ∈ lw_all := lw_g (lw_at lw_m3 3 rfl) rfl
theorem q628 : (Jvm.Cond.methodLink "ReasonCloser$Reader" (70 : Nat) ({ cls := "ReasonCloser$Fault", name := "<init>", desc := "(II)V" } : Jvm.MethodName)) ∈ lw_all := lw_g (lw_at lw_m3 41 rfl) rfl
theorem q658 : (Jvm.Cond.stringRef "ReasonCloser$Reader" (116 : Nat) "fun") ∈ lw_tbl := lw_at lw_m3 71 rfl
theorem q659 : (Jvm.Cond.methodLink "ReasonCloser$Reader" (122 : Nat) ({ cls := "ReasonCloser$Reader", name := "begin", desc := "(Ljava/util/List;I)V" } : Jvm.MethodName)) ∈ lw_all := lw_g (lw_at lw_m3 72 rfl) rfl
theorem q660 : (Jvm.Cond.privateMethod ({ cls := "ReasonCloser$Reader", name := "begin", desc := "(Ljava/util/List;I)V" } : Jvm.MethodName)) ∈ lw_tbl := lw_at lw_m3 73 rfl
theorem q661 : (Jvm.Cond.instanceMethod ({ cls := "ReasonCloser$Reader", name := "begin", desc := "(Ljava/util/List;I)V" } : Jvm.MethodName)) ∈ lw_all := lw_g (lw_at lw_m3 74 rfl) rfl
theorem q662 : (Jvm.Cond.code ({ cls := "ReasonCloser$Reader", name := "begin", desc := "(Ljava/util/List;I)V" } : Jvm.MethodName) prog_10_method_17_code (3 : Nat) (Option.none : Option Jvm.ClassFile.FieldType)) ∈ lw_all := lw_g (lw_at lw_m3 75 rfl) rfl
theorem q663 : (Jvm.Cond.interfaceEntry "ReasonCloser$Reader" (189 : Nat)) ∈ lw_tbl := lw_at lw_m3 76 rfl
theorem q664 : (Jvm.Cond.methodLink "ReasonCloser$Reader" (189 : Nat) ({ cls := "java/util/List", name := "size", desc := "()I" } : Jvm.MethodName)) ∈ lw_all := lw_g (lw_at lw_m3 77 rfl) rfl
theorem q673 : (Jvm.Cond.methodLink "ReasonCloser$Reader" (126 : Nat) ({ cls := "ReasonCloser$Reader", name := "fresh", desc := "()J" } : Jvm.MethodName)) ∈ lw_all := lw_g (lw_at lw_m3 86 rfl) rfl
theorem q674 : (Jvm.Cond.privateMethod ({ cls := "ReasonCloser$Reader", name := "fresh", desc := "()J" } : Jvm.MethodName)) ∈ lw_tbl := lw_at lw_m3 87 rfl
theorem q675 : (Jvm.Cond.instanceMethod ({ cls := "ReasonCloser$Reader", name := "fresh", desc := "()J" } : Jvm.MethodName)) ∈ lw_all := lw_g (lw_at lw_m3 88 rfl) rfl
theorem q676 : (Jvm.Cond.code ({ cls := "ReasonCloser$Reader", name := "fresh", desc := "()J" } : Jvm.MethodName) prog_10_method_12_code (3 : Nat) (Option.some Jvm.ClassFile.FieldType.long)) ∈ lw_all := lw_g (lw_at lw_m3 89 rfl) rfl
theorem q677 : (Jvm.Cond.methodLink "ReasonCloser$Reader" (103 : Nat) ({ cls := "ReasonCloser$Reader", name := "needName", desc := "()V" } : Jvm.MethodName)) ∈ lw_all := lw_g (lw_at lw_m3 90 rfl) rfl
theorem q678 : (Jvm.Cond.privateMethod ({ cls := "ReasonCloser$Reader", name := "needName", desc := "()V" } : Jvm.MethodName)) ∈ lw_tbl := lw_at lw_m3 91 rfl
theorem q679 : (Jvm.Cond.instanceMethod ({ cls := "ReasonCloser$Reader", name := "needName", desc := "()V" } : Jvm.MethodName)) ∈ lw_all := lw_g (lw_at lw_m3 92 rfl) rfl
theorem q680 : (Jvm.Cond.code ({ cls := "ReasonCloser$Reader", name := "needName", desc := "()V" } : Jvm.MethodName) prog_10_method_11_code (1 : Nat) (Option.none : Option Jvm.ClassFile.FieldType)) ∈ lw_all := lw_g (lw_at lw_m3 93 rfl) rfl
theorem q681 : (Jvm.Cond.methodLink "ReasonCloser$Reader" (106 : Nat) ({ cls := "ReasonCloser$Book", name := "function", desc := "(J)I" } : Jvm.MethodName)) ∈ lw_all := lw_g (lw_at lw_m3 94 rfl) rfl
theorem q705 : (Jvm.Cond.methodLink "ReasonCloser$Reader" (110 : Nat) ({ cls := "ReasonCloser$Book", name := "term", desc := "(J)I" } : Jvm.MethodName)) ∈ lw_all := lw_g (lw_at lw_m3 118 rfl) rfl
theorem q710 : (Jvm.Cond.classLink "ReasonCloser$Reader" (130 : Nat) "ReasonCloser$Function") ∈ lw_all := lw_g (lw_at lw_m3 123 rfl) rfl
theorem q712 : (Jvm.Cond.methodLink "ReasonCloser$Reader" (132 : Nat) ({ cls := "ReasonCloser$Function", name := "<init>", desc := "(JI)V" } : Jvm.MethodName)) ∈ lw_all := lw_g (lw_at lw_m3 125 rfl) rfl
theorem q720 : (Jvm.Cond.fieldLinkNest "ReasonCloser$Reader" (157 : Nat) "ReasonCloser$Function" "takes" "I" "ReasonCloser") ∈ lw_tbl := lw_at lw_m3 133 rfl
theorem q726 : (Jvm.Cond.interfaceEntry "ReasonCloser$Reader" (135 : Nat)) ∈ lw_tbl := lw_at lw_m3 139 rfl
theorem q727 : (Jvm.Cond.methodLink "ReasonCloser$Reader" (135 : Nat) ({ cls := "java/util/List", name := "add", desc := "(Ljava/lang/Object;)Z" } : Jvm.MethodName)) ∈ lw_all := lw_g (lw_at lw_m3 140 rfl) rfl
theorem q770 : (Jvm.Cond.selects "ReasonCloser$Reader" ({ cls := "java/lang/Object", name := "getClass", desc := "()Ljava/lang/Class;" } : Jvm.MethodName) ({ cls := "java/lang/Object", name := "getClass", desc := "()Ljava/lang/Class;" } : Jvm.MethodName)) ∈ lw_all := lw_g (lw_at lw_m3 183 rfl) rfl
theorem q789 : (Jvm.Cond.stringRef "ReasonCloser$Reader" (141 : Nat) "term") ∈ lw_tbl := lw_at lw_m3 202 rfl
theorem q790 : (Jvm.Cond.methodLink "ReasonCloser$Reader" (145 : Nat) ({ cls := "ReasonCloser$Reader", name := "pass", desc := "(I)V" } : Jvm.MethodName)) ∈ lw_all := lw_g (lw_at lw_m3 203 rfl) rfl
theorem q791 : (Jvm.Cond.privateMethod ({ cls := "ReasonCloser$Reader", name := "pass", desc := "(I)V" } : Jvm.MethodName)) ∈ lw_tbl := lw_at lw_m3 204 rfl
theorem q792 : (Jvm.Cond.instanceMethod ({ cls := "ReasonCloser$Reader", name := "pass", desc := "(I)V" } : Jvm.MethodName)) ∈ lw_all := lw_g (lw_at lw_m3 205 rfl) rfl
theorem q793 : (Jvm.Cond.code ({ cls := "ReasonCloser$Reader", name := "pass", desc := "(I)V" } : Jvm.MethodName) prog_10_method_10_code (2 : Nat) (Option.none : Option Jvm.ClassFile.FieldType)) ∈ lw_all := lw_g (lw_at lw_m3 206 rfl) rfl
theorem q794 : (Jvm.Cond.methodLink "ReasonCloser$Reader" (85 : Nat) ({ cls := "ReasonCloser$Reader", name := "isSign", desc := "(I)Z" } : Jvm.MethodName)) ∈ lw_all := lw_g (lw_at lw_m3 207 rfl) rfl
theorem q795 : (Jvm.Cond.privateMethod ({ cls := "ReasonCloser$Reader", name := "isSign", desc := "(I)Z" } : Jvm.MethodName)) ∈ lw_tbl := lw_at lw_m3 208 rfl
theorem q796 : (Jvm.Cond.instanceMethod ({ cls := "ReasonCloser$Reader", name := "isSign", desc := "(I)Z" } : Jvm.MethodName)) ∈ lw_all := lw_g (lw_at lw_m3 209 rfl) rfl
theorem q797 : (Jvm.Cond.code ({ cls := "ReasonCloser$Reader", name := "isSign", desc := "(I)Z" } : Jvm.MethodName) prog_10_method_9_code (2 : Nat) (Option.some Jvm.ClassFile.FieldType.boolean)) ∈ lw_all := lw_g (lw_at lw_m3 210 rfl) rfl
theorem q798 : (Jvm.Cond.methodLink "ReasonCloser$Reader" (149 : Nat) ({ cls := "ReasonCloser$Reader", name := "function", desc := "()I" } : Jvm.MethodName)) ∈ lw_all := lw_g (lw_at lw_m3 211 rfl) rfl
theorem q799 : (Jvm.Cond.privateMethod ({ cls := "ReasonCloser$Reader", name := "function", desc := "()I" } : Jvm.MethodName)) ∈ lw_tbl := lw_at lw_m3 212 rfl
theorem q800 : (Jvm.Cond.instanceMethod ({ cls := "ReasonCloser$Reader", name := "function", desc := "()I" } : Jvm.MethodName)) ∈ lw_all := lw_g (lw_at lw_m3 213 rfl) rfl
theorem q801 : (Jvm.Cond.code ({ cls := "ReasonCloser$Reader", name := "function", desc := "()I" } : Jvm.MethodName) prog_10_method_13_code (2 : Nat) (Option.some Jvm.ClassFile.FieldType.int)) ∈ lw_all := lw_g (lw_at lw_m3 214 rfl) rfl
theorem q802 : (Jvm.Cond.classLink "ReasonCloser$Reader" (151 : Nat) "ReasonCloser$Term") ∈ lw_all := lw_g (lw_at lw_m3 215 rfl) rfl
theorem q804 : (Jvm.Cond.interfaceEntry "ReasonCloser$Reader" (153 : Nat)) ∈ lw_tbl := lw_at lw_m3 217 rfl
theorem q805 : (Jvm.Cond.methodLink "ReasonCloser$Reader" (153 : Nat) ({ cls := "java/util/List", name := "get", desc := "(I)Ljava/lang/Object;" } : Jvm.MethodName)) ∈ lw_all := lw_g (lw_at lw_m3 218 rfl) rfl
theorem q806 : (Jvm.Cond.methodLink "ReasonCloser$Reader" (160 : Nat) ({ cls := "ReasonCloser$Reader", name := "parts", desc := "(I)[I" } : Jvm.MethodName)) ∈ lw_all := lw_g (lw_at lw_m3 219 rfl) rfl
theorem q807 : (Jvm.Cond.privateMethod ({ cls := "ReasonCloser$Reader", name := "parts", desc := "(I)[I" } : Jvm.MethodName)) ∈ lw_tbl := lw_at lw_m3 220 rfl
theorem q808 : (Jvm.Cond.instanceMethod ({ cls := "ReasonCloser$Reader", name := "parts", desc := "(I)[I" } : Jvm.MethodName)) ∈ lw_all := lw_g (lw_at lw_m3 221 rfl) rfl
theorem q809 : (Jvm.Cond.code ({ cls := "ReasonCloser$Reader", name := "parts", desc := "(I)[I" } : Jvm.MethodName) prog_10_method_18_code (5 : Nat) (Option.some (Jvm.ClassFile.FieldType.array Jvm.ClassFile.FieldType.int))) ∈ lw_all := lw_g (lw_at lw_m3 222 rfl) rfl
theorem q810 : (Jvm.Cond.methodLink "ReasonCloser$Reader" (184 : Nat) ({ cls := "ReasonCloser$Reader", name := "term", desc := "()I" } : Jvm.MethodName)) ∈ lw_all := lw_g (lw_at lw_m3 223 rfl) rfl
theorem q811 : (Jvm.Cond.privateMethod ({ cls := "ReasonCloser$Reader", name := "term", desc := "()I" } : Jvm.MethodName)) ∈ lw_tbl := lw_at lw_m3 224 rfl
theorem q812 : (Jvm.Cond.instanceMethod ({ cls := "ReasonCloser$Reader", name := "term", desc := "()I" } : Jvm.MethodName)) ∈ lw_all := lw_g (lw_at lw_m3 225 rfl) rfl
theorem q813 : (Jvm.Cond.code ({ cls := "ReasonCloser$Reader", name := "term", desc := "()I" } : Jvm.MethodName) prog_10_method_14_code (2 : Nat) (Option.some Jvm.ClassFile.FieldType.int)) ∈ lw_all := lw_g (lw_at lw_m3 226 rfl) rfl
theorem q814 : (Jvm.Cond.methodLink "ReasonCloser$Reader" (164 : Nat) ({ cls := "ReasonCloser$Term", name := "<init>", desc := "(JLReasonCloser$Function;I[I)V" } : Jvm.MethodName)) ∈ lw_all := lw_g (lw_at lw_m3 227 rfl) rfl
theorem q837 : (Jvm.Cond.methodLink "ReasonCloser$Reader" (170 : Nat) ({ cls := "java/lang/Integer", name := "valueOf", desc := "(I)Ljava/lang/Integer;" } : Jvm.MethodName)) ∈ lw_all := lw_g (lw_at lw_m4 10 rfl) rfl
theorem q857 : (Jvm.Cond.stringRef "ReasonCloser$Reader" (176 : Nat) "same") ∈ lw_tbl := lw_at lw_m4 30 rfl
theorem q858 : (Jvm.Cond.classLink "ReasonCloser$Reader" (186 : Nat) "ReasonCloser$Fact") ∈ lw_all := lw_g (lw_at lw_m4 31 rfl) rfl
theorem q860 : (Jvm.Cond.methodLink "ReasonCloser$Reader" (188 : Nat) ({ cls := "ReasonCloser$Fact", name := "<init>", desc := "(II)V" } : Jvm.MethodName)) ∈ lw_all := lw_g (lw_at lw_m4 33 rfl) rfl
theorem q1996 : (Jvm.Cond.castable "ReasonCloser$Reader" "java/lang/Object") ∈ lw_tbl := lw_at lw_m8 209 rfl
theorem q127 : (Jvm.Cond.initialized "ReasonCloser$Fault") ∈ lw_all := lw_g (lw_at lw_m1 20 rfl) rfl
theorem q591 : (Jvm.Cond.instantiable "ReasonCloser$Fault" (8 : Nat)) ∈ lw_all := lw_g (lw_at lw_m3 4 rfl) rfl
theorem q592 : (Jvm.Cond.castable "ReasonCloser$Fault" "ReasonCloser$Fault") ∈ lw_tbl := lw_at lw_m3 5 rfl
theorem q597 : (Jvm.Cond.selects "ReasonCloser$Fault" ({ cls := "java/lang/Throwable", name := "fillInStackTrace", desc := "(I)Ljava/lang/Throwable;" } : Jvm.MethodName) ({ cls := "java/lang/Throwable", name := "fillInStackTrace", desc := "(I)Ljava/lang/Throwable;" } : Jvm.MethodName)) ∈ lw_all := lw_g (lw_at lw_m3 10 rfl) rfl
theorem q598 : (Jvm.Cond.selects "ReasonCloser$Fault" ({ cls := "java/lang/Throwable", name := "fillInStackTrace", desc := "()Ljava/lang/Throwable;" } : Jvm.MethodName) ({ cls := "java/lang/Throwable", name := "fillInStackTrace", desc := "()Ljava/lang/Throwable;" } : Jvm.MethodName)) ∈ lw_all := lw_g (lw_at lw_m3 11 rfl) rfl
theorem q599 : (Jvm.Cond.lays "ReasonCloser$Fault" "java/lang/Throwable" "cause" "Ljava/lang/Throwable;") ∈ lw_all := lw_g (lw_at lw_m3 12 rfl) rfl
theorem q601 : (Jvm.Cond.lays "ReasonCloser$Fault" "java/lang/Throwable" "stackTrace" "[Ljava/lang/StackTraceElement;") ∈ lw_all := lw_g (lw_at lw_m3 14 rfl) rfl
theorem q603 : (Jvm.Cond.lays "ReasonCloser$Fault" "java/lang/Throwable" "suppressedExceptions" "Ljava/util/List;") ∈ lw_all := lw_g (lw_at lw_m3 16 rfl) rfl
theorem q605 : (Jvm.Cond.lays "ReasonCloser$Fault" "java/lang/Throwable" "detailMessage" "Ljava/lang/String;") ∈ lw_all := lw_g (lw_at lw_m3 18 rfl) rfl
theorem q607 : (Jvm.Cond.lays "ReasonCloser$Fault" "java/lang/Throwable" "backtrace" "Ljava/lang/Object;") ∈ lw_all := lw_g (lw_at lw_m3 20 rfl) rfl
theorem q629 : (Jvm.Cond.instanceMethod ({ cls := "ReasonCloser$Fault", name := "<init>", desc := "(II)V" } : Jvm.MethodName)) ∈ lw_all := lw_g (lw_at lw_m3 42 rfl) rfl
theorem q630 : (Jvm.Cond.code ({ cls := "ReasonCloser$Fault", name := "<init>", desc := "(II)V" } : Jvm.MethodName) prog_6_method_1_code (3 : Nat) (Option.none : Option Jvm.ClassFile.FieldType)) ∈ lw_all := lw_g (lw_at lw_m3 43 rfl) rfl
theorem q631 : (Jvm.Cond.methodLink "ReasonCloser$Fault" (1 : Nat) ({ cls := "java/lang/Exception", name := "<init>", desc := "(Ljava/lang/String;Ljava/lang/Throwable;ZZ)V" } : Jvm.MethodName)) ∈ lw_all := lw_g (lw_at lw_m3 44 rfl) rfl
theorem q637 : (Jvm.Cond.fieldLink "ReasonCloser$Fault" (7 : Nat) "ReasonCloser$Fault" "kind" "I") ∈ lw_all := lw_g (lw_at lw_m3 50 rfl) rfl
theorem q639 : (Jvm.Cond.fieldLink "ReasonCloser$Fault" (13 : Nat) "ReasonCloser$Fault" "place" "I") ∈ lw_all := lw_g (lw_at lw_m3 52 rfl) rfl
theorem q646 : (Jvm.Cond.laysFinal "ReasonCloser$Fault" "ReasonCloser$Fault" "kind" "I") ∈ lw_all := lw_g (lw_at lw_m3 59 rfl) rfl
theorem q647 : (Jvm.Cond.soleField "ReasonCloser$Fault" "kind") ∈ lw_all := lw_g (lw_at lw_m3 60 rfl) rfl
theorem q648 : (Jvm.Cond.laysFinal "ReasonCloser$Fault" "ReasonCloser$Fault" "place" "I") ∈ lw_all := lw_g (lw_at lw_m3 61 rfl) rfl
theorem q649 : (Jvm.Cond.soleField "ReasonCloser$Fault" "place") ∈ lw_all := lw_g (lw_at lw_m3 62 rfl) rfl
theorem q654 : (Jvm.Cond.lays "ReasonCloser$Fault" "java/lang/Throwable" "depth" "I") ∈ lw_all := lw_g (lw_at lw_m3 67 rfl) rfl
theorem q657 : (Jvm.Cond.superclass "ReasonCloser$Fault" "java/lang/Exception") ∈ lw_all := lw_g (lw_at lw_m3 70 rfl) rfl
theorem q767 : (Jvm.Cond.selects "ReasonCloser$Fault" ({ cls := "java/lang/Object", name := "getClass", desc := "()Ljava/lang/Class;" } : Jvm.MethodName) ({ cls := "java/lang/Object", name := "getClass", desc := "()Ljava/lang/Class;" } : Jvm.MethodName)) ∈ lw_all := lw_g (lw_at lw_m3 180 rfl) rfl
theorem q1997 : (Jvm.Cond.castable "ReasonCloser$Fault" "java/lang/Object") ∈ lw_tbl := lw_at lw_m8 210 rfl
theorem q1202 : (Jvm.Cond.interfaceMethod "ReasonCloser$Asked" "ReasonCloser$Asked" "holds" "(LReasonCloser$Closed;)Z") ∈ lw_tbl := lw_at lw_m5 135 rfl
theorem q1203 : (Jvm.Cond.declares ({ cls := "ReasonCloser$Asked", name := "holds", desc := "(LReasonCloser$Closed;)Z" } : Jvm.MethodName)) ∈ lw_tbl := lw_at lw_m5 136 rfl
theorem q2010 : (Jvm.Cond.castable "[B" "java/lang/Object") ∈ lw_tbl := lw_at lw_m8 223 rfl
theorem q2011 : (Jvm.Cond.castable "[I" "java/lang/Object") ∈ lw_tbl := lw_at lw_m8 224 rfl
theorem q2013 : (Jvm.Cond.castable "[J" "java/lang/Object") ∈ lw_tbl := lw_at lw_m8 226 rfl
theorem q2006 : (Jvm.Cond.sameMethod "[Ljava/lang/Object;" "java/lang/Object" "getClass" "()Ljava/lang/Class;") ∈ lw_all := lw_g (lw_at lw_m8 219 rfl) rfl
theorem q2007 : (Jvm.Cond.selects "[Ljava/lang/Object;" ({ cls := "java/lang/Object", name := "getClass", desc := "()Ljava/lang/Class;" } : Jvm.MethodName) ({ cls := "java/lang/Object", name := "getClass", desc := "()Ljava/lang/Class;" } : Jvm.MethodName)) ∈ lw_all := lw_g (lw_at lw_m8 220 rfl) rfl
theorem q2009 : (Jvm.Cond.castable "[Ljava/lang/Object;" "java/lang/Object") ∈ lw_tbl := lw_at lw_m8 222 rfl
theorem q2014 : (Jvm.Cond.castable "[Ljava/lang/String;" "java/lang/Object") ∈ lw_tbl := lw_at lw_m8 227 rfl
theorem q2012 : (Jvm.Cond.castable "[Z" "java/lang/Object") ∈ lw_tbl := lw_at lw_m8 225 rfl
theorem q136 : (Jvm.Cond.initialized "java/lang/Integer$IntegerCache") ∈ lw_all := lw_g (lw_at lw_m1 29 rfl) rfl
theorem q841 : (Jvm.Cond.laysStatic "java/lang/Integer$IntegerCache" "high" "I") ∈ lw_tbl := lw_at lw_m4 14 rfl
theorem q843 : (Jvm.Cond.laysStatic "java/lang/Integer$IntegerCache" "cache" "[Ljava/lang/Integer;") ∈ lw_tbl := lw_at lw_m4 16 rfl
theorem q132 : (Jvm.Cond.initialized "java/lang/System") ∈ lw_all := lw_g (lw_at lw_m1 25 rfl) rfl
theorem q786 : (Jvm.Cond.static ({ cls := "java/lang/System", name := "arraycopy", desc := "(Ljava/lang/Object;ILjava/lang/Object;II)V" } : Jvm.MethodName)) ∈ lw_all := lw_g (lw_at lw_m3 199 rfl) rfl
theorem q787 : (Jvm.Cond.native ({ cls := "java/lang/System", name := "arraycopy", desc := "(Ljava/lang/Object;ILjava/lang/Object;II)V" } : Jvm.MethodName)) ∈ lw_all := lw_g (lw_at lw_m3 200 rfl) rfl
theorem q903 : (Jvm.Cond.interfaceMethod "java/util/Iterator" "java/util/Iterator" "hasNext" "()Z") ∈ lw_tbl := lw_at lw_m4 76 rfl
theorem q904 : (Jvm.Cond.declares ({ cls := "java/util/Iterator", name := "hasNext", desc := "()Z" } : Jvm.MethodName)) ∈ lw_tbl := lw_at lw_m4 77 rfl
theorem q913 : (Jvm.Cond.interfaceMethod "java/util/Iterator" "java/util/Iterator" "next" "()Ljava/lang/Object;") ∈ lw_tbl := lw_at lw_m4 86 rfl
theorem q914 : (Jvm.Cond.declares ({ cls := "java/util/Iterator", name := "next", desc := "()Ljava/lang/Object;" } : Jvm.MethodName)) ∈ lw_tbl := lw_at lw_m4 87 rfl
theorem q665 : (Jvm.Cond.interfaceMethod "java/util/List" "java/util/List" "size" "()I") ∈ lw_tbl := lw_at lw_m3 78 rfl
theorem q666 : (Jvm.Cond.declares ({ cls := "java/util/List", name := "size", desc := "()I" } : Jvm.MethodName)) ∈ lw_tbl := lw_at lw_m3 79 rfl
theorem q689 : (Jvm.Cond.interfaceMethod "java/util/List" "java/util/List" "get" "(I)Ljava/lang/Object;") ∈ lw_tbl := lw_at lw_m3 102 rfl
theorem q690 : (Jvm.Cond.declares ({ cls := "java/util/List", name := "get", desc := "(I)Ljava/lang/Object;" } : Jvm.MethodName)) ∈ lw_tbl := lw_at lw_m3 103 rfl
theorem q728 : (Jvm.Cond.interfaceMethod "java/util/List" "java/util/List" "add" "(Ljava/lang/Object;)Z") ∈ lw_tbl := lw_at lw_m3 141 rfl
theorem q729 : (Jvm.Cond.declares ({ cls := "java/util/List", name := "add", desc := "(Ljava/lang/Object;)Z" } : Jvm.MethodName)) ∈ lw_tbl := lw_at lw_m3 142 rfl
theorem q875 : (Jvm.Cond.interfaceMethod "java/util/List" "java/util/List" "iterator" "()Ljava/util/Iterator;") ∈ lw_tbl := lw_at lw_m4 48 rfl
theorem q876 : (Jvm.Cond.declares ({ cls := "java/util/List", name := "iterator", desc := "()Ljava/util/Iterator;" } : Jvm.MethodName)) ∈ lw_tbl := lw_at lw_m4 49 rfl
theorem q1369 : (Jvm.Cond.interfaceMethod "java/util/List" "java/util/List" "remove" "(I)Ljava/lang/Object;") ∈ lw_tbl := lw_at lw_m6 62 rfl
theorem q1370 : (Jvm.Cond.declares ({ cls := "java/util/List", name := "remove", desc := "(I)Ljava/lang/Object;" } : Jvm.MethodName)) ∈ lw_tbl := lw_at lw_m6 63 rfl
theorem q168 : (Jvm.Cond.arrayOver (Jvm.ClassFile.FieldType.object "java/lang/Object")) ∈ lw_tbl := lw_at lw_m1 61 rfl
theorem q186 : (Jvm.Cond.arrayClass Jvm.ClassFile.FieldType.byte) ∈ lw_all := lw_g (lw_at lw_m1 79 rfl) rfl
theorem q302 : (Jvm.Cond.arrayClass Jvm.ClassFile.FieldType.int) ∈ lw_all := lw_g (lw_at lw_m1 195 rfl) rfl
theorem q303 : (Jvm.Cond.arrayClass Jvm.ClassFile.FieldType.boolean) ∈ lw_all := lw_g (lw_at lw_m1 196 rfl) rfl
theorem q389 : (Jvm.Cond.arrayClass Jvm.ClassFile.FieldType.long) ∈ lw_all := lw_g (lw_at lw_m2 42 rfl) rfl
theorem q2021 : (Jvm.Cond.arrayOver (Jvm.ClassFile.FieldType.object "java/lang/String")) ∈ lw_tbl := lw_at lw_m8 234 rfl
