set_option maxRecDepth 100000
abbrev cJ0_init : ByteArray := prog_47_method_1_code
def yJ0_init : MethodName := ⟨RJ0, "<init>", "()V"⟩
theorem dJ0_init_0 : decode cJ0_init 0 = .ok (.aload_n 0, 1) := by decide +kernel
theorem dJ0_init_1 : decode cJ0_init 1 = .ok (.invokespecial 1, 3) := by decide +kernel
theorem dJ0_init_4 : decode cJ0_init 4 = .ok (.return_, 1) := by decide +kernel
theorem q59 : (Jvm.Cond.initialized "java/util/AbstractMap") ∈ lw_all := lw_g (lw_at lw_m1 2 rfl) rfl
theorem q118 : (Jvm.Cond.instanceMethod ({ cls := "java/util/AbstractMap", name := "<init>", desc := "()V" } : Jvm.MethodName)) ∈ lw_all := lw_g (lw_at lw_m1 61 rfl) rfl
theorem q119 : (Jvm.Cond.code ({ cls := "java/util/AbstractMap", name := "<init>", desc := "()V" } : Jvm.MethodName) prog_47_method_1_code (1 : Nat) (Option.none : Option Jvm.ClassFile.FieldType)) ∈ lw_all := lw_g (lw_at lw_m1 62 rfl) rfl
theorem q120 : (Jvm.Cond.methodLink "java/util/AbstractMap" (1 : Nat) ({ cls := "java/lang/Object", name := "<init>", desc := "()V" } : Jvm.MethodName)) ∈ lw_all := lw_g (lw_at lw_m1 63 rfl) rfl
theorem q140 : (Jvm.Cond.soleField "java/util/AbstractMap" "keySet") ∈ lw_all := lw_g (lw_at lw_m1 83 rfl) rfl
theorem q142 : (Jvm.Cond.soleField "java/util/AbstractMap" "values") ∈ lw_all := lw_g (lw_at lw_m1 85 rfl) rfl
abbrev cJ1_init : ByteArray := prog_53_method_7_code
def yJ1_init : MethodName := ⟨RJ1, "<init>", "()V"⟩
def dkwJ1_init_0 : List UInt8 := [42, 183, 0, 43, 42, 18, 92, 181, 0, 81, 177]
abbrev dktJ1_init_0 : List UInt8 := dkwJ1_init_0 ++ []
theorem dksJ1_init_0 : cJ1_init.data.toList.drop 0 = dktJ1_init_0 := by decide +kernel
theorem dJ1_init_0 : decode cJ1_init 0 = .ok (.aload_n 0, 1) := dk_42 (dk_at dksJ1_init_0 0 rfl rfl)
theorem dJ1_init_1 : decode cJ1_init 1 = .ok (.invokespecial 43, 3) := dk_183 0 43 (dk_at dksJ1_init_0 1 rfl rfl)
theorem dJ1_init_4 : decode cJ1_init 4 = .ok (.aload_n 0, 1) := dk_42 (dk_at dksJ1_init_0 4 rfl rfl)
theorem dJ1_init_5 : decode cJ1_init 5 = .ok (.ldc 92, 2) := dk_18 92 (dk_at dksJ1_init_0 5 rfl rfl)
theorem dJ1_init_7 : decode cJ1_init 7 = .ok (.putfield 81, 3) := dk_181 0 81 (dk_at dksJ1_init_0 7 rfl rfl)
theorem dJ1_init_10 : decode cJ1_init 10 = .ok (.return_, 1) := dk_177 (dk_at dksJ1_init_0 10 rfl rfl)
abbrev cJ1_put : ByteArray := prog_53_method_15_code
def yJ1_put : MethodName := ⟨RJ1, "put", "(Ljava/lang/Object;Ljava/lang/Object;)Ljava/lang/Object;"⟩
def dkwJ1_put_0 : List UInt8 := [42, 43, 184, 0, 149, 43, 44, 3, 4, 182, 0, 152, 176]
abbrev dktJ1_put_0 : List UInt8 := dkwJ1_put_0 ++ []
theorem dksJ1_put_0 : cJ1_put.data.toList.drop 0 = dktJ1_put_0 := by decide +kernel
theorem dJ1_put_0 : decode cJ1_put 0 = .ok (.aload_n 0, 1) := dk_42 (dk_at dksJ1_put_0 0 rfl rfl)
theorem dJ1_put_1 : decode cJ1_put 1 = .ok (.aload_n 1, 1) := dk_43 (dk_at dksJ1_put_0 1 rfl rfl)
theorem dJ1_put_2 : decode cJ1_put 2 = .ok (.invokestatic 149, 3) := dk_184 0 149 (dk_at dksJ1_put_0 2 rfl rfl)
theorem dJ1_put_5 : decode cJ1_put 5 = .ok (.aload_n 1, 1) := dk_43 (dk_at dksJ1_put_0 5 rfl rfl)
theorem dJ1_put_6 : decode cJ1_put 6 = .ok (.aload_n 2, 1) := dk_44 (dk_at dksJ1_put_0 6 rfl rfl)
theorem dJ1_put_7 : decode cJ1_put 7 = .ok (.iconst 0, 1) := dk_3 (dk_at dksJ1_put_0 7 rfl rfl)
theorem dJ1_put_8 : decode cJ1_put 8 = .ok (.iconst 1, 1) := dk_4 (dk_at dksJ1_put_0 8 rfl rfl)
theorem dJ1_put_9 : decode cJ1_put 9 = .ok (.invokevirtual 152, 3) := dk_182 0 152 (dk_at dksJ1_put_0 9 rfl rfl)
theorem dJ1_put_12 : decode cJ1_put 12 = .ok (.areturn, 1) := dk_176 (dk_at dksJ1_put_0 12 rfl rfl)
abbrev cJ1_hash : ByteArray := prog_53_method_1_code
def yJ1_hash : MethodName := ⟨RJ1, "hash", "(Ljava/lang/Object;)I"⟩
def dkwJ1_hash_0 : List UInt8 := [42, 199, 0, 7, 3, 167, 0, 14, 42, 182, 0, 1, 89, 60, 27, 16, 16, 124, 130, 172]
abbrev dktJ1_hash_0 : List UInt8 := dkwJ1_hash_0 ++ []
theorem dksJ1_hash_0 : cJ1_hash.data.toList.drop 0 = dktJ1_hash_0 := by decide +kernel
theorem dJ1_hash_0 : decode cJ1_hash 0 = .ok (.aload_n 0, 1) := dk_42 (dk_at dksJ1_hash_0 0 rfl rfl)
theorem dJ1_hash_1 : decode cJ1_hash 1 = .ok (.ifnonnull 7, 3) := dk_199 0 7 (dk_at dksJ1_hash_0 1 rfl rfl)
theorem dJ1_hash_4 : decode cJ1_hash 4 = .ok (.iconst 0, 1) := dk_3 (dk_at dksJ1_hash_0 4 rfl rfl)
theorem dJ1_hash_5 : decode cJ1_hash 5 = .ok (.goto 14, 3) := dk_167 0 14 (dk_at dksJ1_hash_0 5 rfl rfl)
theorem dJ1_hash_8 : decode cJ1_hash 8 = .ok (.aload_n 0, 1) := dk_42 (dk_at dksJ1_hash_0 8 rfl rfl)
theorem dJ1_hash_9 : decode cJ1_hash 9 = .ok (.invokevirtual 1, 3) := dk_182 0 1 (dk_at dksJ1_hash_0 9 rfl rfl)
theorem dJ1_hash_12 : decode cJ1_hash 12 = .ok (.dup, 1) := dk_89 (dk_at dksJ1_hash_0 12 rfl rfl)
theorem dJ1_hash_13 : decode cJ1_hash 13 = .ok (.istore_n 1, 1) := dk_60 (dk_at dksJ1_hash_0 13 rfl rfl)
theorem dJ1_hash_14 : decode cJ1_hash 14 = .ok (.iload_n 1, 1) := dk_27 (dk_at dksJ1_hash_0 14 rfl rfl)
theorem dJ1_hash_15 : decode cJ1_hash 15 = .ok (.bipush 16, 2) := dk_16 16 (dk_at dksJ1_hash_0 15 rfl rfl)
theorem dJ1_hash_17 : decode cJ1_hash 17 = .ok (.iushr, 1) := dk_124 (dk_at dksJ1_hash_0 17 rfl rfl)
theorem dJ1_hash_18 : decode cJ1_hash 18 = .ok (.ixor, 1) := dk_130 (dk_at dksJ1_hash_0 18 rfl rfl)
theorem dJ1_hash_19 : decode cJ1_hash 19 = .ok (.ireturn, 1) := dk_172 (dk_at dksJ1_hash_0 19 rfl rfl)
abbrev cJ1_putVal : ByteArray := prog_53_method_16_code
def yJ1_putVal : MethodName := ⟨RJ1, "putVal", "(ILjava/lang/Object;Ljava/lang/Object;ZZ)Ljava/lang/Object;"⟩
def dkwJ1_putVal_12 : List UInt8 := [181, 0, 156, 42, 180, 0, 88, 164, 0, 8, 42, 182, 0, 117, 87, 42, 21, 5, 182, 0, 205, 1, 176]
abbrev dktJ1_putVal_12 : List UInt8 := dkwJ1_putVal_12 ++ []
def dkwJ1_putVal_11 : List UInt8 := [182, 0, 198, 25, 12, 176, 42, 89, 180, 0, 202, 4, 96, 181, 0, 202, 42, 89, 180, 0, 156, 4, 96, 90]
abbrev dktJ1_putVal_11 : List UInt8 := dkwJ1_putVal_11 ++ dktJ1_putVal_12
def dkwJ1_putVal_10 : List UInt8 := [180, 0, 162, 58, 12, 21, 4, 153, 0, 8, 25, 12, 199, 0, 9, 25, 10, 45, 181, 0, 162, 42, 25, 10]
abbrev dktJ1_putVal_10 : List UInt8 := dkwJ1_putVal_10 ++ dktJ1_putVal_11
def dkwJ1_putVal_9 : List UInt8 := [153, 0, 6, 167, 0, 13, 25, 10, 58, 7, 132, 12, 1, 167, 255, 171, 25, 10, 198, 0, 35, 25, 10]
abbrev dktJ1_putVal_9 : List UInt8 := dkwJ1_putVal_9 ++ dktJ1_putVal_10
def dkwJ1_putVal_8 : List UInt8 := [25, 10, 180, 0, 170, 89, 58, 11, 44, 165, 0, 29, 44, 198, 0, 15, 44, 25, 11, 182, 0, 173]
abbrev dktJ1_putVal_8 : List UInt8 := dkwJ1_putVal_8 ++ dktJ1_putVal_9
def dkwJ1_putVal_7 : List UInt8 := [16, 7, 161, 0, 60, 42, 25, 6, 27, 182, 0, 194, 167, 0, 50, 25, 10, 180, 0, 168, 27, 160, 0, 31]
abbrev dktJ1_putVal_7 : List UInt8 := dkwJ1_putVal_7 ++ dktJ1_putVal_8
def dkwJ1_putVal_6 : List UInt8 := [180, 0, 177, 89, 58, 10, 199, 0, 33, 25, 7, 42, 27, 44, 45, 1, 182, 0, 186, 181, 0, 177, 21, 12]
abbrev dktJ1_putVal_6 : List UInt8 := dkwJ1_putVal_6 ++ dktJ1_putVal_7
def dkwJ1_putVal_5 : List UInt8 := [192, 0, 180, 42, 25, 6, 27, 44, 45, 182, 0, 190, 58, 10, 167, 0, 94, 3, 54, 12, 25, 7]
abbrev dktJ1_putVal_5 : List UInt8 := dkwJ1_putVal_5 ++ dktJ1_putVal_6
def dkwJ1_putVal_4 : List UInt8 := [182, 0, 173, 153, 0, 10, 25, 7, 58, 10, 167, 0, 121, 25, 7, 193, 0, 180, 153, 0, 22, 25, 7]
abbrev dktJ1_putVal_4 : List UInt8 := dkwJ1_putVal_4 ++ dktJ1_putVal_5
def dkwJ1_putVal_3 : List UInt8 := [160, 0, 35, 25, 7, 180, 0, 170, 89, 58, 11, 44, 165, 0, 16, 44, 198, 0, 19, 44, 25, 11]
abbrev dktJ1_putVal_3 : List UInt8 := dkwJ1_putVal_3 ++ dktJ1_putVal_4
def dkwJ1_putVal_2 : List UInt8 := [25, 6, 21, 9, 42, 27, 44, 45, 1, 182, 0, 186, 83, 167, 0, 199, 25, 7, 180, 0, 168, 27]
abbrev dktJ1_putVal_2 : List UInt8 := dkwJ1_putVal_2 ++ dktJ1_putVal_3
def dkwJ1_putVal_1 : List UInt8 := [58, 6, 190, 54, 8, 25, 6, 21, 8, 4, 100, 27, 126, 89, 54, 9, 50, 89, 58, 7, 199, 0, 19]
abbrev dktJ1_putVal_1 : List UInt8 := dkwJ1_putVal_1 ++ dktJ1_putVal_2
def dkwJ1_putVal_0 : List UInt8 := [42, 180, 0, 105, 89, 58, 6, 198, 0, 12, 25, 6, 190, 89, 54, 8, 154, 0, 13, 42, 182, 0, 117, 89]
abbrev dktJ1_putVal_0 : List UInt8 := dkwJ1_putVal_0 ++ dktJ1_putVal_1
theorem dksJ1_putVal_0 : cJ1_putVal.data.toList.drop 0 = dktJ1_putVal_0 := by decide +kernel
theorem dksJ1_putVal_1 : cJ1_putVal.data.toList.drop 24 = dktJ1_putVal_1 := dk_seg dksJ1_putVal_0 24 rfl rfl
theorem dksJ1_putVal_2 : cJ1_putVal.data.toList.drop 47 = dktJ1_putVal_2 := dk_seg dksJ1_putVal_1 23 rfl rfl
theorem dksJ1_putVal_3 : cJ1_putVal.data.toList.drop 69 = dktJ1_putVal_3 := dk_seg dksJ1_putVal_2 22 rfl rfl
theorem dksJ1_putVal_4 : cJ1_putVal.data.toList.drop 91 = dktJ1_putVal_4 := dk_seg dksJ1_putVal_3 22 rfl rfl
theorem dksJ1_putVal_5 : cJ1_putVal.data.toList.drop 114 = dktJ1_putVal_5 := dk_seg dksJ1_putVal_4 23 rfl rfl
theorem dksJ1_putVal_6 : cJ1_putVal.data.toList.drop 136 = dktJ1_putVal_6 := dk_seg dksJ1_putVal_5 22 rfl rfl
theorem dksJ1_putVal_7 : cJ1_putVal.data.toList.drop 160 = dktJ1_putVal_7 := dk_seg dksJ1_putVal_6 24 rfl rfl
theorem dksJ1_putVal_8 : cJ1_putVal.data.toList.drop 184 = dktJ1_putVal_8 := dk_seg dksJ1_putVal_7 24 rfl rfl
theorem dksJ1_putVal_9 : cJ1_putVal.data.toList.drop 206 = dktJ1_putVal_9 := dk_seg dksJ1_putVal_8 22 rfl rfl
theorem dksJ1_putVal_10 : cJ1_putVal.data.toList.drop 229 = dktJ1_putVal_10 := dk_seg dksJ1_putVal_9 23 rfl rfl
theorem dksJ1_putVal_11 : cJ1_putVal.data.toList.drop 253 = dktJ1_putVal_11 := dk_seg dksJ1_putVal_10 24 rfl rfl
theorem dksJ1_putVal_12 : cJ1_putVal.data.toList.drop 277 = dktJ1_putVal_12 := dk_seg dksJ1_putVal_11 24 rfl rfl
theorem dJ1_putVal_0 : decode cJ1_putVal 0 = .ok (.aload_n 0, 1) := dk_42 (dk_at dksJ1_putVal_0 0 rfl rfl)
theorem dJ1_putVal_1 : decode cJ1_putVal 1 = .ok (.getfield 105, 3) := dk_180 0 105 (dk_at dksJ1_putVal_0 1 rfl rfl)
theorem dJ1_putVal_4 : decode cJ1_putVal 4 = .ok (.dup, 1) := dk_89 (dk_at dksJ1_putVal_0 4 rfl rfl)
theorem dJ1_putVal_5 : decode cJ1_putVal 5 = .ok (.astore 6, 2) := dk_58 6 (dk_at dksJ1_putVal_0 5 rfl rfl)
theorem dJ1_putVal_7 : decode cJ1_putVal 7 = .ok (.ifnull 12, 3) := dk_198 0 12 (dk_at dksJ1_putVal_0 7 rfl rfl)
theorem dJ1_putVal_10 : decode cJ1_putVal 10 = .ok (.aload 6, 2) := dk_25 6 (dk_at dksJ1_putVal_0 10 rfl rfl)
theorem dJ1_putVal_12 : decode cJ1_putVal 12 = .ok (.arraylength, 1) := dk_190 (dk_at dksJ1_putVal_0 12 rfl rfl)
theorem dJ1_putVal_13 : decode cJ1_putVal 13 = .ok (.dup, 1) := dk_89 (dk_at dksJ1_putVal_0 13 rfl rfl)
theorem dJ1_putVal_14 : decode cJ1_putVal 14 = .ok (.istore 8, 2) := dk_54 8 (dk_at dksJ1_putVal_0 14 rfl rfl)
theorem dJ1_putVal_16 : decode cJ1_putVal 16 = .ok (.ifCond .ne 13, 3) := dk_154 0 13 (dk_at dksJ1_putVal_0 16 rfl rfl)
theorem dJ1_putVal_19 : decode cJ1_putVal 19 = .ok (.aload_n 0, 1) := dk_42 (dk_at dksJ1_putVal_0 19 rfl rfl)
theorem dJ1_putVal_20 : decode cJ1_putVal 20 = .ok (.invokevirtual 117, 3) := dk_182 0 117 (dk_at dksJ1_putVal_0 20 rfl rfl)
theorem dJ1_putVal_23 : decode cJ1_putVal 23 = .ok (.dup, 1) := dk_89 (dk_at dksJ1_putVal_0 23 rfl rfl)
theorem dJ1_putVal_24 : decode cJ1_putVal 24 = .ok (.astore 6, 2) := dk_58 6 (dk_at dksJ1_putVal_1 0 rfl rfl)
theorem dJ1_putVal_26 : decode cJ1_putVal 26 = .ok (.arraylength, 1) := dk_190 (dk_at dksJ1_putVal_1 2 rfl rfl)
theorem dJ1_putVal_27 : decode cJ1_putVal 27 = .ok (.istore 8, 2) := dk_54 8 (dk_at dksJ1_putVal_1 3 rfl rfl)
theorem dJ1_putVal_29 : decode cJ1_putVal 29 = .ok (.aload 6, 2) := dk_25 6 (dk_at dksJ1_putVal_1 5 rfl rfl)
theorem dJ1_putVal_31 : decode cJ1_putVal 31 = .ok (.iload 8, 2) := dk_21 8 (dk_at dksJ1_putVal_1 7 rfl rfl)
theorem dJ1_putVal_33 : decode cJ1_putVal 33 = .ok (.iconst 1, 1) := dk_4 (dk_at dksJ1_putVal_1 9 rfl rfl)
theorem dJ1_putVal_34 : decode cJ1_putVal 34 = .ok (.isub, 1) := dk_100 (dk_at dksJ1_putVal_1 10 rfl rfl)
theorem dJ1_putVal_35 : decode cJ1_putVal 35 = .ok (.iload_n 1, 1) := dk_27 (dk_at dksJ1_putVal_1 11 rfl rfl)
theorem dJ1_putVal_36 : decode cJ1_putVal 36 = .ok (.iand, 1) := dk_126 (dk_at dksJ1_putVal_1 12 rfl rfl)
theorem dJ1_putVal_37 : decode cJ1_putVal 37 = .ok (.dup, 1) := dk_89 (dk_at dksJ1_putVal_1 13 rfl rfl)
theorem dJ1_putVal_38 : decode cJ1_putVal 38 = .ok (.istore 9, 2) := dk_54 9 (dk_at dksJ1_putVal_1 14 rfl rfl)
theorem dJ1_putVal_40 : decode cJ1_putVal 40 = .ok (.aaload, 1) := dk_50 (dk_at dksJ1_putVal_1 16 rfl rfl)
theorem dJ1_putVal_41 : decode cJ1_putVal 41 = .ok (.dup, 1) := dk_89 (dk_at dksJ1_putVal_1 17 rfl rfl)
theorem dJ1_putVal_42 : decode cJ1_putVal 42 = .ok (.astore 7, 2) := dk_58 7 (dk_at dksJ1_putVal_1 18 rfl rfl)
theorem dJ1_putVal_44 : decode cJ1_putVal 44 = .ok (.ifnonnull 19, 3) := dk_199 0 19 (dk_at dksJ1_putVal_1 20 rfl rfl)
theorem dJ1_putVal_47 : decode cJ1_putVal 47 = .ok (.aload 6, 2) := dk_25 6 (dk_at dksJ1_putVal_2 0 rfl rfl)
theorem dJ1_putVal_49 : decode cJ1_putVal 49 = .ok (.iload 9, 2) := dk_21 9 (dk_at dksJ1_putVal_2 2 rfl rfl)
theorem dJ1_putVal_51 : decode cJ1_putVal 51 = .ok (.aload_n 0, 1) := dk_42 (dk_at dksJ1_putVal_2 4 rfl rfl)
theorem dJ1_putVal_52 : decode cJ1_putVal 52 = .ok (.iload_n 1, 1) := dk_27 (dk_at dksJ1_putVal_2 5 rfl rfl)
theorem dJ1_putVal_53 : decode cJ1_putVal 53 = .ok (.aload_n 2, 1) := dk_44 (dk_at dksJ1_putVal_2 6 rfl rfl)
theorem dJ1_putVal_54 : decode cJ1_putVal 54 = .ok (.aload_n 3, 1) := dk_45 (dk_at dksJ1_putVal_2 7 rfl rfl)
theorem dJ1_putVal_55 : decode cJ1_putVal 55 = .ok (.aconst_null, 1) := dk_1 (dk_at dksJ1_putVal_2 8 rfl rfl)
theorem dJ1_putVal_56 : decode cJ1_putVal 56 = .ok (.invokevirtual 186, 3) := dk_182 0 186 (dk_at dksJ1_putVal_2 9 rfl rfl)
theorem dJ1_putVal_59 : decode cJ1_putVal 59 = .ok (.aastore, 1) := dk_83 (dk_at dksJ1_putVal_2 12 rfl rfl)
theorem dJ1_putVal_60 : decode cJ1_putVal 60 = .ok (.goto 199, 3) := dk_167 0 199 (dk_at dksJ1_putVal_2 13 rfl rfl)
theorem dJ1_putVal_63 : decode cJ1_putVal 63 = .ok (.aload 7, 2) := dk_25 7 (dk_at dksJ1_putVal_2 16 rfl rfl)
theorem dJ1_putVal_65 : decode cJ1_putVal 65 = .ok (.getfield 168, 3) := dk_180 0 168 (dk_at dksJ1_putVal_2 18 rfl rfl)
theorem dJ1_putVal_68 : decode cJ1_putVal 68 = .ok (.iload_n 1, 1) := dk_27 (dk_at dksJ1_putVal_2 21 rfl rfl)
theorem dJ1_putVal_69 : decode cJ1_putVal 69 = .ok (.if_icmp .ne 35, 3) := dk_160 0 35 (dk_at dksJ1_putVal_3 0 rfl rfl)
theorem dJ1_putVal_72 : decode cJ1_putVal 72 = .ok (.aload 7, 2) := dk_25 7 (dk_at dksJ1_putVal_3 3 rfl rfl)
theorem dJ1_putVal_74 : decode cJ1_putVal 74 = .ok (.getfield 170, 3) := dk_180 0 170 (dk_at dksJ1_putVal_3 5 rfl rfl)
theorem dJ1_putVal_77 : decode cJ1_putVal 77 = .ok (.dup, 1) := dk_89 (dk_at dksJ1_putVal_3 8 rfl rfl)
theorem dJ1_putVal_78 : decode cJ1_putVal 78 = .ok (.astore 11, 2) := dk_58 11 (dk_at dksJ1_putVal_3 9 rfl rfl)
theorem dJ1_putVal_80 : decode cJ1_putVal 80 = .ok (.aload_n 2, 1) := dk_44 (dk_at dksJ1_putVal_3 11 rfl rfl)
theorem dJ1_putVal_81 : decode cJ1_putVal 81 = .ok (.if_acmp .eq 16, 3) := dk_165 0 16 (dk_at dksJ1_putVal_3 12 rfl rfl)
theorem dJ1_putVal_84 : decode cJ1_putVal 84 = .ok (.aload_n 2, 1) := dk_44 (dk_at dksJ1_putVal_3 15 rfl rfl)
theorem dJ1_putVal_85 : decode cJ1_putVal 85 = .ok (.ifnull 19, 3) := dk_198 0 19 (dk_at dksJ1_putVal_3 16 rfl rfl)
theorem dJ1_putVal_88 : decode cJ1_putVal 88 = .ok (.aload_n 2, 1) := dk_44 (dk_at dksJ1_putVal_3 19 rfl rfl)
theorem dJ1_putVal_89 : decode cJ1_putVal 89 = .ok (.aload 11, 2) := dk_25 11 (dk_at dksJ1_putVal_3 20 rfl rfl)
theorem dJ1_putVal_91 : decode cJ1_putVal 91 = .ok (.invokevirtual 173, 3) := dk_182 0 173 (dk_at dksJ1_putVal_4 0 rfl rfl)
theorem dJ1_putVal_94 : decode cJ1_putVal 94 = .ok (.ifCond .eq 10, 3) := dk_153 0 10 (dk_at dksJ1_putVal_4 3 rfl rfl)
theorem dJ1_putVal_97 : decode cJ1_putVal 97 = .ok (.aload 7, 2) := dk_25 7 (dk_at dksJ1_putVal_4 6 rfl rfl)
theorem dJ1_putVal_99 : decode cJ1_putVal 99 = .ok (.astore 10, 2) := dk_58 10 (dk_at dksJ1_putVal_4 8 rfl rfl)
theorem dJ1_putVal_101 : decode cJ1_putVal 101 = .ok (.goto 121, 3) := dk_167 0 121 (dk_at dksJ1_putVal_4 10 rfl rfl)
theorem dJ1_putVal_104 : decode cJ1_putVal 104 = .ok (.aload 7, 2) := dk_25 7 (dk_at dksJ1_putVal_4 13 rfl rfl)
theorem dJ1_putVal_106 : decode cJ1_putVal 106 = .ok (.instanceof 180, 3) := dk_193 0 180 (dk_at dksJ1_putVal_4 15 rfl rfl)
theorem dJ1_putVal_109 : decode cJ1_putVal 109 = .ok (.ifCond .eq 22, 3) := dk_153 0 22 (dk_at dksJ1_putVal_4 18 rfl rfl)
theorem dJ1_putVal_112 : decode cJ1_putVal 112 = .ok (.aload 7, 2) := dk_25 7 (dk_at dksJ1_putVal_4 21 rfl rfl)
theorem dJ1_putVal_114 : decode cJ1_putVal 114 = .ok (.checkcast 180, 3) := dk_192 0 180 (dk_at dksJ1_putVal_5 0 rfl rfl)
theorem dJ1_putVal_117 : decode cJ1_putVal 117 = .ok (.aload_n 0, 1) := dk_42 (dk_at dksJ1_putVal_5 3 rfl rfl)
theorem dJ1_putVal_118 : decode cJ1_putVal 118 = .ok (.aload 6, 2) := dk_25 6 (dk_at dksJ1_putVal_5 4 rfl rfl)
theorem dJ1_putVal_120 : decode cJ1_putVal 120 = .ok (.iload_n 1, 1) := dk_27 (dk_at dksJ1_putVal_5 6 rfl rfl)
theorem dJ1_putVal_121 : decode cJ1_putVal 121 = .ok (.aload_n 2, 1) := dk_44 (dk_at dksJ1_putVal_5 7 rfl rfl)
theorem dJ1_putVal_122 : decode cJ1_putVal 122 = .ok (.aload_n 3, 1) := dk_45 (dk_at dksJ1_putVal_5 8 rfl rfl)
theorem dJ1_putVal_123 : decode cJ1_putVal 123 = .ok (.invokevirtual 190, 3) := dk_182 0 190 (dk_at dksJ1_putVal_5 9 rfl rfl)
theorem dJ1_putVal_126 : decode cJ1_putVal 126 = .ok (.astore 10, 2) := dk_58 10 (dk_at dksJ1_putVal_5 12 rfl rfl)
theorem dJ1_putVal_128 : decode cJ1_putVal 128 = .ok (.goto 94, 3) := dk_167 0 94 (dk_at dksJ1_putVal_5 14 rfl rfl)
theorem dJ1_putVal_131 : decode cJ1_putVal 131 = .ok (.iconst 0, 1) := dk_3 (dk_at dksJ1_putVal_5 17 rfl rfl)
theorem dJ1_putVal_132 : decode cJ1_putVal 132 = .ok (.istore 12, 2) := dk_54 12 (dk_at dksJ1_putVal_5 18 rfl rfl)
theorem dJ1_putVal_134 : decode cJ1_putVal 134 = .ok (.aload 7, 2) := dk_25 7 (dk_at dksJ1_putVal_5 20 rfl rfl)
theorem dJ1_putVal_136 : decode cJ1_putVal 136 = .ok (.getfield 177, 3) := dk_180 0 177 (dk_at dksJ1_putVal_6 0 rfl rfl)
theorem dJ1_putVal_139 : decode cJ1_putVal 139 = .ok (.dup, 1) := dk_89 (dk_at dksJ1_putVal_6 3 rfl rfl)
theorem dJ1_putVal_140 : decode cJ1_putVal 140 = .ok (.astore 10, 2) := dk_58 10 (dk_at dksJ1_putVal_6 4 rfl rfl)
theorem dJ1_putVal_142 : decode cJ1_putVal 142 = .ok (.ifnonnull 33, 3) := dk_199 0 33 (dk_at dksJ1_putVal_6 6 rfl rfl)
theorem dJ1_putVal_145 : decode cJ1_putVal 145 = .ok (.aload 7, 2) := dk_25 7 (dk_at dksJ1_putVal_6 9 rfl rfl)
theorem dJ1_putVal_147 : decode cJ1_putVal 147 = .ok (.aload_n 0, 1) := dk_42 (dk_at dksJ1_putVal_6 11 rfl rfl)
theorem dJ1_putVal_148 : decode cJ1_putVal 148 = .ok (.iload_n 1, 1) := dk_27 (dk_at dksJ1_putVal_6 12 rfl rfl)
theorem dJ1_putVal_149 : decode cJ1_putVal 149 = .ok (.aload_n 2, 1) := dk_44 (dk_at dksJ1_putVal_6 13 rfl rfl)
theorem dJ1_putVal_150 : decode cJ1_putVal 150 = .ok (.aload_n 3, 1) := dk_45 (dk_at dksJ1_putVal_6 14 rfl rfl)
theorem dJ1_putVal_151 : decode cJ1_putVal 151 = .ok (.aconst_null, 1) := dk_1 (dk_at dksJ1_putVal_6 15 rfl rfl)
theorem dJ1_putVal_152 : decode cJ1_putVal 152 = .ok (.invokevirtual 186, 3) := dk_182 0 186 (dk_at dksJ1_putVal_6 16 rfl rfl)
theorem dJ1_putVal_155 : decode cJ1_putVal 155 = .ok (.putfield 177, 3) := dk_181 0 177 (dk_at dksJ1_putVal_6 19 rfl rfl)
theorem dJ1_putVal_158 : decode cJ1_putVal 158 = .ok (.iload 12, 2) := dk_21 12 (dk_at dksJ1_putVal_6 22 rfl rfl)
theorem dJ1_putVal_160 : decode cJ1_putVal 160 = .ok (.bipush 7, 2) := dk_16 7 (dk_at dksJ1_putVal_7 0 rfl rfl)
theorem dJ1_putVal_162 : decode cJ1_putVal 162 = .ok (.if_icmp .lt 60, 3) := dk_161 0 60 (dk_at dksJ1_putVal_7 2 rfl rfl)
theorem dJ1_putVal_165 : decode cJ1_putVal 165 = .ok (.aload_n 0, 1) := dk_42 (dk_at dksJ1_putVal_7 5 rfl rfl)
theorem dJ1_putVal_166 : decode cJ1_putVal 166 = .ok (.aload 6, 2) := dk_25 6 (dk_at dksJ1_putVal_7 6 rfl rfl)
theorem dJ1_putVal_168 : decode cJ1_putVal 168 = .ok (.iload_n 1, 1) := dk_27 (dk_at dksJ1_putVal_7 8 rfl rfl)
theorem dJ1_putVal_169 : decode cJ1_putVal 169 = .ok (.invokevirtual 194, 3) := dk_182 0 194 (dk_at dksJ1_putVal_7 9 rfl rfl)
theorem dJ1_putVal_172 : decode cJ1_putVal 172 = .ok (.goto 50, 3) := dk_167 0 50 (dk_at dksJ1_putVal_7 12 rfl rfl)
theorem dJ1_putVal_175 : decode cJ1_putVal 175 = .ok (.aload 10, 2) := dk_25 10 (dk_at dksJ1_putVal_7 15 rfl rfl)
theorem dJ1_putVal_177 : decode cJ1_putVal 177 = .ok (.getfield 168, 3) := dk_180 0 168 (dk_at dksJ1_putVal_7 17 rfl rfl)
theorem dJ1_putVal_180 : decode cJ1_putVal 180 = .ok (.iload_n 1, 1) := dk_27 (dk_at dksJ1_putVal_7 20 rfl rfl)
theorem dJ1_putVal_181 : decode cJ1_putVal 181 = .ok (.if_icmp .ne 31, 3) := dk_160 0 31 (dk_at dksJ1_putVal_7 21 rfl rfl)
theorem dJ1_putVal_184 : decode cJ1_putVal 184 = .ok (.aload 10, 2) := dk_25 10 (dk_at dksJ1_putVal_8 0 rfl rfl)
theorem dJ1_putVal_186 : decode cJ1_putVal 186 = .ok (.getfield 170, 3) := dk_180 0 170 (dk_at dksJ1_putVal_8 2 rfl rfl)
theorem dJ1_putVal_189 : decode cJ1_putVal 189 = .ok (.dup, 1) := dk_89 (dk_at dksJ1_putVal_8 5 rfl rfl)
theorem dJ1_putVal_190 : decode cJ1_putVal 190 = .ok (.astore 11, 2) := dk_58 11 (dk_at dksJ1_putVal_8 6 rfl rfl)
theorem dJ1_putVal_192 : decode cJ1_putVal 192 = .ok (.aload_n 2, 1) := dk_44 (dk_at dksJ1_putVal_8 8 rfl rfl)
theorem dJ1_putVal_193 : decode cJ1_putVal 193 = .ok (.if_acmp .eq 29, 3) := dk_165 0 29 (dk_at dksJ1_putVal_8 9 rfl rfl)
theorem dJ1_putVal_196 : decode cJ1_putVal 196 = .ok (.aload_n 2, 1) := dk_44 (dk_at dksJ1_putVal_8 12 rfl rfl)
theorem dJ1_putVal_197 : decode cJ1_putVal 197 = .ok (.ifnull 15, 3) := dk_198 0 15 (dk_at dksJ1_putVal_8 13 rfl rfl)
theorem dJ1_putVal_200 : decode cJ1_putVal 200 = .ok (.aload_n 2, 1) := dk_44 (dk_at dksJ1_putVal_8 16 rfl rfl)
theorem dJ1_putVal_201 : decode cJ1_putVal 201 = .ok (.aload 11, 2) := dk_25 11 (dk_at dksJ1_putVal_8 17 rfl rfl)
theorem dJ1_putVal_203 : decode cJ1_putVal 203 = .ok (.invokevirtual 173, 3) := dk_182 0 173 (dk_at dksJ1_putVal_8 19 rfl rfl)
theorem dJ1_putVal_206 : decode cJ1_putVal 206 = .ok (.ifCond .eq 6, 3) := dk_153 0 6 (dk_at dksJ1_putVal_9 0 rfl rfl)
theorem dJ1_putVal_209 : decode cJ1_putVal 209 = .ok (.goto 13, 3) := dk_167 0 13 (dk_at dksJ1_putVal_9 3 rfl rfl)
theorem dJ1_putVal_212 : decode cJ1_putVal 212 = .ok (.aload 10, 2) := dk_25 10 (dk_at dksJ1_putVal_9 6 rfl rfl)
theorem dJ1_putVal_214 : decode cJ1_putVal 214 = .ok (.astore 7, 2) := dk_58 7 (dk_at dksJ1_putVal_9 8 rfl rfl)
theorem dJ1_putVal_216 : decode cJ1_putVal 216 = .ok (.iinc 12 1, 3) := dk_132 12 1 (dk_at dksJ1_putVal_9 10 rfl rfl)
theorem dJ1_putVal_219 : decode cJ1_putVal 219 = .ok (.goto (-85), 3) := dk_167 255 171 (dk_at dksJ1_putVal_9 13 rfl rfl)
theorem dJ1_putVal_222 : decode cJ1_putVal 222 = .ok (.aload 10, 2) := dk_25 10 (dk_at dksJ1_putVal_9 16 rfl rfl)
theorem dJ1_putVal_224 : decode cJ1_putVal 224 = .ok (.ifnull 35, 3) := dk_198 0 35 (dk_at dksJ1_putVal_9 18 rfl rfl)
theorem dJ1_putVal_227 : decode cJ1_putVal 227 = .ok (.aload 10, 2) := dk_25 10 (dk_at dksJ1_putVal_9 21 rfl rfl)
theorem dJ1_putVal_229 : decode cJ1_putVal 229 = .ok (.getfield 162, 3) := dk_180 0 162 (dk_at dksJ1_putVal_10 0 rfl rfl)
theorem dJ1_putVal_232 : decode cJ1_putVal 232 = .ok (.astore 12, 2) := dk_58 12 (dk_at dksJ1_putVal_10 3 rfl rfl)
theorem dJ1_putVal_234 : decode cJ1_putVal 234 = .ok (.iload 4, 2) := dk_21 4 (dk_at dksJ1_putVal_10 5 rfl rfl)
theorem dJ1_putVal_236 : decode cJ1_putVal 236 = .ok (.ifCond .eq 8, 3) := dk_153 0 8 (dk_at dksJ1_putVal_10 7 rfl rfl)
theorem dJ1_putVal_239 : decode cJ1_putVal 239 = .ok (.aload 12, 2) := dk_25 12 (dk_at dksJ1_putVal_10 10 rfl rfl)
theorem dJ1_putVal_241 : decode cJ1_putVal 241 = .ok (.ifnonnull 9, 3) := dk_199 0 9 (dk_at dksJ1_putVal_10 12 rfl rfl)
theorem dJ1_putVal_244 : decode cJ1_putVal 244 = .ok (.aload 10, 2) := dk_25 10 (dk_at dksJ1_putVal_10 15 rfl rfl)
theorem dJ1_putVal_246 : decode cJ1_putVal 246 = .ok (.aload_n 3, 1) := dk_45 (dk_at dksJ1_putVal_10 17 rfl rfl)
theorem dJ1_putVal_247 : decode cJ1_putVal 247 = .ok (.putfield 162, 3) := dk_181 0 162 (dk_at dksJ1_putVal_10 18 rfl rfl)
theorem dJ1_putVal_250 : decode cJ1_putVal 250 = .ok (.aload_n 0, 1) := dk_42 (dk_at dksJ1_putVal_10 21 rfl rfl)
theorem dJ1_putVal_251 : decode cJ1_putVal 251 = .ok (.aload 10, 2) := dk_25 10 (dk_at dksJ1_putVal_10 22 rfl rfl)
theorem dJ1_putVal_253 : decode cJ1_putVal 253 = .ok (.invokevirtual 198, 3) := dk_182 0 198 (dk_at dksJ1_putVal_11 0 rfl rfl)
theorem dJ1_putVal_256 : decode cJ1_putVal 256 = .ok (.aload 12, 2) := dk_25 12 (dk_at dksJ1_putVal_11 3 rfl rfl)
theorem dJ1_putVal_258 : decode cJ1_putVal 258 = .ok (.areturn, 1) := dk_176 (dk_at dksJ1_putVal_11 5 rfl rfl)
theorem dJ1_putVal_259 : decode cJ1_putVal 259 = .ok (.aload_n 0, 1) := dk_42 (dk_at dksJ1_putVal_11 6 rfl rfl)
theorem dJ1_putVal_260 : decode cJ1_putVal 260 = .ok (.dup, 1) := dk_89 (dk_at dksJ1_putVal_11 7 rfl rfl)
theorem dJ1_putVal_261 : decode cJ1_putVal 261 = .ok (.getfield 202, 3) := dk_180 0 202 (dk_at dksJ1_putVal_11 8 rfl rfl)
theorem dJ1_putVal_264 : decode cJ1_putVal 264 = .ok (.iconst 1, 1) := dk_4 (dk_at dksJ1_putVal_11 11 rfl rfl)
theorem dJ1_putVal_265 : decode cJ1_putVal 265 = .ok (.iadd, 1) := dk_96 (dk_at dksJ1_putVal_11 12 rfl rfl)
theorem dJ1_putVal_266 : decode cJ1_putVal 266 = .ok (.putfield 202, 3) := dk_181 0 202 (dk_at dksJ1_putVal_11 13 rfl rfl)
theorem dJ1_putVal_269 : decode cJ1_putVal 269 = .ok (.aload_n 0, 1) := dk_42 (dk_at dksJ1_putVal_11 16 rfl rfl)
theorem dJ1_putVal_270 : decode cJ1_putVal 270 = .ok (.dup, 1) := dk_89 (dk_at dksJ1_putVal_11 17 rfl rfl)
theorem dJ1_putVal_271 : decode cJ1_putVal 271 = .ok (.getfield 156, 3) := dk_180 0 156 (dk_at dksJ1_putVal_11 18 rfl rfl)
theorem dJ1_putVal_274 : decode cJ1_putVal 274 = .ok (.iconst 1, 1) := dk_4 (dk_at dksJ1_putVal_11 21 rfl rfl)
theorem dJ1_putVal_275 : decode cJ1_putVal 275 = .ok (.iadd, 1) := dk_96 (dk_at dksJ1_putVal_11 22 rfl rfl)
theorem dJ1_putVal_276 : decode cJ1_putVal 276 = .ok (.dup_x1, 1) := dk_90 (dk_at dksJ1_putVal_11 23 rfl rfl)
theorem dJ1_putVal_277 : decode cJ1_putVal 277 = .ok (.putfield 156, 3) := dk_181 0 156 (dk_at dksJ1_putVal_12 0 rfl rfl)
theorem dJ1_putVal_280 : decode cJ1_putVal 280 = .ok (.aload_n 0, 1) := dk_42 (dk_at dksJ1_putVal_12 3 rfl rfl)
theorem dJ1_putVal_281 : decode cJ1_putVal 281 = .ok (.getfield 88, 3) := dk_180 0 88 (dk_at dksJ1_putVal_12 4 rfl rfl)
theorem dJ1_putVal_284 : decode cJ1_putVal 284 = .ok (.if_icmp .le 8, 3) := dk_164 0 8 (dk_at dksJ1_putVal_12 7 rfl rfl)
theorem dJ1_putVal_287 : decode cJ1_putVal 287 = .ok (.aload_n 0, 1) := dk_42 (dk_at dksJ1_putVal_12 10 rfl rfl)
theorem dJ1_putVal_288 : decode cJ1_putVal 288 = .ok (.invokevirtual 117, 3) := dk_182 0 117 (dk_at dksJ1_putVal_12 11 rfl rfl)
theorem dJ1_putVal_291 : decode cJ1_putVal 291 = .ok (.pop, 1) := dk_87 (dk_at dksJ1_putVal_12 14 rfl rfl)
theorem dJ1_putVal_292 : decode cJ1_putVal 292 = .ok (.aload_n 0, 1) := dk_42 (dk_at dksJ1_putVal_12 15 rfl rfl)
theorem dJ1_putVal_293 : decode cJ1_putVal 293 = .ok (.iload 5, 2) := dk_21 5 (dk_at dksJ1_putVal_12 16 rfl rfl)
theorem dJ1_putVal_295 : decode cJ1_putVal 295 = .ok (.invokevirtual 205, 3) := dk_182 0 205 (dk_at dksJ1_putVal_12 18 rfl rfl)
theorem dJ1_putVal_298 : decode cJ1_putVal 298 = .ok (.aconst_null, 1) := dk_1 (dk_at dksJ1_putVal_12 21 rfl rfl)
theorem dJ1_putVal_299 : decode cJ1_putVal 299 = .ok (.areturn, 1) := dk_176 (dk_at dksJ1_putVal_12 22 rfl rfl)
abbrev cJ1_resize : ByteArray := prog_53_method_17_code
def yJ1_resize : MethodName := ⟨RJ1, "resize", "()[Ljava/util/HashMap$Node;"⟩
def dkwJ1_resize_15 : List UInt8 := [25, 6, 176]
abbrev dktJ1_resize_15 : List UInt8 := dkwJ1_resize_15 ++ []
def dkwJ1_resize_14 : List UInt8 := [198, 0, 18, 25, 12, 1, 181, 0, 177, 25, 6, 21, 7, 28, 96, 25, 11, 83, 132, 7, 1, 167, 255, 57]
abbrev dktJ1_resize_14 : List UInt8 := dkwJ1_resize_14 ++ dktJ1_resize_15
def dkwJ1_resize_13 : List UInt8 := [199, 255, 185, 25, 10, 198, 0, 16, 25, 10, 1, 181, 0, 177, 25, 6, 21, 7, 25, 9, 83, 25, 12]
abbrev dktJ1_resize_13 : List UInt8 := dkwJ1_resize_13 ++ dktJ1_resize_14
def dkwJ1_resize_12 : List UInt8 := [25, 8, 58, 11, 167, 0, 10, 25, 12, 25, 8, 181, 0, 177, 25, 8, 58, 12, 25, 13, 89, 58, 8]
abbrev dktJ1_resize_12 : List UInt8 := dkwJ1_resize_12 ++ dktJ1_resize_13
def dkwJ1_resize_11 : List UInt8 := [58, 9, 167, 0, 10, 25, 10, 25, 8, 181, 0, 177, 25, 8, 58, 10, 167, 0, 26, 25, 12, 199, 0, 10]
abbrev dktJ1_resize_11 : List UInt8 := dkwJ1_resize_11 ++ dktJ1_resize_12
def dkwJ1_resize_10 : List UInt8 := [25, 8, 180, 0, 177, 58, 13, 25, 8, 180, 0, 168, 28, 126, 154, 0, 29, 25, 10, 199, 0, 10, 25, 8]
abbrev dktJ1_resize_10 : List UInt8 := dkwJ1_resize_10 ++ dktJ1_resize_11
def dkwJ1_resize_9 : List UInt8 := [42, 25, 6, 21, 7, 28, 182, 0, 211, 167, 0, 127, 1, 58, 9, 1, 58, 10, 1, 58, 11, 1, 58, 12]
abbrev dktJ1_resize_9 : List UInt8 := dkwJ1_resize_9 ++ dktJ1_resize_10
def dkwJ1_resize_8 : List UInt8 := [21, 4, 4, 100, 126, 25, 8, 83, 167, 0, 152, 25, 8, 193, 0, 180, 153, 0, 20, 25, 8, 192, 0, 180]
abbrev dktJ1_resize_8 : List UInt8 := dkwJ1_resize_8 ++ dktJ1_resize_9
def dkwJ1_resize_7 : List UInt8 := [198, 0, 183, 43, 21, 7, 1, 83, 25, 8, 180, 0, 177, 199, 0, 21, 25, 6, 25, 8, 180, 0, 168]
abbrev dktJ1_resize_7 : List UInt8 := dkwJ1_resize_7 ++ dktJ1_resize_8
def dkwJ1_resize_6 : List UInt8 := [181, 0, 105, 43, 198, 0, 208, 3, 54, 7, 21, 7, 28, 162, 0, 199, 43, 21, 7, 50, 89, 58, 8]
abbrev dktJ1_resize_6 : List UInt8 := dkwJ1_resize_6 ++ dktJ1_resize_7
def dkwJ1_resize_5 : List UInt8 := [167, 0, 5, 18, 209, 54, 5, 42, 21, 5, 181, 0, 88, 21, 4, 189, 0, 163, 58, 6, 42, 25, 6]
abbrev dktJ1_resize_5 : List UInt8 := dkwJ1_resize_5 ++ dktJ1_resize_6
def dkwJ1_resize_4 : List UInt8 := [180, 0, 81, 106, 56, 6, 21, 4, 18, 42, 162, 0, 17, 23, 6, 18, 210, 150, 156, 0, 9, 23, 6, 139]
abbrev dktJ1_resize_4 : List UInt8 := dkwJ1_resize_4 ++ dktJ1_resize_5
def dkwJ1_resize_3 : List UInt8 := [54, 4, 167, 0, 11, 16, 16, 54, 4, 16, 12, 54, 5, 21, 5, 154, 0, 38, 21, 4, 134, 42]
abbrev dktJ1_resize_3 : List UInt8 := dkwJ1_resize_3 ++ dktJ1_resize_4
def dkwJ1_resize_2 : List UInt8 := [18, 42, 162, 0, 35, 28, 16, 16, 161, 0, 29, 29, 4, 120, 54, 5, 167, 0, 21, 29, 158, 0, 9, 29]
abbrev dktJ1_resize_2 : List UInt8 := dkwJ1_resize_2 ++ dktJ1_resize_3
def dkwJ1_resize_1 : List UInt8 := [28, 158, 0, 42, 28, 18, 42, 161, 0, 11, 42, 18, 209, 181, 0, 88, 43, 176, 28, 4, 120, 89, 54, 4]
abbrev dktJ1_resize_1 : List UInt8 := dkwJ1_resize_1 ++ dktJ1_resize_2
def dkwJ1_resize_0 : List UInt8 := [42, 180, 0, 105, 76, 43, 199, 0, 7, 3, 167, 0, 5, 43, 190, 61, 42, 180, 0, 88, 62, 3, 54, 5]
abbrev dktJ1_resize_0 : List UInt8 := dkwJ1_resize_0 ++ dktJ1_resize_1
theorem dksJ1_resize_0 : cJ1_resize.data.toList.drop 0 = dktJ1_resize_0 := by decide +kernel
theorem dksJ1_resize_1 : cJ1_resize.data.toList.drop 24 = dktJ1_resize_1 := dk_seg dksJ1_resize_0 24 rfl rfl
theorem dksJ1_resize_2 : cJ1_resize.data.toList.drop 48 = dktJ1_resize_2 := dk_seg dksJ1_resize_1 24 rfl rfl
theorem dksJ1_resize_3 : cJ1_resize.data.toList.drop 72 = dktJ1_resize_3 := dk_seg dksJ1_resize_2 24 rfl rfl
theorem dksJ1_resize_4 : cJ1_resize.data.toList.drop 94 = dktJ1_resize_4 := dk_seg dksJ1_resize_3 22 rfl rfl
theorem dksJ1_resize_5 : cJ1_resize.data.toList.drop 118 = dktJ1_resize_5 := dk_seg dksJ1_resize_4 24 rfl rfl
theorem dksJ1_resize_6 : cJ1_resize.data.toList.drop 141 = dktJ1_resize_6 := dk_seg dksJ1_resize_5 23 rfl rfl
theorem dksJ1_resize_7 : cJ1_resize.data.toList.drop 164 = dktJ1_resize_7 := dk_seg dksJ1_resize_6 23 rfl rfl
theorem dksJ1_resize_8 : cJ1_resize.data.toList.drop 187 = dktJ1_resize_8 := dk_seg dksJ1_resize_7 23 rfl rfl
theorem dksJ1_resize_9 : cJ1_resize.data.toList.drop 211 = dktJ1_resize_9 := dk_seg dksJ1_resize_8 24 rfl rfl
theorem dksJ1_resize_10 : cJ1_resize.data.toList.drop 235 = dktJ1_resize_10 := dk_seg dksJ1_resize_9 24 rfl rfl
theorem dksJ1_resize_11 : cJ1_resize.data.toList.drop 259 = dktJ1_resize_11 := dk_seg dksJ1_resize_10 24 rfl rfl
theorem dksJ1_resize_12 : cJ1_resize.data.toList.drop 283 = dktJ1_resize_12 := dk_seg dksJ1_resize_11 24 rfl rfl
theorem dksJ1_resize_13 : cJ1_resize.data.toList.drop 306 = dktJ1_resize_13 := dk_seg dksJ1_resize_12 23 rfl rfl
theorem dksJ1_resize_14 : cJ1_resize.data.toList.drop 329 = dktJ1_resize_14 := dk_seg dksJ1_resize_13 23 rfl rfl
theorem dksJ1_resize_15 : cJ1_resize.data.toList.drop 353 = dktJ1_resize_15 := dk_seg dksJ1_resize_14 24 rfl rfl
theorem dJ1_resize_0 : decode cJ1_resize 0 = .ok (.aload_n 0, 1) := dk_42 (dk_at dksJ1_resize_0 0 rfl rfl)
theorem dJ1_resize_1 : decode cJ1_resize 1 = .ok (.getfield 105, 3) := dk_180 0 105 (dk_at dksJ1_resize_0 1 rfl rfl)
theorem dJ1_resize_4 : decode cJ1_resize 4 = .ok (.astore_n 1, 1) := dk_76 (dk_at dksJ1_resize_0 4 rfl rfl)
theorem dJ1_resize_5 : decode cJ1_resize 5 = .ok (.aload_n 1, 1) := dk_43 (dk_at dksJ1_resize_0 5 rfl rfl)
theorem dJ1_resize_6 : decode cJ1_resize 6 = .ok (.ifnonnull 7, 3) := dk_199 0 7 (dk_at dksJ1_resize_0 6 rfl rfl)
theorem dJ1_resize_9 : decode cJ1_resize 9 = .ok (.iconst 0, 1) := dk_3 (dk_at dksJ1_resize_0 9 rfl rfl)
theorem dJ1_resize_10 : decode cJ1_resize 10 = .ok (.goto 5, 3) := dk_167 0 5 (dk_at dksJ1_resize_0 10 rfl rfl)
theorem dJ1_resize_13 : decode cJ1_resize 13 = .ok (.aload_n 1, 1) := dk_43 (dk_at dksJ1_resize_0 13 rfl rfl)
theorem dJ1_resize_14 : decode cJ1_resize 14 = .ok (.arraylength, 1) := dk_190 (dk_at dksJ1_resize_0 14 rfl rfl)
theorem dJ1_resize_15 : decode cJ1_resize 15 = .ok (.istore_n 2, 1) := dk_61 (dk_at dksJ1_resize_0 15 rfl rfl)
theorem dJ1_resize_16 : decode cJ1_resize 16 = .ok (.aload_n 0, 1) := dk_42 (dk_at dksJ1_resize_0 16 rfl rfl)
theorem dJ1_resize_17 : decode cJ1_resize 17 = .ok (.getfield 88, 3) := dk_180 0 88 (dk_at dksJ1_resize_0 17 rfl rfl)
theorem dJ1_resize_20 : decode cJ1_resize 20 = .ok (.istore_n 3, 1) := dk_62 (dk_at dksJ1_resize_0 20 rfl rfl)
theorem dJ1_resize_21 : decode cJ1_resize 21 = .ok (.iconst 0, 1) := dk_3 (dk_at dksJ1_resize_0 21 rfl rfl)
theorem dJ1_resize_22 : decode cJ1_resize 22 = .ok (.istore 5, 2) := dk_54 5 (dk_at dksJ1_resize_0 22 rfl rfl)
theorem dJ1_resize_24 : decode cJ1_resize 24 = .ok (.iload_n 2, 1) := dk_28 (dk_at dksJ1_resize_1 0 rfl rfl)
theorem dJ1_resize_25 : decode cJ1_resize 25 = .ok (.ifCond .le 42, 3) := dk_158 0 42 (dk_at dksJ1_resize_1 1 rfl rfl)
theorem dJ1_resize_28 : decode cJ1_resize 28 = .ok (.iload_n 2, 1) := dk_28 (dk_at dksJ1_resize_1 4 rfl rfl)
theorem dJ1_resize_29 : decode cJ1_resize 29 = .ok (.ldc 42, 2) := dk_18 42 (dk_at dksJ1_resize_1 5 rfl rfl)
theorem dJ1_resize_31 : decode cJ1_resize 31 = .ok (.if_icmp .lt 11, 3) := dk_161 0 11 (dk_at dksJ1_resize_1 7 rfl rfl)
theorem dJ1_resize_34 : decode cJ1_resize 34 = .ok (.aload_n 0, 1) := dk_42 (dk_at dksJ1_resize_1 10 rfl rfl)
theorem dJ1_resize_35 : decode cJ1_resize 35 = .ok (.ldc 209, 2) := dk_18 209 (dk_at dksJ1_resize_1 11 rfl rfl)
theorem dJ1_resize_37 : decode cJ1_resize 37 = .ok (.putfield 88, 3) := dk_181 0 88 (dk_at dksJ1_resize_1 13 rfl rfl)
theorem dJ1_resize_40 : decode cJ1_resize 40 = .ok (.aload_n 1, 1) := dk_43 (dk_at dksJ1_resize_1 16 rfl rfl)
theorem dJ1_resize_41 : decode cJ1_resize 41 = .ok (.areturn, 1) := dk_176 (dk_at dksJ1_resize_1 17 rfl rfl)
theorem dJ1_resize_42 : decode cJ1_resize 42 = .ok (.iload_n 2, 1) := dk_28 (dk_at dksJ1_resize_1 18 rfl rfl)
theorem dJ1_resize_43 : decode cJ1_resize 43 = .ok (.iconst 1, 1) := dk_4 (dk_at dksJ1_resize_1 19 rfl rfl)
theorem dJ1_resize_44 : decode cJ1_resize 44 = .ok (.ishl, 1) := dk_120 (dk_at dksJ1_resize_1 20 rfl rfl)
theorem dJ1_resize_45 : decode cJ1_resize 45 = .ok (.dup, 1) := dk_89 (dk_at dksJ1_resize_1 21 rfl rfl)
theorem dJ1_resize_46 : decode cJ1_resize 46 = .ok (.istore 4, 2) := dk_54 4 (dk_at dksJ1_resize_1 22 rfl rfl)
theorem dJ1_resize_48 : decode cJ1_resize 48 = .ok (.ldc 42, 2) := dk_18 42 (dk_at dksJ1_resize_2 0 rfl rfl)
theorem dJ1_resize_50 : decode cJ1_resize 50 = .ok (.if_icmp .ge 35, 3) := dk_162 0 35 (dk_at dksJ1_resize_2 2 rfl rfl)
theorem dJ1_resize_53 : decode cJ1_resize 53 = .ok (.iload_n 2, 1) := dk_28 (dk_at dksJ1_resize_2 5 rfl rfl)
theorem dJ1_resize_54 : decode cJ1_resize 54 = .ok (.bipush 16, 2) := dk_16 16 (dk_at dksJ1_resize_2 6 rfl rfl)
theorem dJ1_resize_56 : decode cJ1_resize 56 = .ok (.if_icmp .lt 29, 3) := dk_161 0 29 (dk_at dksJ1_resize_2 8 rfl rfl)
theorem dJ1_resize_59 : decode cJ1_resize 59 = .ok (.iload_n 3, 1) := dk_29 (dk_at dksJ1_resize_2 11 rfl rfl)
theorem dJ1_resize_60 : decode cJ1_resize 60 = .ok (.iconst 1, 1) := dk_4 (dk_at dksJ1_resize_2 12 rfl rfl)
theorem dJ1_resize_61 : decode cJ1_resize 61 = .ok (.ishl, 1) := dk_120 (dk_at dksJ1_resize_2 13 rfl rfl)
theorem dJ1_resize_62 : decode cJ1_resize 62 = .ok (.istore 5, 2) := dk_54 5 (dk_at dksJ1_resize_2 14 rfl rfl)
theorem dJ1_resize_64 : decode cJ1_resize 64 = .ok (.goto 21, 3) := dk_167 0 21 (dk_at dksJ1_resize_2 16 rfl rfl)
theorem dJ1_resize_67 : decode cJ1_resize 67 = .ok (.iload_n 3, 1) := dk_29 (dk_at dksJ1_resize_2 19 rfl rfl)
theorem dJ1_resize_68 : decode cJ1_resize 68 = .ok (.ifCond .le 9, 3) := dk_158 0 9 (dk_at dksJ1_resize_2 20 rfl rfl)
theorem dJ1_resize_71 : decode cJ1_resize 71 = .ok (.iload_n 3, 1) := dk_29 (dk_at dksJ1_resize_2 23 rfl rfl)
theorem dJ1_resize_72 : decode cJ1_resize 72 = .ok (.istore 4, 2) := dk_54 4 (dk_at dksJ1_resize_3 0 rfl rfl)
theorem dJ1_resize_74 : decode cJ1_resize 74 = .ok (.goto 11, 3) := dk_167 0 11 (dk_at dksJ1_resize_3 2 rfl rfl)
theorem dJ1_resize_77 : decode cJ1_resize 77 = .ok (.bipush 16, 2) := dk_16 16 (dk_at dksJ1_resize_3 5 rfl rfl)
theorem dJ1_resize_79 : decode cJ1_resize 79 = .ok (.istore 4, 2) := dk_54 4 (dk_at dksJ1_resize_3 7 rfl rfl)
theorem dJ1_resize_81 : decode cJ1_resize 81 = .ok (.bipush 12, 2) := dk_16 12 (dk_at dksJ1_resize_3 9 rfl rfl)
theorem dJ1_resize_83 : decode cJ1_resize 83 = .ok (.istore 5, 2) := dk_54 5 (dk_at dksJ1_resize_3 11 rfl rfl)
theorem dJ1_resize_85 : decode cJ1_resize 85 = .ok (.iload 5, 2) := dk_21 5 (dk_at dksJ1_resize_3 13 rfl rfl)
theorem dJ1_resize_87 : decode cJ1_resize 87 = .ok (.ifCond .ne 38, 3) := dk_154 0 38 (dk_at dksJ1_resize_3 15 rfl rfl)
theorem dJ1_resize_90 : decode cJ1_resize 90 = .ok (.iload 4, 2) := dk_21 4 (dk_at dksJ1_resize_3 18 rfl rfl)
theorem dJ1_resize_92 : decode cJ1_resize 92 = .ok (.i2f, 1) := dk_134 (dk_at dksJ1_resize_3 20 rfl rfl)
theorem dJ1_resize_93 : decode cJ1_resize 93 = .ok (.aload_n 0, 1) := dk_42 (dk_at dksJ1_resize_3 21 rfl rfl)
theorem dJ1_resize_94 : decode cJ1_resize 94 = .ok (.getfield 81, 3) := dk_180 0 81 (dk_at dksJ1_resize_4 0 rfl rfl)
theorem dJ1_resize_97 : decode cJ1_resize 97 = .ok (.fmul, 1) := dk_106 (dk_at dksJ1_resize_4 3 rfl rfl)
theorem dJ1_resize_98 : decode cJ1_resize 98 = .ok (.fstore 6, 2) := dk_56 6 (dk_at dksJ1_resize_4 4 rfl rfl)
theorem dJ1_resize_100 : decode cJ1_resize 100 = .ok (.iload 4, 2) := dk_21 4 (dk_at dksJ1_resize_4 6 rfl rfl)
theorem dJ1_resize_102 : decode cJ1_resize 102 = .ok (.ldc 42, 2) := dk_18 42 (dk_at dksJ1_resize_4 8 rfl rfl)
theorem dJ1_resize_104 : decode cJ1_resize 104 = .ok (.if_icmp .ge 17, 3) := dk_162 0 17 (dk_at dksJ1_resize_4 10 rfl rfl)
theorem dJ1_resize_107 : decode cJ1_resize 107 = .ok (.fload 6, 2) := dk_23 6 (dk_at dksJ1_resize_4 13 rfl rfl)
theorem dJ1_resize_109 : decode cJ1_resize 109 = .ok (.ldc 210, 2) := dk_18 210 (dk_at dksJ1_resize_4 15 rfl rfl)
theorem dJ1_resize_111 : decode cJ1_resize 111 = .ok (.fcmp .g, 1) := dk_150 (dk_at dksJ1_resize_4 17 rfl rfl)
theorem dJ1_resize_112 : decode cJ1_resize 112 = .ok (.ifCond .ge 9, 3) := dk_156 0 9 (dk_at dksJ1_resize_4 18 rfl rfl)
theorem dJ1_resize_115 : decode cJ1_resize 115 = .ok (.fload 6, 2) := dk_23 6 (dk_at dksJ1_resize_4 21 rfl rfl)
theorem dJ1_resize_117 : decode cJ1_resize 117 = .ok (.f2i, 1) := dk_139 (dk_at dksJ1_resize_4 23 rfl rfl)
theorem dJ1_resize_118 : decode cJ1_resize 118 = .ok (.goto 5, 3) := dk_167 0 5 (dk_at dksJ1_resize_5 0 rfl rfl)
theorem dJ1_resize_121 : decode cJ1_resize 121 = .ok (.ldc 209, 2) := dk_18 209 (dk_at dksJ1_resize_5 3 rfl rfl)
theorem dJ1_resize_123 : decode cJ1_resize 123 = .ok (.istore 5, 2) := dk_54 5 (dk_at dksJ1_resize_5 5 rfl rfl)
theorem dJ1_resize_125 : decode cJ1_resize 125 = .ok (.aload_n 0, 1) := dk_42 (dk_at dksJ1_resize_5 7 rfl rfl)
theorem dJ1_resize_126 : decode cJ1_resize 126 = .ok (.iload 5, 2) := dk_21 5 (dk_at dksJ1_resize_5 8 rfl rfl)
theorem dJ1_resize_128 : decode cJ1_resize 128 = .ok (.putfield 88, 3) := dk_181 0 88 (dk_at dksJ1_resize_5 10 rfl rfl)
theorem dJ1_resize_131 : decode cJ1_resize 131 = .ok (.iload 4, 2) := dk_21 4 (dk_at dksJ1_resize_5 13 rfl rfl)
theorem dJ1_resize_133 : decode cJ1_resize 133 = .ok (.anewarray 163, 3) := dk_189 0 163 (dk_at dksJ1_resize_5 15 rfl rfl)
theorem dJ1_resize_136 : decode cJ1_resize 136 = .ok (.astore 6, 2) := dk_58 6 (dk_at dksJ1_resize_5 18 rfl rfl)
theorem dJ1_resize_138 : decode cJ1_resize 138 = .ok (.aload_n 0, 1) := dk_42 (dk_at dksJ1_resize_5 20 rfl rfl)
theorem dJ1_resize_139 : decode cJ1_resize 139 = .ok (.aload 6, 2) := dk_25 6 (dk_at dksJ1_resize_5 21 rfl rfl)
theorem dJ1_resize_141 : decode cJ1_resize 141 = .ok (.putfield 105, 3) := dk_181 0 105 (dk_at dksJ1_resize_6 0 rfl rfl)
theorem dJ1_resize_144 : decode cJ1_resize 144 = .ok (.aload_n 1, 1) := dk_43 (dk_at dksJ1_resize_6 3 rfl rfl)
theorem dJ1_resize_145 : decode cJ1_resize 145 = .ok (.ifnull 208, 3) := dk_198 0 208 (dk_at dksJ1_resize_6 4 rfl rfl)
theorem dJ1_resize_148 : decode cJ1_resize 148 = .ok (.iconst 0, 1) := dk_3 (dk_at dksJ1_resize_6 7 rfl rfl)
theorem dJ1_resize_149 : decode cJ1_resize 149 = .ok (.istore 7, 2) := dk_54 7 (dk_at dksJ1_resize_6 8 rfl rfl)
theorem dJ1_resize_151 : decode cJ1_resize 151 = .ok (.iload 7, 2) := dk_21 7 (dk_at dksJ1_resize_6 10 rfl rfl)
theorem dJ1_resize_153 : decode cJ1_resize 153 = .ok (.iload_n 2, 1) := dk_28 (dk_at dksJ1_resize_6 12 rfl rfl)
theorem dJ1_resize_154 : decode cJ1_resize 154 = .ok (.if_icmp .ge 199, 3) := dk_162 0 199 (dk_at dksJ1_resize_6 13 rfl rfl)
theorem dJ1_resize_157 : decode cJ1_resize 157 = .ok (.aload_n 1, 1) := dk_43 (dk_at dksJ1_resize_6 16 rfl rfl)
theorem dJ1_resize_158 : decode cJ1_resize 158 = .ok (.iload 7, 2) := dk_21 7 (dk_at dksJ1_resize_6 17 rfl rfl)
theorem dJ1_resize_160 : decode cJ1_resize 160 = .ok (.aaload, 1) := dk_50 (dk_at dksJ1_resize_6 19 rfl rfl)
theorem dJ1_resize_161 : decode cJ1_resize 161 = .ok (.dup, 1) := dk_89 (dk_at dksJ1_resize_6 20 rfl rfl)
theorem dJ1_resize_162 : decode cJ1_resize 162 = .ok (.astore 8, 2) := dk_58 8 (dk_at dksJ1_resize_6 21 rfl rfl)
theorem dJ1_resize_164 : decode cJ1_resize 164 = .ok (.ifnull 183, 3) := dk_198 0 183 (dk_at dksJ1_resize_7 0 rfl rfl)
theorem dJ1_resize_167 : decode cJ1_resize 167 = .ok (.aload_n 1, 1) := dk_43 (dk_at dksJ1_resize_7 3 rfl rfl)
theorem dJ1_resize_168 : decode cJ1_resize 168 = .ok (.iload 7, 2) := dk_21 7 (dk_at dksJ1_resize_7 4 rfl rfl)
theorem dJ1_resize_170 : decode cJ1_resize 170 = .ok (.aconst_null, 1) := dk_1 (dk_at dksJ1_resize_7 6 rfl rfl)
theorem dJ1_resize_171 : decode cJ1_resize 171 = .ok (.aastore, 1) := dk_83 (dk_at dksJ1_resize_7 7 rfl rfl)
theorem dJ1_resize_172 : decode cJ1_resize 172 = .ok (.aload 8, 2) := dk_25 8 (dk_at dksJ1_resize_7 8 rfl rfl)
theorem dJ1_resize_174 : decode cJ1_resize 174 = .ok (.getfield 177, 3) := dk_180 0 177 (dk_at dksJ1_resize_7 10 rfl rfl)
theorem dJ1_resize_177 : decode cJ1_resize 177 = .ok (.ifnonnull 21, 3) := dk_199 0 21 (dk_at dksJ1_resize_7 13 rfl rfl)
theorem dJ1_resize_180 : decode cJ1_resize 180 = .ok (.aload 6, 2) := dk_25 6 (dk_at dksJ1_resize_7 16 rfl rfl)
theorem dJ1_resize_182 : decode cJ1_resize 182 = .ok (.aload 8, 2) := dk_25 8 (dk_at dksJ1_resize_7 18 rfl rfl)
theorem dJ1_resize_184 : decode cJ1_resize 184 = .ok (.getfield 168, 3) := dk_180 0 168 (dk_at dksJ1_resize_7 20 rfl rfl)
theorem dJ1_resize_187 : decode cJ1_resize 187 = .ok (.iload 4, 2) := dk_21 4 (dk_at dksJ1_resize_8 0 rfl rfl)
theorem dJ1_resize_189 : decode cJ1_resize 189 = .ok (.iconst 1, 1) := dk_4 (dk_at dksJ1_resize_8 2 rfl rfl)
theorem dJ1_resize_190 : decode cJ1_resize 190 = .ok (.isub, 1) := dk_100 (dk_at dksJ1_resize_8 3 rfl rfl)
theorem dJ1_resize_191 : decode cJ1_resize 191 = .ok (.iand, 1) := dk_126 (dk_at dksJ1_resize_8 4 rfl rfl)
theorem dJ1_resize_192 : decode cJ1_resize 192 = .ok (.aload 8, 2) := dk_25 8 (dk_at dksJ1_resize_8 5 rfl rfl)
theorem dJ1_resize_194 : decode cJ1_resize 194 = .ok (.aastore, 1) := dk_83 (dk_at dksJ1_resize_8 7 rfl rfl)
theorem dJ1_resize_195 : decode cJ1_resize 195 = .ok (.goto 152, 3) := dk_167 0 152 (dk_at dksJ1_resize_8 8 rfl rfl)
theorem dJ1_resize_198 : decode cJ1_resize 198 = .ok (.aload 8, 2) := dk_25 8 (dk_at dksJ1_resize_8 11 rfl rfl)
theorem dJ1_resize_200 : decode cJ1_resize 200 = .ok (.instanceof 180, 3) := dk_193 0 180 (dk_at dksJ1_resize_8 13 rfl rfl)
theorem dJ1_resize_203 : decode cJ1_resize 203 = .ok (.ifCond .eq 20, 3) := dk_153 0 20 (dk_at dksJ1_resize_8 16 rfl rfl)
theorem dJ1_resize_206 : decode cJ1_resize 206 = .ok (.aload 8, 2) := dk_25 8 (dk_at dksJ1_resize_8 19 rfl rfl)
theorem dJ1_resize_208 : decode cJ1_resize 208 = .ok (.checkcast 180, 3) := dk_192 0 180 (dk_at dksJ1_resize_8 21 rfl rfl)
theorem dJ1_resize_211 : decode cJ1_resize 211 = .ok (.aload_n 0, 1) := dk_42 (dk_at dksJ1_resize_9 0 rfl rfl)
theorem dJ1_resize_212 : decode cJ1_resize 212 = .ok (.aload 6, 2) := dk_25 6 (dk_at dksJ1_resize_9 1 rfl rfl)
theorem dJ1_resize_214 : decode cJ1_resize 214 = .ok (.iload 7, 2) := dk_21 7 (dk_at dksJ1_resize_9 3 rfl rfl)
theorem dJ1_resize_216 : decode cJ1_resize 216 = .ok (.iload_n 2, 1) := dk_28 (dk_at dksJ1_resize_9 5 rfl rfl)
theorem dJ1_resize_217 : decode cJ1_resize 217 = .ok (.invokevirtual 211, 3) := dk_182 0 211 (dk_at dksJ1_resize_9 6 rfl rfl)
theorem dJ1_resize_220 : decode cJ1_resize 220 = .ok (.goto 127, 3) := dk_167 0 127 (dk_at dksJ1_resize_9 9 rfl rfl)
theorem dJ1_resize_223 : decode cJ1_resize 223 = .ok (.aconst_null, 1) := dk_1 (dk_at dksJ1_resize_9 12 rfl rfl)
theorem dJ1_resize_224 : decode cJ1_resize 224 = .ok (.astore 9, 2) := dk_58 9 (dk_at dksJ1_resize_9 13 rfl rfl)
theorem dJ1_resize_226 : decode cJ1_resize 226 = .ok (.aconst_null, 1) := dk_1 (dk_at dksJ1_resize_9 15 rfl rfl)
theorem dJ1_resize_227 : decode cJ1_resize 227 = .ok (.astore 10, 2) := dk_58 10 (dk_at dksJ1_resize_9 16 rfl rfl)
theorem dJ1_resize_229 : decode cJ1_resize 229 = .ok (.aconst_null, 1) := dk_1 (dk_at dksJ1_resize_9 18 rfl rfl)
theorem dJ1_resize_230 : decode cJ1_resize 230 = .ok (.astore 11, 2) := dk_58 11 (dk_at dksJ1_resize_9 19 rfl rfl)
theorem dJ1_resize_232 : decode cJ1_resize 232 = .ok (.aconst_null, 1) := dk_1 (dk_at dksJ1_resize_9 21 rfl rfl)
theorem dJ1_resize_233 : decode cJ1_resize 233 = .ok (.astore 12, 2) := dk_58 12 (dk_at dksJ1_resize_9 22 rfl rfl)
theorem dJ1_resize_235 : decode cJ1_resize 235 = .ok (.aload 8, 2) := dk_25 8 (dk_at dksJ1_resize_10 0 rfl rfl)
theorem dJ1_resize_237 : decode cJ1_resize 237 = .ok (.getfield 177, 3) := dk_180 0 177 (dk_at dksJ1_resize_10 2 rfl rfl)
theorem dJ1_resize_240 : decode cJ1_resize 240 = .ok (.astore 13, 2) := dk_58 13 (dk_at dksJ1_resize_10 5 rfl rfl)
theorem dJ1_resize_242 : decode cJ1_resize 242 = .ok (.aload 8, 2) := dk_25 8 (dk_at dksJ1_resize_10 7 rfl rfl)
theorem dJ1_resize_244 : decode cJ1_resize 244 = .ok (.getfield 168, 3) := dk_180 0 168 (dk_at dksJ1_resize_10 9 rfl rfl)
theorem dJ1_resize_247 : decode cJ1_resize 247 = .ok (.iload_n 2, 1) := dk_28 (dk_at dksJ1_resize_10 12 rfl rfl)
theorem dJ1_resize_248 : decode cJ1_resize 248 = .ok (.iand, 1) := dk_126 (dk_at dksJ1_resize_10 13 rfl rfl)
theorem dJ1_resize_249 : decode cJ1_resize 249 = .ok (.ifCond .ne 29, 3) := dk_154 0 29 (dk_at dksJ1_resize_10 14 rfl rfl)
theorem dJ1_resize_252 : decode cJ1_resize 252 = .ok (.aload 10, 2) := dk_25 10 (dk_at dksJ1_resize_10 17 rfl rfl)
theorem dJ1_resize_254 : decode cJ1_resize 254 = .ok (.ifnonnull 10, 3) := dk_199 0 10 (dk_at dksJ1_resize_10 19 rfl rfl)
theorem dJ1_resize_257 : decode cJ1_resize 257 = .ok (.aload 8, 2) := dk_25 8 (dk_at dksJ1_resize_10 22 rfl rfl)
theorem dJ1_resize_259 : decode cJ1_resize 259 = .ok (.astore 9, 2) := dk_58 9 (dk_at dksJ1_resize_11 0 rfl rfl)
theorem dJ1_resize_261 : decode cJ1_resize 261 = .ok (.goto 10, 3) := dk_167 0 10 (dk_at dksJ1_resize_11 2 rfl rfl)
theorem dJ1_resize_264 : decode cJ1_resize 264 = .ok (.aload 10, 2) := dk_25 10 (dk_at dksJ1_resize_11 5 rfl rfl)
theorem dJ1_resize_266 : decode cJ1_resize 266 = .ok (.aload 8, 2) := dk_25 8 (dk_at dksJ1_resize_11 7 rfl rfl)
theorem dJ1_resize_268 : decode cJ1_resize 268 = .ok (.putfield 177, 3) := dk_181 0 177 (dk_at dksJ1_resize_11 9 rfl rfl)
theorem dJ1_resize_271 : decode cJ1_resize 271 = .ok (.aload 8, 2) := dk_25 8 (dk_at dksJ1_resize_11 12 rfl rfl)
theorem dJ1_resize_273 : decode cJ1_resize 273 = .ok (.astore 10, 2) := dk_58 10 (dk_at dksJ1_resize_11 14 rfl rfl)
theorem dJ1_resize_275 : decode cJ1_resize 275 = .ok (.goto 26, 3) := dk_167 0 26 (dk_at dksJ1_resize_11 16 rfl rfl)
theorem dJ1_resize_278 : decode cJ1_resize 278 = .ok (.aload 12, 2) := dk_25 12 (dk_at dksJ1_resize_11 19 rfl rfl)
theorem dJ1_resize_280 : decode cJ1_resize 280 = .ok (.ifnonnull 10, 3) := dk_199 0 10 (dk_at dksJ1_resize_11 21 rfl rfl)
theorem dJ1_resize_283 : decode cJ1_resize 283 = .ok (.aload 8, 2) := dk_25 8 (dk_at dksJ1_resize_12 0 rfl rfl)
theorem dJ1_resize_285 : decode cJ1_resize 285 = .ok (.astore 11, 2) := dk_58 11 (dk_at dksJ1_resize_12 2 rfl rfl)
theorem dJ1_resize_287 : decode cJ1_resize 287 = .ok (.goto 10, 3) := dk_167 0 10 (dk_at dksJ1_resize_12 4 rfl rfl)
theorem dJ1_resize_290 : decode cJ1_resize 290 = .ok (.aload 12, 2) := dk_25 12 (dk_at dksJ1_resize_12 7 rfl rfl)
theorem dJ1_resize_292 : decode cJ1_resize 292 = .ok (.aload 8, 2) := dk_25 8 (dk_at dksJ1_resize_12 9 rfl rfl)
theorem dJ1_resize_294 : decode cJ1_resize 294 = .ok (.putfield 177, 3) := dk_181 0 177 (dk_at dksJ1_resize_12 11 rfl rfl)
theorem dJ1_resize_297 : decode cJ1_resize 297 = .ok (.aload 8, 2) := dk_25 8 (dk_at dksJ1_resize_12 14 rfl rfl)
theorem dJ1_resize_299 : decode cJ1_resize 299 = .ok (.astore 12, 2) := dk_58 12 (dk_at dksJ1_resize_12 16 rfl rfl)
theorem dJ1_resize_301 : decode cJ1_resize 301 = .ok (.aload 13, 2) := dk_25 13 (dk_at dksJ1_resize_12 18 rfl rfl)
theorem dJ1_resize_303 : decode cJ1_resize 303 = .ok (.dup, 1) := dk_89 (dk_at dksJ1_resize_12 20 rfl rfl)
theorem dJ1_resize_304 : decode cJ1_resize 304 = .ok (.astore 8, 2) := dk_58 8 (dk_at dksJ1_resize_12 21 rfl rfl)
theorem dJ1_resize_306 : decode cJ1_resize 306 = .ok (.ifnonnull (-71), 3) := dk_199 255 185 (dk_at dksJ1_resize_13 0 rfl rfl)
theorem dJ1_resize_309 : decode cJ1_resize 309 = .ok (.aload 10, 2) := dk_25 10 (dk_at dksJ1_resize_13 3 rfl rfl)
theorem dJ1_resize_311 : decode cJ1_resize 311 = .ok (.ifnull 16, 3) := dk_198 0 16 (dk_at dksJ1_resize_13 5 rfl rfl)
theorem dJ1_resize_314 : decode cJ1_resize 314 = .ok (.aload 10, 2) := dk_25 10 (dk_at dksJ1_resize_13 8 rfl rfl)
theorem dJ1_resize_316 : decode cJ1_resize 316 = .ok (.aconst_null, 1) := dk_1 (dk_at dksJ1_resize_13 10 rfl rfl)
theorem dJ1_resize_317 : decode cJ1_resize 317 = .ok (.putfield 177, 3) := dk_181 0 177 (dk_at dksJ1_resize_13 11 rfl rfl)
theorem dJ1_resize_320 : decode cJ1_resize 320 = .ok (.aload 6, 2) := dk_25 6 (dk_at dksJ1_resize_13 14 rfl rfl)
theorem dJ1_resize_322 : decode cJ1_resize 322 = .ok (.iload 7, 2) := dk_21 7 (dk_at dksJ1_resize_13 16 rfl rfl)
theorem dJ1_resize_324 : decode cJ1_resize 324 = .ok (.aload 9, 2) := dk_25 9 (dk_at dksJ1_resize_13 18 rfl rfl)
theorem dJ1_resize_326 : decode cJ1_resize 326 = .ok (.aastore, 1) := dk_83 (dk_at dksJ1_resize_13 20 rfl rfl)
theorem dJ1_resize_327 : decode cJ1_resize 327 = .ok (.aload 12, 2) := dk_25 12 (dk_at dksJ1_resize_13 21 rfl rfl)
theorem dJ1_resize_329 : decode cJ1_resize 329 = .ok (.ifnull 18, 3) := dk_198 0 18 (dk_at dksJ1_resize_14 0 rfl rfl)
theorem dJ1_resize_332 : decode cJ1_resize 332 = .ok (.aload 12, 2) := dk_25 12 (dk_at dksJ1_resize_14 3 rfl rfl)
theorem dJ1_resize_334 : decode cJ1_resize 334 = .ok (.aconst_null, 1) := dk_1 (dk_at dksJ1_resize_14 5 rfl rfl)
theorem dJ1_resize_335 : decode cJ1_resize 335 = .ok (.putfield 177, 3) := dk_181 0 177 (dk_at dksJ1_resize_14 6 rfl rfl)
theorem dJ1_resize_338 : decode cJ1_resize 338 = .ok (.aload 6, 2) := dk_25 6 (dk_at dksJ1_resize_14 9 rfl rfl)
theorem dJ1_resize_340 : decode cJ1_resize 340 = .ok (.iload 7, 2) := dk_21 7 (dk_at dksJ1_resize_14 11 rfl rfl)
theorem dJ1_resize_342 : decode cJ1_resize 342 = .ok (.iload_n 2, 1) := dk_28 (dk_at dksJ1_resize_14 13 rfl rfl)
theorem dJ1_resize_343 : decode cJ1_resize 343 = .ok (.iadd, 1) := dk_96 (dk_at dksJ1_resize_14 14 rfl rfl)
theorem dJ1_resize_344 : decode cJ1_resize 344 = .ok (.aload 11, 2) := dk_25 11 (dk_at dksJ1_resize_14 15 rfl rfl)
theorem dJ1_resize_346 : decode cJ1_resize 346 = .ok (.aastore, 1) := dk_83 (dk_at dksJ1_resize_14 17 rfl rfl)
theorem dJ1_resize_347 : decode cJ1_resize 347 = .ok (.iinc 7 1, 3) := dk_132 7 1 (dk_at dksJ1_resize_14 18 rfl rfl)
theorem dJ1_resize_350 : decode cJ1_resize 350 = .ok (.goto (-199), 3) := dk_167 255 57 (dk_at dksJ1_resize_14 21 rfl rfl)
theorem dJ1_resize_353 : decode cJ1_resize 353 = .ok (.aload 6, 2) := dk_25 6 (dk_at dksJ1_resize_15 0 rfl rfl)
theorem dJ1_resize_355 : decode cJ1_resize 355 = .ok (.areturn, 1) := dk_176 (dk_at dksJ1_resize_15 2 rfl rfl)
abbrev cJ1_replacementNode : ByteArray := prog_53_method_47_code
def yJ1_replacementNode : MethodName := ⟨RJ1, "replacementNode", "(Ljava/util/HashMap$Node;Ljava/util/HashMap$Node;)Ljava/util/HashMap$Node;"⟩
def dkwJ1_replacementNode_0 : List UInt8 := [187, 0, 163, 89, 43, 180, 0, 168, 43, 180, 0, 170, 43, 180, 0, 162, 44, 183, 1, 119, 176]
abbrev dktJ1_replacementNode_0 : List UInt8 := dkwJ1_replacementNode_0 ++ []
theorem dksJ1_replacementNode_0 : cJ1_replacementNode.data.toList.drop 0 = dktJ1_replacementNode_0 := by decide +kernel
theorem dJ1_replacementNode_0 : decode cJ1_replacementNode 0 = .ok (.new 163, 3) := dk_187 0 163 (dk_at dksJ1_replacementNode_0 0 rfl rfl)
theorem dJ1_replacementNode_3 : decode cJ1_replacementNode 3 = .ok (.dup, 1) := dk_89 (dk_at dksJ1_replacementNode_0 3 rfl rfl)
theorem dJ1_replacementNode_4 : decode cJ1_replacementNode 4 = .ok (.aload_n 1, 1) := dk_43 (dk_at dksJ1_replacementNode_0 4 rfl rfl)
theorem dJ1_replacementNode_5 : decode cJ1_replacementNode 5 = .ok (.getfield 168, 3) := dk_180 0 168 (dk_at dksJ1_replacementNode_0 5 rfl rfl)
theorem dJ1_replacementNode_8 : decode cJ1_replacementNode 8 = .ok (.aload_n 1, 1) := dk_43 (dk_at dksJ1_replacementNode_0 8 rfl rfl)
theorem dJ1_replacementNode_9 : decode cJ1_replacementNode 9 = .ok (.getfield 170, 3) := dk_180 0 170 (dk_at dksJ1_replacementNode_0 9 rfl rfl)
theorem dJ1_replacementNode_12 : decode cJ1_replacementNode 12 = .ok (.aload_n 1, 1) := dk_43 (dk_at dksJ1_replacementNode_0 12 rfl rfl)
theorem dJ1_replacementNode_13 : decode cJ1_replacementNode 13 = .ok (.getfield 162, 3) := dk_180 0 162 (dk_at dksJ1_replacementNode_0 13 rfl rfl)
theorem dJ1_replacementNode_16 : decode cJ1_replacementNode 16 = .ok (.aload_n 2, 1) := dk_44 (dk_at dksJ1_replacementNode_0 16 rfl rfl)
theorem dJ1_replacementNode_17 : decode cJ1_replacementNode 17 = .ok (.invokespecial 375, 3) := dk_183 1 119 (dk_at dksJ1_replacementNode_0 17 rfl rfl)
theorem dJ1_replacementNode_20 : decode cJ1_replacementNode 20 = .ok (.areturn, 1) := dk_176 (dk_at dksJ1_replacementNode_0 20 rfl rfl)
abbrev cJ1_comparableClassFor : ByteArray := prog_53_method_2_code
def yJ1_comparableClassFor : MethodName := ⟨RJ1, "comparableClassFor", "(Ljava/lang/Object;)Ljava/lang/Class;"⟩
def dkwJ1_comparableClassFor_4 : List UInt8 := [4, 160, 0, 12, 45, 3, 50, 43, 166, 0, 5, 43, 176, 132, 7, 1, 167, 255, 186, 1, 176]
abbrev dktJ1_comparableClassFor_4 : List UInt8 := dkwJ1_comparableClassFor_4 ++ []
def dkwJ1_comparableClassFor_3 : List UInt8 := [185, 0, 23, 1, 0, 18, 7, 166, 0, 30, 25, 4, 185, 0, 27, 1, 0, 89, 78, 198, 0, 18, 45, 190]
abbrev dktJ1_comparableClassFor_3 : List UInt8 := dkwJ1_comparableClassFor_3 ++ dktJ1_comparableClassFor_4
def dkwJ1_comparableClassFor_2 : List UInt8 := [25, 5, 21, 7, 50, 58, 8, 25, 8, 193, 0, 21, 153, 0, 48, 25, 8, 192, 0, 21, 89, 58, 4]
abbrev dktJ1_comparableClassFor_2 : List UInt8 := dkwJ1_comparableClassFor_2 ++ dktJ1_comparableClassFor_3
def dkwJ1_comparableClassFor_1 : List UInt8 := [89, 77, 198, 0, 87, 44, 58, 5, 25, 5, 190, 54, 6, 3, 54, 7, 21, 7, 21, 6, 162, 0, 69]
abbrev dktJ1_comparableClassFor_1 : List UInt8 := dkwJ1_comparableClassFor_1 ++ dktJ1_comparableClassFor_2
def dkwJ1_comparableClassFor_0 : List UInt8 := [42, 193, 0, 7, 153, 0, 109, 42, 182, 0, 9, 89, 76, 18, 13, 166, 0, 5, 43, 176, 43, 182, 0, 15]
abbrev dktJ1_comparableClassFor_0 : List UInt8 := dkwJ1_comparableClassFor_0 ++ dktJ1_comparableClassFor_1
theorem dksJ1_comparableClassFor_0 : cJ1_comparableClassFor.data.toList.drop 0 = dktJ1_comparableClassFor_0 := by decide +kernel
theorem dksJ1_comparableClassFor_1 : cJ1_comparableClassFor.data.toList.drop 24 = dktJ1_comparableClassFor_1 := dk_seg dksJ1_comparableClassFor_0 24 rfl rfl
theorem dksJ1_comparableClassFor_2 : cJ1_comparableClassFor.data.toList.drop 47 = dktJ1_comparableClassFor_2 := dk_seg dksJ1_comparableClassFor_1 23 rfl rfl
theorem dksJ1_comparableClassFor_3 : cJ1_comparableClassFor.data.toList.drop 70 = dktJ1_comparableClassFor_3 := dk_seg dksJ1_comparableClassFor_2 23 rfl rfl
theorem dksJ1_comparableClassFor_4 : cJ1_comparableClassFor.data.toList.drop 94 = dktJ1_comparableClassFor_4 := dk_seg dksJ1_comparableClassFor_3 24 rfl rfl
theorem dJ1_comparableClassFor_0 : decode cJ1_comparableClassFor 0 = .ok (.aload_n 0, 1) := dk_42 (dk_at dksJ1_comparableClassFor_0 0 rfl rfl)
theorem dJ1_comparableClassFor_1 : decode cJ1_comparableClassFor 1 = .ok (.instanceof 7, 3) := dk_193 0 7 (dk_at dksJ1_comparableClassFor_0 1 rfl rfl)
theorem dJ1_comparableClassFor_4 : decode cJ1_comparableClassFor 4 = .ok (.ifCond .eq 109, 3) := dk_153 0 109 (dk_at dksJ1_comparableClassFor_0 4 rfl rfl)
theorem dJ1_comparableClassFor_7 : decode cJ1_comparableClassFor 7 = .ok (.aload_n 0, 1) := dk_42 (dk_at dksJ1_comparableClassFor_0 7 rfl rfl)
theorem dJ1_comparableClassFor_8 : decode cJ1_comparableClassFor 8 = .ok (.invokevirtual 9, 3) := dk_182 0 9 (dk_at dksJ1_comparableClassFor_0 8 rfl rfl)
theorem dJ1_comparableClassFor_11 : decode cJ1_comparableClassFor 11 = .ok (.dup, 1) := dk_89 (dk_at dksJ1_comparableClassFor_0 11 rfl rfl)
theorem dJ1_comparableClassFor_12 : decode cJ1_comparableClassFor 12 = .ok (.astore_n 1, 1) := dk_76 (dk_at dksJ1_comparableClassFor_0 12 rfl rfl)
theorem dJ1_comparableClassFor_13 : decode cJ1_comparableClassFor 13 = .ok (.ldc 13, 2) := dk_18 13 (dk_at dksJ1_comparableClassFor_0 13 rfl rfl)
theorem dJ1_comparableClassFor_15 : decode cJ1_comparableClassFor 15 = .ok (.if_acmp .ne 5, 3) := dk_166 0 5 (dk_at dksJ1_comparableClassFor_0 15 rfl rfl)
theorem dJ1_comparableClassFor_18 : decode cJ1_comparableClassFor 18 = .ok (.aload_n 1, 1) := dk_43 (dk_at dksJ1_comparableClassFor_0 18 rfl rfl)
theorem dJ1_comparableClassFor_19 : decode cJ1_comparableClassFor 19 = .ok (.areturn, 1) := dk_176 (dk_at dksJ1_comparableClassFor_0 19 rfl rfl)
theorem dJ1_comparableClassFor_20 : decode cJ1_comparableClassFor 20 = .ok (.aload_n 1, 1) := dk_43 (dk_at dksJ1_comparableClassFor_0 20 rfl rfl)
theorem dJ1_comparableClassFor_21 : decode cJ1_comparableClassFor 21 = .ok (.invokevirtual 15, 3) := dk_182 0 15 (dk_at dksJ1_comparableClassFor_0 21 rfl rfl)
theorem dJ1_comparableClassFor_24 : decode cJ1_comparableClassFor 24 = .ok (.dup, 1) := dk_89 (dk_at dksJ1_comparableClassFor_1 0 rfl rfl)
theorem dJ1_comparableClassFor_25 : decode cJ1_comparableClassFor 25 = .ok (.astore_n 2, 1) := dk_77 (dk_at dksJ1_comparableClassFor_1 1 rfl rfl)
theorem dJ1_comparableClassFor_26 : decode cJ1_comparableClassFor 26 = .ok (.ifnull 87, 3) := dk_198 0 87 (dk_at dksJ1_comparableClassFor_1 2 rfl rfl)
theorem dJ1_comparableClassFor_29 : decode cJ1_comparableClassFor 29 = .ok (.aload_n 2, 1) := dk_44 (dk_at dksJ1_comparableClassFor_1 5 rfl rfl)
theorem dJ1_comparableClassFor_30 : decode cJ1_comparableClassFor 30 = .ok (.astore 5, 2) := dk_58 5 (dk_at dksJ1_comparableClassFor_1 6 rfl rfl)
theorem dJ1_comparableClassFor_32 : decode cJ1_comparableClassFor 32 = .ok (.aload 5, 2) := dk_25 5 (dk_at dksJ1_comparableClassFor_1 8 rfl rfl)
theorem dJ1_comparableClassFor_34 : decode cJ1_comparableClassFor 34 = .ok (.arraylength, 1) := dk_190 (dk_at dksJ1_comparableClassFor_1 10 rfl rfl)
theorem dJ1_comparableClassFor_35 : decode cJ1_comparableClassFor 35 = .ok (.istore 6, 2) := dk_54 6 (dk_at dksJ1_comparableClassFor_1 11 rfl rfl)
theorem dJ1_comparableClassFor_37 : decode cJ1_comparableClassFor 37 = .ok (.iconst 0, 1) := dk_3 (dk_at dksJ1_comparableClassFor_1 13 rfl rfl)
theorem dJ1_comparableClassFor_38 : decode cJ1_comparableClassFor 38 = .ok (.istore 7, 2) := dk_54 7 (dk_at dksJ1_comparableClassFor_1 14 rfl rfl)
theorem dJ1_comparableClassFor_40 : decode cJ1_comparableClassFor 40 = .ok (.iload 7, 2) := dk_21 7 (dk_at dksJ1_comparableClassFor_1 16 rfl rfl)
theorem dJ1_comparableClassFor_42 : decode cJ1_comparableClassFor 42 = .ok (.iload 6, 2) := dk_21 6 (dk_at dksJ1_comparableClassFor_1 18 rfl rfl)
theorem dJ1_comparableClassFor_44 : decode cJ1_comparableClassFor 44 = .ok (.if_icmp .ge 69, 3) := dk_162 0 69 (dk_at dksJ1_comparableClassFor_1 20 rfl rfl)
theorem dJ1_comparableClassFor_47 : decode cJ1_comparableClassFor 47 = .ok (.aload 5, 2) := dk_25 5 (dk_at dksJ1_comparableClassFor_2 0 rfl rfl)
theorem dJ1_comparableClassFor_49 : decode cJ1_comparableClassFor 49 = .ok (.iload 7, 2) := dk_21 7 (dk_at dksJ1_comparableClassFor_2 2 rfl rfl)
theorem dJ1_comparableClassFor_51 : decode cJ1_comparableClassFor 51 = .ok (.aaload, 1) := dk_50 (dk_at dksJ1_comparableClassFor_2 4 rfl rfl)
theorem dJ1_comparableClassFor_52 : decode cJ1_comparableClassFor 52 = .ok (.astore 8, 2) := dk_58 8 (dk_at dksJ1_comparableClassFor_2 5 rfl rfl)
theorem dJ1_comparableClassFor_54 : decode cJ1_comparableClassFor 54 = .ok (.aload 8, 2) := dk_25 8 (dk_at dksJ1_comparableClassFor_2 7 rfl rfl)
theorem dJ1_comparableClassFor_56 : decode cJ1_comparableClassFor 56 = .ok (.instanceof 21, 3) := dk_193 0 21 (dk_at dksJ1_comparableClassFor_2 9 rfl rfl)
theorem dJ1_comparableClassFor_59 : decode cJ1_comparableClassFor 59 = .ok (.ifCond .eq 48, 3) := dk_153 0 48 (dk_at dksJ1_comparableClassFor_2 12 rfl rfl)
theorem dJ1_comparableClassFor_62 : decode cJ1_comparableClassFor 62 = .ok (.aload 8, 2) := dk_25 8 (dk_at dksJ1_comparableClassFor_2 15 rfl rfl)
theorem dJ1_comparableClassFor_64 : decode cJ1_comparableClassFor 64 = .ok (.checkcast 21, 3) := dk_192 0 21 (dk_at dksJ1_comparableClassFor_2 17 rfl rfl)
theorem dJ1_comparableClassFor_67 : decode cJ1_comparableClassFor 67 = .ok (.dup, 1) := dk_89 (dk_at dksJ1_comparableClassFor_2 20 rfl rfl)
theorem dJ1_comparableClassFor_68 : decode cJ1_comparableClassFor 68 = .ok (.astore 4, 2) := dk_58 4 (dk_at dksJ1_comparableClassFor_2 21 rfl rfl)
theorem dJ1_comparableClassFor_70 : decode cJ1_comparableClassFor 70 = .ok (.invokeinterface 23 1, 5) := by decide +kernel
theorem dJ1_comparableClassFor_75 : decode cJ1_comparableClassFor 75 = .ok (.ldc 7, 2) := dk_18 7 (dk_at dksJ1_comparableClassFor_3 5 rfl rfl)
theorem dJ1_comparableClassFor_77 : decode cJ1_comparableClassFor 77 = .ok (.if_acmp .ne 30, 3) := dk_166 0 30 (dk_at dksJ1_comparableClassFor_3 7 rfl rfl)
theorem dJ1_comparableClassFor_80 : decode cJ1_comparableClassFor 80 = .ok (.aload 4, 2) := dk_25 4 (dk_at dksJ1_comparableClassFor_3 10 rfl rfl)
theorem dJ1_comparableClassFor_82 : decode cJ1_comparableClassFor 82 = .ok (.invokeinterface 27 1, 5) := by decide +kernel
theorem dJ1_comparableClassFor_87 : decode cJ1_comparableClassFor 87 = .ok (.dup, 1) := dk_89 (dk_at dksJ1_comparableClassFor_3 17 rfl rfl)
theorem dJ1_comparableClassFor_88 : decode cJ1_comparableClassFor 88 = .ok (.astore_n 3, 1) := dk_78 (dk_at dksJ1_comparableClassFor_3 18 rfl rfl)
theorem dJ1_comparableClassFor_89 : decode cJ1_comparableClassFor 89 = .ok (.ifnull 18, 3) := dk_198 0 18 (dk_at dksJ1_comparableClassFor_3 19 rfl rfl)
theorem dJ1_comparableClassFor_92 : decode cJ1_comparableClassFor 92 = .ok (.aload_n 3, 1) := dk_45 (dk_at dksJ1_comparableClassFor_3 22 rfl rfl)
theorem dJ1_comparableClassFor_93 : decode cJ1_comparableClassFor 93 = .ok (.arraylength, 1) := dk_190 (dk_at dksJ1_comparableClassFor_3 23 rfl rfl)
theorem dJ1_comparableClassFor_94 : decode cJ1_comparableClassFor 94 = .ok (.iconst 1, 1) := dk_4 (dk_at dksJ1_comparableClassFor_4 0 rfl rfl)
theorem dJ1_comparableClassFor_95 : decode cJ1_comparableClassFor 95 = .ok (.if_icmp .ne 12, 3) := dk_160 0 12 (dk_at dksJ1_comparableClassFor_4 1 rfl rfl)
theorem dJ1_comparableClassFor_98 : decode cJ1_comparableClassFor 98 = .ok (.aload_n 3, 1) := dk_45 (dk_at dksJ1_comparableClassFor_4 4 rfl rfl)
theorem dJ1_comparableClassFor_99 : decode cJ1_comparableClassFor 99 = .ok (.iconst 0, 1) := dk_3 (dk_at dksJ1_comparableClassFor_4 5 rfl rfl)
theorem dJ1_comparableClassFor_100 : decode cJ1_comparableClassFor 100 = .ok (.aaload, 1) := dk_50 (dk_at dksJ1_comparableClassFor_4 6 rfl rfl)
theorem dJ1_comparableClassFor_101 : decode cJ1_comparableClassFor 101 = .ok (.aload_n 1, 1) := dk_43 (dk_at dksJ1_comparableClassFor_4 7 rfl rfl)
theorem dJ1_comparableClassFor_102 : decode cJ1_comparableClassFor 102 = .ok (.if_acmp .ne 5, 3) := dk_166 0 5 (dk_at dksJ1_comparableClassFor_4 8 rfl rfl)
theorem dJ1_comparableClassFor_105 : decode cJ1_comparableClassFor 105 = .ok (.aload_n 1, 1) := dk_43 (dk_at dksJ1_comparableClassFor_4 11 rfl rfl)
theorem dJ1_comparableClassFor_106 : decode cJ1_comparableClassFor 106 = .ok (.areturn, 1) := dk_176 (dk_at dksJ1_comparableClassFor_4 12 rfl rfl)
theorem dJ1_comparableClassFor_107 : decode cJ1_comparableClassFor 107 = .ok (.iinc 7 1, 3) := dk_132 7 1 (dk_at dksJ1_comparableClassFor_4 13 rfl rfl)
theorem dJ1_comparableClassFor_110 : decode cJ1_comparableClassFor 110 = .ok (.goto (-70), 3) := dk_167 255 186 (dk_at dksJ1_comparableClassFor_4 16 rfl rfl)
theorem dJ1_comparableClassFor_113 : decode cJ1_comparableClassFor 113 = .ok (.aconst_null, 1) := dk_1 (dk_at dksJ1_comparableClassFor_4 19 rfl rfl)
theorem dJ1_comparableClassFor_114 : decode cJ1_comparableClassFor 114 = .ok (.areturn, 1) := dk_176 (dk_at dksJ1_comparableClassFor_4 20 rfl rfl)
abbrev cJ1_compareComparables : ByteArray := prog_53_method_3_code
def yJ1_compareComparables : MethodName := ⟨RJ1, "compareComparables", "(Ljava/lang/Class;Ljava/lang/Object;Ljava/lang/Object;)I"⟩
def dkwJ1_compareComparables_1 : List UInt8 := [185, 0, 30, 2, 0, 172]
abbrev dktJ1_compareComparables_1 : List UInt8 := dkwJ1_compareComparables_1 ++ []
def dkwJ1_compareComparables_0 : List UInt8 := [44, 198, 0, 11, 44, 182, 0, 9, 42, 165, 0, 7, 3, 167, 0, 13, 43, 192, 0, 7, 44]
abbrev dktJ1_compareComparables_0 : List UInt8 := dkwJ1_compareComparables_0 ++ dktJ1_compareComparables_1
theorem dksJ1_compareComparables_0 : cJ1_compareComparables.data.toList.drop 0 = dktJ1_compareComparables_0 := by decide +kernel
theorem dksJ1_compareComparables_1 : cJ1_compareComparables.data.toList.drop 21 = dktJ1_compareComparables_1 := dk_seg dksJ1_compareComparables_0 21 rfl rfl
theorem dJ1_compareComparables_0 : decode cJ1_compareComparables 0 = .ok (.aload_n 2, 1) := dk_44 (dk_at dksJ1_compareComparables_0 0 rfl rfl)
theorem dJ1_compareComparables_1 : decode cJ1_compareComparables 1 = .ok (.ifnull 11, 3) := dk_198 0 11 (dk_at dksJ1_compareComparables_0 1 rfl rfl)
theorem dJ1_compareComparables_4 : decode cJ1_compareComparables 4 = .ok (.aload_n 2, 1) := dk_44 (dk_at dksJ1_compareComparables_0 4 rfl rfl)
theorem dJ1_compareComparables_5 : decode cJ1_compareComparables 5 = .ok (.invokevirtual 9, 3) := dk_182 0 9 (dk_at dksJ1_compareComparables_0 5 rfl rfl)
theorem dJ1_compareComparables_8 : decode cJ1_compareComparables 8 = .ok (.aload_n 0, 1) := dk_42 (dk_at dksJ1_compareComparables_0 8 rfl rfl)
theorem dJ1_compareComparables_9 : decode cJ1_compareComparables 9 = .ok (.if_acmp .eq 7, 3) := dk_165 0 7 (dk_at dksJ1_compareComparables_0 9 rfl rfl)
theorem dJ1_compareComparables_12 : decode cJ1_compareComparables 12 = .ok (.iconst 0, 1) := dk_3 (dk_at dksJ1_compareComparables_0 12 rfl rfl)
theorem dJ1_compareComparables_13 : decode cJ1_compareComparables 13 = .ok (.goto 13, 3) := dk_167 0 13 (dk_at dksJ1_compareComparables_0 13 rfl rfl)
theorem dJ1_compareComparables_16 : decode cJ1_compareComparables 16 = .ok (.aload_n 1, 1) := dk_43 (dk_at dksJ1_compareComparables_0 16 rfl rfl)
theorem dJ1_compareComparables_17 : decode cJ1_compareComparables 17 = .ok (.checkcast 7, 3) := dk_192 0 7 (dk_at dksJ1_compareComparables_0 17 rfl rfl)
theorem dJ1_compareComparables_20 : decode cJ1_compareComparables 20 = .ok (.aload_n 2, 1) := dk_44 (dk_at dksJ1_compareComparables_0 20 rfl rfl)
theorem dJ1_compareComparables_21 : decode cJ1_compareComparables 21 = .ok (.invokeinterface 30 2, 5) := by decide +kernel
theorem dJ1_compareComparables_26 : decode cJ1_compareComparables 26 = .ok (.ireturn, 1) := dk_172 (dk_at dksJ1_compareComparables_1 5 rfl rfl)
abbrev cJ1_newNode : ByteArray := prog_53_method_46_code
def yJ1_newNode : MethodName := ⟨RJ1, "newNode", "(ILjava/lang/Object;Ljava/lang/Object;Ljava/util/HashMap$Node;)Ljava/util/HashMap$Node;"⟩
def dkwJ1_newNode_0 : List UInt8 := [187, 0, 163, 89, 27, 44, 45, 25, 4, 183, 1, 119, 176]
abbrev dktJ1_newNode_0 : List UInt8 := dkwJ1_newNode_0 ++ []
theorem dksJ1_newNode_0 : cJ1_newNode.data.toList.drop 0 = dktJ1_newNode_0 := by decide +kernel
theorem dJ1_newNode_0 : decode cJ1_newNode 0 = .ok (.new 163, 3) := dk_187 0 163 (dk_at dksJ1_newNode_0 0 rfl rfl)
theorem dJ1_newNode_3 : decode cJ1_newNode 3 = .ok (.dup, 1) := dk_89 (dk_at dksJ1_newNode_0 3 rfl rfl)
theorem dJ1_newNode_4 : decode cJ1_newNode 4 = .ok (.iload_n 1, 1) := dk_27 (dk_at dksJ1_newNode_0 4 rfl rfl)
theorem dJ1_newNode_5 : decode cJ1_newNode 5 = .ok (.aload_n 2, 1) := dk_44 (dk_at dksJ1_newNode_0 5 rfl rfl)
theorem dJ1_newNode_6 : decode cJ1_newNode 6 = .ok (.aload_n 3, 1) := dk_45 (dk_at dksJ1_newNode_0 6 rfl rfl)
theorem dJ1_newNode_7 : decode cJ1_newNode 7 = .ok (.aload 4, 2) := dk_25 4 (dk_at dksJ1_newNode_0 7 rfl rfl)
theorem dJ1_newNode_9 : decode cJ1_newNode 9 = .ok (.invokespecial 375, 3) := dk_183 1 119 (dk_at dksJ1_newNode_0 9 rfl rfl)
theorem dJ1_newNode_12 : decode cJ1_newNode 12 = .ok (.areturn, 1) := dk_176 (dk_at dksJ1_newNode_0 12 rfl rfl)
abbrev cJ1_newTreeNode : ByteArray := prog_53_method_48_code
def yJ1_newTreeNode : MethodName := ⟨RJ1, "newTreeNode", "(ILjava/lang/Object;Ljava/lang/Object;Ljava/util/HashMap$Node;)Ljava/util/HashMap$TreeNode;"⟩
def dkwJ1_newTreeNode_0 : List UInt8 := [187, 0, 180, 89, 27, 44, 45, 25, 4, 183, 1, 122, 176]
abbrev dktJ1_newTreeNode_0 : List UInt8 := dkwJ1_newTreeNode_0 ++ []
theorem dksJ1_newTreeNode_0 : cJ1_newTreeNode.data.toList.drop 0 = dktJ1_newTreeNode_0 := by decide +kernel
theorem dJ1_newTreeNode_0 : decode cJ1_newTreeNode 0 = .ok (.new 180, 3) := dk_187 0 180 (dk_at dksJ1_newTreeNode_0 0 rfl rfl)
theorem dJ1_newTreeNode_3 : decode cJ1_newTreeNode 3 = .ok (.dup, 1) := dk_89 (dk_at dksJ1_newTreeNode_0 3 rfl rfl)
theorem dJ1_newTreeNode_4 : decode cJ1_newTreeNode 4 = .ok (.iload_n 1, 1) := dk_27 (dk_at dksJ1_newTreeNode_0 4 rfl rfl)
theorem dJ1_newTreeNode_5 : decode cJ1_newTreeNode 5 = .ok (.aload_n 2, 1) := dk_44 (dk_at dksJ1_newTreeNode_0 5 rfl rfl)
theorem dJ1_newTreeNode_6 : decode cJ1_newTreeNode 6 = .ok (.aload_n 3, 1) := dk_45 (dk_at dksJ1_newTreeNode_0 6 rfl rfl)
theorem dJ1_newTreeNode_7 : decode cJ1_newTreeNode 7 = .ok (.aload 4, 2) := dk_25 4 (dk_at dksJ1_newTreeNode_0 7 rfl rfl)
theorem dJ1_newTreeNode_9 : decode cJ1_newTreeNode 9 = .ok (.invokespecial 378, 3) := dk_183 1 122 (dk_at dksJ1_newTreeNode_0 9 rfl rfl)
theorem dJ1_newTreeNode_12 : decode cJ1_newTreeNode 12 = .ok (.areturn, 1) := dk_176 (dk_at dksJ1_newTreeNode_0 12 rfl rfl)
abbrev cJ1_treeifyBin : ByteArray := prog_53_method_18_code
def yJ1_treeifyBin : MethodName := ⟨RJ1, "treeifyBin", "([Ljava/util/HashMap$Node;I)V"⟩
def dkwJ1_treeifyBin_4 : List UInt8 := [21, 4, 25, 6, 91, 83, 198, 0, 9, 25, 6, 43, 182, 0, 224, 177]
abbrev dktJ1_treeifyBin_4 : List UInt8 := dkwJ1_treeifyBin_4 ++ []
def dkwJ1_treeifyBin_3 : List UInt8 := [25, 7, 25, 8, 181, 0, 223, 25, 8, 58, 7, 25, 5, 180, 0, 177, 89, 58, 5, 199, 255, 209, 43]
abbrev dktJ1_treeifyBin_3 : List UInt8 := dkwJ1_treeifyBin_3 ++ dktJ1_treeifyBin_4
def dkwJ1_treeifyBin_2 : List UInt8 := [182, 0, 215, 58, 8, 25, 7, 199, 0, 10, 25, 8, 58, 6, 167, 0, 17, 25, 8, 25, 7, 181, 0, 219]
abbrev dktJ1_treeifyBin_2 : List UInt8 := dkwJ1_treeifyBin_2 ++ dktJ1_treeifyBin_3
def dkwJ1_treeifyBin_1 : List UInt8 := [100, 28, 126, 89, 54, 4, 50, 89, 58, 5, 198, 0, 75, 1, 58, 6, 1, 58, 7, 42, 25, 5, 1]
abbrev dktJ1_treeifyBin_1 : List UInt8 := dkwJ1_treeifyBin_1 ++ dktJ1_treeifyBin_2
def dkwJ1_treeifyBin_0 : List UInt8 := [43, 198, 0, 12, 43, 190, 89, 62, 16, 64, 162, 0, 11, 42, 182, 0, 117, 87, 167, 0, 91, 43, 29, 4]
abbrev dktJ1_treeifyBin_0 : List UInt8 := dkwJ1_treeifyBin_0 ++ dktJ1_treeifyBin_1
theorem dksJ1_treeifyBin_0 : cJ1_treeifyBin.data.toList.drop 0 = dktJ1_treeifyBin_0 := by decide +kernel
theorem dksJ1_treeifyBin_1 : cJ1_treeifyBin.data.toList.drop 24 = dktJ1_treeifyBin_1 := dk_seg dksJ1_treeifyBin_0 24 rfl rfl
theorem dksJ1_treeifyBin_2 : cJ1_treeifyBin.data.toList.drop 47 = dktJ1_treeifyBin_2 := dk_seg dksJ1_treeifyBin_1 23 rfl rfl
theorem dksJ1_treeifyBin_3 : cJ1_treeifyBin.data.toList.drop 71 = dktJ1_treeifyBin_3 := dk_seg dksJ1_treeifyBin_2 24 rfl rfl
theorem dksJ1_treeifyBin_4 : cJ1_treeifyBin.data.toList.drop 94 = dktJ1_treeifyBin_4 := dk_seg dksJ1_treeifyBin_3 23 rfl rfl
theorem dJ1_treeifyBin_0 : decode cJ1_treeifyBin 0 = .ok (.aload_n 1, 1) := dk_43 (dk_at dksJ1_treeifyBin_0 0 rfl rfl)
theorem dJ1_treeifyBin_1 : decode cJ1_treeifyBin 1 = .ok (.ifnull 12, 3) := dk_198 0 12 (dk_at dksJ1_treeifyBin_0 1 rfl rfl)
theorem dJ1_treeifyBin_4 : decode cJ1_treeifyBin 4 = .ok (.aload_n 1, 1) := dk_43 (dk_at dksJ1_treeifyBin_0 4 rfl rfl)
theorem dJ1_treeifyBin_5 : decode cJ1_treeifyBin 5 = .ok (.arraylength, 1) := dk_190 (dk_at dksJ1_treeifyBin_0 5 rfl rfl)
theorem dJ1_treeifyBin_6 : decode cJ1_treeifyBin 6 = .ok (.dup, 1) := dk_89 (dk_at dksJ1_treeifyBin_0 6 rfl rfl)
theorem dJ1_treeifyBin_7 : decode cJ1_treeifyBin 7 = .ok (.istore_n 3, 1) := dk_62 (dk_at dksJ1_treeifyBin_0 7 rfl rfl)
theorem dJ1_treeifyBin_8 : decode cJ1_treeifyBin 8 = .ok (.bipush 64, 2) := dk_16 64 (dk_at dksJ1_treeifyBin_0 8 rfl rfl)
theorem dJ1_treeifyBin_10 : decode cJ1_treeifyBin 10 = .ok (.if_icmp .ge 11, 3) := dk_162 0 11 (dk_at dksJ1_treeifyBin_0 10 rfl rfl)
theorem dJ1_treeifyBin_13 : decode cJ1_treeifyBin 13 = .ok (.aload_n 0, 1) := dk_42 (dk_at dksJ1_treeifyBin_0 13 rfl rfl)
theorem dJ1_treeifyBin_14 : decode cJ1_treeifyBin 14 = .ok (.invokevirtual 117, 3) := dk_182 0 117 (dk_at dksJ1_treeifyBin_0 14 rfl rfl)
theorem dJ1_treeifyBin_17 : decode cJ1_treeifyBin 17 = .ok (.pop, 1) := dk_87 (dk_at dksJ1_treeifyBin_0 17 rfl rfl)
theorem dJ1_treeifyBin_18 : decode cJ1_treeifyBin 18 = .ok (.goto 91, 3) := dk_167 0 91 (dk_at dksJ1_treeifyBin_0 18 rfl rfl)
theorem dJ1_treeifyBin_21 : decode cJ1_treeifyBin 21 = .ok (.aload_n 1, 1) := dk_43 (dk_at dksJ1_treeifyBin_0 21 rfl rfl)
theorem dJ1_treeifyBin_22 : decode cJ1_treeifyBin 22 = .ok (.iload_n 3, 1) := dk_29 (dk_at dksJ1_treeifyBin_0 22 rfl rfl)
theorem dJ1_treeifyBin_23 : decode cJ1_treeifyBin 23 = .ok (.iconst 1, 1) := dk_4 (dk_at dksJ1_treeifyBin_0 23 rfl rfl)
theorem dJ1_treeifyBin_24 : decode cJ1_treeifyBin 24 = .ok (.isub, 1) := dk_100 (dk_at dksJ1_treeifyBin_1 0 rfl rfl)
theorem dJ1_treeifyBin_25 : decode cJ1_treeifyBin 25 = .ok (.iload_n 2, 1) := dk_28 (dk_at dksJ1_treeifyBin_1 1 rfl rfl)
theorem dJ1_treeifyBin_26 : decode cJ1_treeifyBin 26 = .ok (.iand, 1) := dk_126 (dk_at dksJ1_treeifyBin_1 2 rfl rfl)
theorem dJ1_treeifyBin_27 : decode cJ1_treeifyBin 27 = .ok (.dup, 1) := dk_89 (dk_at dksJ1_treeifyBin_1 3 rfl rfl)
theorem dJ1_treeifyBin_28 : decode cJ1_treeifyBin 28 = .ok (.istore 4, 2) := dk_54 4 (dk_at dksJ1_treeifyBin_1 4 rfl rfl)
theorem dJ1_treeifyBin_30 : decode cJ1_treeifyBin 30 = .ok (.aaload, 1) := dk_50 (dk_at dksJ1_treeifyBin_1 6 rfl rfl)
theorem dJ1_treeifyBin_31 : decode cJ1_treeifyBin 31 = .ok (.dup, 1) := dk_89 (dk_at dksJ1_treeifyBin_1 7 rfl rfl)
theorem dJ1_treeifyBin_32 : decode cJ1_treeifyBin 32 = .ok (.astore 5, 2) := dk_58 5 (dk_at dksJ1_treeifyBin_1 8 rfl rfl)
theorem dJ1_treeifyBin_34 : decode cJ1_treeifyBin 34 = .ok (.ifnull 75, 3) := dk_198 0 75 (dk_at dksJ1_treeifyBin_1 10 rfl rfl)
theorem dJ1_treeifyBin_37 : decode cJ1_treeifyBin 37 = .ok (.aconst_null, 1) := dk_1 (dk_at dksJ1_treeifyBin_1 13 rfl rfl)
theorem dJ1_treeifyBin_38 : decode cJ1_treeifyBin 38 = .ok (.astore 6, 2) := dk_58 6 (dk_at dksJ1_treeifyBin_1 14 rfl rfl)
theorem dJ1_treeifyBin_40 : decode cJ1_treeifyBin 40 = .ok (.aconst_null, 1) := dk_1 (dk_at dksJ1_treeifyBin_1 16 rfl rfl)
theorem dJ1_treeifyBin_41 : decode cJ1_treeifyBin 41 = .ok (.astore 7, 2) := dk_58 7 (dk_at dksJ1_treeifyBin_1 17 rfl rfl)
theorem dJ1_treeifyBin_43 : decode cJ1_treeifyBin 43 = .ok (.aload_n 0, 1) := dk_42 (dk_at dksJ1_treeifyBin_1 19 rfl rfl)
theorem dJ1_treeifyBin_44 : decode cJ1_treeifyBin 44 = .ok (.aload 5, 2) := dk_25 5 (dk_at dksJ1_treeifyBin_1 20 rfl rfl)
theorem dJ1_treeifyBin_46 : decode cJ1_treeifyBin 46 = .ok (.aconst_null, 1) := dk_1 (dk_at dksJ1_treeifyBin_1 22 rfl rfl)
theorem dJ1_treeifyBin_47 : decode cJ1_treeifyBin 47 = .ok (.invokevirtual 215, 3) := dk_182 0 215 (dk_at dksJ1_treeifyBin_2 0 rfl rfl)
theorem dJ1_treeifyBin_50 : decode cJ1_treeifyBin 50 = .ok (.astore 8, 2) := dk_58 8 (dk_at dksJ1_treeifyBin_2 3 rfl rfl)
theorem dJ1_treeifyBin_52 : decode cJ1_treeifyBin 52 = .ok (.aload 7, 2) := dk_25 7 (dk_at dksJ1_treeifyBin_2 5 rfl rfl)
theorem dJ1_treeifyBin_54 : decode cJ1_treeifyBin 54 = .ok (.ifnonnull 10, 3) := dk_199 0 10 (dk_at dksJ1_treeifyBin_2 7 rfl rfl)
theorem dJ1_treeifyBin_57 : decode cJ1_treeifyBin 57 = .ok (.aload 8, 2) := dk_25 8 (dk_at dksJ1_treeifyBin_2 10 rfl rfl)
theorem dJ1_treeifyBin_59 : decode cJ1_treeifyBin 59 = .ok (.astore 6, 2) := dk_58 6 (dk_at dksJ1_treeifyBin_2 12 rfl rfl)
theorem dJ1_treeifyBin_61 : decode cJ1_treeifyBin 61 = .ok (.goto 17, 3) := dk_167 0 17 (dk_at dksJ1_treeifyBin_2 14 rfl rfl)
theorem dJ1_treeifyBin_64 : decode cJ1_treeifyBin 64 = .ok (.aload 8, 2) := dk_25 8 (dk_at dksJ1_treeifyBin_2 17 rfl rfl)
theorem dJ1_treeifyBin_66 : decode cJ1_treeifyBin 66 = .ok (.aload 7, 2) := dk_25 7 (dk_at dksJ1_treeifyBin_2 19 rfl rfl)
theorem dJ1_treeifyBin_68 : decode cJ1_treeifyBin 68 = .ok (.putfield 219, 3) := dk_181 0 219 (dk_at dksJ1_treeifyBin_2 21 rfl rfl)
theorem dJ1_treeifyBin_71 : decode cJ1_treeifyBin 71 = .ok (.aload 7, 2) := dk_25 7 (dk_at dksJ1_treeifyBin_3 0 rfl rfl)
theorem dJ1_treeifyBin_73 : decode cJ1_treeifyBin 73 = .ok (.aload 8, 2) := dk_25 8 (dk_at dksJ1_treeifyBin_3 2 rfl rfl)
theorem dJ1_treeifyBin_75 : decode cJ1_treeifyBin 75 = .ok (.putfield 223, 3) := dk_181 0 223 (dk_at dksJ1_treeifyBin_3 4 rfl rfl)
theorem dJ1_treeifyBin_78 : decode cJ1_treeifyBin 78 = .ok (.aload 8, 2) := dk_25 8 (dk_at dksJ1_treeifyBin_3 7 rfl rfl)
theorem dJ1_treeifyBin_80 : decode cJ1_treeifyBin 80 = .ok (.astore 7, 2) := dk_58 7 (dk_at dksJ1_treeifyBin_3 9 rfl rfl)
theorem dJ1_treeifyBin_82 : decode cJ1_treeifyBin 82 = .ok (.aload 5, 2) := dk_25 5 (dk_at dksJ1_treeifyBin_3 11 rfl rfl)
theorem dJ1_treeifyBin_84 : decode cJ1_treeifyBin 84 = .ok (.getfield 177, 3) := dk_180 0 177 (dk_at dksJ1_treeifyBin_3 13 rfl rfl)
theorem dJ1_treeifyBin_87 : decode cJ1_treeifyBin 87 = .ok (.dup, 1) := dk_89 (dk_at dksJ1_treeifyBin_3 16 rfl rfl)
theorem dJ1_treeifyBin_88 : decode cJ1_treeifyBin 88 = .ok (.astore 5, 2) := dk_58 5 (dk_at dksJ1_treeifyBin_3 17 rfl rfl)
theorem dJ1_treeifyBin_90 : decode cJ1_treeifyBin 90 = .ok (.ifnonnull (-47), 3) := dk_199 255 209 (dk_at dksJ1_treeifyBin_3 19 rfl rfl)
theorem dJ1_treeifyBin_93 : decode cJ1_treeifyBin 93 = .ok (.aload_n 1, 1) := dk_43 (dk_at dksJ1_treeifyBin_3 22 rfl rfl)
theorem dJ1_treeifyBin_94 : decode cJ1_treeifyBin 94 = .ok (.iload 4, 2) := dk_21 4 (dk_at dksJ1_treeifyBin_4 0 rfl rfl)
theorem dJ1_treeifyBin_96 : decode cJ1_treeifyBin 96 = .ok (.aload 6, 2) := dk_25 6 (dk_at dksJ1_treeifyBin_4 2 rfl rfl)
theorem dJ1_treeifyBin_98 : decode cJ1_treeifyBin 98 = .ok (.dup_x2, 1) := dk_91 (dk_at dksJ1_treeifyBin_4 4 rfl rfl)
theorem dJ1_treeifyBin_99 : decode cJ1_treeifyBin 99 = .ok (.aastore, 1) := dk_83 (dk_at dksJ1_treeifyBin_4 5 rfl rfl)
theorem dJ1_treeifyBin_100 : decode cJ1_treeifyBin 100 = .ok (.ifnull 9, 3) := dk_198 0 9 (dk_at dksJ1_treeifyBin_4 6 rfl rfl)
theorem dJ1_treeifyBin_103 : decode cJ1_treeifyBin 103 = .ok (.aload 6, 2) := dk_25 6 (dk_at dksJ1_treeifyBin_4 9 rfl rfl)
theorem dJ1_treeifyBin_105 : decode cJ1_treeifyBin 105 = .ok (.aload_n 1, 1) := dk_43 (dk_at dksJ1_treeifyBin_4 11 rfl rfl)
theorem dJ1_treeifyBin_106 : decode cJ1_treeifyBin 106 = .ok (.invokevirtual 224, 3) := dk_182 0 224 (dk_at dksJ1_treeifyBin_4 12 rfl rfl)
theorem dJ1_treeifyBin_109 : decode cJ1_treeifyBin 109 = .ok (.return_, 1) := dk_177 (dk_at dksJ1_treeifyBin_4 15 rfl rfl)
abbrev cJ1_replacementTreeNode : ByteArray := prog_53_method_49_code
def yJ1_replacementTreeNode : MethodName := ⟨RJ1, "replacementTreeNode", "(Ljava/util/HashMap$Node;Ljava/util/HashMap$Node;)Ljava/util/HashMap$TreeNode;"⟩
def dkwJ1_replacementTreeNode_0 : List UInt8 := [187, 0, 180, 89, 43, 180, 0, 168, 43, 180, 0, 170, 43, 180, 0, 162, 44, 183, 1, 122, 176]
abbrev dktJ1_replacementTreeNode_0 : List UInt8 := dkwJ1_replacementTreeNode_0 ++ []
theorem dksJ1_replacementTreeNode_0 : cJ1_replacementTreeNode.data.toList.drop 0 = dktJ1_replacementTreeNode_0 := by decide +kernel
theorem dJ1_replacementTreeNode_0 : decode cJ1_replacementTreeNode 0 = .ok (.new 180, 3) := dk_187 0 180 (dk_at dksJ1_replacementTreeNode_0 0 rfl rfl)
theorem dJ1_replacementTreeNode_3 : decode cJ1_replacementTreeNode 3 = .ok (.dup, 1) := dk_89 (dk_at dksJ1_replacementTreeNode_0 3 rfl rfl)
theorem dJ1_replacementTreeNode_4 : decode cJ1_replacementTreeNode 4 = .ok (.aload_n 1, 1) := dk_43 (dk_at dksJ1_replacementTreeNode_0 4 rfl rfl)
theorem dJ1_replacementTreeNode_5 : decode cJ1_replacementTreeNode 5 = .ok (.getfield 168, 3) := dk_180 0 168 (dk_at dksJ1_replacementTreeNode_0 5 rfl rfl)
theorem dJ1_replacementTreeNode_8 : decode cJ1_replacementTreeNode 8 = .ok (.aload_n 1, 1) := dk_43 (dk_at dksJ1_replacementTreeNode_0 8 rfl rfl)
theorem dJ1_replacementTreeNode_9 : decode cJ1_replacementTreeNode 9 = .ok (.getfield 170, 3) := dk_180 0 170 (dk_at dksJ1_replacementTreeNode_0 9 rfl rfl)
theorem dJ1_replacementTreeNode_12 : decode cJ1_replacementTreeNode 12 = .ok (.aload_n 1, 1) := dk_43 (dk_at dksJ1_replacementTreeNode_0 12 rfl rfl)
theorem dJ1_replacementTreeNode_13 : decode cJ1_replacementTreeNode 13 = .ok (.getfield 162, 3) := dk_180 0 162 (dk_at dksJ1_replacementTreeNode_0 13 rfl rfl)
theorem dJ1_replacementTreeNode_16 : decode cJ1_replacementTreeNode 16 = .ok (.aload_n 2, 1) := dk_44 (dk_at dksJ1_replacementTreeNode_0 16 rfl rfl)
theorem dJ1_replacementTreeNode_17 : decode cJ1_replacementTreeNode 17 = .ok (.invokespecial 378, 3) := dk_183 1 122 (dk_at dksJ1_replacementTreeNode_0 17 rfl rfl)
theorem dJ1_replacementTreeNode_20 : decode cJ1_replacementTreeNode 20 = .ok (.areturn, 1) := dk_176 (dk_at dksJ1_replacementTreeNode_0 20 rfl rfl)
abbrev cJ1_afterNodeAccess : ByteArray := prog_53_method_51_code
def yJ1_afterNodeAccess : MethodName := ⟨RJ1, "afterNodeAccess", "(Ljava/util/HashMap$Node;)V"⟩
theorem dJ1_afterNodeAccess_0 : decode cJ1_afterNodeAccess 0 = .ok (.return_, 1) := by decide +kernel
abbrev cJ1_afterNodeInsertion : ByteArray := prog_53_method_52_code
def yJ1_afterNodeInsertion : MethodName := ⟨RJ1, "afterNodeInsertion", "(Z)V"⟩
theorem dJ1_afterNodeInsertion_0 : decode cJ1_afterNodeInsertion 0 = .ok (.return_, 1) := by decide +kernel
abbrev cJ1_get : ByteArray := prog_53_method_12_code
def yJ1_get : MethodName := ⟨RJ1, "get", "(Ljava/lang/Object;)Ljava/lang/Object;"⟩
def dkwJ1_get_0 : List UInt8 := [42, 43, 182, 0, 158, 89, 77, 199, 0, 7, 1, 167, 0, 7, 44, 180, 0, 162, 176]
abbrev dktJ1_get_0 : List UInt8 := dkwJ1_get_0 ++ []
theorem dksJ1_get_0 : cJ1_get.data.toList.drop 0 = dktJ1_get_0 := by decide +kernel
theorem dJ1_get_0 : decode cJ1_get 0 = .ok (.aload_n 0, 1) := dk_42 (dk_at dksJ1_get_0 0 rfl rfl)
theorem dJ1_get_1 : decode cJ1_get 1 = .ok (.aload_n 1, 1) := dk_43 (dk_at dksJ1_get_0 1 rfl rfl)
theorem dJ1_get_2 : decode cJ1_get 2 = .ok (.invokevirtual 158, 3) := dk_182 0 158 (dk_at dksJ1_get_0 2 rfl rfl)
theorem dJ1_get_5 : decode cJ1_get 5 = .ok (.dup, 1) := dk_89 (dk_at dksJ1_get_0 5 rfl rfl)
theorem dJ1_get_6 : decode cJ1_get 6 = .ok (.astore_n 2, 1) := dk_77 (dk_at dksJ1_get_0 6 rfl rfl)
theorem dJ1_get_7 : decode cJ1_get 7 = .ok (.ifnonnull 7, 3) := dk_199 0 7 (dk_at dksJ1_get_0 7 rfl rfl)
theorem dJ1_get_10 : decode cJ1_get 10 = .ok (.aconst_null, 1) := dk_1 (dk_at dksJ1_get_0 10 rfl rfl)
theorem dJ1_get_11 : decode cJ1_get 11 = .ok (.goto 7, 3) := dk_167 0 7 (dk_at dksJ1_get_0 11 rfl rfl)
theorem dJ1_get_14 : decode cJ1_get 14 = .ok (.aload_n 2, 1) := dk_44 (dk_at dksJ1_get_0 14 rfl rfl)
theorem dJ1_get_15 : decode cJ1_get 15 = .ok (.getfield 162, 3) := dk_180 0 162 (dk_at dksJ1_get_0 15 rfl rfl)
theorem dJ1_get_18 : decode cJ1_get 18 = .ok (.areturn, 1) := dk_176 (dk_at dksJ1_get_0 18 rfl rfl)
abbrev cJ1_getNode : ByteArray := prog_53_method_13_code
def yJ1_getNode : MethodName := ⟨RJ1, "getNode", "(Ljava/lang/Object;)Ljava/util/HashMap$Node;"⟩
def dkwJ1_getNode_6 : List UInt8 := [89, 58, 4, 199, 255, 210, 1, 176]
abbrev dktJ1_getNode_6 : List UInt8 := dkwJ1_getNode_6 ++ []
def dkwJ1_getNode_5 : List UInt8 := [165, 0, 16, 43, 198, 0, 15, 43, 25, 7, 182, 0, 173, 153, 0, 6, 25, 4, 176, 25, 4, 180, 0, 177]
abbrev dktJ1_getNode_5 : List UInt8 := dkwJ1_getNode_5 ++ dktJ1_getNode_6
def dkwJ1_getNode_4 : List UInt8 := [43, 182, 0, 182, 176, 25, 4, 180, 0, 168, 21, 6, 160, 0, 31, 25, 4, 180, 0, 170, 89, 58, 7, 43]
abbrev dktJ1_getNode_4 : List UInt8 := dkwJ1_getNode_4 ++ dktJ1_getNode_5
def dkwJ1_getNode_3 : List UInt8 := [176, 45, 180, 0, 177, 89, 58, 4, 198, 0, 70, 45, 193, 0, 180, 153, 0, 14, 45, 192, 0, 180, 21, 6]
abbrev dktJ1_getNode_3 : List UInt8 := dkwJ1_getNode_3 ++ dktJ1_getNode_4
def dkwJ1_getNode_2 : List UInt8 := [180, 0, 170, 89, 58, 7, 43, 165, 0, 16, 43, 198, 0, 14, 43, 25, 7, 182, 0, 173, 153, 0, 5, 45]
abbrev dktJ1_getNode_2 : List UInt8 := dkwJ1_getNode_2 ++ dktJ1_getNode_3
def dkwJ1_getNode_1 : List UInt8 := [184, 0, 149, 89, 54, 6, 126, 50, 89, 78, 198, 0, 115, 45, 180, 0, 168, 21, 6, 160, 0, 29, 45]
abbrev dktJ1_getNode_1 : List UInt8 := dkwJ1_getNode_1 ++ dktJ1_getNode_2
def dkwJ1_getNode_0 : List UInt8 := [42, 180, 0, 105, 89, 77, 198, 0, 142, 44, 190, 89, 54, 5, 158, 0, 134, 44, 21, 5, 4, 100, 43]
abbrev dktJ1_getNode_0 : List UInt8 := dkwJ1_getNode_0 ++ dktJ1_getNode_1
theorem dksJ1_getNode_0 : cJ1_getNode.data.toList.drop 0 = dktJ1_getNode_0 := by decide +kernel
theorem dksJ1_getNode_1 : cJ1_getNode.data.toList.drop 23 = dktJ1_getNode_1 := dk_seg dksJ1_getNode_0 23 rfl rfl
theorem dksJ1_getNode_2 : cJ1_getNode.data.toList.drop 46 = dktJ1_getNode_2 := dk_seg dksJ1_getNode_1 23 rfl rfl
theorem dksJ1_getNode_3 : cJ1_getNode.data.toList.drop 70 = dktJ1_getNode_3 := dk_seg dksJ1_getNode_2 24 rfl rfl
theorem dksJ1_getNode_4 : cJ1_getNode.data.toList.drop 94 = dktJ1_getNode_4 := dk_seg dksJ1_getNode_3 24 rfl rfl
theorem dksJ1_getNode_5 : cJ1_getNode.data.toList.drop 118 = dktJ1_getNode_5 := dk_seg dksJ1_getNode_4 24 rfl rfl
theorem dksJ1_getNode_6 : cJ1_getNode.data.toList.drop 142 = dktJ1_getNode_6 := dk_seg dksJ1_getNode_5 24 rfl rfl
theorem dJ1_getNode_0 : decode cJ1_getNode 0 = .ok (.aload_n 0, 1) := dk_42 (dk_at dksJ1_getNode_0 0 rfl rfl)
theorem dJ1_getNode_1 : decode cJ1_getNode 1 = .ok (.getfield 105, 3) := dk_180 0 105 (dk_at dksJ1_getNode_0 1 rfl rfl)
theorem dJ1_getNode_4 : decode cJ1_getNode 4 = .ok (.dup, 1) := dk_89 (dk_at dksJ1_getNode_0 4 rfl rfl)
theorem dJ1_getNode_5 : decode cJ1_getNode 5 = .ok (.astore_n 2, 1) := dk_77 (dk_at dksJ1_getNode_0 5 rfl rfl)
theorem dJ1_getNode_6 : decode cJ1_getNode 6 = .ok (.ifnull 142, 3) := dk_198 0 142 (dk_at dksJ1_getNode_0 6 rfl rfl)
theorem dJ1_getNode_9 : decode cJ1_getNode 9 = .ok (.aload_n 2, 1) := dk_44 (dk_at dksJ1_getNode_0 9 rfl rfl)
theorem dJ1_getNode_10 : decode cJ1_getNode 10 = .ok (.arraylength, 1) := dk_190 (dk_at dksJ1_getNode_0 10 rfl rfl)
theorem dJ1_getNode_11 : decode cJ1_getNode 11 = .ok (.dup, 1) := dk_89 (dk_at dksJ1_getNode_0 11 rfl rfl)
theorem dJ1_getNode_12 : decode cJ1_getNode 12 = .ok (.istore 5, 2) := dk_54 5 (dk_at dksJ1_getNode_0 12 rfl rfl)
theorem dJ1_getNode_14 : decode cJ1_getNode 14 = .ok (.ifCond .le 134, 3) := dk_158 0 134 (dk_at dksJ1_getNode_0 14 rfl rfl)
theorem dJ1_getNode_17 : decode cJ1_getNode 17 = .ok (.aload_n 2, 1) := dk_44 (dk_at dksJ1_getNode_0 17 rfl rfl)
theorem dJ1_getNode_18 : decode cJ1_getNode 18 = .ok (.iload 5, 2) := dk_21 5 (dk_at dksJ1_getNode_0 18 rfl rfl)
theorem dJ1_getNode_20 : decode cJ1_getNode 20 = .ok (.iconst 1, 1) := dk_4 (dk_at dksJ1_getNode_0 20 rfl rfl)
theorem dJ1_getNode_21 : decode cJ1_getNode 21 = .ok (.isub, 1) := dk_100 (dk_at dksJ1_getNode_0 21 rfl rfl)
theorem dJ1_getNode_22 : decode cJ1_getNode 22 = .ok (.aload_n 1, 1) := dk_43 (dk_at dksJ1_getNode_0 22 rfl rfl)
theorem dJ1_getNode_23 : decode cJ1_getNode 23 = .ok (.invokestatic 149, 3) := dk_184 0 149 (dk_at dksJ1_getNode_1 0 rfl rfl)
theorem dJ1_getNode_26 : decode cJ1_getNode 26 = .ok (.dup, 1) := dk_89 (dk_at dksJ1_getNode_1 3 rfl rfl)
theorem dJ1_getNode_27 : decode cJ1_getNode 27 = .ok (.istore 6, 2) := dk_54 6 (dk_at dksJ1_getNode_1 4 rfl rfl)
theorem dJ1_getNode_29 : decode cJ1_getNode 29 = .ok (.iand, 1) := dk_126 (dk_at dksJ1_getNode_1 6 rfl rfl)
theorem dJ1_getNode_30 : decode cJ1_getNode 30 = .ok (.aaload, 1) := dk_50 (dk_at dksJ1_getNode_1 7 rfl rfl)
theorem dJ1_getNode_31 : decode cJ1_getNode 31 = .ok (.dup, 1) := dk_89 (dk_at dksJ1_getNode_1 8 rfl rfl)
theorem dJ1_getNode_32 : decode cJ1_getNode 32 = .ok (.astore_n 3, 1) := dk_78 (dk_at dksJ1_getNode_1 9 rfl rfl)
theorem dJ1_getNode_33 : decode cJ1_getNode 33 = .ok (.ifnull 115, 3) := dk_198 0 115 (dk_at dksJ1_getNode_1 10 rfl rfl)
theorem dJ1_getNode_36 : decode cJ1_getNode 36 = .ok (.aload_n 3, 1) := dk_45 (dk_at dksJ1_getNode_1 13 rfl rfl)
theorem dJ1_getNode_37 : decode cJ1_getNode 37 = .ok (.getfield 168, 3) := dk_180 0 168 (dk_at dksJ1_getNode_1 14 rfl rfl)
theorem dJ1_getNode_40 : decode cJ1_getNode 40 = .ok (.iload 6, 2) := dk_21 6 (dk_at dksJ1_getNode_1 17 rfl rfl)
theorem dJ1_getNode_42 : decode cJ1_getNode 42 = .ok (.if_icmp .ne 29, 3) := dk_160 0 29 (dk_at dksJ1_getNode_1 19 rfl rfl)
theorem dJ1_getNode_45 : decode cJ1_getNode 45 = .ok (.aload_n 3, 1) := dk_45 (dk_at dksJ1_getNode_1 22 rfl rfl)
theorem dJ1_getNode_46 : decode cJ1_getNode 46 = .ok (.getfield 170, 3) := dk_180 0 170 (dk_at dksJ1_getNode_2 0 rfl rfl)
theorem dJ1_getNode_49 : decode cJ1_getNode 49 = .ok (.dup, 1) := dk_89 (dk_at dksJ1_getNode_2 3 rfl rfl)
theorem dJ1_getNode_50 : decode cJ1_getNode 50 = .ok (.astore 7, 2) := dk_58 7 (dk_at dksJ1_getNode_2 4 rfl rfl)
theorem dJ1_getNode_52 : decode cJ1_getNode 52 = .ok (.aload_n 1, 1) := dk_43 (dk_at dksJ1_getNode_2 6 rfl rfl)
theorem dJ1_getNode_53 : decode cJ1_getNode 53 = .ok (.if_acmp .eq 16, 3) := dk_165 0 16 (dk_at dksJ1_getNode_2 7 rfl rfl)
theorem dJ1_getNode_56 : decode cJ1_getNode 56 = .ok (.aload_n 1, 1) := dk_43 (dk_at dksJ1_getNode_2 10 rfl rfl)
theorem dJ1_getNode_57 : decode cJ1_getNode 57 = .ok (.ifnull 14, 3) := dk_198 0 14 (dk_at dksJ1_getNode_2 11 rfl rfl)
theorem dJ1_getNode_60 : decode cJ1_getNode 60 = .ok (.aload_n 1, 1) := dk_43 (dk_at dksJ1_getNode_2 14 rfl rfl)
theorem dJ1_getNode_61 : decode cJ1_getNode 61 = .ok (.aload 7, 2) := dk_25 7 (dk_at dksJ1_getNode_2 15 rfl rfl)
theorem dJ1_getNode_63 : decode cJ1_getNode 63 = .ok (.invokevirtual 173, 3) := dk_182 0 173 (dk_at dksJ1_getNode_2 17 rfl rfl)
theorem dJ1_getNode_66 : decode cJ1_getNode 66 = .ok (.ifCond .eq 5, 3) := dk_153 0 5 (dk_at dksJ1_getNode_2 20 rfl rfl)
theorem dJ1_getNode_69 : decode cJ1_getNode 69 = .ok (.aload_n 3, 1) := dk_45 (dk_at dksJ1_getNode_2 23 rfl rfl)
theorem dJ1_getNode_70 : decode cJ1_getNode 70 = .ok (.areturn, 1) := dk_176 (dk_at dksJ1_getNode_3 0 rfl rfl)
theorem dJ1_getNode_71 : decode cJ1_getNode 71 = .ok (.aload_n 3, 1) := dk_45 (dk_at dksJ1_getNode_3 1 rfl rfl)
theorem dJ1_getNode_72 : decode cJ1_getNode 72 = .ok (.getfield 177, 3) := dk_180 0 177 (dk_at dksJ1_getNode_3 2 rfl rfl)
theorem dJ1_getNode_75 : decode cJ1_getNode 75 = .ok (.dup, 1) := dk_89 (dk_at dksJ1_getNode_3 5 rfl rfl)
theorem dJ1_getNode_76 : decode cJ1_getNode 76 = .ok (.astore 4, 2) := dk_58 4 (dk_at dksJ1_getNode_3 6 rfl rfl)
theorem dJ1_getNode_78 : decode cJ1_getNode 78 = .ok (.ifnull 70, 3) := dk_198 0 70 (dk_at dksJ1_getNode_3 8 rfl rfl)
theorem dJ1_getNode_81 : decode cJ1_getNode 81 = .ok (.aload_n 3, 1) := dk_45 (dk_at dksJ1_getNode_3 11 rfl rfl)
theorem dJ1_getNode_82 : decode cJ1_getNode 82 = .ok (.instanceof 180, 3) := dk_193 0 180 (dk_at dksJ1_getNode_3 12 rfl rfl)
theorem dJ1_getNode_85 : decode cJ1_getNode 85 = .ok (.ifCond .eq 14, 3) := dk_153 0 14 (dk_at dksJ1_getNode_3 15 rfl rfl)
theorem dJ1_getNode_88 : decode cJ1_getNode 88 = .ok (.aload_n 3, 1) := dk_45 (dk_at dksJ1_getNode_3 18 rfl rfl)
theorem dJ1_getNode_89 : decode cJ1_getNode 89 = .ok (.checkcast 180, 3) := dk_192 0 180 (dk_at dksJ1_getNode_3 19 rfl rfl)
theorem dJ1_getNode_92 : decode cJ1_getNode 92 = .ok (.iload 6, 2) := dk_21 6 (dk_at dksJ1_getNode_3 22 rfl rfl)
theorem dJ1_getNode_94 : decode cJ1_getNode 94 = .ok (.aload_n 1, 1) := dk_43 (dk_at dksJ1_getNode_4 0 rfl rfl)
theorem dJ1_getNode_95 : decode cJ1_getNode 95 = .ok (.invokevirtual 182, 3) := dk_182 0 182 (dk_at dksJ1_getNode_4 1 rfl rfl)
theorem dJ1_getNode_98 : decode cJ1_getNode 98 = .ok (.areturn, 1) := dk_176 (dk_at dksJ1_getNode_4 4 rfl rfl)
theorem dJ1_getNode_99 : decode cJ1_getNode 99 = .ok (.aload 4, 2) := dk_25 4 (dk_at dksJ1_getNode_4 5 rfl rfl)
theorem dJ1_getNode_101 : decode cJ1_getNode 101 = .ok (.getfield 168, 3) := dk_180 0 168 (dk_at dksJ1_getNode_4 7 rfl rfl)
theorem dJ1_getNode_104 : decode cJ1_getNode 104 = .ok (.iload 6, 2) := dk_21 6 (dk_at dksJ1_getNode_4 10 rfl rfl)
theorem dJ1_getNode_106 : decode cJ1_getNode 106 = .ok (.if_icmp .ne 31, 3) := dk_160 0 31 (dk_at dksJ1_getNode_4 12 rfl rfl)
theorem dJ1_getNode_109 : decode cJ1_getNode 109 = .ok (.aload 4, 2) := dk_25 4 (dk_at dksJ1_getNode_4 15 rfl rfl)
theorem dJ1_getNode_111 : decode cJ1_getNode 111 = .ok (.getfield 170, 3) := dk_180 0 170 (dk_at dksJ1_getNode_4 17 rfl rfl)
theorem dJ1_getNode_114 : decode cJ1_getNode 114 = .ok (.dup, 1) := dk_89 (dk_at dksJ1_getNode_4 20 rfl rfl)
theorem dJ1_getNode_115 : decode cJ1_getNode 115 = .ok (.astore 7, 2) := dk_58 7 (dk_at dksJ1_getNode_4 21 rfl rfl)
theorem dJ1_getNode_117 : decode cJ1_getNode 117 = .ok (.aload_n 1, 1) := dk_43 (dk_at dksJ1_getNode_4 23 rfl rfl)
theorem dJ1_getNode_118 : decode cJ1_getNode 118 = .ok (.if_acmp .eq 16, 3) := dk_165 0 16 (dk_at dksJ1_getNode_5 0 rfl rfl)
theorem dJ1_getNode_121 : decode cJ1_getNode 121 = .ok (.aload_n 1, 1) := dk_43 (dk_at dksJ1_getNode_5 3 rfl rfl)
theorem dJ1_getNode_122 : decode cJ1_getNode 122 = .ok (.ifnull 15, 3) := dk_198 0 15 (dk_at dksJ1_getNode_5 4 rfl rfl)
theorem dJ1_getNode_125 : decode cJ1_getNode 125 = .ok (.aload_n 1, 1) := dk_43 (dk_at dksJ1_getNode_5 7 rfl rfl)
theorem dJ1_getNode_126 : decode cJ1_getNode 126 = .ok (.aload 7, 2) := dk_25 7 (dk_at dksJ1_getNode_5 8 rfl rfl)
theorem dJ1_getNode_128 : decode cJ1_getNode 128 = .ok (.invokevirtual 173, 3) := dk_182 0 173 (dk_at dksJ1_getNode_5 10 rfl rfl)
theorem dJ1_getNode_131 : decode cJ1_getNode 131 = .ok (.ifCond .eq 6, 3) := dk_153 0 6 (dk_at dksJ1_getNode_5 13 rfl rfl)
theorem dJ1_getNode_134 : decode cJ1_getNode 134 = .ok (.aload 4, 2) := dk_25 4 (dk_at dksJ1_getNode_5 16 rfl rfl)
theorem dJ1_getNode_136 : decode cJ1_getNode 136 = .ok (.areturn, 1) := dk_176 (dk_at dksJ1_getNode_5 18 rfl rfl)
theorem dJ1_getNode_137 : decode cJ1_getNode 137 = .ok (.aload 4, 2) := dk_25 4 (dk_at dksJ1_getNode_5 19 rfl rfl)
theorem dJ1_getNode_139 : decode cJ1_getNode 139 = .ok (.getfield 177, 3) := dk_180 0 177 (dk_at dksJ1_getNode_5 21 rfl rfl)
theorem dJ1_getNode_142 : decode cJ1_getNode 142 = .ok (.dup, 1) := dk_89 (dk_at dksJ1_getNode_6 0 rfl rfl)
theorem dJ1_getNode_143 : decode cJ1_getNode 143 = .ok (.astore 4, 2) := dk_58 4 (dk_at dksJ1_getNode_6 1 rfl rfl)
theorem dJ1_getNode_145 : decode cJ1_getNode 145 = .ok (.ifnonnull (-46), 3) := dk_199 255 210 (dk_at dksJ1_getNode_6 3 rfl rfl)
theorem dJ1_getNode_148 : decode cJ1_getNode 148 = .ok (.aconst_null, 1) := dk_1 (dk_at dksJ1_getNode_6 6 rfl rfl)
theorem dJ1_getNode_149 : decode cJ1_getNode 149 = .ok (.areturn, 1) := dk_176 (dk_at dksJ1_getNode_6 7 rfl rfl)
theorem q60 : (Jvm.Cond.initialized "java/util/HashMap") ∈ lw_all := lw_g (lw_at lw_m1 3 rfl) rfl
theorem q113 : (Jvm.Cond.instantiable "java/util/HashMap" (8 : Nat)) ∈ lw_all := lw_g (lw_at lw_m1 56 rfl) rfl
theorem q115 : (Jvm.Cond.instanceMethod ({ cls := "java/util/HashMap", name := "<init>", desc := "()V" } : Jvm.MethodName)) ∈ lw_all := lw_g (lw_at lw_m1 58 rfl) rfl
theorem q116 : (Jvm.Cond.code ({ cls := "java/util/HashMap", name := "<init>", desc := "()V" } : Jvm.MethodName) prog_53_method_7_code (1 : Nat) (Option.none : Option Jvm.ClassFile.FieldType)) ∈ lw_all := lw_g (lw_at lw_m1 59 rfl) rfl
theorem q117 : (Jvm.Cond.methodLink "java/util/HashMap" (43 : Nat) ({ cls := "java/util/AbstractMap", name := "<init>", desc := "()V" } : Jvm.MethodName)) ∈ lw_all := lw_g (lw_at lw_m1 60 rfl) rfl
theorem q121 : (Jvm.Cond.constantFloat "java/util/HashMap" (92 : Nat) (1061158912 : UInt32)) ∈ lw_all := lw_g (lw_at lw_m1 64 rfl) rfl
theorem q122 : (Jvm.Cond.fieldLink "java/util/HashMap" (105 : Nat) "java/util/HashMap" "table" "[Ljava/util/HashMap$Node;") ∈ lw_all := lw_g (lw_at lw_m1 65 rfl) rfl
theorem q123 : (Jvm.Cond.fieldLink "java/util/HashMap" (156 : Nat) "java/util/HashMap" "size" "I") ∈ lw_all := lw_g (lw_at lw_m1 66 rfl) rfl
theorem q124 : (Jvm.Cond.fieldLink "java/util/HashMap" (202 : Nat) "java/util/HashMap" "modCount" "I") ∈ lw_all := lw_g (lw_at lw_m1 67 rfl) rfl
theorem q125 : (Jvm.Cond.fieldLink "java/util/HashMap" (88 : Nat) "java/util/HashMap" "threshold" "I") ∈ lw_all := lw_g (lw_at lw_m1 68 rfl) rfl
theorem q126 : (Jvm.Cond.fieldLink "java/util/HashMap" (81 : Nat) "java/util/HashMap" "loadFactor" "F") ∈ lw_all := lw_g (lw_at lw_m1 69 rfl) rfl
theorem q127 : (Jvm.Cond.lays "java/util/HashMap" "java/util/HashMap" "table" "[Ljava/util/HashMap$Node;") ∈ lw_all := lw_g (lw_at lw_m1 70 rfl) rfl
theorem q128 : (Jvm.Cond.soleField "java/util/HashMap" "table") ∈ lw_all := lw_g (lw_at lw_m1 71 rfl) rfl
theorem q129 : (Jvm.Cond.lays "java/util/HashMap" "java/util/HashMap" "entrySet" "Ljava/util/Set;") ∈ lw_all := lw_g (lw_at lw_m1 72 rfl) rfl
theorem q130 : (Jvm.Cond.soleField "java/util/HashMap" "entrySet") ∈ lw_all := lw_g (lw_at lw_m1 73 rfl) rfl
theorem q131 : (Jvm.Cond.lays "java/util/HashMap" "java/util/HashMap" "size" "I") ∈ lw_all := lw_g (lw_at lw_m1 74 rfl) rfl
theorem q132 : (Jvm.Cond.soleField "java/util/HashMap" "size") ∈ lw_all := lw_g (lw_at lw_m1 75 rfl) rfl
theorem q133 : (Jvm.Cond.lays "java/util/HashMap" "java/util/HashMap" "modCount" "I") ∈ lw_all := lw_g (lw_at lw_m1 76 rfl) rfl
theorem q134 : (Jvm.Cond.soleField "java/util/HashMap" "modCount") ∈ lw_all := lw_g (lw_at lw_m1 77 rfl) rfl
theorem q135 : (Jvm.Cond.lays "java/util/HashMap" "java/util/HashMap" "threshold" "I") ∈ lw_all := lw_g (lw_at lw_m1 78 rfl) rfl
theorem q136 : (Jvm.Cond.soleField "java/util/HashMap" "threshold") ∈ lw_all := lw_g (lw_at lw_m1 79 rfl) rfl
theorem q137 : (Jvm.Cond.laysFinal "java/util/HashMap" "java/util/HashMap" "loadFactor" "F") ∈ lw_all := lw_g (lw_at lw_m1 80 rfl) rfl
theorem q138 : (Jvm.Cond.soleField "java/util/HashMap" "loadFactor") ∈ lw_all := lw_g (lw_at lw_m1 81 rfl) rfl
theorem q139 : (Jvm.Cond.lays "java/util/HashMap" "java/util/AbstractMap" "keySet" "Ljava/util/Set;") ∈ lw_all := lw_g (lw_at lw_m1 82 rfl) rfl
theorem q141 : (Jvm.Cond.lays "java/util/HashMap" "java/util/AbstractMap" "values" "Ljava/util/Collection;") ∈ lw_all := lw_g (lw_at lw_m1 84 rfl) rfl
theorem q143 : (Jvm.Cond.superclass "java/util/HashMap" "java/util/AbstractMap") ∈ lw_all := lw_g (lw_at lw_m1 86 rfl) rfl
theorem q183 : (Jvm.Cond.castable "java/util/HashMap" "java/util/Map") ∈ lw_tbl := lw_at lw_m1 126 rfl
theorem q184 : (Jvm.Cond.selects "java/util/HashMap" ({ cls := "java/util/Map", name := "put", desc := "(Ljava/lang/Object;Ljava/lang/Object;)Ljava/lang/Object;" } : Jvm.MethodName) ({ cls := "java/util/HashMap", name := "put", desc := "(Ljava/lang/Object;Ljava/lang/Object;)Ljava/lang/Object;" } : Jvm.MethodName)) ∈ lw_all := lw_g (lw_at lw_m1 127 rfl) rfl
theorem q185 : (Jvm.Cond.unhidden "java/util/HashMap" "put" "(Ljava/lang/Object;Ljava/lang/Object;)Ljava/lang/Object;") ∈ lw_tbl := lw_at lw_m1 128 rfl
theorem q186 : (Jvm.Cond.instanceMethod ({ cls := "java/util/HashMap", name := "put", desc := "(Ljava/lang/Object;Ljava/lang/Object;)Ljava/lang/Object;" } : Jvm.MethodName)) ∈ lw_all := lw_g (lw_at lw_m1 129 rfl) rfl
theorem q187 : (Jvm.Cond.publicMethod ({ cls := "java/util/HashMap", name := "put", desc := "(Ljava/lang/Object;Ljava/lang/Object;)Ljava/lang/Object;" } : Jvm.MethodName)) ∈ lw_tbl := lw_at lw_m1 130 rfl
theorem q188 : (Jvm.Cond.code ({ cls := "java/util/HashMap", name := "put", desc := "(Ljava/lang/Object;Ljava/lang/Object;)Ljava/lang/Object;" } : Jvm.MethodName) prog_53_method_15_code (3 : Nat) (Option.some (Jvm.ClassFile.FieldType.object "java/lang/Object"))) ∈ lw_all := lw_g (lw_at lw_m1 131 rfl) rfl
theorem q189 : (Jvm.Cond.methodLink "java/util/HashMap" (149 : Nat) ({ cls := "java/util/HashMap", name := "hash", desc := "(Ljava/lang/Object;)I" } : Jvm.MethodName)) ∈ lw_all := lw_g (lw_at lw_m1 132 rfl) rfl
theorem q190 : (Jvm.Cond.static ({ cls := "java/util/HashMap", name := "hash", desc := "(Ljava/lang/Object;)I" } : Jvm.MethodName)) ∈ lw_all := lw_g (lw_at lw_m1 133 rfl) rfl
theorem q191 : (Jvm.Cond.code ({ cls := "java/util/HashMap", name := "hash", desc := "(Ljava/lang/Object;)I" } : Jvm.MethodName) prog_53_method_1_code (2 : Nat) (Option.some Jvm.ClassFile.FieldType.int)) ∈ lw_all := lw_g (lw_at lw_m1 134 rfl) rfl
theorem q193 : (Jvm.Cond.methodLink "java/util/HashMap" (1 : Nat) ({ cls := "java/lang/Object", name := "hashCode", desc := "()I" } : Jvm.MethodName)) ∈ lw_all := lw_g (lw_at lw_m1 136 rfl) rfl
theorem q593 : (Jvm.Cond.methodLink "java/util/HashMap" (152 : Nat) ({ cls := "java/util/HashMap", name := "putVal", desc := "(ILjava/lang/Object;Ljava/lang/Object;ZZ)Ljava/lang/Object;" } : Jvm.MethodName)) ∈ lw_all := lw_g (lw_at lw_m3 56 rfl) rfl
theorem q594 : (Jvm.Cond.instanceMethod ({ cls := "java/util/HashMap", name := "putVal", desc := "(ILjava/lang/Object;Ljava/lang/Object;ZZ)Ljava/lang/Object;" } : Jvm.MethodName)) ∈ lw_all := lw_g (lw_at lw_m3 57 rfl) rfl
theorem q595 : (Jvm.Cond.selects "java/util/HashMap" ({ cls := "java/util/HashMap", name := "putVal", desc := "(ILjava/lang/Object;Ljava/lang/Object;ZZ)Ljava/lang/Object;" } : Jvm.MethodName) ({ cls := "java/util/HashMap", name := "putVal", desc := "(ILjava/lang/Object;Ljava/lang/Object;ZZ)Ljava/lang/Object;" } : Jvm.MethodName)) ∈ lw_all := lw_g (lw_at lw_m3 58 rfl) rfl
theorem q596 : (Jvm.Cond.code ({ cls := "java/util/HashMap", name := "putVal", desc := "(ILjava/lang/Object;Ljava/lang/Object;ZZ)Ljava/lang/Object;" } : Jvm.MethodName) prog_53_method_16_code (13 : Nat) (Option.some (Jvm.ClassFile.FieldType.object "java/lang/Object"))) ∈ lw_all := lw_g (lw_at lw_m3 59 rfl) rfl
theorem q597 : (Jvm.Cond.methodLink "java/util/HashMap" (117 : Nat) ({ cls := "java/util/HashMap", name := "resize", desc := "()[Ljava/util/HashMap$Node;" } : Jvm.MethodName)) ∈ lw_all := lw_g (lw_at lw_m3 60 rfl) rfl
theorem q598 : (Jvm.Cond.instanceMethod ({ cls := "java/util/HashMap", name := "resize", desc := "()[Ljava/util/HashMap$Node;" } : Jvm.MethodName)) ∈ lw_all := lw_g (lw_at lw_m3 61 rfl) rfl
theorem q599 : (Jvm.Cond.selects "java/util/HashMap" ({ cls := "java/util/HashMap", name := "resize", desc := "()[Ljava/util/HashMap$Node;" } : Jvm.MethodName) ({ cls := "java/util/HashMap", name := "resize", desc := "()[Ljava/util/HashMap$Node;" } : Jvm.MethodName)) ∈ lw_all := lw_g (lw_at lw_m3 62 rfl) rfl
theorem q600 : (Jvm.Cond.code ({ cls := "java/util/HashMap", name := "resize", desc := "()[Ljava/util/HashMap$Node;" } : Jvm.MethodName) prog_53_method_17_code (14 : Nat) (Option.some (Jvm.ClassFile.FieldType.array (Jvm.ClassFile.FieldType.object "java/util/HashMap$Node")))) ∈ lw_all := lw_g (lw_at lw_m3 63 rfl) rfl
theorem q601 : (Jvm.Cond.constant "java/util/HashMap" (42 : Nat) (1073741824 : Int32)) ∈ lw_all := lw_g (lw_at lw_m3 64 rfl) rfl
theorem q602 : (Jvm.Cond.constant "java/util/HashMap" (209 : Nat) (2147483647 : Int32)) ∈ lw_all := lw_g (lw_at lw_m3 65 rfl) rfl
theorem q603 : (Jvm.Cond.constantFloat "java/util/HashMap" (210 : Nat) (1317011456 : UInt32)) ∈ lw_all := lw_g (lw_at lw_m3 66 rfl) rfl
theorem q604 : (Jvm.Cond.classLink "java/util/HashMap" (163 : Nat) "java/util/HashMap$Node") ∈ lw_all := lw_g (lw_at lw_m3 67 rfl) rfl
theorem q606 : (Jvm.Cond.classLink "java/util/HashMap" (180 : Nat) "java/util/HashMap$TreeNode") ∈ lw_all := lw_g (lw_at lw_m3 69 rfl) rfl
theorem q607 : (Jvm.Cond.methodLink "java/util/HashMap" (211 : Nat) ({ cls := "java/util/HashMap$TreeNode", name := "split", desc := "(Ljava/util/HashMap;[Ljava/util/HashMap$Node;II)V" } : Jvm.MethodName)) ∈ lw_all := lw_g (lw_at lw_m3 70 rfl) rfl
theorem q617 : (Jvm.Cond.instanceMethod ({ cls := "java/util/HashMap", name := "replacementNode", desc := "(Ljava/util/HashMap$Node;Ljava/util/HashMap$Node;)Ljava/util/HashMap$Node;" } : Jvm.MethodName)) ∈ lw_all := lw_g (lw_at lw_m3 80 rfl) rfl
theorem q618 : (Jvm.Cond.selects "java/util/HashMap" ({ cls := "java/util/HashMap", name := "replacementNode", desc := "(Ljava/util/HashMap$Node;Ljava/util/HashMap$Node;)Ljava/util/HashMap$Node;" } : Jvm.MethodName) ({ cls := "java/util/HashMap", name := "replacementNode", desc := "(Ljava/util/HashMap$Node;Ljava/util/HashMap$Node;)Ljava/util/HashMap$Node;" } : Jvm.MethodName)) ∈ lw_all := lw_g (lw_at lw_m3 81 rfl) rfl
theorem q619 : (Jvm.Cond.code ({ cls := "java/util/HashMap", name := "replacementNode", desc := "(Ljava/util/HashMap$Node;Ljava/util/HashMap$Node;)Ljava/util/HashMap$Node;" } : Jvm.MethodName) prog_53_method_47_code (3 : Nat) (Option.some (Jvm.ClassFile.FieldType.object "java/util/HashMap$Node"))) ∈ lw_all := lw_g (lw_at lw_m3 82 rfl) rfl
theorem q621 : (Jvm.Cond.methodLink "java/util/HashMap" (375 : Nat) ({ cls := "java/util/HashMap$Node", name := "<init>", desc := "(ILjava/lang/Object;Ljava/lang/Object;Ljava/util/HashMap$Node;)V" } : Jvm.MethodName)) ∈ lw_all := lw_g (lw_at lw_m3 84 rfl) rfl
theorem q628 : (Jvm.Cond.fieldLink "java/util/HashMap" (168 : Nat) "java/util/HashMap$Node" "hash" "I") ∈ lw_all := lw_g (lw_at lw_m3 91 rfl) rfl
theorem q632 : (Jvm.Cond.fieldLink "java/util/HashMap" (170 : Nat) "java/util/HashMap$Node" "key" "Ljava/lang/Object;") ∈ lw_all := lw_g (lw_at lw_m3 95 rfl) rfl
theorem q634 : (Jvm.Cond.fieldLink "java/util/HashMap" (162 : Nat) "java/util/HashMap$Node" "value" "Ljava/lang/Object;") ∈ lw_all := lw_g (lw_at lw_m3 97 rfl) rfl
theorem q639 : (Jvm.Cond.fieldLink "java/util/HashMap" (177 : Nat) "java/util/HashMap$Node" "next" "Ljava/util/HashMap$Node;") ∈ lw_all := lw_g (lw_at lw_m3 102 rfl) rfl
theorem q640 : (Jvm.Cond.fieldLink "java/util/HashMap" (223 : Nat) "java/util/HashMap$TreeNode" "next" "Ljava/util/HashMap$Node;") ∈ lw_all := lw_g (lw_at lw_m3 103 rfl) rfl
theorem q655 : (Jvm.Cond.static ({ cls := "java/util/HashMap", name := "comparableClassFor", desc := "(Ljava/lang/Object;)Ljava/lang/Class;" } : Jvm.MethodName)) ∈ lw_all := lw_g (lw_at lw_m3 118 rfl) rfl
theorem q656 : (Jvm.Cond.code ({ cls := "java/util/HashMap", name := "comparableClassFor", desc := "(Ljava/lang/Object;)Ljava/lang/Class;" } : Jvm.MethodName) prog_53_method_2_code (9 : Nat) (Option.some (Jvm.ClassFile.FieldType.object "java/lang/Class"))) ∈ lw_all := lw_g (lw_at lw_m3 119 rfl) rfl
theorem q657 : (Jvm.Cond.classLink "java/util/HashMap" (7 : Nat) "java/lang/Comparable") ∈ lw_all := lw_g (lw_at lw_m3 120 rfl) rfl
theorem q658 : (Jvm.Cond.methodLink "java/util/HashMap" (9 : Nat) ({ cls := "java/lang/Object", name := "getClass", desc := "()Ljava/lang/Class;" } : Jvm.MethodName)) ∈ lw_all := lw_g (lw_at lw_m3 121 rfl) rfl
theorem q682 : (Jvm.Cond.selects "java/util/HashMap" ({ cls := "java/lang/Object", name := "getClass", desc := "()Ljava/lang/Class;" } : Jvm.MethodName) ({ cls := "java/lang/Object", name := "getClass", desc := "()Ljava/lang/Class;" } : Jvm.MethodName)) ∈ lw_all := lw_g (lw_at lw_m3 145 rfl) rfl
theorem q687 : (Jvm.Cond.classLink "java/util/HashMap" (13 : Nat) "java/lang/String") ∈ lw_all := lw_g (lw_at lw_m3 150 rfl) rfl
theorem q689 : (Jvm.Cond.static ({ cls := "java/util/HashMap", name := "compareComparables", desc := "(Ljava/lang/Class;Ljava/lang/Object;Ljava/lang/Object;)I" } : Jvm.MethodName)) ∈ lw_all := lw_g (lw_at lw_m3 152 rfl) rfl
theorem q690 : (Jvm.Cond.code ({ cls := "java/util/HashMap", name := "compareComparables", desc := "(Ljava/lang/Class;Ljava/lang/Object;Ljava/lang/Object;)I" } : Jvm.MethodName) prog_53_method_3_code (3 : Nat) (Option.some Jvm.ClassFile.FieldType.int)) ∈ lw_all := lw_g (lw_at lw_m3 153 rfl) rfl
theorem q691 : (Jvm.Cond.interfaceEntry "java/util/HashMap" (30 : Nat)) ∈ lw_tbl := lw_at lw_m3 154 rfl
theorem q692 : (Jvm.Cond.methodLink "java/util/HashMap" (30 : Nat) ({ cls := "java/lang/Comparable", name := "compareTo", desc := "(Ljava/lang/Object;)I" } : Jvm.MethodName)) ∈ lw_all := lw_g (lw_at lw_m3 155 rfl) rfl
theorem q914 : (Jvm.Cond.methodLink "java/util/HashMap" (186 : Nat) ({ cls := "java/util/HashMap", name := "newNode", desc := "(ILjava/lang/Object;Ljava/lang/Object;Ljava/util/HashMap$Node;)Ljava/util/HashMap$Node;" } : Jvm.MethodName)) ∈ lw_all := lw_g (lw_at lw_m4 137 rfl) rfl
theorem q915 : (Jvm.Cond.instanceMethod ({ cls := "java/util/HashMap", name := "newNode", desc := "(ILjava/lang/Object;Ljava/lang/Object;Ljava/util/HashMap$Node;)Ljava/util/HashMap$Node;" } : Jvm.MethodName)) ∈ lw_all := lw_g (lw_at lw_m4 138 rfl) rfl
theorem q916 : (Jvm.Cond.selects "java/util/HashMap" ({ cls := "java/util/HashMap", name := "newNode", desc := "(ILjava/lang/Object;Ljava/lang/Object;Ljava/util/HashMap$Node;)Ljava/util/HashMap$Node;" } : Jvm.MethodName) ({ cls := "java/util/HashMap", name := "newNode", desc := "(ILjava/lang/Object;Ljava/lang/Object;Ljava/util/HashMap$Node;)Ljava/util/HashMap$Node;" } : Jvm.MethodName)) ∈ lw_all := lw_g (lw_at lw_m4 139 rfl) rfl
theorem q917 : (Jvm.Cond.code ({ cls := "java/util/HashMap", name := "newNode", desc := "(ILjava/lang/Object;Ljava/lang/Object;Ljava/util/HashMap$Node;)Ljava/util/HashMap$Node;" } : Jvm.MethodName) prog_53_method_46_code (5 : Nat) (Option.some (Jvm.ClassFile.FieldType.object "java/util/HashMap$Node"))) ∈ lw_all := lw_g (lw_at lw_m4 140 rfl) rfl
theorem q919 : (Jvm.Cond.methodLink "java/util/HashMap" (173 : Nat) ({ cls := "java/lang/Object", name := "equals", desc := "(Ljava/lang/Object;)Z" } : Jvm.MethodName)) ∈ lw_all := lw_g (lw_at lw_m4 142 rfl) rfl
theorem q960 : (Jvm.Cond.methodLink "java/util/HashMap" (190 : Nat) ({ cls := "java/util/HashMap$TreeNode", name := "putTreeVal", desc := "(Ljava/util/HashMap;[Ljava/util/HashMap$Node;ILjava/lang/Object;Ljava/lang/Object;)Ljava/util/HashMap$TreeNode;" } : Jvm.MethodName)) ∈ lw_all := lw_g (lw_at lw_m4 183 rfl) rfl
theorem q974 : (Jvm.Cond.instanceMethod ({ cls := "java/util/HashMap", name := "newTreeNode", desc := "(ILjava/lang/Object;Ljava/lang/Object;Ljava/util/HashMap$Node;)Ljava/util/HashMap$TreeNode;" } : Jvm.MethodName)) ∈ lw_all := lw_g (lw_at lw_m4 197 rfl) rfl
theorem q975 : (Jvm.Cond.selects "java/util/HashMap" ({ cls := "java/util/HashMap", name := "newTreeNode", desc := "(ILjava/lang/Object;Ljava/lang/Object;Ljava/util/HashMap$Node;)Ljava/util/HashMap$TreeNode;" } : Jvm.MethodName) ({ cls := "java/util/HashMap", name := "newTreeNode", desc := "(ILjava/lang/Object;Ljava/lang/Object;Ljava/util/HashMap$Node;)Ljava/util/HashMap$TreeNode;" } : Jvm.MethodName)) ∈ lw_all := lw_g (lw_at lw_m4 198 rfl) rfl
theorem q976 : (Jvm.Cond.code ({ cls := "java/util/HashMap", name := "newTreeNode", desc := "(ILjava/lang/Object;Ljava/lang/Object;Ljava/util/HashMap$Node;)Ljava/util/HashMap$TreeNode;" } : Jvm.MethodName) prog_53_method_48_code (5 : Nat) (Option.some (Jvm.ClassFile.FieldType.object "java/util/HashMap$TreeNode"))) ∈ lw_all := lw_g (lw_at lw_m4 199 rfl) rfl
theorem q978 : (Jvm.Cond.methodLink "java/util/HashMap" (378 : Nat) ({ cls := "java/util/HashMap$TreeNode", name := "<init>", desc := "(ILjava/lang/Object;Ljava/lang/Object;Ljava/util/HashMap$Node;)V" } : Jvm.MethodName)) ∈ lw_all := lw_g (lw_at lw_m4 201 rfl) rfl
theorem q989 : (Jvm.Cond.fieldLink "java/util/HashMap" (219 : Nat) "java/util/HashMap$TreeNode" "prev" "Ljava/util/HashMap$TreeNode;") ∈ lw_all := lw_g (lw_at lw_m4 212 rfl) rfl
theorem q1010 : (Jvm.Cond.methodLink "java/util/HashMap" (194 : Nat) ({ cls := "java/util/HashMap", name := "treeifyBin", desc := "([Ljava/util/HashMap$Node;I)V" } : Jvm.MethodName)) ∈ lw_all := lw_g (lw_at lw_m4 233 rfl) rfl
theorem q1011 : (Jvm.Cond.instanceMethod ({ cls := "java/util/HashMap", name := "treeifyBin", desc := "([Ljava/util/HashMap$Node;I)V" } : Jvm.MethodName)) ∈ lw_all := lw_g (lw_at lw_m4 234 rfl) rfl
theorem q1012 : (Jvm.Cond.selects "java/util/HashMap" ({ cls := "java/util/HashMap", name := "treeifyBin", desc := "([Ljava/util/HashMap$Node;I)V" } : Jvm.MethodName) ({ cls := "java/util/HashMap", name := "treeifyBin", desc := "([Ljava/util/HashMap$Node;I)V" } : Jvm.MethodName)) ∈ lw_all := lw_g (lw_at lw_m4 235 rfl) rfl
theorem q1013 : (Jvm.Cond.code ({ cls := "java/util/HashMap", name := "treeifyBin", desc := "([Ljava/util/HashMap$Node;I)V" } : Jvm.MethodName) prog_53_method_18_code (9 : Nat) (Option.none : Option Jvm.ClassFile.FieldType)) ∈ lw_all := lw_g (lw_at lw_m4 236 rfl) rfl
theorem q1014 : (Jvm.Cond.methodLink "java/util/HashMap" (215 : Nat) ({ cls := "java/util/HashMap", name := "replacementTreeNode", desc := "(Ljava/util/HashMap$Node;Ljava/util/HashMap$Node;)Ljava/util/HashMap$TreeNode;" } : Jvm.MethodName)) ∈ lw_all := lw_g (lw_at lw_m4 237 rfl) rfl
theorem q1015 : (Jvm.Cond.instanceMethod ({ cls := "java/util/HashMap", name := "replacementTreeNode", desc := "(Ljava/util/HashMap$Node;Ljava/util/HashMap$Node;)Ljava/util/HashMap$TreeNode;" } : Jvm.MethodName)) ∈ lw_all := lw_g (lw_at lw_m4 238 rfl) rfl
theorem q1016 : (Jvm.Cond.selects "java/util/HashMap" ({ cls := "java/util/HashMap", name := "replacementTreeNode", desc := "(Ljava/util/HashMap$Node;Ljava/util/HashMap$Node;)Ljava/util/HashMap$TreeNode;" } : Jvm.MethodName) ({ cls := "java/util/HashMap", name := "replacementTreeNode", desc := "(Ljava/util/HashMap$Node;Ljava/util/HashMap$Node;)Ljava/util/HashMap$TreeNode;" } : Jvm.MethodName)) ∈ lw_all := lw_g (lw_at lw_m4 239 rfl) rfl
theorem q1017 : (Jvm.Cond.code ({ cls := "java/util/HashMap", name := "replacementTreeNode", desc := "(Ljava/util/HashMap$Node;Ljava/util/HashMap$Node;)Ljava/util/HashMap$TreeNode;" } : Jvm.MethodName) prog_53_method_49_code (3 : Nat) (Option.some (Jvm.ClassFile.FieldType.object "java/util/HashMap$TreeNode"))) ∈ lw_all := lw_g (lw_at lw_m5 0 rfl) rfl
theorem q1018 : (Jvm.Cond.methodLink "java/util/HashMap" (224 : Nat) ({ cls := "java/util/HashMap$TreeNode", name := "treeify", desc := "([Ljava/util/HashMap$Node;)V" } : Jvm.MethodName)) ∈ lw_all := lw_g (lw_at lw_m5 1 rfl) rfl
theorem q1019 : (Jvm.Cond.methodLink "java/util/HashMap" (198 : Nat) ({ cls := "java/util/HashMap", name := "afterNodeAccess", desc := "(Ljava/util/HashMap$Node;)V" } : Jvm.MethodName)) ∈ lw_all := lw_g (lw_at lw_m5 2 rfl) rfl
theorem q1020 : (Jvm.Cond.instanceMethod ({ cls := "java/util/HashMap", name := "afterNodeAccess", desc := "(Ljava/util/HashMap$Node;)V" } : Jvm.MethodName)) ∈ lw_all := lw_g (lw_at lw_m5 3 rfl) rfl
theorem q1021 : (Jvm.Cond.selects "java/util/HashMap" ({ cls := "java/util/HashMap", name := "afterNodeAccess", desc := "(Ljava/util/HashMap$Node;)V" } : Jvm.MethodName) ({ cls := "java/util/HashMap", name := "afterNodeAccess", desc := "(Ljava/util/HashMap$Node;)V" } : Jvm.MethodName)) ∈ lw_all := lw_g (lw_at lw_m5 4 rfl) rfl
theorem q1022 : (Jvm.Cond.code ({ cls := "java/util/HashMap", name := "afterNodeAccess", desc := "(Ljava/util/HashMap$Node;)V" } : Jvm.MethodName) prog_53_method_51_code (2 : Nat) (Option.none : Option Jvm.ClassFile.FieldType)) ∈ lw_all := lw_g (lw_at lw_m5 5 rfl) rfl
theorem q1023 : (Jvm.Cond.methodLink "java/util/HashMap" (205 : Nat) ({ cls := "java/util/HashMap", name := "afterNodeInsertion", desc := "(Z)V" } : Jvm.MethodName)) ∈ lw_all := lw_g (lw_at lw_m5 6 rfl) rfl
theorem q1024 : (Jvm.Cond.instanceMethod ({ cls := "java/util/HashMap", name := "afterNodeInsertion", desc := "(Z)V" } : Jvm.MethodName)) ∈ lw_all := lw_g (lw_at lw_m5 7 rfl) rfl
theorem q1025 : (Jvm.Cond.selects "java/util/HashMap" ({ cls := "java/util/HashMap", name := "afterNodeInsertion", desc := "(Z)V" } : Jvm.MethodName) ({ cls := "java/util/HashMap", name := "afterNodeInsertion", desc := "(Z)V" } : Jvm.MethodName)) ∈ lw_all := lw_g (lw_at lw_m5 8 rfl) rfl
theorem q1026 : (Jvm.Cond.code ({ cls := "java/util/HashMap", name := "afterNodeInsertion", desc := "(Z)V" } : Jvm.MethodName) prog_53_method_52_code (2 : Nat) (Option.none : Option Jvm.ClassFile.FieldType)) ∈ lw_all := lw_g (lw_at lw_m5 9 rfl) rfl
theorem q1643 : (Jvm.Cond.selects "java/util/HashMap" ({ cls := "java/util/Map", name := "get", desc := "(Ljava/lang/Object;)Ljava/lang/Object;" } : Jvm.MethodName) ({ cls := "java/util/HashMap", name := "get", desc := "(Ljava/lang/Object;)Ljava/lang/Object;" } : Jvm.MethodName)) ∈ lw_all := lw_g (lw_at lw_m7 146 rfl) rfl
theorem q1644 : (Jvm.Cond.unhidden "java/util/HashMap" "get" "(Ljava/lang/Object;)Ljava/lang/Object;") ∈ lw_tbl := lw_at lw_m7 147 rfl
theorem q1645 : (Jvm.Cond.instanceMethod ({ cls := "java/util/HashMap", name := "get", desc := "(Ljava/lang/Object;)Ljava/lang/Object;" } : Jvm.MethodName)) ∈ lw_all := lw_g (lw_at lw_m7 148 rfl) rfl
theorem q1646 : (Jvm.Cond.publicMethod ({ cls := "java/util/HashMap", name := "get", desc := "(Ljava/lang/Object;)Ljava/lang/Object;" } : Jvm.MethodName)) ∈ lw_tbl := lw_at lw_m7 149 rfl
theorem q1647 : (Jvm.Cond.code ({ cls := "java/util/HashMap", name := "get", desc := "(Ljava/lang/Object;)Ljava/lang/Object;" } : Jvm.MethodName) prog_53_method_12_code (3 : Nat) (Option.some (Jvm.ClassFile.FieldType.object "java/lang/Object"))) ∈ lw_all := lw_g (lw_at lw_m7 150 rfl) rfl
theorem q1648 : (Jvm.Cond.methodLink "java/util/HashMap" (158 : Nat) ({ cls := "java/util/HashMap", name := "getNode", desc := "(Ljava/lang/Object;)Ljava/util/HashMap$Node;" } : Jvm.MethodName)) ∈ lw_all := lw_g (lw_at lw_m7 151 rfl) rfl
theorem q1649 : (Jvm.Cond.instanceMethod ({ cls := "java/util/HashMap", name := "getNode", desc := "(Ljava/lang/Object;)Ljava/util/HashMap$Node;" } : Jvm.MethodName)) ∈ lw_all := lw_g (lw_at lw_m7 152 rfl) rfl
theorem q1650 : (Jvm.Cond.selects "java/util/HashMap" ({ cls := "java/util/HashMap", name := "getNode", desc := "(Ljava/lang/Object;)Ljava/util/HashMap$Node;" } : Jvm.MethodName) ({ cls := "java/util/HashMap", name := "getNode", desc := "(Ljava/lang/Object;)Ljava/util/HashMap$Node;" } : Jvm.MethodName)) ∈ lw_all := lw_g (lw_at lw_m7 153 rfl) rfl
theorem q1651 : (Jvm.Cond.code ({ cls := "java/util/HashMap", name := "getNode", desc := "(Ljava/lang/Object;)Ljava/util/HashMap$Node;" } : Jvm.MethodName) prog_53_method_13_code (8 : Nat) (Option.some (Jvm.ClassFile.FieldType.object "java/util/HashMap$Node"))) ∈ lw_all := lw_g (lw_at lw_m7 154 rfl) rfl
theorem q1652 : (Jvm.Cond.methodLink "java/util/HashMap" (182 : Nat) ({ cls := "java/util/HashMap$TreeNode", name := "getTreeNode", desc := "(ILjava/lang/Object;)Ljava/util/HashMap$TreeNode;" } : Jvm.MethodName)) ∈ lw_all := lw_g (lw_at lw_m7 155 rfl) rfl
theorem q2746 : (Jvm.Cond.castable "java/util/HashMap" "java/lang/Object") ∈ lw_tbl := lw_at lw_m12 49 rfl
abbrev cJ10_init : ByteArray := prog_25_method_2_code
def yJ10_init : MethodName := ⟨RJ10, "<init>", "(Ljava/lang/String;)V"⟩
def dkwJ10_init_0 : List UInt8 := [42, 43, 183, 0, 7, 177]
abbrev dktJ10_init_0 : List UInt8 := dkwJ10_init_0 ++ []
theorem dksJ10_init_0 : cJ10_init.data.toList.drop 0 = dktJ10_init_0 := by decide +kernel
theorem dJ10_init_0 : decode cJ10_init 0 = .ok (.aload_n 0, 1) := dk_42 (dk_at dksJ10_init_0 0 rfl rfl)
theorem dJ10_init_1 : decode cJ10_init 1 = .ok (.aload_n 1, 1) := dk_43 (dk_at dksJ10_init_0 1 rfl rfl)
theorem dJ10_init_2 : decode cJ10_init 2 = .ok (.invokespecial 7, 3) := dk_183 0 7 (dk_at dksJ10_init_0 2 rfl rfl)
theorem dJ10_init_5 : decode cJ10_init 5 = .ok (.return_, 1) := dk_177 (dk_at dksJ10_init_0 5 rfl rfl)
abbrev cJ10_init_2 : ByteArray := prog_25_method_1_code
def yJ10_init_2 : MethodName := ⟨RJ10, "<init>", "()V"⟩
theorem dJ10_init_2_0 : decode cJ10_init_2 0 = .ok (.aload_n 0, 1) := by decide +kernel
theorem dJ10_init_2_1 : decode cJ10_init_2 1 = .ok (.invokespecial 1, 3) := by decide +kernel
theorem dJ10_init_2_4 : decode cJ10_init_2 4 = .ok (.return_, 1) := by decide +kernel
theorem q71 : (Jvm.Cond.initialized "java/lang/Exception") ∈ lw_all := lw_g (lw_at lw_m1 14 rfl) rfl
theorem q288 : (Jvm.Cond.declares ({ cls := "java/lang/Exception", name := "<init>", desc := "()V" } : Jvm.MethodName)) ∈ lw_tbl := lw_at lw_m1 231 rfl
theorem q289 : (Jvm.Cond.declares ({ cls := "java/lang/Exception", name := "<init>", desc := "(Ljava/lang/String;)V" } : Jvm.MethodName)) ∈ lw_tbl := lw_at lw_m1 232 rfl
theorem q542 : (Jvm.Cond.instanceMethod ({ cls := "java/lang/Exception", name := "<init>", desc := "(Ljava/lang/String;)V" } : Jvm.MethodName)) ∈ lw_all := lw_g (lw_at lw_m3 5 rfl) rfl
theorem q543 : (Jvm.Cond.code ({ cls := "java/lang/Exception", name := "<init>", desc := "(Ljava/lang/String;)V" } : Jvm.MethodName) prog_25_method_2_code (2 : Nat) (Option.none : Option Jvm.ClassFile.FieldType)) ∈ lw_all := lw_g (lw_at lw_m3 6 rfl) rfl
theorem q544 : (Jvm.Cond.methodLink "java/lang/Exception" (7 : Nat) ({ cls := "java/lang/Throwable", name := "<init>", desc := "(Ljava/lang/String;)V" } : Jvm.MethodName)) ∈ lw_all := lw_g (lw_at lw_m3 7 rfl) rfl
theorem q1879 : (Jvm.Cond.instanceMethod ({ cls := "java/lang/Exception", name := "<init>", desc := "()V" } : Jvm.MethodName)) ∈ lw_all := lw_g (lw_at lw_m8 142 rfl) rfl
theorem q1880 : (Jvm.Cond.code ({ cls := "java/lang/Exception", name := "<init>", desc := "()V" } : Jvm.MethodName) prog_25_method_1_code (1 : Nat) (Option.none : Option Jvm.ClassFile.FieldType)) ∈ lw_all := lw_g (lw_at lw_m8 143 rfl) rfl
theorem q1881 : (Jvm.Cond.methodLink "java/lang/Exception" (1 : Nat) ({ cls := "java/lang/Throwable", name := "<init>", desc := "()V" } : Jvm.MethodName)) ∈ lw_all := lw_g (lw_at lw_m8 144 rfl) rfl
abbrev cJ11_init : ByteArray := prog_35_method_2_code
def yJ11_init : MethodName := ⟨RJ11, "<init>", "(Ljava/lang/String;)V"⟩
def dkwJ11_init_0 : List UInt8 := [42, 43, 183, 0, 7, 177]
abbrev dktJ11_init_0 : List UInt8 := dkwJ11_init_0 ++ []
theorem dksJ11_init_0 : cJ11_init.data.toList.drop 0 = dktJ11_init_0 := by decide +kernel
theorem dJ11_init_0 : decode cJ11_init 0 = .ok (.aload_n 0, 1) := dk_42 (dk_at dksJ11_init_0 0 rfl rfl)
theorem dJ11_init_1 : decode cJ11_init 1 = .ok (.aload_n 1, 1) := dk_43 (dk_at dksJ11_init_0 1 rfl rfl)
theorem dJ11_init_2 : decode cJ11_init 2 = .ok (.invokespecial 7, 3) := dk_183 0 7 (dk_at dksJ11_init_0 2 rfl rfl)
theorem dJ11_init_5 : decode cJ11_init 5 = .ok (.return_, 1) := dk_177 (dk_at dksJ11_init_0 5 rfl rfl)
abbrev cJ11_init_2 : ByteArray := prog_35_method_1_code
def yJ11_init_2 : MethodName := ⟨RJ11, "<init>", "()V"⟩
theorem dJ11_init_2_0 : decode cJ11_init_2 0 = .ok (.aload_n 0, 1) := by decide +kernel
theorem dJ11_init_2_1 : decode cJ11_init_2 1 = .ok (.invokespecial 1, 3) := by decide +kernel
theorem dJ11_init_2_4 : decode cJ11_init_2 4 = .ok (.return_, 1) := by decide +kernel
theorem q72 : (Jvm.Cond.initialized "java/lang/RuntimeException") ∈ lw_all := lw_g (lw_at lw_m1 15 rfl) rfl
theorem q286 : (Jvm.Cond.declares ({ cls := "java/lang/RuntimeException", name := "<init>", desc := "()V" } : Jvm.MethodName)) ∈ lw_tbl := lw_at lw_m1 229 rfl
theorem q287 : (Jvm.Cond.declares ({ cls := "java/lang/RuntimeException", name := "<init>", desc := "(Ljava/lang/String;)V" } : Jvm.MethodName)) ∈ lw_tbl := lw_at lw_m1 230 rfl
theorem q539 : (Jvm.Cond.instanceMethod ({ cls := "java/lang/RuntimeException", name := "<init>", desc := "(Ljava/lang/String;)V" } : Jvm.MethodName)) ∈ lw_all := lw_g (lw_at lw_m3 2 rfl) rfl
theorem q540 : (Jvm.Cond.code ({ cls := "java/lang/RuntimeException", name := "<init>", desc := "(Ljava/lang/String;)V" } : Jvm.MethodName) prog_35_method_2_code (2 : Nat) (Option.none : Option Jvm.ClassFile.FieldType)) ∈ lw_all := lw_g (lw_at lw_m3 3 rfl) rfl
theorem q541 : (Jvm.Cond.methodLink "java/lang/RuntimeException" (7 : Nat) ({ cls := "java/lang/Exception", name := "<init>", desc := "(Ljava/lang/String;)V" } : Jvm.MethodName)) ∈ lw_all := lw_g (lw_at lw_m3 4 rfl) rfl
theorem q1876 : (Jvm.Cond.instanceMethod ({ cls := "java/lang/RuntimeException", name := "<init>", desc := "()V" } : Jvm.MethodName)) ∈ lw_all := lw_g (lw_at lw_m8 139 rfl) rfl
theorem q1877 : (Jvm.Cond.code ({ cls := "java/lang/RuntimeException", name := "<init>", desc := "()V" } : Jvm.MethodName) prog_35_method_1_code (1 : Nat) (Option.none : Option Jvm.ClassFile.FieldType)) ∈ lw_all := lw_g (lw_at lw_m8 140 rfl) rfl
theorem q1878 : (Jvm.Cond.methodLink "java/lang/RuntimeException" (1 : Nat) ({ cls := "java/lang/Exception", name := "<init>", desc := "()V" } : Jvm.MethodName)) ∈ lw_all := lw_g (lw_at lw_m8 141 rfl) rfl
abbrev cJ12_init : ByteArray := prog_26_method_2_code
def yJ12_init : MethodName := ⟨RJ12, "<init>", "(Ljava/lang/String;)V"⟩
def dkwJ12_init_0 : List UInt8 := [42, 43, 183, 0, 7, 177]
abbrev dktJ12_init_0 : List UInt8 := dkwJ12_init_0 ++ []
theorem dksJ12_init_0 : cJ12_init.data.toList.drop 0 = dktJ12_init_0 := by decide +kernel
theorem dJ12_init_0 : decode cJ12_init 0 = .ok (.aload_n 0, 1) := dk_42 (dk_at dksJ12_init_0 0 rfl rfl)
theorem dJ12_init_1 : decode cJ12_init 1 = .ok (.aload_n 1, 1) := dk_43 (dk_at dksJ12_init_0 1 rfl rfl)
theorem dJ12_init_2 : decode cJ12_init 2 = .ok (.invokespecial 7, 3) := dk_183 0 7 (dk_at dksJ12_init_0 2 rfl rfl)
theorem dJ12_init_5 : decode cJ12_init 5 = .ok (.return_, 1) := dk_177 (dk_at dksJ12_init_0 5 rfl rfl)
abbrev cJ12_init_2 : ByteArray := prog_26_method_1_code
def yJ12_init_2 : MethodName := ⟨RJ12, "<init>", "()V"⟩
theorem dJ12_init_2_0 : decode cJ12_init_2 0 = .ok (.aload_n 0, 1) := by decide +kernel
theorem dJ12_init_2_1 : decode cJ12_init_2 1 = .ok (.invokespecial 1, 3) := by decide +kernel
theorem dJ12_init_2_4 : decode cJ12_init_2 4 = .ok (.return_, 1) := by decide +kernel
theorem q73 : (Jvm.Cond.initialized "java/lang/IllegalArgumentException") ∈ lw_all := lw_g (lw_at lw_m1 16 rfl) rfl
theorem q213 : (Jvm.Cond.selects "java/lang/IllegalArgumentException" ({ cls := "java/lang/Object", name := "hashCode", desc := "()I" } : Jvm.MethodName) ({ cls := "java/lang/Object", name := "hashCode", desc := "()I" } : Jvm.MethodName)) ∈ lw_all := lw_g (lw_at lw_m1 156 rfl) rfl
theorem q284 : (Jvm.Cond.instantiable "java/lang/IllegalArgumentException" (6 : Nat)) ∈ lw_all := lw_g (lw_at lw_m1 227 rfl) rfl
theorem q285 : (Jvm.Cond.castable "java/lang/IllegalArgumentException" "java/lang/IllegalArgumentException") ∈ lw_tbl := lw_at lw_m1 228 rfl
theorem q292 : (Jvm.Cond.selects "java/lang/IllegalArgumentException" ({ cls := "java/lang/Throwable", name := "fillInStackTrace", desc := "(I)Ljava/lang/Throwable;" } : Jvm.MethodName) ({ cls := "java/lang/Throwable", name := "fillInStackTrace", desc := "(I)Ljava/lang/Throwable;" } : Jvm.MethodName)) ∈ lw_all := lw_g (lw_at lw_m1 235 rfl) rfl
theorem q293 : (Jvm.Cond.selects "java/lang/IllegalArgumentException" ({ cls := "java/lang/Throwable", name := "fillInStackTrace", desc := "()Ljava/lang/Throwable;" } : Jvm.MethodName) ({ cls := "java/lang/Throwable", name := "fillInStackTrace", desc := "()Ljava/lang/Throwable;" } : Jvm.MethodName)) ∈ lw_all := lw_g (lw_at lw_m1 236 rfl) rfl
theorem q294 : (Jvm.Cond.lays "java/lang/IllegalArgumentException" "java/lang/Throwable" "cause" "Ljava/lang/Throwable;") ∈ lw_all := lw_g (lw_at lw_m1 237 rfl) rfl
theorem q296 : (Jvm.Cond.lays "java/lang/IllegalArgumentException" "java/lang/Throwable" "stackTrace" "[Ljava/lang/StackTraceElement;") ∈ lw_all := lw_g (lw_at lw_m1 239 rfl) rfl
theorem q298 : (Jvm.Cond.lays "java/lang/IllegalArgumentException" "java/lang/Throwable" "suppressedExceptions" "Ljava/util/List;") ∈ lw_all := lw_g (lw_at lw_m2 1 rfl) rfl
theorem q300 : (Jvm.Cond.lays "java/lang/IllegalArgumentException" "java/lang/Throwable" "detailMessage" "Ljava/lang/String;") ∈ lw_all := lw_g (lw_at lw_m2 3 rfl) rfl
theorem q302 : (Jvm.Cond.lays "java/lang/IllegalArgumentException" "java/lang/Throwable" "backtrace" "Ljava/lang/Object;") ∈ lw_all := lw_g (lw_at lw_m2 5 rfl) rfl
theorem q536 : (Jvm.Cond.instanceMethod ({ cls := "java/lang/IllegalArgumentException", name := "<init>", desc := "(Ljava/lang/String;)V" } : Jvm.MethodName)) ∈ lw_all := lw_g (lw_at lw_m2 239 rfl) rfl
theorem q537 : (Jvm.Cond.code ({ cls := "java/lang/IllegalArgumentException", name := "<init>", desc := "(Ljava/lang/String;)V" } : Jvm.MethodName) prog_26_method_2_code (2 : Nat) (Option.none : Option Jvm.ClassFile.FieldType)) ∈ lw_all := lw_g (lw_at lw_m3 0 rfl) rfl
theorem q538 : (Jvm.Cond.methodLink "java/lang/IllegalArgumentException" (7 : Nat) ({ cls := "java/lang/RuntimeException", name := "<init>", desc := "(Ljava/lang/String;)V" } : Jvm.MethodName)) ∈ lw_all := lw_g (lw_at lw_m3 1 rfl) rfl
theorem q556 : (Jvm.Cond.lays "java/lang/IllegalArgumentException" "java/lang/Throwable" "depth" "I") ∈ lw_all := lw_g (lw_at lw_m3 19 rfl) rfl
theorem q559 : (Jvm.Cond.superclass "java/lang/IllegalArgumentException" "java/lang/RuntimeException") ∈ lw_all := lw_g (lw_at lw_m3 22 rfl) rfl
theorem q673 : (Jvm.Cond.selects "java/lang/IllegalArgumentException" ({ cls := "java/lang/Object", name := "getClass", desc := "()Ljava/lang/Class;" } : Jvm.MethodName) ({ cls := "java/lang/Object", name := "getClass", desc := "()Ljava/lang/Class;" } : Jvm.MethodName)) ∈ lw_all := lw_g (lw_at lw_m3 136 rfl) rfl
theorem q940 : (Jvm.Cond.selects "java/lang/IllegalArgumentException" ({ cls := "java/lang/Object", name := "equals", desc := "(Ljava/lang/Object;)Z" } : Jvm.MethodName) ({ cls := "java/lang/Object", name := "equals", desc := "(Ljava/lang/Object;)Z" } : Jvm.MethodName)) ∈ lw_all := lw_g (lw_at lw_m4 163 rfl) rfl
theorem q1873 : (Jvm.Cond.instanceMethod ({ cls := "java/lang/IllegalArgumentException", name := "<init>", desc := "()V" } : Jvm.MethodName)) ∈ lw_all := lw_g (lw_at lw_m8 136 rfl) rfl
theorem q1874 : (Jvm.Cond.code ({ cls := "java/lang/IllegalArgumentException", name := "<init>", desc := "()V" } : Jvm.MethodName) prog_26_method_1_code (1 : Nat) (Option.none : Option Jvm.ClassFile.FieldType)) ∈ lw_all := lw_g (lw_at lw_m8 137 rfl) rfl
theorem q1875 : (Jvm.Cond.methodLink "java/lang/IllegalArgumentException" (1 : Nat) ({ cls := "java/lang/RuntimeException", name := "<init>", desc := "()V" } : Jvm.MethodName)) ∈ lw_all := lw_g (lw_at lw_m8 138 rfl) rfl
theorem q2754 : (Jvm.Cond.castable "java/lang/IllegalArgumentException" "java/lang/Object") ∈ lw_tbl := lw_at lw_m12 57 rfl
abbrev cJ13_init : ByteArray := prog_17_method_2_code
def yJ13_init : MethodName := ⟨RJ13, "<init>", "(I)V"⟩
def dkwJ13_init_1 : List UInt8 := [167, 0, 16, 42, 27, 184, 0, 26, 181, 0, 15, 42, 4, 181, 0, 22, 177]
abbrev dktJ13_init_1 : List UInt8 := dkwJ13_init_1 ++ []
def dkwJ13_init_0 : List UInt8 := [42, 183, 0, 3, 178, 0, 18, 153, 0, 18, 42, 27, 188, 8, 181, 0, 15, 42, 3, 181, 0, 22]
abbrev dktJ13_init_0 : List UInt8 := dkwJ13_init_0 ++ dktJ13_init_1
theorem dksJ13_init_0 : cJ13_init.data.toList.drop 0 = dktJ13_init_0 := by decide +kernel
theorem dksJ13_init_1 : cJ13_init.data.toList.drop 22 = dktJ13_init_1 := dk_seg dksJ13_init_0 22 rfl rfl
theorem dJ13_init_0 : decode cJ13_init 0 = .ok (.aload_n 0, 1) := dk_42 (dk_at dksJ13_init_0 0 rfl rfl)
theorem dJ13_init_1 : decode cJ13_init 1 = .ok (.invokespecial 3, 3) := dk_183 0 3 (dk_at dksJ13_init_0 1 rfl rfl)
theorem dJ13_init_4 : decode cJ13_init 4 = .ok (.getstatic 18, 3) := dk_178 0 18 (dk_at dksJ13_init_0 4 rfl rfl)
theorem dJ13_init_7 : decode cJ13_init 7 = .ok (.ifCond .eq 18, 3) := dk_153 0 18 (dk_at dksJ13_init_0 7 rfl rfl)
theorem dJ13_init_10 : decode cJ13_init 10 = .ok (.aload_n 0, 1) := dk_42 (dk_at dksJ13_init_0 10 rfl rfl)
theorem dJ13_init_11 : decode cJ13_init 11 = .ok (.iload_n 1, 1) := dk_27 (dk_at dksJ13_init_0 11 rfl rfl)
theorem dJ13_init_12 : decode cJ13_init 12 = .ok (.newarray .byte, 2) := dk_188_8 (dk_at dksJ13_init_0 12 rfl rfl)
theorem dJ13_init_14 : decode cJ13_init 14 = .ok (.putfield 15, 3) := dk_181 0 15 (dk_at dksJ13_init_0 14 rfl rfl)
theorem dJ13_init_17 : decode cJ13_init 17 = .ok (.aload_n 0, 1) := dk_42 (dk_at dksJ13_init_0 17 rfl rfl)
theorem dJ13_init_18 : decode cJ13_init 18 = .ok (.iconst 0, 1) := dk_3 (dk_at dksJ13_init_0 18 rfl rfl)
theorem dJ13_init_19 : decode cJ13_init 19 = .ok (.putfield 22, 3) := dk_181 0 22 (dk_at dksJ13_init_0 19 rfl rfl)
theorem dJ13_init_22 : decode cJ13_init 22 = .ok (.goto 16, 3) := dk_167 0 16 (dk_at dksJ13_init_1 0 rfl rfl)
theorem dJ13_init_25 : decode cJ13_init 25 = .ok (.aload_n 0, 1) := dk_42 (dk_at dksJ13_init_1 3 rfl rfl)
theorem dJ13_init_26 : decode cJ13_init 26 = .ok (.iload_n 1, 1) := dk_27 (dk_at dksJ13_init_1 4 rfl rfl)
theorem dJ13_init_27 : decode cJ13_init 27 = .ok (.invokestatic 26, 3) := dk_184 0 26 (dk_at dksJ13_init_1 5 rfl rfl)
theorem dJ13_init_30 : decode cJ13_init 30 = .ok (.putfield 15, 3) := dk_181 0 15 (dk_at dksJ13_init_1 8 rfl rfl)
theorem dJ13_init_33 : decode cJ13_init 33 = .ok (.aload_n 0, 1) := dk_42 (dk_at dksJ13_init_1 11 rfl rfl)
theorem dJ13_init_34 : decode cJ13_init 34 = .ok (.iconst 1, 1) := dk_4 (dk_at dksJ13_init_1 12 rfl rfl)
theorem dJ13_init_35 : decode cJ13_init 35 = .ok (.putfield 22, 3) := dk_181 0 22 (dk_at dksJ13_init_1 13 rfl rfl)
theorem dJ13_init_38 : decode cJ13_init 38 = .ok (.return_, 1) := dk_177 (dk_at dksJ13_init_1 16 rfl rfl)
abbrev cJ13_append : ByteArray := prog_17_method_22_code
def yJ13_append : MethodName := ⟨RJ13, "append", "(Ljava/lang/String;)Ljava/lang/AbstractStringBuilder;"⟩
def dkwJ13_append_1 : List UInt8 := [42, 42, 180, 0, 79, 43, 182, 0, 208, 42, 89, 180, 0, 79, 28, 96, 181, 0, 79, 42, 176]
abbrev dktJ13_append_1 : List UInt8 := dkwJ13_append_1 ++ []
def dkwJ13_append_0 : List UInt8 := [43, 199, 0, 8, 42, 182, 0, 204, 176, 43, 182, 0, 32, 61, 42, 42, 180, 0, 79, 28, 96, 182, 0, 100]
abbrev dktJ13_append_0 : List UInt8 := dkwJ13_append_0 ++ dktJ13_append_1
theorem dksJ13_append_0 : cJ13_append.data.toList.drop 0 = dktJ13_append_0 := by decide +kernel
theorem dksJ13_append_1 : cJ13_append.data.toList.drop 24 = dktJ13_append_1 := dk_seg dksJ13_append_0 24 rfl rfl
theorem dJ13_append_0 : decode cJ13_append 0 = .ok (.aload_n 1, 1) := dk_43 (dk_at dksJ13_append_0 0 rfl rfl)
theorem dJ13_append_1 : decode cJ13_append 1 = .ok (.ifnonnull 8, 3) := dk_199 0 8 (dk_at dksJ13_append_0 1 rfl rfl)
theorem dJ13_append_4 : decode cJ13_append 4 = .ok (.aload_n 0, 1) := dk_42 (dk_at dksJ13_append_0 4 rfl rfl)
theorem dJ13_append_5 : decode cJ13_append 5 = .ok (.invokevirtual 204, 3) := dk_182 0 204 (dk_at dksJ13_append_0 5 rfl rfl)
theorem dJ13_append_8 : decode cJ13_append 8 = .ok (.areturn, 1) := dk_176 (dk_at dksJ13_append_0 8 rfl rfl)
theorem dJ13_append_9 : decode cJ13_append 9 = .ok (.aload_n 1, 1) := dk_43 (dk_at dksJ13_append_0 9 rfl rfl)
theorem dJ13_append_10 : decode cJ13_append 10 = .ok (.invokevirtual 32, 3) := dk_182 0 32 (dk_at dksJ13_append_0 10 rfl rfl)
theorem dJ13_append_13 : decode cJ13_append 13 = .ok (.istore_n 2, 1) := dk_61 (dk_at dksJ13_append_0 13 rfl rfl)
theorem dJ13_append_14 : decode cJ13_append 14 = .ok (.aload_n 0, 1) := dk_42 (dk_at dksJ13_append_0 14 rfl rfl)
theorem dJ13_append_15 : decode cJ13_append 15 = .ok (.aload_n 0, 1) := dk_42 (dk_at dksJ13_append_0 15 rfl rfl)
theorem dJ13_append_16 : decode cJ13_append 16 = .ok (.getfield 79, 3) := dk_180 0 79 (dk_at dksJ13_append_0 16 rfl rfl)
theorem dJ13_append_19 : decode cJ13_append 19 = .ok (.iload_n 2, 1) := dk_28 (dk_at dksJ13_append_0 19 rfl rfl)
theorem dJ13_append_20 : decode cJ13_append 20 = .ok (.iadd, 1) := dk_96 (dk_at dksJ13_append_0 20 rfl rfl)
theorem dJ13_append_21 : decode cJ13_append 21 = .ok (.invokevirtual 100, 3) := dk_182 0 100 (dk_at dksJ13_append_0 21 rfl rfl)
theorem dJ13_append_24 : decode cJ13_append 24 = .ok (.aload_n 0, 1) := dk_42 (dk_at dksJ13_append_1 0 rfl rfl)
theorem dJ13_append_25 : decode cJ13_append 25 = .ok (.aload_n 0, 1) := dk_42 (dk_at dksJ13_append_1 1 rfl rfl)
theorem dJ13_append_26 : decode cJ13_append 26 = .ok (.getfield 79, 3) := dk_180 0 79 (dk_at dksJ13_append_1 2 rfl rfl)
theorem dJ13_append_29 : decode cJ13_append 29 = .ok (.aload_n 1, 1) := dk_43 (dk_at dksJ13_append_1 5 rfl rfl)
theorem dJ13_append_30 : decode cJ13_append 30 = .ok (.invokevirtual 208, 3) := dk_182 0 208 (dk_at dksJ13_append_1 6 rfl rfl)
theorem dJ13_append_33 : decode cJ13_append 33 = .ok (.aload_n 0, 1) := dk_42 (dk_at dksJ13_append_1 9 rfl rfl)
theorem dJ13_append_34 : decode cJ13_append 34 = .ok (.dup, 1) := dk_89 (dk_at dksJ13_append_1 10 rfl rfl)
theorem dJ13_append_35 : decode cJ13_append 35 = .ok (.getfield 79, 3) := dk_180 0 79 (dk_at dksJ13_append_1 11 rfl rfl)
theorem dJ13_append_38 : decode cJ13_append 38 = .ok (.iload_n 2, 1) := dk_28 (dk_at dksJ13_append_1 14 rfl rfl)
theorem dJ13_append_39 : decode cJ13_append 39 = .ok (.iadd, 1) := dk_96 (dk_at dksJ13_append_1 15 rfl rfl)
theorem dJ13_append_40 : decode cJ13_append 40 = .ok (.putfield 79, 3) := dk_181 0 79 (dk_at dksJ13_append_1 16 rfl rfl)
theorem dJ13_append_43 : decode cJ13_append 43 = .ok (.aload_n 0, 1) := dk_42 (dk_at dksJ13_append_1 19 rfl rfl)
theorem dJ13_append_44 : decode cJ13_append 44 = .ok (.areturn, 1) := dk_176 (dk_at dksJ13_append_1 20 rfl rfl)
abbrev cJ13_appendNull : ByteArray := prog_17_method_26_code
def yJ13_appendNull : MethodName := ⟨RJ13, "appendNull", "()Ljava/lang/AbstractStringBuilder;"⟩
def dkwJ13_appendNull_3 : List UInt8 := [184, 0, 226, 60, 42, 27, 181, 0, 79, 42, 176]
abbrev dktJ13_appendNull_3 : List UInt8 := dkwJ13_appendNull_3 ++ []
def dkwJ13_appendNull_2 : List UInt8 := [16, 108, 84, 44, 27, 132, 1, 1, 16, 108, 84, 167, 0, 17, 44, 27, 16, 110, 16, 117, 16, 108, 16, 108]
abbrev dktJ13_appendNull_2 : List UInt8 := dkwJ13_appendNull_2 ++ dktJ13_appendNull_3
def dkwJ13_appendNull_1 : List UInt8 := [153, 0, 38, 44, 27, 132, 1, 1, 16, 110, 84, 44, 27, 132, 1, 1, 16, 117, 84, 44, 27, 132, 1, 1]
abbrev dktJ13_appendNull_1 : List UInt8 := dkwJ13_appendNull_1 ++ dktJ13_appendNull_2
def dkwJ13_appendNull_0 : List UInt8 := [42, 42, 180, 0, 79, 7, 96, 182, 0, 100, 42, 180, 0, 79, 60, 42, 180, 0, 15, 77, 42, 182, 0, 83]
abbrev dktJ13_appendNull_0 : List UInt8 := dkwJ13_appendNull_0 ++ dktJ13_appendNull_1
theorem dksJ13_appendNull_0 : cJ13_appendNull.data.toList.drop 0 = dktJ13_appendNull_0 := by decide +kernel
theorem dksJ13_appendNull_1 : cJ13_appendNull.data.toList.drop 24 = dktJ13_appendNull_1 := dk_seg dksJ13_appendNull_0 24 rfl rfl
theorem dksJ13_appendNull_2 : cJ13_appendNull.data.toList.drop 48 = dktJ13_appendNull_2 := dk_seg dksJ13_appendNull_1 24 rfl rfl
theorem dksJ13_appendNull_3 : cJ13_appendNull.data.toList.drop 72 = dktJ13_appendNull_3 := dk_seg dksJ13_appendNull_2 24 rfl rfl
theorem dJ13_appendNull_0 : decode cJ13_appendNull 0 = .ok (.aload_n 0, 1) := dk_42 (dk_at dksJ13_appendNull_0 0 rfl rfl)
theorem dJ13_appendNull_1 : decode cJ13_appendNull 1 = .ok (.aload_n 0, 1) := dk_42 (dk_at dksJ13_appendNull_0 1 rfl rfl)
theorem dJ13_appendNull_2 : decode cJ13_appendNull 2 = .ok (.getfield 79, 3) := dk_180 0 79 (dk_at dksJ13_appendNull_0 2 rfl rfl)
theorem dJ13_appendNull_5 : decode cJ13_appendNull 5 = .ok (.iconst 4, 1) := dk_7 (dk_at dksJ13_appendNull_0 5 rfl rfl)
theorem dJ13_appendNull_6 : decode cJ13_appendNull 6 = .ok (.iadd, 1) := dk_96 (dk_at dksJ13_appendNull_0 6 rfl rfl)
theorem dJ13_appendNull_7 : decode cJ13_appendNull 7 = .ok (.invokevirtual 100, 3) := dk_182 0 100 (dk_at dksJ13_appendNull_0 7 rfl rfl)
theorem dJ13_appendNull_10 : decode cJ13_appendNull 10 = .ok (.aload_n 0, 1) := dk_42 (dk_at dksJ13_appendNull_0 10 rfl rfl)
theorem dJ13_appendNull_11 : decode cJ13_appendNull 11 = .ok (.getfield 79, 3) := dk_180 0 79 (dk_at dksJ13_appendNull_0 11 rfl rfl)
theorem dJ13_appendNull_14 : decode cJ13_appendNull 14 = .ok (.istore_n 1, 1) := dk_60 (dk_at dksJ13_appendNull_0 14 rfl rfl)
theorem dJ13_appendNull_15 : decode cJ13_appendNull 15 = .ok (.aload_n 0, 1) := dk_42 (dk_at dksJ13_appendNull_0 15 rfl rfl)
theorem dJ13_appendNull_16 : decode cJ13_appendNull 16 = .ok (.getfield 15, 3) := dk_180 0 15 (dk_at dksJ13_appendNull_0 16 rfl rfl)
theorem dJ13_appendNull_19 : decode cJ13_appendNull 19 = .ok (.astore_n 2, 1) := dk_77 (dk_at dksJ13_appendNull_0 19 rfl rfl)
theorem dJ13_appendNull_20 : decode cJ13_appendNull 20 = .ok (.aload_n 0, 1) := dk_42 (dk_at dksJ13_appendNull_0 20 rfl rfl)
theorem dJ13_appendNull_21 : decode cJ13_appendNull 21 = .ok (.invokevirtual 83, 3) := dk_182 0 83 (dk_at dksJ13_appendNull_0 21 rfl rfl)
theorem dJ13_appendNull_24 : decode cJ13_appendNull 24 = .ok (.ifCond .eq 38, 3) := dk_153 0 38 (dk_at dksJ13_appendNull_1 0 rfl rfl)
theorem dJ13_appendNull_27 : decode cJ13_appendNull 27 = .ok (.aload_n 2, 1) := dk_44 (dk_at dksJ13_appendNull_1 3 rfl rfl)
theorem dJ13_appendNull_28 : decode cJ13_appendNull 28 = .ok (.iload_n 1, 1) := dk_27 (dk_at dksJ13_appendNull_1 4 rfl rfl)
theorem dJ13_appendNull_29 : decode cJ13_appendNull 29 = .ok (.iinc 1 1, 3) := dk_132 1 1 (dk_at dksJ13_appendNull_1 5 rfl rfl)
theorem dJ13_appendNull_32 : decode cJ13_appendNull 32 = .ok (.bipush 110, 2) := dk_16 110 (dk_at dksJ13_appendNull_1 8 rfl rfl)
theorem dJ13_appendNull_34 : decode cJ13_appendNull 34 = .ok (.bastore, 1) := dk_84 (dk_at dksJ13_appendNull_1 10 rfl rfl)
theorem dJ13_appendNull_35 : decode cJ13_appendNull 35 = .ok (.aload_n 2, 1) := dk_44 (dk_at dksJ13_appendNull_1 11 rfl rfl)
theorem dJ13_appendNull_36 : decode cJ13_appendNull 36 = .ok (.iload_n 1, 1) := dk_27 (dk_at dksJ13_appendNull_1 12 rfl rfl)
theorem dJ13_appendNull_37 : decode cJ13_appendNull 37 = .ok (.iinc 1 1, 3) := dk_132 1 1 (dk_at dksJ13_appendNull_1 13 rfl rfl)
theorem dJ13_appendNull_40 : decode cJ13_appendNull 40 = .ok (.bipush 117, 2) := dk_16 117 (dk_at dksJ13_appendNull_1 16 rfl rfl)
theorem dJ13_appendNull_42 : decode cJ13_appendNull 42 = .ok (.bastore, 1) := dk_84 (dk_at dksJ13_appendNull_1 18 rfl rfl)
theorem dJ13_appendNull_43 : decode cJ13_appendNull 43 = .ok (.aload_n 2, 1) := dk_44 (dk_at dksJ13_appendNull_1 19 rfl rfl)
theorem dJ13_appendNull_44 : decode cJ13_appendNull 44 = .ok (.iload_n 1, 1) := dk_27 (dk_at dksJ13_appendNull_1 20 rfl rfl)
theorem dJ13_appendNull_45 : decode cJ13_appendNull 45 = .ok (.iinc 1 1, 3) := dk_132 1 1 (dk_at dksJ13_appendNull_1 21 rfl rfl)
theorem dJ13_appendNull_48 : decode cJ13_appendNull 48 = .ok (.bipush 108, 2) := dk_16 108 (dk_at dksJ13_appendNull_2 0 rfl rfl)
theorem dJ13_appendNull_50 : decode cJ13_appendNull 50 = .ok (.bastore, 1) := dk_84 (dk_at dksJ13_appendNull_2 2 rfl rfl)
theorem dJ13_appendNull_51 : decode cJ13_appendNull 51 = .ok (.aload_n 2, 1) := dk_44 (dk_at dksJ13_appendNull_2 3 rfl rfl)
theorem dJ13_appendNull_52 : decode cJ13_appendNull 52 = .ok (.iload_n 1, 1) := dk_27 (dk_at dksJ13_appendNull_2 4 rfl rfl)
theorem dJ13_appendNull_53 : decode cJ13_appendNull 53 = .ok (.iinc 1 1, 3) := dk_132 1 1 (dk_at dksJ13_appendNull_2 5 rfl rfl)
theorem dJ13_appendNull_56 : decode cJ13_appendNull 56 = .ok (.bipush 108, 2) := dk_16 108 (dk_at dksJ13_appendNull_2 8 rfl rfl)
theorem dJ13_appendNull_58 : decode cJ13_appendNull 58 = .ok (.bastore, 1) := dk_84 (dk_at dksJ13_appendNull_2 10 rfl rfl)
theorem dJ13_appendNull_59 : decode cJ13_appendNull 59 = .ok (.goto 17, 3) := dk_167 0 17 (dk_at dksJ13_appendNull_2 11 rfl rfl)
theorem dJ13_appendNull_62 : decode cJ13_appendNull 62 = .ok (.aload_n 2, 1) := dk_44 (dk_at dksJ13_appendNull_2 14 rfl rfl)
theorem dJ13_appendNull_63 : decode cJ13_appendNull 63 = .ok (.iload_n 1, 1) := dk_27 (dk_at dksJ13_appendNull_2 15 rfl rfl)
theorem dJ13_appendNull_64 : decode cJ13_appendNull 64 = .ok (.bipush 110, 2) := dk_16 110 (dk_at dksJ13_appendNull_2 16 rfl rfl)
theorem dJ13_appendNull_66 : decode cJ13_appendNull 66 = .ok (.bipush 117, 2) := dk_16 117 (dk_at dksJ13_appendNull_2 18 rfl rfl)
theorem dJ13_appendNull_68 : decode cJ13_appendNull 68 = .ok (.bipush 108, 2) := dk_16 108 (dk_at dksJ13_appendNull_2 20 rfl rfl)
theorem dJ13_appendNull_70 : decode cJ13_appendNull 70 = .ok (.bipush 108, 2) := dk_16 108 (dk_at dksJ13_appendNull_2 22 rfl rfl)
theorem dJ13_appendNull_72 : decode cJ13_appendNull 72 = .ok (.invokestatic 226, 3) := dk_184 0 226 (dk_at dksJ13_appendNull_3 0 rfl rfl)
theorem dJ13_appendNull_75 : decode cJ13_appendNull 75 = .ok (.istore_n 1, 1) := dk_60 (dk_at dksJ13_appendNull_3 3 rfl rfl)
theorem dJ13_appendNull_76 : decode cJ13_appendNull 76 = .ok (.aload_n 0, 1) := dk_42 (dk_at dksJ13_appendNull_3 4 rfl rfl)
theorem dJ13_appendNull_77 : decode cJ13_appendNull 77 = .ok (.iload_n 1, 1) := dk_27 (dk_at dksJ13_appendNull_3 5 rfl rfl)
theorem dJ13_appendNull_78 : decode cJ13_appendNull 78 = .ok (.putfield 79, 3) := dk_181 0 79 (dk_at dksJ13_appendNull_3 6 rfl rfl)
theorem dJ13_appendNull_81 : decode cJ13_appendNull 81 = .ok (.aload_n 0, 1) := dk_42 (dk_at dksJ13_appendNull_3 9 rfl rfl)
theorem dJ13_appendNull_82 : decode cJ13_appendNull 82 = .ok (.areturn, 1) := dk_176 (dk_at dksJ13_appendNull_3 10 rfl rfl)
abbrev cJ13_ensureCapacityInternal : ByteArray := prog_17_method_9_code
def yJ13_ensureCapacityInternal : MethodName := ⟨RJ13, "ensureCapacityInternal", "(I)V"⟩
def dkwJ13_ensureCapacityInternal_1 : List UInt8 := [182, 0, 104, 42, 180, 0, 22, 120, 184, 0, 108, 181, 0, 15, 177]
abbrev dktJ13_ensureCapacityInternal_1 : List UInt8 := dkwJ13_ensureCapacityInternal_1 ++ []
def dkwJ13_ensureCapacityInternal_0 : List UInt8 := [42, 180, 0, 15, 190, 42, 180, 0, 22, 122, 61, 27, 28, 100, 158, 0, 24, 42, 42, 180, 0, 15, 42, 27]
abbrev dktJ13_ensureCapacityInternal_0 : List UInt8 := dkwJ13_ensureCapacityInternal_0 ++ dktJ13_ensureCapacityInternal_1
theorem dksJ13_ensureCapacityInternal_0 : cJ13_ensureCapacityInternal.data.toList.drop 0 = dktJ13_ensureCapacityInternal_0 := by decide +kernel
theorem dksJ13_ensureCapacityInternal_1 : cJ13_ensureCapacityInternal.data.toList.drop 24 = dktJ13_ensureCapacityInternal_1 := dk_seg dksJ13_ensureCapacityInternal_0 24 rfl rfl
theorem dJ13_ensureCapacityInternal_0 : decode cJ13_ensureCapacityInternal 0 = .ok (.aload_n 0, 1) := dk_42 (dk_at dksJ13_ensureCapacityInternal_0 0 rfl rfl)
theorem dJ13_ensureCapacityInternal_1 : decode cJ13_ensureCapacityInternal 1 = .ok (.getfield 15, 3) := dk_180 0 15 (dk_at dksJ13_ensureCapacityInternal_0 1 rfl rfl)
theorem dJ13_ensureCapacityInternal_4 : decode cJ13_ensureCapacityInternal 4 = .ok (.arraylength, 1) := dk_190 (dk_at dksJ13_ensureCapacityInternal_0 4 rfl rfl)
theorem dJ13_ensureCapacityInternal_5 : decode cJ13_ensureCapacityInternal 5 = .ok (.aload_n 0, 1) := dk_42 (dk_at dksJ13_ensureCapacityInternal_0 5 rfl rfl)
theorem dJ13_ensureCapacityInternal_6 : decode cJ13_ensureCapacityInternal 6 = .ok (.getfield 22, 3) := dk_180 0 22 (dk_at dksJ13_ensureCapacityInternal_0 6 rfl rfl)
theorem dJ13_ensureCapacityInternal_9 : decode cJ13_ensureCapacityInternal 9 = .ok (.ishr, 1) := dk_122 (dk_at dksJ13_ensureCapacityInternal_0 9 rfl rfl)
theorem dJ13_ensureCapacityInternal_10 : decode cJ13_ensureCapacityInternal 10 = .ok (.istore_n 2, 1) := dk_61 (dk_at dksJ13_ensureCapacityInternal_0 10 rfl rfl)
theorem dJ13_ensureCapacityInternal_11 : decode cJ13_ensureCapacityInternal 11 = .ok (.iload_n 1, 1) := dk_27 (dk_at dksJ13_ensureCapacityInternal_0 11 rfl rfl)
theorem dJ13_ensureCapacityInternal_12 : decode cJ13_ensureCapacityInternal 12 = .ok (.iload_n 2, 1) := dk_28 (dk_at dksJ13_ensureCapacityInternal_0 12 rfl rfl)
theorem dJ13_ensureCapacityInternal_13 : decode cJ13_ensureCapacityInternal 13 = .ok (.isub, 1) := dk_100 (dk_at dksJ13_ensureCapacityInternal_0 13 rfl rfl)
theorem dJ13_ensureCapacityInternal_14 : decode cJ13_ensureCapacityInternal 14 = .ok (.ifCond .le 24, 3) := dk_158 0 24 (dk_at dksJ13_ensureCapacityInternal_0 14 rfl rfl)
theorem dJ13_ensureCapacityInternal_17 : decode cJ13_ensureCapacityInternal 17 = .ok (.aload_n 0, 1) := dk_42 (dk_at dksJ13_ensureCapacityInternal_0 17 rfl rfl)
theorem dJ13_ensureCapacityInternal_18 : decode cJ13_ensureCapacityInternal 18 = .ok (.aload_n 0, 1) := dk_42 (dk_at dksJ13_ensureCapacityInternal_0 18 rfl rfl)
theorem dJ13_ensureCapacityInternal_19 : decode cJ13_ensureCapacityInternal 19 = .ok (.getfield 15, 3) := dk_180 0 15 (dk_at dksJ13_ensureCapacityInternal_0 19 rfl rfl)
theorem dJ13_ensureCapacityInternal_22 : decode cJ13_ensureCapacityInternal 22 = .ok (.aload_n 0, 1) := dk_42 (dk_at dksJ13_ensureCapacityInternal_0 22 rfl rfl)
theorem dJ13_ensureCapacityInternal_23 : decode cJ13_ensureCapacityInternal 23 = .ok (.iload_n 1, 1) := dk_27 (dk_at dksJ13_ensureCapacityInternal_0 23 rfl rfl)
theorem dJ13_ensureCapacityInternal_24 : decode cJ13_ensureCapacityInternal 24 = .ok (.invokevirtual 104, 3) := dk_182 0 104 (dk_at dksJ13_ensureCapacityInternal_1 0 rfl rfl)
theorem dJ13_ensureCapacityInternal_27 : decode cJ13_ensureCapacityInternal 27 = .ok (.aload_n 0, 1) := dk_42 (dk_at dksJ13_ensureCapacityInternal_1 3 rfl rfl)
theorem dJ13_ensureCapacityInternal_28 : decode cJ13_ensureCapacityInternal 28 = .ok (.getfield 22, 3) := dk_180 0 22 (dk_at dksJ13_ensureCapacityInternal_1 4 rfl rfl)
theorem dJ13_ensureCapacityInternal_31 : decode cJ13_ensureCapacityInternal 31 = .ok (.ishl, 1) := dk_120 (dk_at dksJ13_ensureCapacityInternal_1 7 rfl rfl)
theorem dJ13_ensureCapacityInternal_32 : decode cJ13_ensureCapacityInternal 32 = .ok (.invokestatic 108, 3) := dk_184 0 108 (dk_at dksJ13_ensureCapacityInternal_1 8 rfl rfl)
theorem dJ13_ensureCapacityInternal_35 : decode cJ13_ensureCapacityInternal 35 = .ok (.putfield 15, 3) := dk_181 0 15 (dk_at dksJ13_ensureCapacityInternal_1 11 rfl rfl)
theorem dJ13_ensureCapacityInternal_38 : decode cJ13_ensureCapacityInternal 38 = .ok (.return_, 1) := dk_177 (dk_at dksJ13_ensureCapacityInternal_1 14 rfl rfl)
abbrev cJ13_newCapacity : ByteArray := prog_17_method_10_code
def yJ13_newCapacity : MethodName := ⟨RJ13, "newCapacity", "(I)I"⟩
def dkwJ13_newCapacity_2 : List UInt8 := [183, 0, 124, 191, 21, 5, 42, 180, 0, 22, 122, 172]
abbrev dktJ13_newCapacity_2 : List UInt8 := dkwJ13_newCapacity_2 ++ []
def dkwJ13_newCapacity_1 : List UInt8 := [180, 0, 22, 120, 96, 184, 0, 114, 54, 5, 21, 5, 18, 39, 160, 0, 13, 187, 0, 120, 89, 18, 122]
abbrev dktJ13_newCapacity_1 : List UInt8 := dkwJ13_newCapacity_1 ++ dktJ13_newCapacity_2
def dkwJ13_newCapacity_0 : List UInt8 := [42, 180, 0, 15, 190, 61, 27, 42, 180, 0, 22, 120, 62, 29, 28, 100, 54, 4, 28, 21, 4, 28, 5, 42]
abbrev dktJ13_newCapacity_0 : List UInt8 := dkwJ13_newCapacity_0 ++ dktJ13_newCapacity_1
theorem dksJ13_newCapacity_0 : cJ13_newCapacity.data.toList.drop 0 = dktJ13_newCapacity_0 := by decide +kernel
theorem dksJ13_newCapacity_1 : cJ13_newCapacity.data.toList.drop 24 = dktJ13_newCapacity_1 := dk_seg dksJ13_newCapacity_0 24 rfl rfl
theorem dksJ13_newCapacity_2 : cJ13_newCapacity.data.toList.drop 47 = dktJ13_newCapacity_2 := dk_seg dksJ13_newCapacity_1 23 rfl rfl
theorem dJ13_newCapacity_0 : decode cJ13_newCapacity 0 = .ok (.aload_n 0, 1) := dk_42 (dk_at dksJ13_newCapacity_0 0 rfl rfl)
theorem dJ13_newCapacity_1 : decode cJ13_newCapacity 1 = .ok (.getfield 15, 3) := dk_180 0 15 (dk_at dksJ13_newCapacity_0 1 rfl rfl)
theorem dJ13_newCapacity_4 : decode cJ13_newCapacity 4 = .ok (.arraylength, 1) := dk_190 (dk_at dksJ13_newCapacity_0 4 rfl rfl)
theorem dJ13_newCapacity_5 : decode cJ13_newCapacity 5 = .ok (.istore_n 2, 1) := dk_61 (dk_at dksJ13_newCapacity_0 5 rfl rfl)
theorem dJ13_newCapacity_6 : decode cJ13_newCapacity 6 = .ok (.iload_n 1, 1) := dk_27 (dk_at dksJ13_newCapacity_0 6 rfl rfl)
theorem dJ13_newCapacity_7 : decode cJ13_newCapacity 7 = .ok (.aload_n 0, 1) := dk_42 (dk_at dksJ13_newCapacity_0 7 rfl rfl)
theorem dJ13_newCapacity_8 : decode cJ13_newCapacity 8 = .ok (.getfield 22, 3) := dk_180 0 22 (dk_at dksJ13_newCapacity_0 8 rfl rfl)
theorem dJ13_newCapacity_11 : decode cJ13_newCapacity 11 = .ok (.ishl, 1) := dk_120 (dk_at dksJ13_newCapacity_0 11 rfl rfl)
theorem dJ13_newCapacity_12 : decode cJ13_newCapacity 12 = .ok (.istore_n 3, 1) := dk_62 (dk_at dksJ13_newCapacity_0 12 rfl rfl)
theorem dJ13_newCapacity_13 : decode cJ13_newCapacity 13 = .ok (.iload_n 3, 1) := dk_29 (dk_at dksJ13_newCapacity_0 13 rfl rfl)
theorem dJ13_newCapacity_14 : decode cJ13_newCapacity 14 = .ok (.iload_n 2, 1) := dk_28 (dk_at dksJ13_newCapacity_0 14 rfl rfl)
theorem dJ13_newCapacity_15 : decode cJ13_newCapacity 15 = .ok (.isub, 1) := dk_100 (dk_at dksJ13_newCapacity_0 15 rfl rfl)
theorem dJ13_newCapacity_16 : decode cJ13_newCapacity 16 = .ok (.istore 4, 2) := dk_54 4 (dk_at dksJ13_newCapacity_0 16 rfl rfl)
theorem dJ13_newCapacity_18 : decode cJ13_newCapacity 18 = .ok (.iload_n 2, 1) := dk_28 (dk_at dksJ13_newCapacity_0 18 rfl rfl)
theorem dJ13_newCapacity_19 : decode cJ13_newCapacity 19 = .ok (.iload 4, 2) := dk_21 4 (dk_at dksJ13_newCapacity_0 19 rfl rfl)
theorem dJ13_newCapacity_21 : decode cJ13_newCapacity 21 = .ok (.iload_n 2, 1) := dk_28 (dk_at dksJ13_newCapacity_0 21 rfl rfl)
theorem dJ13_newCapacity_22 : decode cJ13_newCapacity 22 = .ok (.iconst 2, 1) := dk_5 (dk_at dksJ13_newCapacity_0 22 rfl rfl)
theorem dJ13_newCapacity_23 : decode cJ13_newCapacity 23 = .ok (.aload_n 0, 1) := dk_42 (dk_at dksJ13_newCapacity_0 23 rfl rfl)
theorem dJ13_newCapacity_24 : decode cJ13_newCapacity 24 = .ok (.getfield 22, 3) := dk_180 0 22 (dk_at dksJ13_newCapacity_1 0 rfl rfl)
theorem dJ13_newCapacity_27 : decode cJ13_newCapacity 27 = .ok (.ishl, 1) := dk_120 (dk_at dksJ13_newCapacity_1 3 rfl rfl)
theorem dJ13_newCapacity_28 : decode cJ13_newCapacity 28 = .ok (.iadd, 1) := dk_96 (dk_at dksJ13_newCapacity_1 4 rfl rfl)
theorem dJ13_newCapacity_29 : decode cJ13_newCapacity 29 = .ok (.invokestatic 114, 3) := dk_184 0 114 (dk_at dksJ13_newCapacity_1 5 rfl rfl)
theorem dJ13_newCapacity_32 : decode cJ13_newCapacity 32 = .ok (.istore 5, 2) := dk_54 5 (dk_at dksJ13_newCapacity_1 8 rfl rfl)
theorem dJ13_newCapacity_34 : decode cJ13_newCapacity 34 = .ok (.iload 5, 2) := dk_21 5 (dk_at dksJ13_newCapacity_1 10 rfl rfl)
theorem dJ13_newCapacity_36 : decode cJ13_newCapacity 36 = .ok (.ldc 39, 2) := dk_18 39 (dk_at dksJ13_newCapacity_1 12 rfl rfl)
theorem dJ13_newCapacity_38 : decode cJ13_newCapacity 38 = .ok (.if_icmp .ne 13, 3) := dk_160 0 13 (dk_at dksJ13_newCapacity_1 14 rfl rfl)
theorem dJ13_newCapacity_41 : decode cJ13_newCapacity 41 = .ok (.new 120, 3) := dk_187 0 120 (dk_at dksJ13_newCapacity_1 17 rfl rfl)
theorem dJ13_newCapacity_44 : decode cJ13_newCapacity 44 = .ok (.dup, 1) := dk_89 (dk_at dksJ13_newCapacity_1 20 rfl rfl)
theorem dJ13_newCapacity_45 : decode cJ13_newCapacity 45 = .ok (.ldc 122, 2) := dk_18 122 (dk_at dksJ13_newCapacity_1 21 rfl rfl)
theorem dJ13_newCapacity_47 : decode cJ13_newCapacity 47 = .ok (.invokespecial 124, 3) := dk_183 0 124 (dk_at dksJ13_newCapacity_2 0 rfl rfl)
theorem dJ13_newCapacity_50 : decode cJ13_newCapacity 50 = .ok (.athrow, 1) := dk_191 (dk_at dksJ13_newCapacity_2 3 rfl rfl)
theorem dJ13_newCapacity_51 : decode cJ13_newCapacity 51 = .ok (.iload 5, 2) := dk_21 5 (dk_at dksJ13_newCapacity_2 4 rfl rfl)
theorem dJ13_newCapacity_53 : decode cJ13_newCapacity 53 = .ok (.aload_n 0, 1) := dk_42 (dk_at dksJ13_newCapacity_2 6 rfl rfl)
theorem dJ13_newCapacity_54 : decode cJ13_newCapacity 54 = .ok (.getfield 22, 3) := dk_180 0 22 (dk_at dksJ13_newCapacity_2 7 rfl rfl)
theorem dJ13_newCapacity_57 : decode cJ13_newCapacity 57 = .ok (.ishr, 1) := dk_122 (dk_at dksJ13_newCapacity_2 10 rfl rfl)
theorem dJ13_newCapacity_58 : decode cJ13_newCapacity 58 = .ok (.ireturn, 1) := dk_172 (dk_at dksJ13_newCapacity_2 11 rfl rfl)
abbrev cJ13_isLatin1 : ByteArray := prog_17_method_68_code
def yJ13_isLatin1 : MethodName := ⟨RJ13, "isLatin1", "()Z"⟩
def dkwJ13_isLatin1_0 : List UInt8 := [178, 0, 18, 153, 0, 14, 42, 180, 0, 22, 154, 0, 7, 4, 167, 0, 4, 3, 172]
abbrev dktJ13_isLatin1_0 : List UInt8 := dkwJ13_isLatin1_0 ++ []
theorem dksJ13_isLatin1_0 : cJ13_isLatin1.data.toList.drop 0 = dktJ13_isLatin1_0 := by decide +kernel
theorem dJ13_isLatin1_0 : decode cJ13_isLatin1 0 = .ok (.getstatic 18, 3) := dk_178 0 18 (dk_at dksJ13_isLatin1_0 0 rfl rfl)
theorem dJ13_isLatin1_3 : decode cJ13_isLatin1 3 = .ok (.ifCond .eq 14, 3) := dk_153 0 14 (dk_at dksJ13_isLatin1_0 3 rfl rfl)
theorem dJ13_isLatin1_6 : decode cJ13_isLatin1 6 = .ok (.aload_n 0, 1) := dk_42 (dk_at dksJ13_isLatin1_0 6 rfl rfl)
theorem dJ13_isLatin1_7 : decode cJ13_isLatin1 7 = .ok (.getfield 22, 3) := dk_180 0 22 (dk_at dksJ13_isLatin1_0 7 rfl rfl)
theorem dJ13_isLatin1_10 : decode cJ13_isLatin1 10 = .ok (.ifCond .ne 7, 3) := dk_154 0 7 (dk_at dksJ13_isLatin1_0 10 rfl rfl)
theorem dJ13_isLatin1_13 : decode cJ13_isLatin1 13 = .ok (.iconst 1, 1) := dk_4 (dk_at dksJ13_isLatin1_0 13 rfl rfl)
theorem dJ13_isLatin1_14 : decode cJ13_isLatin1 14 = .ok (.goto 4, 3) := dk_167 0 4 (dk_at dksJ13_isLatin1_0 14 rfl rfl)
theorem dJ13_isLatin1_17 : decode cJ13_isLatin1 17 = .ok (.iconst 0, 1) := dk_3 (dk_at dksJ13_isLatin1_0 17 rfl rfl)
theorem dJ13_isLatin1_18 : decode cJ13_isLatin1 18 = .ok (.ireturn, 1) := dk_172 (dk_at dksJ13_isLatin1_0 18 rfl rfl)
abbrev cJ13_putStringAt : ByteArray := prog_17_method_73_code
def yJ13_putStringAt : MethodName := ⟨RJ13, "putStringAt", "(ILjava/lang/String;)V"⟩
def dkwJ13_putStringAt_0 : List UInt8 := [42, 44, 182, 1, 141, 44, 42, 180, 0, 15, 27, 42, 180, 0, 22, 182, 1, 143, 177]
abbrev dktJ13_putStringAt_0 : List UInt8 := dkwJ13_putStringAt_0 ++ []
theorem dksJ13_putStringAt_0 : cJ13_putStringAt.data.toList.drop 0 = dktJ13_putStringAt_0 := by decide +kernel
theorem dJ13_putStringAt_0 : decode cJ13_putStringAt 0 = .ok (.aload_n 0, 1) := dk_42 (dk_at dksJ13_putStringAt_0 0 rfl rfl)
theorem dJ13_putStringAt_1 : decode cJ13_putStringAt 1 = .ok (.aload_n 2, 1) := dk_44 (dk_at dksJ13_putStringAt_0 1 rfl rfl)
theorem dJ13_putStringAt_2 : decode cJ13_putStringAt 2 = .ok (.invokevirtual 397, 3) := dk_182 1 141 (dk_at dksJ13_putStringAt_0 2 rfl rfl)
theorem dJ13_putStringAt_5 : decode cJ13_putStringAt 5 = .ok (.aload_n 2, 1) := dk_44 (dk_at dksJ13_putStringAt_0 5 rfl rfl)
theorem dJ13_putStringAt_6 : decode cJ13_putStringAt 6 = .ok (.aload_n 0, 1) := dk_42 (dk_at dksJ13_putStringAt_0 6 rfl rfl)
theorem dJ13_putStringAt_7 : decode cJ13_putStringAt 7 = .ok (.getfield 15, 3) := dk_180 0 15 (dk_at dksJ13_putStringAt_0 7 rfl rfl)
theorem dJ13_putStringAt_10 : decode cJ13_putStringAt 10 = .ok (.iload_n 1, 1) := dk_27 (dk_at dksJ13_putStringAt_0 10 rfl rfl)
theorem dJ13_putStringAt_11 : decode cJ13_putStringAt 11 = .ok (.aload_n 0, 1) := dk_42 (dk_at dksJ13_putStringAt_0 11 rfl rfl)
theorem dJ13_putStringAt_12 : decode cJ13_putStringAt 12 = .ok (.getfield 22, 3) := dk_180 0 22 (dk_at dksJ13_putStringAt_0 12 rfl rfl)
theorem dJ13_putStringAt_15 : decode cJ13_putStringAt 15 = .ok (.invokevirtual 399, 3) := dk_182 1 143 (dk_at dksJ13_putStringAt_0 15 rfl rfl)
theorem dJ13_putStringAt_18 : decode cJ13_putStringAt 18 = .ok (.return_, 1) := dk_177 (dk_at dksJ13_putStringAt_0 18 rfl rfl)
abbrev cJ13_inflateIfNeededFor : ByteArray := prog_17_method_71_code
def yJ13_inflateIfNeededFor : MethodName := ⟨RJ13, "inflateIfNeededFor", "(Ljava/lang/String;)V"⟩
def dkwJ13_inflateIfNeededFor_0 : List UInt8 := [178, 0, 18, 153, 0, 18, 42, 180, 0, 22, 43, 182, 0, 40, 159, 0, 7, 42, 182, 0, 195, 177]
abbrev dktJ13_inflateIfNeededFor_0 : List UInt8 := dkwJ13_inflateIfNeededFor_0 ++ []
theorem dksJ13_inflateIfNeededFor_0 : cJ13_inflateIfNeededFor.data.toList.drop 0 = dktJ13_inflateIfNeededFor_0 := by decide +kernel
theorem dJ13_inflateIfNeededFor_0 : decode cJ13_inflateIfNeededFor 0 = .ok (.getstatic 18, 3) := dk_178 0 18 (dk_at dksJ13_inflateIfNeededFor_0 0 rfl rfl)
theorem dJ13_inflateIfNeededFor_3 : decode cJ13_inflateIfNeededFor 3 = .ok (.ifCond .eq 18, 3) := dk_153 0 18 (dk_at dksJ13_inflateIfNeededFor_0 3 rfl rfl)
theorem dJ13_inflateIfNeededFor_6 : decode cJ13_inflateIfNeededFor 6 = .ok (.aload_n 0, 1) := dk_42 (dk_at dksJ13_inflateIfNeededFor_0 6 rfl rfl)
theorem dJ13_inflateIfNeededFor_7 : decode cJ13_inflateIfNeededFor 7 = .ok (.getfield 22, 3) := dk_180 0 22 (dk_at dksJ13_inflateIfNeededFor_0 7 rfl rfl)
theorem dJ13_inflateIfNeededFor_10 : decode cJ13_inflateIfNeededFor 10 = .ok (.aload_n 1, 1) := dk_43 (dk_at dksJ13_inflateIfNeededFor_0 10 rfl rfl)
theorem dJ13_inflateIfNeededFor_11 : decode cJ13_inflateIfNeededFor 11 = .ok (.invokevirtual 40, 3) := dk_182 0 40 (dk_at dksJ13_inflateIfNeededFor_0 11 rfl rfl)
theorem dJ13_inflateIfNeededFor_14 : decode cJ13_inflateIfNeededFor 14 = .ok (.if_icmp .eq 7, 3) := dk_159 0 7 (dk_at dksJ13_inflateIfNeededFor_0 14 rfl rfl)
theorem dJ13_inflateIfNeededFor_17 : decode cJ13_inflateIfNeededFor 17 = .ok (.aload_n 0, 1) := dk_42 (dk_at dksJ13_inflateIfNeededFor_0 17 rfl rfl)
theorem dJ13_inflateIfNeededFor_18 : decode cJ13_inflateIfNeededFor 18 = .ok (.invokevirtual 195, 3) := dk_182 0 195 (dk_at dksJ13_inflateIfNeededFor_0 18 rfl rfl)
theorem dJ13_inflateIfNeededFor_21 : decode cJ13_inflateIfNeededFor 21 = .ok (.return_, 1) := dk_177 (dk_at dksJ13_inflateIfNeededFor_0 21 rfl rfl)
abbrev cJ13_inflate : ByteArray := prog_17_method_11_code
def yJ13_inflate : MethodName := ⟨RJ13, "inflate", "()V"⟩
def dkwJ13_inflate_1 : List UInt8 := [42, 180, 0, 79, 184, 0, 125, 42, 43, 181, 0, 15, 42, 4, 181, 0, 22, 177]
abbrev dktJ13_inflate_1 : List UInt8 := dkwJ13_inflate_1 ++ []
def dkwJ13_inflate_0 : List UInt8 := [42, 182, 0, 83, 154, 0, 4, 177, 42, 180, 0, 15, 190, 184, 0, 26, 76, 42, 180, 0, 15, 3, 43, 3]
abbrev dktJ13_inflate_0 : List UInt8 := dkwJ13_inflate_0 ++ dktJ13_inflate_1
theorem dksJ13_inflate_0 : cJ13_inflate.data.toList.drop 0 = dktJ13_inflate_0 := by decide +kernel
theorem dksJ13_inflate_1 : cJ13_inflate.data.toList.drop 24 = dktJ13_inflate_1 := dk_seg dksJ13_inflate_0 24 rfl rfl
theorem dJ13_inflate_0 : decode cJ13_inflate 0 = .ok (.aload_n 0, 1) := dk_42 (dk_at dksJ13_inflate_0 0 rfl rfl)
theorem dJ13_inflate_1 : decode cJ13_inflate 1 = .ok (.invokevirtual 83, 3) := dk_182 0 83 (dk_at dksJ13_inflate_0 1 rfl rfl)
theorem dJ13_inflate_4 : decode cJ13_inflate 4 = .ok (.ifCond .ne 4, 3) := dk_154 0 4 (dk_at dksJ13_inflate_0 4 rfl rfl)
theorem dJ13_inflate_7 : decode cJ13_inflate 7 = .ok (.return_, 1) := dk_177 (dk_at dksJ13_inflate_0 7 rfl rfl)
theorem dJ13_inflate_8 : decode cJ13_inflate 8 = .ok (.aload_n 0, 1) := dk_42 (dk_at dksJ13_inflate_0 8 rfl rfl)
theorem dJ13_inflate_9 : decode cJ13_inflate 9 = .ok (.getfield 15, 3) := dk_180 0 15 (dk_at dksJ13_inflate_0 9 rfl rfl)
theorem dJ13_inflate_12 : decode cJ13_inflate 12 = .ok (.arraylength, 1) := dk_190 (dk_at dksJ13_inflate_0 12 rfl rfl)
theorem dJ13_inflate_13 : decode cJ13_inflate 13 = .ok (.invokestatic 26, 3) := dk_184 0 26 (dk_at dksJ13_inflate_0 13 rfl rfl)
theorem dJ13_inflate_16 : decode cJ13_inflate 16 = .ok (.astore_n 1, 1) := dk_76 (dk_at dksJ13_inflate_0 16 rfl rfl)
theorem dJ13_inflate_17 : decode cJ13_inflate 17 = .ok (.aload_n 0, 1) := dk_42 (dk_at dksJ13_inflate_0 17 rfl rfl)
theorem dJ13_inflate_18 : decode cJ13_inflate 18 = .ok (.getfield 15, 3) := dk_180 0 15 (dk_at dksJ13_inflate_0 18 rfl rfl)
theorem dJ13_inflate_21 : decode cJ13_inflate 21 = .ok (.iconst 0, 1) := dk_3 (dk_at dksJ13_inflate_0 21 rfl rfl)
theorem dJ13_inflate_22 : decode cJ13_inflate 22 = .ok (.aload_n 1, 1) := dk_43 (dk_at dksJ13_inflate_0 22 rfl rfl)
theorem dJ13_inflate_23 : decode cJ13_inflate 23 = .ok (.iconst 0, 1) := dk_3 (dk_at dksJ13_inflate_0 23 rfl rfl)
theorem dJ13_inflate_24 : decode cJ13_inflate 24 = .ok (.aload_n 0, 1) := dk_42 (dk_at dksJ13_inflate_1 0 rfl rfl)
theorem dJ13_inflate_25 : decode cJ13_inflate 25 = .ok (.getfield 79, 3) := dk_180 0 79 (dk_at dksJ13_inflate_1 1 rfl rfl)
theorem dJ13_inflate_28 : decode cJ13_inflate 28 = .ok (.invokestatic 125, 3) := dk_184 0 125 (dk_at dksJ13_inflate_1 4 rfl rfl)
theorem dJ13_inflate_31 : decode cJ13_inflate 31 = .ok (.aload_n 0, 1) := dk_42 (dk_at dksJ13_inflate_1 7 rfl rfl)
theorem dJ13_inflate_32 : decode cJ13_inflate 32 = .ok (.aload_n 1, 1) := dk_43 (dk_at dksJ13_inflate_1 8 rfl rfl)
theorem dJ13_inflate_33 : decode cJ13_inflate 33 = .ok (.putfield 15, 3) := dk_181 0 15 (dk_at dksJ13_inflate_1 9 rfl rfl)
theorem dJ13_inflate_36 : decode cJ13_inflate 36 = .ok (.aload_n 0, 1) := dk_42 (dk_at dksJ13_inflate_1 12 rfl rfl)
theorem dJ13_inflate_37 : decode cJ13_inflate 37 = .ok (.iconst 1, 1) := dk_4 (dk_at dksJ13_inflate_1 13 rfl rfl)
theorem dJ13_inflate_38 : decode cJ13_inflate 38 = .ok (.putfield 22, 3) := dk_181 0 22 (dk_at dksJ13_inflate_1 14 rfl rfl)
theorem dJ13_inflate_41 : decode cJ13_inflate 41 = .ok (.return_, 1) := dk_177 (dk_at dksJ13_inflate_1 17 rfl rfl)
abbrev cJ13_append_2 : ByteArray := prog_17_method_32_code
def yJ13_append_2 : MethodName := ⟨RJ13, "append", "(I)Ljava/lang/AbstractStringBuilder;"⟩
def dkwJ13_append_2_2 : List UInt8 := [42, 29, 181, 0, 79, 42, 176]
abbrev dktJ13_append_2_2 : List UInt8 := dkwJ13_append_2_2 ++ []
def dkwJ13_append_2_1 : List UInt8 := [27, 29, 42, 180, 0, 15, 184, 0, 248, 87, 167, 0, 14, 27, 28, 29, 42, 180, 0, 15, 184, 0, 251, 87]
abbrev dktJ13_append_2_1 : List UInt8 := dkwJ13_append_2_1 ++ dktJ13_append_2_2
def dkwJ13_append_2_0 : List UInt8 := [42, 180, 0, 79, 61, 28, 27, 184, 0, 245, 96, 62, 42, 29, 182, 0, 100, 42, 182, 0, 83, 153, 0, 16]
abbrev dktJ13_append_2_0 : List UInt8 := dkwJ13_append_2_0 ++ dktJ13_append_2_1
theorem dksJ13_append_2_0 : cJ13_append_2.data.toList.drop 0 = dktJ13_append_2_0 := by decide +kernel
theorem dksJ13_append_2_1 : cJ13_append_2.data.toList.drop 24 = dktJ13_append_2_1 := dk_seg dksJ13_append_2_0 24 rfl rfl
theorem dksJ13_append_2_2 : cJ13_append_2.data.toList.drop 48 = dktJ13_append_2_2 := dk_seg dksJ13_append_2_1 24 rfl rfl
theorem dJ13_append_2_0 : decode cJ13_append_2 0 = .ok (.aload_n 0, 1) := dk_42 (dk_at dksJ13_append_2_0 0 rfl rfl)
theorem dJ13_append_2_1 : decode cJ13_append_2 1 = .ok (.getfield 79, 3) := dk_180 0 79 (dk_at dksJ13_append_2_0 1 rfl rfl)
theorem dJ13_append_2_4 : decode cJ13_append_2 4 = .ok (.istore_n 2, 1) := dk_61 (dk_at dksJ13_append_2_0 4 rfl rfl)
theorem dJ13_append_2_5 : decode cJ13_append_2 5 = .ok (.iload_n 2, 1) := dk_28 (dk_at dksJ13_append_2_0 5 rfl rfl)
theorem dJ13_append_2_6 : decode cJ13_append_2 6 = .ok (.iload_n 1, 1) := dk_27 (dk_at dksJ13_append_2_0 6 rfl rfl)
theorem dJ13_append_2_7 : decode cJ13_append_2 7 = .ok (.invokestatic 245, 3) := dk_184 0 245 (dk_at dksJ13_append_2_0 7 rfl rfl)
theorem dJ13_append_2_10 : decode cJ13_append_2 10 = .ok (.iadd, 1) := dk_96 (dk_at dksJ13_append_2_0 10 rfl rfl)
theorem dJ13_append_2_11 : decode cJ13_append_2 11 = .ok (.istore_n 3, 1) := dk_62 (dk_at dksJ13_append_2_0 11 rfl rfl)
theorem dJ13_append_2_12 : decode cJ13_append_2 12 = .ok (.aload_n 0, 1) := dk_42 (dk_at dksJ13_append_2_0 12 rfl rfl)
theorem dJ13_append_2_13 : decode cJ13_append_2 13 = .ok (.iload_n 3, 1) := dk_29 (dk_at dksJ13_append_2_0 13 rfl rfl)
theorem dJ13_append_2_14 : decode cJ13_append_2 14 = .ok (.invokevirtual 100, 3) := dk_182 0 100 (dk_at dksJ13_append_2_0 14 rfl rfl)
theorem dJ13_append_2_17 : decode cJ13_append_2 17 = .ok (.aload_n 0, 1) := dk_42 (dk_at dksJ13_append_2_0 17 rfl rfl)
theorem dJ13_append_2_18 : decode cJ13_append_2 18 = .ok (.invokevirtual 83, 3) := dk_182 0 83 (dk_at dksJ13_append_2_0 18 rfl rfl)
theorem dJ13_append_2_21 : decode cJ13_append_2 21 = .ok (.ifCond .eq 16, 3) := dk_153 0 16 (dk_at dksJ13_append_2_0 21 rfl rfl)
theorem dJ13_append_2_24 : decode cJ13_append_2 24 = .ok (.iload_n 1, 1) := dk_27 (dk_at dksJ13_append_2_1 0 rfl rfl)
theorem dJ13_append_2_25 : decode cJ13_append_2 25 = .ok (.iload_n 3, 1) := dk_29 (dk_at dksJ13_append_2_1 1 rfl rfl)
theorem dJ13_append_2_26 : decode cJ13_append_2 26 = .ok (.aload_n 0, 1) := dk_42 (dk_at dksJ13_append_2_1 2 rfl rfl)
theorem dJ13_append_2_27 : decode cJ13_append_2 27 = .ok (.getfield 15, 3) := dk_180 0 15 (dk_at dksJ13_append_2_1 3 rfl rfl)
theorem dJ13_append_2_30 : decode cJ13_append_2 30 = .ok (.invokestatic 248, 3) := dk_184 0 248 (dk_at dksJ13_append_2_1 6 rfl rfl)
theorem dJ13_append_2_33 : decode cJ13_append_2 33 = .ok (.pop, 1) := dk_87 (dk_at dksJ13_append_2_1 9 rfl rfl)
theorem dJ13_append_2_34 : decode cJ13_append_2 34 = .ok (.goto 14, 3) := dk_167 0 14 (dk_at dksJ13_append_2_1 10 rfl rfl)
theorem dJ13_append_2_37 : decode cJ13_append_2 37 = .ok (.iload_n 1, 1) := dk_27 (dk_at dksJ13_append_2_1 13 rfl rfl)
theorem dJ13_append_2_38 : decode cJ13_append_2 38 = .ok (.iload_n 2, 1) := dk_28 (dk_at dksJ13_append_2_1 14 rfl rfl)
theorem dJ13_append_2_39 : decode cJ13_append_2 39 = .ok (.iload_n 3, 1) := dk_29 (dk_at dksJ13_append_2_1 15 rfl rfl)
theorem dJ13_append_2_40 : decode cJ13_append_2 40 = .ok (.aload_n 0, 1) := dk_42 (dk_at dksJ13_append_2_1 16 rfl rfl)
theorem dJ13_append_2_41 : decode cJ13_append_2 41 = .ok (.getfield 15, 3) := dk_180 0 15 (dk_at dksJ13_append_2_1 17 rfl rfl)
theorem dJ13_append_2_44 : decode cJ13_append_2 44 = .ok (.invokestatic 251, 3) := dk_184 0 251 (dk_at dksJ13_append_2_1 20 rfl rfl)
theorem dJ13_append_2_47 : decode cJ13_append_2 47 = .ok (.pop, 1) := dk_87 (dk_at dksJ13_append_2_1 23 rfl rfl)
theorem dJ13_append_2_48 : decode cJ13_append_2 48 = .ok (.aload_n 0, 1) := dk_42 (dk_at dksJ13_append_2_2 0 rfl rfl)
theorem dJ13_append_2_49 : decode cJ13_append_2 49 = .ok (.iload_n 3, 1) := dk_29 (dk_at dksJ13_append_2_2 1 rfl rfl)
theorem dJ13_append_2_50 : decode cJ13_append_2 50 = .ok (.putfield 79, 3) := dk_181 0 79 (dk_at dksJ13_append_2_2 2 rfl rfl)
theorem dJ13_append_2_53 : decode cJ13_append_2 53 = .ok (.aload_n 0, 1) := dk_42 (dk_at dksJ13_append_2_2 5 rfl rfl)
theorem dJ13_append_2_54 : decode cJ13_append_2 54 = .ok (.areturn, 1) := dk_176 (dk_at dksJ13_append_2_2 6 rfl rfl)
abbrev cJ13_getValue : ByteArray := prog_17_method_64_code
def yJ13_getValue : MethodName := ⟨RJ13, "getValue", "()[B"⟩
theorem dJ13_getValue_0 : decode cJ13_getValue 0 = .ok (.aload_n 0, 1) := by decide +kernel
theorem dJ13_getValue_1 : decode cJ13_getValue 1 = .ok (.getfield 15, 3) := by decide +kernel
theorem dJ13_getValue_4 : decode cJ13_getValue 4 = .ok (.areturn, 1) := by decide +kernel
abbrev cJ13_length : ByteArray := prog_17_method_6_code
def yJ13_length : MethodName := ⟨RJ13, "length", "()I"⟩
theorem dJ13_length_0 : decode cJ13_length 0 = .ok (.aload_n 0, 1) := by decide +kernel
theorem dJ13_length_1 : decode cJ13_length 1 = .ok (.getfield 79, 3) := by decide +kernel
theorem dJ13_length_4 : decode cJ13_length 4 = .ok (.ireturn, 1) := by decide +kernel
abbrev cJ13_compareTo : ByteArray := prog_17_method_5_code
def yJ13_compareTo : MethodName := ⟨RJ13, "compareTo", "(Ljava/lang/AbstractStringBuilder;)I"⟩
def dkwJ13_compareTo_4 : List UInt8 := [184, 0, 97, 172]
abbrev dktJ13_compareTo_4 : List UInt8 := dkwJ13_compareTo_4 ++ []
def dkwJ13_compareTo_3 : List UInt8 := [182, 0, 83, 153, 0, 15, 44, 45, 21, 4, 21, 5, 184, 0, 94, 167, 0, 12, 44, 45, 21, 4, 21, 5]
abbrev dktJ13_compareTo_3 : List UInt8 := dkwJ13_compareTo_3 ++ dktJ13_compareTo_4
def dkwJ13_compareTo_2 : List UInt8 := [45, 21, 4, 21, 5, 184, 0, 87, 167, 0, 12, 44, 45, 21, 4, 21, 5, 184, 0, 93, 172, 42]
abbrev dktJ13_compareTo_2 : List UInt8 := dkwJ13_compareTo_2 ++ dktJ13_compareTo_3
def dkwJ13_compareTo_1 : List UInt8 := [180, 0, 79, 54, 5, 42, 180, 0, 22, 43, 180, 0, 22, 160, 0, 32, 42, 182, 0, 83, 153, 0, 15, 44]
abbrev dktJ13_compareTo_1 : List UInt8 := dkwJ13_compareTo_1 ++ dktJ13_compareTo_2
def dkwJ13_compareTo_0 : List UInt8 := [42, 43, 166, 0, 5, 3, 172, 42, 180, 0, 15, 77, 43, 180, 0, 15, 78, 42, 180, 0, 79, 54, 4, 43]
abbrev dktJ13_compareTo_0 : List UInt8 := dkwJ13_compareTo_0 ++ dktJ13_compareTo_1
theorem dksJ13_compareTo_0 : cJ13_compareTo.data.toList.drop 0 = dktJ13_compareTo_0 := by decide +kernel
theorem dksJ13_compareTo_1 : cJ13_compareTo.data.toList.drop 24 = dktJ13_compareTo_1 := dk_seg dksJ13_compareTo_0 24 rfl rfl
theorem dksJ13_compareTo_2 : cJ13_compareTo.data.toList.drop 48 = dktJ13_compareTo_2 := dk_seg dksJ13_compareTo_1 24 rfl rfl
theorem dksJ13_compareTo_3 : cJ13_compareTo.data.toList.drop 70 = dktJ13_compareTo_3 := dk_seg dksJ13_compareTo_2 22 rfl rfl
theorem dksJ13_compareTo_4 : cJ13_compareTo.data.toList.drop 94 = dktJ13_compareTo_4 := dk_seg dksJ13_compareTo_3 24 rfl rfl
theorem dJ13_compareTo_0 : decode cJ13_compareTo 0 = .ok (.aload_n 0, 1) := dk_42 (dk_at dksJ13_compareTo_0 0 rfl rfl)
theorem dJ13_compareTo_1 : decode cJ13_compareTo 1 = .ok (.aload_n 1, 1) := dk_43 (dk_at dksJ13_compareTo_0 1 rfl rfl)
theorem dJ13_compareTo_2 : decode cJ13_compareTo 2 = .ok (.if_acmp .ne 5, 3) := dk_166 0 5 (dk_at dksJ13_compareTo_0 2 rfl rfl)
theorem dJ13_compareTo_5 : decode cJ13_compareTo 5 = .ok (.iconst 0, 1) := dk_3 (dk_at dksJ13_compareTo_0 5 rfl rfl)
theorem dJ13_compareTo_6 : decode cJ13_compareTo 6 = .ok (.ireturn, 1) := dk_172 (dk_at dksJ13_compareTo_0 6 rfl rfl)
theorem dJ13_compareTo_7 : decode cJ13_compareTo 7 = .ok (.aload_n 0, 1) := dk_42 (dk_at dksJ13_compareTo_0 7 rfl rfl)
theorem dJ13_compareTo_8 : decode cJ13_compareTo 8 = .ok (.getfield 15, 3) := dk_180 0 15 (dk_at dksJ13_compareTo_0 8 rfl rfl)
theorem dJ13_compareTo_11 : decode cJ13_compareTo 11 = .ok (.astore_n 2, 1) := dk_77 (dk_at dksJ13_compareTo_0 11 rfl rfl)
theorem dJ13_compareTo_12 : decode cJ13_compareTo 12 = .ok (.aload_n 1, 1) := dk_43 (dk_at dksJ13_compareTo_0 12 rfl rfl)
theorem dJ13_compareTo_13 : decode cJ13_compareTo 13 = .ok (.getfield 15, 3) := dk_180 0 15 (dk_at dksJ13_compareTo_0 13 rfl rfl)
theorem dJ13_compareTo_16 : decode cJ13_compareTo 16 = .ok (.astore_n 3, 1) := dk_78 (dk_at dksJ13_compareTo_0 16 rfl rfl)
theorem dJ13_compareTo_17 : decode cJ13_compareTo 17 = .ok (.aload_n 0, 1) := dk_42 (dk_at dksJ13_compareTo_0 17 rfl rfl)
theorem dJ13_compareTo_18 : decode cJ13_compareTo 18 = .ok (.getfield 79, 3) := dk_180 0 79 (dk_at dksJ13_compareTo_0 18 rfl rfl)
theorem dJ13_compareTo_21 : decode cJ13_compareTo 21 = .ok (.istore 4, 2) := dk_54 4 (dk_at dksJ13_compareTo_0 21 rfl rfl)
theorem dJ13_compareTo_23 : decode cJ13_compareTo 23 = .ok (.aload_n 1, 1) := dk_43 (dk_at dksJ13_compareTo_0 23 rfl rfl)
theorem dJ13_compareTo_24 : decode cJ13_compareTo 24 = .ok (.getfield 79, 3) := dk_180 0 79 (dk_at dksJ13_compareTo_1 0 rfl rfl)
theorem dJ13_compareTo_27 : decode cJ13_compareTo 27 = .ok (.istore 5, 2) := dk_54 5 (dk_at dksJ13_compareTo_1 3 rfl rfl)
theorem dJ13_compareTo_29 : decode cJ13_compareTo 29 = .ok (.aload_n 0, 1) := dk_42 (dk_at dksJ13_compareTo_1 5 rfl rfl)
theorem dJ13_compareTo_30 : decode cJ13_compareTo 30 = .ok (.getfield 22, 3) := dk_180 0 22 (dk_at dksJ13_compareTo_1 6 rfl rfl)
theorem dJ13_compareTo_33 : decode cJ13_compareTo 33 = .ok (.aload_n 1, 1) := dk_43 (dk_at dksJ13_compareTo_1 9 rfl rfl)
theorem dJ13_compareTo_34 : decode cJ13_compareTo 34 = .ok (.getfield 22, 3) := dk_180 0 22 (dk_at dksJ13_compareTo_1 10 rfl rfl)
theorem dJ13_compareTo_37 : decode cJ13_compareTo 37 = .ok (.if_icmp .ne 32, 3) := dk_160 0 32 (dk_at dksJ13_compareTo_1 13 rfl rfl)
theorem dJ13_compareTo_40 : decode cJ13_compareTo 40 = .ok (.aload_n 0, 1) := dk_42 (dk_at dksJ13_compareTo_1 16 rfl rfl)
theorem dJ13_compareTo_41 : decode cJ13_compareTo 41 = .ok (.invokevirtual 83, 3) := dk_182 0 83 (dk_at dksJ13_compareTo_1 17 rfl rfl)
theorem dJ13_compareTo_44 : decode cJ13_compareTo 44 = .ok (.ifCond .eq 15, 3) := dk_153 0 15 (dk_at dksJ13_compareTo_1 20 rfl rfl)
theorem dJ13_compareTo_47 : decode cJ13_compareTo 47 = .ok (.aload_n 2, 1) := dk_44 (dk_at dksJ13_compareTo_1 23 rfl rfl)
theorem dJ13_compareTo_48 : decode cJ13_compareTo 48 = .ok (.aload_n 3, 1) := dk_45 (dk_at dksJ13_compareTo_2 0 rfl rfl)
theorem dJ13_compareTo_49 : decode cJ13_compareTo 49 = .ok (.iload 4, 2) := dk_21 4 (dk_at dksJ13_compareTo_2 1 rfl rfl)
theorem dJ13_compareTo_51 : decode cJ13_compareTo 51 = .ok (.iload 5, 2) := dk_21 5 (dk_at dksJ13_compareTo_2 3 rfl rfl)
theorem dJ13_compareTo_53 : decode cJ13_compareTo 53 = .ok (.invokestatic 87, 3) := dk_184 0 87 (dk_at dksJ13_compareTo_2 5 rfl rfl)
theorem dJ13_compareTo_56 : decode cJ13_compareTo 56 = .ok (.goto 12, 3) := dk_167 0 12 (dk_at dksJ13_compareTo_2 8 rfl rfl)
theorem dJ13_compareTo_59 : decode cJ13_compareTo 59 = .ok (.aload_n 2, 1) := dk_44 (dk_at dksJ13_compareTo_2 11 rfl rfl)
theorem dJ13_compareTo_60 : decode cJ13_compareTo 60 = .ok (.aload_n 3, 1) := dk_45 (dk_at dksJ13_compareTo_2 12 rfl rfl)
theorem dJ13_compareTo_61 : decode cJ13_compareTo 61 = .ok (.iload 4, 2) := dk_21 4 (dk_at dksJ13_compareTo_2 13 rfl rfl)
theorem dJ13_compareTo_63 : decode cJ13_compareTo 63 = .ok (.iload 5, 2) := dk_21 5 (dk_at dksJ13_compareTo_2 15 rfl rfl)
theorem dJ13_compareTo_65 : decode cJ13_compareTo 65 = .ok (.invokestatic 93, 3) := dk_184 0 93 (dk_at dksJ13_compareTo_2 17 rfl rfl)
theorem dJ13_compareTo_68 : decode cJ13_compareTo 68 = .ok (.ireturn, 1) := dk_172 (dk_at dksJ13_compareTo_2 20 rfl rfl)
theorem dJ13_compareTo_69 : decode cJ13_compareTo 69 = .ok (.aload_n 0, 1) := dk_42 (dk_at dksJ13_compareTo_2 21 rfl rfl)
theorem dJ13_compareTo_70 : decode cJ13_compareTo 70 = .ok (.invokevirtual 83, 3) := dk_182 0 83 (dk_at dksJ13_compareTo_3 0 rfl rfl)
theorem dJ13_compareTo_73 : decode cJ13_compareTo 73 = .ok (.ifCond .eq 15, 3) := dk_153 0 15 (dk_at dksJ13_compareTo_3 3 rfl rfl)
theorem dJ13_compareTo_76 : decode cJ13_compareTo 76 = .ok (.aload_n 2, 1) := dk_44 (dk_at dksJ13_compareTo_3 6 rfl rfl)
theorem dJ13_compareTo_77 : decode cJ13_compareTo 77 = .ok (.aload_n 3, 1) := dk_45 (dk_at dksJ13_compareTo_3 7 rfl rfl)
theorem dJ13_compareTo_78 : decode cJ13_compareTo 78 = .ok (.iload 4, 2) := dk_21 4 (dk_at dksJ13_compareTo_3 8 rfl rfl)
theorem dJ13_compareTo_80 : decode cJ13_compareTo 80 = .ok (.iload 5, 2) := dk_21 5 (dk_at dksJ13_compareTo_3 10 rfl rfl)
theorem dJ13_compareTo_82 : decode cJ13_compareTo 82 = .ok (.invokestatic 94, 3) := dk_184 0 94 (dk_at dksJ13_compareTo_3 12 rfl rfl)
theorem dJ13_compareTo_85 : decode cJ13_compareTo 85 = .ok (.goto 12, 3) := dk_167 0 12 (dk_at dksJ13_compareTo_3 15 rfl rfl)
theorem dJ13_compareTo_88 : decode cJ13_compareTo 88 = .ok (.aload_n 2, 1) := dk_44 (dk_at dksJ13_compareTo_3 18 rfl rfl)
theorem dJ13_compareTo_89 : decode cJ13_compareTo 89 = .ok (.aload_n 3, 1) := dk_45 (dk_at dksJ13_compareTo_3 19 rfl rfl)
theorem dJ13_compareTo_90 : decode cJ13_compareTo 90 = .ok (.iload 4, 2) := dk_21 4 (dk_at dksJ13_compareTo_3 20 rfl rfl)
theorem dJ13_compareTo_92 : decode cJ13_compareTo 92 = .ok (.iload 5, 2) := dk_21 5 (dk_at dksJ13_compareTo_3 22 rfl rfl)
theorem dJ13_compareTo_94 : decode cJ13_compareTo 94 = .ok (.invokestatic 97, 3) := dk_184 0 97 (dk_at dksJ13_compareTo_4 0 rfl rfl)
theorem dJ13_compareTo_97 : decode cJ13_compareTo 97 = .ok (.ireturn, 1) := dk_172 (dk_at dksJ13_compareTo_4 3 rfl rfl)
abbrev cJ13_append_3 : ByteArray := prog_17_method_31_code
def yJ13_append_3 : MethodName := ⟨RJ13, "append", "(C)Ljava/lang/AbstractStringBuilder;"⟩
def dkwJ13_append_3_3 : List UInt8 := [181, 0, 79, 27, 184, 0, 197, 42, 176]
abbrev dktJ13_append_3_3 : List UInt8 := dkwJ13_append_3_3 ++ []
def dkwJ13_append_3_2 : List UInt8 := [182, 0, 83, 153, 0, 7, 42, 182, 0, 195, 42, 180, 0, 15, 42, 89, 180, 0, 79, 90, 4, 96]
abbrev dktJ13_append_3_2 : List UInt8 := dkwJ13_append_3_2 ++ dktJ13_append_3_3
def dkwJ13_append_3_1 : List UInt8 := [42, 180, 0, 15, 42, 89, 180, 0, 79, 90, 4, 96, 181, 0, 79, 27, 145, 84, 167, 0, 33, 42]
abbrev dktJ13_append_3_1 : List UInt8 := dkwJ13_append_3_1 ++ dktJ13_append_3_2
def dkwJ13_append_3_0 : List UInt8 := [42, 42, 180, 0, 79, 4, 96, 182, 0, 100, 42, 182, 0, 83, 153, 0, 31, 27, 184, 0, 191, 153, 0, 24]
abbrev dktJ13_append_3_0 : List UInt8 := dkwJ13_append_3_0 ++ dktJ13_append_3_1
theorem dksJ13_append_3_0 : cJ13_append_3.data.toList.drop 0 = dktJ13_append_3_0 := by decide +kernel
theorem dksJ13_append_3_1 : cJ13_append_3.data.toList.drop 24 = dktJ13_append_3_1 := dk_seg dksJ13_append_3_0 24 rfl rfl
theorem dksJ13_append_3_2 : cJ13_append_3.data.toList.drop 46 = dktJ13_append_3_2 := dk_seg dksJ13_append_3_1 22 rfl rfl
theorem dksJ13_append_3_3 : cJ13_append_3.data.toList.drop 68 = dktJ13_append_3_3 := dk_seg dksJ13_append_3_2 22 rfl rfl
theorem dJ13_append_3_0 : decode cJ13_append_3 0 = .ok (.aload_n 0, 1) := dk_42 (dk_at dksJ13_append_3_0 0 rfl rfl)
theorem dJ13_append_3_1 : decode cJ13_append_3 1 = .ok (.aload_n 0, 1) := dk_42 (dk_at dksJ13_append_3_0 1 rfl rfl)
theorem dJ13_append_3_2 : decode cJ13_append_3 2 = .ok (.getfield 79, 3) := dk_180 0 79 (dk_at dksJ13_append_3_0 2 rfl rfl)
theorem dJ13_append_3_5 : decode cJ13_append_3 5 = .ok (.iconst 1, 1) := dk_4 (dk_at dksJ13_append_3_0 5 rfl rfl)
theorem dJ13_append_3_6 : decode cJ13_append_3 6 = .ok (.iadd, 1) := dk_96 (dk_at dksJ13_append_3_0 6 rfl rfl)
theorem dJ13_append_3_7 : decode cJ13_append_3 7 = .ok (.invokevirtual 100, 3) := dk_182 0 100 (dk_at dksJ13_append_3_0 7 rfl rfl)
theorem dJ13_append_3_10 : decode cJ13_append_3 10 = .ok (.aload_n 0, 1) := dk_42 (dk_at dksJ13_append_3_0 10 rfl rfl)
theorem dJ13_append_3_11 : decode cJ13_append_3 11 = .ok (.invokevirtual 83, 3) := dk_182 0 83 (dk_at dksJ13_append_3_0 11 rfl rfl)
theorem dJ13_append_3_14 : decode cJ13_append_3 14 = .ok (.ifCond .eq 31, 3) := dk_153 0 31 (dk_at dksJ13_append_3_0 14 rfl rfl)
theorem dJ13_append_3_17 : decode cJ13_append_3 17 = .ok (.iload_n 1, 1) := dk_27 (dk_at dksJ13_append_3_0 17 rfl rfl)
theorem dJ13_append_3_18 : decode cJ13_append_3 18 = .ok (.invokestatic 191, 3) := dk_184 0 191 (dk_at dksJ13_append_3_0 18 rfl rfl)
theorem dJ13_append_3_21 : decode cJ13_append_3 21 = .ok (.ifCond .eq 24, 3) := dk_153 0 24 (dk_at dksJ13_append_3_0 21 rfl rfl)
theorem dJ13_append_3_24 : decode cJ13_append_3 24 = .ok (.aload_n 0, 1) := dk_42 (dk_at dksJ13_append_3_1 0 rfl rfl)
theorem dJ13_append_3_25 : decode cJ13_append_3 25 = .ok (.getfield 15, 3) := dk_180 0 15 (dk_at dksJ13_append_3_1 1 rfl rfl)
theorem dJ13_append_3_28 : decode cJ13_append_3 28 = .ok (.aload_n 0, 1) := dk_42 (dk_at dksJ13_append_3_1 4 rfl rfl)
theorem dJ13_append_3_29 : decode cJ13_append_3 29 = .ok (.dup, 1) := dk_89 (dk_at dksJ13_append_3_1 5 rfl rfl)
theorem dJ13_append_3_30 : decode cJ13_append_3 30 = .ok (.getfield 79, 3) := dk_180 0 79 (dk_at dksJ13_append_3_1 6 rfl rfl)
theorem dJ13_append_3_33 : decode cJ13_append_3 33 = .ok (.dup_x1, 1) := dk_90 (dk_at dksJ13_append_3_1 9 rfl rfl)
theorem dJ13_append_3_34 : decode cJ13_append_3 34 = .ok (.iconst 1, 1) := dk_4 (dk_at dksJ13_append_3_1 10 rfl rfl)
theorem dJ13_append_3_35 : decode cJ13_append_3 35 = .ok (.iadd, 1) := dk_96 (dk_at dksJ13_append_3_1 11 rfl rfl)
theorem dJ13_append_3_36 : decode cJ13_append_3 36 = .ok (.putfield 79, 3) := dk_181 0 79 (dk_at dksJ13_append_3_1 12 rfl rfl)
theorem dJ13_append_3_39 : decode cJ13_append_3 39 = .ok (.iload_n 1, 1) := dk_27 (dk_at dksJ13_append_3_1 15 rfl rfl)
theorem dJ13_append_3_40 : decode cJ13_append_3 40 = .ok (.i2b, 1) := dk_145 (dk_at dksJ13_append_3_1 16 rfl rfl)
theorem dJ13_append_3_41 : decode cJ13_append_3 41 = .ok (.bastore, 1) := dk_84 (dk_at dksJ13_append_3_1 17 rfl rfl)
theorem dJ13_append_3_42 : decode cJ13_append_3 42 = .ok (.goto 33, 3) := dk_167 0 33 (dk_at dksJ13_append_3_1 18 rfl rfl)
theorem dJ13_append_3_45 : decode cJ13_append_3 45 = .ok (.aload_n 0, 1) := dk_42 (dk_at dksJ13_append_3_1 21 rfl rfl)
theorem dJ13_append_3_46 : decode cJ13_append_3 46 = .ok (.invokevirtual 83, 3) := dk_182 0 83 (dk_at dksJ13_append_3_2 0 rfl rfl)
theorem dJ13_append_3_49 : decode cJ13_append_3 49 = .ok (.ifCond .eq 7, 3) := dk_153 0 7 (dk_at dksJ13_append_3_2 3 rfl rfl)
theorem dJ13_append_3_52 : decode cJ13_append_3 52 = .ok (.aload_n 0, 1) := dk_42 (dk_at dksJ13_append_3_2 6 rfl rfl)
theorem dJ13_append_3_53 : decode cJ13_append_3 53 = .ok (.invokevirtual 195, 3) := dk_182 0 195 (dk_at dksJ13_append_3_2 7 rfl rfl)
theorem dJ13_append_3_56 : decode cJ13_append_3 56 = .ok (.aload_n 0, 1) := dk_42 (dk_at dksJ13_append_3_2 10 rfl rfl)
theorem dJ13_append_3_57 : decode cJ13_append_3 57 = .ok (.getfield 15, 3) := dk_180 0 15 (dk_at dksJ13_append_3_2 11 rfl rfl)
theorem dJ13_append_3_60 : decode cJ13_append_3 60 = .ok (.aload_n 0, 1) := dk_42 (dk_at dksJ13_append_3_2 14 rfl rfl)
theorem dJ13_append_3_61 : decode cJ13_append_3 61 = .ok (.dup, 1) := dk_89 (dk_at dksJ13_append_3_2 15 rfl rfl)
theorem dJ13_append_3_62 : decode cJ13_append_3 62 = .ok (.getfield 79, 3) := dk_180 0 79 (dk_at dksJ13_append_3_2 16 rfl rfl)
theorem dJ13_append_3_65 : decode cJ13_append_3 65 = .ok (.dup_x1, 1) := dk_90 (dk_at dksJ13_append_3_2 19 rfl rfl)
theorem dJ13_append_3_66 : decode cJ13_append_3 66 = .ok (.iconst 1, 1) := dk_4 (dk_at dksJ13_append_3_2 20 rfl rfl)
theorem dJ13_append_3_67 : decode cJ13_append_3 67 = .ok (.iadd, 1) := dk_96 (dk_at dksJ13_append_3_2 21 rfl rfl)
theorem dJ13_append_3_68 : decode cJ13_append_3 68 = .ok (.putfield 79, 3) := dk_181 0 79 (dk_at dksJ13_append_3_3 0 rfl rfl)
theorem dJ13_append_3_71 : decode cJ13_append_3 71 = .ok (.iload_n 1, 1) := dk_27 (dk_at dksJ13_append_3_3 3 rfl rfl)
theorem dJ13_append_3_72 : decode cJ13_append_3 72 = .ok (.invokestatic 197, 3) := dk_184 0 197 (dk_at dksJ13_append_3_3 4 rfl rfl)
theorem dJ13_append_3_75 : decode cJ13_append_3 75 = .ok (.aload_n 0, 1) := dk_42 (dk_at dksJ13_append_3_3 7 rfl rfl)
theorem dJ13_append_3_76 : decode cJ13_append_3 76 = .ok (.areturn, 1) := dk_176 (dk_at dksJ13_append_3_3 8 rfl rfl)
theorem q74 : (Jvm.Cond.initialized "java/lang/AbstractStringBuilder") ∈ lw_all := lw_g (lw_at lw_m1 17 rfl) rfl
theorem q331 : (Jvm.Cond.instanceMethod ({ cls := "java/lang/AbstractStringBuilder", name := "<init>", desc := "(I)V" } : Jvm.MethodName)) ∈ lw_all := lw_g (lw_at lw_m2 34 rfl) rfl
theorem q332 : (Jvm.Cond.code ({ cls := "java/lang/AbstractStringBuilder", name := "<init>", desc := "(I)V" } : Jvm.MethodName) prog_17_method_2_code (2 : Nat) (Option.none : Option Jvm.ClassFile.FieldType)) ∈ lw_all := lw_g (lw_at lw_m2 35 rfl) rfl
theorem q333 : (Jvm.Cond.methodLink "java/lang/AbstractStringBuilder" (3 : Nat) ({ cls := "java/lang/Object", name := "<init>", desc := "()V" } : Jvm.MethodName)) ∈ lw_all := lw_g (lw_at lw_m2 36 rfl) rfl
theorem q334 : (Jvm.Cond.fieldLink "java/lang/AbstractStringBuilder" (18 : Nat) "java/lang/String" "COMPACT_STRINGS" "Z") ∈ lw_all := lw_g (lw_at lw_m2 37 rfl) rfl
theorem q335 : (Jvm.Cond.methodLink "java/lang/AbstractStringBuilder" (26 : Nat) ({ cls := "java/lang/StringUTF16", name := "newBytesFor", desc := "(I)[B" } : Jvm.MethodName)) ∈ lw_all := lw_g (lw_at lw_m2 38 rfl) rfl
theorem q342 : (Jvm.Cond.fieldLink "java/lang/AbstractStringBuilder" (15 : Nat) "java/lang/AbstractStringBuilder" "value" "[B") ∈ lw_all := lw_g (lw_at lw_m2 45 rfl) rfl
theorem q343 : (Jvm.Cond.fieldLink "java/lang/AbstractStringBuilder" (22 : Nat) "java/lang/AbstractStringBuilder" "coder" "B") ∈ lw_all := lw_g (lw_at lw_m2 46 rfl) rfl
theorem q345 : (Jvm.Cond.fieldLink "java/lang/AbstractStringBuilder" (79 : Nat) "java/lang/AbstractStringBuilder" "count" "I") ∈ lw_all := lw_g (lw_at lw_m2 48 rfl) rfl
theorem q347 : (Jvm.Cond.soleField "java/lang/AbstractStringBuilder" "value") ∈ lw_all := lw_g (lw_at lw_m2 50 rfl) rfl
theorem q349 : (Jvm.Cond.soleField "java/lang/AbstractStringBuilder" "coder") ∈ lw_all := lw_g (lw_at lw_m2 52 rfl) rfl
theorem q351 : (Jvm.Cond.soleField "java/lang/AbstractStringBuilder" "maybeLatin1") ∈ lw_all := lw_g (lw_at lw_m2 54 rfl) rfl
theorem q353 : (Jvm.Cond.soleField "java/lang/AbstractStringBuilder" "count") ∈ lw_all := lw_g (lw_at lw_m2 56 rfl) rfl
theorem q362 : (Jvm.Cond.instanceMethod ({ cls := "java/lang/AbstractStringBuilder", name := "append", desc := "(Ljava/lang/String;)Ljava/lang/AbstractStringBuilder;" } : Jvm.MethodName)) ∈ lw_all := lw_g (lw_at lw_m2 65 rfl) rfl
theorem q363 : (Jvm.Cond.code ({ cls := "java/lang/AbstractStringBuilder", name := "append", desc := "(Ljava/lang/String;)Ljava/lang/AbstractStringBuilder;" } : Jvm.MethodName) prog_17_method_22_code (3 : Nat) (Option.some (Jvm.ClassFile.FieldType.object "java/lang/AbstractStringBuilder"))) ∈ lw_all := lw_g (lw_at lw_m2 66 rfl) rfl
theorem q364 : (Jvm.Cond.methodLink "java/lang/AbstractStringBuilder" (204 : Nat) ({ cls := "java/lang/AbstractStringBuilder", name := "appendNull", desc := "()Ljava/lang/AbstractStringBuilder;" } : Jvm.MethodName)) ∈ lw_all := lw_g (lw_at lw_m2 67 rfl) rfl
theorem q365 : (Jvm.Cond.privateMethod ({ cls := "java/lang/AbstractStringBuilder", name := "appendNull", desc := "()Ljava/lang/AbstractStringBuilder;" } : Jvm.MethodName)) ∈ lw_tbl := lw_at lw_m2 68 rfl
theorem q366 : (Jvm.Cond.instanceMethod ({ cls := "java/lang/AbstractStringBuilder", name := "appendNull", desc := "()Ljava/lang/AbstractStringBuilder;" } : Jvm.MethodName)) ∈ lw_all := lw_g (lw_at lw_m2 69 rfl) rfl
theorem q367 : (Jvm.Cond.code ({ cls := "java/lang/AbstractStringBuilder", name := "appendNull", desc := "()Ljava/lang/AbstractStringBuilder;" } : Jvm.MethodName) prog_17_method_26_code (3 : Nat) (Option.some (Jvm.ClassFile.FieldType.object "java/lang/AbstractStringBuilder"))) ∈ lw_all := lw_g (lw_at lw_m2 70 rfl) rfl
theorem q368 : (Jvm.Cond.methodLink "java/lang/AbstractStringBuilder" (100 : Nat) ({ cls := "java/lang/AbstractStringBuilder", name := "ensureCapacityInternal", desc := "(I)V" } : Jvm.MethodName)) ∈ lw_all := lw_g (lw_at lw_m2 71 rfl) rfl
theorem q369 : (Jvm.Cond.privateMethod ({ cls := "java/lang/AbstractStringBuilder", name := "ensureCapacityInternal", desc := "(I)V" } : Jvm.MethodName)) ∈ lw_tbl := lw_at lw_m2 72 rfl
theorem q370 : (Jvm.Cond.instanceMethod ({ cls := "java/lang/AbstractStringBuilder", name := "ensureCapacityInternal", desc := "(I)V" } : Jvm.MethodName)) ∈ lw_all := lw_g (lw_at lw_m2 73 rfl) rfl
theorem q371 : (Jvm.Cond.code ({ cls := "java/lang/AbstractStringBuilder", name := "ensureCapacityInternal", desc := "(I)V" } : Jvm.MethodName) prog_17_method_9_code (3 : Nat) (Option.none : Option Jvm.ClassFile.FieldType)) ∈ lw_all := lw_g (lw_at lw_m2 74 rfl) rfl
theorem q372 : (Jvm.Cond.methodLink "java/lang/AbstractStringBuilder" (104 : Nat) ({ cls := "java/lang/AbstractStringBuilder", name := "newCapacity", desc := "(I)I" } : Jvm.MethodName)) ∈ lw_all := lw_g (lw_at lw_m2 75 rfl) rfl
theorem q373 : (Jvm.Cond.privateMethod ({ cls := "java/lang/AbstractStringBuilder", name := "newCapacity", desc := "(I)I" } : Jvm.MethodName)) ∈ lw_tbl := lw_at lw_m2 76 rfl
theorem q374 : (Jvm.Cond.instanceMethod ({ cls := "java/lang/AbstractStringBuilder", name := "newCapacity", desc := "(I)I" } : Jvm.MethodName)) ∈ lw_all := lw_g (lw_at lw_m2 77 rfl) rfl
theorem q375 : (Jvm.Cond.code ({ cls := "java/lang/AbstractStringBuilder", name := "newCapacity", desc := "(I)I" } : Jvm.MethodName) prog_17_method_10_code (6 : Nat) (Option.some Jvm.ClassFile.FieldType.int)) ∈ lw_all := lw_g (lw_at lw_m2 78 rfl) rfl
theorem q376 : (Jvm.Cond.methodLink "java/lang/AbstractStringBuilder" (114 : Nat) ({ cls := "jdk/internal/util/ArraysSupport", name := "newLength", desc := "(III)I" } : Jvm.MethodName)) ∈ lw_all := lw_g (lw_at lw_m2 79 rfl) rfl
theorem q386 : (Jvm.Cond.constant "java/lang/AbstractStringBuilder" (39 : Nat) (2147483647 : Int32)) ∈ lw_all := lw_g (lw_at lw_m2 89 rfl) rfl
theorem q387 : (Jvm.Cond.methodLink "java/lang/AbstractStringBuilder" (108 : Nat) ({ cls := "java/util/Arrays", name := "copyOf", desc := "([BI)[B" } : Jvm.MethodName)) ∈ lw_all := lw_g (lw_at lw_m2 90 rfl) rfl
theorem q403 : (Jvm.Cond.methodLink "java/lang/AbstractStringBuilder" (83 : Nat) ({ cls := "java/lang/AbstractStringBuilder", name := "isLatin1", desc := "()Z" } : Jvm.MethodName)) ∈ lw_all := lw_g (lw_at lw_m2 106 rfl) rfl
theorem q404 : (Jvm.Cond.instanceMethod ({ cls := "java/lang/AbstractStringBuilder", name := "isLatin1", desc := "()Z" } : Jvm.MethodName)) ∈ lw_all := lw_g (lw_at lw_m2 107 rfl) rfl
theorem q405 : (Jvm.Cond.sameMethod "java/lang/AbstractStringBuilder" "java/lang/AbstractStringBuilder" "isLatin1" "()Z") ∈ lw_all := lw_g (lw_at lw_m2 108 rfl) rfl
theorem q407 : (Jvm.Cond.code ({ cls := "java/lang/AbstractStringBuilder", name := "isLatin1", desc := "()Z" } : Jvm.MethodName) prog_17_method_68_code (1 : Nat) (Option.some Jvm.ClassFile.FieldType.boolean)) ∈ lw_all := lw_g (lw_at lw_m2 110 rfl) rfl
theorem q408 : (Jvm.Cond.methodLink "java/lang/AbstractStringBuilder" (226 : Nat) ({ cls := "java/lang/StringUTF16", name := "putCharsAt", desc := "([BICCCC)I" } : Jvm.MethodName)) ∈ lw_all := lw_g (lw_at lw_m2 111 rfl) rfl
theorem q425 : (Jvm.Cond.methodLink "java/lang/AbstractStringBuilder" (32 : Nat) ({ cls := "java/lang/String", name := "length", desc := "()I" } : Jvm.MethodName)) ∈ lw_all := lw_g (lw_at lw_m2 128 rfl) rfl
theorem q433 : (Jvm.Cond.methodLink "java/lang/AbstractStringBuilder" (208 : Nat) ({ cls := "java/lang/AbstractStringBuilder", name := "putStringAt", desc := "(ILjava/lang/String;)V" } : Jvm.MethodName)) ∈ lw_all := lw_g (lw_at lw_m2 136 rfl) rfl
theorem q434 : (Jvm.Cond.privateMethod ({ cls := "java/lang/AbstractStringBuilder", name := "putStringAt", desc := "(ILjava/lang/String;)V" } : Jvm.MethodName)) ∈ lw_tbl := lw_at lw_m2 137 rfl
theorem q435 : (Jvm.Cond.instanceMethod ({ cls := "java/lang/AbstractStringBuilder", name := "putStringAt", desc := "(ILjava/lang/String;)V" } : Jvm.MethodName)) ∈ lw_all := lw_g (lw_at lw_m2 138 rfl) rfl
theorem q436 : (Jvm.Cond.code ({ cls := "java/lang/AbstractStringBuilder", name := "putStringAt", desc := "(ILjava/lang/String;)V" } : Jvm.MethodName) prog_17_method_73_code (3 : Nat) (Option.none : Option Jvm.ClassFile.FieldType)) ∈ lw_all := lw_g (lw_at lw_m2 139 rfl) rfl
theorem q437 : (Jvm.Cond.methodLink "java/lang/AbstractStringBuilder" (397 : Nat) ({ cls := "java/lang/AbstractStringBuilder", name := "inflateIfNeededFor", desc := "(Ljava/lang/String;)V" } : Jvm.MethodName)) ∈ lw_all := lw_g (lw_at lw_m2 140 rfl) rfl
theorem q438 : (Jvm.Cond.privateMethod ({ cls := "java/lang/AbstractStringBuilder", name := "inflateIfNeededFor", desc := "(Ljava/lang/String;)V" } : Jvm.MethodName)) ∈ lw_tbl := lw_at lw_m2 141 rfl
theorem q439 : (Jvm.Cond.instanceMethod ({ cls := "java/lang/AbstractStringBuilder", name := "inflateIfNeededFor", desc := "(Ljava/lang/String;)V" } : Jvm.MethodName)) ∈ lw_all := lw_g (lw_at lw_m2 142 rfl) rfl
theorem q440 : (Jvm.Cond.code ({ cls := "java/lang/AbstractStringBuilder", name := "inflateIfNeededFor", desc := "(Ljava/lang/String;)V" } : Jvm.MethodName) prog_17_method_71_code (2 : Nat) (Option.none : Option Jvm.ClassFile.FieldType)) ∈ lw_all := lw_g (lw_at lw_m2 143 rfl) rfl
theorem q441 : (Jvm.Cond.methodLink "java/lang/AbstractStringBuilder" (40 : Nat) ({ cls := "java/lang/String", name := "coder", desc := "()B" } : Jvm.MethodName)) ∈ lw_all := lw_g (lw_at lw_m2 144 rfl) rfl
theorem q442 : (Jvm.Cond.methodLink "java/lang/AbstractStringBuilder" (195 : Nat) ({ cls := "java/lang/AbstractStringBuilder", name := "inflate", desc := "()V" } : Jvm.MethodName)) ∈ lw_all := lw_g (lw_at lw_m2 145 rfl) rfl
theorem q443 : (Jvm.Cond.privateMethod ({ cls := "java/lang/AbstractStringBuilder", name := "inflate", desc := "()V" } : Jvm.MethodName)) ∈ lw_tbl := lw_at lw_m2 146 rfl
theorem q444 : (Jvm.Cond.instanceMethod ({ cls := "java/lang/AbstractStringBuilder", name := "inflate", desc := "()V" } : Jvm.MethodName)) ∈ lw_all := lw_g (lw_at lw_m2 147 rfl) rfl
theorem q445 : (Jvm.Cond.code ({ cls := "java/lang/AbstractStringBuilder", name := "inflate", desc := "()V" } : Jvm.MethodName) prog_17_method_11_code (2 : Nat) (Option.none : Option Jvm.ClassFile.FieldType)) ∈ lw_all := lw_g (lw_at lw_m2 148 rfl) rfl
theorem q446 : (Jvm.Cond.methodLink "java/lang/AbstractStringBuilder" (125 : Nat) ({ cls := "java/lang/StringLatin1", name := "inflate", desc := "([BI[BII)V" } : Jvm.MethodName)) ∈ lw_all := lw_g (lw_at lw_m2 149 rfl) rfl
theorem q461 : (Jvm.Cond.methodLink "java/lang/AbstractStringBuilder" (399 : Nat) ({ cls := "java/lang/String", name := "getBytes", desc := "([BIB)V" } : Jvm.MethodName)) ∈ lw_all := lw_g (lw_at lw_m2 164 rfl) rfl
theorem q472 : (Jvm.Cond.instanceMethod ({ cls := "java/lang/AbstractStringBuilder", name := "append", desc := "(I)Ljava/lang/AbstractStringBuilder;" } : Jvm.MethodName)) ∈ lw_all := lw_g (lw_at lw_m2 175 rfl) rfl
theorem q473 : (Jvm.Cond.code ({ cls := "java/lang/AbstractStringBuilder", name := "append", desc := "(I)Ljava/lang/AbstractStringBuilder;" } : Jvm.MethodName) prog_17_method_32_code (4 : Nat) (Option.some (Jvm.ClassFile.FieldType.object "java/lang/AbstractStringBuilder"))) ∈ lw_all := lw_g (lw_at lw_m2 176 rfl) rfl
theorem q474 : (Jvm.Cond.methodLink "java/lang/AbstractStringBuilder" (245 : Nat) ({ cls := "java/lang/Integer", name := "stringSize", desc := "(I)I" } : Jvm.MethodName)) ∈ lw_all := lw_g (lw_at lw_m2 177 rfl) rfl
theorem q477 : (Jvm.Cond.methodLink "java/lang/AbstractStringBuilder" (248 : Nat) ({ cls := "java/lang/Integer", name := "getChars", desc := "(II[B)I" } : Jvm.MethodName)) ∈ lw_all := lw_g (lw_at lw_m2 180 rfl) rfl
theorem q484 : (Jvm.Cond.methodLink "java/lang/AbstractStringBuilder" (251 : Nat) ({ cls := "java/lang/StringUTF16", name := "getChars", desc := "(III[B)I" } : Jvm.MethodName)) ∈ lw_all := lw_g (lw_at lw_m2 187 rfl) rfl
theorem q506 : (Jvm.Cond.instanceMethod ({ cls := "java/lang/AbstractStringBuilder", name := "getValue", desc := "()[B" } : Jvm.MethodName)) ∈ lw_all := lw_g (lw_at lw_m2 209 rfl) rfl
theorem q507 : (Jvm.Cond.sameMethod "java/lang/AbstractStringBuilder" "java/lang/AbstractStringBuilder" "getValue" "()[B") ∈ lw_all := lw_g (lw_at lw_m2 210 rfl) rfl
theorem q509 : (Jvm.Cond.code ({ cls := "java/lang/AbstractStringBuilder", name := "getValue", desc := "()[B" } : Jvm.MethodName) prog_17_method_64_code (1 : Nat) (Option.some (Jvm.ClassFile.FieldType.array Jvm.ClassFile.FieldType.byte))) ∈ lw_all := lw_g (lw_at lw_m2 212 rfl) rfl
theorem q511 : (Jvm.Cond.instanceMethod ({ cls := "java/lang/AbstractStringBuilder", name := "length", desc := "()I" } : Jvm.MethodName)) ∈ lw_all := lw_g (lw_at lw_m2 214 rfl) rfl
theorem q512 : (Jvm.Cond.sameMethod "java/lang/AbstractStringBuilder" "java/lang/AbstractStringBuilder" "length" "()I") ∈ lw_all := lw_g (lw_at lw_m2 215 rfl) rfl
theorem q517 : (Jvm.Cond.code ({ cls := "java/lang/AbstractStringBuilder", name := "length", desc := "()I" } : Jvm.MethodName) prog_17_method_6_code (1 : Nat) (Option.some Jvm.ClassFile.FieldType.int)) ∈ lw_all := lw_g (lw_at lw_m2 220 rfl) rfl
theorem q880 : (Jvm.Cond.instanceMethod ({ cls := "java/lang/AbstractStringBuilder", name := "compareTo", desc := "(Ljava/lang/AbstractStringBuilder;)I" } : Jvm.MethodName)) ∈ lw_all := lw_g (lw_at lw_m4 103 rfl) rfl
theorem q881 : (Jvm.Cond.code ({ cls := "java/lang/AbstractStringBuilder", name := "compareTo", desc := "(Ljava/lang/AbstractStringBuilder;)I" } : Jvm.MethodName) prog_17_method_5_code (6 : Nat) (Option.some Jvm.ClassFile.FieldType.int)) ∈ lw_all := lw_g (lw_at lw_m4 104 rfl) rfl
theorem q882 : (Jvm.Cond.methodLink "java/lang/AbstractStringBuilder" (87 : Nat) ({ cls := "java/lang/StringLatin1", name := "compareTo", desc := "([B[BII)I" } : Jvm.MethodName)) ∈ lw_all := lw_g (lw_at lw_m4 105 rfl) rfl
theorem q883 : (Jvm.Cond.methodLink "java/lang/AbstractStringBuilder" (93 : Nat) ({ cls := "java/lang/StringUTF16", name := "compareTo", desc := "([B[BII)I" } : Jvm.MethodName)) ∈ lw_all := lw_g (lw_at lw_m4 106 rfl) rfl
theorem q892 : (Jvm.Cond.methodLink "java/lang/AbstractStringBuilder" (94 : Nat) ({ cls := "java/lang/StringLatin1", name := "compareToUTF16", desc := "([B[BII)I" } : Jvm.MethodName)) ∈ lw_all := lw_g (lw_at lw_m4 115 rfl) rfl
theorem q896 : (Jvm.Cond.methodLink "java/lang/AbstractStringBuilder" (97 : Nat) ({ cls := "java/lang/StringUTF16", name := "compareToLatin1", desc := "([B[BII)I" } : Jvm.MethodName)) ∈ lw_all := lw_g (lw_at lw_m4 119 rfl) rfl
theorem q1795 : (Jvm.Cond.instanceMethod ({ cls := "java/lang/AbstractStringBuilder", name := "append", desc := "(C)Ljava/lang/AbstractStringBuilder;" } : Jvm.MethodName)) ∈ lw_all := lw_g (lw_at lw_m8 58 rfl) rfl
theorem q1796 : (Jvm.Cond.code ({ cls := "java/lang/AbstractStringBuilder", name := "append", desc := "(C)Ljava/lang/AbstractStringBuilder;" } : Jvm.MethodName) prog_17_method_31_code (2 : Nat) (Option.some (Jvm.ClassFile.FieldType.object "java/lang/AbstractStringBuilder"))) ∈ lw_all := lw_g (lw_at lw_m8 59 rfl) rfl
theorem q1797 : (Jvm.Cond.methodLink "java/lang/AbstractStringBuilder" (191 : Nat) ({ cls := "java/lang/StringLatin1", name := "canEncode", desc := "(C)Z" } : Jvm.MethodName)) ∈ lw_all := lw_g (lw_at lw_m8 60 rfl) rfl
theorem q1800 : (Jvm.Cond.methodLink "java/lang/AbstractStringBuilder" (197 : Nat) ({ cls := "java/lang/StringUTF16", name := "putCharSB", desc := "([BII)V" } : Jvm.MethodName)) ∈ lw_all := lw_g (lw_at lw_m8 63 rfl) rfl
theorem q2726 : (Jvm.Cond.sameMethod "java/lang/AbstractStringBuilder" "java/lang/AbstractStringBuilder" "append" "(Ljava/lang/String;)Ljava/lang/AbstractStringBuilder;") ∈ lw_all := lw_g (lw_at lw_m12 29 rfl) rfl
theorem q2727 : (Jvm.Cond.sameMethod "java/lang/AbstractStringBuilder" "java/lang/AbstractStringBuilder" "appendNull" "()Ljava/lang/AbstractStringBuilder;") ∈ lw_all := lw_g (lw_at lw_m12 30 rfl) rfl
theorem q2728 : (Jvm.Cond.sameMethod "java/lang/AbstractStringBuilder" "java/lang/AbstractStringBuilder" "ensureCapacityInternal" "(I)V") ∈ lw_all := lw_g (lw_at lw_m12 31 rfl) rfl
theorem q2729 : (Jvm.Cond.sameMethod "java/lang/AbstractStringBuilder" "java/lang/AbstractStringBuilder" "newCapacity" "(I)I") ∈ lw_all := lw_g (lw_at lw_m12 32 rfl) rfl
theorem q2730 : (Jvm.Cond.sameMethod "java/lang/AbstractStringBuilder" "java/lang/AbstractStringBuilder" "putStringAt" "(ILjava/lang/String;)V") ∈ lw_all := lw_g (lw_at lw_m12 33 rfl) rfl
theorem q2731 : (Jvm.Cond.sameMethod "java/lang/AbstractStringBuilder" "java/lang/AbstractStringBuilder" "inflateIfNeededFor" "(Ljava/lang/String;)V") ∈ lw_all := lw_g (lw_at lw_m12 34 rfl) rfl
theorem q2732 : (Jvm.Cond.sameMethod "java/lang/AbstractStringBuilder" "java/lang/AbstractStringBuilder" "inflate" "()V") ∈ lw_all := lw_g (lw_at lw_m12 35 rfl) rfl
theorem q2733 : (Jvm.Cond.sameMethod "java/lang/AbstractStringBuilder" "java/lang/AbstractStringBuilder" "append" "(I)Ljava/lang/AbstractStringBuilder;") ∈ lw_all := lw_g (lw_at lw_m12 36 rfl) rfl
theorem q2734 : (Jvm.Cond.sameMethod "java/lang/AbstractStringBuilder" "java/lang/AbstractStringBuilder" "compareTo" "(Ljava/lang/AbstractStringBuilder;)I") ∈ lw_all := lw_g (lw_at lw_m12 37 rfl) rfl
theorem q2735 : (Jvm.Cond.sameMethod "java/lang/AbstractStringBuilder" "java/lang/AbstractStringBuilder" "append" "(C)Ljava/lang/AbstractStringBuilder;") ∈ lw_all := lw_g (lw_at lw_m12 38 rfl) rfl
abbrev cJ14_init : ByteArray := prog_37_method_1_code
def yJ14_init : MethodName := ⟨RJ14, "<init>", "()V"⟩
def dkwJ14_init_0 : List UInt8 := [42, 16, 16, 183, 0, 1, 177]
abbrev dktJ14_init_0 : List UInt8 := dkwJ14_init_0 ++ []
theorem dksJ14_init_0 : cJ14_init.data.toList.drop 0 = dktJ14_init_0 := by decide +kernel
theorem dJ14_init_0 : decode cJ14_init 0 = .ok (.aload_n 0, 1) := dk_42 (dk_at dksJ14_init_0 0 rfl rfl)
theorem dJ14_init_1 : decode cJ14_init 1 = .ok (.bipush 16, 2) := dk_16 16 (dk_at dksJ14_init_0 1 rfl rfl)
theorem dJ14_init_3 : decode cJ14_init 3 = .ok (.invokespecial 1, 3) := dk_183 0 1 (dk_at dksJ14_init_0 3 rfl rfl)
theorem dJ14_init_6 : decode cJ14_init 6 = .ok (.return_, 1) := dk_177 (dk_at dksJ14_init_0 6 rfl rfl)
abbrev cJ14_append : ByteArray := prog_37_method_7_code
def yJ14_append : MethodName := ⟨RJ14, "append", "(Ljava/lang/String;)Ljava/lang/StringBuilder;"⟩
def dkwJ14_append_0 : List UInt8 := [42, 43, 183, 0, 29, 87, 42, 176]
abbrev dktJ14_append_0 : List UInt8 := dkwJ14_append_0 ++ []
theorem dksJ14_append_0 : cJ14_append.data.toList.drop 0 = dktJ14_append_0 := by decide +kernel
theorem dJ14_append_0 : decode cJ14_append 0 = .ok (.aload_n 0, 1) := dk_42 (dk_at dksJ14_append_0 0 rfl rfl)
theorem dJ14_append_1 : decode cJ14_append 1 = .ok (.aload_n 1, 1) := dk_43 (dk_at dksJ14_append_0 1 rfl rfl)
theorem dJ14_append_2 : decode cJ14_append 2 = .ok (.invokespecial 29, 3) := dk_183 0 29 (dk_at dksJ14_append_0 2 rfl rfl)
theorem dJ14_append_5 : decode cJ14_append 5 = .ok (.pop, 1) := dk_87 (dk_at dksJ14_append_0 5 rfl rfl)
theorem dJ14_append_6 : decode cJ14_append 6 = .ok (.aload_n 0, 1) := dk_42 (dk_at dksJ14_append_0 6 rfl rfl)
theorem dJ14_append_7 : decode cJ14_append 7 = .ok (.areturn, 1) := dk_176 (dk_at dksJ14_append_0 7 rfl rfl)
abbrev cJ14_append_2 : ByteArray := prog_37_method_15_code
def yJ14_append_2 : MethodName := ⟨RJ14, "append", "(I)Ljava/lang/StringBuilder;"⟩
def dkwJ14_append_2_0 : List UInt8 := [42, 27, 183, 0, 53, 87, 42, 176]
abbrev dktJ14_append_2_0 : List UInt8 := dkwJ14_append_2_0 ++ []
theorem dksJ14_append_2_0 : cJ14_append_2.data.toList.drop 0 = dktJ14_append_2_0 := by decide +kernel
theorem dJ14_append_2_0 : decode cJ14_append_2 0 = .ok (.aload_n 0, 1) := dk_42 (dk_at dksJ14_append_2_0 0 rfl rfl)
theorem dJ14_append_2_1 : decode cJ14_append_2 1 = .ok (.iload_n 1, 1) := dk_27 (dk_at dksJ14_append_2_0 1 rfl rfl)
theorem dJ14_append_2_2 : decode cJ14_append_2 2 = .ok (.invokespecial 53, 3) := dk_183 0 53 (dk_at dksJ14_append_2_0 2 rfl rfl)
theorem dJ14_append_2_5 : decode cJ14_append_2 5 = .ok (.pop, 1) := dk_87 (dk_at dksJ14_append_2_0 5 rfl rfl)
theorem dJ14_append_2_6 : decode cJ14_append_2 6 = .ok (.aload_n 0, 1) := dk_42 (dk_at dksJ14_append_2_0 6 rfl rfl)
theorem dJ14_append_2_7 : decode cJ14_append_2 7 = .ok (.areturn, 1) := dk_176 (dk_at dksJ14_append_2_0 7 rfl rfl)
abbrev cJ14_toString : ByteArray := prog_37_method_42_code
def yJ14_toString : MethodName := ⟨RJ14, "toString", "()Ljava/lang/String;"⟩
def dkwJ14_toString_0 : List UInt8 := [187, 0, 18, 89, 42, 183, 0, 137, 176]
abbrev dktJ14_toString_0 : List UInt8 := dkwJ14_toString_0 ++ []
theorem dksJ14_toString_0 : cJ14_toString.data.toList.drop 0 = dktJ14_toString_0 := by decide +kernel
theorem dJ14_toString_0 : decode cJ14_toString 0 = .ok (.new 18, 3) := dk_187 0 18 (dk_at dksJ14_toString_0 0 rfl rfl)
theorem dJ14_toString_3 : decode cJ14_toString 3 = .ok (.dup, 1) := dk_89 (dk_at dksJ14_toString_0 3 rfl rfl)
theorem dJ14_toString_4 : decode cJ14_toString 4 = .ok (.aload_n 0, 1) := dk_42 (dk_at dksJ14_toString_0 4 rfl rfl)
theorem dJ14_toString_5 : decode cJ14_toString 5 = .ok (.invokespecial 137, 3) := dk_183 0 137 (dk_at dksJ14_toString_0 5 rfl rfl)
theorem dJ14_toString_8 : decode cJ14_toString 8 = .ok (.areturn, 1) := dk_176 (dk_at dksJ14_toString_0 8 rfl rfl)
abbrev cJ14_length : ByteArray := prog_37_method_93_code
def yJ14_length : MethodName := ⟨RJ14, "length", "()I"⟩
theorem dJ14_length_0 : decode cJ14_length 0 = .ok (.aload_n 0, 1) := by decide +kernel
theorem dJ14_length_1 : decode cJ14_length 1 = .ok (.invokespecial 343, 3) := by decide +kernel
theorem dJ14_length_4 : decode cJ14_length 4 = .ok (.ireturn, 1) := by decide +kernel
abbrev cJ14_compareTo : ByteArray := prog_37_method_97_code
def yJ14_compareTo : MethodName := ⟨RJ14, "compareTo", "(Ljava/lang/Object;)I"⟩
def dkwJ14_compareTo_0 : List UInt8 := [42, 43, 192, 0, 24, 182, 1, 90, 172]
abbrev dktJ14_compareTo_0 : List UInt8 := dkwJ14_compareTo_0 ++ []
theorem dksJ14_compareTo_0 : cJ14_compareTo.data.toList.drop 0 = dktJ14_compareTo_0 := by decide +kernel
theorem dJ14_compareTo_0 : decode cJ14_compareTo 0 = .ok (.aload_n 0, 1) := dk_42 (dk_at dksJ14_compareTo_0 0 rfl rfl)
theorem dJ14_compareTo_1 : decode cJ14_compareTo 1 = .ok (.aload_n 1, 1) := dk_43 (dk_at dksJ14_compareTo_0 1 rfl rfl)
theorem dJ14_compareTo_2 : decode cJ14_compareTo 2 = .ok (.checkcast 24, 3) := dk_192 0 24 (dk_at dksJ14_compareTo_0 2 rfl rfl)
theorem dJ14_compareTo_5 : decode cJ14_compareTo 5 = .ok (.invokevirtual 346, 3) := dk_182 1 90 (dk_at dksJ14_compareTo_0 5 rfl rfl)
theorem dJ14_compareTo_8 : decode cJ14_compareTo 8 = .ok (.ireturn, 1) := dk_172 (dk_at dksJ14_compareTo_0 8 rfl rfl)
abbrev cJ14_compareTo_2 : ByteArray := prog_37_method_5_code
def yJ14_compareTo_2 : MethodName := ⟨RJ14, "compareTo", "(Ljava/lang/StringBuilder;)I"⟩
def dkwJ14_compareTo_2_0 : List UInt8 := [42, 43, 183, 0, 13, 172]
abbrev dktJ14_compareTo_2_0 : List UInt8 := dkwJ14_compareTo_2_0 ++ []
theorem dksJ14_compareTo_2_0 : cJ14_compareTo_2.data.toList.drop 0 = dktJ14_compareTo_2_0 := by decide +kernel
theorem dJ14_compareTo_2_0 : decode cJ14_compareTo_2 0 = .ok (.aload_n 0, 1) := dk_42 (dk_at dksJ14_compareTo_2_0 0 rfl rfl)
theorem dJ14_compareTo_2_1 : decode cJ14_compareTo_2 1 = .ok (.aload_n 1, 1) := dk_43 (dk_at dksJ14_compareTo_2_0 1 rfl rfl)
theorem dJ14_compareTo_2_2 : decode cJ14_compareTo_2 2 = .ok (.invokespecial 13, 3) := dk_183 0 13 (dk_at dksJ14_compareTo_2_0 2 rfl rfl)
theorem dJ14_compareTo_2_5 : decode cJ14_compareTo_2 5 = .ok (.ireturn, 1) := dk_172 (dk_at dksJ14_compareTo_2_0 5 rfl rfl)
abbrev cJ14_append_3 : ByteArray := prog_37_method_14_code
def yJ14_append_3 : MethodName := ⟨RJ14, "append", "(C)Ljava/lang/StringBuilder;"⟩
def dkwJ14_append_3_0 : List UInt8 := [42, 27, 183, 0, 50, 87, 42, 176]
abbrev dktJ14_append_3_0 : List UInt8 := dkwJ14_append_3_0 ++ []
theorem dksJ14_append_3_0 : cJ14_append_3.data.toList.drop 0 = dktJ14_append_3_0 := by decide +kernel
theorem dJ14_append_3_0 : decode cJ14_append_3 0 = .ok (.aload_n 0, 1) := dk_42 (dk_at dksJ14_append_3_0 0 rfl rfl)
theorem dJ14_append_3_1 : decode cJ14_append_3 1 = .ok (.iload_n 1, 1) := dk_27 (dk_at dksJ14_append_3_0 1 rfl rfl)
theorem dJ14_append_3_2 : decode cJ14_append_3 2 = .ok (.invokespecial 50, 3) := dk_183 0 50 (dk_at dksJ14_append_3_0 2 rfl rfl)
theorem dJ14_append_3_5 : decode cJ14_append_3 5 = .ok (.pop, 1) := dk_87 (dk_at dksJ14_append_3_0 5 rfl rfl)
theorem dJ14_append_3_6 : decode cJ14_append_3 6 = .ok (.aload_n 0, 1) := dk_42 (dk_at dksJ14_append_3_0 6 rfl rfl)
theorem dJ14_append_3_7 : decode cJ14_append_3 7 = .ok (.areturn, 1) := dk_176 (dk_at dksJ14_append_3_0 7 rfl rfl)
theorem q75 : (Jvm.Cond.initialized "java/lang/StringBuilder") ∈ lw_all := lw_g (lw_at lw_m1 18 rfl) rfl
theorem q326 : (Jvm.Cond.instantiable "java/lang/StringBuilder" (4 : Nat)) ∈ lw_all := lw_g (lw_at lw_m2 29 rfl) rfl
theorem q328 : (Jvm.Cond.instanceMethod ({ cls := "java/lang/StringBuilder", name := "<init>", desc := "()V" } : Jvm.MethodName)) ∈ lw_all := lw_g (lw_at lw_m2 31 rfl) rfl
theorem q329 : (Jvm.Cond.code ({ cls := "java/lang/StringBuilder", name := "<init>", desc := "()V" } : Jvm.MethodName) prog_37_method_1_code (1 : Nat) (Option.none : Option Jvm.ClassFile.FieldType)) ∈ lw_all := lw_g (lw_at lw_m2 32 rfl) rfl
theorem q330 : (Jvm.Cond.methodLink "java/lang/StringBuilder" (1 : Nat) ({ cls := "java/lang/AbstractStringBuilder", name := "<init>", desc := "(I)V" } : Jvm.MethodName)) ∈ lw_all := lw_g (lw_at lw_m2 33 rfl) rfl
theorem q346 : (Jvm.Cond.lays "java/lang/StringBuilder" "java/lang/AbstractStringBuilder" "value" "[B") ∈ lw_all := lw_g (lw_at lw_m2 49 rfl) rfl
theorem q348 : (Jvm.Cond.lays "java/lang/StringBuilder" "java/lang/AbstractStringBuilder" "coder" "B") ∈ lw_all := lw_g (lw_at lw_m2 51 rfl) rfl
theorem q350 : (Jvm.Cond.lays "java/lang/StringBuilder" "java/lang/AbstractStringBuilder" "maybeLatin1" "Z") ∈ lw_all := lw_g (lw_at lw_m2 53 rfl) rfl
theorem q352 : (Jvm.Cond.lays "java/lang/StringBuilder" "java/lang/AbstractStringBuilder" "count" "I") ∈ lw_all := lw_g (lw_at lw_m2 55 rfl) rfl
theorem q354 : (Jvm.Cond.superclass "java/lang/StringBuilder" "java/lang/AbstractStringBuilder") ∈ lw_all := lw_g (lw_at lw_m2 57 rfl) rfl
theorem q358 : (Jvm.Cond.instanceMethod ({ cls := "java/lang/StringBuilder", name := "append", desc := "(Ljava/lang/String;)Ljava/lang/StringBuilder;" } : Jvm.MethodName)) ∈ lw_all := lw_g (lw_at lw_m2 61 rfl) rfl
theorem q359 : (Jvm.Cond.selects "java/lang/StringBuilder" ({ cls := "java/lang/StringBuilder", name := "append", desc := "(Ljava/lang/String;)Ljava/lang/StringBuilder;" } : Jvm.MethodName) ({ cls := "java/lang/StringBuilder", name := "append", desc := "(Ljava/lang/String;)Ljava/lang/StringBuilder;" } : Jvm.MethodName)) ∈ lw_all := lw_g (lw_at lw_m2 62 rfl) rfl
theorem q360 : (Jvm.Cond.code ({ cls := "java/lang/StringBuilder", name := "append", desc := "(Ljava/lang/String;)Ljava/lang/StringBuilder;" } : Jvm.MethodName) prog_37_method_7_code (2 : Nat) (Option.some (Jvm.ClassFile.FieldType.object "java/lang/StringBuilder"))) ∈ lw_all := lw_g (lw_at lw_m2 63 rfl) rfl
theorem q361 : (Jvm.Cond.methodLink "java/lang/StringBuilder" (29 : Nat) ({ cls := "java/lang/AbstractStringBuilder", name := "append", desc := "(Ljava/lang/String;)Ljava/lang/AbstractStringBuilder;" } : Jvm.MethodName)) ∈ lw_all := lw_g (lw_at lw_m2 64 rfl) rfl
theorem q406 : (Jvm.Cond.selects "java/lang/StringBuilder" ({ cls := "java/lang/AbstractStringBuilder", name := "isLatin1", desc := "()Z" } : Jvm.MethodName) ({ cls := "java/lang/AbstractStringBuilder", name := "isLatin1", desc := "()Z" } : Jvm.MethodName)) ∈ lw_all := lw_g (lw_at lw_m2 109 rfl) rfl
theorem q468 : (Jvm.Cond.instanceMethod ({ cls := "java/lang/StringBuilder", name := "append", desc := "(I)Ljava/lang/StringBuilder;" } : Jvm.MethodName)) ∈ lw_all := lw_g (lw_at lw_m2 171 rfl) rfl
theorem q469 : (Jvm.Cond.selects "java/lang/StringBuilder" ({ cls := "java/lang/StringBuilder", name := "append", desc := "(I)Ljava/lang/StringBuilder;" } : Jvm.MethodName) ({ cls := "java/lang/StringBuilder", name := "append", desc := "(I)Ljava/lang/StringBuilder;" } : Jvm.MethodName)) ∈ lw_all := lw_g (lw_at lw_m2 172 rfl) rfl
theorem q470 : (Jvm.Cond.code ({ cls := "java/lang/StringBuilder", name := "append", desc := "(I)Ljava/lang/StringBuilder;" } : Jvm.MethodName) prog_37_method_15_code (2 : Nat) (Option.some (Jvm.ClassFile.FieldType.object "java/lang/StringBuilder"))) ∈ lw_all := lw_g (lw_at lw_m2 173 rfl) rfl
theorem q471 : (Jvm.Cond.methodLink "java/lang/StringBuilder" (53 : Nat) ({ cls := "java/lang/AbstractStringBuilder", name := "append", desc := "(I)Ljava/lang/AbstractStringBuilder;" } : Jvm.MethodName)) ∈ lw_all := lw_g (lw_at lw_m2 174 rfl) rfl
theorem q493 : (Jvm.Cond.instanceMethod ({ cls := "java/lang/StringBuilder", name := "toString", desc := "()Ljava/lang/String;" } : Jvm.MethodName)) ∈ lw_all := lw_g (lw_at lw_m2 196 rfl) rfl
theorem q494 : (Jvm.Cond.selects "java/lang/StringBuilder" ({ cls := "java/lang/StringBuilder", name := "toString", desc := "()Ljava/lang/String;" } : Jvm.MethodName) ({ cls := "java/lang/StringBuilder", name := "toString", desc := "()Ljava/lang/String;" } : Jvm.MethodName)) ∈ lw_all := lw_g (lw_at lw_m2 197 rfl) rfl
theorem q495 : (Jvm.Cond.code ({ cls := "java/lang/StringBuilder", name := "toString", desc := "()Ljava/lang/String;" } : Jvm.MethodName) prog_37_method_42_code (1 : Nat) (Option.some (Jvm.ClassFile.FieldType.object "java/lang/String"))) ∈ lw_all := lw_g (lw_at lw_m2 198 rfl) rfl
theorem q496 : (Jvm.Cond.classLink "java/lang/StringBuilder" (18 : Nat) "java/lang/String") ∈ lw_all := lw_g (lw_at lw_m2 199 rfl) rfl
theorem q498 : (Jvm.Cond.methodLink "java/lang/StringBuilder" (137 : Nat) ({ cls := "java/lang/String", name := "<init>", desc := "(Ljava/lang/StringBuilder;)V" } : Jvm.MethodName)) ∈ lw_all := lw_g (lw_at lw_m2 201 rfl) rfl
theorem q508 : (Jvm.Cond.selects "java/lang/StringBuilder" ({ cls := "java/lang/AbstractStringBuilder", name := "getValue", desc := "()[B" } : Jvm.MethodName) ({ cls := "java/lang/AbstractStringBuilder", name := "getValue", desc := "()[B" } : Jvm.MethodName)) ∈ lw_all := lw_g (lw_at lw_m2 211 rfl) rfl
theorem q513 : (Jvm.Cond.selects "java/lang/StringBuilder" ({ cls := "java/lang/AbstractStringBuilder", name := "length", desc := "()I" } : Jvm.MethodName) ({ cls := "java/lang/StringBuilder", name := "length", desc := "()I" } : Jvm.MethodName)) ∈ lw_all := lw_g (lw_at lw_m2 216 rfl) rfl
theorem q514 : (Jvm.Cond.instanceMethod ({ cls := "java/lang/StringBuilder", name := "length", desc := "()I" } : Jvm.MethodName)) ∈ lw_all := lw_g (lw_at lw_m2 217 rfl) rfl
theorem q515 : (Jvm.Cond.code ({ cls := "java/lang/StringBuilder", name := "length", desc := "()I" } : Jvm.MethodName) prog_37_method_93_code (1 : Nat) (Option.some Jvm.ClassFile.FieldType.int)) ∈ lw_all := lw_g (lw_at lw_m2 218 rfl) rfl
theorem q516 : (Jvm.Cond.methodLink "java/lang/StringBuilder" (343 : Nat) ({ cls := "java/lang/AbstractStringBuilder", name := "length", desc := "()I" } : Jvm.MethodName)) ∈ lw_all := lw_g (lw_at lw_m2 219 rfl) rfl
theorem q589 : (Jvm.Cond.selects "java/lang/StringBuilder" ({ cls := "java/lang/Object", name := "hashCode", desc := "()I" } : Jvm.MethodName) ({ cls := "java/lang/Object", name := "hashCode", desc := "()I" } : Jvm.MethodName)) ∈ lw_all := lw_g (lw_at lw_m3 52 rfl) rfl
theorem q678 : (Jvm.Cond.selects "java/lang/StringBuilder" ({ cls := "java/lang/Object", name := "getClass", desc := "()Ljava/lang/Class;" } : Jvm.MethodName) ({ cls := "java/lang/Object", name := "getClass", desc := "()Ljava/lang/Class;" } : Jvm.MethodName)) ∈ lw_all := lw_g (lw_at lw_m3 141 rfl) rfl
theorem q868 : (Jvm.Cond.castable "java/lang/StringBuilder" "java/lang/Comparable") ∈ lw_tbl := lw_at lw_m4 91 rfl
theorem q869 : (Jvm.Cond.selects "java/lang/StringBuilder" ({ cls := "java/lang/Comparable", name := "compareTo", desc := "(Ljava/lang/Object;)I" } : Jvm.MethodName) ({ cls := "java/lang/StringBuilder", name := "compareTo", desc := "(Ljava/lang/Object;)I" } : Jvm.MethodName)) ∈ lw_all := lw_g (lw_at lw_m4 92 rfl) rfl
theorem q870 : (Jvm.Cond.unhidden "java/lang/StringBuilder" "compareTo" "(Ljava/lang/Object;)I") ∈ lw_tbl := lw_at lw_m4 93 rfl
theorem q871 : (Jvm.Cond.instanceMethod ({ cls := "java/lang/StringBuilder", name := "compareTo", desc := "(Ljava/lang/Object;)I" } : Jvm.MethodName)) ∈ lw_all := lw_g (lw_at lw_m4 94 rfl) rfl
theorem q872 : (Jvm.Cond.publicMethod ({ cls := "java/lang/StringBuilder", name := "compareTo", desc := "(Ljava/lang/Object;)I" } : Jvm.MethodName)) ∈ lw_tbl := lw_at lw_m4 95 rfl
theorem q873 : (Jvm.Cond.code ({ cls := "java/lang/StringBuilder", name := "compareTo", desc := "(Ljava/lang/Object;)I" } : Jvm.MethodName) prog_37_method_97_code (2 : Nat) (Option.some Jvm.ClassFile.FieldType.int)) ∈ lw_all := lw_g (lw_at lw_m4 96 rfl) rfl
theorem q874 : (Jvm.Cond.classLink "java/lang/StringBuilder" (24 : Nat) "java/lang/StringBuilder") ∈ lw_all := lw_g (lw_at lw_m4 97 rfl) rfl
theorem q875 : (Jvm.Cond.methodLink "java/lang/StringBuilder" (346 : Nat) ({ cls := "java/lang/StringBuilder", name := "compareTo", desc := "(Ljava/lang/StringBuilder;)I" } : Jvm.MethodName)) ∈ lw_all := lw_g (lw_at lw_m4 98 rfl) rfl
theorem q876 : (Jvm.Cond.instanceMethod ({ cls := "java/lang/StringBuilder", name := "compareTo", desc := "(Ljava/lang/StringBuilder;)I" } : Jvm.MethodName)) ∈ lw_all := lw_g (lw_at lw_m4 99 rfl) rfl
theorem q877 : (Jvm.Cond.selects "java/lang/StringBuilder" ({ cls := "java/lang/StringBuilder", name := "compareTo", desc := "(Ljava/lang/StringBuilder;)I" } : Jvm.MethodName) ({ cls := "java/lang/StringBuilder", name := "compareTo", desc := "(Ljava/lang/StringBuilder;)I" } : Jvm.MethodName)) ∈ lw_all := lw_g (lw_at lw_m4 100 rfl) rfl
theorem q878 : (Jvm.Cond.code ({ cls := "java/lang/StringBuilder", name := "compareTo", desc := "(Ljava/lang/StringBuilder;)I" } : Jvm.MethodName) prog_37_method_5_code (2 : Nat) (Option.some Jvm.ClassFile.FieldType.int)) ∈ lw_all := lw_g (lw_at lw_m4 101 rfl) rfl
theorem q879 : (Jvm.Cond.methodLink "java/lang/StringBuilder" (13 : Nat) ({ cls := "java/lang/AbstractStringBuilder", name := "compareTo", desc := "(Ljava/lang/AbstractStringBuilder;)I" } : Jvm.MethodName)) ∈ lw_all := lw_g (lw_at lw_m4 102 rfl) rfl
theorem q956 : (Jvm.Cond.selects "java/lang/StringBuilder" ({ cls := "java/lang/Object", name := "equals", desc := "(Ljava/lang/Object;)Z" } : Jvm.MethodName) ({ cls := "java/lang/Object", name := "equals", desc := "(Ljava/lang/Object;)Z" } : Jvm.MethodName)) ∈ lw_all := lw_g (lw_at lw_m4 179 rfl) rfl
theorem q1791 : (Jvm.Cond.instanceMethod ({ cls := "java/lang/StringBuilder", name := "append", desc := "(C)Ljava/lang/StringBuilder;" } : Jvm.MethodName)) ∈ lw_all := lw_g (lw_at lw_m8 54 rfl) rfl
theorem q1792 : (Jvm.Cond.selects "java/lang/StringBuilder" ({ cls := "java/lang/StringBuilder", name := "append", desc := "(C)Ljava/lang/StringBuilder;" } : Jvm.MethodName) ({ cls := "java/lang/StringBuilder", name := "append", desc := "(C)Ljava/lang/StringBuilder;" } : Jvm.MethodName)) ∈ lw_all := lw_g (lw_at lw_m8 55 rfl) rfl
theorem q1793 : (Jvm.Cond.code ({ cls := "java/lang/StringBuilder", name := "append", desc := "(C)Ljava/lang/StringBuilder;" } : Jvm.MethodName) prog_37_method_14_code (2 : Nat) (Option.some (Jvm.ClassFile.FieldType.object "java/lang/StringBuilder"))) ∈ lw_all := lw_g (lw_at lw_m8 56 rfl) rfl
theorem q1794 : (Jvm.Cond.methodLink "java/lang/StringBuilder" (50 : Nat) ({ cls := "java/lang/AbstractStringBuilder", name := "append", desc := "(C)Ljava/lang/AbstractStringBuilder;" } : Jvm.MethodName)) ∈ lw_all := lw_g (lw_at lw_m8 57 rfl) rfl
theorem q2759 : (Jvm.Cond.castable "java/lang/StringBuilder" "java/lang/Object") ∈ lw_tbl := lw_at lw_m12 62 rfl
abbrev cJ15_max : ByteArray := prog_33_method_65_code
def yJ15_max : MethodName := ⟨RJ15, "max", "(II)I"⟩
def dkwJ15_max_0 : List UInt8 := [26, 27, 161, 0, 7, 26, 167, 0, 4, 27, 172]
abbrev dktJ15_max_0 : List UInt8 := dkwJ15_max_0 ++ []
theorem dksJ15_max_0 : cJ15_max.data.toList.drop 0 = dktJ15_max_0 := by decide +kernel
theorem dJ15_max_0 : decode cJ15_max 0 = .ok (.iload_n 0, 1) := dk_26 (dk_at dksJ15_max_0 0 rfl rfl)
theorem dJ15_max_1 : decode cJ15_max 1 = .ok (.iload_n 1, 1) := dk_27 (dk_at dksJ15_max_0 1 rfl rfl)
theorem dJ15_max_2 : decode cJ15_max 2 = .ok (.if_icmp .lt 7, 3) := dk_161 0 7 (dk_at dksJ15_max_0 2 rfl rfl)
theorem dJ15_max_5 : decode cJ15_max 5 = .ok (.iload_n 0, 1) := dk_26 (dk_at dksJ15_max_0 5 rfl rfl)
theorem dJ15_max_6 : decode cJ15_max 6 = .ok (.goto 4, 3) := dk_167 0 4 (dk_at dksJ15_max_0 6 rfl rfl)
theorem dJ15_max_9 : decode cJ15_max 9 = .ok (.iload_n 1, 1) := dk_27 (dk_at dksJ15_max_0 9 rfl rfl)
theorem dJ15_max_10 : decode cJ15_max 10 = .ok (.ireturn, 1) := dk_172 (dk_at dksJ15_max_0 10 rfl rfl)
abbrev cJ15_min : ByteArray := prog_33_method_69_code
def yJ15_min : MethodName := ⟨RJ15, "min", "(II)I"⟩
def dkwJ15_min_0 : List UInt8 := [26, 27, 163, 0, 7, 26, 167, 0, 4, 27, 172]
abbrev dktJ15_min_0 : List UInt8 := dkwJ15_min_0 ++ []
theorem dksJ15_min_0 : cJ15_min.data.toList.drop 0 = dktJ15_min_0 := by decide +kernel
theorem dJ15_min_0 : decode cJ15_min 0 = .ok (.iload_n 0, 1) := dk_26 (dk_at dksJ15_min_0 0 rfl rfl)
theorem dJ15_min_1 : decode cJ15_min 1 = .ok (.iload_n 1, 1) := dk_27 (dk_at dksJ15_min_0 1 rfl rfl)
theorem dJ15_min_2 : decode cJ15_min 2 = .ok (.if_icmp .gt 7, 3) := dk_163 0 7 (dk_at dksJ15_min_0 2 rfl rfl)
theorem dJ15_min_5 : decode cJ15_min 5 = .ok (.iload_n 0, 1) := dk_26 (dk_at dksJ15_min_0 5 rfl rfl)
theorem dJ15_min_6 : decode cJ15_min 6 = .ok (.goto 4, 3) := dk_167 0 4 (dk_at dksJ15_min_0 6 rfl rfl)
theorem dJ15_min_9 : decode cJ15_min 9 = .ok (.iload_n 1, 1) := dk_27 (dk_at dksJ15_min_0 9 rfl rfl)
theorem dJ15_min_10 : decode cJ15_min 10 = .ok (.ireturn, 1) := dk_172 (dk_at dksJ15_min_0 10 rfl rfl)
theorem q76 : (Jvm.Cond.initialized "java/lang/Math") ∈ lw_all := lw_g (lw_at lw_m1 19 rfl) rfl
theorem q380 : (Jvm.Cond.static ({ cls := "java/lang/Math", name := "max", desc := "(II)I" } : Jvm.MethodName)) ∈ lw_all := lw_g (lw_at lw_m2 83 rfl) rfl
theorem q381 : (Jvm.Cond.code ({ cls := "java/lang/Math", name := "max", desc := "(II)I" } : Jvm.MethodName) prog_33_method_65_code (2 : Nat) (Option.some Jvm.ClassFile.FieldType.int)) ∈ lw_all := lw_g (lw_at lw_m2 84 rfl) rfl
theorem q398 : (Jvm.Cond.static ({ cls := "java/lang/Math", name := "min", desc := "(II)I" } : Jvm.MethodName)) ∈ lw_all := lw_g (lw_at lw_m2 101 rfl) rfl
theorem q399 : (Jvm.Cond.code ({ cls := "java/lang/Math", name := "min", desc := "(II)I" } : Jvm.MethodName) prog_33_method_69_code (2 : Nat) (Option.some Jvm.ClassFile.FieldType.int)) ∈ lw_all := lw_g (lw_at lw_m2 102 rfl) rfl
abbrev cJ16_copyOf : ByteArray := prog_50_method_121_code
def yJ16_copyOf : MethodName := ⟨RJ16, "copyOf", "([BI)[B"⟩
def dkwJ16_copyOf_1 : List UInt8 := [27, 184, 1, 48, 184, 0, 150, 44, 176]
abbrev dktJ16_copyOf_1 : List UInt8 := dkwJ16_copyOf_1 ++ []
def dkwJ16_copyOf_0 : List UInt8 := [27, 42, 190, 160, 0, 11, 42, 182, 1, 54, 192, 1, 55, 176, 27, 188, 8, 77, 42, 3, 44, 3, 42, 190]
abbrev dktJ16_copyOf_0 : List UInt8 := dkwJ16_copyOf_0 ++ dktJ16_copyOf_1
theorem dksJ16_copyOf_0 : cJ16_copyOf.data.toList.drop 0 = dktJ16_copyOf_0 := by decide +kernel
theorem dksJ16_copyOf_1 : cJ16_copyOf.data.toList.drop 24 = dktJ16_copyOf_1 := dk_seg dksJ16_copyOf_0 24 rfl rfl
theorem dJ16_copyOf_0 : decode cJ16_copyOf 0 = .ok (.iload_n 1, 1) := dk_27 (dk_at dksJ16_copyOf_0 0 rfl rfl)
theorem dJ16_copyOf_1 : decode cJ16_copyOf 1 = .ok (.aload_n 0, 1) := dk_42 (dk_at dksJ16_copyOf_0 1 rfl rfl)
theorem dJ16_copyOf_2 : decode cJ16_copyOf 2 = .ok (.arraylength, 1) := dk_190 (dk_at dksJ16_copyOf_0 2 rfl rfl)
theorem dJ16_copyOf_3 : decode cJ16_copyOf 3 = .ok (.if_icmp .ne 11, 3) := dk_160 0 11 (dk_at dksJ16_copyOf_0 3 rfl rfl)
theorem dJ16_copyOf_6 : decode cJ16_copyOf 6 = .ok (.aload_n 0, 1) := dk_42 (dk_at dksJ16_copyOf_0 6 rfl rfl)
theorem dJ16_copyOf_7 : decode cJ16_copyOf 7 = .ok (.invokevirtual 310, 3) := dk_182 1 54 (dk_at dksJ16_copyOf_0 7 rfl rfl)
theorem dJ16_copyOf_10 : decode cJ16_copyOf 10 = .ok (.checkcast 311, 3) := dk_192 1 55 (dk_at dksJ16_copyOf_0 10 rfl rfl)
theorem dJ16_copyOf_13 : decode cJ16_copyOf 13 = .ok (.areturn, 1) := dk_176 (dk_at dksJ16_copyOf_0 13 rfl rfl)
theorem dJ16_copyOf_14 : decode cJ16_copyOf 14 = .ok (.iload_n 1, 1) := dk_27 (dk_at dksJ16_copyOf_0 14 rfl rfl)
theorem dJ16_copyOf_15 : decode cJ16_copyOf 15 = .ok (.newarray .byte, 2) := dk_188_8 (dk_at dksJ16_copyOf_0 15 rfl rfl)
theorem dJ16_copyOf_17 : decode cJ16_copyOf 17 = .ok (.astore_n 2, 1) := dk_77 (dk_at dksJ16_copyOf_0 17 rfl rfl)
theorem dJ16_copyOf_18 : decode cJ16_copyOf 18 = .ok (.aload_n 0, 1) := dk_42 (dk_at dksJ16_copyOf_0 18 rfl rfl)
theorem dJ16_copyOf_19 : decode cJ16_copyOf 19 = .ok (.iconst 0, 1) := dk_3 (dk_at dksJ16_copyOf_0 19 rfl rfl)
theorem dJ16_copyOf_20 : decode cJ16_copyOf 20 = .ok (.aload_n 2, 1) := dk_44 (dk_at dksJ16_copyOf_0 20 rfl rfl)
theorem dJ16_copyOf_21 : decode cJ16_copyOf 21 = .ok (.iconst 0, 1) := dk_3 (dk_at dksJ16_copyOf_0 21 rfl rfl)
theorem dJ16_copyOf_22 : decode cJ16_copyOf 22 = .ok (.aload_n 0, 1) := dk_42 (dk_at dksJ16_copyOf_0 22 rfl rfl)
theorem dJ16_copyOf_23 : decode cJ16_copyOf 23 = .ok (.arraylength, 1) := dk_190 (dk_at dksJ16_copyOf_0 23 rfl rfl)
theorem dJ16_copyOf_24 : decode cJ16_copyOf 24 = .ok (.iload_n 1, 1) := dk_27 (dk_at dksJ16_copyOf_1 0 rfl rfl)
theorem dJ16_copyOf_25 : decode cJ16_copyOf 25 = .ok (.invokestatic 304, 3) := dk_184 1 48 (dk_at dksJ16_copyOf_1 1 rfl rfl)
theorem dJ16_copyOf_28 : decode cJ16_copyOf 28 = .ok (.invokestatic 150, 3) := dk_184 0 150 (dk_at dksJ16_copyOf_1 4 rfl rfl)
theorem dJ16_copyOf_31 : decode cJ16_copyOf 31 = .ok (.aload_n 2, 1) := dk_44 (dk_at dksJ16_copyOf_1 7 rfl rfl)
theorem dJ16_copyOf_32 : decode cJ16_copyOf 32 = .ok (.areturn, 1) := dk_176 (dk_at dksJ16_copyOf_1 8 rfl rfl)
abbrev cJ16_copyOfRange : ByteArray := prog_50_method_132_code
def yJ16_copyOfRange : MethodName := ⟨RJ16, "copyOfRange", "([BII)[B"⟩
def dkwJ16_copyOfRange_1 : List UInt8 := [176]
abbrev dktJ16_copyOfRange_1 : List UInt8 := dkwJ16_copyOfRange_1 ++ []
def dkwJ16_copyOfRange_0 : List UInt8 := [27, 154, 0, 9, 28, 42, 190, 159, 0, 10, 42, 27, 28, 184, 1, 83, 176, 42, 182, 1, 54, 192, 1, 55]
abbrev dktJ16_copyOfRange_0 : List UInt8 := dkwJ16_copyOfRange_0 ++ dktJ16_copyOfRange_1
theorem dksJ16_copyOfRange_0 : cJ16_copyOfRange.data.toList.drop 0 = dktJ16_copyOfRange_0 := by decide +kernel
theorem dksJ16_copyOfRange_1 : cJ16_copyOfRange.data.toList.drop 24 = dktJ16_copyOfRange_1 := dk_seg dksJ16_copyOfRange_0 24 rfl rfl
theorem dJ16_copyOfRange_0 : decode cJ16_copyOfRange 0 = .ok (.iload_n 1, 1) := dk_27 (dk_at dksJ16_copyOfRange_0 0 rfl rfl)
theorem dJ16_copyOfRange_1 : decode cJ16_copyOfRange 1 = .ok (.ifCond .ne 9, 3) := dk_154 0 9 (dk_at dksJ16_copyOfRange_0 1 rfl rfl)
theorem dJ16_copyOfRange_4 : decode cJ16_copyOfRange 4 = .ok (.iload_n 2, 1) := dk_28 (dk_at dksJ16_copyOfRange_0 4 rfl rfl)
theorem dJ16_copyOfRange_5 : decode cJ16_copyOfRange 5 = .ok (.aload_n 0, 1) := dk_42 (dk_at dksJ16_copyOfRange_0 5 rfl rfl)
theorem dJ16_copyOfRange_6 : decode cJ16_copyOfRange 6 = .ok (.arraylength, 1) := dk_190 (dk_at dksJ16_copyOfRange_0 6 rfl rfl)
theorem dJ16_copyOfRange_7 : decode cJ16_copyOfRange 7 = .ok (.if_icmp .eq 10, 3) := dk_159 0 10 (dk_at dksJ16_copyOfRange_0 7 rfl rfl)
theorem dJ16_copyOfRange_10 : decode cJ16_copyOfRange 10 = .ok (.aload_n 0, 1) := dk_42 (dk_at dksJ16_copyOfRange_0 10 rfl rfl)
theorem dJ16_copyOfRange_11 : decode cJ16_copyOfRange 11 = .ok (.iload_n 1, 1) := dk_27 (dk_at dksJ16_copyOfRange_0 11 rfl rfl)
theorem dJ16_copyOfRange_12 : decode cJ16_copyOfRange 12 = .ok (.iload_n 2, 1) := dk_28 (dk_at dksJ16_copyOfRange_0 12 rfl rfl)
theorem dJ16_copyOfRange_13 : decode cJ16_copyOfRange 13 = .ok (.invokestatic 339, 3) := dk_184 1 83 (dk_at dksJ16_copyOfRange_0 13 rfl rfl)
theorem dJ16_copyOfRange_16 : decode cJ16_copyOfRange 16 = .ok (.areturn, 1) := dk_176 (dk_at dksJ16_copyOfRange_0 16 rfl rfl)
theorem dJ16_copyOfRange_17 : decode cJ16_copyOfRange 17 = .ok (.aload_n 0, 1) := dk_42 (dk_at dksJ16_copyOfRange_0 17 rfl rfl)
theorem dJ16_copyOfRange_18 : decode cJ16_copyOfRange 18 = .ok (.invokevirtual 310, 3) := dk_182 1 54 (dk_at dksJ16_copyOfRange_0 18 rfl rfl)
theorem dJ16_copyOfRange_21 : decode cJ16_copyOfRange 21 = .ok (.checkcast 311, 3) := dk_192 1 55 (dk_at dksJ16_copyOfRange_0 21 rfl rfl)
theorem dJ16_copyOfRange_24 : decode cJ16_copyOfRange 24 = .ok (.areturn, 1) := dk_176 (dk_at dksJ16_copyOfRange_1 0 rfl rfl)
abbrev cJ16_copyOfRangeByte : ByteArray := prog_50_method_133_code
def yJ16_copyOfRangeByte : MethodName := ⟨RJ16, "copyOfRangeByte", "([BII)[B"⟩
def dkwJ16_copyOfRangeByte_1 : List UInt8 := [184, 1, 48, 184, 0, 150, 25, 4, 176]
abbrev dktJ16_copyOfRangeByte_1 : List UInt8 := dkwJ16_copyOfRangeByte_1 ++ []
def dkwJ16_copyOfRangeByte_0 : List UInt8 := [27, 28, 184, 1, 87, 28, 27, 100, 62, 29, 188, 8, 58, 4, 42, 27, 25, 4, 3, 42, 190, 27, 100, 29]
abbrev dktJ16_copyOfRangeByte_0 : List UInt8 := dkwJ16_copyOfRangeByte_0 ++ dktJ16_copyOfRangeByte_1
theorem dksJ16_copyOfRangeByte_0 : cJ16_copyOfRangeByte.data.toList.drop 0 = dktJ16_copyOfRangeByte_0 := by decide +kernel
theorem dksJ16_copyOfRangeByte_1 : cJ16_copyOfRangeByte.data.toList.drop 24 = dktJ16_copyOfRangeByte_1 := dk_seg dksJ16_copyOfRangeByte_0 24 rfl rfl
theorem dJ16_copyOfRangeByte_0 : decode cJ16_copyOfRangeByte 0 = .ok (.iload_n 1, 1) := dk_27 (dk_at dksJ16_copyOfRangeByte_0 0 rfl rfl)
theorem dJ16_copyOfRangeByte_1 : decode cJ16_copyOfRangeByte 1 = .ok (.iload_n 2, 1) := dk_28 (dk_at dksJ16_copyOfRangeByte_0 1 rfl rfl)
theorem dJ16_copyOfRangeByte_2 : decode cJ16_copyOfRangeByte 2 = .ok (.invokestatic 343, 3) := dk_184 1 87 (dk_at dksJ16_copyOfRangeByte_0 2 rfl rfl)
theorem dJ16_copyOfRangeByte_5 : decode cJ16_copyOfRangeByte 5 = .ok (.iload_n 2, 1) := dk_28 (dk_at dksJ16_copyOfRangeByte_0 5 rfl rfl)
theorem dJ16_copyOfRangeByte_6 : decode cJ16_copyOfRangeByte 6 = .ok (.iload_n 1, 1) := dk_27 (dk_at dksJ16_copyOfRangeByte_0 6 rfl rfl)
theorem dJ16_copyOfRangeByte_7 : decode cJ16_copyOfRangeByte 7 = .ok (.isub, 1) := dk_100 (dk_at dksJ16_copyOfRangeByte_0 7 rfl rfl)
theorem dJ16_copyOfRangeByte_8 : decode cJ16_copyOfRangeByte 8 = .ok (.istore_n 3, 1) := dk_62 (dk_at dksJ16_copyOfRangeByte_0 8 rfl rfl)
theorem dJ16_copyOfRangeByte_9 : decode cJ16_copyOfRangeByte 9 = .ok (.iload_n 3, 1) := dk_29 (dk_at dksJ16_copyOfRangeByte_0 9 rfl rfl)
theorem dJ16_copyOfRangeByte_10 : decode cJ16_copyOfRangeByte 10 = .ok (.newarray .byte, 2) := dk_188_8 (dk_at dksJ16_copyOfRangeByte_0 10 rfl rfl)
theorem dJ16_copyOfRangeByte_12 : decode cJ16_copyOfRangeByte 12 = .ok (.astore 4, 2) := dk_58 4 (dk_at dksJ16_copyOfRangeByte_0 12 rfl rfl)
theorem dJ16_copyOfRangeByte_14 : decode cJ16_copyOfRangeByte 14 = .ok (.aload_n 0, 1) := dk_42 (dk_at dksJ16_copyOfRangeByte_0 14 rfl rfl)
theorem dJ16_copyOfRangeByte_15 : decode cJ16_copyOfRangeByte 15 = .ok (.iload_n 1, 1) := dk_27 (dk_at dksJ16_copyOfRangeByte_0 15 rfl rfl)
theorem dJ16_copyOfRangeByte_16 : decode cJ16_copyOfRangeByte 16 = .ok (.aload 4, 2) := dk_25 4 (dk_at dksJ16_copyOfRangeByte_0 16 rfl rfl)
theorem dJ16_copyOfRangeByte_18 : decode cJ16_copyOfRangeByte 18 = .ok (.iconst 0, 1) := dk_3 (dk_at dksJ16_copyOfRangeByte_0 18 rfl rfl)
theorem dJ16_copyOfRangeByte_19 : decode cJ16_copyOfRangeByte 19 = .ok (.aload_n 0, 1) := dk_42 (dk_at dksJ16_copyOfRangeByte_0 19 rfl rfl)
theorem dJ16_copyOfRangeByte_20 : decode cJ16_copyOfRangeByte 20 = .ok (.arraylength, 1) := dk_190 (dk_at dksJ16_copyOfRangeByte_0 20 rfl rfl)
theorem dJ16_copyOfRangeByte_21 : decode cJ16_copyOfRangeByte 21 = .ok (.iload_n 1, 1) := dk_27 (dk_at dksJ16_copyOfRangeByte_0 21 rfl rfl)
theorem dJ16_copyOfRangeByte_22 : decode cJ16_copyOfRangeByte 22 = .ok (.isub, 1) := dk_100 (dk_at dksJ16_copyOfRangeByte_0 22 rfl rfl)
theorem dJ16_copyOfRangeByte_23 : decode cJ16_copyOfRangeByte 23 = .ok (.iload_n 3, 1) := dk_29 (dk_at dksJ16_copyOfRangeByte_0 23 rfl rfl)
theorem dJ16_copyOfRangeByte_24 : decode cJ16_copyOfRangeByte 24 = .ok (.invokestatic 304, 3) := dk_184 1 48 (dk_at dksJ16_copyOfRangeByte_1 0 rfl rfl)
theorem dJ16_copyOfRangeByte_27 : decode cJ16_copyOfRangeByte 27 = .ok (.invokestatic 150, 3) := dk_184 0 150 (dk_at dksJ16_copyOfRangeByte_1 3 rfl rfl)
theorem dJ16_copyOfRangeByte_30 : decode cJ16_copyOfRangeByte 30 = .ok (.aload 4, 2) := dk_25 4 (dk_at dksJ16_copyOfRangeByte_1 6 rfl rfl)
theorem dJ16_copyOfRangeByte_32 : decode cJ16_copyOfRangeByte 32 = .ok (.areturn, 1) := dk_176 (dk_at dksJ16_copyOfRangeByte_1 8 rfl rfl)
abbrev cJ16_checkLength : ByteArray := prog_50_method_131_code
def yJ16_checkLength : MethodName := ⟨RJ16, "checkLength", "(II)V"⟩
def dkwJ16_checkLength_1 : List UInt8 := [182, 0, 50, 27, 182, 0, 54, 182, 0, 61, 183, 0, 65, 191, 177]
abbrev dktJ16_checkLength_1 : List UInt8 := dkwJ16_checkLength_1 ++ []
def dkwJ16_checkLength_0 : List UInt8 := [27, 26, 162, 0, 35, 187, 0, 43, 89, 187, 0, 45, 89, 183, 0, 47, 26, 182, 0, 54, 19, 1, 81]
abbrev dktJ16_checkLength_0 : List UInt8 := dkwJ16_checkLength_0 ++ dktJ16_checkLength_1
theorem dksJ16_checkLength_0 : cJ16_checkLength.data.toList.drop 0 = dktJ16_checkLength_0 := by decide +kernel
theorem dksJ16_checkLength_1 : cJ16_checkLength.data.toList.drop 23 = dktJ16_checkLength_1 := dk_seg dksJ16_checkLength_0 23 rfl rfl
theorem dJ16_checkLength_0 : decode cJ16_checkLength 0 = .ok (.iload_n 1, 1) := dk_27 (dk_at dksJ16_checkLength_0 0 rfl rfl)
theorem dJ16_checkLength_1 : decode cJ16_checkLength 1 = .ok (.iload_n 0, 1) := dk_26 (dk_at dksJ16_checkLength_0 1 rfl rfl)
theorem dJ16_checkLength_2 : decode cJ16_checkLength 2 = .ok (.if_icmp .ge 35, 3) := dk_162 0 35 (dk_at dksJ16_checkLength_0 2 rfl rfl)
theorem dJ16_checkLength_5 : decode cJ16_checkLength 5 = .ok (.new 43, 3) := dk_187 0 43 (dk_at dksJ16_checkLength_0 5 rfl rfl)
theorem dJ16_checkLength_8 : decode cJ16_checkLength 8 = .ok (.dup, 1) := dk_89 (dk_at dksJ16_checkLength_0 8 rfl rfl)
theorem dJ16_checkLength_9 : decode cJ16_checkLength 9 = .ok (.new 45, 3) := dk_187 0 45 (dk_at dksJ16_checkLength_0 9 rfl rfl)
theorem dJ16_checkLength_12 : decode cJ16_checkLength 12 = .ok (.dup, 1) := dk_89 (dk_at dksJ16_checkLength_0 12 rfl rfl)
theorem dJ16_checkLength_13 : decode cJ16_checkLength 13 = .ok (.invokespecial 47, 3) := dk_183 0 47 (dk_at dksJ16_checkLength_0 13 rfl rfl)
theorem dJ16_checkLength_16 : decode cJ16_checkLength 16 = .ok (.iload_n 0, 1) := dk_26 (dk_at dksJ16_checkLength_0 16 rfl rfl)
theorem dJ16_checkLength_17 : decode cJ16_checkLength 17 = .ok (.invokevirtual 54, 3) := dk_182 0 54 (dk_at dksJ16_checkLength_0 17 rfl rfl)
theorem dJ16_checkLength_20 : decode cJ16_checkLength 20 = .ok (.ldc_w 337, 3) := dk_19 1 81 (dk_at dksJ16_checkLength_0 20 rfl rfl)
theorem dJ16_checkLength_23 : decode cJ16_checkLength 23 = .ok (.invokevirtual 50, 3) := dk_182 0 50 (dk_at dksJ16_checkLength_1 0 rfl rfl)
theorem dJ16_checkLength_26 : decode cJ16_checkLength 26 = .ok (.iload_n 1, 1) := dk_27 (dk_at dksJ16_checkLength_1 3 rfl rfl)
theorem dJ16_checkLength_27 : decode cJ16_checkLength 27 = .ok (.invokevirtual 54, 3) := dk_182 0 54 (dk_at dksJ16_checkLength_1 4 rfl rfl)
theorem dJ16_checkLength_30 : decode cJ16_checkLength 30 = .ok (.invokevirtual 61, 3) := dk_182 0 61 (dk_at dksJ16_checkLength_1 7 rfl rfl)
theorem dJ16_checkLength_33 : decode cJ16_checkLength 33 = .ok (.invokespecial 65, 3) := dk_183 0 65 (dk_at dksJ16_checkLength_1 10 rfl rfl)
theorem dJ16_checkLength_36 : decode cJ16_checkLength 36 = .ok (.athrow, 1) := dk_191 (dk_at dksJ16_checkLength_1 13 rfl rfl)
theorem dJ16_checkLength_37 : decode cJ16_checkLength 37 = .ok (.return_, 1) := dk_177 (dk_at dksJ16_checkLength_1 14 rfl rfl)
abbrev cJ16_copyOf_2 : ByteArray := prog_50_method_119_code
def yJ16_copyOf_2 : MethodName := ⟨RJ16, "copyOf", "([Ljava/lang/Object;I)[Ljava/lang/Object;"⟩
def dkwJ16_copyOf_2_0 : List UInt8 := [42, 27, 42, 182, 0, 86, 184, 1, 44, 176]
abbrev dktJ16_copyOf_2_0 : List UInt8 := dkwJ16_copyOf_2_0 ++ []
theorem dksJ16_copyOf_2_0 : cJ16_copyOf_2.data.toList.drop 0 = dktJ16_copyOf_2_0 := by decide +kernel
theorem dJ16_copyOf_2_0 : decode cJ16_copyOf_2 0 = .ok (.aload_n 0, 1) := dk_42 (dk_at dksJ16_copyOf_2_0 0 rfl rfl)
theorem dJ16_copyOf_2_1 : decode cJ16_copyOf_2 1 = .ok (.iload_n 1, 1) := dk_27 (dk_at dksJ16_copyOf_2_0 1 rfl rfl)
theorem dJ16_copyOf_2_2 : decode cJ16_copyOf_2 2 = .ok (.aload_n 0, 1) := dk_42 (dk_at dksJ16_copyOf_2_0 2 rfl rfl)
theorem dJ16_copyOf_2_3 : decode cJ16_copyOf_2 3 = .ok (.invokevirtual 86, 3) := dk_182 0 86 (dk_at dksJ16_copyOf_2_0 3 rfl rfl)
theorem dJ16_copyOf_2_6 : decode cJ16_copyOf_2 6 = .ok (.invokestatic 300, 3) := dk_184 1 44 (dk_at dksJ16_copyOf_2_0 6 rfl rfl)
theorem dJ16_copyOf_2_9 : decode cJ16_copyOf_2 9 = .ok (.areturn, 1) := dk_176 (dk_at dksJ16_copyOf_2_0 9 rfl rfl)
abbrev cJ16_copyOf_3 : ByteArray := prog_50_method_120_code
def yJ16_copyOf_3 : MethodName := ⟨RJ16, "copyOf", "([Ljava/lang/Object;ILjava/lang/Class;)[Ljava/lang/Object;"⟩
def dkwJ16_copyOf_3_1 : List UInt8 := [78, 42, 3, 45, 3, 42, 190, 27, 184, 1, 48, 184, 0, 150, 45, 176]
abbrev dktJ16_copyOf_3_1 : List UInt8 := dkwJ16_copyOf_3_1 ++ []
def dkwJ16_copyOf_3_0 : List UInt8 := [44, 18, 110, 166, 0, 10, 27, 189, 0, 2, 167, 0, 14, 44, 182, 0, 90, 27, 184, 0, 95, 192, 0, 110]
abbrev dktJ16_copyOf_3_0 : List UInt8 := dkwJ16_copyOf_3_0 ++ dktJ16_copyOf_3_1
theorem dksJ16_copyOf_3_0 : cJ16_copyOf_3.data.toList.drop 0 = dktJ16_copyOf_3_0 := by decide +kernel
theorem dksJ16_copyOf_3_1 : cJ16_copyOf_3.data.toList.drop 24 = dktJ16_copyOf_3_1 := dk_seg dksJ16_copyOf_3_0 24 rfl rfl
theorem dJ16_copyOf_3_0 : decode cJ16_copyOf_3 0 = .ok (.aload_n 2, 1) := dk_44 (dk_at dksJ16_copyOf_3_0 0 rfl rfl)
theorem dJ16_copyOf_3_1 : decode cJ16_copyOf_3 1 = .ok (.ldc 110, 2) := dk_18 110 (dk_at dksJ16_copyOf_3_0 1 rfl rfl)
theorem dJ16_copyOf_3_3 : decode cJ16_copyOf_3 3 = .ok (.if_acmp .ne 10, 3) := dk_166 0 10 (dk_at dksJ16_copyOf_3_0 3 rfl rfl)
theorem dJ16_copyOf_3_6 : decode cJ16_copyOf_3 6 = .ok (.iload_n 1, 1) := dk_27 (dk_at dksJ16_copyOf_3_0 6 rfl rfl)
theorem dJ16_copyOf_3_7 : decode cJ16_copyOf_3 7 = .ok (.anewarray 2, 3) := dk_189 0 2 (dk_at dksJ16_copyOf_3_0 7 rfl rfl)
theorem dJ16_copyOf_3_10 : decode cJ16_copyOf_3 10 = .ok (.goto 14, 3) := dk_167 0 14 (dk_at dksJ16_copyOf_3_0 10 rfl rfl)
theorem dJ16_copyOf_3_13 : decode cJ16_copyOf_3 13 = .ok (.aload_n 2, 1) := dk_44 (dk_at dksJ16_copyOf_3_0 13 rfl rfl)
theorem dJ16_copyOf_3_14 : decode cJ16_copyOf_3 14 = .ok (.invokevirtual 90, 3) := dk_182 0 90 (dk_at dksJ16_copyOf_3_0 14 rfl rfl)
theorem dJ16_copyOf_3_17 : decode cJ16_copyOf_3 17 = .ok (.iload_n 1, 1) := dk_27 (dk_at dksJ16_copyOf_3_0 17 rfl rfl)
theorem dJ16_copyOf_3_18 : decode cJ16_copyOf_3 18 = .ok (.invokestatic 95, 3) := dk_184 0 95 (dk_at dksJ16_copyOf_3_0 18 rfl rfl)
theorem dJ16_copyOf_3_21 : decode cJ16_copyOf_3 21 = .ok (.checkcast 110, 3) := dk_192 0 110 (dk_at dksJ16_copyOf_3_0 21 rfl rfl)
theorem dJ16_copyOf_3_24 : decode cJ16_copyOf_3 24 = .ok (.astore_n 3, 1) := dk_78 (dk_at dksJ16_copyOf_3_1 0 rfl rfl)
theorem dJ16_copyOf_3_25 : decode cJ16_copyOf_3 25 = .ok (.aload_n 0, 1) := dk_42 (dk_at dksJ16_copyOf_3_1 1 rfl rfl)
theorem dJ16_copyOf_3_26 : decode cJ16_copyOf_3 26 = .ok (.iconst 0, 1) := dk_3 (dk_at dksJ16_copyOf_3_1 2 rfl rfl)
theorem dJ16_copyOf_3_27 : decode cJ16_copyOf_3 27 = .ok (.aload_n 3, 1) := dk_45 (dk_at dksJ16_copyOf_3_1 3 rfl rfl)
theorem dJ16_copyOf_3_28 : decode cJ16_copyOf_3 28 = .ok (.iconst 0, 1) := dk_3 (dk_at dksJ16_copyOf_3_1 4 rfl rfl)
theorem dJ16_copyOf_3_29 : decode cJ16_copyOf_3 29 = .ok (.aload_n 0, 1) := dk_42 (dk_at dksJ16_copyOf_3_1 5 rfl rfl)
theorem dJ16_copyOf_3_30 : decode cJ16_copyOf_3 30 = .ok (.arraylength, 1) := dk_190 (dk_at dksJ16_copyOf_3_1 6 rfl rfl)
theorem dJ16_copyOf_3_31 : decode cJ16_copyOf_3 31 = .ok (.iload_n 1, 1) := dk_27 (dk_at dksJ16_copyOf_3_1 7 rfl rfl)
theorem dJ16_copyOf_3_32 : decode cJ16_copyOf_3 32 = .ok (.invokestatic 304, 3) := dk_184 1 48 (dk_at dksJ16_copyOf_3_1 8 rfl rfl)
theorem dJ16_copyOf_3_35 : decode cJ16_copyOf_3 35 = .ok (.invokestatic 150, 3) := dk_184 0 150 (dk_at dksJ16_copyOf_3_1 11 rfl rfl)
theorem dJ16_copyOf_3_38 : decode cJ16_copyOf_3 38 = .ok (.aload_n 3, 1) := dk_45 (dk_at dksJ16_copyOf_3_1 14 rfl rfl)
theorem dJ16_copyOf_3_39 : decode cJ16_copyOf_3 39 = .ok (.areturn, 1) := dk_176 (dk_at dksJ16_copyOf_3_1 15 rfl rfl)
theorem q77 : (Jvm.Cond.initialized "java/util/Arrays") ∈ lw_all := lw_g (lw_at lw_m1 20 rfl) rfl
theorem q388 : (Jvm.Cond.static ({ cls := "java/util/Arrays", name := "copyOf", desc := "([BI)[B" } : Jvm.MethodName)) ∈ lw_all := lw_g (lw_at lw_m2 91 rfl) rfl
theorem q389 : (Jvm.Cond.code ({ cls := "java/util/Arrays", name := "copyOf", desc := "([BI)[B" } : Jvm.MethodName) prog_50_method_121_code (3 : Nat) (Option.some (Jvm.ClassFile.FieldType.array Jvm.ClassFile.FieldType.byte))) ∈ lw_all := lw_g (lw_at lw_m2 92 rfl) rfl
theorem q390 : (Jvm.Cond.methodLink "java/util/Arrays" (310 : Nat) ({ cls := "[B", name := "clone", desc := "()Ljava/lang/Object;" } : Jvm.MethodName)) ∈ lw_all := lw_g (lw_at lw_m2 93 rfl) rfl
theorem q396 : (Jvm.Cond.classLink "java/util/Arrays" (311 : Nat) "[B") ∈ lw_all := lw_g (lw_at lw_m2 99 rfl) rfl
theorem q397 : (Jvm.Cond.methodLink "java/util/Arrays" (304 : Nat) ({ cls := "java/lang/Math", name := "min", desc := "(II)I" } : Jvm.MethodName)) ∈ lw_all := lw_g (lw_at lw_m2 100 rfl) rfl
theorem q400 : (Jvm.Cond.methodLink "java/util/Arrays" (150 : Nat) ({ cls := "java/lang/System", name := "arraycopy", desc := "(Ljava/lang/Object;ILjava/lang/Object;II)V" } : Jvm.MethodName)) ∈ lw_all := lw_g (lw_at lw_m2 103 rfl) rfl
theorem q520 : (Jvm.Cond.static ({ cls := "java/util/Arrays", name := "copyOfRange", desc := "([BII)[B" } : Jvm.MethodName)) ∈ lw_all := lw_g (lw_at lw_m2 223 rfl) rfl
theorem q521 : (Jvm.Cond.code ({ cls := "java/util/Arrays", name := "copyOfRange", desc := "([BII)[B" } : Jvm.MethodName) prog_50_method_132_code (3 : Nat) (Option.some (Jvm.ClassFile.FieldType.array Jvm.ClassFile.FieldType.byte))) ∈ lw_all := lw_g (lw_at lw_m2 224 rfl) rfl
theorem q522 : (Jvm.Cond.methodLink "java/util/Arrays" (339 : Nat) ({ cls := "java/util/Arrays", name := "copyOfRangeByte", desc := "([BII)[B" } : Jvm.MethodName)) ∈ lw_all := lw_g (lw_at lw_m2 225 rfl) rfl
theorem q523 : (Jvm.Cond.static ({ cls := "java/util/Arrays", name := "copyOfRangeByte", desc := "([BII)[B" } : Jvm.MethodName)) ∈ lw_all := lw_g (lw_at lw_m2 226 rfl) rfl
theorem q524 : (Jvm.Cond.code ({ cls := "java/util/Arrays", name := "copyOfRangeByte", desc := "([BII)[B" } : Jvm.MethodName) prog_50_method_133_code (5 : Nat) (Option.some (Jvm.ClassFile.FieldType.array Jvm.ClassFile.FieldType.byte))) ∈ lw_all := lw_g (lw_at lw_m2 227 rfl) rfl
theorem q525 : (Jvm.Cond.methodLink "java/util/Arrays" (343 : Nat) ({ cls := "java/util/Arrays", name := "checkLength", desc := "(II)V" } : Jvm.MethodName)) ∈ lw_all := lw_g (lw_at lw_m2 228 rfl) rfl
theorem q526 : (Jvm.Cond.static ({ cls := "java/util/Arrays", name := "checkLength", desc := "(II)V" } : Jvm.MethodName)) ∈ lw_all := lw_g (lw_at lw_m2 229 rfl) rfl
theorem q527 : (Jvm.Cond.code ({ cls := "java/util/Arrays", name := "checkLength", desc := "(II)V" } : Jvm.MethodName) prog_50_method_131_code (2 : Nat) (Option.none : Option Jvm.ClassFile.FieldType)) ∈ lw_all := lw_g (lw_at lw_m2 230 rfl) rfl
theorem q528 : (Jvm.Cond.classLink "java/util/Arrays" (43 : Nat) "java/lang/IllegalArgumentException") ∈ lw_all := lw_g (lw_at lw_m2 231 rfl) rfl
theorem q529 : (Jvm.Cond.classLink "java/util/Arrays" (45 : Nat) "java/lang/StringBuilder") ∈ lw_all := lw_g (lw_at lw_m2 232 rfl) rfl
theorem q530 : (Jvm.Cond.methodLink "java/util/Arrays" (47 : Nat) ({ cls := "java/lang/StringBuilder", name := "<init>", desc := "()V" } : Jvm.MethodName)) ∈ lw_all := lw_g (lw_at lw_m2 233 rfl) rfl
theorem q531 : (Jvm.Cond.methodLink "java/util/Arrays" (54 : Nat) ({ cls := "java/lang/StringBuilder", name := "append", desc := "(I)Ljava/lang/StringBuilder;" } : Jvm.MethodName)) ∈ lw_all := lw_g (lw_at lw_m2 234 rfl) rfl
theorem q532 : (Jvm.Cond.stringRef "java/util/Arrays" (337 : Nat) " > ") ∈ lw_tbl := lw_at lw_m2 235 rfl
theorem q533 : (Jvm.Cond.methodLink "java/util/Arrays" (50 : Nat) ({ cls := "java/lang/StringBuilder", name := "append", desc := "(Ljava/lang/String;)Ljava/lang/StringBuilder;" } : Jvm.MethodName)) ∈ lw_all := lw_g (lw_at lw_m2 236 rfl) rfl
theorem q534 : (Jvm.Cond.methodLink "java/util/Arrays" (61 : Nat) ({ cls := "java/lang/StringBuilder", name := "toString", desc := "()Ljava/lang/String;" } : Jvm.MethodName)) ∈ lw_all := lw_g (lw_at lw_m2 237 rfl) rfl
theorem q535 : (Jvm.Cond.methodLink "java/util/Arrays" (65 : Nat) ({ cls := "java/lang/IllegalArgumentException", name := "<init>", desc := "(Ljava/lang/String;)V" } : Jvm.MethodName)) ∈ lw_all := lw_g (lw_at lw_m2 238 rfl) rfl
theorem q1372 : (Jvm.Cond.static ({ cls := "java/util/Arrays", name := "copyOf", desc := "([Ljava/lang/Object;I)[Ljava/lang/Object;" } : Jvm.MethodName)) ∈ lw_all := lw_g (lw_at lw_m6 115 rfl) rfl
theorem q1373 : (Jvm.Cond.code ({ cls := "java/util/Arrays", name := "copyOf", desc := "([Ljava/lang/Object;I)[Ljava/lang/Object;" } : Jvm.MethodName) prog_50_method_119_code (2 : Nat) (Option.some (Jvm.ClassFile.FieldType.array (Jvm.ClassFile.FieldType.object "java/lang/Object")))) ∈ lw_all := lw_g (lw_at lw_m6 116 rfl) rfl
theorem q1374 : (Jvm.Cond.methodLink "java/util/Arrays" (86 : Nat) ({ cls := "java/lang/Object", name := "getClass", desc := "()Ljava/lang/Class;" } : Jvm.MethodName)) ∈ lw_all := lw_g (lw_at lw_m6 117 rfl) rfl
theorem q1375 : (Jvm.Cond.methodLink "java/util/Arrays" (300 : Nat) ({ cls := "java/util/Arrays", name := "copyOf", desc := "([Ljava/lang/Object;ILjava/lang/Class;)[Ljava/lang/Object;" } : Jvm.MethodName)) ∈ lw_all := lw_g (lw_at lw_m6 118 rfl) rfl
theorem q1376 : (Jvm.Cond.static ({ cls := "java/util/Arrays", name := "copyOf", desc := "([Ljava/lang/Object;ILjava/lang/Class;)[Ljava/lang/Object;" } : Jvm.MethodName)) ∈ lw_all := lw_g (lw_at lw_m6 119 rfl) rfl
theorem q1377 : (Jvm.Cond.code ({ cls := "java/util/Arrays", name := "copyOf", desc := "([Ljava/lang/Object;ILjava/lang/Class;)[Ljava/lang/Object;" } : Jvm.MethodName) prog_50_method_120_code (4 : Nat) (Option.some (Jvm.ClassFile.FieldType.array (Jvm.ClassFile.FieldType.object "java/lang/Object")))) ∈ lw_all := lw_g (lw_at lw_m6 120 rfl) rfl
theorem q1378 : (Jvm.Cond.classLink "java/util/Arrays" (110 : Nat) "[Ljava/lang/Object;") ∈ lw_all := lw_g (lw_at lw_m6 121 rfl) rfl
theorem q1379 : (Jvm.Cond.classLink "java/util/Arrays" (2 : Nat) "java/lang/Object") ∈ lw_all := lw_g (lw_at lw_m6 122 rfl) rfl
abbrev cJ17_checkFromToIndex : ByteArray := prog_68_method_12_code
def yJ17_checkFromToIndex : MethodName := ⟨RJ17, "checkFromToIndex", "(IIILjava/util/function/BiFunction;)I"⟩
def dkwJ17_checkFromToIndex_0 : List UInt8 := [26, 155, 0, 13, 26, 27, 163, 0, 8, 27, 28, 164, 0, 11, 45, 26, 27, 28, 184, 0, 99, 191, 26, 172]
abbrev dktJ17_checkFromToIndex_0 : List UInt8 := dkwJ17_checkFromToIndex_0 ++ []
theorem dksJ17_checkFromToIndex_0 : cJ17_checkFromToIndex.data.toList.drop 0 = dktJ17_checkFromToIndex_0 := by decide +kernel
theorem dJ17_checkFromToIndex_0 : decode cJ17_checkFromToIndex 0 = .ok (.iload_n 0, 1) := dk_26 (dk_at dksJ17_checkFromToIndex_0 0 rfl rfl)
theorem dJ17_checkFromToIndex_1 : decode cJ17_checkFromToIndex 1 = .ok (.ifCond .lt 13, 3) := dk_155 0 13 (dk_at dksJ17_checkFromToIndex_0 1 rfl rfl)
theorem dJ17_checkFromToIndex_4 : decode cJ17_checkFromToIndex 4 = .ok (.iload_n 0, 1) := dk_26 (dk_at dksJ17_checkFromToIndex_0 4 rfl rfl)
theorem dJ17_checkFromToIndex_5 : decode cJ17_checkFromToIndex 5 = .ok (.iload_n 1, 1) := dk_27 (dk_at dksJ17_checkFromToIndex_0 5 rfl rfl)
theorem dJ17_checkFromToIndex_6 : decode cJ17_checkFromToIndex 6 = .ok (.if_icmp .gt 8, 3) := dk_163 0 8 (dk_at dksJ17_checkFromToIndex_0 6 rfl rfl)
theorem dJ17_checkFromToIndex_9 : decode cJ17_checkFromToIndex 9 = .ok (.iload_n 1, 1) := dk_27 (dk_at dksJ17_checkFromToIndex_0 9 rfl rfl)
theorem dJ17_checkFromToIndex_10 : decode cJ17_checkFromToIndex 10 = .ok (.iload_n 2, 1) := dk_28 (dk_at dksJ17_checkFromToIndex_0 10 rfl rfl)
theorem dJ17_checkFromToIndex_11 : decode cJ17_checkFromToIndex 11 = .ok (.if_icmp .le 11, 3) := dk_164 0 11 (dk_at dksJ17_checkFromToIndex_0 11 rfl rfl)
theorem dJ17_checkFromToIndex_14 : decode cJ17_checkFromToIndex 14 = .ok (.aload_n 3, 1) := dk_45 (dk_at dksJ17_checkFromToIndex_0 14 rfl rfl)
theorem dJ17_checkFromToIndex_15 : decode cJ17_checkFromToIndex 15 = .ok (.iload_n 0, 1) := dk_26 (dk_at dksJ17_checkFromToIndex_0 15 rfl rfl)
theorem dJ17_checkFromToIndex_16 : decode cJ17_checkFromToIndex 16 = .ok (.iload_n 1, 1) := dk_27 (dk_at dksJ17_checkFromToIndex_0 16 rfl rfl)
theorem dJ17_checkFromToIndex_17 : decode cJ17_checkFromToIndex 17 = .ok (.iload_n 2, 1) := dk_28 (dk_at dksJ17_checkFromToIndex_0 17 rfl rfl)
theorem dJ17_checkFromToIndex_18 : decode cJ17_checkFromToIndex 18 = .ok (.invokestatic 99, 3) := dk_184 0 99 (dk_at dksJ17_checkFromToIndex_0 18 rfl rfl)
theorem dJ17_checkFromToIndex_21 : decode cJ17_checkFromToIndex 21 = .ok (.athrow, 1) := dk_191 (dk_at dksJ17_checkFromToIndex_0 21 rfl rfl)
theorem dJ17_checkFromToIndex_22 : decode cJ17_checkFromToIndex 22 = .ok (.iload_n 0, 1) := dk_26 (dk_at dksJ17_checkFromToIndex_0 22 rfl rfl)
theorem dJ17_checkFromToIndex_23 : decode cJ17_checkFromToIndex 23 = .ok (.ireturn, 1) := dk_172 (dk_at dksJ17_checkFromToIndex_0 23 rfl rfl)
abbrev cJ17_checkFromIndexSize : ByteArray := prog_68_method_13_code
def yJ17_checkFromIndexSize : MethodName := ⟨RJ17, "checkFromIndexSize", "(IIILjava/util/function/BiFunction;)I"⟩
def dkwJ17_checkFromIndexSize_1 : List UInt8 := [172]
abbrev dktJ17_checkFromIndexSize_1 : List UInt8 := dkwJ17_checkFromIndexSize_1 ++ []
def dkwJ17_checkFromIndexSize_0 : List UInt8 := [28, 26, 128, 27, 128, 155, 0, 10, 27, 28, 26, 100, 164, 0, 11, 45, 26, 27, 28, 184, 0, 103, 191, 26]
abbrev dktJ17_checkFromIndexSize_0 : List UInt8 := dkwJ17_checkFromIndexSize_0 ++ dktJ17_checkFromIndexSize_1
theorem dksJ17_checkFromIndexSize_0 : cJ17_checkFromIndexSize.data.toList.drop 0 = dktJ17_checkFromIndexSize_0 := by decide +kernel
theorem dksJ17_checkFromIndexSize_1 : cJ17_checkFromIndexSize.data.toList.drop 24 = dktJ17_checkFromIndexSize_1 := dk_seg dksJ17_checkFromIndexSize_0 24 rfl rfl
theorem dJ17_checkFromIndexSize_0 : decode cJ17_checkFromIndexSize 0 = .ok (.iload_n 2, 1) := dk_28 (dk_at dksJ17_checkFromIndexSize_0 0 rfl rfl)
theorem dJ17_checkFromIndexSize_1 : decode cJ17_checkFromIndexSize 1 = .ok (.iload_n 0, 1) := dk_26 (dk_at dksJ17_checkFromIndexSize_0 1 rfl rfl)
theorem dJ17_checkFromIndexSize_2 : decode cJ17_checkFromIndexSize 2 = .ok (.ior, 1) := dk_128 (dk_at dksJ17_checkFromIndexSize_0 2 rfl rfl)
theorem dJ17_checkFromIndexSize_3 : decode cJ17_checkFromIndexSize 3 = .ok (.iload_n 1, 1) := dk_27 (dk_at dksJ17_checkFromIndexSize_0 3 rfl rfl)
theorem dJ17_checkFromIndexSize_4 : decode cJ17_checkFromIndexSize 4 = .ok (.ior, 1) := dk_128 (dk_at dksJ17_checkFromIndexSize_0 4 rfl rfl)
theorem dJ17_checkFromIndexSize_5 : decode cJ17_checkFromIndexSize 5 = .ok (.ifCond .lt 10, 3) := dk_155 0 10 (dk_at dksJ17_checkFromIndexSize_0 5 rfl rfl)
theorem dJ17_checkFromIndexSize_8 : decode cJ17_checkFromIndexSize 8 = .ok (.iload_n 1, 1) := dk_27 (dk_at dksJ17_checkFromIndexSize_0 8 rfl rfl)
theorem dJ17_checkFromIndexSize_9 : decode cJ17_checkFromIndexSize 9 = .ok (.iload_n 2, 1) := dk_28 (dk_at dksJ17_checkFromIndexSize_0 9 rfl rfl)
theorem dJ17_checkFromIndexSize_10 : decode cJ17_checkFromIndexSize 10 = .ok (.iload_n 0, 1) := dk_26 (dk_at dksJ17_checkFromIndexSize_0 10 rfl rfl)
theorem dJ17_checkFromIndexSize_11 : decode cJ17_checkFromIndexSize 11 = .ok (.isub, 1) := dk_100 (dk_at dksJ17_checkFromIndexSize_0 11 rfl rfl)
theorem dJ17_checkFromIndexSize_12 : decode cJ17_checkFromIndexSize 12 = .ok (.if_icmp .le 11, 3) := dk_164 0 11 (dk_at dksJ17_checkFromIndexSize_0 12 rfl rfl)
theorem dJ17_checkFromIndexSize_15 : decode cJ17_checkFromIndexSize 15 = .ok (.aload_n 3, 1) := dk_45 (dk_at dksJ17_checkFromIndexSize_0 15 rfl rfl)
theorem dJ17_checkFromIndexSize_16 : decode cJ17_checkFromIndexSize 16 = .ok (.iload_n 0, 1) := dk_26 (dk_at dksJ17_checkFromIndexSize_0 16 rfl rfl)
theorem dJ17_checkFromIndexSize_17 : decode cJ17_checkFromIndexSize 17 = .ok (.iload_n 1, 1) := dk_27 (dk_at dksJ17_checkFromIndexSize_0 17 rfl rfl)
theorem dJ17_checkFromIndexSize_18 : decode cJ17_checkFromIndexSize 18 = .ok (.iload_n 2, 1) := dk_28 (dk_at dksJ17_checkFromIndexSize_0 18 rfl rfl)
theorem dJ17_checkFromIndexSize_19 : decode cJ17_checkFromIndexSize 19 = .ok (.invokestatic 103, 3) := dk_184 0 103 (dk_at dksJ17_checkFromIndexSize_0 19 rfl rfl)
theorem dJ17_checkFromIndexSize_22 : decode cJ17_checkFromIndexSize 22 = .ok (.athrow, 1) := dk_191 (dk_at dksJ17_checkFromIndexSize_0 22 rfl rfl)
theorem dJ17_checkFromIndexSize_23 : decode cJ17_checkFromIndexSize 23 = .ok (.iload_n 0, 1) := dk_26 (dk_at dksJ17_checkFromIndexSize_0 23 rfl rfl)
theorem dJ17_checkFromIndexSize_24 : decode cJ17_checkFromIndexSize 24 = .ok (.ireturn, 1) := dk_172 (dk_at dksJ17_checkFromIndexSize_1 0 rfl rfl)
abbrev cJ17_checkIndex : ByteArray := prog_68_method_11_code
def yJ17_checkIndex : MethodName := ⟨RJ17, "checkIndex", "(IILjava/util/function/BiFunction;)I"⟩
def dkwJ17_checkIndex_0 : List UInt8 := [26, 155, 0, 8, 26, 27, 161, 0, 10, 44, 26, 27, 184, 0, 95, 191, 26, 172]
abbrev dktJ17_checkIndex_0 : List UInt8 := dkwJ17_checkIndex_0 ++ []
theorem dksJ17_checkIndex_0 : cJ17_checkIndex.data.toList.drop 0 = dktJ17_checkIndex_0 := by decide +kernel
theorem dJ17_checkIndex_0 : decode cJ17_checkIndex 0 = .ok (.iload_n 0, 1) := dk_26 (dk_at dksJ17_checkIndex_0 0 rfl rfl)
theorem dJ17_checkIndex_1 : decode cJ17_checkIndex 1 = .ok (.ifCond .lt 8, 3) := dk_155 0 8 (dk_at dksJ17_checkIndex_0 1 rfl rfl)
theorem dJ17_checkIndex_4 : decode cJ17_checkIndex 4 = .ok (.iload_n 0, 1) := dk_26 (dk_at dksJ17_checkIndex_0 4 rfl rfl)
theorem dJ17_checkIndex_5 : decode cJ17_checkIndex 5 = .ok (.iload_n 1, 1) := dk_27 (dk_at dksJ17_checkIndex_0 5 rfl rfl)
theorem dJ17_checkIndex_6 : decode cJ17_checkIndex 6 = .ok (.if_icmp .lt 10, 3) := dk_161 0 10 (dk_at dksJ17_checkIndex_0 6 rfl rfl)
theorem dJ17_checkIndex_9 : decode cJ17_checkIndex 9 = .ok (.aload_n 2, 1) := dk_44 (dk_at dksJ17_checkIndex_0 9 rfl rfl)
theorem dJ17_checkIndex_10 : decode cJ17_checkIndex 10 = .ok (.iload_n 0, 1) := dk_26 (dk_at dksJ17_checkIndex_0 10 rfl rfl)
theorem dJ17_checkIndex_11 : decode cJ17_checkIndex 11 = .ok (.iload_n 1, 1) := dk_27 (dk_at dksJ17_checkIndex_0 11 rfl rfl)
theorem dJ17_checkIndex_12 : decode cJ17_checkIndex 12 = .ok (.invokestatic 95, 3) := dk_184 0 95 (dk_at dksJ17_checkIndex_0 12 rfl rfl)
theorem dJ17_checkIndex_15 : decode cJ17_checkIndex 15 = .ok (.athrow, 1) := dk_191 (dk_at dksJ17_checkIndex_0 15 rfl rfl)
theorem dJ17_checkIndex_16 : decode cJ17_checkIndex 16 = .ok (.iload_n 0, 1) := dk_26 (dk_at dksJ17_checkIndex_0 16 rfl rfl)
theorem dJ17_checkIndex_17 : decode cJ17_checkIndex 17 = .ok (.ireturn, 1) := dk_172 (dk_at dksJ17_checkIndex_0 17 rfl rfl)
theorem q79 : (Jvm.Cond.initialized "jdk/internal/util/Preconditions") ∈ lw_all := lw_g (lw_at lw_m1 22 rfl) rfl
theorem q418 : (Jvm.Cond.laysStatic "jdk/internal/util/Preconditions" "SIOOBE_FORMATTER" "Ljava/util/function/BiFunction;") ∈ lw_tbl := lw_at lw_m2 121 rfl
theorem q420 : (Jvm.Cond.static ({ cls := "jdk/internal/util/Preconditions", name := "checkFromToIndex", desc := "(IIILjava/util/function/BiFunction;)I" } : Jvm.MethodName)) ∈ lw_all := lw_g (lw_at lw_m2 123 rfl) rfl
theorem q421 : (Jvm.Cond.code ({ cls := "jdk/internal/util/Preconditions", name := "checkFromToIndex", desc := "(IIILjava/util/function/BiFunction;)I" } : Jvm.MethodName) prog_68_method_12_code (4 : Nat) (Option.some Jvm.ClassFile.FieldType.int)) ∈ lw_all := lw_g (lw_at lw_m2 124 rfl) rfl
theorem q459 : (Jvm.Cond.static ({ cls := "jdk/internal/util/Preconditions", name := "checkFromIndexSize", desc := "(IIILjava/util/function/BiFunction;)I" } : Jvm.MethodName)) ∈ lw_all := lw_g (lw_at lw_m2 162 rfl) rfl
theorem q460 : (Jvm.Cond.code ({ cls := "jdk/internal/util/Preconditions", name := "checkFromIndexSize", desc := "(IIILjava/util/function/BiFunction;)I" } : Jvm.MethodName) prog_68_method_13_code (4 : Nat) (Option.some Jvm.ClassFile.FieldType.int)) ∈ lw_all := lw_g (lw_at lw_m2 163 rfl) rfl
theorem q1112 : (Jvm.Cond.static ({ cls := "jdk/internal/util/Preconditions", name := "checkIndex", desc := "(IILjava/util/function/BiFunction;)I" } : Jvm.MethodName)) ∈ lw_all := lw_g (lw_at lw_m5 95 rfl) rfl
theorem q1113 : (Jvm.Cond.code ({ cls := "jdk/internal/util/Preconditions", name := "checkIndex", desc := "(IILjava/util/function/BiFunction;)I" } : Jvm.MethodName) prog_68_method_11_code (3 : Nat) (Option.some Jvm.ClassFile.FieldType.int)) ∈ lw_all := lw_g (lw_at lw_m5 96 rfl) rfl
abbrev cJ18_init : ByteArray := prog_54_method_1_code
def yJ18_init : MethodName := ⟨RJ18, "<init>", "(ILjava/lang/Object;Ljava/lang/Object;Ljava/util/HashMap$Node;)V"⟩
def dkwJ18_init_1 : List UInt8 := [181, 0, 20, 177]
abbrev dktJ18_init_1 : List UInt8 := dkwJ18_init_1 ++ []
def dkwJ18_init_0 : List UInt8 := [42, 183, 0, 1, 42, 27, 181, 0, 7, 42, 44, 181, 0, 13, 42, 45, 181, 0, 17, 42, 25, 4]
abbrev dktJ18_init_0 : List UInt8 := dkwJ18_init_0 ++ dktJ18_init_1
theorem dksJ18_init_0 : cJ18_init.data.toList.drop 0 = dktJ18_init_0 := by decide +kernel
theorem dksJ18_init_1 : cJ18_init.data.toList.drop 22 = dktJ18_init_1 := dk_seg dksJ18_init_0 22 rfl rfl
theorem dJ18_init_0 : decode cJ18_init 0 = .ok (.aload_n 0, 1) := dk_42 (dk_at dksJ18_init_0 0 rfl rfl)
theorem dJ18_init_1 : decode cJ18_init 1 = .ok (.invokespecial 1, 3) := dk_183 0 1 (dk_at dksJ18_init_0 1 rfl rfl)
theorem dJ18_init_4 : decode cJ18_init 4 = .ok (.aload_n 0, 1) := dk_42 (dk_at dksJ18_init_0 4 rfl rfl)
theorem dJ18_init_5 : decode cJ18_init 5 = .ok (.iload_n 1, 1) := dk_27 (dk_at dksJ18_init_0 5 rfl rfl)
theorem dJ18_init_6 : decode cJ18_init 6 = .ok (.putfield 7, 3) := dk_181 0 7 (dk_at dksJ18_init_0 6 rfl rfl)
theorem dJ18_init_9 : decode cJ18_init 9 = .ok (.aload_n 0, 1) := dk_42 (dk_at dksJ18_init_0 9 rfl rfl)
theorem dJ18_init_10 : decode cJ18_init 10 = .ok (.aload_n 2, 1) := dk_44 (dk_at dksJ18_init_0 10 rfl rfl)
theorem dJ18_init_11 : decode cJ18_init 11 = .ok (.putfield 13, 3) := dk_181 0 13 (dk_at dksJ18_init_0 11 rfl rfl)
theorem dJ18_init_14 : decode cJ18_init 14 = .ok (.aload_n 0, 1) := dk_42 (dk_at dksJ18_init_0 14 rfl rfl)
theorem dJ18_init_15 : decode cJ18_init 15 = .ok (.aload_n 3, 1) := dk_45 (dk_at dksJ18_init_0 15 rfl rfl)
theorem dJ18_init_16 : decode cJ18_init 16 = .ok (.putfield 17, 3) := dk_181 0 17 (dk_at dksJ18_init_0 16 rfl rfl)
theorem dJ18_init_19 : decode cJ18_init 19 = .ok (.aload_n 0, 1) := dk_42 (dk_at dksJ18_init_0 19 rfl rfl)
theorem dJ18_init_20 : decode cJ18_init 20 = .ok (.aload 4, 2) := dk_25 4 (dk_at dksJ18_init_0 20 rfl rfl)
theorem dJ18_init_22 : decode cJ18_init 22 = .ok (.putfield 20, 3) := dk_181 0 20 (dk_at dksJ18_init_1 0 rfl rfl)
theorem dJ18_init_25 : decode cJ18_init 25 = .ok (.return_, 1) := dk_177 (dk_at dksJ18_init_1 3 rfl rfl)
theorem q80 : (Jvm.Cond.initialized "java/util/HashMap$Node") ∈ lw_all := lw_g (lw_at lw_m1 23 rfl) rfl
theorem q620 : (Jvm.Cond.instantiable "java/util/HashMap$Node" (4 : Nat)) ∈ lw_all := lw_g (lw_at lw_m3 83 rfl) rfl
theorem q622 : (Jvm.Cond.instanceMethod ({ cls := "java/util/HashMap$Node", name := "<init>", desc := "(ILjava/lang/Object;Ljava/lang/Object;Ljava/util/HashMap$Node;)V" } : Jvm.MethodName)) ∈ lw_all := lw_g (lw_at lw_m3 85 rfl) rfl
theorem q623 : (Jvm.Cond.code ({ cls := "java/util/HashMap$Node", name := "<init>", desc := "(ILjava/lang/Object;Ljava/lang/Object;Ljava/util/HashMap$Node;)V" } : Jvm.MethodName) prog_54_method_1_code (5 : Nat) (Option.none : Option Jvm.ClassFile.FieldType)) ∈ lw_all := lw_g (lw_at lw_m3 86 rfl) rfl
theorem q624 : (Jvm.Cond.methodLink "java/util/HashMap$Node" (1 : Nat) ({ cls := "java/lang/Object", name := "<init>", desc := "()V" } : Jvm.MethodName)) ∈ lw_all := lw_g (lw_at lw_m3 87 rfl) rfl
theorem q625 : (Jvm.Cond.fieldLink "java/util/HashMap$Node" (7 : Nat) "java/util/HashMap$Node" "hash" "I") ∈ lw_all := lw_g (lw_at lw_m3 88 rfl) rfl
theorem q629 : (Jvm.Cond.fieldLink "java/util/HashMap$Node" (13 : Nat) "java/util/HashMap$Node" "key" "Ljava/lang/Object;") ∈ lw_all := lw_g (lw_at lw_m3 92 rfl) rfl
theorem q633 : (Jvm.Cond.fieldLink "java/util/HashMap$Node" (17 : Nat) "java/util/HashMap$Node" "value" "Ljava/lang/Object;") ∈ lw_all := lw_g (lw_at lw_m3 96 rfl) rfl
theorem q635 : (Jvm.Cond.fieldLink "java/util/HashMap$Node" (20 : Nat) "java/util/HashMap$Node" "next" "Ljava/util/HashMap$Node;") ∈ lw_all := lw_g (lw_at lw_m3 98 rfl) rfl
theorem q641 : (Jvm.Cond.laysFinal "java/util/HashMap$Node" "java/util/HashMap$Node" "hash" "I") ∈ lw_all := lw_g (lw_at lw_m3 104 rfl) rfl
theorem q642 : (Jvm.Cond.soleField "java/util/HashMap$Node" "hash") ∈ lw_all := lw_g (lw_at lw_m3 105 rfl) rfl
theorem q643 : (Jvm.Cond.laysFinal "java/util/HashMap$Node" "java/util/HashMap$Node" "key" "Ljava/lang/Object;") ∈ lw_all := lw_g (lw_at lw_m3 106 rfl) rfl
theorem q644 : (Jvm.Cond.soleField "java/util/HashMap$Node" "key") ∈ lw_all := lw_g (lw_at lw_m3 107 rfl) rfl
theorem q645 : (Jvm.Cond.lays "java/util/HashMap$Node" "java/util/HashMap$Node" "value" "Ljava/lang/Object;") ∈ lw_all := lw_g (lw_at lw_m3 108 rfl) rfl
theorem q646 : (Jvm.Cond.soleField "java/util/HashMap$Node" "value") ∈ lw_all := lw_g (lw_at lw_m3 109 rfl) rfl
theorem q647 : (Jvm.Cond.lays "java/util/HashMap$Node" "java/util/HashMap$Node" "next" "Ljava/util/HashMap$Node;") ∈ lw_all := lw_g (lw_at lw_m3 110 rfl) rfl
theorem q648 : (Jvm.Cond.soleField "java/util/HashMap$Node" "next") ∈ lw_all := lw_g (lw_at lw_m3 111 rfl) rfl
theorem q649 : (Jvm.Cond.superclass "java/util/HashMap$Node" "java/lang/Object") ∈ lw_all := lw_g (lw_at lw_m3 112 rfl) rfl
theorem q683 : (Jvm.Cond.selects "java/util/HashMap$Node" ({ cls := "java/lang/Object", name := "getClass", desc := "()Ljava/lang/Class;" } : Jvm.MethodName) ({ cls := "java/lang/Object", name := "getClass", desc := "()Ljava/lang/Class;" } : Jvm.MethodName)) ∈ lw_all := lw_g (lw_at lw_m3 146 rfl) rfl
theorem q2740 : (Jvm.Cond.castable "java/util/HashMap$Node" "java/lang/Object") ∈ lw_tbl := lw_at lw_m12 43 rfl
theorem q81 : (Jvm.Cond.initialized "jdk/internal/misc/Unsafe") ∈ lw_all := lw_g (lw_at lw_m1 24 rfl) rfl
theorem q591 : (Jvm.Cond.selects "jdk/internal/misc/Unsafe" ({ cls := "java/lang/Object", name := "hashCode", desc := "()I" } : Jvm.MethodName) ({ cls := "java/lang/Object", name := "hashCode", desc := "()I" } : Jvm.MethodName)) ∈ lw_all := lw_g (lw_at lw_m3 54 rfl) rfl
theorem q685 : (Jvm.Cond.selects "jdk/internal/misc/Unsafe" ({ cls := "java/lang/Object", name := "getClass", desc := "()Ljava/lang/Class;" } : Jvm.MethodName) ({ cls := "java/lang/Object", name := "getClass", desc := "()Ljava/lang/Class;" } : Jvm.MethodName)) ∈ lw_all := lw_g (lw_at lw_m3 148 rfl) rfl
theorem q743 : (Jvm.Cond.laysStatic "jdk/internal/misc/Unsafe" "ARRAY_BYTE_BASE_OFFSET" "I") ∈ lw_tbl := lw_at lw_m3 206 rfl
theorem q754 : (Jvm.Cond.instanceMethod ({ cls := "jdk/internal/misc/Unsafe", name := "getLongUnaligned", desc := "(Ljava/lang/Object;J)J" } : Jvm.MethodName)) ∈ lw_all := lw_g (lw_at lw_m3 217 rfl) rfl
theorem q755 : (Jvm.Cond.selects "jdk/internal/misc/Unsafe" ({ cls := "jdk/internal/misc/Unsafe", name := "getLongUnaligned", desc := "(Ljava/lang/Object;J)J" } : Jvm.MethodName) ({ cls := "jdk/internal/misc/Unsafe", name := "getLongUnaligned", desc := "(Ljava/lang/Object;J)J" } : Jvm.MethodName)) ∈ lw_all := lw_g (lw_at lw_m3 218 rfl) rfl
theorem q756 : (Jvm.Cond.code ({ cls := "jdk/internal/misc/Unsafe", name := "getLongUnaligned", desc := "(Ljava/lang/Object;J)J" } : Jvm.MethodName) prog_65_method_334_code (4 : Nat) (Option.some Jvm.ClassFile.FieldType.long)) ∈ lw_all := lw_g (lw_at lw_m3 219 rfl) rfl
theorem q757 : (Jvm.Cond.constantLong "jdk/internal/misc/Unsafe" (696 : Nat) (7 : Int64)) ∈ lw_all := lw_g (lw_at lw_m3 220 rfl) rfl
theorem q758 : (Jvm.Cond.methodLink "jdk/internal/misc/Unsafe" (27 : Nat) ({ cls := "jdk/internal/misc/Unsafe", name := "getLong", desc := "(Ljava/lang/Object;J)J" } : Jvm.MethodName)) ∈ lw_all := lw_g (lw_at lw_m3 221 rfl) rfl
theorem q759 : (Jvm.Cond.instanceMethod ({ cls := "jdk/internal/misc/Unsafe", name := "getLong", desc := "(Ljava/lang/Object;J)J" } : Jvm.MethodName)) ∈ lw_all := lw_g (lw_at lw_m3 222 rfl) rfl
theorem q760 : (Jvm.Cond.selects "jdk/internal/misc/Unsafe" ({ cls := "jdk/internal/misc/Unsafe", name := "getLong", desc := "(Ljava/lang/Object;J)J" } : Jvm.MethodName) ({ cls := "jdk/internal/misc/Unsafe", name := "getLong", desc := "(Ljava/lang/Object;J)J" } : Jvm.MethodName)) ∈ lw_all := lw_g (lw_at lw_m3 223 rfl) rfl
theorem q761 : (Jvm.Cond.native ({ cls := "jdk/internal/misc/Unsafe", name := "getLong", desc := "(Ljava/lang/Object;J)J" } : Jvm.MethodName)) ∈ lw_all := lw_g (lw_at lw_m3 224 rfl) rfl
theorem q762 : (Jvm.Cond.constantLong "jdk/internal/misc/Unsafe" (349 : Nat) (3 : Int64)) ∈ lw_all := lw_g (lw_at lw_m3 225 rfl) rfl
theorem q763 : (Jvm.Cond.methodLink "jdk/internal/misc/Unsafe" (17 : Nat) ({ cls := "jdk/internal/misc/Unsafe", name := "getInt", desc := "(Ljava/lang/Object;J)I" } : Jvm.MethodName)) ∈ lw_all := lw_g (lw_at lw_m3 226 rfl) rfl
theorem q764 : (Jvm.Cond.instanceMethod ({ cls := "jdk/internal/misc/Unsafe", name := "getInt", desc := "(Ljava/lang/Object;J)I" } : Jvm.MethodName)) ∈ lw_all := lw_g (lw_at lw_m3 227 rfl) rfl
theorem q765 : (Jvm.Cond.selects "jdk/internal/misc/Unsafe" ({ cls := "jdk/internal/misc/Unsafe", name := "getInt", desc := "(Ljava/lang/Object;J)I" } : Jvm.MethodName) ({ cls := "jdk/internal/misc/Unsafe", name := "getInt", desc := "(Ljava/lang/Object;J)I" } : Jvm.MethodName)) ∈ lw_all := lw_g (lw_at lw_m3 228 rfl) rfl
theorem q766 : (Jvm.Cond.native ({ cls := "jdk/internal/misc/Unsafe", name := "getInt", desc := "(Ljava/lang/Object;J)I" } : Jvm.MethodName)) ∈ lw_all := lw_g (lw_at lw_m3 229 rfl) rfl
theorem q767 : (Jvm.Cond.constantLong "jdk/internal/misc/Unsafe" (205 : Nat) (4 : Int64)) ∈ lw_all := lw_g (lw_at lw_m3 230 rfl) rfl
theorem q768 : (Jvm.Cond.methodLink "jdk/internal/misc/Unsafe" (698 : Nat) ({ cls := "jdk/internal/misc/Unsafe", name := "makeLong", desc := "(II)J" } : Jvm.MethodName)) ∈ lw_all := lw_g (lw_at lw_m3 231 rfl) rfl
theorem q769 : (Jvm.Cond.static ({ cls := "jdk/internal/misc/Unsafe", name := "makeLong", desc := "(II)J" } : Jvm.MethodName)) ∈ lw_all := lw_g (lw_at lw_m3 232 rfl) rfl
theorem q770 : (Jvm.Cond.code ({ cls := "jdk/internal/misc/Unsafe", name := "makeLong", desc := "(II)J" } : Jvm.MethodName) prog_65_method_353_code (2 : Nat) (Option.some Jvm.ClassFile.FieldType.long)) ∈ lw_all := lw_g (lw_at lw_m3 233 rfl) rfl
theorem q771 : (Jvm.Cond.methodLink "jdk/internal/misc/Unsafe" (791 : Nat) ({ cls := "jdk/internal/misc/Unsafe", name := "toUnsignedLong", desc := "(I)J" } : Jvm.MethodName)) ∈ lw_all := lw_g (lw_at lw_m3 234 rfl) rfl
theorem q772 : (Jvm.Cond.static ({ cls := "jdk/internal/misc/Unsafe", name := "toUnsignedLong", desc := "(I)J" } : Jvm.MethodName)) ∈ lw_all := lw_g (lw_at lw_m3 235 rfl) rfl
theorem q773 : (Jvm.Cond.code ({ cls := "jdk/internal/misc/Unsafe", name := "toUnsignedLong", desc := "(I)J" } : Jvm.MethodName) prog_65_method_370_code (1 : Nat) (Option.some Jvm.ClassFile.FieldType.long)) ∈ lw_all := lw_g (lw_at lw_m3 236 rfl) rfl
theorem q774 : (Jvm.Cond.constantLong "jdk/internal/misc/Unsafe" (812 : Nat) (4294967295 : Int64)) ∈ lw_all := lw_g (lw_at lw_m3 237 rfl) rfl
theorem q775 : (Jvm.Cond.methodLink "jdk/internal/misc/Unsafe" (784 : Nat) ({ cls := "jdk/internal/misc/Unsafe", name := "pickPos", desc := "(II)I" } : Jvm.MethodName)) ∈ lw_all := lw_g (lw_at lw_m3 238 rfl) rfl
theorem q776 : (Jvm.Cond.static ({ cls := "jdk/internal/misc/Unsafe", name := "pickPos", desc := "(II)I" } : Jvm.MethodName)) ∈ lw_all := lw_g (lw_at lw_m3 239 rfl) rfl
theorem q777 : (Jvm.Cond.code ({ cls := "jdk/internal/misc/Unsafe", name := "pickPos", desc := "(II)I" } : Jvm.MethodName) prog_65_method_350_code (2 : Nat) (Option.some Jvm.ClassFile.FieldType.int)) ∈ lw_all := lw_g (lw_at lw_m4 0 rfl) rfl
theorem q778 : (Jvm.Cond.fieldLink "jdk/internal/misc/Unsafe" (351 : Nat) "jdk/internal/misc/UnsafeConstants" "BIG_ENDIAN" "Z") ∈ lw_all := lw_g (lw_at lw_m4 1 rfl) rfl
theorem q780 : (Jvm.Cond.methodLink "jdk/internal/misc/Unsafe" (47 : Nat) ({ cls := "jdk/internal/misc/Unsafe", name := "getShort", desc := "(Ljava/lang/Object;J)S" } : Jvm.MethodName)) ∈ lw_all := lw_g (lw_at lw_m4 3 rfl) rfl
theorem q781 : (Jvm.Cond.instanceMethod ({ cls := "jdk/internal/misc/Unsafe", name := "getShort", desc := "(Ljava/lang/Object;J)S" } : Jvm.MethodName)) ∈ lw_all := lw_g (lw_at lw_m4 4 rfl) rfl
theorem q782 : (Jvm.Cond.selects "jdk/internal/misc/Unsafe" ({ cls := "jdk/internal/misc/Unsafe", name := "getShort", desc := "(Ljava/lang/Object;J)S" } : Jvm.MethodName) ({ cls := "jdk/internal/misc/Unsafe", name := "getShort", desc := "(Ljava/lang/Object;J)S" } : Jvm.MethodName)) ∈ lw_all := lw_g (lw_at lw_m4 5 rfl) rfl
theorem q783 : (Jvm.Cond.native ({ cls := "jdk/internal/misc/Unsafe", name := "getShort", desc := "(Ljava/lang/Object;J)S" } : Jvm.MethodName)) ∈ lw_all := lw_g (lw_at lw_m4 6 rfl) rfl
theorem q784 : (Jvm.Cond.constantLong "jdk/internal/misc/Unsafe" (203 : Nat) (2 : Int64)) ∈ lw_all := lw_g (lw_at lw_m4 7 rfl) rfl
theorem q785 : (Jvm.Cond.constantLong "jdk/internal/misc/Unsafe" (702 : Nat) (6 : Int64)) ∈ lw_all := lw_g (lw_at lw_m4 8 rfl) rfl
theorem q786 : (Jvm.Cond.methodLink "jdk/internal/misc/Unsafe" (704 : Nat) ({ cls := "jdk/internal/misc/Unsafe", name := "makeLong", desc := "(SSSS)J" } : Jvm.MethodName)) ∈ lw_all := lw_g (lw_at lw_m4 9 rfl) rfl
theorem q787 : (Jvm.Cond.static ({ cls := "jdk/internal/misc/Unsafe", name := "makeLong", desc := "(SSSS)J" } : Jvm.MethodName)) ∈ lw_all := lw_g (lw_at lw_m4 10 rfl) rfl
theorem q788 : (Jvm.Cond.code ({ cls := "jdk/internal/misc/Unsafe", name := "makeLong", desc := "(SSSS)J" } : Jvm.MethodName) prog_65_method_352_code (4 : Nat) (Option.some Jvm.ClassFile.FieldType.long)) ∈ lw_all := lw_g (lw_at lw_m4 11 rfl) rfl
theorem q789 : (Jvm.Cond.methodLink "jdk/internal/misc/Unsafe" (788 : Nat) ({ cls := "jdk/internal/misc/Unsafe", name := "toUnsignedLong", desc := "(S)J" } : Jvm.MethodName)) ∈ lw_all := lw_g (lw_at lw_m4 12 rfl) rfl
theorem q790 : (Jvm.Cond.static ({ cls := "jdk/internal/misc/Unsafe", name := "toUnsignedLong", desc := "(S)J" } : Jvm.MethodName)) ∈ lw_all := lw_g (lw_at lw_m4 13 rfl) rfl
theorem q791 : (Jvm.Cond.code ({ cls := "jdk/internal/misc/Unsafe", name := "toUnsignedLong", desc := "(S)J" } : Jvm.MethodName) prog_65_method_369_code (1 : Nat) (Option.some Jvm.ClassFile.FieldType.long)) ∈ lw_all := lw_g (lw_at lw_m4 14 rfl) rfl
theorem q792 : (Jvm.Cond.constantLong "jdk/internal/misc/Unsafe" (810 : Nat) (65535 : Int64)) ∈ lw_all := lw_g (lw_at lw_m4 15 rfl) rfl
theorem q793 : (Jvm.Cond.methodLink "jdk/internal/misc/Unsafe" (39 : Nat) ({ cls := "jdk/internal/misc/Unsafe", name := "getByte", desc := "(Ljava/lang/Object;J)B" } : Jvm.MethodName)) ∈ lw_all := lw_g (lw_at lw_m4 16 rfl) rfl
theorem q794 : (Jvm.Cond.instanceMethod ({ cls := "jdk/internal/misc/Unsafe", name := "getByte", desc := "(Ljava/lang/Object;J)B" } : Jvm.MethodName)) ∈ lw_all := lw_g (lw_at lw_m4 17 rfl) rfl
theorem q795 : (Jvm.Cond.selects "jdk/internal/misc/Unsafe" ({ cls := "jdk/internal/misc/Unsafe", name := "getByte", desc := "(Ljava/lang/Object;J)B" } : Jvm.MethodName) ({ cls := "jdk/internal/misc/Unsafe", name := "getByte", desc := "(Ljava/lang/Object;J)B" } : Jvm.MethodName)) ∈ lw_all := lw_g (lw_at lw_m4 18 rfl) rfl
theorem q796 : (Jvm.Cond.native ({ cls := "jdk/internal/misc/Unsafe", name := "getByte", desc := "(Ljava/lang/Object;J)B" } : Jvm.MethodName)) ∈ lw_all := lw_g (lw_at lw_m4 19 rfl) rfl
theorem q797 : (Jvm.Cond.constantLong "jdk/internal/misc/Unsafe" (707 : Nat) (5 : Int64)) ∈ lw_all := lw_g (lw_at lw_m4 20 rfl) rfl
theorem q798 : (Jvm.Cond.methodLink "jdk/internal/misc/Unsafe" (709 : Nat) ({ cls := "jdk/internal/misc/Unsafe", name := "makeLong", desc := "(BBBBBBBB)J" } : Jvm.MethodName)) ∈ lw_all := lw_g (lw_at lw_m4 21 rfl) rfl
theorem q799 : (Jvm.Cond.static ({ cls := "jdk/internal/misc/Unsafe", name := "makeLong", desc := "(BBBBBBBB)J" } : Jvm.MethodName)) ∈ lw_all := lw_g (lw_at lw_m4 22 rfl) rfl
theorem q800 : (Jvm.Cond.code ({ cls := "jdk/internal/misc/Unsafe", name := "makeLong", desc := "(BBBBBBBB)J" } : Jvm.MethodName) prog_65_method_351_code (8 : Nat) (Option.some Jvm.ClassFile.FieldType.long)) ∈ lw_all := lw_g (lw_at lw_m4 23 rfl) rfl
theorem q801 : (Jvm.Cond.methodLink "jdk/internal/misc/Unsafe" (781 : Nat) ({ cls := "jdk/internal/misc/Unsafe", name := "toUnsignedLong", desc := "(B)J" } : Jvm.MethodName)) ∈ lw_all := lw_g (lw_at lw_m4 24 rfl) rfl
theorem q802 : (Jvm.Cond.static ({ cls := "jdk/internal/misc/Unsafe", name := "toUnsignedLong", desc := "(B)J" } : Jvm.MethodName)) ∈ lw_all := lw_g (lw_at lw_m4 25 rfl) rfl
theorem q803 : (Jvm.Cond.code ({ cls := "jdk/internal/misc/Unsafe", name := "toUnsignedLong", desc := "(B)J" } : Jvm.MethodName) prog_65_method_368_code (1 : Nat) (Option.some Jvm.ClassFile.FieldType.long)) ∈ lw_all := lw_g (lw_at lw_m4 26 rfl) rfl
theorem q804 : (Jvm.Cond.constantLong "jdk/internal/misc/Unsafe" (808 : Nat) (255 : Int64)) ∈ lw_all := lw_g (lw_at lw_m4 27 rfl) rfl
theorem q825 : (Jvm.Cond.instanceMethod ({ cls := "jdk/internal/misc/Unsafe", name := "getIntUnaligned", desc := "(Ljava/lang/Object;J)I" } : Jvm.MethodName)) ∈ lw_all := lw_g (lw_at lw_m4 48 rfl) rfl
theorem q826 : (Jvm.Cond.selects "jdk/internal/misc/Unsafe" ({ cls := "jdk/internal/misc/Unsafe", name := "getIntUnaligned", desc := "(Ljava/lang/Object;J)I" } : Jvm.MethodName) ({ cls := "jdk/internal/misc/Unsafe", name := "getIntUnaligned", desc := "(Ljava/lang/Object;J)I" } : Jvm.MethodName)) ∈ lw_all := lw_g (lw_at lw_m4 49 rfl) rfl
theorem q827 : (Jvm.Cond.code ({ cls := "jdk/internal/misc/Unsafe", name := "getIntUnaligned", desc := "(Ljava/lang/Object;J)I" } : Jvm.MethodName) prog_65_method_336_code (4 : Nat) (Option.some Jvm.ClassFile.FieldType.int)) ∈ lw_all := lw_g (lw_at lw_m4 50 rfl) rfl
theorem q828 : (Jvm.Cond.methodLink "jdk/internal/misc/Unsafe" (719 : Nat) ({ cls := "jdk/internal/misc/Unsafe", name := "makeInt", desc := "(SS)I" } : Jvm.MethodName)) ∈ lw_all := lw_g (lw_at lw_m4 51 rfl) rfl
theorem q829 : (Jvm.Cond.static ({ cls := "jdk/internal/misc/Unsafe", name := "makeInt", desc := "(SS)I" } : Jvm.MethodName)) ∈ lw_all := lw_g (lw_at lw_m4 52 rfl) rfl
theorem q830 : (Jvm.Cond.code ({ cls := "jdk/internal/misc/Unsafe", name := "makeInt", desc := "(SS)I" } : Jvm.MethodName) prog_65_method_354_code (2 : Nat) (Option.some Jvm.ClassFile.FieldType.int)) ∈ lw_all := lw_g (lw_at lw_m4 53 rfl) rfl
theorem q831 : (Jvm.Cond.methodLink "jdk/internal/misc/Unsafe" (792 : Nat) ({ cls := "jdk/internal/misc/Unsafe", name := "toUnsignedInt", desc := "(S)I" } : Jvm.MethodName)) ∈ lw_all := lw_g (lw_at lw_m4 54 rfl) rfl
theorem q832 : (Jvm.Cond.static ({ cls := "jdk/internal/misc/Unsafe", name := "toUnsignedInt", desc := "(S)I" } : Jvm.MethodName)) ∈ lw_all := lw_g (lw_at lw_m4 55 rfl) rfl
theorem q833 : (Jvm.Cond.code ({ cls := "jdk/internal/misc/Unsafe", name := "toUnsignedInt", desc := "(S)I" } : Jvm.MethodName) prog_65_method_367_code (1 : Nat) (Option.some Jvm.ClassFile.FieldType.int)) ∈ lw_all := lw_g (lw_at lw_m4 56 rfl) rfl
theorem q834 : (Jvm.Cond.constant "jdk/internal/misc/Unsafe" (374 : Nat) (65535 : Int32)) ∈ lw_all := lw_g (lw_at lw_m4 57 rfl) rfl
theorem q835 : (Jvm.Cond.methodLink "jdk/internal/misc/Unsafe" (723 : Nat) ({ cls := "jdk/internal/misc/Unsafe", name := "makeInt", desc := "(BBBB)I" } : Jvm.MethodName)) ∈ lw_all := lw_g (lw_at lw_m4 58 rfl) rfl
theorem q836 : (Jvm.Cond.static ({ cls := "jdk/internal/misc/Unsafe", name := "makeInt", desc := "(BBBB)I" } : Jvm.MethodName)) ∈ lw_all := lw_g (lw_at lw_m4 59 rfl) rfl
theorem q837 : (Jvm.Cond.code ({ cls := "jdk/internal/misc/Unsafe", name := "makeInt", desc := "(BBBB)I" } : Jvm.MethodName) prog_65_method_355_code (4 : Nat) (Option.some Jvm.ClassFile.FieldType.int)) ∈ lw_all := lw_g (lw_at lw_m4 60 rfl) rfl
theorem q838 : (Jvm.Cond.methodLink "jdk/internal/misc/Unsafe" (796 : Nat) ({ cls := "jdk/internal/misc/Unsafe", name := "toUnsignedInt", desc := "(B)I" } : Jvm.MethodName)) ∈ lw_all := lw_g (lw_at lw_m4 61 rfl) rfl
theorem q839 : (Jvm.Cond.static ({ cls := "jdk/internal/misc/Unsafe", name := "toUnsignedInt", desc := "(B)I" } : Jvm.MethodName)) ∈ lw_all := lw_g (lw_at lw_m4 62 rfl) rfl
theorem q840 : (Jvm.Cond.code ({ cls := "jdk/internal/misc/Unsafe", name := "toUnsignedInt", desc := "(B)I" } : Jvm.MethodName) prog_65_method_366_code (1 : Nat) (Option.some Jvm.ClassFile.FieldType.int)) ∈ lw_all := lw_g (lw_at lw_m4 63 rfl) rfl
theorem q958 : (Jvm.Cond.selects "jdk/internal/misc/Unsafe" ({ cls := "java/lang/Object", name := "equals", desc := "(Ljava/lang/Object;)Z" } : Jvm.MethodName) ({ cls := "java/lang/Object", name := "equals", desc := "(Ljava/lang/Object;)Z" } : Jvm.MethodName)) ∈ lw_all := lw_g (lw_at lw_m4 181 rfl) rfl
theorem q2765 : (Jvm.Cond.castable "jdk/internal/misc/Unsafe" "java/lang/Object") ∈ lw_tbl := lw_at lw_m12 68 rfl
abbrev cJ2_valueOf : ByteArray := prog_21_method_3_code
def yJ2_valueOf : MethodName := ⟨RJ2, "valueOf", "(C)Ljava/lang/Character;"⟩
def dkwJ2_valueOf_0 : List UInt8 := [26, 16, 127, 163, 0, 9, 178, 0, 47, 26, 50, 176, 187, 0, 1, 89, 26, 183, 0, 53, 176]
abbrev dktJ2_valueOf_0 : List UInt8 := dkwJ2_valueOf_0 ++ []
theorem dksJ2_valueOf_0 : cJ2_valueOf.data.toList.drop 0 = dktJ2_valueOf_0 := by decide +kernel
theorem dJ2_valueOf_0 : decode cJ2_valueOf 0 = .ok (.iload_n 0, 1) := dk_26 (dk_at dksJ2_valueOf_0 0 rfl rfl)
theorem dJ2_valueOf_1 : decode cJ2_valueOf 1 = .ok (.bipush 127, 2) := dk_16 127 (dk_at dksJ2_valueOf_0 1 rfl rfl)
theorem dJ2_valueOf_3 : decode cJ2_valueOf 3 = .ok (.if_icmp .gt 9, 3) := dk_163 0 9 (dk_at dksJ2_valueOf_0 3 rfl rfl)
theorem dJ2_valueOf_6 : decode cJ2_valueOf 6 = .ok (.getstatic 47, 3) := dk_178 0 47 (dk_at dksJ2_valueOf_0 6 rfl rfl)
theorem dJ2_valueOf_9 : decode cJ2_valueOf 9 = .ok (.iload_n 0, 1) := dk_26 (dk_at dksJ2_valueOf_0 9 rfl rfl)
theorem dJ2_valueOf_10 : decode cJ2_valueOf 10 = .ok (.aaload, 1) := dk_50 (dk_at dksJ2_valueOf_0 10 rfl rfl)
theorem dJ2_valueOf_11 : decode cJ2_valueOf 11 = .ok (.areturn, 1) := dk_176 (dk_at dksJ2_valueOf_0 11 rfl rfl)
theorem dJ2_valueOf_12 : decode cJ2_valueOf 12 = .ok (.new 1, 3) := dk_187 0 1 (dk_at dksJ2_valueOf_0 12 rfl rfl)
theorem dJ2_valueOf_15 : decode cJ2_valueOf 15 = .ok (.dup, 1) := dk_89 (dk_at dksJ2_valueOf_0 15 rfl rfl)
theorem dJ2_valueOf_16 : decode cJ2_valueOf 16 = .ok (.iload_n 0, 1) := dk_26 (dk_at dksJ2_valueOf_0 16 rfl rfl)
theorem dJ2_valueOf_17 : decode cJ2_valueOf 17 = .ok (.invokespecial 53, 3) := dk_183 0 53 (dk_at dksJ2_valueOf_0 17 rfl rfl)
theorem dJ2_valueOf_20 : decode cJ2_valueOf 20 = .ok (.areturn, 1) := dk_176 (dk_at dksJ2_valueOf_0 20 rfl rfl)
abbrev cJ2_init : ByteArray := prog_21_method_2_code
def yJ2_init : MethodName := ⟨RJ2, "<init>", "(C)V"⟩
def dkwJ2_init_0 : List UInt8 := [42, 183, 0, 41, 42, 27, 181, 0, 19, 177]
abbrev dktJ2_init_0 : List UInt8 := dkwJ2_init_0 ++ []
theorem dksJ2_init_0 : cJ2_init.data.toList.drop 0 = dktJ2_init_0 := by decide +kernel
theorem dJ2_init_0 : decode cJ2_init 0 = .ok (.aload_n 0, 1) := dk_42 (dk_at dksJ2_init_0 0 rfl rfl)
theorem dJ2_init_1 : decode cJ2_init 1 = .ok (.invokespecial 41, 3) := dk_183 0 41 (dk_at dksJ2_init_0 1 rfl rfl)
theorem dJ2_init_4 : decode cJ2_init 4 = .ok (.aload_n 0, 1) := dk_42 (dk_at dksJ2_init_0 4 rfl rfl)
theorem dJ2_init_5 : decode cJ2_init 5 = .ok (.iload_n 1, 1) := dk_27 (dk_at dksJ2_init_0 5 rfl rfl)
theorem dJ2_init_6 : decode cJ2_init 6 = .ok (.putfield 19, 3) := dk_181 0 19 (dk_at dksJ2_init_0 6 rfl rfl)
theorem dJ2_init_9 : decode cJ2_init 9 = .ok (.return_, 1) := dk_177 (dk_at dksJ2_init_0 9 rfl rfl)
abbrev cJ2_hashCode : ByteArray := prog_21_method_5_code
def yJ2_hashCode : MethodName := ⟨RJ2, "hashCode", "()I"⟩
def dkwJ2_hashCode_0 : List UInt8 := [42, 180, 0, 19, 184, 0, 56, 172]
abbrev dktJ2_hashCode_0 : List UInt8 := dkwJ2_hashCode_0 ++ []
theorem dksJ2_hashCode_0 : cJ2_hashCode.data.toList.drop 0 = dktJ2_hashCode_0 := by decide +kernel
theorem dJ2_hashCode_0 : decode cJ2_hashCode 0 = .ok (.aload_n 0, 1) := dk_42 (dk_at dksJ2_hashCode_0 0 rfl rfl)
theorem dJ2_hashCode_1 : decode cJ2_hashCode 1 = .ok (.getfield 19, 3) := dk_180 0 19 (dk_at dksJ2_hashCode_0 1 rfl rfl)
theorem dJ2_hashCode_4 : decode cJ2_hashCode 4 = .ok (.invokestatic 56, 3) := dk_184 0 56 (dk_at dksJ2_hashCode_0 4 rfl rfl)
theorem dJ2_hashCode_7 : decode cJ2_hashCode 7 = .ok (.ireturn, 1) := dk_172 (dk_at dksJ2_hashCode_0 7 rfl rfl)
abbrev cJ2_hashCode_2 : ByteArray := prog_21_method_6_code
def yJ2_hashCode_2 : MethodName := ⟨RJ2, "hashCode", "(C)I"⟩
theorem dJ2_hashCode_2_0 : decode cJ2_hashCode_2 0 = .ok (.iload_n 0, 1) := by decide +kernel
theorem dJ2_hashCode_2_1 : decode cJ2_hashCode_2 1 = .ok (.ireturn, 1) := by decide +kernel
abbrev cJ2_compareTo : ByteArray := prog_21_method_104_code
def yJ2_compareTo : MethodName := ⟨RJ2, "compareTo", "(Ljava/lang/Object;)I"⟩
def dkwJ2_compareTo_0 : List UInt8 := [42, 43, 192, 0, 1, 182, 1, 109, 172]
abbrev dktJ2_compareTo_0 : List UInt8 := dkwJ2_compareTo_0 ++ []
theorem dksJ2_compareTo_0 : cJ2_compareTo.data.toList.drop 0 = dktJ2_compareTo_0 := by decide +kernel
theorem dJ2_compareTo_0 : decode cJ2_compareTo 0 = .ok (.aload_n 0, 1) := dk_42 (dk_at dksJ2_compareTo_0 0 rfl rfl)
theorem dJ2_compareTo_1 : decode cJ2_compareTo 1 = .ok (.aload_n 1, 1) := dk_43 (dk_at dksJ2_compareTo_0 1 rfl rfl)
theorem dJ2_compareTo_2 : decode cJ2_compareTo 2 = .ok (.checkcast 1, 3) := dk_192 0 1 (dk_at dksJ2_compareTo_0 2 rfl rfl)
theorem dJ2_compareTo_5 : decode cJ2_compareTo 5 = .ok (.invokevirtual 365, 3) := dk_182 1 109 (dk_at dksJ2_compareTo_0 5 rfl rfl)
theorem dJ2_compareTo_8 : decode cJ2_compareTo 8 = .ok (.ireturn, 1) := dk_172 (dk_at dksJ2_compareTo_0 8 rfl rfl)
abbrev cJ2_compareTo_2 : ByteArray := prog_21_method_97_code
def yJ2_compareTo_2 : MethodName := ⟨RJ2, "compareTo", "(Ljava/lang/Character;)I"⟩
def dkwJ2_compareTo_2_0 : List UInt8 := [42, 180, 0, 19, 43, 180, 0, 19, 184, 1, 23, 172]
abbrev dktJ2_compareTo_2_0 : List UInt8 := dkwJ2_compareTo_2_0 ++ []
theorem dksJ2_compareTo_2_0 : cJ2_compareTo_2.data.toList.drop 0 = dktJ2_compareTo_2_0 := by decide +kernel
theorem dJ2_compareTo_2_0 : decode cJ2_compareTo_2 0 = .ok (.aload_n 0, 1) := dk_42 (dk_at dksJ2_compareTo_2_0 0 rfl rfl)
theorem dJ2_compareTo_2_1 : decode cJ2_compareTo_2 1 = .ok (.getfield 19, 3) := dk_180 0 19 (dk_at dksJ2_compareTo_2_0 1 rfl rfl)
theorem dJ2_compareTo_2_4 : decode cJ2_compareTo_2 4 = .ok (.aload_n 1, 1) := dk_43 (dk_at dksJ2_compareTo_2_0 4 rfl rfl)
theorem dJ2_compareTo_2_5 : decode cJ2_compareTo_2 5 = .ok (.getfield 19, 3) := dk_180 0 19 (dk_at dksJ2_compareTo_2_0 5 rfl rfl)
theorem dJ2_compareTo_2_8 : decode cJ2_compareTo_2 8 = .ok (.invokestatic 279, 3) := dk_184 1 23 (dk_at dksJ2_compareTo_2_0 8 rfl rfl)
theorem dJ2_compareTo_2_11 : decode cJ2_compareTo_2 11 = .ok (.ireturn, 1) := dk_172 (dk_at dksJ2_compareTo_2_0 11 rfl rfl)
abbrev cJ2_compare : ByteArray := prog_21_method_98_code
def yJ2_compare : MethodName := ⟨RJ2, "compare", "(CC)I"⟩
def dkwJ2_compare_0 : List UInt8 := [26, 27, 100, 172]
abbrev dktJ2_compare_0 : List UInt8 := dkwJ2_compare_0 ++ []
theorem dksJ2_compare_0 : cJ2_compare.data.toList.drop 0 = dktJ2_compare_0 := by decide +kernel
theorem dJ2_compare_0 : decode cJ2_compare 0 = .ok (.iload_n 0, 1) := dk_26 (dk_at dksJ2_compare_0 0 rfl rfl)
theorem dJ2_compare_1 : decode cJ2_compare 1 = .ok (.iload_n 1, 1) := dk_27 (dk_at dksJ2_compare_0 1 rfl rfl)
theorem dJ2_compare_2 : decode cJ2_compare 2 = .ok (.isub, 1) := dk_100 (dk_at dksJ2_compare_0 2 rfl rfl)
theorem dJ2_compare_3 : decode cJ2_compare 3 = .ok (.ireturn, 1) := dk_172 (dk_at dksJ2_compare_0 3 rfl rfl)
abbrev cJ2_equals : ByteArray := prog_21_method_7_code
def yJ2_equals : MethodName := ⟨RJ2, "equals", "(Ljava/lang/Object;)Z"⟩
def dkwJ2_equals_1 : List UInt8 := [167, 0, 4, 3, 172, 3, 172]
abbrev dktJ2_equals_1 : List UInt8 := dkwJ2_equals_1 ++ []
def dkwJ2_equals_0 : List UInt8 := [43, 193, 0, 1, 153, 0, 23, 42, 180, 0, 19, 43, 192, 0, 1, 182, 0, 60, 160, 0, 7, 4]
abbrev dktJ2_equals_0 : List UInt8 := dkwJ2_equals_0 ++ dktJ2_equals_1
theorem dksJ2_equals_0 : cJ2_equals.data.toList.drop 0 = dktJ2_equals_0 := by decide +kernel
theorem dksJ2_equals_1 : cJ2_equals.data.toList.drop 22 = dktJ2_equals_1 := dk_seg dksJ2_equals_0 22 rfl rfl
theorem dJ2_equals_0 : decode cJ2_equals 0 = .ok (.aload_n 1, 1) := dk_43 (dk_at dksJ2_equals_0 0 rfl rfl)
theorem dJ2_equals_1 : decode cJ2_equals 1 = .ok (.instanceof 1, 3) := dk_193 0 1 (dk_at dksJ2_equals_0 1 rfl rfl)
theorem dJ2_equals_4 : decode cJ2_equals 4 = .ok (.ifCond .eq 23, 3) := dk_153 0 23 (dk_at dksJ2_equals_0 4 rfl rfl)
theorem dJ2_equals_7 : decode cJ2_equals 7 = .ok (.aload_n 0, 1) := dk_42 (dk_at dksJ2_equals_0 7 rfl rfl)
theorem dJ2_equals_8 : decode cJ2_equals 8 = .ok (.getfield 19, 3) := dk_180 0 19 (dk_at dksJ2_equals_0 8 rfl rfl)
theorem dJ2_equals_11 : decode cJ2_equals 11 = .ok (.aload_n 1, 1) := dk_43 (dk_at dksJ2_equals_0 11 rfl rfl)
theorem dJ2_equals_12 : decode cJ2_equals 12 = .ok (.checkcast 1, 3) := dk_192 0 1 (dk_at dksJ2_equals_0 12 rfl rfl)
theorem dJ2_equals_15 : decode cJ2_equals 15 = .ok (.invokevirtual 60, 3) := dk_182 0 60 (dk_at dksJ2_equals_0 15 rfl rfl)
theorem dJ2_equals_18 : decode cJ2_equals 18 = .ok (.if_icmp .ne 7, 3) := dk_160 0 7 (dk_at dksJ2_equals_0 18 rfl rfl)
theorem dJ2_equals_21 : decode cJ2_equals 21 = .ok (.iconst 1, 1) := dk_4 (dk_at dksJ2_equals_0 21 rfl rfl)
theorem dJ2_equals_22 : decode cJ2_equals 22 = .ok (.goto 4, 3) := dk_167 0 4 (dk_at dksJ2_equals_1 0 rfl rfl)
theorem dJ2_equals_25 : decode cJ2_equals 25 = .ok (.iconst 0, 1) := dk_3 (dk_at dksJ2_equals_1 3 rfl rfl)
theorem dJ2_equals_26 : decode cJ2_equals 26 = .ok (.ireturn, 1) := dk_172 (dk_at dksJ2_equals_1 4 rfl rfl)
theorem dJ2_equals_27 : decode cJ2_equals 27 = .ok (.iconst 0, 1) := dk_3 (dk_at dksJ2_equals_1 5 rfl rfl)
theorem dJ2_equals_28 : decode cJ2_equals 28 = .ok (.ireturn, 1) := dk_172 (dk_at dksJ2_equals_1 6 rfl rfl)
abbrev cJ2_charValue : ByteArray := prog_21_method_4_code
def yJ2_charValue : MethodName := ⟨RJ2, "charValue", "()C"⟩
theorem dJ2_charValue_0 : decode cJ2_charValue 0 = .ok (.aload_n 0, 1) := by decide +kernel
theorem dJ2_charValue_1 : decode cJ2_charValue 1 = .ok (.getfield 19, 3) := by decide +kernel
theorem dJ2_charValue_4 : decode cJ2_charValue 4 = .ok (.ireturn, 1) := by decide +kernel
abbrev cJ2_isValidCodePoint : ByteArray := prog_21_method_11_code
def yJ2_isValidCodePoint : MethodName := ⟨RJ2, "isValidCodePoint", "(I)Z"⟩
def dkwJ2_isValidCodePoint_0 : List UInt8 := [26, 16, 16, 124, 60, 27, 16, 17, 162, 0, 7, 4, 167, 0, 4, 3, 172]
abbrev dktJ2_isValidCodePoint_0 : List UInt8 := dkwJ2_isValidCodePoint_0 ++ []
theorem dksJ2_isValidCodePoint_0 : cJ2_isValidCodePoint.data.toList.drop 0 = dktJ2_isValidCodePoint_0 := by decide +kernel
theorem dJ2_isValidCodePoint_0 : decode cJ2_isValidCodePoint 0 = .ok (.iload_n 0, 1) := dk_26 (dk_at dksJ2_isValidCodePoint_0 0 rfl rfl)
theorem dJ2_isValidCodePoint_1 : decode cJ2_isValidCodePoint 1 = .ok (.bipush 16, 2) := dk_16 16 (dk_at dksJ2_isValidCodePoint_0 1 rfl rfl)
theorem dJ2_isValidCodePoint_3 : decode cJ2_isValidCodePoint 3 = .ok (.iushr, 1) := dk_124 (dk_at dksJ2_isValidCodePoint_0 3 rfl rfl)
theorem dJ2_isValidCodePoint_4 : decode cJ2_isValidCodePoint 4 = .ok (.istore_n 1, 1) := dk_60 (dk_at dksJ2_isValidCodePoint_0 4 rfl rfl)
theorem dJ2_isValidCodePoint_5 : decode cJ2_isValidCodePoint 5 = .ok (.iload_n 1, 1) := dk_27 (dk_at dksJ2_isValidCodePoint_0 5 rfl rfl)
theorem dJ2_isValidCodePoint_6 : decode cJ2_isValidCodePoint 6 = .ok (.bipush 17, 2) := dk_16 17 (dk_at dksJ2_isValidCodePoint_0 6 rfl rfl)
theorem dJ2_isValidCodePoint_8 : decode cJ2_isValidCodePoint 8 = .ok (.if_icmp .ge 7, 3) := dk_162 0 7 (dk_at dksJ2_isValidCodePoint_0 8 rfl rfl)
theorem dJ2_isValidCodePoint_11 : decode cJ2_isValidCodePoint 11 = .ok (.iconst 1, 1) := dk_4 (dk_at dksJ2_isValidCodePoint_0 11 rfl rfl)
theorem dJ2_isValidCodePoint_12 : decode cJ2_isValidCodePoint 12 = .ok (.goto 4, 3) := dk_167 0 4 (dk_at dksJ2_isValidCodePoint_0 12 rfl rfl)
theorem dJ2_isValidCodePoint_15 : decode cJ2_isValidCodePoint 15 = .ok (.iconst 0, 1) := dk_3 (dk_at dksJ2_isValidCodePoint_0 15 rfl rfl)
theorem dJ2_isValidCodePoint_16 : decode cJ2_isValidCodePoint 16 = .ok (.ireturn, 1) := dk_172 (dk_at dksJ2_isValidCodePoint_0 16 rfl rfl)
abbrev cJ2_highSurrogate : ByteArray := prog_21_method_28_code
def yJ2_highSurrogate : MethodName := ⟨RJ2, "highSurrogate", "(I)C"⟩
def dkwJ2_highSurrogate_0 : List UInt8 := [26, 16, 10, 124, 18, 110, 96, 146, 172]
abbrev dktJ2_highSurrogate_0 : List UInt8 := dkwJ2_highSurrogate_0 ++ []
theorem dksJ2_highSurrogate_0 : cJ2_highSurrogate.data.toList.drop 0 = dktJ2_highSurrogate_0 := by decide +kernel
theorem dJ2_highSurrogate_0 : decode cJ2_highSurrogate 0 = .ok (.iload_n 0, 1) := dk_26 (dk_at dksJ2_highSurrogate_0 0 rfl rfl)
theorem dJ2_highSurrogate_1 : decode cJ2_highSurrogate 1 = .ok (.bipush 10, 2) := dk_16 10 (dk_at dksJ2_highSurrogate_0 1 rfl rfl)
theorem dJ2_highSurrogate_3 : decode cJ2_highSurrogate 3 = .ok (.iushr, 1) := dk_124 (dk_at dksJ2_highSurrogate_0 3 rfl rfl)
theorem dJ2_highSurrogate_4 : decode cJ2_highSurrogate 4 = .ok (.ldc 110, 2) := dk_18 110 (dk_at dksJ2_highSurrogate_0 4 rfl rfl)
theorem dJ2_highSurrogate_6 : decode cJ2_highSurrogate 6 = .ok (.iadd, 1) := dk_96 (dk_at dksJ2_highSurrogate_0 6 rfl rfl)
theorem dJ2_highSurrogate_7 : decode cJ2_highSurrogate 7 = .ok (.i2c, 1) := dk_146 (dk_at dksJ2_highSurrogate_0 7 rfl rfl)
theorem dJ2_highSurrogate_8 : decode cJ2_highSurrogate 8 = .ok (.ireturn, 1) := dk_172 (dk_at dksJ2_highSurrogate_0 8 rfl rfl)
abbrev cJ2_lowSurrogate : ByteArray := prog_21_method_29_code
def yJ2_lowSurrogate : MethodName := ⟨RJ2, "lowSurrogate", "(I)C"⟩
def dkwJ2_lowSurrogate_0 : List UInt8 := [26, 17, 3, 255, 126, 18, 76, 96, 146, 172]
abbrev dktJ2_lowSurrogate_0 : List UInt8 := dkwJ2_lowSurrogate_0 ++ []
theorem dksJ2_lowSurrogate_0 : cJ2_lowSurrogate.data.toList.drop 0 = dktJ2_lowSurrogate_0 := by decide +kernel
theorem dJ2_lowSurrogate_0 : decode cJ2_lowSurrogate 0 = .ok (.iload_n 0, 1) := dk_26 (dk_at dksJ2_lowSurrogate_0 0 rfl rfl)
theorem dJ2_lowSurrogate_1 : decode cJ2_lowSurrogate 1 = .ok (.sipush 1023, 3) := dk_17 3 255 (dk_at dksJ2_lowSurrogate_0 1 rfl rfl)
theorem dJ2_lowSurrogate_4 : decode cJ2_lowSurrogate 4 = .ok (.iand, 1) := dk_126 (dk_at dksJ2_lowSurrogate_0 4 rfl rfl)
theorem dJ2_lowSurrogate_5 : decode cJ2_lowSurrogate 5 = .ok (.ldc 76, 2) := dk_18 76 (dk_at dksJ2_lowSurrogate_0 5 rfl rfl)
theorem dJ2_lowSurrogate_7 : decode cJ2_lowSurrogate 7 = .ok (.iadd, 1) := dk_96 (dk_at dksJ2_lowSurrogate_0 7 rfl rfl)
theorem dJ2_lowSurrogate_8 : decode cJ2_lowSurrogate 8 = .ok (.i2c, 1) := dk_146 (dk_at dksJ2_lowSurrogate_0 8 rfl rfl)
theorem dJ2_lowSurrogate_9 : decode cJ2_lowSurrogate 9 = .ok (.ireturn, 1) := dk_172 (dk_at dksJ2_lowSurrogate_0 9 rfl rfl)
theorem q61 : (Jvm.Cond.initialized "java/lang/Character") ∈ lw_all := lw_g (lw_at lw_m1 4 rfl) rfl
theorem q145 : (Jvm.Cond.static ({ cls := "java/lang/Character", name := "valueOf", desc := "(C)Ljava/lang/Character;" } : Jvm.MethodName)) ∈ lw_all := lw_g (lw_at lw_m1 88 rfl) rfl
theorem q146 : (Jvm.Cond.code ({ cls := "java/lang/Character", name := "valueOf", desc := "(C)Ljava/lang/Character;" } : Jvm.MethodName) prog_21_method_3_code (1 : Nat) (Option.some (Jvm.ClassFile.FieldType.object "java/lang/Character"))) ∈ lw_all := lw_g (lw_at lw_m1 89 rfl) rfl
theorem q147 : (Jvm.Cond.fieldLink "java/lang/Character" (47 : Nat) "java/lang/Character$CharacterCache" "cache" "[Ljava/lang/Character;") ∈ lw_all := lw_g (lw_at lw_m1 90 rfl) rfl
theorem q149 : (Jvm.Cond.classLink "java/lang/Character" (1 : Nat) "java/lang/Character") ∈ lw_all := lw_g (lw_at lw_m1 92 rfl) rfl
theorem q150 : (Jvm.Cond.instantiable "java/lang/Character" (1 : Nat)) ∈ lw_all := lw_g (lw_at lw_m1 93 rfl) rfl
theorem q151 : (Jvm.Cond.methodLink "java/lang/Character" (53 : Nat) ({ cls := "java/lang/Character", name := "<init>", desc := "(C)V" } : Jvm.MethodName)) ∈ lw_all := lw_g (lw_at lw_m1 94 rfl) rfl
theorem q152 : (Jvm.Cond.instanceMethod ({ cls := "java/lang/Character", name := "<init>", desc := "(C)V" } : Jvm.MethodName)) ∈ lw_all := lw_g (lw_at lw_m1 95 rfl) rfl
theorem q153 : (Jvm.Cond.code ({ cls := "java/lang/Character", name := "<init>", desc := "(C)V" } : Jvm.MethodName) prog_21_method_2_code (2 : Nat) (Option.none : Option Jvm.ClassFile.FieldType)) ∈ lw_all := lw_g (lw_at lw_m1 96 rfl) rfl
theorem q154 : (Jvm.Cond.methodLink "java/lang/Character" (41 : Nat) ({ cls := "java/lang/Object", name := "<init>", desc := "()V" } : Jvm.MethodName)) ∈ lw_all := lw_g (lw_at lw_m1 97 rfl) rfl
theorem q155 : (Jvm.Cond.fieldLink "java/lang/Character" (19 : Nat) "java/lang/Character" "value" "C") ∈ lw_all := lw_g (lw_at lw_m1 98 rfl) rfl
theorem q156 : (Jvm.Cond.laysFinal "java/lang/Character" "java/lang/Character" "value" "C") ∈ lw_all := lw_g (lw_at lw_m1 99 rfl) rfl
theorem q157 : (Jvm.Cond.soleField "java/lang/Character" "value") ∈ lw_all := lw_g (lw_at lw_m1 100 rfl) rfl
theorem q158 : (Jvm.Cond.superclass "java/lang/Character" "java/lang/Object") ∈ lw_all := lw_g (lw_at lw_m1 101 rfl) rfl
theorem q207 : (Jvm.Cond.selects "java/lang/Character" ({ cls := "java/lang/Object", name := "hashCode", desc := "()I" } : Jvm.MethodName) ({ cls := "java/lang/Character", name := "hashCode", desc := "()I" } : Jvm.MethodName)) ∈ lw_all := lw_g (lw_at lw_m1 150 rfl) rfl
theorem q208 : (Jvm.Cond.instanceMethod ({ cls := "java/lang/Character", name := "hashCode", desc := "()I" } : Jvm.MethodName)) ∈ lw_all := lw_g (lw_at lw_m1 151 rfl) rfl
theorem q209 : (Jvm.Cond.code ({ cls := "java/lang/Character", name := "hashCode", desc := "()I" } : Jvm.MethodName) prog_21_method_5_code (1 : Nat) (Option.some Jvm.ClassFile.FieldType.int)) ∈ lw_all := lw_g (lw_at lw_m1 152 rfl) rfl
theorem q210 : (Jvm.Cond.methodLink "java/lang/Character" (56 : Nat) ({ cls := "java/lang/Character", name := "hashCode", desc := "(C)I" } : Jvm.MethodName)) ∈ lw_all := lw_g (lw_at lw_m1 153 rfl) rfl
theorem q211 : (Jvm.Cond.static ({ cls := "java/lang/Character", name := "hashCode", desc := "(C)I" } : Jvm.MethodName)) ∈ lw_all := lw_g (lw_at lw_m1 154 rfl) rfl
theorem q212 : (Jvm.Cond.code ({ cls := "java/lang/Character", name := "hashCode", desc := "(C)I" } : Jvm.MethodName) prog_21_method_6_code (1 : Nat) (Option.some Jvm.ClassFile.FieldType.int)) ∈ lw_all := lw_g (lw_at lw_m1 155 rfl) rfl
theorem q672 : (Jvm.Cond.selects "java/lang/Character" ({ cls := "java/lang/Object", name := "getClass", desc := "()Ljava/lang/Class;" } : Jvm.MethodName) ({ cls := "java/lang/Object", name := "getClass", desc := "()Ljava/lang/Class;" } : Jvm.MethodName)) ∈ lw_all := lw_g (lw_at lw_m3 135 rfl) rfl
theorem q695 : (Jvm.Cond.castable "java/lang/Character" "java/lang/Comparable") ∈ lw_tbl := lw_at lw_m3 158 rfl
theorem q696 : (Jvm.Cond.selects "java/lang/Character" ({ cls := "java/lang/Comparable", name := "compareTo", desc := "(Ljava/lang/Object;)I" } : Jvm.MethodName) ({ cls := "java/lang/Character", name := "compareTo", desc := "(Ljava/lang/Object;)I" } : Jvm.MethodName)) ∈ lw_all := lw_g (lw_at lw_m3 159 rfl) rfl
theorem q697 : (Jvm.Cond.unhidden "java/lang/Character" "compareTo" "(Ljava/lang/Object;)I") ∈ lw_tbl := lw_at lw_m3 160 rfl
theorem q698 : (Jvm.Cond.instanceMethod ({ cls := "java/lang/Character", name := "compareTo", desc := "(Ljava/lang/Object;)I" } : Jvm.MethodName)) ∈ lw_all := lw_g (lw_at lw_m3 161 rfl) rfl
theorem q699 : (Jvm.Cond.publicMethod ({ cls := "java/lang/Character", name := "compareTo", desc := "(Ljava/lang/Object;)I" } : Jvm.MethodName)) ∈ lw_tbl := lw_at lw_m3 162 rfl
theorem q700 : (Jvm.Cond.code ({ cls := "java/lang/Character", name := "compareTo", desc := "(Ljava/lang/Object;)I" } : Jvm.MethodName) prog_21_method_104_code (2 : Nat) (Option.some Jvm.ClassFile.FieldType.int)) ∈ lw_all := lw_g (lw_at lw_m3 163 rfl) rfl
theorem q701 : (Jvm.Cond.methodLink "java/lang/Character" (365 : Nat) ({ cls := "java/lang/Character", name := "compareTo", desc := "(Ljava/lang/Character;)I" } : Jvm.MethodName)) ∈ lw_all := lw_g (lw_at lw_m3 164 rfl) rfl
theorem q702 : (Jvm.Cond.instanceMethod ({ cls := "java/lang/Character", name := "compareTo", desc := "(Ljava/lang/Character;)I" } : Jvm.MethodName)) ∈ lw_all := lw_g (lw_at lw_m3 165 rfl) rfl
theorem q703 : (Jvm.Cond.selects "java/lang/Character" ({ cls := "java/lang/Character", name := "compareTo", desc := "(Ljava/lang/Character;)I" } : Jvm.MethodName) ({ cls := "java/lang/Character", name := "compareTo", desc := "(Ljava/lang/Character;)I" } : Jvm.MethodName)) ∈ lw_all := lw_g (lw_at lw_m3 166 rfl) rfl
theorem q704 : (Jvm.Cond.code ({ cls := "java/lang/Character", name := "compareTo", desc := "(Ljava/lang/Character;)I" } : Jvm.MethodName) prog_21_method_97_code (2 : Nat) (Option.some Jvm.ClassFile.FieldType.int)) ∈ lw_all := lw_g (lw_at lw_m3 167 rfl) rfl
theorem q705 : (Jvm.Cond.methodLink "java/lang/Character" (279 : Nat) ({ cls := "java/lang/Character", name := "compare", desc := "(CC)I" } : Jvm.MethodName)) ∈ lw_all := lw_g (lw_at lw_m3 168 rfl) rfl
theorem q706 : (Jvm.Cond.static ({ cls := "java/lang/Character", name := "compare", desc := "(CC)I" } : Jvm.MethodName)) ∈ lw_all := lw_g (lw_at lw_m3 169 rfl) rfl
theorem q707 : (Jvm.Cond.code ({ cls := "java/lang/Character", name := "compare", desc := "(CC)I" } : Jvm.MethodName) prog_21_method_98_code (2 : Nat) (Option.some Jvm.ClassFile.FieldType.int)) ∈ lw_all := lw_g (lw_at lw_m3 170 rfl) rfl
theorem q933 : (Jvm.Cond.selects "java/lang/Character" ({ cls := "java/lang/Object", name := "equals", desc := "(Ljava/lang/Object;)Z" } : Jvm.MethodName) ({ cls := "java/lang/Character", name := "equals", desc := "(Ljava/lang/Object;)Z" } : Jvm.MethodName)) ∈ lw_all := lw_g (lw_at lw_m4 156 rfl) rfl
theorem q934 : (Jvm.Cond.instanceMethod ({ cls := "java/lang/Character", name := "equals", desc := "(Ljava/lang/Object;)Z" } : Jvm.MethodName)) ∈ lw_all := lw_g (lw_at lw_m4 157 rfl) rfl
theorem q935 : (Jvm.Cond.code ({ cls := "java/lang/Character", name := "equals", desc := "(Ljava/lang/Object;)Z" } : Jvm.MethodName) prog_21_method_7_code (2 : Nat) (Option.some Jvm.ClassFile.FieldType.boolean)) ∈ lw_all := lw_g (lw_at lw_m4 158 rfl) rfl
theorem q936 : (Jvm.Cond.methodLink "java/lang/Character" (60 : Nat) ({ cls := "java/lang/Character", name := "charValue", desc := "()C" } : Jvm.MethodName)) ∈ lw_all := lw_g (lw_at lw_m4 159 rfl) rfl
theorem q937 : (Jvm.Cond.instanceMethod ({ cls := "java/lang/Character", name := "charValue", desc := "()C" } : Jvm.MethodName)) ∈ lw_all := lw_g (lw_at lw_m4 160 rfl) rfl
theorem q938 : (Jvm.Cond.selects "java/lang/Character" ({ cls := "java/lang/Character", name := "charValue", desc := "()C" } : Jvm.MethodName) ({ cls := "java/lang/Character", name := "charValue", desc := "()C" } : Jvm.MethodName)) ∈ lw_all := lw_g (lw_at lw_m4 161 rfl) rfl
theorem q939 : (Jvm.Cond.code ({ cls := "java/lang/Character", name := "charValue", desc := "()C" } : Jvm.MethodName) prog_21_method_4_code (1 : Nat) (Option.some Jvm.ClassFile.FieldType.char)) ∈ lw_all := lw_g (lw_at lw_m4 162 rfl) rfl
theorem q1729 : (Jvm.Cond.static ({ cls := "java/lang/Character", name := "isValidCodePoint", desc := "(I)Z" } : Jvm.MethodName)) ∈ lw_all := lw_g (lw_at lw_m7 232 rfl) rfl
theorem q1730 : (Jvm.Cond.code ({ cls := "java/lang/Character", name := "isValidCodePoint", desc := "(I)Z" } : Jvm.MethodName) prog_21_method_11_code (2 : Nat) (Option.some Jvm.ClassFile.FieldType.boolean)) ∈ lw_all := lw_g (lw_at lw_m7 233 rfl) rfl
theorem q1732 : (Jvm.Cond.static ({ cls := "java/lang/Character", name := "highSurrogate", desc := "(I)C" } : Jvm.MethodName)) ∈ lw_all := lw_g (lw_at lw_m7 235 rfl) rfl
theorem q1733 : (Jvm.Cond.code ({ cls := "java/lang/Character", name := "highSurrogate", desc := "(I)C" } : Jvm.MethodName) prog_21_method_28_code (1 : Nat) (Option.some Jvm.ClassFile.FieldType.char)) ∈ lw_all := lw_g (lw_at lw_m7 236 rfl) rfl
theorem q1734 : (Jvm.Cond.constant "java/lang/Character" (110 : Nat) (55232 : Int32)) ∈ lw_all := lw_g (lw_at lw_m7 237 rfl) rfl
theorem q1736 : (Jvm.Cond.static ({ cls := "java/lang/Character", name := "lowSurrogate", desc := "(I)C" } : Jvm.MethodName)) ∈ lw_all := lw_g (lw_at lw_m7 239 rfl) rfl
theorem q1737 : (Jvm.Cond.code ({ cls := "java/lang/Character", name := "lowSurrogate", desc := "(I)C" } : Jvm.MethodName) prog_21_method_29_code (1 : Nat) (Option.some Jvm.ClassFile.FieldType.char)) ∈ lw_all := lw_g (lw_at lw_m8 0 rfl) rfl
theorem q1738 : (Jvm.Cond.constant "java/lang/Character" (76 : Nat) (56320 : Int32)) ∈ lw_all := lw_g (lw_at lw_m8 1 rfl) rfl
theorem q2747 : (Jvm.Cond.castable "java/lang/Character" "java/lang/Object") ∈ lw_tbl := lw_at lw_m12 50 rfl
theorem q83 : (Jvm.Cond.initialized "java/lang/Long") ∈ lw_all := lw_g (lw_at lw_m1 26 rfl) rfl
theorem q808 : (Jvm.Cond.static ({ cls := "java/lang/Long", name := "numberOfLeadingZeros", desc := "(J)I" } : Jvm.MethodName)) ∈ lw_all := lw_g (lw_at lw_m4 31 rfl) rfl
theorem q809 : (Jvm.Cond.code ({ cls := "java/lang/Long", name := "numberOfLeadingZeros", desc := "(J)I" } : Jvm.MethodName) prog_32_method_48_code (3 : Nat) (Option.some Jvm.ClassFile.FieldType.int)) ∈ lw_all := lw_g (lw_at lw_m4 32 rfl) rfl
theorem q810 : (Jvm.Cond.methodLink "java/lang/Long" (308 : Nat) ({ cls := "java/lang/Integer", name := "numberOfLeadingZeros", desc := "(I)I" } : Jvm.MethodName)) ∈ lw_all := lw_g (lw_at lw_m4 33 rfl) rfl
theorem q817 : (Jvm.Cond.static ({ cls := "java/lang/Long", name := "numberOfTrailingZeros", desc := "(J)I" } : Jvm.MethodName)) ∈ lw_all := lw_g (lw_at lw_m4 40 rfl) rfl
theorem q818 : (Jvm.Cond.code ({ cls := "java/lang/Long", name := "numberOfTrailingZeros", desc := "(J)I" } : Jvm.MethodName) prog_32_method_49_code (3 : Nat) (Option.some Jvm.ClassFile.FieldType.int)) ∈ lw_all := lw_g (lw_at lw_m4 41 rfl) rfl
theorem q819 : (Jvm.Cond.methodLink "java/lang/Long" (311 : Nat) ({ cls := "java/lang/Integer", name := "numberOfTrailingZeros", desc := "(I)I" } : Jvm.MethodName)) ∈ lw_all := lw_g (lw_at lw_m4 42 rfl) rfl
theorem q84 : (Jvm.Cond.initialized "java/util/LinkedHashMap$Entry") ∈ lw_all := lw_g (lw_at lw_m1 27 rfl) rfl
theorem q982 : (Jvm.Cond.instanceMethod ({ cls := "java/util/LinkedHashMap$Entry", name := "<init>", desc := "(ILjava/lang/Object;Ljava/lang/Object;Ljava/util/HashMap$Node;)V" } : Jvm.MethodName)) ∈ lw_all := lw_g (lw_at lw_m4 205 rfl) rfl
theorem q983 : (Jvm.Cond.code ({ cls := "java/util/LinkedHashMap$Entry", name := "<init>", desc := "(ILjava/lang/Object;Ljava/lang/Object;Ljava/util/HashMap$Node;)V" } : Jvm.MethodName) prog_56_method_1_code (5 : Nat) (Option.none : Option Jvm.ClassFile.FieldType)) ∈ lw_all := lw_g (lw_at lw_m4 206 rfl) rfl
theorem q984 : (Jvm.Cond.methodLink "java/util/LinkedHashMap$Entry" (1 : Nat) ({ cls := "java/util/HashMap$Node", name := "<init>", desc := "(ILjava/lang/Object;Ljava/lang/Object;Ljava/util/HashMap$Node;)V" } : Jvm.MethodName)) ∈ lw_all := lw_g (lw_at lw_m4 207 rfl) rfl
theorem q1002 : (Jvm.Cond.soleField "java/util/LinkedHashMap$Entry" "before") ∈ lw_all := lw_g (lw_at lw_m4 225 rfl) rfl
theorem q1004 : (Jvm.Cond.soleField "java/util/LinkedHashMap$Entry" "after") ∈ lw_all := lw_g (lw_at lw_m4 227 rfl) rfl
theorem q85 : (Jvm.Cond.initialized "java/util/HashMap$TreeNode") ∈ lw_all := lw_g (lw_at lw_m1 28 rfl) rfl
theorem q608 : (Jvm.Cond.instanceMethod ({ cls := "java/util/HashMap$TreeNode", name := "split", desc := "(Ljava/util/HashMap;[Ljava/util/HashMap$Node;II)V" } : Jvm.MethodName)) ∈ lw_all := lw_g (lw_at lw_m3 71 rfl) rfl
theorem q609 : (Jvm.Cond.selects "java/util/HashMap$TreeNode" ({ cls := "java/util/HashMap$TreeNode", name := "split", desc := "(Ljava/util/HashMap;[Ljava/util/HashMap$Node;II)V" } : Jvm.MethodName) ({ cls := "java/util/HashMap$TreeNode", name := "split", desc := "(Ljava/util/HashMap;[Ljava/util/HashMap$Node;II)V" } : Jvm.MethodName)) ∈ lw_all := lw_g (lw_at lw_m3 72 rfl) rfl
theorem q610 : (Jvm.Cond.code ({ cls := "java/util/HashMap$TreeNode", name := "split", desc := "(Ljava/util/HashMap;[Ljava/util/HashMap$Node;II)V" } : Jvm.MethodName) prog_55_method_11_code (14 : Nat) (Option.none : Option Jvm.ClassFile.FieldType)) ∈ lw_all := lw_g (lw_at lw_m3 73 rfl) rfl
theorem q611 : (Jvm.Cond.classLink "java/util/HashMap$TreeNode" (10 : Nat) "java/util/HashMap$TreeNode") ∈ lw_all := lw_g (lw_at lw_m3 74 rfl) rfl
theorem q612 : (Jvm.Cond.methodLink "java/util/HashMap$TreeNode" (119 : Nat) ({ cls := "java/util/HashMap$TreeNode", name := "untreeify", desc := "(Ljava/util/HashMap;)Ljava/util/HashMap$Node;" } : Jvm.MethodName)) ∈ lw_all := lw_g (lw_at lw_m3 75 rfl) rfl
theorem q613 : (Jvm.Cond.instanceMethod ({ cls := "java/util/HashMap$TreeNode", name := "untreeify", desc := "(Ljava/util/HashMap;)Ljava/util/HashMap$Node;" } : Jvm.MethodName)) ∈ lw_all := lw_g (lw_at lw_m3 76 rfl) rfl
theorem q614 : (Jvm.Cond.selects "java/util/HashMap$TreeNode" ({ cls := "java/util/HashMap$TreeNode", name := "untreeify", desc := "(Ljava/util/HashMap;)Ljava/util/HashMap$Node;" } : Jvm.MethodName) ({ cls := "java/util/HashMap$TreeNode", name := "untreeify", desc := "(Ljava/util/HashMap;)Ljava/util/HashMap$Node;" } : Jvm.MethodName)) ∈ lw_all := lw_g (lw_at lw_m3 77 rfl) rfl
theorem q615 : (Jvm.Cond.code ({ cls := "java/util/HashMap$TreeNode", name := "untreeify", desc := "(Ljava/util/HashMap;)Ljava/util/HashMap$Node;" } : Jvm.MethodName) prog_55_method_8_code (6 : Nat) (Option.some (Jvm.ClassFile.FieldType.object "java/util/HashMap$Node"))) ∈ lw_all := lw_g (lw_at lw_m3 78 rfl) rfl
theorem q616 : (Jvm.Cond.methodLink "java/util/HashMap$TreeNode" (108 : Nat) ({ cls := "java/util/HashMap", name := "replacementNode", desc := "(Ljava/util/HashMap$Node;Ljava/util/HashMap$Node;)Ljava/util/HashMap$Node;" } : Jvm.MethodName)) ∈ lw_all := lw_g (lw_at lw_m3 79 rfl) rfl
theorem q626 : (Jvm.Cond.fieldLink "java/util/HashMap$TreeNode" (15 : Nat) "java/util/HashMap$TreeNode" "hash" "I") ∈ lw_all := lw_g (lw_at lw_m3 89 rfl) rfl
theorem q627 : (Jvm.Cond.sameField "java/util/HashMap$TreeNode" "java/util/HashMap$Node" "hash" "I") ∈ lw_all := lw_g (lw_at lw_m3 90 rfl) rfl
theorem q630 : (Jvm.Cond.fieldLink "java/util/HashMap$TreeNode" (45 : Nat) "java/util/HashMap$TreeNode" "key" "Ljava/lang/Object;") ∈ lw_all := lw_g (lw_at lw_m3 93 rfl) rfl
theorem q631 : (Jvm.Cond.sameField "java/util/HashMap$TreeNode" "java/util/HashMap$Node" "key" "Ljava/lang/Object;") ∈ lw_all := lw_g (lw_at lw_m3 94 rfl) rfl
theorem q636 : (Jvm.Cond.fieldLink "java/util/HashMap$TreeNode" (22 : Nat) "java/util/HashMap$TreeNode" "next" "Ljava/util/HashMap$Node;") ∈ lw_all := lw_g (lw_at lw_m3 99 rfl) rfl
theorem q637 : (Jvm.Cond.sameField "java/util/HashMap$TreeNode" "java/util/HashMap$Node" "next" "Ljava/util/HashMap$Node;") ∈ lw_all := lw_g (lw_at lw_m3 100 rfl) rfl
theorem q638 : (Jvm.Cond.fieldLink "java/util/HashMap$TreeNode" (112 : Nat) "java/util/HashMap$Node" "next" "Ljava/util/HashMap$Node;") ∈ lw_all := lw_g (lw_at lw_m3 101 rfl) rfl
theorem q650 : (Jvm.Cond.methodLink "java/util/HashMap$TreeNode" (126 : Nat) ({ cls := "java/util/HashMap$TreeNode", name := "treeify", desc := "([Ljava/util/HashMap$Node;)V" } : Jvm.MethodName)) ∈ lw_all := lw_g (lw_at lw_m3 113 rfl) rfl
theorem q651 : (Jvm.Cond.instanceMethod ({ cls := "java/util/HashMap$TreeNode", name := "treeify", desc := "([Ljava/util/HashMap$Node;)V" } : Jvm.MethodName)) ∈ lw_all := lw_g (lw_at lw_m3 114 rfl) rfl
theorem q652 : (Jvm.Cond.selects "java/util/HashMap$TreeNode" ({ cls := "java/util/HashMap$TreeNode", name := "treeify", desc := "([Ljava/util/HashMap$Node;)V" } : Jvm.MethodName) ({ cls := "java/util/HashMap$TreeNode", name := "treeify", desc := "([Ljava/util/HashMap$Node;)V" } : Jvm.MethodName)) ∈ lw_all := lw_g (lw_at lw_m3 115 rfl) rfl
theorem q653 : (Jvm.Cond.code ({ cls := "java/util/HashMap$TreeNode", name := "treeify", desc := "([Ljava/util/HashMap$Node;)V" } : Jvm.MethodName) prog_55_method_7_code (13 : Nat) (Option.none : Option Jvm.ClassFile.FieldType)) ∈ lw_all := lw_g (lw_at lw_m3 116 rfl) rfl
theorem q654 : (Jvm.Cond.methodLink "java/util/HashMap$TreeNode" (55 : Nat) ({ cls := "java/util/HashMap", name := "comparableClassFor", desc := "(Ljava/lang/Object;)Ljava/lang/Class;" } : Jvm.MethodName)) ∈ lw_all := lw_g (lw_at lw_m3 117 rfl) rfl
theorem q684 : (Jvm.Cond.selects "java/util/HashMap$TreeNode" ({ cls := "java/lang/Object", name := "getClass", desc := "()Ljava/lang/Class;" } : Jvm.MethodName) ({ cls := "java/lang/Object", name := "getClass", desc := "()Ljava/lang/Class;" } : Jvm.MethodName)) ∈ lw_all := lw_g (lw_at lw_m3 147 rfl) rfl
theorem q688 : (Jvm.Cond.methodLink "java/util/HashMap$TreeNode" (59 : Nat) ({ cls := "java/util/HashMap", name := "compareComparables", desc := "(Ljava/lang/Class;Ljava/lang/Object;Ljava/lang/Object;)I" } : Jvm.MethodName)) ∈ lw_all := lw_g (lw_at lw_m3 151 rfl) rfl
theorem q900 : (Jvm.Cond.methodLink "java/util/HashMap$TreeNode" (100 : Nat) ({ cls := "java/util/HashMap$TreeNode", name := "balanceInsertion", desc := "(Ljava/util/HashMap$TreeNode;Ljava/util/HashMap$TreeNode;)Ljava/util/HashMap$TreeNode;" } : Jvm.MethodName)) ∈ lw_all := lw_g (lw_at lw_m4 123 rfl) rfl
theorem q901 : (Jvm.Cond.static ({ cls := "java/util/HashMap$TreeNode", name := "balanceInsertion", desc := "(Ljava/util/HashMap$TreeNode;Ljava/util/HashMap$TreeNode;)Ljava/util/HashMap$TreeNode;" } : Jvm.MethodName)) ∈ lw_all := lw_g (lw_at lw_m4 124 rfl) rfl
theorem q902 : (Jvm.Cond.code ({ cls := "java/util/HashMap$TreeNode", name := "balanceInsertion", desc := "(Ljava/util/HashMap$TreeNode;Ljava/util/HashMap$TreeNode;)Ljava/util/HashMap$TreeNode;" } : Jvm.MethodName) prog_55_method_14_code (6 : Nat) (Option.some (Jvm.ClassFile.FieldType.object "java/util/HashMap$TreeNode"))) ∈ lw_all := lw_g (lw_at lw_m4 125 rfl) rfl
theorem q903 : (Jvm.Cond.methodLink "java/util/HashMap$TreeNode" (130 : Nat) ({ cls := "java/util/HashMap$TreeNode", name := "rotateLeft", desc := "(Ljava/util/HashMap$TreeNode;Ljava/util/HashMap$TreeNode;)Ljava/util/HashMap$TreeNode;" } : Jvm.MethodName)) ∈ lw_all := lw_g (lw_at lw_m4 126 rfl) rfl
theorem q904 : (Jvm.Cond.static ({ cls := "java/util/HashMap$TreeNode", name := "rotateLeft", desc := "(Ljava/util/HashMap$TreeNode;Ljava/util/HashMap$TreeNode;)Ljava/util/HashMap$TreeNode;" } : Jvm.MethodName)) ∈ lw_all := lw_g (lw_at lw_m4 127 rfl) rfl
theorem q905 : (Jvm.Cond.code ({ cls := "java/util/HashMap$TreeNode", name := "rotateLeft", desc := "(Ljava/util/HashMap$TreeNode;Ljava/util/HashMap$TreeNode;)Ljava/util/HashMap$TreeNode;" } : Jvm.MethodName) prog_55_method_12_code (5 : Nat) (Option.some (Jvm.ClassFile.FieldType.object "java/util/HashMap$TreeNode"))) ∈ lw_all := lw_g (lw_at lw_m4 128 rfl) rfl
theorem q906 : (Jvm.Cond.methodLink "java/util/HashMap$TreeNode" (133 : Nat) ({ cls := "java/util/HashMap$TreeNode", name := "rotateRight", desc := "(Ljava/util/HashMap$TreeNode;Ljava/util/HashMap$TreeNode;)Ljava/util/HashMap$TreeNode;" } : Jvm.MethodName)) ∈ lw_all := lw_g (lw_at lw_m4 129 rfl) rfl
theorem q907 : (Jvm.Cond.static ({ cls := "java/util/HashMap$TreeNode", name := "rotateRight", desc := "(Ljava/util/HashMap$TreeNode;Ljava/util/HashMap$TreeNode;)Ljava/util/HashMap$TreeNode;" } : Jvm.MethodName)) ∈ lw_all := lw_g (lw_at lw_m4 130 rfl) rfl
theorem q908 : (Jvm.Cond.code ({ cls := "java/util/HashMap$TreeNode", name := "rotateRight", desc := "(Ljava/util/HashMap$TreeNode;Ljava/util/HashMap$TreeNode;)Ljava/util/HashMap$TreeNode;" } : Jvm.MethodName) prog_55_method_13_code (5 : Nat) (Option.some (Jvm.ClassFile.FieldType.object "java/util/HashMap$TreeNode"))) ∈ lw_all := lw_g (lw_at lw_m4 131 rfl) rfl
theorem q909 : (Jvm.Cond.methodLink "java/util/HashMap$TreeNode" (104 : Nat) ({ cls := "java/util/HashMap$TreeNode", name := "moveRootToFront", desc := "([Ljava/util/HashMap$Node;Ljava/util/HashMap$TreeNode;)V" } : Jvm.MethodName)) ∈ lw_all := lw_g (lw_at lw_m4 132 rfl) rfl
theorem q910 : (Jvm.Cond.static ({ cls := "java/util/HashMap$TreeNode", name := "moveRootToFront", desc := "([Ljava/util/HashMap$Node;Ljava/util/HashMap$TreeNode;)V" } : Jvm.MethodName)) ∈ lw_all := lw_g (lw_at lw_m4 133 rfl) rfl
theorem q911 : (Jvm.Cond.code ({ cls := "java/util/HashMap$TreeNode", name := "moveRootToFront", desc := "([Ljava/util/HashMap$Node;Ljava/util/HashMap$TreeNode;)V" } : Jvm.MethodName) prog_55_method_3_code (7 : Nat) (Option.none : Option Jvm.ClassFile.FieldType)) ∈ lw_all := lw_g (lw_at lw_m4 134 rfl) rfl
theorem q912 : (Jvm.Cond.fieldLink "java/util/HashMap$TreeNode" (26 : Nat) "java/util/HashMap$TreeNode" "$assertionsDisabled" "Z") ∈ lw_all := lw_g (lw_at lw_m4 135 rfl) rfl
theorem q913 : (Jvm.Cond.laysStatic "java/util/HashMap$TreeNode" "$assertionsDisabled" "Z") ∈ lw_tbl := lw_at lw_m4 136 rfl
theorem q961 : (Jvm.Cond.instanceMethod ({ cls := "java/util/HashMap$TreeNode", name := "putTreeVal", desc := "(Ljava/util/HashMap;[Ljava/util/HashMap$Node;ILjava/lang/Object;Ljava/lang/Object;)Ljava/util/HashMap$TreeNode;" } : Jvm.MethodName)) ∈ lw_all := lw_g (lw_at lw_m4 184 rfl) rfl
theorem q962 : (Jvm.Cond.selects "java/util/HashMap$TreeNode" ({ cls := "java/util/HashMap$TreeNode", name := "putTreeVal", desc := "(Ljava/util/HashMap;[Ljava/util/HashMap$Node;ILjava/lang/Object;Ljava/lang/Object;)Ljava/util/HashMap$TreeNode;" } : Jvm.MethodName) ({ cls := "java/util/HashMap$TreeNode", name := "putTreeVal", desc := "(Ljava/util/HashMap;[Ljava/util/HashMap$Node;ILjava/lang/Object;Ljava/lang/Object;)Ljava/util/HashMap$TreeNode;" } : Jvm.MethodName)) ∈ lw_all := lw_g (lw_at lw_m4 185 rfl) rfl
theorem q963 : (Jvm.Cond.code ({ cls := "java/util/HashMap$TreeNode", name := "putTreeVal", desc := "(Ljava/util/HashMap;[Ljava/util/HashMap$Node;ILjava/lang/Object;Ljava/lang/Object;)Ljava/util/HashMap$TreeNode;" } : Jvm.MethodName) prog_55_method_9_code (16 : Nat) (Option.some (Jvm.ClassFile.FieldType.object "java/util/HashMap$TreeNode"))) ∈ lw_all := lw_g (lw_at lw_m4 186 rfl) rfl
theorem q964 : (Jvm.Cond.methodLink "java/util/HashMap$TreeNode" (67 : Nat) ({ cls := "java/util/HashMap$TreeNode", name := "root", desc := "()Ljava/util/HashMap$TreeNode;" } : Jvm.MethodName)) ∈ lw_all := lw_g (lw_at lw_m4 187 rfl) rfl
theorem q965 : (Jvm.Cond.instanceMethod ({ cls := "java/util/HashMap$TreeNode", name := "root", desc := "()Ljava/util/HashMap$TreeNode;" } : Jvm.MethodName)) ∈ lw_all := lw_g (lw_at lw_m4 188 rfl) rfl
theorem q966 : (Jvm.Cond.selects "java/util/HashMap$TreeNode" ({ cls := "java/util/HashMap$TreeNode", name := "root", desc := "()Ljava/util/HashMap$TreeNode;" } : Jvm.MethodName) ({ cls := "java/util/HashMap$TreeNode", name := "root", desc := "()Ljava/util/HashMap$TreeNode;" } : Jvm.MethodName)) ∈ lw_all := lw_g (lw_at lw_m4 189 rfl) rfl
theorem q967 : (Jvm.Cond.code ({ cls := "java/util/HashMap$TreeNode", name := "root", desc := "()Ljava/util/HashMap$TreeNode;" } : Jvm.MethodName) prog_55_method_2_code (3 : Nat) (Option.some (Jvm.ClassFile.FieldType.object "java/util/HashMap$TreeNode"))) ∈ lw_all := lw_g (lw_at lw_m4 190 rfl) rfl
theorem q968 : (Jvm.Cond.methodLink "java/util/HashMap$TreeNode" (49 : Nat) ({ cls := "java/lang/Object", name := "equals", desc := "(Ljava/lang/Object;)Z" } : Jvm.MethodName)) ∈ lw_all := lw_g (lw_at lw_m4 191 rfl) rfl
theorem q969 : (Jvm.Cond.methodLink "java/util/HashMap$TreeNode" (63 : Nat) ({ cls := "java/util/HashMap$TreeNode", name := "find", desc := "(ILjava/lang/Object;Ljava/lang/Class;)Ljava/util/HashMap$TreeNode;" } : Jvm.MethodName)) ∈ lw_all := lw_g (lw_at lw_m4 192 rfl) rfl
theorem q970 : (Jvm.Cond.instanceMethod ({ cls := "java/util/HashMap$TreeNode", name := "find", desc := "(ILjava/lang/Object;Ljava/lang/Class;)Ljava/util/HashMap$TreeNode;" } : Jvm.MethodName)) ∈ lw_all := lw_g (lw_at lw_m4 193 rfl) rfl
theorem q971 : (Jvm.Cond.selects "java/util/HashMap$TreeNode" ({ cls := "java/util/HashMap$TreeNode", name := "find", desc := "(ILjava/lang/Object;Ljava/lang/Class;)Ljava/util/HashMap$TreeNode;" } : Jvm.MethodName) ({ cls := "java/util/HashMap$TreeNode", name := "find", desc := "(ILjava/lang/Object;Ljava/lang/Class;)Ljava/util/HashMap$TreeNode;" } : Jvm.MethodName)) ∈ lw_all := lw_g (lw_at lw_m4 194 rfl) rfl
theorem q972 : (Jvm.Cond.code ({ cls := "java/util/HashMap$TreeNode", name := "find", desc := "(ILjava/lang/Object;Ljava/lang/Class;)Ljava/util/HashMap$TreeNode;" } : Jvm.MethodName) prog_55_method_4_code (11 : Nat) (Option.some (Jvm.ClassFile.FieldType.object "java/util/HashMap$TreeNode"))) ∈ lw_all := lw_g (lw_at lw_m4 195 rfl) rfl
theorem q973 : (Jvm.Cond.methodLink "java/util/HashMap$TreeNode" (115 : Nat) ({ cls := "java/util/HashMap", name := "newTreeNode", desc := "(ILjava/lang/Object;Ljava/lang/Object;Ljava/util/HashMap$Node;)Ljava/util/HashMap$TreeNode;" } : Jvm.MethodName)) ∈ lw_all := lw_g (lw_at lw_m4 196 rfl) rfl
theorem q977 : (Jvm.Cond.instantiable "java/util/HashMap$TreeNode" (11 : Nat)) ∈ lw_all := lw_g (lw_at lw_m4 200 rfl) rfl
theorem q979 : (Jvm.Cond.instanceMethod ({ cls := "java/util/HashMap$TreeNode", name := "<init>", desc := "(ILjava/lang/Object;Ljava/lang/Object;Ljava/util/HashMap$Node;)V" } : Jvm.MethodName)) ∈ lw_all := lw_g (lw_at lw_m4 202 rfl) rfl
theorem q980 : (Jvm.Cond.code ({ cls := "java/util/HashMap$TreeNode", name := "<init>", desc := "(ILjava/lang/Object;Ljava/lang/Object;Ljava/util/HashMap$Node;)V" } : Jvm.MethodName) prog_55_method_1_code (5 : Nat) (Option.none : Option Jvm.ClassFile.FieldType)) ∈ lw_all := lw_g (lw_at lw_m4 203 rfl) rfl
theorem q981 : (Jvm.Cond.methodLink "java/util/HashMap$TreeNode" (3 : Nat) ({ cls := "java/util/LinkedHashMap$Entry", name := "<init>", desc := "(ILjava/lang/Object;Ljava/lang/Object;Ljava/util/HashMap$Node;)V" } : Jvm.MethodName)) ∈ lw_all := lw_g (lw_at lw_m4 204 rfl) rfl
theorem q985 : (Jvm.Cond.fieldLink "java/util/HashMap$TreeNode" (9 : Nat) "java/util/HashMap$TreeNode" "parent" "Ljava/util/HashMap$TreeNode;") ∈ lw_all := lw_g (lw_at lw_m4 208 rfl) rfl
theorem q986 : (Jvm.Cond.fieldLink "java/util/HashMap$TreeNode" (39 : Nat) "java/util/HashMap$TreeNode" "left" "Ljava/util/HashMap$TreeNode;") ∈ lw_all := lw_g (lw_at lw_m4 209 rfl) rfl
theorem q987 : (Jvm.Cond.fieldLink "java/util/HashMap$TreeNode" (42 : Nat) "java/util/HashMap$TreeNode" "right" "Ljava/util/HashMap$TreeNode;") ∈ lw_all := lw_g (lw_at lw_m4 210 rfl) rfl
theorem q988 : (Jvm.Cond.fieldLink "java/util/HashMap$TreeNode" (19 : Nat) "java/util/HashMap$TreeNode" "prev" "Ljava/util/HashMap$TreeNode;") ∈ lw_all := lw_g (lw_at lw_m4 211 rfl) rfl
theorem q990 : (Jvm.Cond.fieldLink "java/util/HashMap$TreeNode" (93 : Nat) "java/util/HashMap$TreeNode" "red" "Z") ∈ lw_all := lw_g (lw_at lw_m4 213 rfl) rfl
theorem q991 : (Jvm.Cond.lays "java/util/HashMap$TreeNode" "java/util/HashMap$TreeNode" "parent" "Ljava/util/HashMap$TreeNode;") ∈ lw_all := lw_g (lw_at lw_m4 214 rfl) rfl
theorem q992 : (Jvm.Cond.soleField "java/util/HashMap$TreeNode" "parent") ∈ lw_all := lw_g (lw_at lw_m4 215 rfl) rfl
theorem q993 : (Jvm.Cond.lays "java/util/HashMap$TreeNode" "java/util/HashMap$TreeNode" "left" "Ljava/util/HashMap$TreeNode;") ∈ lw_all := lw_g (lw_at lw_m4 216 rfl) rfl
theorem q994 : (Jvm.Cond.soleField "java/util/HashMap$TreeNode" "left") ∈ lw_all := lw_g (lw_at lw_m4 217 rfl) rfl
theorem q995 : (Jvm.Cond.lays "java/util/HashMap$TreeNode" "java/util/HashMap$TreeNode" "right" "Ljava/util/HashMap$TreeNode;") ∈ lw_all := lw_g (lw_at lw_m4 218 rfl) rfl
theorem q996 : (Jvm.Cond.soleField "java/util/HashMap$TreeNode" "right") ∈ lw_all := lw_g (lw_at lw_m4 219 rfl) rfl
theorem q997 : (Jvm.Cond.lays "java/util/HashMap$TreeNode" "java/util/HashMap$TreeNode" "prev" "Ljava/util/HashMap$TreeNode;") ∈ lw_all := lw_g (lw_at lw_m4 220 rfl) rfl
theorem q998 : (Jvm.Cond.soleField "java/util/HashMap$TreeNode" "prev") ∈ lw_all := lw_g (lw_at lw_m4 221 rfl) rfl
theorem q999 : (Jvm.Cond.lays "java/util/HashMap$TreeNode" "java/util/HashMap$TreeNode" "red" "Z") ∈ lw_all := lw_g (lw_at lw_m4 222 rfl) rfl
theorem q1000 : (Jvm.Cond.soleField "java/util/HashMap$TreeNode" "red") ∈ lw_all := lw_g (lw_at lw_m4 223 rfl) rfl
theorem q1001 : (Jvm.Cond.lays "java/util/HashMap$TreeNode" "java/util/LinkedHashMap$Entry" "before" "Ljava/util/LinkedHashMap$Entry;") ∈ lw_all := lw_g (lw_at lw_m4 224 rfl) rfl
theorem q1003 : (Jvm.Cond.lays "java/util/HashMap$TreeNode" "java/util/LinkedHashMap$Entry" "after" "Ljava/util/LinkedHashMap$Entry;") ∈ lw_all := lw_g (lw_at lw_m4 226 rfl) rfl
theorem q1005 : (Jvm.Cond.laysFinal "java/util/HashMap$TreeNode" "java/util/HashMap$Node" "hash" "I") ∈ lw_all := lw_g (lw_at lw_m4 228 rfl) rfl
theorem q1006 : (Jvm.Cond.laysFinal "java/util/HashMap$TreeNode" "java/util/HashMap$Node" "key" "Ljava/lang/Object;") ∈ lw_all := lw_g (lw_at lw_m4 229 rfl) rfl
theorem q1007 : (Jvm.Cond.lays "java/util/HashMap$TreeNode" "java/util/HashMap$Node" "value" "Ljava/lang/Object;") ∈ lw_all := lw_g (lw_at lw_m4 230 rfl) rfl
theorem q1008 : (Jvm.Cond.lays "java/util/HashMap$TreeNode" "java/util/HashMap$Node" "next" "Ljava/util/HashMap$Node;") ∈ lw_all := lw_g (lw_at lw_m4 231 rfl) rfl
theorem q1009 : (Jvm.Cond.superclass "java/util/HashMap$TreeNode" "java/util/LinkedHashMap$Entry") ∈ lw_all := lw_g (lw_at lw_m4 232 rfl) rfl
theorem q1653 : (Jvm.Cond.instanceMethod ({ cls := "java/util/HashMap$TreeNode", name := "getTreeNode", desc := "(ILjava/lang/Object;)Ljava/util/HashMap$TreeNode;" } : Jvm.MethodName)) ∈ lw_all := lw_g (lw_at lw_m7 156 rfl) rfl
theorem q1654 : (Jvm.Cond.selects "java/util/HashMap$TreeNode" ({ cls := "java/util/HashMap$TreeNode", name := "getTreeNode", desc := "(ILjava/lang/Object;)Ljava/util/HashMap$TreeNode;" } : Jvm.MethodName) ({ cls := "java/util/HashMap$TreeNode", name := "getTreeNode", desc := "(ILjava/lang/Object;)Ljava/util/HashMap$TreeNode;" } : Jvm.MethodName)) ∈ lw_all := lw_g (lw_at lw_m7 157 rfl) rfl
theorem q1655 : (Jvm.Cond.code ({ cls := "java/util/HashMap$TreeNode", name := "getTreeNode", desc := "(ILjava/lang/Object;)Ljava/util/HashMap$TreeNode;" } : Jvm.MethodName) prog_55_method_5_code (3 : Nat) (Option.some (Jvm.ClassFile.FieldType.object "java/util/HashMap$TreeNode"))) ∈ lw_all := lw_g (lw_at lw_m7 158 rfl) rfl
theorem q2749 : (Jvm.Cond.castable "java/util/HashMap$TreeNode" "java/lang/Object") ∈ lw_tbl := lw_at lw_m12 52 rfl
theorem q2768 : (Jvm.Cond.castable "java/util/HashMap$TreeNode" "java/util/HashMap$Node") ∈ lw_tbl := lw_at lw_m12 71 rfl
abbrev cJ23_checkIndex : ByteArray := prog_60_method_17_code
def yJ23_checkIndex : MethodName := ⟨RJ23, "checkIndex", "(II)I"⟩
def dkwJ23_checkIndex_0 : List UInt8 := [26, 27, 1, 184, 0, 105, 172]
abbrev dktJ23_checkIndex_0 : List UInt8 := dkwJ23_checkIndex_0 ++ []
theorem dksJ23_checkIndex_0 : cJ23_checkIndex.data.toList.drop 0 = dktJ23_checkIndex_0 := by decide +kernel
theorem dJ23_checkIndex_0 : decode cJ23_checkIndex 0 = .ok (.iload_n 0, 1) := dk_26 (dk_at dksJ23_checkIndex_0 0 rfl rfl)
theorem dJ23_checkIndex_1 : decode cJ23_checkIndex 1 = .ok (.iload_n 1, 1) := dk_27 (dk_at dksJ23_checkIndex_0 1 rfl rfl)
theorem dJ23_checkIndex_2 : decode cJ23_checkIndex 2 = .ok (.aconst_null, 1) := dk_1 (dk_at dksJ23_checkIndex_0 2 rfl rfl)
theorem dJ23_checkIndex_3 : decode cJ23_checkIndex 3 = .ok (.invokestatic 105, 3) := dk_184 0 105 (dk_at dksJ23_checkIndex_0 3 rfl rfl)
theorem dJ23_checkIndex_6 : decode cJ23_checkIndex 6 = .ok (.ireturn, 1) := dk_172 (dk_at dksJ23_checkIndex_0 6 rfl rfl)
theorem q87 : (Jvm.Cond.initialized "java/util/Objects") ∈ lw_all := lw_g (lw_at lw_m1 30 rfl) rfl
theorem q1109 : (Jvm.Cond.static ({ cls := "java/util/Objects", name := "checkIndex", desc := "(II)I" } : Jvm.MethodName)) ∈ lw_all := lw_g (lw_at lw_m5 92 rfl) rfl
theorem q1110 : (Jvm.Cond.code ({ cls := "java/util/Objects", name := "checkIndex", desc := "(II)I" } : Jvm.MethodName) prog_60_method_17_code (2 : Nat) (Option.some Jvm.ClassFile.FieldType.int)) ∈ lw_all := lw_g (lw_at lw_m5 93 rfl) rfl
theorem q1111 : (Jvm.Cond.methodLink "java/util/Objects" (105 : Nat) ({ cls := "jdk/internal/util/Preconditions", name := "checkIndex", desc := "(IILjava/util/function/BiFunction;)I" } : Jvm.MethodName)) ∈ lw_all := lw_g (lw_at lw_m5 94 rfl) rfl
abbrev cJ24_init : ByteArray := prog_45_method_1_code
def yJ24_init : MethodName := ⟨RJ24, "<init>", "()V"⟩
theorem dJ24_init_0 : decode cJ24_init 0 = .ok (.aload_n 0, 1) := by decide +kernel
theorem dJ24_init_1 : decode cJ24_init 1 = .ok (.invokespecial 1, 3) := by decide +kernel
theorem dJ24_init_4 : decode cJ24_init 4 = .ok (.return_, 1) := by decide +kernel
theorem q90 : (Jvm.Cond.initialized "java/util/AbstractCollection") ∈ lw_all := lw_g (lw_at lw_m1 33 rfl) rfl
theorem q1170 : (Jvm.Cond.instanceMethod ({ cls := "java/util/AbstractCollection", name := "<init>", desc := "()V" } : Jvm.MethodName)) ∈ lw_all := lw_g (lw_at lw_m5 153 rfl) rfl
theorem q1171 : (Jvm.Cond.code ({ cls := "java/util/AbstractCollection", name := "<init>", desc := "()V" } : Jvm.MethodName) prog_45_method_1_code (1 : Nat) (Option.none : Option Jvm.ClassFile.FieldType)) ∈ lw_all := lw_g (lw_at lw_m5 154 rfl) rfl
theorem q1172 : (Jvm.Cond.methodLink "java/util/AbstractCollection" (1 : Nat) ({ cls := "java/lang/Object", name := "<init>", desc := "()V" } : Jvm.MethodName)) ∈ lw_all := lw_g (lw_at lw_m5 155 rfl) rfl
abbrev cJ25_init : ByteArray := prog_46_method_1_code
def yJ25_init : MethodName := ⟨RJ25, "<init>", "()V"⟩
def dkwJ25_init_0 : List UInt8 := [42, 183, 0, 1, 42, 3, 181, 0, 7, 177]
abbrev dktJ25_init_0 : List UInt8 := dkwJ25_init_0 ++ []
theorem dksJ25_init_0 : cJ25_init.data.toList.drop 0 = dktJ25_init_0 := by decide +kernel
theorem dJ25_init_0 : decode cJ25_init 0 = .ok (.aload_n 0, 1) := dk_42 (dk_at dksJ25_init_0 0 rfl rfl)
theorem dJ25_init_1 : decode cJ25_init 1 = .ok (.invokespecial 1, 3) := dk_183 0 1 (dk_at dksJ25_init_0 1 rfl rfl)
theorem dJ25_init_4 : decode cJ25_init 4 = .ok (.aload_n 0, 1) := dk_42 (dk_at dksJ25_init_0 4 rfl rfl)
theorem dJ25_init_5 : decode cJ25_init 5 = .ok (.iconst 0, 1) := dk_3 (dk_at dksJ25_init_0 5 rfl rfl)
theorem dJ25_init_6 : decode cJ25_init 6 = .ok (.putfield 7, 3) := dk_181 0 7 (dk_at dksJ25_init_0 6 rfl rfl)
theorem dJ25_init_9 : decode cJ25_init 9 = .ok (.return_, 1) := dk_177 (dk_at dksJ25_init_0 9 rfl rfl)
theorem q91 : (Jvm.Cond.initialized "java/util/AbstractList") ∈ lw_all := lw_g (lw_at lw_m1 34 rfl) rfl
theorem q1167 : (Jvm.Cond.instanceMethod ({ cls := "java/util/AbstractList", name := "<init>", desc := "()V" } : Jvm.MethodName)) ∈ lw_all := lw_g (lw_at lw_m5 150 rfl) rfl
theorem q1168 : (Jvm.Cond.code ({ cls := "java/util/AbstractList", name := "<init>", desc := "()V" } : Jvm.MethodName) prog_46_method_1_code (1 : Nat) (Option.none : Option Jvm.ClassFile.FieldType)) ∈ lw_all := lw_g (lw_at lw_m5 151 rfl) rfl
theorem q1169 : (Jvm.Cond.methodLink "java/util/AbstractList" (1 : Nat) ({ cls := "java/util/AbstractCollection", name := "<init>", desc := "()V" } : Jvm.MethodName)) ∈ lw_all := lw_g (lw_at lw_m5 152 rfl) rfl
theorem q1177 : (Jvm.Cond.fieldLink "java/util/AbstractList" (7 : Nat) "java/util/AbstractList" "modCount" "I") ∈ lw_all := lw_g (lw_at lw_m5 160 rfl) rfl
theorem q1185 : (Jvm.Cond.soleField "java/util/AbstractList" "modCount") ∈ lw_all := lw_g (lw_at lw_m5 168 rfl) rfl
abbrev cJ26_isEmpty : ByteArray := prog_49_method_9_code
def yJ26_isEmpty : MethodName := ⟨RJ26, "isEmpty", "()Z"⟩
def dkwJ26_isEmpty_0 : List UInt8 := [42, 180, 0, 48, 154, 0, 7, 4, 167, 0, 4, 3, 172]
abbrev dktJ26_isEmpty_0 : List UInt8 := dkwJ26_isEmpty_0 ++ []
theorem dksJ26_isEmpty_0 : cJ26_isEmpty.data.toList.drop 0 = dktJ26_isEmpty_0 := by decide +kernel
theorem dJ26_isEmpty_0 : decode cJ26_isEmpty 0 = .ok (.aload_n 0, 1) := dk_42 (dk_at dksJ26_isEmpty_0 0 rfl rfl)
theorem dJ26_isEmpty_1 : decode cJ26_isEmpty 1 = .ok (.getfield 48, 3) := dk_180 0 48 (dk_at dksJ26_isEmpty_0 1 rfl rfl)
theorem dJ26_isEmpty_4 : decode cJ26_isEmpty 4 = .ok (.ifCond .ne 7, 3) := dk_154 0 7 (dk_at dksJ26_isEmpty_0 4 rfl rfl)
theorem dJ26_isEmpty_7 : decode cJ26_isEmpty 7 = .ok (.iconst 1, 1) := dk_4 (dk_at dksJ26_isEmpty_0 7 rfl rfl)
theorem dJ26_isEmpty_8 : decode cJ26_isEmpty 8 = .ok (.goto 4, 3) := dk_167 0 4 (dk_at dksJ26_isEmpty_0 8 rfl rfl)
theorem dJ26_isEmpty_11 : decode cJ26_isEmpty 11 = .ok (.iconst 0, 1) := dk_3 (dk_at dksJ26_isEmpty_0 11 rfl rfl)
theorem dJ26_isEmpty_12 : decode cJ26_isEmpty 12 = .ok (.ireturn, 1) := dk_172 (dk_at dksJ26_isEmpty_0 12 rfl rfl)
abbrev cJ26_size : ByteArray := prog_49_method_8_code
def yJ26_size : MethodName := ⟨RJ26, "size", "()I"⟩
theorem dJ26_size_0 : decode cJ26_size 0 = .ok (.aload_n 0, 1) := by decide +kernel
theorem dJ26_size_1 : decode cJ26_size 1 = .ok (.getfield 48, 3) := by decide +kernel
theorem dJ26_size_4 : decode cJ26_size 4 = .ok (.ireturn, 1) := by decide +kernel
abbrev cJ26_get : ByteArray := prog_49_method_20_code
def yJ26_get : MethodName := ⟨RJ26, "get", "(I)Ljava/lang/Object;"⟩
def dkwJ26_get_0 : List UInt8 := [27, 42, 180, 0, 48, 184, 0, 118, 87, 42, 27, 182, 0, 123, 176]
abbrev dktJ26_get_0 : List UInt8 := dkwJ26_get_0 ++ []
theorem dksJ26_get_0 : cJ26_get.data.toList.drop 0 = dktJ26_get_0 := by decide +kernel
theorem dJ26_get_0 : decode cJ26_get 0 = .ok (.iload_n 1, 1) := dk_27 (dk_at dksJ26_get_0 0 rfl rfl)
theorem dJ26_get_1 : decode cJ26_get 1 = .ok (.aload_n 0, 1) := dk_42 (dk_at dksJ26_get_0 1 rfl rfl)
theorem dJ26_get_2 : decode cJ26_get 2 = .ok (.getfield 48, 3) := dk_180 0 48 (dk_at dksJ26_get_0 2 rfl rfl)
theorem dJ26_get_5 : decode cJ26_get 5 = .ok (.invokestatic 118, 3) := dk_184 0 118 (dk_at dksJ26_get_0 5 rfl rfl)
theorem dJ26_get_8 : decode cJ26_get 8 = .ok (.pop, 1) := dk_87 (dk_at dksJ26_get_0 8 rfl rfl)
theorem dJ26_get_9 : decode cJ26_get 9 = .ok (.aload_n 0, 1) := dk_42 (dk_at dksJ26_get_0 9 rfl rfl)
theorem dJ26_get_10 : decode cJ26_get 10 = .ok (.iload_n 1, 1) := dk_27 (dk_at dksJ26_get_0 10 rfl rfl)
theorem dJ26_get_11 : decode cJ26_get 11 = .ok (.invokevirtual 123, 3) := dk_182 0 123 (dk_at dksJ26_get_0 11 rfl rfl)
theorem dJ26_get_14 : decode cJ26_get 14 = .ok (.areturn, 1) := dk_176 (dk_at dksJ26_get_0 14 rfl rfl)
abbrev cJ26_elementData : ByteArray := prog_49_method_18_code
def yJ26_elementData : MethodName := ⟨RJ26, "elementData", "(I)Ljava/lang/Object;"⟩
def dkwJ26_elementData_0 : List UInt8 := [42, 180, 0, 9, 27, 50, 176]
abbrev dktJ26_elementData_0 : List UInt8 := dkwJ26_elementData_0 ++ []
theorem dksJ26_elementData_0 : cJ26_elementData.data.toList.drop 0 = dktJ26_elementData_0 := by decide +kernel
theorem dJ26_elementData_0 : decode cJ26_elementData 0 = .ok (.aload_n 0, 1) := dk_42 (dk_at dksJ26_elementData_0 0 rfl rfl)
theorem dJ26_elementData_1 : decode cJ26_elementData 1 = .ok (.getfield 9, 3) := dk_180 0 9 (dk_at dksJ26_elementData_0 1 rfl rfl)
theorem dJ26_elementData_4 : decode cJ26_elementData 4 = .ok (.iload_n 1, 1) := dk_27 (dk_at dksJ26_elementData_0 4 rfl rfl)
theorem dJ26_elementData_5 : decode cJ26_elementData 5 = .ok (.aaload, 1) := dk_50 (dk_at dksJ26_elementData_0 5 rfl rfl)
theorem dJ26_elementData_6 : decode cJ26_elementData 6 = .ok (.areturn, 1) := dk_176 (dk_at dksJ26_elementData_0 6 rfl rfl)
abbrev cJ26_init : ByteArray := prog_49_method_2_code
def yJ26_init : MethodName := ⟨RJ26, "<init>", "()V"⟩
def dkwJ26_init_0 : List UInt8 := [42, 183, 0, 1, 42, 178, 0, 39, 181, 0, 9, 177]
abbrev dktJ26_init_0 : List UInt8 := dkwJ26_init_0 ++ []
theorem dksJ26_init_0 : cJ26_init.data.toList.drop 0 = dktJ26_init_0 := by decide +kernel
theorem dJ26_init_0 : decode cJ26_init 0 = .ok (.aload_n 0, 1) := dk_42 (dk_at dksJ26_init_0 0 rfl rfl)
theorem dJ26_init_1 : decode cJ26_init 1 = .ok (.invokespecial 1, 3) := dk_183 0 1 (dk_at dksJ26_init_0 1 rfl rfl)
theorem dJ26_init_4 : decode cJ26_init 4 = .ok (.aload_n 0, 1) := dk_42 (dk_at dksJ26_init_0 4 rfl rfl)
theorem dJ26_init_5 : decode cJ26_init 5 = .ok (.getstatic 39, 3) := dk_178 0 39 (dk_at dksJ26_init_0 5 rfl rfl)
theorem dJ26_init_8 : decode cJ26_init 8 = .ok (.putfield 9, 3) := dk_181 0 9 (dk_at dksJ26_init_0 8 rfl rfl)
theorem dJ26_init_11 : decode cJ26_init 11 = .ok (.return_, 1) := dk_177 (dk_at dksJ26_init_0 11 rfl rfl)
abbrev cJ26_remove : ByteArray := prog_49_method_29_code
def yJ26_remove : MethodName := ⟨RJ26, "remove", "(I)Ljava/lang/Object;"⟩
def dkwJ26_remove_1 : List UInt8 := [45, 176]
abbrev dktJ26_remove_1 : List UInt8 := dkwJ26_remove_1 ++ []
def dkwJ26_remove_0 : List UInt8 := [27, 42, 180, 0, 48, 184, 0, 118, 87, 42, 180, 0, 9, 77, 44, 27, 50, 78, 42, 44, 27, 182, 0, 144]
abbrev dktJ26_remove_0 : List UInt8 := dkwJ26_remove_0 ++ dktJ26_remove_1
theorem dksJ26_remove_0 : cJ26_remove.data.toList.drop 0 = dktJ26_remove_0 := by decide +kernel
theorem dksJ26_remove_1 : cJ26_remove.data.toList.drop 24 = dktJ26_remove_1 := dk_seg dksJ26_remove_0 24 rfl rfl
theorem dJ26_remove_0 : decode cJ26_remove 0 = .ok (.iload_n 1, 1) := dk_27 (dk_at dksJ26_remove_0 0 rfl rfl)
theorem dJ26_remove_1 : decode cJ26_remove 1 = .ok (.aload_n 0, 1) := dk_42 (dk_at dksJ26_remove_0 1 rfl rfl)
theorem dJ26_remove_2 : decode cJ26_remove 2 = .ok (.getfield 48, 3) := dk_180 0 48 (dk_at dksJ26_remove_0 2 rfl rfl)
theorem dJ26_remove_5 : decode cJ26_remove 5 = .ok (.invokestatic 118, 3) := dk_184 0 118 (dk_at dksJ26_remove_0 5 rfl rfl)
theorem dJ26_remove_8 : decode cJ26_remove 8 = .ok (.pop, 1) := dk_87 (dk_at dksJ26_remove_0 8 rfl rfl)
theorem dJ26_remove_9 : decode cJ26_remove 9 = .ok (.aload_n 0, 1) := dk_42 (dk_at dksJ26_remove_0 9 rfl rfl)
theorem dJ26_remove_10 : decode cJ26_remove 10 = .ok (.getfield 9, 3) := dk_180 0 9 (dk_at dksJ26_remove_0 10 rfl rfl)
theorem dJ26_remove_13 : decode cJ26_remove 13 = .ok (.astore_n 2, 1) := dk_77 (dk_at dksJ26_remove_0 13 rfl rfl)
theorem dJ26_remove_14 : decode cJ26_remove 14 = .ok (.aload_n 2, 1) := dk_44 (dk_at dksJ26_remove_0 14 rfl rfl)
theorem dJ26_remove_15 : decode cJ26_remove 15 = .ok (.iload_n 1, 1) := dk_27 (dk_at dksJ26_remove_0 15 rfl rfl)
theorem dJ26_remove_16 : decode cJ26_remove 16 = .ok (.aaload, 1) := dk_50 (dk_at dksJ26_remove_0 16 rfl rfl)
theorem dJ26_remove_17 : decode cJ26_remove 17 = .ok (.astore_n 3, 1) := dk_78 (dk_at dksJ26_remove_0 17 rfl rfl)
theorem dJ26_remove_18 : decode cJ26_remove 18 = .ok (.aload_n 0, 1) := dk_42 (dk_at dksJ26_remove_0 18 rfl rfl)
theorem dJ26_remove_19 : decode cJ26_remove 19 = .ok (.aload_n 2, 1) := dk_44 (dk_at dksJ26_remove_0 19 rfl rfl)
theorem dJ26_remove_20 : decode cJ26_remove 20 = .ok (.iload_n 1, 1) := dk_27 (dk_at dksJ26_remove_0 20 rfl rfl)
theorem dJ26_remove_21 : decode cJ26_remove 21 = .ok (.invokevirtual 144, 3) := dk_182 0 144 (dk_at dksJ26_remove_0 21 rfl rfl)
theorem dJ26_remove_24 : decode cJ26_remove 24 = .ok (.aload_n 3, 1) := dk_45 (dk_at dksJ26_remove_1 0 rfl rfl)
theorem dJ26_remove_25 : decode cJ26_remove 25 = .ok (.areturn, 1) := dk_176 (dk_at dksJ26_remove_1 1 rfl rfl)
abbrev cJ26_fastRemove : ByteArray := prog_49_method_39_code
def yJ26_fastRemove : MethodName := ⟨RJ26, "fastRemove", "([Ljava/lang/Object;I)V"⟩
def dkwJ26_fastRemove_1 : List UInt8 := [4, 96, 43, 28, 29, 28, 100, 184, 0, 112, 43, 42, 29, 90, 181, 0, 48, 1, 83, 177]
abbrev dktJ26_fastRemove_1 : List UInt8 := dkwJ26_fastRemove_1 ++ []
def dkwJ26_fastRemove_0 : List UInt8 := [42, 89, 180, 0, 63, 4, 96, 181, 0, 63, 42, 180, 0, 48, 4, 100, 89, 62, 28, 164, 0, 15, 43, 28]
abbrev dktJ26_fastRemove_0 : List UInt8 := dkwJ26_fastRemove_0 ++ dktJ26_fastRemove_1
theorem dksJ26_fastRemove_0 : cJ26_fastRemove.data.toList.drop 0 = dktJ26_fastRemove_0 := by decide +kernel
theorem dksJ26_fastRemove_1 : cJ26_fastRemove.data.toList.drop 24 = dktJ26_fastRemove_1 := dk_seg dksJ26_fastRemove_0 24 rfl rfl
theorem dJ26_fastRemove_0 : decode cJ26_fastRemove 0 = .ok (.aload_n 0, 1) := dk_42 (dk_at dksJ26_fastRemove_0 0 rfl rfl)
theorem dJ26_fastRemove_1 : decode cJ26_fastRemove 1 = .ok (.dup, 1) := dk_89 (dk_at dksJ26_fastRemove_0 1 rfl rfl)
theorem dJ26_fastRemove_2 : decode cJ26_fastRemove 2 = .ok (.getfield 63, 3) := dk_180 0 63 (dk_at dksJ26_fastRemove_0 2 rfl rfl)
theorem dJ26_fastRemove_5 : decode cJ26_fastRemove 5 = .ok (.iconst 1, 1) := dk_4 (dk_at dksJ26_fastRemove_0 5 rfl rfl)
theorem dJ26_fastRemove_6 : decode cJ26_fastRemove 6 = .ok (.iadd, 1) := dk_96 (dk_at dksJ26_fastRemove_0 6 rfl rfl)
theorem dJ26_fastRemove_7 : decode cJ26_fastRemove 7 = .ok (.putfield 63, 3) := dk_181 0 63 (dk_at dksJ26_fastRemove_0 7 rfl rfl)
theorem dJ26_fastRemove_10 : decode cJ26_fastRemove 10 = .ok (.aload_n 0, 1) := dk_42 (dk_at dksJ26_fastRemove_0 10 rfl rfl)
theorem dJ26_fastRemove_11 : decode cJ26_fastRemove 11 = .ok (.getfield 48, 3) := dk_180 0 48 (dk_at dksJ26_fastRemove_0 11 rfl rfl)
theorem dJ26_fastRemove_14 : decode cJ26_fastRemove 14 = .ok (.iconst 1, 1) := dk_4 (dk_at dksJ26_fastRemove_0 14 rfl rfl)
theorem dJ26_fastRemove_15 : decode cJ26_fastRemove 15 = .ok (.isub, 1) := dk_100 (dk_at dksJ26_fastRemove_0 15 rfl rfl)
theorem dJ26_fastRemove_16 : decode cJ26_fastRemove 16 = .ok (.dup, 1) := dk_89 (dk_at dksJ26_fastRemove_0 16 rfl rfl)
theorem dJ26_fastRemove_17 : decode cJ26_fastRemove 17 = .ok (.istore_n 3, 1) := dk_62 (dk_at dksJ26_fastRemove_0 17 rfl rfl)
theorem dJ26_fastRemove_18 : decode cJ26_fastRemove 18 = .ok (.iload_n 2, 1) := dk_28 (dk_at dksJ26_fastRemove_0 18 rfl rfl)
theorem dJ26_fastRemove_19 : decode cJ26_fastRemove 19 = .ok (.if_icmp .le 15, 3) := dk_164 0 15 (dk_at dksJ26_fastRemove_0 19 rfl rfl)
theorem dJ26_fastRemove_22 : decode cJ26_fastRemove 22 = .ok (.aload_n 1, 1) := dk_43 (dk_at dksJ26_fastRemove_0 22 rfl rfl)
theorem dJ26_fastRemove_23 : decode cJ26_fastRemove 23 = .ok (.iload_n 2, 1) := dk_28 (dk_at dksJ26_fastRemove_0 23 rfl rfl)
theorem dJ26_fastRemove_24 : decode cJ26_fastRemove 24 = .ok (.iconst 1, 1) := dk_4 (dk_at dksJ26_fastRemove_1 0 rfl rfl)
theorem dJ26_fastRemove_25 : decode cJ26_fastRemove 25 = .ok (.iadd, 1) := dk_96 (dk_at dksJ26_fastRemove_1 1 rfl rfl)
theorem dJ26_fastRemove_26 : decode cJ26_fastRemove 26 = .ok (.aload_n 1, 1) := dk_43 (dk_at dksJ26_fastRemove_1 2 rfl rfl)
theorem dJ26_fastRemove_27 : decode cJ26_fastRemove 27 = .ok (.iload_n 2, 1) := dk_28 (dk_at dksJ26_fastRemove_1 3 rfl rfl)
theorem dJ26_fastRemove_28 : decode cJ26_fastRemove 28 = .ok (.iload_n 3, 1) := dk_29 (dk_at dksJ26_fastRemove_1 4 rfl rfl)
theorem dJ26_fastRemove_29 : decode cJ26_fastRemove 29 = .ok (.iload_n 2, 1) := dk_28 (dk_at dksJ26_fastRemove_1 5 rfl rfl)
theorem dJ26_fastRemove_30 : decode cJ26_fastRemove 30 = .ok (.isub, 1) := dk_100 (dk_at dksJ26_fastRemove_1 6 rfl rfl)
theorem dJ26_fastRemove_31 : decode cJ26_fastRemove 31 = .ok (.invokestatic 112, 3) := dk_184 0 112 (dk_at dksJ26_fastRemove_1 7 rfl rfl)
theorem dJ26_fastRemove_34 : decode cJ26_fastRemove 34 = .ok (.aload_n 1, 1) := dk_43 (dk_at dksJ26_fastRemove_1 10 rfl rfl)
theorem dJ26_fastRemove_35 : decode cJ26_fastRemove 35 = .ok (.aload_n 0, 1) := dk_42 (dk_at dksJ26_fastRemove_1 11 rfl rfl)
theorem dJ26_fastRemove_36 : decode cJ26_fastRemove 36 = .ok (.iload_n 3, 1) := dk_29 (dk_at dksJ26_fastRemove_1 12 rfl rfl)
theorem dJ26_fastRemove_37 : decode cJ26_fastRemove 37 = .ok (.dup_x1, 1) := dk_90 (dk_at dksJ26_fastRemove_1 13 rfl rfl)
theorem dJ26_fastRemove_38 : decode cJ26_fastRemove 38 = .ok (.putfield 48, 3) := dk_181 0 48 (dk_at dksJ26_fastRemove_1 14 rfl rfl)
theorem dJ26_fastRemove_41 : decode cJ26_fastRemove 41 = .ok (.aconst_null, 1) := dk_1 (dk_at dksJ26_fastRemove_1 17 rfl rfl)
theorem dJ26_fastRemove_42 : decode cJ26_fastRemove 42 = .ok (.aastore, 1) := dk_83 (dk_at dksJ26_fastRemove_1 18 rfl rfl)
theorem dJ26_fastRemove_43 : decode cJ26_fastRemove 43 = .ok (.return_, 1) := dk_177 (dk_at dksJ26_fastRemove_1 19 rfl rfl)
abbrev cJ26_add : ByteArray := prog_49_method_26_code
def yJ26_add : MethodName := ⟨RJ26, "add", "(ILjava/lang/Object;)V"⟩
def dkwJ26_add_2 : List UInt8 := [29, 27, 100, 184, 0, 112, 25, 4, 27, 44, 83, 42, 29, 4, 96, 181, 0, 48, 177]
abbrev dktJ26_add_2 : List UInt8 := dkwJ26_add_2 ++ []
def dkwJ26_add_1 : List UInt8 := [180, 0, 9, 89, 58, 4, 190, 160, 0, 9, 42, 182, 0, 129, 58, 4, 25, 4, 27, 25, 4, 27, 4, 96]
abbrev dktJ26_add_1 : List UInt8 := dkwJ26_add_1 ++ dktJ26_add_2
def dkwJ26_add_0 : List UInt8 := [42, 27, 182, 0, 135, 42, 89, 180, 0, 63, 4, 96, 181, 0, 63, 42, 180, 0, 48, 89, 62, 42]
abbrev dktJ26_add_0 : List UInt8 := dkwJ26_add_0 ++ dktJ26_add_1
theorem dksJ26_add_0 : cJ26_add.data.toList.drop 0 = dktJ26_add_0 := by decide +kernel
theorem dksJ26_add_1 : cJ26_add.data.toList.drop 22 = dktJ26_add_1 := dk_seg dksJ26_add_0 22 rfl rfl
theorem dksJ26_add_2 : cJ26_add.data.toList.drop 46 = dktJ26_add_2 := dk_seg dksJ26_add_1 24 rfl rfl
theorem dJ26_add_0 : decode cJ26_add 0 = .ok (.aload_n 0, 1) := dk_42 (dk_at dksJ26_add_0 0 rfl rfl)
theorem dJ26_add_1 : decode cJ26_add 1 = .ok (.iload_n 1, 1) := dk_27 (dk_at dksJ26_add_0 1 rfl rfl)
theorem dJ26_add_2 : decode cJ26_add 2 = .ok (.invokevirtual 135, 3) := dk_182 0 135 (dk_at dksJ26_add_0 2 rfl rfl)
theorem dJ26_add_5 : decode cJ26_add 5 = .ok (.aload_n 0, 1) := dk_42 (dk_at dksJ26_add_0 5 rfl rfl)
theorem dJ26_add_6 : decode cJ26_add 6 = .ok (.dup, 1) := dk_89 (dk_at dksJ26_add_0 6 rfl rfl)
theorem dJ26_add_7 : decode cJ26_add 7 = .ok (.getfield 63, 3) := dk_180 0 63 (dk_at dksJ26_add_0 7 rfl rfl)
theorem dJ26_add_10 : decode cJ26_add 10 = .ok (.iconst 1, 1) := dk_4 (dk_at dksJ26_add_0 10 rfl rfl)
theorem dJ26_add_11 : decode cJ26_add 11 = .ok (.iadd, 1) := dk_96 (dk_at dksJ26_add_0 11 rfl rfl)
theorem dJ26_add_12 : decode cJ26_add 12 = .ok (.putfield 63, 3) := dk_181 0 63 (dk_at dksJ26_add_0 12 rfl rfl)
theorem dJ26_add_15 : decode cJ26_add 15 = .ok (.aload_n 0, 1) := dk_42 (dk_at dksJ26_add_0 15 rfl rfl)
theorem dJ26_add_16 : decode cJ26_add 16 = .ok (.getfield 48, 3) := dk_180 0 48 (dk_at dksJ26_add_0 16 rfl rfl)
theorem dJ26_add_19 : decode cJ26_add 19 = .ok (.dup, 1) := dk_89 (dk_at dksJ26_add_0 19 rfl rfl)
theorem dJ26_add_20 : decode cJ26_add 20 = .ok (.istore_n 3, 1) := dk_62 (dk_at dksJ26_add_0 20 rfl rfl)
theorem dJ26_add_21 : decode cJ26_add 21 = .ok (.aload_n 0, 1) := dk_42 (dk_at dksJ26_add_0 21 rfl rfl)
theorem dJ26_add_22 : decode cJ26_add 22 = .ok (.getfield 9, 3) := dk_180 0 9 (dk_at dksJ26_add_1 0 rfl rfl)
theorem dJ26_add_25 : decode cJ26_add 25 = .ok (.dup, 1) := dk_89 (dk_at dksJ26_add_1 3 rfl rfl)
theorem dJ26_add_26 : decode cJ26_add 26 = .ok (.astore 4, 2) := dk_58 4 (dk_at dksJ26_add_1 4 rfl rfl)
theorem dJ26_add_28 : decode cJ26_add 28 = .ok (.arraylength, 1) := dk_190 (dk_at dksJ26_add_1 6 rfl rfl)
theorem dJ26_add_29 : decode cJ26_add 29 = .ok (.if_icmp .ne 9, 3) := dk_160 0 9 (dk_at dksJ26_add_1 7 rfl rfl)
theorem dJ26_add_32 : decode cJ26_add 32 = .ok (.aload_n 0, 1) := dk_42 (dk_at dksJ26_add_1 10 rfl rfl)
theorem dJ26_add_33 : decode cJ26_add 33 = .ok (.invokevirtual 129, 3) := dk_182 0 129 (dk_at dksJ26_add_1 11 rfl rfl)
theorem dJ26_add_36 : decode cJ26_add 36 = .ok (.astore 4, 2) := dk_58 4 (dk_at dksJ26_add_1 14 rfl rfl)
theorem dJ26_add_38 : decode cJ26_add 38 = .ok (.aload 4, 2) := dk_25 4 (dk_at dksJ26_add_1 16 rfl rfl)
theorem dJ26_add_40 : decode cJ26_add 40 = .ok (.iload_n 1, 1) := dk_27 (dk_at dksJ26_add_1 18 rfl rfl)
theorem dJ26_add_41 : decode cJ26_add 41 = .ok (.aload 4, 2) := dk_25 4 (dk_at dksJ26_add_1 19 rfl rfl)
theorem dJ26_add_43 : decode cJ26_add 43 = .ok (.iload_n 1, 1) := dk_27 (dk_at dksJ26_add_1 21 rfl rfl)
theorem dJ26_add_44 : decode cJ26_add 44 = .ok (.iconst 1, 1) := dk_4 (dk_at dksJ26_add_1 22 rfl rfl)
theorem dJ26_add_45 : decode cJ26_add 45 = .ok (.iadd, 1) := dk_96 (dk_at dksJ26_add_1 23 rfl rfl)
theorem dJ26_add_46 : decode cJ26_add 46 = .ok (.iload_n 3, 1) := dk_29 (dk_at dksJ26_add_2 0 rfl rfl)
theorem dJ26_add_47 : decode cJ26_add 47 = .ok (.iload_n 1, 1) := dk_27 (dk_at dksJ26_add_2 1 rfl rfl)
theorem dJ26_add_48 : decode cJ26_add 48 = .ok (.isub, 1) := dk_100 (dk_at dksJ26_add_2 2 rfl rfl)
theorem dJ26_add_49 : decode cJ26_add 49 = .ok (.invokestatic 112, 3) := dk_184 0 112 (dk_at dksJ26_add_2 3 rfl rfl)
theorem dJ26_add_52 : decode cJ26_add 52 = .ok (.aload 4, 2) := dk_25 4 (dk_at dksJ26_add_2 6 rfl rfl)
theorem dJ26_add_54 : decode cJ26_add 54 = .ok (.iload_n 1, 1) := dk_27 (dk_at dksJ26_add_2 8 rfl rfl)
theorem dJ26_add_55 : decode cJ26_add 55 = .ok (.aload_n 2, 1) := dk_44 (dk_at dksJ26_add_2 9 rfl rfl)
theorem dJ26_add_56 : decode cJ26_add 56 = .ok (.aastore, 1) := dk_83 (dk_at dksJ26_add_2 10 rfl rfl)
theorem dJ26_add_57 : decode cJ26_add 57 = .ok (.aload_n 0, 1) := dk_42 (dk_at dksJ26_add_2 11 rfl rfl)
theorem dJ26_add_58 : decode cJ26_add 58 = .ok (.iload_n 3, 1) := dk_29 (dk_at dksJ26_add_2 12 rfl rfl)
theorem dJ26_add_59 : decode cJ26_add 59 = .ok (.iconst 1, 1) := dk_4 (dk_at dksJ26_add_2 13 rfl rfl)
theorem dJ26_add_60 : decode cJ26_add 60 = .ok (.iadd, 1) := dk_96 (dk_at dksJ26_add_2 14 rfl rfl)
theorem dJ26_add_61 : decode cJ26_add 61 = .ok (.putfield 48, 3) := dk_181 0 48 (dk_at dksJ26_add_2 15 rfl rfl)
theorem dJ26_add_64 : decode cJ26_add 64 = .ok (.return_, 1) := dk_177 (dk_at dksJ26_add_2 18 rfl rfl)
abbrev cJ26_rangeCheckForAdd : ByteArray := prog_49_method_45_code
def yJ26_rangeCheckForAdd : MethodName := ⟨RJ26, "rangeCheckForAdd", "(I)V"⟩
def dkwJ26_rangeCheckForAdd_1 : List UInt8 := [191, 177]
abbrev dktJ26_rangeCheckForAdd_1 : List UInt8 := dkwJ26_rangeCheckForAdd_1 ++ []
def dkwJ26_rangeCheckForAdd_0 : List UInt8 := [27, 42, 180, 0, 48, 163, 0, 7, 27, 156, 0, 16, 187, 0, 187, 89, 42, 27, 182, 0, 198, 183, 0, 193]
abbrev dktJ26_rangeCheckForAdd_0 : List UInt8 := dkwJ26_rangeCheckForAdd_0 ++ dktJ26_rangeCheckForAdd_1
theorem dksJ26_rangeCheckForAdd_0 : cJ26_rangeCheckForAdd.data.toList.drop 0 = dktJ26_rangeCheckForAdd_0 := by decide +kernel
theorem dksJ26_rangeCheckForAdd_1 : cJ26_rangeCheckForAdd.data.toList.drop 24 = dktJ26_rangeCheckForAdd_1 := dk_seg dksJ26_rangeCheckForAdd_0 24 rfl rfl
theorem dJ26_rangeCheckForAdd_0 : decode cJ26_rangeCheckForAdd 0 = .ok (.iload_n 1, 1) := dk_27 (dk_at dksJ26_rangeCheckForAdd_0 0 rfl rfl)
theorem dJ26_rangeCheckForAdd_1 : decode cJ26_rangeCheckForAdd 1 = .ok (.aload_n 0, 1) := dk_42 (dk_at dksJ26_rangeCheckForAdd_0 1 rfl rfl)
theorem dJ26_rangeCheckForAdd_2 : decode cJ26_rangeCheckForAdd 2 = .ok (.getfield 48, 3) := dk_180 0 48 (dk_at dksJ26_rangeCheckForAdd_0 2 rfl rfl)
theorem dJ26_rangeCheckForAdd_5 : decode cJ26_rangeCheckForAdd 5 = .ok (.if_icmp .gt 7, 3) := dk_163 0 7 (dk_at dksJ26_rangeCheckForAdd_0 5 rfl rfl)
theorem dJ26_rangeCheckForAdd_8 : decode cJ26_rangeCheckForAdd 8 = .ok (.iload_n 1, 1) := dk_27 (dk_at dksJ26_rangeCheckForAdd_0 8 rfl rfl)
theorem dJ26_rangeCheckForAdd_9 : decode cJ26_rangeCheckForAdd 9 = .ok (.ifCond .ge 16, 3) := dk_156 0 16 (dk_at dksJ26_rangeCheckForAdd_0 9 rfl rfl)
theorem dJ26_rangeCheckForAdd_12 : decode cJ26_rangeCheckForAdd 12 = .ok (.new 187, 3) := dk_187 0 187 (dk_at dksJ26_rangeCheckForAdd_0 12 rfl rfl)
theorem dJ26_rangeCheckForAdd_15 : decode cJ26_rangeCheckForAdd 15 = .ok (.dup, 1) := dk_89 (dk_at dksJ26_rangeCheckForAdd_0 15 rfl rfl)
theorem dJ26_rangeCheckForAdd_16 : decode cJ26_rangeCheckForAdd 16 = .ok (.aload_n 0, 1) := dk_42 (dk_at dksJ26_rangeCheckForAdd_0 16 rfl rfl)
theorem dJ26_rangeCheckForAdd_17 : decode cJ26_rangeCheckForAdd 17 = .ok (.iload_n 1, 1) := dk_27 (dk_at dksJ26_rangeCheckForAdd_0 17 rfl rfl)
theorem dJ26_rangeCheckForAdd_18 : decode cJ26_rangeCheckForAdd 18 = .ok (.invokevirtual 198, 3) := dk_182 0 198 (dk_at dksJ26_rangeCheckForAdd_0 18 rfl rfl)
theorem dJ26_rangeCheckForAdd_21 : decode cJ26_rangeCheckForAdd 21 = .ok (.invokespecial 193, 3) := dk_183 0 193 (dk_at dksJ26_rangeCheckForAdd_0 21 rfl rfl)
theorem dJ26_rangeCheckForAdd_24 : decode cJ26_rangeCheckForAdd 24 = .ok (.athrow, 1) := dk_191 (dk_at dksJ26_rangeCheckForAdd_1 0 rfl rfl)
theorem dJ26_rangeCheckForAdd_25 : decode cJ26_rangeCheckForAdd 25 = .ok (.return_, 1) := dk_177 (dk_at dksJ26_rangeCheckForAdd_1 1 rfl rfl)
abbrev cJ26_outOfBoundsMsg : ByteArray := prog_49_method_46_code
def yJ26_outOfBoundsMsg : MethodName := ⟨RJ26, "outOfBoundsMsg", "(I)Ljava/lang/String;"⟩
def dkwJ26_outOfBoundsMsg_1 : List UInt8 := [180, 0, 48, 182, 0, 29, 182, 0, 32, 176]
abbrev dktJ26_outOfBoundsMsg_1 : List UInt8 := dkwJ26_outOfBoundsMsg_1 ++ []
def dkwJ26_outOfBoundsMsg_0 : List UInt8 := [187, 0, 20, 89, 183, 0, 22, 18, 201, 182, 0, 25, 27, 182, 0, 29, 18, 203, 182, 0, 25, 42]
abbrev dktJ26_outOfBoundsMsg_0 : List UInt8 := dkwJ26_outOfBoundsMsg_0 ++ dktJ26_outOfBoundsMsg_1
theorem dksJ26_outOfBoundsMsg_0 : cJ26_outOfBoundsMsg.data.toList.drop 0 = dktJ26_outOfBoundsMsg_0 := by decide +kernel
theorem dksJ26_outOfBoundsMsg_1 : cJ26_outOfBoundsMsg.data.toList.drop 22 = dktJ26_outOfBoundsMsg_1 := dk_seg dksJ26_outOfBoundsMsg_0 22 rfl rfl
theorem dJ26_outOfBoundsMsg_0 : decode cJ26_outOfBoundsMsg 0 = .ok (.new 20, 3) := dk_187 0 20 (dk_at dksJ26_outOfBoundsMsg_0 0 rfl rfl)
theorem dJ26_outOfBoundsMsg_3 : decode cJ26_outOfBoundsMsg 3 = .ok (.dup, 1) := dk_89 (dk_at dksJ26_outOfBoundsMsg_0 3 rfl rfl)
theorem dJ26_outOfBoundsMsg_4 : decode cJ26_outOfBoundsMsg 4 = .ok (.invokespecial 22, 3) := dk_183 0 22 (dk_at dksJ26_outOfBoundsMsg_0 4 rfl rfl)
theorem dJ26_outOfBoundsMsg_7 : decode cJ26_outOfBoundsMsg 7 = .ok (.ldc 201, 2) := dk_18 201 (dk_at dksJ26_outOfBoundsMsg_0 7 rfl rfl)
theorem dJ26_outOfBoundsMsg_9 : decode cJ26_outOfBoundsMsg 9 = .ok (.invokevirtual 25, 3) := dk_182 0 25 (dk_at dksJ26_outOfBoundsMsg_0 9 rfl rfl)
theorem dJ26_outOfBoundsMsg_12 : decode cJ26_outOfBoundsMsg 12 = .ok (.iload_n 1, 1) := dk_27 (dk_at dksJ26_outOfBoundsMsg_0 12 rfl rfl)
theorem dJ26_outOfBoundsMsg_13 : decode cJ26_outOfBoundsMsg 13 = .ok (.invokevirtual 29, 3) := dk_182 0 29 (dk_at dksJ26_outOfBoundsMsg_0 13 rfl rfl)
theorem dJ26_outOfBoundsMsg_16 : decode cJ26_outOfBoundsMsg 16 = .ok (.ldc 203, 2) := dk_18 203 (dk_at dksJ26_outOfBoundsMsg_0 16 rfl rfl)
theorem dJ26_outOfBoundsMsg_18 : decode cJ26_outOfBoundsMsg 18 = .ok (.invokevirtual 25, 3) := dk_182 0 25 (dk_at dksJ26_outOfBoundsMsg_0 18 rfl rfl)
theorem dJ26_outOfBoundsMsg_21 : decode cJ26_outOfBoundsMsg 21 = .ok (.aload_n 0, 1) := dk_42 (dk_at dksJ26_outOfBoundsMsg_0 21 rfl rfl)
theorem dJ26_outOfBoundsMsg_22 : decode cJ26_outOfBoundsMsg 22 = .ok (.getfield 48, 3) := dk_180 0 48 (dk_at dksJ26_outOfBoundsMsg_1 0 rfl rfl)
theorem dJ26_outOfBoundsMsg_25 : decode cJ26_outOfBoundsMsg 25 = .ok (.invokevirtual 29, 3) := dk_182 0 29 (dk_at dksJ26_outOfBoundsMsg_1 3 rfl rfl)
theorem dJ26_outOfBoundsMsg_28 : decode cJ26_outOfBoundsMsg 28 = .ok (.invokevirtual 32, 3) := dk_182 0 32 (dk_at dksJ26_outOfBoundsMsg_1 6 rfl rfl)
theorem dJ26_outOfBoundsMsg_31 : decode cJ26_outOfBoundsMsg 31 = .ok (.areturn, 1) := dk_176 (dk_at dksJ26_outOfBoundsMsg_1 9 rfl rfl)
abbrev cJ26_grow : ByteArray := prog_49_method_7_code
def yJ26_grow : MethodName := ⟨RJ26, "grow", "()[Ljava/lang/Object;"⟩
def dkwJ26_grow_0 : List UInt8 := [42, 42, 180, 0, 48, 4, 96, 182, 0, 69, 176]
abbrev dktJ26_grow_0 : List UInt8 := dkwJ26_grow_0 ++ []
theorem dksJ26_grow_0 : cJ26_grow.data.toList.drop 0 = dktJ26_grow_0 := by decide +kernel
theorem dJ26_grow_0 : decode cJ26_grow 0 = .ok (.aload_n 0, 1) := dk_42 (dk_at dksJ26_grow_0 0 rfl rfl)
theorem dJ26_grow_1 : decode cJ26_grow 1 = .ok (.aload_n 0, 1) := dk_42 (dk_at dksJ26_grow_0 1 rfl rfl)
theorem dJ26_grow_2 : decode cJ26_grow 2 = .ok (.getfield 48, 3) := dk_180 0 48 (dk_at dksJ26_grow_0 2 rfl rfl)
theorem dJ26_grow_5 : decode cJ26_grow 5 = .ok (.iconst 1, 1) := dk_4 (dk_at dksJ26_grow_0 5 rfl rfl)
theorem dJ26_grow_6 : decode cJ26_grow 6 = .ok (.iadd, 1) := dk_96 (dk_at dksJ26_grow_0 6 rfl rfl)
theorem dJ26_grow_7 : decode cJ26_grow 7 = .ok (.invokevirtual 69, 3) := dk_182 0 69 (dk_at dksJ26_grow_0 7 rfl rfl)
theorem dJ26_grow_10 : decode cJ26_grow 10 = .ok (.areturn, 1) := dk_176 (dk_at dksJ26_grow_0 10 rfl rfl)
abbrev cJ26_grow_2 : ByteArray := prog_49_method_6_code
def yJ26_grow_2 : MethodName := ⟨RJ26, "grow", "(I)[Ljava/lang/Object;"⟩
def dkwJ26_grow_2_2 : List UInt8 := [27, 184, 0, 79, 189, 0, 7, 90, 181, 0, 9, 176]
abbrev dktJ26_grow_2_2 : List UInt8 := dkwJ26_grow_2_2 ++ []
def dkwJ26_grow_2_1 : List UInt8 := [28, 4, 122, 184, 0, 73, 62, 42, 42, 180, 0, 9, 29, 184, 0, 66, 90, 181, 0, 9, 176, 42, 16, 10]
abbrev dktJ26_grow_2_1 : List UInt8 := dkwJ26_grow_2_1 ++ dktJ26_grow_2_2
def dkwJ26_grow_2_0 : List UInt8 := [42, 180, 0, 9, 190, 61, 28, 157, 0, 13, 42, 180, 0, 9, 178, 0, 39, 165, 0, 28, 28, 27, 28, 100]
abbrev dktJ26_grow_2_0 : List UInt8 := dkwJ26_grow_2_0 ++ dktJ26_grow_2_1
theorem dksJ26_grow_2_0 : cJ26_grow_2.data.toList.drop 0 = dktJ26_grow_2_0 := by decide +kernel
theorem dksJ26_grow_2_1 : cJ26_grow_2.data.toList.drop 24 = dktJ26_grow_2_1 := dk_seg dksJ26_grow_2_0 24 rfl rfl
theorem dksJ26_grow_2_2 : cJ26_grow_2.data.toList.drop 48 = dktJ26_grow_2_2 := dk_seg dksJ26_grow_2_1 24 rfl rfl
theorem dJ26_grow_2_0 : decode cJ26_grow_2 0 = .ok (.aload_n 0, 1) := dk_42 (dk_at dksJ26_grow_2_0 0 rfl rfl)
theorem dJ26_grow_2_1 : decode cJ26_grow_2 1 = .ok (.getfield 9, 3) := dk_180 0 9 (dk_at dksJ26_grow_2_0 1 rfl rfl)
theorem dJ26_grow_2_4 : decode cJ26_grow_2 4 = .ok (.arraylength, 1) := dk_190 (dk_at dksJ26_grow_2_0 4 rfl rfl)
theorem dJ26_grow_2_5 : decode cJ26_grow_2 5 = .ok (.istore_n 2, 1) := dk_61 (dk_at dksJ26_grow_2_0 5 rfl rfl)
theorem dJ26_grow_2_6 : decode cJ26_grow_2 6 = .ok (.iload_n 2, 1) := dk_28 (dk_at dksJ26_grow_2_0 6 rfl rfl)
theorem dJ26_grow_2_7 : decode cJ26_grow_2 7 = .ok (.ifCond .gt 13, 3) := dk_157 0 13 (dk_at dksJ26_grow_2_0 7 rfl rfl)
theorem dJ26_grow_2_10 : decode cJ26_grow_2 10 = .ok (.aload_n 0, 1) := dk_42 (dk_at dksJ26_grow_2_0 10 rfl rfl)
theorem dJ26_grow_2_11 : decode cJ26_grow_2 11 = .ok (.getfield 9, 3) := dk_180 0 9 (dk_at dksJ26_grow_2_0 11 rfl rfl)
theorem dJ26_grow_2_14 : decode cJ26_grow_2 14 = .ok (.getstatic 39, 3) := dk_178 0 39 (dk_at dksJ26_grow_2_0 14 rfl rfl)
theorem dJ26_grow_2_17 : decode cJ26_grow_2 17 = .ok (.if_acmp .eq 28, 3) := dk_165 0 28 (dk_at dksJ26_grow_2_0 17 rfl rfl)
theorem dJ26_grow_2_20 : decode cJ26_grow_2 20 = .ok (.iload_n 2, 1) := dk_28 (dk_at dksJ26_grow_2_0 20 rfl rfl)
theorem dJ26_grow_2_21 : decode cJ26_grow_2 21 = .ok (.iload_n 1, 1) := dk_27 (dk_at dksJ26_grow_2_0 21 rfl rfl)
theorem dJ26_grow_2_22 : decode cJ26_grow_2 22 = .ok (.iload_n 2, 1) := dk_28 (dk_at dksJ26_grow_2_0 22 rfl rfl)
theorem dJ26_grow_2_23 : decode cJ26_grow_2 23 = .ok (.isub, 1) := dk_100 (dk_at dksJ26_grow_2_0 23 rfl rfl)
theorem dJ26_grow_2_24 : decode cJ26_grow_2 24 = .ok (.iload_n 2, 1) := dk_28 (dk_at dksJ26_grow_2_1 0 rfl rfl)
theorem dJ26_grow_2_25 : decode cJ26_grow_2 25 = .ok (.iconst 1, 1) := dk_4 (dk_at dksJ26_grow_2_1 1 rfl rfl)
theorem dJ26_grow_2_26 : decode cJ26_grow_2 26 = .ok (.ishr, 1) := dk_122 (dk_at dksJ26_grow_2_1 2 rfl rfl)
theorem dJ26_grow_2_27 : decode cJ26_grow_2 27 = .ok (.invokestatic 73, 3) := dk_184 0 73 (dk_at dksJ26_grow_2_1 3 rfl rfl)
theorem dJ26_grow_2_30 : decode cJ26_grow_2 30 = .ok (.istore_n 3, 1) := dk_62 (dk_at dksJ26_grow_2_1 6 rfl rfl)
theorem dJ26_grow_2_31 : decode cJ26_grow_2 31 = .ok (.aload_n 0, 1) := dk_42 (dk_at dksJ26_grow_2_1 7 rfl rfl)
theorem dJ26_grow_2_32 : decode cJ26_grow_2 32 = .ok (.aload_n 0, 1) := dk_42 (dk_at dksJ26_grow_2_1 8 rfl rfl)
theorem dJ26_grow_2_33 : decode cJ26_grow_2 33 = .ok (.getfield 9, 3) := dk_180 0 9 (dk_at dksJ26_grow_2_1 9 rfl rfl)
theorem dJ26_grow_2_36 : decode cJ26_grow_2 36 = .ok (.iload_n 3, 1) := dk_29 (dk_at dksJ26_grow_2_1 12 rfl rfl)
theorem dJ26_grow_2_37 : decode cJ26_grow_2 37 = .ok (.invokestatic 66, 3) := dk_184 0 66 (dk_at dksJ26_grow_2_1 13 rfl rfl)
theorem dJ26_grow_2_40 : decode cJ26_grow_2 40 = .ok (.dup_x1, 1) := dk_90 (dk_at dksJ26_grow_2_1 16 rfl rfl)
theorem dJ26_grow_2_41 : decode cJ26_grow_2 41 = .ok (.putfield 9, 3) := dk_181 0 9 (dk_at dksJ26_grow_2_1 17 rfl rfl)
theorem dJ26_grow_2_44 : decode cJ26_grow_2 44 = .ok (.areturn, 1) := dk_176 (dk_at dksJ26_grow_2_1 20 rfl rfl)
theorem dJ26_grow_2_45 : decode cJ26_grow_2 45 = .ok (.aload_n 0, 1) := dk_42 (dk_at dksJ26_grow_2_1 21 rfl rfl)
theorem dJ26_grow_2_46 : decode cJ26_grow_2 46 = .ok (.bipush 10, 2) := dk_16 10 (dk_at dksJ26_grow_2_1 22 rfl rfl)
theorem dJ26_grow_2_48 : decode cJ26_grow_2 48 = .ok (.iload_n 1, 1) := dk_27 (dk_at dksJ26_grow_2_2 0 rfl rfl)
theorem dJ26_grow_2_49 : decode cJ26_grow_2 49 = .ok (.invokestatic 79, 3) := dk_184 0 79 (dk_at dksJ26_grow_2_2 1 rfl rfl)
theorem dJ26_grow_2_52 : decode cJ26_grow_2 52 = .ok (.anewarray 7, 3) := dk_189 0 7 (dk_at dksJ26_grow_2_2 4 rfl rfl)
theorem dJ26_grow_2_55 : decode cJ26_grow_2 55 = .ok (.dup_x1, 1) := dk_90 (dk_at dksJ26_grow_2_2 7 rfl rfl)
theorem dJ26_grow_2_56 : decode cJ26_grow_2 56 = .ok (.putfield 9, 3) := dk_181 0 9 (dk_at dksJ26_grow_2_2 8 rfl rfl)
theorem dJ26_grow_2_59 : decode cJ26_grow_2 59 = .ok (.areturn, 1) := dk_176 (dk_at dksJ26_grow_2_2 11 rfl rfl)
abbrev cJ26_clear : ByteArray := prog_49_method_40_code
def yJ26_clear : MethodName := ⟨RJ26, "clear", "()V"⟩
def dkwJ26_clear_1 : List UInt8 := [181, 0, 48, 62, 29, 28, 162, 0, 13, 43, 29, 1, 83, 132, 3, 1, 167, 255, 244, 177]
abbrev dktJ26_clear_1 : List UInt8 := dkwJ26_clear_1 ++ []
def dkwJ26_clear_0 : List UInt8 := [42, 89, 180, 0, 63, 4, 96, 181, 0, 63, 42, 180, 0, 9, 76, 42, 180, 0, 48, 61, 42, 3, 90]
abbrev dktJ26_clear_0 : List UInt8 := dkwJ26_clear_0 ++ dktJ26_clear_1
theorem dksJ26_clear_0 : cJ26_clear.data.toList.drop 0 = dktJ26_clear_0 := by decide +kernel
theorem dksJ26_clear_1 : cJ26_clear.data.toList.drop 23 = dktJ26_clear_1 := dk_seg dksJ26_clear_0 23 rfl rfl
theorem dJ26_clear_0 : decode cJ26_clear 0 = .ok (.aload_n 0, 1) := dk_42 (dk_at dksJ26_clear_0 0 rfl rfl)
theorem dJ26_clear_1 : decode cJ26_clear 1 = .ok (.dup, 1) := dk_89 (dk_at dksJ26_clear_0 1 rfl rfl)
theorem dJ26_clear_2 : decode cJ26_clear 2 = .ok (.getfield 63, 3) := dk_180 0 63 (dk_at dksJ26_clear_0 2 rfl rfl)
theorem dJ26_clear_5 : decode cJ26_clear 5 = .ok (.iconst 1, 1) := dk_4 (dk_at dksJ26_clear_0 5 rfl rfl)
theorem dJ26_clear_6 : decode cJ26_clear 6 = .ok (.iadd, 1) := dk_96 (dk_at dksJ26_clear_0 6 rfl rfl)
theorem dJ26_clear_7 : decode cJ26_clear 7 = .ok (.putfield 63, 3) := dk_181 0 63 (dk_at dksJ26_clear_0 7 rfl rfl)
theorem dJ26_clear_10 : decode cJ26_clear 10 = .ok (.aload_n 0, 1) := dk_42 (dk_at dksJ26_clear_0 10 rfl rfl)
theorem dJ26_clear_11 : decode cJ26_clear 11 = .ok (.getfield 9, 3) := dk_180 0 9 (dk_at dksJ26_clear_0 11 rfl rfl)
theorem dJ26_clear_14 : decode cJ26_clear 14 = .ok (.astore_n 1, 1) := dk_76 (dk_at dksJ26_clear_0 14 rfl rfl)
theorem dJ26_clear_15 : decode cJ26_clear 15 = .ok (.aload_n 0, 1) := dk_42 (dk_at dksJ26_clear_0 15 rfl rfl)
theorem dJ26_clear_16 : decode cJ26_clear 16 = .ok (.getfield 48, 3) := dk_180 0 48 (dk_at dksJ26_clear_0 16 rfl rfl)
theorem dJ26_clear_19 : decode cJ26_clear 19 = .ok (.istore_n 2, 1) := dk_61 (dk_at dksJ26_clear_0 19 rfl rfl)
theorem dJ26_clear_20 : decode cJ26_clear 20 = .ok (.aload_n 0, 1) := dk_42 (dk_at dksJ26_clear_0 20 rfl rfl)
theorem dJ26_clear_21 : decode cJ26_clear 21 = .ok (.iconst 0, 1) := dk_3 (dk_at dksJ26_clear_0 21 rfl rfl)
theorem dJ26_clear_22 : decode cJ26_clear 22 = .ok (.dup_x1, 1) := dk_90 (dk_at dksJ26_clear_0 22 rfl rfl)
theorem dJ26_clear_23 : decode cJ26_clear 23 = .ok (.putfield 48, 3) := dk_181 0 48 (dk_at dksJ26_clear_1 0 rfl rfl)
theorem dJ26_clear_26 : decode cJ26_clear 26 = .ok (.istore_n 3, 1) := dk_62 (dk_at dksJ26_clear_1 3 rfl rfl)
theorem dJ26_clear_27 : decode cJ26_clear 27 = .ok (.iload_n 3, 1) := dk_29 (dk_at dksJ26_clear_1 4 rfl rfl)
theorem dJ26_clear_28 : decode cJ26_clear 28 = .ok (.iload_n 2, 1) := dk_28 (dk_at dksJ26_clear_1 5 rfl rfl)
theorem dJ26_clear_29 : decode cJ26_clear 29 = .ok (.if_icmp .ge 13, 3) := dk_162 0 13 (dk_at dksJ26_clear_1 6 rfl rfl)
theorem dJ26_clear_32 : decode cJ26_clear 32 = .ok (.aload_n 1, 1) := dk_43 (dk_at dksJ26_clear_1 9 rfl rfl)
theorem dJ26_clear_33 : decode cJ26_clear 33 = .ok (.iload_n 3, 1) := dk_29 (dk_at dksJ26_clear_1 10 rfl rfl)
theorem dJ26_clear_34 : decode cJ26_clear 34 = .ok (.aconst_null, 1) := dk_1 (dk_at dksJ26_clear_1 11 rfl rfl)
theorem dJ26_clear_35 : decode cJ26_clear 35 = .ok (.aastore, 1) := dk_83 (dk_at dksJ26_clear_1 12 rfl rfl)
theorem dJ26_clear_36 : decode cJ26_clear 36 = .ok (.iinc 3 1, 3) := dk_132 3 1 (dk_at dksJ26_clear_1 13 rfl rfl)
theorem dJ26_clear_39 : decode cJ26_clear 39 = .ok (.goto (-12), 3) := dk_167 255 244 (dk_at dksJ26_clear_1 16 rfl rfl)
theorem dJ26_clear_42 : decode cJ26_clear 42 = .ok (.return_, 1) := dk_177 (dk_at dksJ26_clear_1 19 rfl rfl)
theorem q92 : (Jvm.Cond.initialized "java/util/ArrayList") ∈ lw_all := lw_g (lw_at lw_m1 35 rfl) rfl
theorem q681 : (Jvm.Cond.selects "java/util/ArrayList" ({ cls := "java/lang/Object", name := "getClass", desc := "()Ljava/lang/Class;" } : Jvm.MethodName) ({ cls := "java/lang/Object", name := "getClass", desc := "()Ljava/lang/Class;" } : Jvm.MethodName)) ∈ lw_all := lw_g (lw_at lw_m3 144 rfl) rfl
theorem q1084 : (Jvm.Cond.castable "java/util/ArrayList" "java/util/List") ∈ lw_tbl := lw_at lw_m5 67 rfl
theorem q1085 : (Jvm.Cond.selects "java/util/ArrayList" ({ cls := "java/util/List", name := "isEmpty", desc := "()Z" } : Jvm.MethodName) ({ cls := "java/util/ArrayList", name := "isEmpty", desc := "()Z" } : Jvm.MethodName)) ∈ lw_all := lw_g (lw_at lw_m5 68 rfl) rfl
theorem q1086 : (Jvm.Cond.unhidden "java/util/ArrayList" "isEmpty" "()Z") ∈ lw_tbl := lw_at lw_m5 69 rfl
theorem q1087 : (Jvm.Cond.instanceMethod ({ cls := "java/util/ArrayList", name := "isEmpty", desc := "()Z" } : Jvm.MethodName)) ∈ lw_all := lw_g (lw_at lw_m5 70 rfl) rfl
theorem q1088 : (Jvm.Cond.publicMethod ({ cls := "java/util/ArrayList", name := "isEmpty", desc := "()Z" } : Jvm.MethodName)) ∈ lw_tbl := lw_at lw_m5 71 rfl
theorem q1089 : (Jvm.Cond.code ({ cls := "java/util/ArrayList", name := "isEmpty", desc := "()Z" } : Jvm.MethodName) prog_49_method_9_code (1 : Nat) (Option.some Jvm.ClassFile.FieldType.boolean)) ∈ lw_all := lw_g (lw_at lw_m5 72 rfl) rfl
theorem q1094 : (Jvm.Cond.selects "java/util/ArrayList" ({ cls := "java/util/List", name := "size", desc := "()I" } : Jvm.MethodName) ({ cls := "java/util/ArrayList", name := "size", desc := "()I" } : Jvm.MethodName)) ∈ lw_all := lw_g (lw_at lw_m5 77 rfl) rfl
theorem q1095 : (Jvm.Cond.unhidden "java/util/ArrayList" "size" "()I") ∈ lw_tbl := lw_at lw_m5 78 rfl
theorem q1096 : (Jvm.Cond.instanceMethod ({ cls := "java/util/ArrayList", name := "size", desc := "()I" } : Jvm.MethodName)) ∈ lw_all := lw_g (lw_at lw_m5 79 rfl) rfl
theorem q1097 : (Jvm.Cond.publicMethod ({ cls := "java/util/ArrayList", name := "size", desc := "()I" } : Jvm.MethodName)) ∈ lw_tbl := lw_at lw_m5 80 rfl
theorem q1098 : (Jvm.Cond.code ({ cls := "java/util/ArrayList", name := "size", desc := "()I" } : Jvm.MethodName) prog_49_method_8_code (1 : Nat) (Option.some Jvm.ClassFile.FieldType.int)) ∈ lw_all := lw_g (lw_at lw_m5 81 rfl) rfl
theorem q1103 : (Jvm.Cond.selects "java/util/ArrayList" ({ cls := "java/util/List", name := "get", desc := "(I)Ljava/lang/Object;" } : Jvm.MethodName) ({ cls := "java/util/ArrayList", name := "get", desc := "(I)Ljava/lang/Object;" } : Jvm.MethodName)) ∈ lw_all := lw_g (lw_at lw_m5 86 rfl) rfl
theorem q1104 : (Jvm.Cond.unhidden "java/util/ArrayList" "get" "(I)Ljava/lang/Object;") ∈ lw_tbl := lw_at lw_m5 87 rfl
theorem q1105 : (Jvm.Cond.instanceMethod ({ cls := "java/util/ArrayList", name := "get", desc := "(I)Ljava/lang/Object;" } : Jvm.MethodName)) ∈ lw_all := lw_g (lw_at lw_m5 88 rfl) rfl
theorem q1106 : (Jvm.Cond.publicMethod ({ cls := "java/util/ArrayList", name := "get", desc := "(I)Ljava/lang/Object;" } : Jvm.MethodName)) ∈ lw_tbl := lw_at lw_m5 89 rfl
theorem q1107 : (Jvm.Cond.code ({ cls := "java/util/ArrayList", name := "get", desc := "(I)Ljava/lang/Object;" } : Jvm.MethodName) prog_49_method_20_code (2 : Nat) (Option.some (Jvm.ClassFile.FieldType.object "java/lang/Object"))) ∈ lw_all := lw_g (lw_at lw_m5 90 rfl) rfl
theorem q1108 : (Jvm.Cond.methodLink "java/util/ArrayList" (118 : Nat) ({ cls := "java/util/Objects", name := "checkIndex", desc := "(II)I" } : Jvm.MethodName)) ∈ lw_all := lw_g (lw_at lw_m5 91 rfl) rfl
theorem q1114 : (Jvm.Cond.methodLink "java/util/ArrayList" (123 : Nat) ({ cls := "java/util/ArrayList", name := "elementData", desc := "(I)Ljava/lang/Object;" } : Jvm.MethodName)) ∈ lw_all := lw_g (lw_at lw_m5 97 rfl) rfl
theorem q1115 : (Jvm.Cond.instanceMethod ({ cls := "java/util/ArrayList", name := "elementData", desc := "(I)Ljava/lang/Object;" } : Jvm.MethodName)) ∈ lw_all := lw_g (lw_at lw_m5 98 rfl) rfl
theorem q1116 : (Jvm.Cond.selects "java/util/ArrayList" ({ cls := "java/util/ArrayList", name := "elementData", desc := "(I)Ljava/lang/Object;" } : Jvm.MethodName) ({ cls := "java/util/ArrayList", name := "elementData", desc := "(I)Ljava/lang/Object;" } : Jvm.MethodName)) ∈ lw_all := lw_g (lw_at lw_m5 99 rfl) rfl
theorem q1117 : (Jvm.Cond.code ({ cls := "java/util/ArrayList", name := "elementData", desc := "(I)Ljava/lang/Object;" } : Jvm.MethodName) prog_49_method_18_code (2 : Nat) (Option.some (Jvm.ClassFile.FieldType.object "java/lang/Object"))) ∈ lw_all := lw_g (lw_at lw_m5 100 rfl) rfl
theorem q1162 : (Jvm.Cond.instantiable "java/util/ArrayList" (3 : Nat)) ∈ lw_all := lw_g (lw_at lw_m5 145 rfl) rfl
theorem q1164 : (Jvm.Cond.instanceMethod ({ cls := "java/util/ArrayList", name := "<init>", desc := "()V" } : Jvm.MethodName)) ∈ lw_all := lw_g (lw_at lw_m5 147 rfl) rfl
theorem q1165 : (Jvm.Cond.code ({ cls := "java/util/ArrayList", name := "<init>", desc := "()V" } : Jvm.MethodName) prog_49_method_2_code (1 : Nat) (Option.none : Option Jvm.ClassFile.FieldType)) ∈ lw_all := lw_g (lw_at lw_m5 148 rfl) rfl
theorem q1166 : (Jvm.Cond.methodLink "java/util/ArrayList" (1 : Nat) ({ cls := "java/util/AbstractList", name := "<init>", desc := "()V" } : Jvm.MethodName)) ∈ lw_all := lw_g (lw_at lw_m5 149 rfl) rfl
theorem q1173 : (Jvm.Cond.fieldLink "java/util/ArrayList" (39 : Nat) "java/util/ArrayList" "DEFAULTCAPACITY_EMPTY_ELEMENTDATA" "[Ljava/lang/Object;") ∈ lw_all := lw_g (lw_at lw_m5 156 rfl) rfl
theorem q1174 : (Jvm.Cond.laysStatic "java/util/ArrayList" "DEFAULTCAPACITY_EMPTY_ELEMENTDATA" "[Ljava/lang/Object;") ∈ lw_tbl := lw_at lw_m5 157 rfl
theorem q1175 : (Jvm.Cond.fieldLink "java/util/ArrayList" (9 : Nat) "java/util/ArrayList" "elementData" "[Ljava/lang/Object;") ∈ lw_all := lw_g (lw_at lw_m5 158 rfl) rfl
theorem q1176 : (Jvm.Cond.fieldLink "java/util/ArrayList" (48 : Nat) "java/util/ArrayList" "size" "I") ∈ lw_all := lw_g (lw_at lw_m5 159 rfl) rfl
theorem q1178 : (Jvm.Cond.fieldLink "java/util/ArrayList" (63 : Nat) "java/util/ArrayList" "modCount" "I") ∈ lw_all := lw_g (lw_at lw_m5 161 rfl) rfl
theorem q1179 : (Jvm.Cond.sameField "java/util/ArrayList" "java/util/AbstractList" "modCount" "I") ∈ lw_all := lw_g (lw_at lw_m5 162 rfl) rfl
theorem q1180 : (Jvm.Cond.lays "java/util/ArrayList" "java/util/ArrayList" "elementData" "[Ljava/lang/Object;") ∈ lw_all := lw_g (lw_at lw_m5 163 rfl) rfl
theorem q1181 : (Jvm.Cond.soleField "java/util/ArrayList" "elementData") ∈ lw_all := lw_g (lw_at lw_m5 164 rfl) rfl
theorem q1182 : (Jvm.Cond.lays "java/util/ArrayList" "java/util/ArrayList" "size" "I") ∈ lw_all := lw_g (lw_at lw_m5 165 rfl) rfl
theorem q1183 : (Jvm.Cond.soleField "java/util/ArrayList" "size") ∈ lw_all := lw_g (lw_at lw_m5 166 rfl) rfl
theorem q1184 : (Jvm.Cond.lays "java/util/ArrayList" "java/util/AbstractList" "modCount" "I") ∈ lw_all := lw_g (lw_at lw_m5 167 rfl) rfl
theorem q1186 : (Jvm.Cond.superclass "java/util/ArrayList" "java/util/AbstractList") ∈ lw_all := lw_g (lw_at lw_m5 169 rfl) rfl
theorem q1463 : (Jvm.Cond.selects "java/util/ArrayList" ({ cls := "java/util/List", name := "remove", desc := "(I)Ljava/lang/Object;" } : Jvm.MethodName) ({ cls := "java/util/ArrayList", name := "remove", desc := "(I)Ljava/lang/Object;" } : Jvm.MethodName)) ∈ lw_all := lw_g (lw_at lw_m6 206 rfl) rfl
theorem q1464 : (Jvm.Cond.unhidden "java/util/ArrayList" "remove" "(I)Ljava/lang/Object;") ∈ lw_tbl := lw_at lw_m6 207 rfl
theorem q1465 : (Jvm.Cond.instanceMethod ({ cls := "java/util/ArrayList", name := "remove", desc := "(I)Ljava/lang/Object;" } : Jvm.MethodName)) ∈ lw_all := lw_g (lw_at lw_m6 208 rfl) rfl
theorem q1466 : (Jvm.Cond.publicMethod ({ cls := "java/util/ArrayList", name := "remove", desc := "(I)Ljava/lang/Object;" } : Jvm.MethodName)) ∈ lw_tbl := lw_at lw_m6 209 rfl
theorem q1467 : (Jvm.Cond.code ({ cls := "java/util/ArrayList", name := "remove", desc := "(I)Ljava/lang/Object;" } : Jvm.MethodName) prog_49_method_29_code (4 : Nat) (Option.some (Jvm.ClassFile.FieldType.object "java/lang/Object"))) ∈ lw_all := lw_g (lw_at lw_m6 210 rfl) rfl
theorem q1468 : (Jvm.Cond.methodLink "java/util/ArrayList" (144 : Nat) ({ cls := "java/util/ArrayList", name := "fastRemove", desc := "([Ljava/lang/Object;I)V" } : Jvm.MethodName)) ∈ lw_all := lw_g (lw_at lw_m6 211 rfl) rfl
theorem q1469 : (Jvm.Cond.privateMethod ({ cls := "java/util/ArrayList", name := "fastRemove", desc := "([Ljava/lang/Object;I)V" } : Jvm.MethodName)) ∈ lw_tbl := lw_at lw_m6 212 rfl
theorem q1470 : (Jvm.Cond.instanceMethod ({ cls := "java/util/ArrayList", name := "fastRemove", desc := "([Ljava/lang/Object;I)V" } : Jvm.MethodName)) ∈ lw_all := lw_g (lw_at lw_m6 213 rfl) rfl
theorem q1471 : (Jvm.Cond.code ({ cls := "java/util/ArrayList", name := "fastRemove", desc := "([Ljava/lang/Object;I)V" } : Jvm.MethodName) prog_49_method_39_code (4 : Nat) (Option.none : Option Jvm.ClassFile.FieldType)) ∈ lw_all := lw_g (lw_at lw_m6 214 rfl) rfl
theorem q1472 : (Jvm.Cond.methodLink "java/util/ArrayList" (112 : Nat) ({ cls := "java/lang/System", name := "arraycopy", desc := "(Ljava/lang/Object;ILjava/lang/Object;II)V" } : Jvm.MethodName)) ∈ lw_all := lw_g (lw_at lw_m6 215 rfl) rfl
theorem q1488 : (Jvm.Cond.selects "java/util/ArrayList" ({ cls := "java/util/List", name := "add", desc := "(ILjava/lang/Object;)V" } : Jvm.MethodName) ({ cls := "java/util/ArrayList", name := "add", desc := "(ILjava/lang/Object;)V" } : Jvm.MethodName)) ∈ lw_all := lw_g (lw_at lw_m6 231 rfl) rfl
theorem q1489 : (Jvm.Cond.unhidden "java/util/ArrayList" "add" "(ILjava/lang/Object;)V") ∈ lw_tbl := lw_at lw_m6 232 rfl
theorem q1490 : (Jvm.Cond.instanceMethod ({ cls := "java/util/ArrayList", name := "add", desc := "(ILjava/lang/Object;)V" } : Jvm.MethodName)) ∈ lw_all := lw_g (lw_at lw_m6 233 rfl) rfl
theorem q1491 : (Jvm.Cond.publicMethod ({ cls := "java/util/ArrayList", name := "add", desc := "(ILjava/lang/Object;)V" } : Jvm.MethodName)) ∈ lw_tbl := lw_at lw_m6 234 rfl
theorem q1492 : (Jvm.Cond.code ({ cls := "java/util/ArrayList", name := "add", desc := "(ILjava/lang/Object;)V" } : Jvm.MethodName) prog_49_method_26_code (5 : Nat) (Option.none : Option Jvm.ClassFile.FieldType)) ∈ lw_all := lw_g (lw_at lw_m6 235 rfl) rfl
theorem q1493 : (Jvm.Cond.methodLink "java/util/ArrayList" (135 : Nat) ({ cls := "java/util/ArrayList", name := "rangeCheckForAdd", desc := "(I)V" } : Jvm.MethodName)) ∈ lw_all := lw_g (lw_at lw_m6 236 rfl) rfl
theorem q1494 : (Jvm.Cond.privateMethod ({ cls := "java/util/ArrayList", name := "rangeCheckForAdd", desc := "(I)V" } : Jvm.MethodName)) ∈ lw_tbl := lw_at lw_m6 237 rfl
theorem q1495 : (Jvm.Cond.instanceMethod ({ cls := "java/util/ArrayList", name := "rangeCheckForAdd", desc := "(I)V" } : Jvm.MethodName)) ∈ lw_all := lw_g (lw_at lw_m6 238 rfl) rfl
theorem q1496 : (Jvm.Cond.code ({ cls := "java/util/ArrayList", name := "rangeCheckForAdd", desc := "(I)V" } : Jvm.MethodName) prog_49_method_45_code (2 : Nat) (Option.none : Option Jvm.ClassFile.FieldType)) ∈ lw_all := lw_g (lw_at lw_m6 239 rfl) rfl
theorem q1497 : (Jvm.Cond.classLink "java/util/ArrayList" (187 : Nat) "java/lang/IndexOutOfBoundsException") ∈ lw_all := lw_g (lw_at lw_m7 0 rfl) rfl
theorem q1506 : (Jvm.Cond.methodLink "java/util/ArrayList" (198 : Nat) ({ cls := "java/util/ArrayList", name := "outOfBoundsMsg", desc := "(I)Ljava/lang/String;" } : Jvm.MethodName)) ∈ lw_all := lw_g (lw_at lw_m7 9 rfl) rfl
theorem q1507 : (Jvm.Cond.privateMethod ({ cls := "java/util/ArrayList", name := "outOfBoundsMsg", desc := "(I)Ljava/lang/String;" } : Jvm.MethodName)) ∈ lw_tbl := lw_at lw_m7 10 rfl
theorem q1508 : (Jvm.Cond.instanceMethod ({ cls := "java/util/ArrayList", name := "outOfBoundsMsg", desc := "(I)Ljava/lang/String;" } : Jvm.MethodName)) ∈ lw_all := lw_g (lw_at lw_m7 11 rfl) rfl
theorem q1509 : (Jvm.Cond.code ({ cls := "java/util/ArrayList", name := "outOfBoundsMsg", desc := "(I)Ljava/lang/String;" } : Jvm.MethodName) prog_49_method_46_code (2 : Nat) (Option.some (Jvm.ClassFile.FieldType.object "java/lang/String"))) ∈ lw_all := lw_g (lw_at lw_m7 12 rfl) rfl
theorem q1510 : (Jvm.Cond.classLink "java/util/ArrayList" (20 : Nat) "java/lang/StringBuilder") ∈ lw_all := lw_g (lw_at lw_m7 13 rfl) rfl
theorem q1511 : (Jvm.Cond.methodLink "java/util/ArrayList" (22 : Nat) ({ cls := "java/lang/StringBuilder", name := "<init>", desc := "()V" } : Jvm.MethodName)) ∈ lw_all := lw_g (lw_at lw_m7 14 rfl) rfl
theorem q1512 : (Jvm.Cond.stringRef "java/util/ArrayList" (201 : Nat) "Index: ") ∈ lw_tbl := lw_at lw_m7 15 rfl
theorem q1513 : (Jvm.Cond.methodLink "java/util/ArrayList" (25 : Nat) ({ cls := "java/lang/StringBuilder", name := "append", desc := "(Ljava/lang/String;)Ljava/lang/StringBuilder;" } : Jvm.MethodName)) ∈ lw_all := lw_g (lw_at lw_m7 16 rfl) rfl
theorem q1514 : (Jvm.Cond.methodLink "java/util/ArrayList" (29 : Nat) ({ cls := "java/lang/StringBuilder", name := "append", desc := "(I)Ljava/lang/StringBuilder;" } : Jvm.MethodName)) ∈ lw_all := lw_g (lw_at lw_m7 17 rfl) rfl
theorem q1515 : (Jvm.Cond.stringRef "java/util/ArrayList" (203 : Nat) ", Size: ") ∈ lw_tbl := lw_at lw_m7 18 rfl
theorem q1516 : (Jvm.Cond.methodLink "java/util/ArrayList" (32 : Nat) ({ cls := "java/lang/StringBuilder", name := "toString", desc := "()Ljava/lang/String;" } : Jvm.MethodName)) ∈ lw_all := lw_g (lw_at lw_m7 19 rfl) rfl
theorem q1517 : (Jvm.Cond.methodLink "java/util/ArrayList" (193 : Nat) ({ cls := "java/lang/IndexOutOfBoundsException", name := "<init>", desc := "(Ljava/lang/String;)V" } : Jvm.MethodName)) ∈ lw_all := lw_g (lw_at lw_m7 20 rfl) rfl
theorem q1523 : (Jvm.Cond.methodLink "java/util/ArrayList" (129 : Nat) ({ cls := "java/util/ArrayList", name := "grow", desc := "()[Ljava/lang/Object;" } : Jvm.MethodName)) ∈ lw_all := lw_g (lw_at lw_m7 26 rfl) rfl
theorem q1524 : (Jvm.Cond.privateMethod ({ cls := "java/util/ArrayList", name := "grow", desc := "()[Ljava/lang/Object;" } : Jvm.MethodName)) ∈ lw_tbl := lw_at lw_m7 27 rfl
theorem q1525 : (Jvm.Cond.instanceMethod ({ cls := "java/util/ArrayList", name := "grow", desc := "()[Ljava/lang/Object;" } : Jvm.MethodName)) ∈ lw_all := lw_g (lw_at lw_m7 28 rfl) rfl
theorem q1526 : (Jvm.Cond.code ({ cls := "java/util/ArrayList", name := "grow", desc := "()[Ljava/lang/Object;" } : Jvm.MethodName) prog_49_method_7_code (1 : Nat) (Option.some (Jvm.ClassFile.FieldType.array (Jvm.ClassFile.FieldType.object "java/lang/Object")))) ∈ lw_all := lw_g (lw_at lw_m7 29 rfl) rfl
theorem q1527 : (Jvm.Cond.methodLink "java/util/ArrayList" (69 : Nat) ({ cls := "java/util/ArrayList", name := "grow", desc := "(I)[Ljava/lang/Object;" } : Jvm.MethodName)) ∈ lw_all := lw_g (lw_at lw_m7 30 rfl) rfl
theorem q1528 : (Jvm.Cond.privateMethod ({ cls := "java/util/ArrayList", name := "grow", desc := "(I)[Ljava/lang/Object;" } : Jvm.MethodName)) ∈ lw_tbl := lw_at lw_m7 31 rfl
theorem q1529 : (Jvm.Cond.instanceMethod ({ cls := "java/util/ArrayList", name := "grow", desc := "(I)[Ljava/lang/Object;" } : Jvm.MethodName)) ∈ lw_all := lw_g (lw_at lw_m7 32 rfl) rfl
theorem q1530 : (Jvm.Cond.code ({ cls := "java/util/ArrayList", name := "grow", desc := "(I)[Ljava/lang/Object;" } : Jvm.MethodName) prog_49_method_6_code (4 : Nat) (Option.some (Jvm.ClassFile.FieldType.array (Jvm.ClassFile.FieldType.object "java/lang/Object")))) ∈ lw_all := lw_g (lw_at lw_m7 33 rfl) rfl
theorem q1531 : (Jvm.Cond.methodLink "java/util/ArrayList" (73 : Nat) ({ cls := "jdk/internal/util/ArraysSupport", name := "newLength", desc := "(III)I" } : Jvm.MethodName)) ∈ lw_all := lw_g (lw_at lw_m7 34 rfl) rfl
theorem q1532 : (Jvm.Cond.methodLink "java/util/ArrayList" (66 : Nat) ({ cls := "java/util/Arrays", name := "copyOf", desc := "([Ljava/lang/Object;I)[Ljava/lang/Object;" } : Jvm.MethodName)) ∈ lw_all := lw_g (lw_at lw_m7 35 rfl) rfl
theorem q1533 : (Jvm.Cond.methodLink "java/util/ArrayList" (79 : Nat) ({ cls := "java/lang/Math", name := "max", desc := "(II)I" } : Jvm.MethodName)) ∈ lw_all := lw_g (lw_at lw_m7 36 rfl) rfl
theorem q1534 : (Jvm.Cond.classLink "java/util/ArrayList" (7 : Nat) "java/lang/Object") ∈ lw_all := lw_g (lw_at lw_m7 37 rfl) rfl
theorem q2205 : (Jvm.Cond.selects "java/util/ArrayList" ({ cls := "java/util/List", name := "clear", desc := "()V" } : Jvm.MethodName) ({ cls := "java/util/ArrayList", name := "clear", desc := "()V" } : Jvm.MethodName)) ∈ lw_all := lw_g (lw_at lw_m9 228 rfl) rfl
theorem q2206 : (Jvm.Cond.unhidden "java/util/ArrayList" "clear" "()V") ∈ lw_tbl := lw_at lw_m9 229 rfl
theorem q2207 : (Jvm.Cond.instanceMethod ({ cls := "java/util/ArrayList", name := "clear", desc := "()V" } : Jvm.MethodName)) ∈ lw_all := lw_g (lw_at lw_m9 230 rfl) rfl
theorem q2208 : (Jvm.Cond.publicMethod ({ cls := "java/util/ArrayList", name := "clear", desc := "()V" } : Jvm.MethodName)) ∈ lw_tbl := lw_at lw_m9 231 rfl
theorem q2209 : (Jvm.Cond.code ({ cls := "java/util/ArrayList", name := "clear", desc := "()V" } : Jvm.MethodName) prog_49_method_40_code (4 : Nat) (Option.none : Option Jvm.ClassFile.FieldType)) ∈ lw_all := lw_g (lw_at lw_m9 232 rfl) rfl
theorem q2751 : (Jvm.Cond.castable "java/util/ArrayList" "java/lang/Object") ∈ lw_tbl := lw_at lw_m12 54 rfl
abbrev cJ27_init : ByteArray := prog_48_method_3_code
def yJ27_init : MethodName := ⟨RJ27, "<init>", "()V"⟩
def dkwJ27_init_0 : List UInt8 := [42, 183, 0, 42, 42, 16, 17, 189, 0, 47, 181, 0, 3, 177]
abbrev dktJ27_init_0 : List UInt8 := dkwJ27_init_0 ++ []
theorem dksJ27_init_0 : cJ27_init.data.toList.drop 0 = dktJ27_init_0 := by decide +kernel
theorem dJ27_init_0 : decode cJ27_init 0 = .ok (.aload_n 0, 1) := dk_42 (dk_at dksJ27_init_0 0 rfl rfl)
theorem dJ27_init_1 : decode cJ27_init 1 = .ok (.invokespecial 42, 3) := dk_183 0 42 (dk_at dksJ27_init_0 1 rfl rfl)
theorem dJ27_init_4 : decode cJ27_init 4 = .ok (.aload_n 0, 1) := dk_42 (dk_at dksJ27_init_0 4 rfl rfl)
theorem dJ27_init_5 : decode cJ27_init 5 = .ok (.bipush 17, 2) := dk_16 17 (dk_at dksJ27_init_0 5 rfl rfl)
theorem dJ27_init_7 : decode cJ27_init 7 = .ok (.anewarray 47, 3) := dk_189 0 47 (dk_at dksJ27_init_0 7 rfl rfl)
theorem dJ27_init_10 : decode cJ27_init 10 = .ok (.putfield 3, 3) := dk_181 0 3 (dk_at dksJ27_init_0 10 rfl rfl)
theorem dJ27_init_13 : decode cJ27_init 13 = .ok (.return_, 1) := dk_177 (dk_at dksJ27_init_0 13 rfl rfl)
abbrev cJ27_addLast : ByteArray := prog_48_method_13_code
def yJ27_addLast : MethodName := ⟨RJ27, "addLast", "(Ljava/lang/Object;)V"⟩
def dkwJ27_addLast_2 : List UInt8 := [182, 0, 71, 177]
abbrev dktJ27_addLast_2 : List UInt8 := dkwJ27_addLast_2 ++ []
def dkwJ27_addLast_1 : List UInt8 := [42, 180, 0, 24, 42, 42, 180, 0, 20, 44, 190, 184, 0, 74, 90, 181, 0, 20, 160, 0, 8, 42, 4]
abbrev dktJ27_addLast_1 : List UInt8 := dkwJ27_addLast_1 ++ dktJ27_addLast_2
def dkwJ27_addLast_0 : List UInt8 := [43, 199, 0, 11, 187, 0, 65, 89, 183, 0, 67, 191, 42, 180, 0, 3, 77, 44, 42, 180, 0, 20, 43, 83]
abbrev dktJ27_addLast_0 : List UInt8 := dkwJ27_addLast_0 ++ dktJ27_addLast_1
theorem dksJ27_addLast_0 : cJ27_addLast.data.toList.drop 0 = dktJ27_addLast_0 := by decide +kernel
theorem dksJ27_addLast_1 : cJ27_addLast.data.toList.drop 24 = dktJ27_addLast_1 := dk_seg dksJ27_addLast_0 24 rfl rfl
theorem dksJ27_addLast_2 : cJ27_addLast.data.toList.drop 47 = dktJ27_addLast_2 := dk_seg dksJ27_addLast_1 23 rfl rfl
theorem dJ27_addLast_0 : decode cJ27_addLast 0 = .ok (.aload_n 1, 1) := dk_43 (dk_at dksJ27_addLast_0 0 rfl rfl)
theorem dJ27_addLast_1 : decode cJ27_addLast 1 = .ok (.ifnonnull 11, 3) := dk_199 0 11 (dk_at dksJ27_addLast_0 1 rfl rfl)
theorem dJ27_addLast_4 : decode cJ27_addLast 4 = .ok (.new 65, 3) := dk_187 0 65 (dk_at dksJ27_addLast_0 4 rfl rfl)
theorem dJ27_addLast_7 : decode cJ27_addLast 7 = .ok (.dup, 1) := dk_89 (dk_at dksJ27_addLast_0 7 rfl rfl)
theorem dJ27_addLast_8 : decode cJ27_addLast 8 = .ok (.invokespecial 67, 3) := dk_183 0 67 (dk_at dksJ27_addLast_0 8 rfl rfl)
theorem dJ27_addLast_11 : decode cJ27_addLast 11 = .ok (.athrow, 1) := dk_191 (dk_at dksJ27_addLast_0 11 rfl rfl)
theorem dJ27_addLast_12 : decode cJ27_addLast 12 = .ok (.aload_n 0, 1) := dk_42 (dk_at dksJ27_addLast_0 12 rfl rfl)
theorem dJ27_addLast_13 : decode cJ27_addLast 13 = .ok (.getfield 3, 3) := dk_180 0 3 (dk_at dksJ27_addLast_0 13 rfl rfl)
theorem dJ27_addLast_16 : decode cJ27_addLast 16 = .ok (.astore_n 2, 1) := dk_77 (dk_at dksJ27_addLast_0 16 rfl rfl)
theorem dJ27_addLast_17 : decode cJ27_addLast 17 = .ok (.aload_n 2, 1) := dk_44 (dk_at dksJ27_addLast_0 17 rfl rfl)
theorem dJ27_addLast_18 : decode cJ27_addLast 18 = .ok (.aload_n 0, 1) := dk_42 (dk_at dksJ27_addLast_0 18 rfl rfl)
theorem dJ27_addLast_19 : decode cJ27_addLast 19 = .ok (.getfield 20, 3) := dk_180 0 20 (dk_at dksJ27_addLast_0 19 rfl rfl)
theorem dJ27_addLast_22 : decode cJ27_addLast 22 = .ok (.aload_n 1, 1) := dk_43 (dk_at dksJ27_addLast_0 22 rfl rfl)
theorem dJ27_addLast_23 : decode cJ27_addLast 23 = .ok (.aastore, 1) := dk_83 (dk_at dksJ27_addLast_0 23 rfl rfl)
theorem dJ27_addLast_24 : decode cJ27_addLast 24 = .ok (.aload_n 0, 1) := dk_42 (dk_at dksJ27_addLast_1 0 rfl rfl)
theorem dJ27_addLast_25 : decode cJ27_addLast 25 = .ok (.getfield 24, 3) := dk_180 0 24 (dk_at dksJ27_addLast_1 1 rfl rfl)
theorem dJ27_addLast_28 : decode cJ27_addLast 28 = .ok (.aload_n 0, 1) := dk_42 (dk_at dksJ27_addLast_1 4 rfl rfl)
theorem dJ27_addLast_29 : decode cJ27_addLast 29 = .ok (.aload_n 0, 1) := dk_42 (dk_at dksJ27_addLast_1 5 rfl rfl)
theorem dJ27_addLast_30 : decode cJ27_addLast 30 = .ok (.getfield 20, 3) := dk_180 0 20 (dk_at dksJ27_addLast_1 6 rfl rfl)
theorem dJ27_addLast_33 : decode cJ27_addLast 33 = .ok (.aload_n 2, 1) := dk_44 (dk_at dksJ27_addLast_1 9 rfl rfl)
theorem dJ27_addLast_34 : decode cJ27_addLast 34 = .ok (.arraylength, 1) := dk_190 (dk_at dksJ27_addLast_1 10 rfl rfl)
theorem dJ27_addLast_35 : decode cJ27_addLast 35 = .ok (.invokestatic 74, 3) := dk_184 0 74 (dk_at dksJ27_addLast_1 11 rfl rfl)
theorem dJ27_addLast_38 : decode cJ27_addLast 38 = .ok (.dup_x1, 1) := dk_90 (dk_at dksJ27_addLast_1 14 rfl rfl)
theorem dJ27_addLast_39 : decode cJ27_addLast 39 = .ok (.putfield 20, 3) := dk_181 0 20 (dk_at dksJ27_addLast_1 15 rfl rfl)
theorem dJ27_addLast_42 : decode cJ27_addLast 42 = .ok (.if_icmp .ne 8, 3) := dk_160 0 8 (dk_at dksJ27_addLast_1 18 rfl rfl)
theorem dJ27_addLast_45 : decode cJ27_addLast 45 = .ok (.aload_n 0, 1) := dk_42 (dk_at dksJ27_addLast_1 21 rfl rfl)
theorem dJ27_addLast_46 : decode cJ27_addLast 46 = .ok (.iconst 1, 1) := dk_4 (dk_at dksJ27_addLast_1 22 rfl rfl)
theorem dJ27_addLast_47 : decode cJ27_addLast 47 = .ok (.invokevirtual 71, 3) := dk_182 0 71 (dk_at dksJ27_addLast_2 0 rfl rfl)
theorem dJ27_addLast_50 : decode cJ27_addLast 50 = .ok (.return_, 1) := dk_177 (dk_at dksJ27_addLast_2 3 rfl rfl)
abbrev cJ27_inc : ByteArray := prog_48_method_6_code
def yJ27_inc : MethodName := ⟨RJ27, "inc", "(II)I"⟩
def dkwJ27_inc_0 : List UInt8 := [132, 0, 1, 26, 27, 161, 0, 5, 3, 59, 26, 172]
abbrev dktJ27_inc_0 : List UInt8 := dkwJ27_inc_0 ++ []
theorem dksJ27_inc_0 : cJ27_inc.data.toList.drop 0 = dktJ27_inc_0 := by decide +kernel
theorem dJ27_inc_0 : decode cJ27_inc 0 = .ok (.iinc 0 1, 3) := dk_132 0 1 (dk_at dksJ27_inc_0 0 rfl rfl)
theorem dJ27_inc_3 : decode cJ27_inc 3 = .ok (.iload_n 0, 1) := dk_26 (dk_at dksJ27_inc_0 3 rfl rfl)
theorem dJ27_inc_4 : decode cJ27_inc 4 = .ok (.iload_n 1, 1) := dk_27 (dk_at dksJ27_inc_0 4 rfl rfl)
theorem dJ27_inc_5 : decode cJ27_inc 5 = .ok (.if_icmp .lt 5, 3) := dk_161 0 5 (dk_at dksJ27_inc_0 5 rfl rfl)
theorem dJ27_inc_8 : decode cJ27_inc 8 = .ok (.iconst 0, 1) := dk_3 (dk_at dksJ27_inc_0 8 rfl rfl)
theorem dJ27_inc_9 : decode cJ27_inc 9 = .ok (.istore_n 0, 1) := dk_59 (dk_at dksJ27_inc_0 9 rfl rfl)
theorem dJ27_inc_10 : decode cJ27_inc 10 = .ok (.iload_n 0, 1) := dk_26 (dk_at dksJ27_inc_0 10 rfl rfl)
theorem dJ27_inc_11 : decode cJ27_inc 11 = .ok (.ireturn, 1) := dk_172 (dk_at dksJ27_inc_0 11 rfl rfl)
abbrev cJ27_grow : ByteArray := prog_48_method_1_code
def yJ27_grow : MethodName := ⟨RJ27, "grow", "(I)V"⟩
def dkwJ27_grow_7 : List UInt8 := [177]
abbrev dktJ27_grow_7 : List UInt8 := dkwJ27_grow_7 ++ []
def dkwJ27_grow_6 : List UInt8 := [181, 0, 24, 54, 8, 21, 7, 21, 8, 162, 0, 15, 25, 5, 21, 7, 1, 83, 132, 7, 1, 167, 255, 240]
abbrev dktJ27_grow_6 : List UInt8 := dkwJ27_grow_6 ++ dktJ27_grow_7
def dkwJ27_grow_5 : List UInt8 := [42, 180, 0, 24, 100, 184, 0, 27, 42, 180, 0, 24, 54, 7, 42, 89, 180, 0, 24, 21, 6, 96, 90]
abbrev dktJ27_grow_5 : List UInt8 := dkwJ27_grow_5 ++ dktJ27_grow_6
def dkwJ27_grow_4 : List UInt8 := [198, 0, 71, 29, 28, 100, 54, 6, 25, 5, 42, 180, 0, 24, 25, 5, 42, 180, 0, 24, 21, 6, 96, 28]
abbrev dktJ27_grow_4 : List UInt8 := dkwJ27_grow_4 ++ dktJ27_grow_5
def dkwJ27_grow_3 : List UInt8 := [180, 0, 24, 161, 0, 24, 42, 180, 0, 20, 42, 180, 0, 24, 160, 0, 81, 25, 5, 42, 180, 0, 24, 50]
abbrev dktJ27_grow_3 : List UInt8 := dkwJ27_grow_3 ++ dktJ27_grow_4
def dkwJ27_grow_2 : List UInt8 := [182, 0, 10, 62, 42, 42, 180, 0, 3, 29, 184, 0, 14, 90, 181, 0, 3, 58, 5, 42, 180, 0, 20, 42]
abbrev dktJ27_grow_2 : List UInt8 := dkwJ27_grow_2 ++ dktJ27_grow_3
def dkwJ27_grow_1 : List UInt8 := [21, 4, 27, 161, 0, 15, 28, 21, 4, 96, 89, 62, 18, 9, 100, 158, 0, 11, 42, 27, 21, 4]
abbrev dktJ27_grow_1 : List UInt8 := dkwJ27_grow_1 ++ dktJ27_grow_2
def dkwJ27_grow_0 : List UInt8 := [42, 180, 0, 3, 190, 61, 28, 16, 64, 162, 0, 9, 28, 5, 96, 167, 0, 6, 28, 4, 122, 54, 4]
abbrev dktJ27_grow_0 : List UInt8 := dkwJ27_grow_0 ++ dktJ27_grow_1
theorem dksJ27_grow_0 : cJ27_grow.data.toList.drop 0 = dktJ27_grow_0 := by decide +kernel
theorem dksJ27_grow_1 : cJ27_grow.data.toList.drop 23 = dktJ27_grow_1 := dk_seg dksJ27_grow_0 23 rfl rfl
theorem dksJ27_grow_2 : cJ27_grow.data.toList.drop 45 = dktJ27_grow_2 := dk_seg dksJ27_grow_1 22 rfl rfl
theorem dksJ27_grow_3 : cJ27_grow.data.toList.drop 69 = dktJ27_grow_3 := dk_seg dksJ27_grow_2 24 rfl rfl
theorem dksJ27_grow_4 : cJ27_grow.data.toList.drop 93 = dktJ27_grow_4 := dk_seg dksJ27_grow_3 24 rfl rfl
theorem dksJ27_grow_5 : cJ27_grow.data.toList.drop 117 = dktJ27_grow_5 := dk_seg dksJ27_grow_4 24 rfl rfl
theorem dksJ27_grow_6 : cJ27_grow.data.toList.drop 140 = dktJ27_grow_6 := dk_seg dksJ27_grow_5 23 rfl rfl
theorem dksJ27_grow_7 : cJ27_grow.data.toList.drop 164 = dktJ27_grow_7 := dk_seg dksJ27_grow_6 24 rfl rfl
theorem dJ27_grow_0 : decode cJ27_grow 0 = .ok (.aload_n 0, 1) := dk_42 (dk_at dksJ27_grow_0 0 rfl rfl)
theorem dJ27_grow_1 : decode cJ27_grow 1 = .ok (.getfield 3, 3) := dk_180 0 3 (dk_at dksJ27_grow_0 1 rfl rfl)
theorem dJ27_grow_4 : decode cJ27_grow 4 = .ok (.arraylength, 1) := dk_190 (dk_at dksJ27_grow_0 4 rfl rfl)
theorem dJ27_grow_5 : decode cJ27_grow 5 = .ok (.istore_n 2, 1) := dk_61 (dk_at dksJ27_grow_0 5 rfl rfl)
theorem dJ27_grow_6 : decode cJ27_grow 6 = .ok (.iload_n 2, 1) := dk_28 (dk_at dksJ27_grow_0 6 rfl rfl)
theorem dJ27_grow_7 : decode cJ27_grow 7 = .ok (.bipush 64, 2) := dk_16 64 (dk_at dksJ27_grow_0 7 rfl rfl)
theorem dJ27_grow_9 : decode cJ27_grow 9 = .ok (.if_icmp .ge 9, 3) := dk_162 0 9 (dk_at dksJ27_grow_0 9 rfl rfl)
theorem dJ27_grow_12 : decode cJ27_grow 12 = .ok (.iload_n 2, 1) := dk_28 (dk_at dksJ27_grow_0 12 rfl rfl)
theorem dJ27_grow_13 : decode cJ27_grow 13 = .ok (.iconst 2, 1) := dk_5 (dk_at dksJ27_grow_0 13 rfl rfl)
theorem dJ27_grow_14 : decode cJ27_grow 14 = .ok (.iadd, 1) := dk_96 (dk_at dksJ27_grow_0 14 rfl rfl)
theorem dJ27_grow_15 : decode cJ27_grow 15 = .ok (.goto 6, 3) := dk_167 0 6 (dk_at dksJ27_grow_0 15 rfl rfl)
theorem dJ27_grow_18 : decode cJ27_grow 18 = .ok (.iload_n 2, 1) := dk_28 (dk_at dksJ27_grow_0 18 rfl rfl)
theorem dJ27_grow_19 : decode cJ27_grow 19 = .ok (.iconst 1, 1) := dk_4 (dk_at dksJ27_grow_0 19 rfl rfl)
theorem dJ27_grow_20 : decode cJ27_grow 20 = .ok (.ishr, 1) := dk_122 (dk_at dksJ27_grow_0 20 rfl rfl)
theorem dJ27_grow_21 : decode cJ27_grow 21 = .ok (.istore 4, 2) := dk_54 4 (dk_at dksJ27_grow_0 21 rfl rfl)
theorem dJ27_grow_23 : decode cJ27_grow 23 = .ok (.iload 4, 2) := dk_21 4 (dk_at dksJ27_grow_1 0 rfl rfl)
theorem dJ27_grow_25 : decode cJ27_grow 25 = .ok (.iload_n 1, 1) := dk_27 (dk_at dksJ27_grow_1 2 rfl rfl)
theorem dJ27_grow_26 : decode cJ27_grow 26 = .ok (.if_icmp .lt 15, 3) := dk_161 0 15 (dk_at dksJ27_grow_1 3 rfl rfl)
theorem dJ27_grow_29 : decode cJ27_grow 29 = .ok (.iload_n 2, 1) := dk_28 (dk_at dksJ27_grow_1 6 rfl rfl)
theorem dJ27_grow_30 : decode cJ27_grow 30 = .ok (.iload 4, 2) := dk_21 4 (dk_at dksJ27_grow_1 7 rfl rfl)
theorem dJ27_grow_32 : decode cJ27_grow 32 = .ok (.iadd, 1) := dk_96 (dk_at dksJ27_grow_1 9 rfl rfl)
theorem dJ27_grow_33 : decode cJ27_grow 33 = .ok (.dup, 1) := dk_89 (dk_at dksJ27_grow_1 10 rfl rfl)
theorem dJ27_grow_34 : decode cJ27_grow 34 = .ok (.istore_n 3, 1) := dk_62 (dk_at dksJ27_grow_1 11 rfl rfl)
theorem dJ27_grow_35 : decode cJ27_grow 35 = .ok (.ldc 9, 2) := dk_18 9 (dk_at dksJ27_grow_1 12 rfl rfl)
theorem dJ27_grow_37 : decode cJ27_grow 37 = .ok (.isub, 1) := dk_100 (dk_at dksJ27_grow_1 14 rfl rfl)
theorem dJ27_grow_38 : decode cJ27_grow 38 = .ok (.ifCond .le 11, 3) := dk_158 0 11 (dk_at dksJ27_grow_1 15 rfl rfl)
theorem dJ27_grow_41 : decode cJ27_grow 41 = .ok (.aload_n 0, 1) := dk_42 (dk_at dksJ27_grow_1 18 rfl rfl)
theorem dJ27_grow_42 : decode cJ27_grow 42 = .ok (.iload_n 1, 1) := dk_27 (dk_at dksJ27_grow_1 19 rfl rfl)
theorem dJ27_grow_43 : decode cJ27_grow 43 = .ok (.iload 4, 2) := dk_21 4 (dk_at dksJ27_grow_1 20 rfl rfl)
theorem dJ27_grow_45 : decode cJ27_grow 45 = .ok (.invokevirtual 10, 3) := dk_182 0 10 (dk_at dksJ27_grow_2 0 rfl rfl)
theorem dJ27_grow_48 : decode cJ27_grow 48 = .ok (.istore_n 3, 1) := dk_62 (dk_at dksJ27_grow_2 3 rfl rfl)
theorem dJ27_grow_49 : decode cJ27_grow 49 = .ok (.aload_n 0, 1) := dk_42 (dk_at dksJ27_grow_2 4 rfl rfl)
theorem dJ27_grow_50 : decode cJ27_grow 50 = .ok (.aload_n 0, 1) := dk_42 (dk_at dksJ27_grow_2 5 rfl rfl)
theorem dJ27_grow_51 : decode cJ27_grow 51 = .ok (.getfield 3, 3) := dk_180 0 3 (dk_at dksJ27_grow_2 6 rfl rfl)
theorem dJ27_grow_54 : decode cJ27_grow 54 = .ok (.iload_n 3, 1) := dk_29 (dk_at dksJ27_grow_2 9 rfl rfl)
theorem dJ27_grow_55 : decode cJ27_grow 55 = .ok (.invokestatic 14, 3) := dk_184 0 14 (dk_at dksJ27_grow_2 10 rfl rfl)
theorem dJ27_grow_58 : decode cJ27_grow 58 = .ok (.dup_x1, 1) := dk_90 (dk_at dksJ27_grow_2 13 rfl rfl)
theorem dJ27_grow_59 : decode cJ27_grow 59 = .ok (.putfield 3, 3) := dk_181 0 3 (dk_at dksJ27_grow_2 14 rfl rfl)
theorem dJ27_grow_62 : decode cJ27_grow 62 = .ok (.astore 5, 2) := dk_58 5 (dk_at dksJ27_grow_2 17 rfl rfl)
theorem dJ27_grow_64 : decode cJ27_grow 64 = .ok (.aload_n 0, 1) := dk_42 (dk_at dksJ27_grow_2 19 rfl rfl)
theorem dJ27_grow_65 : decode cJ27_grow 65 = .ok (.getfield 20, 3) := dk_180 0 20 (dk_at dksJ27_grow_2 20 rfl rfl)
theorem dJ27_grow_68 : decode cJ27_grow 68 = .ok (.aload_n 0, 1) := dk_42 (dk_at dksJ27_grow_2 23 rfl rfl)
theorem dJ27_grow_69 : decode cJ27_grow 69 = .ok (.getfield 24, 3) := dk_180 0 24 (dk_at dksJ27_grow_3 0 rfl rfl)
theorem dJ27_grow_72 : decode cJ27_grow 72 = .ok (.if_icmp .lt 24, 3) := dk_161 0 24 (dk_at dksJ27_grow_3 3 rfl rfl)
theorem dJ27_grow_75 : decode cJ27_grow 75 = .ok (.aload_n 0, 1) := dk_42 (dk_at dksJ27_grow_3 6 rfl rfl)
theorem dJ27_grow_76 : decode cJ27_grow 76 = .ok (.getfield 20, 3) := dk_180 0 20 (dk_at dksJ27_grow_3 7 rfl rfl)
theorem dJ27_grow_79 : decode cJ27_grow 79 = .ok (.aload_n 0, 1) := dk_42 (dk_at dksJ27_grow_3 10 rfl rfl)
theorem dJ27_grow_80 : decode cJ27_grow 80 = .ok (.getfield 24, 3) := dk_180 0 24 (dk_at dksJ27_grow_3 11 rfl rfl)
theorem dJ27_grow_83 : decode cJ27_grow 83 = .ok (.if_icmp .ne 81, 3) := dk_160 0 81 (dk_at dksJ27_grow_3 14 rfl rfl)
theorem dJ27_grow_86 : decode cJ27_grow 86 = .ok (.aload 5, 2) := dk_25 5 (dk_at dksJ27_grow_3 17 rfl rfl)
theorem dJ27_grow_88 : decode cJ27_grow 88 = .ok (.aload_n 0, 1) := dk_42 (dk_at dksJ27_grow_3 19 rfl rfl)
theorem dJ27_grow_89 : decode cJ27_grow 89 = .ok (.getfield 24, 3) := dk_180 0 24 (dk_at dksJ27_grow_3 20 rfl rfl)
theorem dJ27_grow_92 : decode cJ27_grow 92 = .ok (.aaload, 1) := dk_50 (dk_at dksJ27_grow_3 23 rfl rfl)
theorem dJ27_grow_93 : decode cJ27_grow 93 = .ok (.ifnull 71, 3) := dk_198 0 71 (dk_at dksJ27_grow_4 0 rfl rfl)
theorem dJ27_grow_96 : decode cJ27_grow 96 = .ok (.iload_n 3, 1) := dk_29 (dk_at dksJ27_grow_4 3 rfl rfl)
theorem dJ27_grow_97 : decode cJ27_grow 97 = .ok (.iload_n 2, 1) := dk_28 (dk_at dksJ27_grow_4 4 rfl rfl)
theorem dJ27_grow_98 : decode cJ27_grow 98 = .ok (.isub, 1) := dk_100 (dk_at dksJ27_grow_4 5 rfl rfl)
theorem dJ27_grow_99 : decode cJ27_grow 99 = .ok (.istore 6, 2) := dk_54 6 (dk_at dksJ27_grow_4 6 rfl rfl)
theorem dJ27_grow_101 : decode cJ27_grow 101 = .ok (.aload 5, 2) := dk_25 5 (dk_at dksJ27_grow_4 8 rfl rfl)
theorem dJ27_grow_103 : decode cJ27_grow 103 = .ok (.aload_n 0, 1) := dk_42 (dk_at dksJ27_grow_4 10 rfl rfl)
theorem dJ27_grow_104 : decode cJ27_grow 104 = .ok (.getfield 24, 3) := dk_180 0 24 (dk_at dksJ27_grow_4 11 rfl rfl)
theorem dJ27_grow_107 : decode cJ27_grow 107 = .ok (.aload 5, 2) := dk_25 5 (dk_at dksJ27_grow_4 14 rfl rfl)
theorem dJ27_grow_109 : decode cJ27_grow 109 = .ok (.aload_n 0, 1) := dk_42 (dk_at dksJ27_grow_4 16 rfl rfl)
theorem dJ27_grow_110 : decode cJ27_grow 110 = .ok (.getfield 24, 3) := dk_180 0 24 (dk_at dksJ27_grow_4 17 rfl rfl)
theorem dJ27_grow_113 : decode cJ27_grow 113 = .ok (.iload 6, 2) := dk_21 6 (dk_at dksJ27_grow_4 20 rfl rfl)
theorem dJ27_grow_115 : decode cJ27_grow 115 = .ok (.iadd, 1) := dk_96 (dk_at dksJ27_grow_4 22 rfl rfl)
theorem dJ27_grow_116 : decode cJ27_grow 116 = .ok (.iload_n 2, 1) := dk_28 (dk_at dksJ27_grow_4 23 rfl rfl)
theorem dJ27_grow_117 : decode cJ27_grow 117 = .ok (.aload_n 0, 1) := dk_42 (dk_at dksJ27_grow_5 0 rfl rfl)
theorem dJ27_grow_118 : decode cJ27_grow 118 = .ok (.getfield 24, 3) := dk_180 0 24 (dk_at dksJ27_grow_5 1 rfl rfl)
theorem dJ27_grow_121 : decode cJ27_grow 121 = .ok (.isub, 1) := dk_100 (dk_at dksJ27_grow_5 4 rfl rfl)
theorem dJ27_grow_122 : decode cJ27_grow 122 = .ok (.invokestatic 27, 3) := dk_184 0 27 (dk_at dksJ27_grow_5 5 rfl rfl)
theorem dJ27_grow_125 : decode cJ27_grow 125 = .ok (.aload_n 0, 1) := dk_42 (dk_at dksJ27_grow_5 8 rfl rfl)
theorem dJ27_grow_126 : decode cJ27_grow 126 = .ok (.getfield 24, 3) := dk_180 0 24 (dk_at dksJ27_grow_5 9 rfl rfl)
theorem dJ27_grow_129 : decode cJ27_grow 129 = .ok (.istore 7, 2) := dk_54 7 (dk_at dksJ27_grow_5 12 rfl rfl)
theorem dJ27_grow_131 : decode cJ27_grow 131 = .ok (.aload_n 0, 1) := dk_42 (dk_at dksJ27_grow_5 14 rfl rfl)
theorem dJ27_grow_132 : decode cJ27_grow 132 = .ok (.dup, 1) := dk_89 (dk_at dksJ27_grow_5 15 rfl rfl)
theorem dJ27_grow_133 : decode cJ27_grow 133 = .ok (.getfield 24, 3) := dk_180 0 24 (dk_at dksJ27_grow_5 16 rfl rfl)
theorem dJ27_grow_136 : decode cJ27_grow 136 = .ok (.iload 6, 2) := dk_21 6 (dk_at dksJ27_grow_5 19 rfl rfl)
theorem dJ27_grow_138 : decode cJ27_grow 138 = .ok (.iadd, 1) := dk_96 (dk_at dksJ27_grow_5 21 rfl rfl)
theorem dJ27_grow_139 : decode cJ27_grow 139 = .ok (.dup_x1, 1) := dk_90 (dk_at dksJ27_grow_5 22 rfl rfl)
theorem dJ27_grow_140 : decode cJ27_grow 140 = .ok (.putfield 24, 3) := dk_181 0 24 (dk_at dksJ27_grow_6 0 rfl rfl)
theorem dJ27_grow_143 : decode cJ27_grow 143 = .ok (.istore 8, 2) := dk_54 8 (dk_at dksJ27_grow_6 3 rfl rfl)
theorem dJ27_grow_145 : decode cJ27_grow 145 = .ok (.iload 7, 2) := dk_21 7 (dk_at dksJ27_grow_6 5 rfl rfl)
theorem dJ27_grow_147 : decode cJ27_grow 147 = .ok (.iload 8, 2) := dk_21 8 (dk_at dksJ27_grow_6 7 rfl rfl)
theorem dJ27_grow_149 : decode cJ27_grow 149 = .ok (.if_icmp .ge 15, 3) := dk_162 0 15 (dk_at dksJ27_grow_6 9 rfl rfl)
theorem dJ27_grow_152 : decode cJ27_grow 152 = .ok (.aload 5, 2) := dk_25 5 (dk_at dksJ27_grow_6 12 rfl rfl)
theorem dJ27_grow_154 : decode cJ27_grow 154 = .ok (.iload 7, 2) := dk_21 7 (dk_at dksJ27_grow_6 14 rfl rfl)
theorem dJ27_grow_156 : decode cJ27_grow 156 = .ok (.aconst_null, 1) := dk_1 (dk_at dksJ27_grow_6 16 rfl rfl)
theorem dJ27_grow_157 : decode cJ27_grow 157 = .ok (.aastore, 1) := dk_83 (dk_at dksJ27_grow_6 17 rfl rfl)
theorem dJ27_grow_158 : decode cJ27_grow 158 = .ok (.iinc 7 1, 3) := dk_132 7 1 (dk_at dksJ27_grow_6 18 rfl rfl)
theorem dJ27_grow_161 : decode cJ27_grow 161 = .ok (.goto (-16), 3) := dk_167 255 240 (dk_at dksJ27_grow_6 21 rfl rfl)
theorem dJ27_grow_164 : decode cJ27_grow 164 = .ok (.return_, 1) := dk_177 (dk_at dksJ27_grow_7 0 rfl rfl)
abbrev cJ27_newCapacity : ByteArray := prog_48_method_2_code
def yJ27_newCapacity : MethodName := ⟨RJ27, "newCapacity", "(II)I"⟩
def dkwJ27_newCapacity_2 : List UInt8 := [18, 9, 100, 156, 0, 9, 29, 28, 96, 167, 0, 5, 18, 9, 172]
abbrev dktJ27_newCapacity_2 : List UInt8 := dkwJ27_newCapacity_2 ++ []
def dkwJ27_newCapacity_1 : List UInt8 := [187, 0, 33, 89, 18, 35, 183, 0, 37, 191, 18, 41, 172, 27, 28, 164, 0, 6, 21, 4, 172, 29, 28, 96]
abbrev dktJ27_newCapacity_1 : List UInt8 := dkwJ27_newCapacity_1 ++ dktJ27_newCapacity_2
def dkwJ27_newCapacity_0 : List UInt8 := [42, 180, 0, 3, 190, 62, 29, 27, 96, 89, 54, 4, 18, 9, 100, 158, 0, 21, 21, 4, 156, 0, 13]
abbrev dktJ27_newCapacity_0 : List UInt8 := dkwJ27_newCapacity_0 ++ dktJ27_newCapacity_1
theorem dksJ27_newCapacity_0 : cJ27_newCapacity.data.toList.drop 0 = dktJ27_newCapacity_0 := by decide +kernel
theorem dksJ27_newCapacity_1 : cJ27_newCapacity.data.toList.drop 23 = dktJ27_newCapacity_1 := dk_seg dksJ27_newCapacity_0 23 rfl rfl
theorem dksJ27_newCapacity_2 : cJ27_newCapacity.data.toList.drop 47 = dktJ27_newCapacity_2 := dk_seg dksJ27_newCapacity_1 24 rfl rfl
theorem dJ27_newCapacity_0 : decode cJ27_newCapacity 0 = .ok (.aload_n 0, 1) := dk_42 (dk_at dksJ27_newCapacity_0 0 rfl rfl)
theorem dJ27_newCapacity_1 : decode cJ27_newCapacity 1 = .ok (.getfield 3, 3) := dk_180 0 3 (dk_at dksJ27_newCapacity_0 1 rfl rfl)
theorem dJ27_newCapacity_4 : decode cJ27_newCapacity 4 = .ok (.arraylength, 1) := dk_190 (dk_at dksJ27_newCapacity_0 4 rfl rfl)
theorem dJ27_newCapacity_5 : decode cJ27_newCapacity 5 = .ok (.istore_n 3, 1) := dk_62 (dk_at dksJ27_newCapacity_0 5 rfl rfl)
theorem dJ27_newCapacity_6 : decode cJ27_newCapacity 6 = .ok (.iload_n 3, 1) := dk_29 (dk_at dksJ27_newCapacity_0 6 rfl rfl)
theorem dJ27_newCapacity_7 : decode cJ27_newCapacity 7 = .ok (.iload_n 1, 1) := dk_27 (dk_at dksJ27_newCapacity_0 7 rfl rfl)
theorem dJ27_newCapacity_8 : decode cJ27_newCapacity 8 = .ok (.iadd, 1) := dk_96 (dk_at dksJ27_newCapacity_0 8 rfl rfl)
theorem dJ27_newCapacity_9 : decode cJ27_newCapacity 9 = .ok (.dup, 1) := dk_89 (dk_at dksJ27_newCapacity_0 9 rfl rfl)
theorem dJ27_newCapacity_10 : decode cJ27_newCapacity 10 = .ok (.istore 4, 2) := dk_54 4 (dk_at dksJ27_newCapacity_0 10 rfl rfl)
theorem dJ27_newCapacity_12 : decode cJ27_newCapacity 12 = .ok (.ldc 9, 2) := dk_18 9 (dk_at dksJ27_newCapacity_0 12 rfl rfl)
theorem dJ27_newCapacity_14 : decode cJ27_newCapacity 14 = .ok (.isub, 1) := dk_100 (dk_at dksJ27_newCapacity_0 14 rfl rfl)
theorem dJ27_newCapacity_15 : decode cJ27_newCapacity 15 = .ok (.ifCond .le 21, 3) := dk_158 0 21 (dk_at dksJ27_newCapacity_0 15 rfl rfl)
theorem dJ27_newCapacity_18 : decode cJ27_newCapacity 18 = .ok (.iload 4, 2) := dk_21 4 (dk_at dksJ27_newCapacity_0 18 rfl rfl)
theorem dJ27_newCapacity_20 : decode cJ27_newCapacity 20 = .ok (.ifCond .ge 13, 3) := dk_156 0 13 (dk_at dksJ27_newCapacity_0 20 rfl rfl)
theorem dJ27_newCapacity_23 : decode cJ27_newCapacity 23 = .ok (.new 33, 3) := dk_187 0 33 (dk_at dksJ27_newCapacity_1 0 rfl rfl)
theorem dJ27_newCapacity_26 : decode cJ27_newCapacity 26 = .ok (.dup, 1) := dk_89 (dk_at dksJ27_newCapacity_1 3 rfl rfl)
theorem dJ27_newCapacity_27 : decode cJ27_newCapacity 27 = .ok (.ldc 35, 2) := dk_18 35 (dk_at dksJ27_newCapacity_1 4 rfl rfl)
theorem dJ27_newCapacity_29 : decode cJ27_newCapacity 29 = .ok (.invokespecial 37, 3) := dk_183 0 37 (dk_at dksJ27_newCapacity_1 6 rfl rfl)
theorem dJ27_newCapacity_32 : decode cJ27_newCapacity 32 = .ok (.athrow, 1) := dk_191 (dk_at dksJ27_newCapacity_1 9 rfl rfl)
theorem dJ27_newCapacity_33 : decode cJ27_newCapacity 33 = .ok (.ldc 41, 2) := dk_18 41 (dk_at dksJ27_newCapacity_1 10 rfl rfl)
theorem dJ27_newCapacity_35 : decode cJ27_newCapacity 35 = .ok (.ireturn, 1) := dk_172 (dk_at dksJ27_newCapacity_1 12 rfl rfl)
theorem dJ27_newCapacity_36 : decode cJ27_newCapacity 36 = .ok (.iload_n 1, 1) := dk_27 (dk_at dksJ27_newCapacity_1 13 rfl rfl)
theorem dJ27_newCapacity_37 : decode cJ27_newCapacity 37 = .ok (.iload_n 2, 1) := dk_28 (dk_at dksJ27_newCapacity_1 14 rfl rfl)
theorem dJ27_newCapacity_38 : decode cJ27_newCapacity 38 = .ok (.if_icmp .le 6, 3) := dk_164 0 6 (dk_at dksJ27_newCapacity_1 15 rfl rfl)
theorem dJ27_newCapacity_41 : decode cJ27_newCapacity 41 = .ok (.iload 4, 2) := dk_21 4 (dk_at dksJ27_newCapacity_1 18 rfl rfl)
theorem dJ27_newCapacity_43 : decode cJ27_newCapacity 43 = .ok (.ireturn, 1) := dk_172 (dk_at dksJ27_newCapacity_1 20 rfl rfl)
theorem dJ27_newCapacity_44 : decode cJ27_newCapacity 44 = .ok (.iload_n 3, 1) := dk_29 (dk_at dksJ27_newCapacity_1 21 rfl rfl)
theorem dJ27_newCapacity_45 : decode cJ27_newCapacity 45 = .ok (.iload_n 2, 1) := dk_28 (dk_at dksJ27_newCapacity_1 22 rfl rfl)
theorem dJ27_newCapacity_46 : decode cJ27_newCapacity 46 = .ok (.iadd, 1) := dk_96 (dk_at dksJ27_newCapacity_1 23 rfl rfl)
theorem dJ27_newCapacity_47 : decode cJ27_newCapacity 47 = .ok (.ldc 9, 2) := dk_18 9 (dk_at dksJ27_newCapacity_2 0 rfl rfl)
theorem dJ27_newCapacity_49 : decode cJ27_newCapacity 49 = .ok (.isub, 1) := dk_100 (dk_at dksJ27_newCapacity_2 2 rfl rfl)
theorem dJ27_newCapacity_50 : decode cJ27_newCapacity 50 = .ok (.ifCond .ge 9, 3) := dk_156 0 9 (dk_at dksJ27_newCapacity_2 3 rfl rfl)
theorem dJ27_newCapacity_53 : decode cJ27_newCapacity 53 = .ok (.iload_n 3, 1) := dk_29 (dk_at dksJ27_newCapacity_2 6 rfl rfl)
theorem dJ27_newCapacity_54 : decode cJ27_newCapacity 54 = .ok (.iload_n 2, 1) := dk_28 (dk_at dksJ27_newCapacity_2 7 rfl rfl)
theorem dJ27_newCapacity_55 : decode cJ27_newCapacity 55 = .ok (.iadd, 1) := dk_96 (dk_at dksJ27_newCapacity_2 8 rfl rfl)
theorem dJ27_newCapacity_56 : decode cJ27_newCapacity 56 = .ok (.goto 5, 3) := dk_167 0 5 (dk_at dksJ27_newCapacity_2 9 rfl rfl)
theorem dJ27_newCapacity_59 : decode cJ27_newCapacity 59 = .ok (.ldc 9, 2) := dk_18 9 (dk_at dksJ27_newCapacity_2 12 rfl rfl)
theorem dJ27_newCapacity_61 : decode cJ27_newCapacity 61 = .ok (.ireturn, 1) := dk_172 (dk_at dksJ27_newCapacity_2 14 rfl rfl)
abbrev cJ27_getLast : ByteArray := prog_48_method_23_code
def yJ27_getLast : MethodName := ⟨RJ27, "getLast", "()Ljava/lang/Object;"⟩
def dkwJ27_getLast_1 : List UInt8 := [187, 0, 97, 89, 183, 0, 99, 191, 44, 176]
abbrev dktJ27_getLast_1 : List UInt8 := dkwJ27_getLast_1 ++ []
def dkwJ27_getLast_0 : List UInt8 := [42, 180, 0, 3, 76, 43, 42, 180, 0, 20, 43, 190, 184, 0, 68, 184, 0, 103, 77, 44, 199, 0, 11]
abbrev dktJ27_getLast_0 : List UInt8 := dkwJ27_getLast_0 ++ dktJ27_getLast_1
theorem dksJ27_getLast_0 : cJ27_getLast.data.toList.drop 0 = dktJ27_getLast_0 := by decide +kernel
theorem dksJ27_getLast_1 : cJ27_getLast.data.toList.drop 23 = dktJ27_getLast_1 := dk_seg dksJ27_getLast_0 23 rfl rfl
theorem dJ27_getLast_0 : decode cJ27_getLast 0 = .ok (.aload_n 0, 1) := dk_42 (dk_at dksJ27_getLast_0 0 rfl rfl)
theorem dJ27_getLast_1 : decode cJ27_getLast 1 = .ok (.getfield 3, 3) := dk_180 0 3 (dk_at dksJ27_getLast_0 1 rfl rfl)
theorem dJ27_getLast_4 : decode cJ27_getLast 4 = .ok (.astore_n 1, 1) := dk_76 (dk_at dksJ27_getLast_0 4 rfl rfl)
theorem dJ27_getLast_5 : decode cJ27_getLast 5 = .ok (.aload_n 1, 1) := dk_43 (dk_at dksJ27_getLast_0 5 rfl rfl)
theorem dJ27_getLast_6 : decode cJ27_getLast 6 = .ok (.aload_n 0, 1) := dk_42 (dk_at dksJ27_getLast_0 6 rfl rfl)
theorem dJ27_getLast_7 : decode cJ27_getLast 7 = .ok (.getfield 20, 3) := dk_180 0 20 (dk_at dksJ27_getLast_0 7 rfl rfl)
theorem dJ27_getLast_10 : decode cJ27_getLast 10 = .ok (.aload_n 1, 1) := dk_43 (dk_at dksJ27_getLast_0 10 rfl rfl)
theorem dJ27_getLast_11 : decode cJ27_getLast 11 = .ok (.arraylength, 1) := dk_190 (dk_at dksJ27_getLast_0 11 rfl rfl)
theorem dJ27_getLast_12 : decode cJ27_getLast 12 = .ok (.invokestatic 68, 3) := dk_184 0 68 (dk_at dksJ27_getLast_0 12 rfl rfl)
theorem dJ27_getLast_15 : decode cJ27_getLast 15 = .ok (.invokestatic 103, 3) := dk_184 0 103 (dk_at dksJ27_getLast_0 15 rfl rfl)
theorem dJ27_getLast_18 : decode cJ27_getLast 18 = .ok (.astore_n 2, 1) := dk_77 (dk_at dksJ27_getLast_0 18 rfl rfl)
theorem dJ27_getLast_19 : decode cJ27_getLast 19 = .ok (.aload_n 2, 1) := dk_44 (dk_at dksJ27_getLast_0 19 rfl rfl)
theorem dJ27_getLast_20 : decode cJ27_getLast 20 = .ok (.ifnonnull 11, 3) := dk_199 0 11 (dk_at dksJ27_getLast_0 20 rfl rfl)
theorem dJ27_getLast_23 : decode cJ27_getLast 23 = .ok (.new 97, 3) := dk_187 0 97 (dk_at dksJ27_getLast_1 0 rfl rfl)
theorem dJ27_getLast_26 : decode cJ27_getLast 26 = .ok (.dup, 1) := dk_89 (dk_at dksJ27_getLast_1 3 rfl rfl)
theorem dJ27_getLast_27 : decode cJ27_getLast 27 = .ok (.invokespecial 99, 3) := dk_183 0 99 (dk_at dksJ27_getLast_1 4 rfl rfl)
theorem dJ27_getLast_30 : decode cJ27_getLast 30 = .ok (.athrow, 1) := dk_191 (dk_at dksJ27_getLast_1 7 rfl rfl)
theorem dJ27_getLast_31 : decode cJ27_getLast 31 = .ok (.aload_n 2, 1) := dk_44 (dk_at dksJ27_getLast_1 8 rfl rfl)
theorem dJ27_getLast_32 : decode cJ27_getLast 32 = .ok (.areturn, 1) := dk_176 (dk_at dksJ27_getLast_1 9 rfl rfl)
abbrev cJ27_dec : ByteArray := prog_48_method_7_code
def yJ27_dec : MethodName := ⟨RJ27, "dec", "(II)I"⟩
def dkwJ27_dec_0 : List UInt8 := [132, 0, 255, 26, 156, 0, 7, 27, 4, 100, 59, 26, 172]
abbrev dktJ27_dec_0 : List UInt8 := dkwJ27_dec_0 ++ []
theorem dksJ27_dec_0 : cJ27_dec.data.toList.drop 0 = dktJ27_dec_0 := by decide +kernel
theorem dJ27_dec_0 : decode cJ27_dec 0 = .ok (.iinc 0 (-1), 3) := dk_132 0 255 (dk_at dksJ27_dec_0 0 rfl rfl)
theorem dJ27_dec_3 : decode cJ27_dec 3 = .ok (.iload_n 0, 1) := dk_26 (dk_at dksJ27_dec_0 3 rfl rfl)
theorem dJ27_dec_4 : decode cJ27_dec 4 = .ok (.ifCond .ge 7, 3) := dk_156 0 7 (dk_at dksJ27_dec_0 4 rfl rfl)
theorem dJ27_dec_7 : decode cJ27_dec 7 = .ok (.iload_n 1, 1) := dk_27 (dk_at dksJ27_dec_0 7 rfl rfl)
theorem dJ27_dec_8 : decode cJ27_dec 8 = .ok (.iconst 1, 1) := dk_4 (dk_at dksJ27_dec_0 8 rfl rfl)
theorem dJ27_dec_9 : decode cJ27_dec 9 = .ok (.isub, 1) := dk_100 (dk_at dksJ27_dec_0 9 rfl rfl)
theorem dJ27_dec_10 : decode cJ27_dec 10 = .ok (.istore_n 0, 1) := dk_59 (dk_at dksJ27_dec_0 10 rfl rfl)
theorem dJ27_dec_11 : decode cJ27_dec 11 = .ok (.iload_n 0, 1) := dk_26 (dk_at dksJ27_dec_0 11 rfl rfl)
theorem dJ27_dec_12 : decode cJ27_dec 12 = .ok (.ireturn, 1) := dk_172 (dk_at dksJ27_dec_0 12 rfl rfl)
abbrev cJ27_elementAt : ByteArray := prog_48_method_10_code
def yJ27_elementAt : MethodName := ⟨RJ27, "elementAt", "([Ljava/lang/Object;I)Ljava/lang/Object;"⟩
def dkwJ27_elementAt_0 : List UInt8 := [42, 27, 50, 176]
abbrev dktJ27_elementAt_0 : List UInt8 := dkwJ27_elementAt_0 ++ []
theorem dksJ27_elementAt_0 : cJ27_elementAt.data.toList.drop 0 = dktJ27_elementAt_0 := by decide +kernel
theorem dJ27_elementAt_0 : decode cJ27_elementAt 0 = .ok (.aload_n 0, 1) := dk_42 (dk_at dksJ27_elementAt_0 0 rfl rfl)
theorem dJ27_elementAt_1 : decode cJ27_elementAt 1 = .ok (.iload_n 1, 1) := dk_27 (dk_at dksJ27_elementAt_0 1 rfl rfl)
theorem dJ27_elementAt_2 : decode cJ27_elementAt 2 = .ok (.aaload, 1) := dk_50 (dk_at dksJ27_elementAt_0 2 rfl rfl)
theorem dJ27_elementAt_3 : decode cJ27_elementAt 3 = .ok (.areturn, 1) := dk_176 (dk_at dksJ27_elementAt_0 3 rfl rfl)
abbrev cJ27_size : ByteArray := prog_48_method_37_code
def yJ27_size : MethodName := ⟨RJ27, "size", "()I"⟩
def dkwJ27_size_0 : List UInt8 := [42, 180, 0, 20, 42, 180, 0, 24, 42, 180, 0, 3, 190, 184, 0, 127, 172]
abbrev dktJ27_size_0 : List UInt8 := dkwJ27_size_0 ++ []
theorem dksJ27_size_0 : cJ27_size.data.toList.drop 0 = dktJ27_size_0 := by decide +kernel
theorem dJ27_size_0 : decode cJ27_size 0 = .ok (.aload_n 0, 1) := dk_42 (dk_at dksJ27_size_0 0 rfl rfl)
theorem dJ27_size_1 : decode cJ27_size 1 = .ok (.getfield 20, 3) := dk_180 0 20 (dk_at dksJ27_size_0 1 rfl rfl)
theorem dJ27_size_4 : decode cJ27_size 4 = .ok (.aload_n 0, 1) := dk_42 (dk_at dksJ27_size_0 4 rfl rfl)
theorem dJ27_size_5 : decode cJ27_size 5 = .ok (.getfield 24, 3) := dk_180 0 24 (dk_at dksJ27_size_0 5 rfl rfl)
theorem dJ27_size_8 : decode cJ27_size 8 = .ok (.aload_n 0, 1) := dk_42 (dk_at dksJ27_size_0 8 rfl rfl)
theorem dJ27_size_9 : decode cJ27_size 9 = .ok (.getfield 3, 3) := dk_180 0 3 (dk_at dksJ27_size_0 9 rfl rfl)
theorem dJ27_size_12 : decode cJ27_size 12 = .ok (.arraylength, 1) := dk_190 (dk_at dksJ27_size_0 12 rfl rfl)
theorem dJ27_size_13 : decode cJ27_size 13 = .ok (.invokestatic 127, 3) := dk_184 0 127 (dk_at dksJ27_size_0 13 rfl rfl)
theorem dJ27_size_16 : decode cJ27_size 16 = .ok (.ireturn, 1) := dk_172 (dk_at dksJ27_size_0 16 rfl rfl)
abbrev cJ27_sub : ByteArray := prog_48_method_9_code
def yJ27_sub : MethodName := ⟨RJ27, "sub", "(III)I"⟩
def dkwJ27_sub_0 : List UInt8 := [26, 27, 100, 89, 59, 156, 0, 7, 26, 28, 96, 59, 26, 172]
abbrev dktJ27_sub_0 : List UInt8 := dkwJ27_sub_0 ++ []
theorem dksJ27_sub_0 : cJ27_sub.data.toList.drop 0 = dktJ27_sub_0 := by decide +kernel
theorem dJ27_sub_0 : decode cJ27_sub 0 = .ok (.iload_n 0, 1) := dk_26 (dk_at dksJ27_sub_0 0 rfl rfl)
theorem dJ27_sub_1 : decode cJ27_sub 1 = .ok (.iload_n 1, 1) := dk_27 (dk_at dksJ27_sub_0 1 rfl rfl)
theorem dJ27_sub_2 : decode cJ27_sub 2 = .ok (.isub, 1) := dk_100 (dk_at dksJ27_sub_0 2 rfl rfl)
theorem dJ27_sub_3 : decode cJ27_sub 3 = .ok (.dup, 1) := dk_89 (dk_at dksJ27_sub_0 3 rfl rfl)
theorem dJ27_sub_4 : decode cJ27_sub 4 = .ok (.istore_n 0, 1) := dk_59 (dk_at dksJ27_sub_0 4 rfl rfl)
theorem dJ27_sub_5 : decode cJ27_sub 5 = .ok (.ifCond .ge 7, 3) := dk_156 0 7 (dk_at dksJ27_sub_0 5 rfl rfl)
theorem dJ27_sub_8 : decode cJ27_sub 8 = .ok (.iload_n 0, 1) := dk_26 (dk_at dksJ27_sub_0 8 rfl rfl)
theorem dJ27_sub_9 : decode cJ27_sub 9 = .ok (.iload_n 2, 1) := dk_28 (dk_at dksJ27_sub_0 9 rfl rfl)
theorem dJ27_sub_10 : decode cJ27_sub 10 = .ok (.iadd, 1) := dk_96 (dk_at dksJ27_sub_0 10 rfl rfl)
theorem dJ27_sub_11 : decode cJ27_sub 11 = .ok (.istore_n 0, 1) := dk_59 (dk_at dksJ27_sub_0 11 rfl rfl)
theorem dJ27_sub_12 : decode cJ27_sub 12 = .ok (.iload_n 0, 1) := dk_26 (dk_at dksJ27_sub_0 12 rfl rfl)
theorem dJ27_sub_13 : decode cJ27_sub 13 = .ok (.ireturn, 1) := dk_172 (dk_at dksJ27_sub_0 13 rfl rfl)
abbrev cJ27_removeLast : ByteArray := prog_48_method_19_code
def yJ27_removeLast : MethodName := ⟨RJ27, "removeLast", "()Ljava/lang/Object;"⟩
def dkwJ27_removeLast_0 : List UInt8 := [42, 182, 0, 100, 76, 43, 199, 0, 11, 187, 0, 97, 89, 183, 0, 99, 191, 43, 176]
abbrev dktJ27_removeLast_0 : List UInt8 := dkwJ27_removeLast_0 ++ []
theorem dksJ27_removeLast_0 : cJ27_removeLast.data.toList.drop 0 = dktJ27_removeLast_0 := by decide +kernel
theorem dJ27_removeLast_0 : decode cJ27_removeLast 0 = .ok (.aload_n 0, 1) := dk_42 (dk_at dksJ27_removeLast_0 0 rfl rfl)
theorem dJ27_removeLast_1 : decode cJ27_removeLast 1 = .ok (.invokevirtual 100, 3) := dk_182 0 100 (dk_at dksJ27_removeLast_0 1 rfl rfl)
theorem dJ27_removeLast_4 : decode cJ27_removeLast 4 = .ok (.astore_n 1, 1) := dk_76 (dk_at dksJ27_removeLast_0 4 rfl rfl)
theorem dJ27_removeLast_5 : decode cJ27_removeLast 5 = .ok (.aload_n 1, 1) := dk_43 (dk_at dksJ27_removeLast_0 5 rfl rfl)
theorem dJ27_removeLast_6 : decode cJ27_removeLast 6 = .ok (.ifnonnull 11, 3) := dk_199 0 11 (dk_at dksJ27_removeLast_0 6 rfl rfl)
theorem dJ27_removeLast_9 : decode cJ27_removeLast 9 = .ok (.new 97, 3) := dk_187 0 97 (dk_at dksJ27_removeLast_0 9 rfl rfl)
theorem dJ27_removeLast_12 : decode cJ27_removeLast 12 = .ok (.dup, 1) := dk_89 (dk_at dksJ27_removeLast_0 12 rfl rfl)
theorem dJ27_removeLast_13 : decode cJ27_removeLast 13 = .ok (.invokespecial 99, 3) := dk_183 0 99 (dk_at dksJ27_removeLast_0 13 rfl rfl)
theorem dJ27_removeLast_16 : decode cJ27_removeLast 16 = .ok (.athrow, 1) := dk_191 (dk_at dksJ27_removeLast_0 16 rfl rfl)
theorem dJ27_removeLast_17 : decode cJ27_removeLast 17 = .ok (.aload_n 1, 1) := dk_43 (dk_at dksJ27_removeLast_0 17 rfl rfl)
theorem dJ27_removeLast_18 : decode cJ27_removeLast 18 = .ok (.areturn, 1) := dk_176 (dk_at dksJ27_removeLast_0 18 rfl rfl)
abbrev cJ27_pollLast : ByteArray := prog_48_method_21_code
def yJ27_pollLast : MethodName := ⟨RJ27, "pollLast", "()Ljava/lang/Object;"⟩
def dkwJ27_pollLast_1 : List UInt8 := [198, 0, 12, 43, 42, 28, 90, 181, 0, 20, 1, 83, 45, 176]
abbrev dktJ27_pollLast_1 : List UInt8 := dkwJ27_pollLast_1 ++ []
def dkwJ27_pollLast_0 : List UInt8 := [42, 180, 0, 3, 89, 76, 42, 180, 0, 20, 43, 190, 184, 0, 68, 89, 61, 184, 0, 103, 78, 45]
abbrev dktJ27_pollLast_0 : List UInt8 := dkwJ27_pollLast_0 ++ dktJ27_pollLast_1
theorem dksJ27_pollLast_0 : cJ27_pollLast.data.toList.drop 0 = dktJ27_pollLast_0 := by decide +kernel
theorem dksJ27_pollLast_1 : cJ27_pollLast.data.toList.drop 22 = dktJ27_pollLast_1 := dk_seg dksJ27_pollLast_0 22 rfl rfl
theorem dJ27_pollLast_0 : decode cJ27_pollLast 0 = .ok (.aload_n 0, 1) := dk_42 (dk_at dksJ27_pollLast_0 0 rfl rfl)
theorem dJ27_pollLast_1 : decode cJ27_pollLast 1 = .ok (.getfield 3, 3) := dk_180 0 3 (dk_at dksJ27_pollLast_0 1 rfl rfl)
theorem dJ27_pollLast_4 : decode cJ27_pollLast 4 = .ok (.dup, 1) := dk_89 (dk_at dksJ27_pollLast_0 4 rfl rfl)
theorem dJ27_pollLast_5 : decode cJ27_pollLast 5 = .ok (.astore_n 1, 1) := dk_76 (dk_at dksJ27_pollLast_0 5 rfl rfl)
theorem dJ27_pollLast_6 : decode cJ27_pollLast 6 = .ok (.aload_n 0, 1) := dk_42 (dk_at dksJ27_pollLast_0 6 rfl rfl)
theorem dJ27_pollLast_7 : decode cJ27_pollLast 7 = .ok (.getfield 20, 3) := dk_180 0 20 (dk_at dksJ27_pollLast_0 7 rfl rfl)
theorem dJ27_pollLast_10 : decode cJ27_pollLast 10 = .ok (.aload_n 1, 1) := dk_43 (dk_at dksJ27_pollLast_0 10 rfl rfl)
theorem dJ27_pollLast_11 : decode cJ27_pollLast 11 = .ok (.arraylength, 1) := dk_190 (dk_at dksJ27_pollLast_0 11 rfl rfl)
theorem dJ27_pollLast_12 : decode cJ27_pollLast 12 = .ok (.invokestatic 68, 3) := dk_184 0 68 (dk_at dksJ27_pollLast_0 12 rfl rfl)
theorem dJ27_pollLast_15 : decode cJ27_pollLast 15 = .ok (.dup, 1) := dk_89 (dk_at dksJ27_pollLast_0 15 rfl rfl)
theorem dJ27_pollLast_16 : decode cJ27_pollLast 16 = .ok (.istore_n 2, 1) := dk_61 (dk_at dksJ27_pollLast_0 16 rfl rfl)
theorem dJ27_pollLast_17 : decode cJ27_pollLast 17 = .ok (.invokestatic 103, 3) := dk_184 0 103 (dk_at dksJ27_pollLast_0 17 rfl rfl)
theorem dJ27_pollLast_20 : decode cJ27_pollLast 20 = .ok (.astore_n 3, 1) := dk_78 (dk_at dksJ27_pollLast_0 20 rfl rfl)
theorem dJ27_pollLast_21 : decode cJ27_pollLast 21 = .ok (.aload_n 3, 1) := dk_45 (dk_at dksJ27_pollLast_0 21 rfl rfl)
theorem dJ27_pollLast_22 : decode cJ27_pollLast 22 = .ok (.ifnull 12, 3) := dk_198 0 12 (dk_at dksJ27_pollLast_1 0 rfl rfl)
theorem dJ27_pollLast_25 : decode cJ27_pollLast 25 = .ok (.aload_n 1, 1) := dk_43 (dk_at dksJ27_pollLast_1 3 rfl rfl)
theorem dJ27_pollLast_26 : decode cJ27_pollLast 26 = .ok (.aload_n 0, 1) := dk_42 (dk_at dksJ27_pollLast_1 4 rfl rfl)
theorem dJ27_pollLast_27 : decode cJ27_pollLast 27 = .ok (.iload_n 2, 1) := dk_28 (dk_at dksJ27_pollLast_1 5 rfl rfl)
theorem dJ27_pollLast_28 : decode cJ27_pollLast 28 = .ok (.dup_x1, 1) := dk_90 (dk_at dksJ27_pollLast_1 6 rfl rfl)
theorem dJ27_pollLast_29 : decode cJ27_pollLast 29 = .ok (.putfield 20, 3) := dk_181 0 20 (dk_at dksJ27_pollLast_1 7 rfl rfl)
theorem dJ27_pollLast_32 : decode cJ27_pollLast 32 = .ok (.aconst_null, 1) := dk_1 (dk_at dksJ27_pollLast_1 10 rfl rfl)
theorem dJ27_pollLast_33 : decode cJ27_pollLast 33 = .ok (.aastore, 1) := dk_83 (dk_at dksJ27_pollLast_1 11 rfl rfl)
theorem dJ27_pollLast_34 : decode cJ27_pollLast 34 = .ok (.aload_n 3, 1) := dk_45 (dk_at dksJ27_pollLast_1 12 rfl rfl)
theorem dJ27_pollLast_35 : decode cJ27_pollLast 35 = .ok (.areturn, 1) := dk_176 (dk_at dksJ27_pollLast_1 13 rfl rfl)
abbrev cJ27_clear : ByteArray := prog_48_method_53_code
def yJ27_clear : MethodName := ⟨RJ27, "clear", "()V"⟩
def dkwJ27_clear_1 : List UInt8 := [181, 0, 24, 177]
abbrev dktJ27_clear_1 : List UInt8 := dkwJ27_clear_1 ++ []
def dkwJ27_clear_0 : List UInt8 := [42, 180, 0, 3, 42, 180, 0, 24, 42, 180, 0, 20, 184, 0, 181, 42, 42, 3, 90, 181, 0, 20]
abbrev dktJ27_clear_0 : List UInt8 := dkwJ27_clear_0 ++ dktJ27_clear_1
theorem dksJ27_clear_0 : cJ27_clear.data.toList.drop 0 = dktJ27_clear_0 := by decide +kernel
theorem dksJ27_clear_1 : cJ27_clear.data.toList.drop 22 = dktJ27_clear_1 := dk_seg dksJ27_clear_0 22 rfl rfl
theorem dJ27_clear_0 : decode cJ27_clear 0 = .ok (.aload_n 0, 1) := dk_42 (dk_at dksJ27_clear_0 0 rfl rfl)
theorem dJ27_clear_1 : decode cJ27_clear 1 = .ok (.getfield 3, 3) := dk_180 0 3 (dk_at dksJ27_clear_0 1 rfl rfl)
theorem dJ27_clear_4 : decode cJ27_clear 4 = .ok (.aload_n 0, 1) := dk_42 (dk_at dksJ27_clear_0 4 rfl rfl)
theorem dJ27_clear_5 : decode cJ27_clear 5 = .ok (.getfield 24, 3) := dk_180 0 24 (dk_at dksJ27_clear_0 5 rfl rfl)
theorem dJ27_clear_8 : decode cJ27_clear 8 = .ok (.aload_n 0, 1) := dk_42 (dk_at dksJ27_clear_0 8 rfl rfl)
theorem dJ27_clear_9 : decode cJ27_clear 9 = .ok (.getfield 20, 3) := dk_180 0 20 (dk_at dksJ27_clear_0 9 rfl rfl)
theorem dJ27_clear_12 : decode cJ27_clear 12 = .ok (.invokestatic 181, 3) := dk_184 0 181 (dk_at dksJ27_clear_0 12 rfl rfl)
theorem dJ27_clear_15 : decode cJ27_clear 15 = .ok (.aload_n 0, 1) := dk_42 (dk_at dksJ27_clear_0 15 rfl rfl)
theorem dJ27_clear_16 : decode cJ27_clear 16 = .ok (.aload_n 0, 1) := dk_42 (dk_at dksJ27_clear_0 16 rfl rfl)
theorem dJ27_clear_17 : decode cJ27_clear 17 = .ok (.iconst 0, 1) := dk_3 (dk_at dksJ27_clear_0 17 rfl rfl)
theorem dJ27_clear_18 : decode cJ27_clear 18 = .ok (.dup_x1, 1) := dk_90 (dk_at dksJ27_clear_0 18 rfl rfl)
theorem dJ27_clear_19 : decode cJ27_clear 19 = .ok (.putfield 20, 3) := dk_181 0 20 (dk_at dksJ27_clear_0 19 rfl rfl)
theorem dJ27_clear_22 : decode cJ27_clear 22 = .ok (.putfield 24, 3) := dk_181 0 24 (dk_at dksJ27_clear_1 0 rfl rfl)
theorem dJ27_clear_25 : decode cJ27_clear 25 = .ok (.return_, 1) := dk_177 (dk_at dksJ27_clear_1 3 rfl rfl)
abbrev cJ27_circularClear : ByteArray := prog_48_method_54_code
def yJ27_circularClear : MethodName := ⟨RJ27, "circularClear", "([Ljava/lang/Object;II)V"⟩
def dkwJ27_circularClear_1 : List UInt8 := [167, 255, 244, 29, 28, 160, 0, 6, 167, 0, 10, 3, 60, 28, 62, 167, 255, 229, 177]
abbrev dktJ27_circularClear_1 : List UInt8 := dkwJ27_circularClear_1 ++ []
def dkwJ27_circularClear_0 : List UInt8 := [27, 28, 163, 0, 7, 28, 167, 0, 5, 42, 190, 62, 27, 29, 162, 0, 13, 42, 27, 1, 83, 132, 1, 1]
abbrev dktJ27_circularClear_0 : List UInt8 := dkwJ27_circularClear_0 ++ dktJ27_circularClear_1
theorem dksJ27_circularClear_0 : cJ27_circularClear.data.toList.drop 0 = dktJ27_circularClear_0 := by decide +kernel
theorem dksJ27_circularClear_1 : cJ27_circularClear.data.toList.drop 24 = dktJ27_circularClear_1 := dk_seg dksJ27_circularClear_0 24 rfl rfl
theorem dJ27_circularClear_0 : decode cJ27_circularClear 0 = .ok (.iload_n 1, 1) := dk_27 (dk_at dksJ27_circularClear_0 0 rfl rfl)
theorem dJ27_circularClear_1 : decode cJ27_circularClear 1 = .ok (.iload_n 2, 1) := dk_28 (dk_at dksJ27_circularClear_0 1 rfl rfl)
theorem dJ27_circularClear_2 : decode cJ27_circularClear 2 = .ok (.if_icmp .gt 7, 3) := dk_163 0 7 (dk_at dksJ27_circularClear_0 2 rfl rfl)
theorem dJ27_circularClear_5 : decode cJ27_circularClear 5 = .ok (.iload_n 2, 1) := dk_28 (dk_at dksJ27_circularClear_0 5 rfl rfl)
theorem dJ27_circularClear_6 : decode cJ27_circularClear 6 = .ok (.goto 5, 3) := dk_167 0 5 (dk_at dksJ27_circularClear_0 6 rfl rfl)
theorem dJ27_circularClear_9 : decode cJ27_circularClear 9 = .ok (.aload_n 0, 1) := dk_42 (dk_at dksJ27_circularClear_0 9 rfl rfl)
theorem dJ27_circularClear_10 : decode cJ27_circularClear 10 = .ok (.arraylength, 1) := dk_190 (dk_at dksJ27_circularClear_0 10 rfl rfl)
theorem dJ27_circularClear_11 : decode cJ27_circularClear 11 = .ok (.istore_n 3, 1) := dk_62 (dk_at dksJ27_circularClear_0 11 rfl rfl)
theorem dJ27_circularClear_12 : decode cJ27_circularClear 12 = .ok (.iload_n 1, 1) := dk_27 (dk_at dksJ27_circularClear_0 12 rfl rfl)
theorem dJ27_circularClear_13 : decode cJ27_circularClear 13 = .ok (.iload_n 3, 1) := dk_29 (dk_at dksJ27_circularClear_0 13 rfl rfl)
theorem dJ27_circularClear_14 : decode cJ27_circularClear 14 = .ok (.if_icmp .ge 13, 3) := dk_162 0 13 (dk_at dksJ27_circularClear_0 14 rfl rfl)
theorem dJ27_circularClear_17 : decode cJ27_circularClear 17 = .ok (.aload_n 0, 1) := dk_42 (dk_at dksJ27_circularClear_0 17 rfl rfl)
theorem dJ27_circularClear_18 : decode cJ27_circularClear 18 = .ok (.iload_n 1, 1) := dk_27 (dk_at dksJ27_circularClear_0 18 rfl rfl)
theorem dJ27_circularClear_19 : decode cJ27_circularClear 19 = .ok (.aconst_null, 1) := dk_1 (dk_at dksJ27_circularClear_0 19 rfl rfl)
theorem dJ27_circularClear_20 : decode cJ27_circularClear 20 = .ok (.aastore, 1) := dk_83 (dk_at dksJ27_circularClear_0 20 rfl rfl)
theorem dJ27_circularClear_21 : decode cJ27_circularClear 21 = .ok (.iinc 1 1, 3) := dk_132 1 1 (dk_at dksJ27_circularClear_0 21 rfl rfl)
theorem dJ27_circularClear_24 : decode cJ27_circularClear 24 = .ok (.goto (-12), 3) := dk_167 255 244 (dk_at dksJ27_circularClear_1 0 rfl rfl)
theorem dJ27_circularClear_27 : decode cJ27_circularClear 27 = .ok (.iload_n 3, 1) := dk_29 (dk_at dksJ27_circularClear_1 3 rfl rfl)
theorem dJ27_circularClear_28 : decode cJ27_circularClear 28 = .ok (.iload_n 2, 1) := dk_28 (dk_at dksJ27_circularClear_1 4 rfl rfl)
theorem dJ27_circularClear_29 : decode cJ27_circularClear 29 = .ok (.if_icmp .ne 6, 3) := dk_160 0 6 (dk_at dksJ27_circularClear_1 5 rfl rfl)
theorem dJ27_circularClear_32 : decode cJ27_circularClear 32 = .ok (.goto 10, 3) := dk_167 0 10 (dk_at dksJ27_circularClear_1 8 rfl rfl)
theorem dJ27_circularClear_35 : decode cJ27_circularClear 35 = .ok (.iconst 0, 1) := dk_3 (dk_at dksJ27_circularClear_1 11 rfl rfl)
theorem dJ27_circularClear_36 : decode cJ27_circularClear 36 = .ok (.istore_n 1, 1) := dk_60 (dk_at dksJ27_circularClear_1 12 rfl rfl)
theorem dJ27_circularClear_37 : decode cJ27_circularClear 37 = .ok (.iload_n 2, 1) := dk_28 (dk_at dksJ27_circularClear_1 13 rfl rfl)
theorem dJ27_circularClear_38 : decode cJ27_circularClear 38 = .ok (.istore_n 3, 1) := dk_62 (dk_at dksJ27_circularClear_1 14 rfl rfl)
theorem dJ27_circularClear_39 : decode cJ27_circularClear 39 = .ok (.goto (-27), 3) := dk_167 255 229 (dk_at dksJ27_circularClear_1 15 rfl rfl)
theorem dJ27_circularClear_42 : decode cJ27_circularClear 42 = .ok (.return_, 1) := dk_177 (dk_at dksJ27_circularClear_1 18 rfl rfl)
abbrev cJ27_removeFirst : ByteArray := prog_48_method_18_code
def yJ27_removeFirst : MethodName := ⟨RJ27, "removeFirst", "()Ljava/lang/Object;"⟩
def dkwJ27_removeFirst_0 : List UInt8 := [42, 182, 0, 93, 76, 43, 199, 0, 11, 187, 0, 97, 89, 183, 0, 99, 191, 43, 176]
abbrev dktJ27_removeFirst_0 : List UInt8 := dkwJ27_removeFirst_0 ++ []
theorem dksJ27_removeFirst_0 : cJ27_removeFirst.data.toList.drop 0 = dktJ27_removeFirst_0 := by decide +kernel
theorem dJ27_removeFirst_0 : decode cJ27_removeFirst 0 = .ok (.aload_n 0, 1) := dk_42 (dk_at dksJ27_removeFirst_0 0 rfl rfl)
theorem dJ27_removeFirst_1 : decode cJ27_removeFirst 1 = .ok (.invokevirtual 93, 3) := dk_182 0 93 (dk_at dksJ27_removeFirst_0 1 rfl rfl)
theorem dJ27_removeFirst_4 : decode cJ27_removeFirst 4 = .ok (.astore_n 1, 1) := dk_76 (dk_at dksJ27_removeFirst_0 4 rfl rfl)
theorem dJ27_removeFirst_5 : decode cJ27_removeFirst 5 = .ok (.aload_n 1, 1) := dk_43 (dk_at dksJ27_removeFirst_0 5 rfl rfl)
theorem dJ27_removeFirst_6 : decode cJ27_removeFirst 6 = .ok (.ifnonnull 11, 3) := dk_199 0 11 (dk_at dksJ27_removeFirst_0 6 rfl rfl)
theorem dJ27_removeFirst_9 : decode cJ27_removeFirst 9 = .ok (.new 97, 3) := dk_187 0 97 (dk_at dksJ27_removeFirst_0 9 rfl rfl)
theorem dJ27_removeFirst_12 : decode cJ27_removeFirst 12 = .ok (.dup, 1) := dk_89 (dk_at dksJ27_removeFirst_0 12 rfl rfl)
theorem dJ27_removeFirst_13 : decode cJ27_removeFirst 13 = .ok (.invokespecial 99, 3) := dk_183 0 99 (dk_at dksJ27_removeFirst_0 13 rfl rfl)
theorem dJ27_removeFirst_16 : decode cJ27_removeFirst 16 = .ok (.athrow, 1) := dk_191 (dk_at dksJ27_removeFirst_0 16 rfl rfl)
theorem dJ27_removeFirst_17 : decode cJ27_removeFirst 17 = .ok (.aload_n 1, 1) := dk_43 (dk_at dksJ27_removeFirst_0 17 rfl rfl)
theorem dJ27_removeFirst_18 : decode cJ27_removeFirst 18 = .ok (.areturn, 1) := dk_176 (dk_at dksJ27_removeFirst_0 18 rfl rfl)
abbrev cJ27_pollFirst : ByteArray := prog_48_method_20_code
def yJ27_pollFirst : MethodName := ⟨RJ27, "pollFirst", "()Ljava/lang/Object;"⟩
def dkwJ27_pollFirst_1 : List UInt8 := [42, 28, 43, 190, 184, 0, 74, 181, 0, 24, 45, 176]
abbrev dktJ27_pollFirst_1 : List UInt8 := dkwJ27_pollFirst_1 ++ []
def dkwJ27_pollFirst_0 : List UInt8 := [42, 180, 0, 3, 89, 76, 42, 180, 0, 24, 89, 61, 184, 0, 103, 78, 45, 198, 0, 17, 43, 28, 1, 83]
abbrev dktJ27_pollFirst_0 : List UInt8 := dkwJ27_pollFirst_0 ++ dktJ27_pollFirst_1
theorem dksJ27_pollFirst_0 : cJ27_pollFirst.data.toList.drop 0 = dktJ27_pollFirst_0 := by decide +kernel
theorem dksJ27_pollFirst_1 : cJ27_pollFirst.data.toList.drop 24 = dktJ27_pollFirst_1 := dk_seg dksJ27_pollFirst_0 24 rfl rfl
theorem dJ27_pollFirst_0 : decode cJ27_pollFirst 0 = .ok (.aload_n 0, 1) := dk_42 (dk_at dksJ27_pollFirst_0 0 rfl rfl)
theorem dJ27_pollFirst_1 : decode cJ27_pollFirst 1 = .ok (.getfield 3, 3) := dk_180 0 3 (dk_at dksJ27_pollFirst_0 1 rfl rfl)
theorem dJ27_pollFirst_4 : decode cJ27_pollFirst 4 = .ok (.dup, 1) := dk_89 (dk_at dksJ27_pollFirst_0 4 rfl rfl)
theorem dJ27_pollFirst_5 : decode cJ27_pollFirst 5 = .ok (.astore_n 1, 1) := dk_76 (dk_at dksJ27_pollFirst_0 5 rfl rfl)
theorem dJ27_pollFirst_6 : decode cJ27_pollFirst 6 = .ok (.aload_n 0, 1) := dk_42 (dk_at dksJ27_pollFirst_0 6 rfl rfl)
theorem dJ27_pollFirst_7 : decode cJ27_pollFirst 7 = .ok (.getfield 24, 3) := dk_180 0 24 (dk_at dksJ27_pollFirst_0 7 rfl rfl)
theorem dJ27_pollFirst_10 : decode cJ27_pollFirst 10 = .ok (.dup, 1) := dk_89 (dk_at dksJ27_pollFirst_0 10 rfl rfl)
theorem dJ27_pollFirst_11 : decode cJ27_pollFirst 11 = .ok (.istore_n 2, 1) := dk_61 (dk_at dksJ27_pollFirst_0 11 rfl rfl)
theorem dJ27_pollFirst_12 : decode cJ27_pollFirst 12 = .ok (.invokestatic 103, 3) := dk_184 0 103 (dk_at dksJ27_pollFirst_0 12 rfl rfl)
theorem dJ27_pollFirst_15 : decode cJ27_pollFirst 15 = .ok (.astore_n 3, 1) := dk_78 (dk_at dksJ27_pollFirst_0 15 rfl rfl)
theorem dJ27_pollFirst_16 : decode cJ27_pollFirst 16 = .ok (.aload_n 3, 1) := dk_45 (dk_at dksJ27_pollFirst_0 16 rfl rfl)
theorem dJ27_pollFirst_17 : decode cJ27_pollFirst 17 = .ok (.ifnull 17, 3) := dk_198 0 17 (dk_at dksJ27_pollFirst_0 17 rfl rfl)
theorem dJ27_pollFirst_20 : decode cJ27_pollFirst 20 = .ok (.aload_n 1, 1) := dk_43 (dk_at dksJ27_pollFirst_0 20 rfl rfl)
theorem dJ27_pollFirst_21 : decode cJ27_pollFirst 21 = .ok (.iload_n 2, 1) := dk_28 (dk_at dksJ27_pollFirst_0 21 rfl rfl)
theorem dJ27_pollFirst_22 : decode cJ27_pollFirst 22 = .ok (.aconst_null, 1) := dk_1 (dk_at dksJ27_pollFirst_0 22 rfl rfl)
theorem dJ27_pollFirst_23 : decode cJ27_pollFirst 23 = .ok (.aastore, 1) := dk_83 (dk_at dksJ27_pollFirst_0 23 rfl rfl)
theorem dJ27_pollFirst_24 : decode cJ27_pollFirst 24 = .ok (.aload_n 0, 1) := dk_42 (dk_at dksJ27_pollFirst_1 0 rfl rfl)
theorem dJ27_pollFirst_25 : decode cJ27_pollFirst 25 = .ok (.iload_n 2, 1) := dk_28 (dk_at dksJ27_pollFirst_1 1 rfl rfl)
theorem dJ27_pollFirst_26 : decode cJ27_pollFirst 26 = .ok (.aload_n 1, 1) := dk_43 (dk_at dksJ27_pollFirst_1 2 rfl rfl)
theorem dJ27_pollFirst_27 : decode cJ27_pollFirst 27 = .ok (.arraylength, 1) := dk_190 (dk_at dksJ27_pollFirst_1 3 rfl rfl)
theorem dJ27_pollFirst_28 : decode cJ27_pollFirst 28 = .ok (.invokestatic 74, 3) := dk_184 0 74 (dk_at dksJ27_pollFirst_1 4 rfl rfl)
theorem dJ27_pollFirst_31 : decode cJ27_pollFirst 31 = .ok (.putfield 24, 3) := dk_181 0 24 (dk_at dksJ27_pollFirst_1 7 rfl rfl)
theorem dJ27_pollFirst_34 : decode cJ27_pollFirst 34 = .ok (.aload_n 3, 1) := dk_45 (dk_at dksJ27_pollFirst_1 10 rfl rfl)
theorem dJ27_pollFirst_35 : decode cJ27_pollFirst 35 = .ok (.areturn, 1) := dk_176 (dk_at dksJ27_pollFirst_1 11 rfl rfl)
abbrev cJ27_isEmpty : ByteArray := prog_48_method_38_code
def yJ27_isEmpty : MethodName := ⟨RJ27, "isEmpty", "()Z"⟩
def dkwJ27_isEmpty_0 : List UInt8 := [42, 180, 0, 24, 42, 180, 0, 20, 160, 0, 7, 4, 167, 0, 4, 3, 172]
abbrev dktJ27_isEmpty_0 : List UInt8 := dkwJ27_isEmpty_0 ++ []
theorem dksJ27_isEmpty_0 : cJ27_isEmpty.data.toList.drop 0 = dktJ27_isEmpty_0 := by decide +kernel
theorem dJ27_isEmpty_0 : decode cJ27_isEmpty 0 = .ok (.aload_n 0, 1) := dk_42 (dk_at dksJ27_isEmpty_0 0 rfl rfl)
theorem dJ27_isEmpty_1 : decode cJ27_isEmpty 1 = .ok (.getfield 24, 3) := dk_180 0 24 (dk_at dksJ27_isEmpty_0 1 rfl rfl)
theorem dJ27_isEmpty_4 : decode cJ27_isEmpty 4 = .ok (.aload_n 0, 1) := dk_42 (dk_at dksJ27_isEmpty_0 4 rfl rfl)
theorem dJ27_isEmpty_5 : decode cJ27_isEmpty 5 = .ok (.getfield 20, 3) := dk_180 0 20 (dk_at dksJ27_isEmpty_0 5 rfl rfl)
theorem dJ27_isEmpty_8 : decode cJ27_isEmpty 8 = .ok (.if_icmp .ne 7, 3) := dk_160 0 7 (dk_at dksJ27_isEmpty_0 8 rfl rfl)
theorem dJ27_isEmpty_11 : decode cJ27_isEmpty 11 = .ok (.iconst 1, 1) := dk_4 (dk_at dksJ27_isEmpty_0 11 rfl rfl)
theorem dJ27_isEmpty_12 : decode cJ27_isEmpty 12 = .ok (.goto 4, 3) := dk_167 0 4 (dk_at dksJ27_isEmpty_0 12 rfl rfl)
theorem dJ27_isEmpty_15 : decode cJ27_isEmpty 15 = .ok (.iconst 0, 1) := dk_3 (dk_at dksJ27_isEmpty_0 15 rfl rfl)
theorem dJ27_isEmpty_16 : decode cJ27_isEmpty 16 = .ok (.ireturn, 1) := dk_172 (dk_at dksJ27_isEmpty_0 16 rfl rfl)
theorem q93 : (Jvm.Cond.initialized "java/util/ArrayDeque") ∈ lw_all := lw_g (lw_at lw_m1 36 rfl) rfl
theorem q680 : (Jvm.Cond.selects "java/util/ArrayDeque" ({ cls := "java/lang/Object", name := "getClass", desc := "()Ljava/lang/Class;" } : Jvm.MethodName) ({ cls := "java/lang/Object", name := "getClass", desc := "()Ljava/lang/Class;" } : Jvm.MethodName)) ∈ lw_all := lw_g (lw_at lw_m3 143 rfl) rfl
theorem q1234 : (Jvm.Cond.instantiable "java/util/ArrayDeque" (3 : Nat)) ∈ lw_all := lw_g (lw_at lw_m5 217 rfl) rfl
theorem q1236 : (Jvm.Cond.instanceMethod ({ cls := "java/util/ArrayDeque", name := "<init>", desc := "()V" } : Jvm.MethodName)) ∈ lw_all := lw_g (lw_at lw_m5 219 rfl) rfl
theorem q1237 : (Jvm.Cond.code ({ cls := "java/util/ArrayDeque", name := "<init>", desc := "()V" } : Jvm.MethodName) prog_48_method_3_code (1 : Nat) (Option.none : Option Jvm.ClassFile.FieldType)) ∈ lw_all := lw_g (lw_at lw_m5 220 rfl) rfl
theorem q1238 : (Jvm.Cond.methodLink "java/util/ArrayDeque" (42 : Nat) ({ cls := "java/util/AbstractCollection", name := "<init>", desc := "()V" } : Jvm.MethodName)) ∈ lw_all := lw_g (lw_at lw_m5 221 rfl) rfl
theorem q1239 : (Jvm.Cond.classLink "java/util/ArrayDeque" (47 : Nat) "java/lang/Object") ∈ lw_all := lw_g (lw_at lw_m5 222 rfl) rfl
theorem q1241 : (Jvm.Cond.fieldLink "java/util/ArrayDeque" (3 : Nat) "java/util/ArrayDeque" "elements" "[Ljava/lang/Object;") ∈ lw_all := lw_g (lw_at lw_m5 224 rfl) rfl
theorem q1242 : (Jvm.Cond.fieldLink "java/util/ArrayDeque" (24 : Nat) "java/util/ArrayDeque" "head" "I") ∈ lw_all := lw_g (lw_at lw_m5 225 rfl) rfl
theorem q1243 : (Jvm.Cond.fieldLink "java/util/ArrayDeque" (20 : Nat) "java/util/ArrayDeque" "tail" "I") ∈ lw_all := lw_g (lw_at lw_m5 226 rfl) rfl
theorem q1244 : (Jvm.Cond.lays "java/util/ArrayDeque" "java/util/ArrayDeque" "elements" "[Ljava/lang/Object;") ∈ lw_all := lw_g (lw_at lw_m5 227 rfl) rfl
theorem q1245 : (Jvm.Cond.soleField "java/util/ArrayDeque" "elements") ∈ lw_all := lw_g (lw_at lw_m5 228 rfl) rfl
theorem q1246 : (Jvm.Cond.lays "java/util/ArrayDeque" "java/util/ArrayDeque" "head" "I") ∈ lw_all := lw_g (lw_at lw_m5 229 rfl) rfl
theorem q1247 : (Jvm.Cond.soleField "java/util/ArrayDeque" "head") ∈ lw_all := lw_g (lw_at lw_m5 230 rfl) rfl
theorem q1248 : (Jvm.Cond.lays "java/util/ArrayDeque" "java/util/ArrayDeque" "tail" "I") ∈ lw_all := lw_g (lw_at lw_m5 231 rfl) rfl
theorem q1249 : (Jvm.Cond.soleField "java/util/ArrayDeque" "tail") ∈ lw_all := lw_g (lw_at lw_m5 232 rfl) rfl
theorem q1250 : (Jvm.Cond.superclass "java/util/ArrayDeque" "java/util/AbstractCollection") ∈ lw_all := lw_g (lw_at lw_m5 233 rfl) rfl
theorem q1336 : (Jvm.Cond.castable "java/util/ArrayDeque" "java/util/Deque") ∈ lw_tbl := lw_at lw_m6 79 rfl
theorem q1337 : (Jvm.Cond.selects "java/util/ArrayDeque" ({ cls := "java/util/Deque", name := "addLast", desc := "(Ljava/lang/Object;)V" } : Jvm.MethodName) ({ cls := "java/util/ArrayDeque", name := "addLast", desc := "(Ljava/lang/Object;)V" } : Jvm.MethodName)) ∈ lw_all := lw_g (lw_at lw_m6 80 rfl) rfl
theorem q1338 : (Jvm.Cond.unhidden "java/util/ArrayDeque" "addLast" "(Ljava/lang/Object;)V") ∈ lw_tbl := lw_at lw_m6 81 rfl
theorem q1339 : (Jvm.Cond.instanceMethod ({ cls := "java/util/ArrayDeque", name := "addLast", desc := "(Ljava/lang/Object;)V" } : Jvm.MethodName)) ∈ lw_all := lw_g (lw_at lw_m6 82 rfl) rfl
theorem q1340 : (Jvm.Cond.publicMethod ({ cls := "java/util/ArrayDeque", name := "addLast", desc := "(Ljava/lang/Object;)V" } : Jvm.MethodName)) ∈ lw_tbl := lw_at lw_m6 83 rfl
theorem q1341 : (Jvm.Cond.code ({ cls := "java/util/ArrayDeque", name := "addLast", desc := "(Ljava/lang/Object;)V" } : Jvm.MethodName) prog_48_method_13_code (3 : Nat) (Option.none : Option Jvm.ClassFile.FieldType)) ∈ lw_all := lw_g (lw_at lw_m6 84 rfl) rfl
theorem q1342 : (Jvm.Cond.methodLink "java/util/ArrayDeque" (74 : Nat) ({ cls := "java/util/ArrayDeque", name := "inc", desc := "(II)I" } : Jvm.MethodName)) ∈ lw_all := lw_g (lw_at lw_m6 85 rfl) rfl
theorem q1343 : (Jvm.Cond.static ({ cls := "java/util/ArrayDeque", name := "inc", desc := "(II)I" } : Jvm.MethodName)) ∈ lw_all := lw_g (lw_at lw_m6 86 rfl) rfl
theorem q1344 : (Jvm.Cond.code ({ cls := "java/util/ArrayDeque", name := "inc", desc := "(II)I" } : Jvm.MethodName) prog_48_method_6_code (2 : Nat) (Option.some Jvm.ClassFile.FieldType.int)) ∈ lw_all := lw_g (lw_at lw_m6 87 rfl) rfl
theorem q1345 : (Jvm.Cond.methodLink "java/util/ArrayDeque" (71 : Nat) ({ cls := "java/util/ArrayDeque", name := "grow", desc := "(I)V" } : Jvm.MethodName)) ∈ lw_all := lw_g (lw_at lw_m6 88 rfl) rfl
theorem q1346 : (Jvm.Cond.privateMethod ({ cls := "java/util/ArrayDeque", name := "grow", desc := "(I)V" } : Jvm.MethodName)) ∈ lw_tbl := lw_at lw_m6 89 rfl
theorem q1347 : (Jvm.Cond.instanceMethod ({ cls := "java/util/ArrayDeque", name := "grow", desc := "(I)V" } : Jvm.MethodName)) ∈ lw_all := lw_g (lw_at lw_m6 90 rfl) rfl
theorem q1348 : (Jvm.Cond.code ({ cls := "java/util/ArrayDeque", name := "grow", desc := "(I)V" } : Jvm.MethodName) prog_48_method_1_code (9 : Nat) (Option.none : Option Jvm.ClassFile.FieldType)) ∈ lw_all := lw_g (lw_at lw_m6 91 rfl) rfl
theorem q1349 : (Jvm.Cond.constant "java/util/ArrayDeque" (9 : Nat) (2147483639 : Int32)) ∈ lw_all := lw_g (lw_at lw_m6 92 rfl) rfl
theorem q1350 : (Jvm.Cond.methodLink "java/util/ArrayDeque" (10 : Nat) ({ cls := "java/util/ArrayDeque", name := "newCapacity", desc := "(II)I" } : Jvm.MethodName)) ∈ lw_all := lw_g (lw_at lw_m6 93 rfl) rfl
theorem q1351 : (Jvm.Cond.privateMethod ({ cls := "java/util/ArrayDeque", name := "newCapacity", desc := "(II)I" } : Jvm.MethodName)) ∈ lw_tbl := lw_at lw_m6 94 rfl
theorem q1352 : (Jvm.Cond.instanceMethod ({ cls := "java/util/ArrayDeque", name := "newCapacity", desc := "(II)I" } : Jvm.MethodName)) ∈ lw_all := lw_g (lw_at lw_m6 95 rfl) rfl
theorem q1353 : (Jvm.Cond.code ({ cls := "java/util/ArrayDeque", name := "newCapacity", desc := "(II)I" } : Jvm.MethodName) prog_48_method_2_code (5 : Nat) (Option.some Jvm.ClassFile.FieldType.int)) ∈ lw_all := lw_g (lw_at lw_m6 96 rfl) rfl
theorem q1354 : (Jvm.Cond.classLink "java/util/ArrayDeque" (33 : Nat) "java/lang/IllegalStateException") ∈ lw_all := lw_g (lw_at lw_m6 97 rfl) rfl
theorem q1363 : (Jvm.Cond.stringRef "java/util/ArrayDeque" (35 : Nat) "Sorry, deque too big") ∈ lw_tbl := lw_at lw_m6 106 rfl
theorem q1364 : (Jvm.Cond.methodLink "java/util/ArrayDeque" (37 : Nat) ({ cls := "java/lang/IllegalStateException", name := "<init>", desc := "(Ljava/lang/String;)V" } : Jvm.MethodName)) ∈ lw_all := lw_g (lw_at lw_m6 107 rfl) rfl
theorem q1370 : (Jvm.Cond.constant "java/util/ArrayDeque" (41 : Nat) (2147483647 : Int32)) ∈ lw_all := lw_g (lw_at lw_m6 113 rfl) rfl
theorem q1371 : (Jvm.Cond.methodLink "java/util/ArrayDeque" (14 : Nat) ({ cls := "java/util/Arrays", name := "copyOf", desc := "([Ljava/lang/Object;I)[Ljava/lang/Object;" } : Jvm.MethodName)) ∈ lw_all := lw_g (lw_at lw_m6 114 rfl) rfl
theorem q1380 : (Jvm.Cond.methodLink "java/util/ArrayDeque" (27 : Nat) ({ cls := "java/lang/System", name := "arraycopy", desc := "(Ljava/lang/Object;ILjava/lang/Object;II)V" } : Jvm.MethodName)) ∈ lw_all := lw_g (lw_at lw_m6 123 rfl) rfl
theorem q1432 : (Jvm.Cond.selects "java/util/ArrayDeque" ({ cls := "java/util/Deque", name := "getLast", desc := "()Ljava/lang/Object;" } : Jvm.MethodName) ({ cls := "java/util/ArrayDeque", name := "getLast", desc := "()Ljava/lang/Object;" } : Jvm.MethodName)) ∈ lw_all := lw_g (lw_at lw_m6 175 rfl) rfl
theorem q1433 : (Jvm.Cond.unhidden "java/util/ArrayDeque" "getLast" "()Ljava/lang/Object;") ∈ lw_tbl := lw_at lw_m6 176 rfl
theorem q1434 : (Jvm.Cond.instanceMethod ({ cls := "java/util/ArrayDeque", name := "getLast", desc := "()Ljava/lang/Object;" } : Jvm.MethodName)) ∈ lw_all := lw_g (lw_at lw_m6 177 rfl) rfl
theorem q1435 : (Jvm.Cond.publicMethod ({ cls := "java/util/ArrayDeque", name := "getLast", desc := "()Ljava/lang/Object;" } : Jvm.MethodName)) ∈ lw_tbl := lw_at lw_m6 178 rfl
theorem q1436 : (Jvm.Cond.code ({ cls := "java/util/ArrayDeque", name := "getLast", desc := "()Ljava/lang/Object;" } : Jvm.MethodName) prog_48_method_23_code (3 : Nat) (Option.some (Jvm.ClassFile.FieldType.object "java/lang/Object"))) ∈ lw_all := lw_g (lw_at lw_m6 179 rfl) rfl
theorem q1437 : (Jvm.Cond.methodLink "java/util/ArrayDeque" (68 : Nat) ({ cls := "java/util/ArrayDeque", name := "dec", desc := "(II)I" } : Jvm.MethodName)) ∈ lw_all := lw_g (lw_at lw_m6 180 rfl) rfl
theorem q1438 : (Jvm.Cond.static ({ cls := "java/util/ArrayDeque", name := "dec", desc := "(II)I" } : Jvm.MethodName)) ∈ lw_all := lw_g (lw_at lw_m6 181 rfl) rfl
theorem q1439 : (Jvm.Cond.code ({ cls := "java/util/ArrayDeque", name := "dec", desc := "(II)I" } : Jvm.MethodName) prog_48_method_7_code (2 : Nat) (Option.some Jvm.ClassFile.FieldType.int)) ∈ lw_all := lw_g (lw_at lw_m6 182 rfl) rfl
theorem q1440 : (Jvm.Cond.methodLink "java/util/ArrayDeque" (103 : Nat) ({ cls := "java/util/ArrayDeque", name := "elementAt", desc := "([Ljava/lang/Object;I)Ljava/lang/Object;" } : Jvm.MethodName)) ∈ lw_all := lw_g (lw_at lw_m6 183 rfl) rfl
theorem q1441 : (Jvm.Cond.static ({ cls := "java/util/ArrayDeque", name := "elementAt", desc := "([Ljava/lang/Object;I)Ljava/lang/Object;" } : Jvm.MethodName)) ∈ lw_all := lw_g (lw_at lw_m6 184 rfl) rfl
theorem q1442 : (Jvm.Cond.code ({ cls := "java/util/ArrayDeque", name := "elementAt", desc := "([Ljava/lang/Object;I)Ljava/lang/Object;" } : Jvm.MethodName) prog_48_method_10_code (2 : Nat) (Option.some (Jvm.ClassFile.FieldType.object "java/lang/Object"))) ∈ lw_all := lw_g (lw_at lw_m6 185 rfl) rfl
theorem q1666 : (Jvm.Cond.selects "java/util/ArrayDeque" ({ cls := "java/util/Deque", name := "size", desc := "()I" } : Jvm.MethodName) ({ cls := "java/util/ArrayDeque", name := "size", desc := "()I" } : Jvm.MethodName)) ∈ lw_all := lw_g (lw_at lw_m7 169 rfl) rfl
theorem q1667 : (Jvm.Cond.unhidden "java/util/ArrayDeque" "size" "()I") ∈ lw_tbl := lw_at lw_m7 170 rfl
theorem q1668 : (Jvm.Cond.instanceMethod ({ cls := "java/util/ArrayDeque", name := "size", desc := "()I" } : Jvm.MethodName)) ∈ lw_all := lw_g (lw_at lw_m7 171 rfl) rfl
theorem q1669 : (Jvm.Cond.publicMethod ({ cls := "java/util/ArrayDeque", name := "size", desc := "()I" } : Jvm.MethodName)) ∈ lw_tbl := lw_at lw_m7 172 rfl
theorem q1670 : (Jvm.Cond.code ({ cls := "java/util/ArrayDeque", name := "size", desc := "()I" } : Jvm.MethodName) prog_48_method_37_code (1 : Nat) (Option.some Jvm.ClassFile.FieldType.int)) ∈ lw_all := lw_g (lw_at lw_m7 173 rfl) rfl
theorem q1671 : (Jvm.Cond.methodLink "java/util/ArrayDeque" (127 : Nat) ({ cls := "java/util/ArrayDeque", name := "sub", desc := "(III)I" } : Jvm.MethodName)) ∈ lw_all := lw_g (lw_at lw_m7 174 rfl) rfl
theorem q1672 : (Jvm.Cond.static ({ cls := "java/util/ArrayDeque", name := "sub", desc := "(III)I" } : Jvm.MethodName)) ∈ lw_all := lw_g (lw_at lw_m7 175 rfl) rfl
theorem q1673 : (Jvm.Cond.code ({ cls := "java/util/ArrayDeque", name := "sub", desc := "(III)I" } : Jvm.MethodName) prog_48_method_9_code (3 : Nat) (Option.some Jvm.ClassFile.FieldType.int)) ∈ lw_all := lw_g (lw_at lw_m7 176 rfl) rfl
theorem q1682 : (Jvm.Cond.selects "java/util/ArrayDeque" ({ cls := "java/util/Deque", name := "removeLast", desc := "()Ljava/lang/Object;" } : Jvm.MethodName) ({ cls := "java/util/ArrayDeque", name := "removeLast", desc := "()Ljava/lang/Object;" } : Jvm.MethodName)) ∈ lw_all := lw_g (lw_at lw_m7 185 rfl) rfl
theorem q1683 : (Jvm.Cond.unhidden "java/util/ArrayDeque" "removeLast" "()Ljava/lang/Object;") ∈ lw_tbl := lw_at lw_m7 186 rfl
theorem q1684 : (Jvm.Cond.instanceMethod ({ cls := "java/util/ArrayDeque", name := "removeLast", desc := "()Ljava/lang/Object;" } : Jvm.MethodName)) ∈ lw_all := lw_g (lw_at lw_m7 187 rfl) rfl
theorem q1685 : (Jvm.Cond.publicMethod ({ cls := "java/util/ArrayDeque", name := "removeLast", desc := "()Ljava/lang/Object;" } : Jvm.MethodName)) ∈ lw_tbl := lw_at lw_m7 188 rfl
theorem q1686 : (Jvm.Cond.code ({ cls := "java/util/ArrayDeque", name := "removeLast", desc := "()Ljava/lang/Object;" } : Jvm.MethodName) prog_48_method_19_code (2 : Nat) (Option.some (Jvm.ClassFile.FieldType.object "java/lang/Object"))) ∈ lw_all := lw_g (lw_at lw_m7 189 rfl) rfl
theorem q1687 : (Jvm.Cond.methodLink "java/util/ArrayDeque" (100 : Nat) ({ cls := "java/util/ArrayDeque", name := "pollLast", desc := "()Ljava/lang/Object;" } : Jvm.MethodName)) ∈ lw_all := lw_g (lw_at lw_m7 190 rfl) rfl
theorem q1688 : (Jvm.Cond.instanceMethod ({ cls := "java/util/ArrayDeque", name := "pollLast", desc := "()Ljava/lang/Object;" } : Jvm.MethodName)) ∈ lw_all := lw_g (lw_at lw_m7 191 rfl) rfl
theorem q1689 : (Jvm.Cond.selects "java/util/ArrayDeque" ({ cls := "java/util/ArrayDeque", name := "pollLast", desc := "()Ljava/lang/Object;" } : Jvm.MethodName) ({ cls := "java/util/ArrayDeque", name := "pollLast", desc := "()Ljava/lang/Object;" } : Jvm.MethodName)) ∈ lw_all := lw_g (lw_at lw_m7 192 rfl) rfl
theorem q1690 : (Jvm.Cond.code ({ cls := "java/util/ArrayDeque", name := "pollLast", desc := "()Ljava/lang/Object;" } : Jvm.MethodName) prog_48_method_21_code (4 : Nat) (Option.some (Jvm.ClassFile.FieldType.object "java/lang/Object"))) ∈ lw_all := lw_g (lw_at lw_m7 193 rfl) rfl
theorem q1902 : (Jvm.Cond.selects "java/util/ArrayDeque" ({ cls := "java/util/Collection", name := "clear", desc := "()V" } : Jvm.MethodName) ({ cls := "java/util/ArrayDeque", name := "clear", desc := "()V" } : Jvm.MethodName)) ∈ lw_all := lw_g (lw_at lw_m8 165 rfl) rfl
theorem q1903 : (Jvm.Cond.unhidden "java/util/ArrayDeque" "clear" "()V") ∈ lw_tbl := lw_at lw_m8 166 rfl
theorem q1904 : (Jvm.Cond.instanceMethod ({ cls := "java/util/ArrayDeque", name := "clear", desc := "()V" } : Jvm.MethodName)) ∈ lw_all := lw_g (lw_at lw_m8 167 rfl) rfl
theorem q1905 : (Jvm.Cond.publicMethod ({ cls := "java/util/ArrayDeque", name := "clear", desc := "()V" } : Jvm.MethodName)) ∈ lw_tbl := lw_at lw_m8 168 rfl
theorem q1906 : (Jvm.Cond.code ({ cls := "java/util/ArrayDeque", name := "clear", desc := "()V" } : Jvm.MethodName) prog_48_method_53_code (1 : Nat) (Option.none : Option Jvm.ClassFile.FieldType)) ∈ lw_all := lw_g (lw_at lw_m8 169 rfl) rfl
theorem q1907 : (Jvm.Cond.methodLink "java/util/ArrayDeque" (181 : Nat) ({ cls := "java/util/ArrayDeque", name := "circularClear", desc := "([Ljava/lang/Object;II)V" } : Jvm.MethodName)) ∈ lw_all := lw_g (lw_at lw_m8 170 rfl) rfl
theorem q1908 : (Jvm.Cond.static ({ cls := "java/util/ArrayDeque", name := "circularClear", desc := "([Ljava/lang/Object;II)V" } : Jvm.MethodName)) ∈ lw_all := lw_g (lw_at lw_m8 171 rfl) rfl
theorem q1909 : (Jvm.Cond.code ({ cls := "java/util/ArrayDeque", name := "circularClear", desc := "([Ljava/lang/Object;II)V" } : Jvm.MethodName) prog_48_method_54_code (4 : Nat) (Option.none : Option Jvm.ClassFile.FieldType)) ∈ lw_all := lw_g (lw_at lw_m8 172 rfl) rfl
theorem q2170 : (Jvm.Cond.selects "java/util/ArrayDeque" ({ cls := "java/util/Deque", name := "removeFirst", desc := "()Ljava/lang/Object;" } : Jvm.MethodName) ({ cls := "java/util/ArrayDeque", name := "removeFirst", desc := "()Ljava/lang/Object;" } : Jvm.MethodName)) ∈ lw_all := lw_g (lw_at lw_m9 193 rfl) rfl
theorem q2171 : (Jvm.Cond.unhidden "java/util/ArrayDeque" "removeFirst" "()Ljava/lang/Object;") ∈ lw_tbl := lw_at lw_m9 194 rfl
theorem q2172 : (Jvm.Cond.instanceMethod ({ cls := "java/util/ArrayDeque", name := "removeFirst", desc := "()Ljava/lang/Object;" } : Jvm.MethodName)) ∈ lw_all := lw_g (lw_at lw_m9 195 rfl) rfl
theorem q2173 : (Jvm.Cond.publicMethod ({ cls := "java/util/ArrayDeque", name := "removeFirst", desc := "()Ljava/lang/Object;" } : Jvm.MethodName)) ∈ lw_tbl := lw_at lw_m9 196 rfl
theorem q2174 : (Jvm.Cond.code ({ cls := "java/util/ArrayDeque", name := "removeFirst", desc := "()Ljava/lang/Object;" } : Jvm.MethodName) prog_48_method_18_code (2 : Nat) (Option.some (Jvm.ClassFile.FieldType.object "java/lang/Object"))) ∈ lw_all := lw_g (lw_at lw_m9 197 rfl) rfl
theorem q2175 : (Jvm.Cond.methodLink "java/util/ArrayDeque" (93 : Nat) ({ cls := "java/util/ArrayDeque", name := "pollFirst", desc := "()Ljava/lang/Object;" } : Jvm.MethodName)) ∈ lw_all := lw_g (lw_at lw_m9 198 rfl) rfl
theorem q2176 : (Jvm.Cond.instanceMethod ({ cls := "java/util/ArrayDeque", name := "pollFirst", desc := "()Ljava/lang/Object;" } : Jvm.MethodName)) ∈ lw_all := lw_g (lw_at lw_m9 199 rfl) rfl
theorem q2177 : (Jvm.Cond.selects "java/util/ArrayDeque" ({ cls := "java/util/ArrayDeque", name := "pollFirst", desc := "()Ljava/lang/Object;" } : Jvm.MethodName) ({ cls := "java/util/ArrayDeque", name := "pollFirst", desc := "()Ljava/lang/Object;" } : Jvm.MethodName)) ∈ lw_all := lw_g (lw_at lw_m9 200 rfl) rfl
theorem q2178 : (Jvm.Cond.code ({ cls := "java/util/ArrayDeque", name := "pollFirst", desc := "()Ljava/lang/Object;" } : Jvm.MethodName) prog_48_method_20_code (4 : Nat) (Option.some (Jvm.ClassFile.FieldType.object "java/lang/Object"))) ∈ lw_all := lw_g (lw_at lw_m9 201 rfl) rfl
theorem q2277 : (Jvm.Cond.selects "java/util/ArrayDeque" ({ cls := "java/util/Collection", name := "isEmpty", desc := "()Z" } : Jvm.MethodName) ({ cls := "java/util/ArrayDeque", name := "isEmpty", desc := "()Z" } : Jvm.MethodName)) ∈ lw_all := lw_g (lw_at lw_m10 60 rfl) rfl
theorem q2278 : (Jvm.Cond.unhidden "java/util/ArrayDeque" "isEmpty" "()Z") ∈ lw_tbl := lw_at lw_m10 61 rfl
theorem q2279 : (Jvm.Cond.instanceMethod ({ cls := "java/util/ArrayDeque", name := "isEmpty", desc := "()Z" } : Jvm.MethodName)) ∈ lw_all := lw_g (lw_at lw_m10 62 rfl) rfl
theorem q2280 : (Jvm.Cond.publicMethod ({ cls := "java/util/ArrayDeque", name := "isEmpty", desc := "()Z" } : Jvm.MethodName)) ∈ lw_tbl := lw_at lw_m10 63 rfl
theorem q2281 : (Jvm.Cond.code ({ cls := "java/util/ArrayDeque", name := "isEmpty", desc := "()Z" } : Jvm.MethodName) prog_48_method_38_code (1 : Nat) (Option.some Jvm.ClassFile.FieldType.boolean)) ∈ lw_all := lw_g (lw_at lw_m10 64 rfl) rfl
theorem q2752 : (Jvm.Cond.castable "java/util/ArrayDeque" "java/lang/Object") ∈ lw_tbl := lw_at lw_m12 55 rfl
abbrev cJ28_init : ByteArray := prog_27_method_2_code
def yJ28_init : MethodName := ⟨RJ28, "<init>", "(Ljava/lang/String;)V"⟩
def dkwJ28_init_0 : List UInt8 := [42, 43, 183, 0, 7, 177]
abbrev dktJ28_init_0 : List UInt8 := dkwJ28_init_0 ++ []
theorem dksJ28_init_0 : cJ28_init.data.toList.drop 0 = dktJ28_init_0 := by decide +kernel
theorem dJ28_init_0 : decode cJ28_init 0 = .ok (.aload_n 0, 1) := dk_42 (dk_at dksJ28_init_0 0 rfl rfl)
theorem dJ28_init_1 : decode cJ28_init 1 = .ok (.aload_n 1, 1) := dk_43 (dk_at dksJ28_init_0 1 rfl rfl)
theorem dJ28_init_2 : decode cJ28_init 2 = .ok (.invokespecial 7, 3) := dk_183 0 7 (dk_at dksJ28_init_0 2 rfl rfl)
theorem dJ28_init_5 : decode cJ28_init 5 = .ok (.return_, 1) := dk_177 (dk_at dksJ28_init_0 5 rfl rfl)
abbrev cJ28_init_2 : ByteArray := prog_27_method_1_code
def yJ28_init_2 : MethodName := ⟨RJ28, "<init>", "()V"⟩
theorem dJ28_init_2_0 : decode cJ28_init_2 0 = .ok (.aload_n 0, 1) := by decide +kernel
theorem dJ28_init_2_1 : decode cJ28_init_2 1 = .ok (.invokespecial 1, 3) := by decide +kernel
theorem dJ28_init_2_4 : decode cJ28_init_2 4 = .ok (.return_, 1) := by decide +kernel
theorem q95 : (Jvm.Cond.initialized "java/lang/IllegalStateException") ∈ lw_all := lw_g (lw_at lw_m1 38 rfl) rfl
theorem q214 : (Jvm.Cond.selects "java/lang/IllegalStateException" ({ cls := "java/lang/Object", name := "hashCode", desc := "()I" } : Jvm.MethodName) ({ cls := "java/lang/Object", name := "hashCode", desc := "()I" } : Jvm.MethodName)) ∈ lw_all := lw_g (lw_at lw_m1 157 rfl) rfl
theorem q317 : (Jvm.Cond.selects "java/lang/IllegalStateException" ({ cls := "java/lang/Throwable", name := "fillInStackTrace", desc := "()Ljava/lang/Throwable;" } : Jvm.MethodName) ({ cls := "java/lang/Throwable", name := "fillInStackTrace", desc := "()Ljava/lang/Throwable;" } : Jvm.MethodName)) ∈ lw_all := lw_g (lw_at lw_m2 20 rfl) rfl
theorem q674 : (Jvm.Cond.selects "java/lang/IllegalStateException" ({ cls := "java/lang/Object", name := "getClass", desc := "()Ljava/lang/Class;" } : Jvm.MethodName) ({ cls := "java/lang/Object", name := "getClass", desc := "()Ljava/lang/Class;" } : Jvm.MethodName)) ∈ lw_all := lw_g (lw_at lw_m3 137 rfl) rfl
theorem q941 : (Jvm.Cond.selects "java/lang/IllegalStateException" ({ cls := "java/lang/Object", name := "equals", desc := "(Ljava/lang/Object;)Z" } : Jvm.MethodName) ({ cls := "java/lang/Object", name := "equals", desc := "(Ljava/lang/Object;)Z" } : Jvm.MethodName)) ∈ lw_all := lw_g (lw_at lw_m4 164 rfl) rfl
theorem q1355 : (Jvm.Cond.instantiable "java/lang/IllegalStateException" (6 : Nat)) ∈ lw_all := lw_g (lw_at lw_m6 98 rfl) rfl
theorem q1356 : (Jvm.Cond.castable "java/lang/IllegalStateException" "java/lang/IllegalStateException") ∈ lw_tbl := lw_at lw_m6 99 rfl
theorem q1357 : (Jvm.Cond.selects "java/lang/IllegalStateException" ({ cls := "java/lang/Throwable", name := "fillInStackTrace", desc := "(I)Ljava/lang/Throwable;" } : Jvm.MethodName) ({ cls := "java/lang/Throwable", name := "fillInStackTrace", desc := "(I)Ljava/lang/Throwable;" } : Jvm.MethodName)) ∈ lw_all := lw_g (lw_at lw_m6 100 rfl) rfl
theorem q1358 : (Jvm.Cond.lays "java/lang/IllegalStateException" "java/lang/Throwable" "cause" "Ljava/lang/Throwable;") ∈ lw_all := lw_g (lw_at lw_m6 101 rfl) rfl
theorem q1359 : (Jvm.Cond.lays "java/lang/IllegalStateException" "java/lang/Throwable" "stackTrace" "[Ljava/lang/StackTraceElement;") ∈ lw_all := lw_g (lw_at lw_m6 102 rfl) rfl
theorem q1360 : (Jvm.Cond.lays "java/lang/IllegalStateException" "java/lang/Throwable" "suppressedExceptions" "Ljava/util/List;") ∈ lw_all := lw_g (lw_at lw_m6 103 rfl) rfl
theorem q1361 : (Jvm.Cond.lays "java/lang/IllegalStateException" "java/lang/Throwable" "detailMessage" "Ljava/lang/String;") ∈ lw_all := lw_g (lw_at lw_m6 104 rfl) rfl
theorem q1362 : (Jvm.Cond.lays "java/lang/IllegalStateException" "java/lang/Throwable" "backtrace" "Ljava/lang/Object;") ∈ lw_all := lw_g (lw_at lw_m6 105 rfl) rfl
theorem q1365 : (Jvm.Cond.instanceMethod ({ cls := "java/lang/IllegalStateException", name := "<init>", desc := "(Ljava/lang/String;)V" } : Jvm.MethodName)) ∈ lw_all := lw_g (lw_at lw_m6 108 rfl) rfl
theorem q1366 : (Jvm.Cond.code ({ cls := "java/lang/IllegalStateException", name := "<init>", desc := "(Ljava/lang/String;)V" } : Jvm.MethodName) prog_27_method_2_code (2 : Nat) (Option.none : Option Jvm.ClassFile.FieldType)) ∈ lw_all := lw_g (lw_at lw_m6 109 rfl) rfl
theorem q1367 : (Jvm.Cond.methodLink "java/lang/IllegalStateException" (7 : Nat) ({ cls := "java/lang/RuntimeException", name := "<init>", desc := "(Ljava/lang/String;)V" } : Jvm.MethodName)) ∈ lw_all := lw_g (lw_at lw_m6 110 rfl) rfl
theorem q1368 : (Jvm.Cond.lays "java/lang/IllegalStateException" "java/lang/Throwable" "depth" "I") ∈ lw_all := lw_g (lw_at lw_m6 111 rfl) rfl
theorem q1369 : (Jvm.Cond.superclass "java/lang/IllegalStateException" "java/lang/RuntimeException") ∈ lw_all := lw_g (lw_at lw_m6 112 rfl) rfl
theorem q1887 : (Jvm.Cond.instanceMethod ({ cls := "java/lang/IllegalStateException", name := "<init>", desc := "()V" } : Jvm.MethodName)) ∈ lw_all := lw_g (lw_at lw_m8 150 rfl) rfl
theorem q1888 : (Jvm.Cond.code ({ cls := "java/lang/IllegalStateException", name := "<init>", desc := "()V" } : Jvm.MethodName) prog_27_method_1_code (1 : Nat) (Option.none : Option Jvm.ClassFile.FieldType)) ∈ lw_all := lw_g (lw_at lw_m8 151 rfl) rfl
theorem q1889 : (Jvm.Cond.methodLink "java/lang/IllegalStateException" (1 : Nat) ({ cls := "java/lang/RuntimeException", name := "<init>", desc := "()V" } : Jvm.MethodName)) ∈ lw_all := lw_g (lw_at lw_m8 152 rfl) rfl
theorem q2755 : (Jvm.Cond.castable "java/lang/IllegalStateException" "java/lang/Object") ∈ lw_tbl := lw_at lw_m12 58 rfl
abbrev cJ29_init : ByteArray := prog_28_method_2_code
def yJ29_init : MethodName := ⟨RJ29, "<init>", "(Ljava/lang/String;)V"⟩
def dkwJ29_init_0 : List UInt8 := [42, 43, 183, 0, 7, 177]
abbrev dktJ29_init_0 : List UInt8 := dkwJ29_init_0 ++ []
theorem dksJ29_init_0 : cJ29_init.data.toList.drop 0 = dktJ29_init_0 := by decide +kernel
theorem dJ29_init_0 : decode cJ29_init 0 = .ok (.aload_n 0, 1) := dk_42 (dk_at dksJ29_init_0 0 rfl rfl)
theorem dJ29_init_1 : decode cJ29_init 1 = .ok (.aload_n 1, 1) := dk_43 (dk_at dksJ29_init_0 1 rfl rfl)
theorem dJ29_init_2 : decode cJ29_init 2 = .ok (.invokespecial 7, 3) := dk_183 0 7 (dk_at dksJ29_init_0 2 rfl rfl)
theorem dJ29_init_5 : decode cJ29_init 5 = .ok (.return_, 1) := dk_177 (dk_at dksJ29_init_0 5 rfl rfl)
abbrev cJ29_init_2 : ByteArray := prog_28_method_1_code
def yJ29_init_2 : MethodName := ⟨RJ29, "<init>", "()V"⟩
theorem dJ29_init_2_0 : decode cJ29_init_2 0 = .ok (.aload_n 0, 1) := by decide +kernel
theorem dJ29_init_2_1 : decode cJ29_init_2 1 = .ok (.invokespecial 1, 3) := by decide +kernel
theorem dJ29_init_2_4 : decode cJ29_init_2 4 = .ok (.return_, 1) := by decide +kernel
theorem q98 : (Jvm.Cond.initialized "java/lang/IndexOutOfBoundsException") ∈ lw_all := lw_g (lw_at lw_m1 41 rfl) rfl
theorem q215 : (Jvm.Cond.selects "java/lang/IndexOutOfBoundsException" ({ cls := "java/lang/Object", name := "hashCode", desc := "()I" } : Jvm.MethodName) ({ cls := "java/lang/Object", name := "hashCode", desc := "()I" } : Jvm.MethodName)) ∈ lw_all := lw_g (lw_at lw_m1 158 rfl) rfl
theorem q318 : (Jvm.Cond.selects "java/lang/IndexOutOfBoundsException" ({ cls := "java/lang/Throwable", name := "fillInStackTrace", desc := "()Ljava/lang/Throwable;" } : Jvm.MethodName) ({ cls := "java/lang/Throwable", name := "fillInStackTrace", desc := "()Ljava/lang/Throwable;" } : Jvm.MethodName)) ∈ lw_all := lw_g (lw_at lw_m2 21 rfl) rfl
theorem q675 : (Jvm.Cond.selects "java/lang/IndexOutOfBoundsException" ({ cls := "java/lang/Object", name := "getClass", desc := "()Ljava/lang/Class;" } : Jvm.MethodName) ({ cls := "java/lang/Object", name := "getClass", desc := "()Ljava/lang/Class;" } : Jvm.MethodName)) ∈ lw_all := lw_g (lw_at lw_m3 138 rfl) rfl
theorem q942 : (Jvm.Cond.selects "java/lang/IndexOutOfBoundsException" ({ cls := "java/lang/Object", name := "equals", desc := "(Ljava/lang/Object;)Z" } : Jvm.MethodName) ({ cls := "java/lang/Object", name := "equals", desc := "(Ljava/lang/Object;)Z" } : Jvm.MethodName)) ∈ lw_all := lw_g (lw_at lw_m4 165 rfl) rfl
theorem q1498 : (Jvm.Cond.instantiable "java/lang/IndexOutOfBoundsException" (6 : Nat)) ∈ lw_all := lw_g (lw_at lw_m7 1 rfl) rfl
theorem q1499 : (Jvm.Cond.castable "java/lang/IndexOutOfBoundsException" "java/lang/IndexOutOfBoundsException") ∈ lw_tbl := lw_at lw_m7 2 rfl
theorem q1500 : (Jvm.Cond.selects "java/lang/IndexOutOfBoundsException" ({ cls := "java/lang/Throwable", name := "fillInStackTrace", desc := "(I)Ljava/lang/Throwable;" } : Jvm.MethodName) ({ cls := "java/lang/Throwable", name := "fillInStackTrace", desc := "(I)Ljava/lang/Throwable;" } : Jvm.MethodName)) ∈ lw_all := lw_g (lw_at lw_m7 3 rfl) rfl
theorem q1501 : (Jvm.Cond.lays "java/lang/IndexOutOfBoundsException" "java/lang/Throwable" "cause" "Ljava/lang/Throwable;") ∈ lw_all := lw_g (lw_at lw_m7 4 rfl) rfl
theorem q1502 : (Jvm.Cond.lays "java/lang/IndexOutOfBoundsException" "java/lang/Throwable" "stackTrace" "[Ljava/lang/StackTraceElement;") ∈ lw_all := lw_g (lw_at lw_m7 5 rfl) rfl
theorem q1503 : (Jvm.Cond.lays "java/lang/IndexOutOfBoundsException" "java/lang/Throwable" "suppressedExceptions" "Ljava/util/List;") ∈ lw_all := lw_g (lw_at lw_m7 6 rfl) rfl
theorem q1504 : (Jvm.Cond.lays "java/lang/IndexOutOfBoundsException" "java/lang/Throwable" "detailMessage" "Ljava/lang/String;") ∈ lw_all := lw_g (lw_at lw_m7 7 rfl) rfl
theorem q1505 : (Jvm.Cond.lays "java/lang/IndexOutOfBoundsException" "java/lang/Throwable" "backtrace" "Ljava/lang/Object;") ∈ lw_all := lw_g (lw_at lw_m7 8 rfl) rfl
theorem q1518 : (Jvm.Cond.instanceMethod ({ cls := "java/lang/IndexOutOfBoundsException", name := "<init>", desc := "(Ljava/lang/String;)V" } : Jvm.MethodName)) ∈ lw_all := lw_g (lw_at lw_m7 21 rfl) rfl
theorem q1519 : (Jvm.Cond.code ({ cls := "java/lang/IndexOutOfBoundsException", name := "<init>", desc := "(Ljava/lang/String;)V" } : Jvm.MethodName) prog_28_method_2_code (2 : Nat) (Option.none : Option Jvm.ClassFile.FieldType)) ∈ lw_all := lw_g (lw_at lw_m7 22 rfl) rfl
theorem q1520 : (Jvm.Cond.methodLink "java/lang/IndexOutOfBoundsException" (7 : Nat) ({ cls := "java/lang/RuntimeException", name := "<init>", desc := "(Ljava/lang/String;)V" } : Jvm.MethodName)) ∈ lw_all := lw_g (lw_at lw_m7 23 rfl) rfl
theorem q1521 : (Jvm.Cond.lays "java/lang/IndexOutOfBoundsException" "java/lang/Throwable" "depth" "I") ∈ lw_all := lw_g (lw_at lw_m7 24 rfl) rfl
theorem q1522 : (Jvm.Cond.superclass "java/lang/IndexOutOfBoundsException" "java/lang/RuntimeException") ∈ lw_all := lw_g (lw_at lw_m7 25 rfl) rfl
theorem q1975 : (Jvm.Cond.declares ({ cls := "java/lang/IndexOutOfBoundsException", name := "<init>", desc := "()V" } : Jvm.MethodName)) ∈ lw_tbl := lw_at lw_m8 238 rfl
theorem q1976 : (Jvm.Cond.declares ({ cls := "java/lang/IndexOutOfBoundsException", name := "<init>", desc := "(Ljava/lang/String;)V" } : Jvm.MethodName)) ∈ lw_tbl := lw_at lw_m8 239 rfl
theorem q1991 : (Jvm.Cond.instanceMethod ({ cls := "java/lang/IndexOutOfBoundsException", name := "<init>", desc := "()V" } : Jvm.MethodName)) ∈ lw_all := lw_g (lw_at lw_m9 14 rfl) rfl
theorem q1992 : (Jvm.Cond.code ({ cls := "java/lang/IndexOutOfBoundsException", name := "<init>", desc := "()V" } : Jvm.MethodName) prog_28_method_1_code (1 : Nat) (Option.none : Option Jvm.ClassFile.FieldType)) ∈ lw_all := lw_g (lw_at lw_m9 15 rfl) rfl
theorem q1993 : (Jvm.Cond.methodLink "java/lang/IndexOutOfBoundsException" (1 : Nat) ({ cls := "java/lang/RuntimeException", name := "<init>", desc := "()V" } : Jvm.MethodName)) ∈ lw_all := lw_g (lw_at lw_m9 16 rfl) rfl
theorem q2758 : (Jvm.Cond.castable "java/lang/IndexOutOfBoundsException" "java/lang/Object") ∈ lw_tbl := lw_at lw_m12 61 rfl
abbrev cJ3_init : ByteArray := prog_34_method_1_code
def yJ3_init : MethodName := ⟨RJ3, "<init>", "()V"⟩
theorem dJ3_init_0 : decode cJ3_init 0 = .ok (.aload_n 0, 1) := by decide +kernel
theorem dJ3_init_1 : decode cJ3_init 1 = .ok (.invokespecial 1, 3) := by decide +kernel
theorem dJ3_init_4 : decode cJ3_init 4 = .ok (.return_, 1) := by decide +kernel
theorem q63 : (Jvm.Cond.initialized "java/lang/Number") ∈ lw_all := lw_g (lw_at lw_m1 6 rfl) rfl
theorem q172 : (Jvm.Cond.instanceMethod ({ cls := "java/lang/Number", name := "<init>", desc := "()V" } : Jvm.MethodName)) ∈ lw_all := lw_g (lw_at lw_m1 115 rfl) rfl
theorem q173 : (Jvm.Cond.code ({ cls := "java/lang/Number", name := "<init>", desc := "()V" } : Jvm.MethodName) prog_34_method_1_code (1 : Nat) (Option.none : Option Jvm.ClassFile.FieldType)) ∈ lw_all := lw_g (lw_at lw_m1 116 rfl) rfl
theorem q174 : (Jvm.Cond.methodLink "java/lang/Number" (1 : Nat) ({ cls := "java/lang/Object", name := "<init>", desc := "()V" } : Jvm.MethodName)) ∈ lw_all := lw_g (lw_at lw_m1 117 rfl) rfl
abbrev cJ30_init : ByteArray := prog_19_method_2_code
def yJ30_init : MethodName := ⟨RJ30, "<init>", "(Ljava/lang/String;)V"⟩
def dkwJ30_init_0 : List UInt8 := [42, 43, 183, 0, 7, 177]
abbrev dktJ30_init_0 : List UInt8 := dkwJ30_init_0 ++ []
theorem dksJ30_init_0 : cJ30_init.data.toList.drop 0 = dktJ30_init_0 := by decide +kernel
theorem dJ30_init_0 : decode cJ30_init 0 = .ok (.aload_n 0, 1) := dk_42 (dk_at dksJ30_init_0 0 rfl rfl)
theorem dJ30_init_1 : decode cJ30_init 1 = .ok (.aload_n 1, 1) := dk_43 (dk_at dksJ30_init_0 1 rfl rfl)
theorem dJ30_init_2 : decode cJ30_init 2 = .ok (.invokespecial 7, 3) := dk_183 0 7 (dk_at dksJ30_init_0 2 rfl rfl)
theorem dJ30_init_5 : decode cJ30_init 5 = .ok (.return_, 1) := dk_177 (dk_at dksJ30_init_0 5 rfl rfl)
theorem q103 : (Jvm.Cond.initialized "java/lang/ArrayIndexOutOfBoundsException") ∈ lw_all := lw_g (lw_at lw_m1 46 rfl) rfl
theorem q206 : (Jvm.Cond.selects "java/lang/ArrayIndexOutOfBoundsException" ({ cls := "java/lang/Object", name := "hashCode", desc := "()I" } : Jvm.MethodName) ({ cls := "java/lang/Object", name := "hashCode", desc := "()I" } : Jvm.MethodName)) ∈ lw_all := lw_g (lw_at lw_m1 149 rfl) rfl
theorem q316 : (Jvm.Cond.selects "java/lang/ArrayIndexOutOfBoundsException" ({ cls := "java/lang/Throwable", name := "fillInStackTrace", desc := "()Ljava/lang/Throwable;" } : Jvm.MethodName) ({ cls := "java/lang/Throwable", name := "fillInStackTrace", desc := "()Ljava/lang/Throwable;" } : Jvm.MethodName)) ∈ lw_all := lw_g (lw_at lw_m2 19 rfl) rfl
theorem q671 : (Jvm.Cond.selects "java/lang/ArrayIndexOutOfBoundsException" ({ cls := "java/lang/Object", name := "getClass", desc := "()Ljava/lang/Class;" } : Jvm.MethodName) ({ cls := "java/lang/Object", name := "getClass", desc := "()Ljava/lang/Class;" } : Jvm.MethodName)) ∈ lw_all := lw_g (lw_at lw_m3 134 rfl) rfl
theorem q932 : (Jvm.Cond.selects "java/lang/ArrayIndexOutOfBoundsException" ({ cls := "java/lang/Object", name := "equals", desc := "(Ljava/lang/Object;)Z" } : Jvm.MethodName) ({ cls := "java/lang/Object", name := "equals", desc := "(Ljava/lang/Object;)Z" } : Jvm.MethodName)) ∈ lw_all := lw_g (lw_at lw_m4 155 rfl) rfl
theorem q1963 : (Jvm.Cond.instantiable "java/lang/ArrayIndexOutOfBoundsException" (6 : Nat)) ∈ lw_all := lw_g (lw_at lw_m8 226 rfl) rfl
theorem q1964 : (Jvm.Cond.instanceMethod ({ cls := "java/lang/ArrayIndexOutOfBoundsException", name := "<init>", desc := "(Ljava/lang/String;)V" } : Jvm.MethodName)) ∈ lw_all := lw_g (lw_at lw_m8 227 rfl) rfl
theorem q1965 : (Jvm.Cond.code ({ cls := "java/lang/ArrayIndexOutOfBoundsException", name := "<init>", desc := "(Ljava/lang/String;)V" } : Jvm.MethodName) prog_19_method_2_code (2 : Nat) (Option.none : Option Jvm.ClassFile.FieldType)) ∈ lw_all := lw_g (lw_at lw_m8 228 rfl) rfl
theorem q1966 : (Jvm.Cond.methodLink "java/lang/ArrayIndexOutOfBoundsException" (7 : Nat) ({ cls := "java/lang/IndexOutOfBoundsException", name := "<init>", desc := "(Ljava/lang/String;)V" } : Jvm.MethodName)) ∈ lw_all := lw_g (lw_at lw_m8 229 rfl) rfl
theorem q1967 : (Jvm.Cond.lays "java/lang/ArrayIndexOutOfBoundsException" "java/lang/Throwable" "backtrace" "Ljava/lang/Object;") ∈ lw_all := lw_g (lw_at lw_m8 230 rfl) rfl
theorem q1968 : (Jvm.Cond.lays "java/lang/ArrayIndexOutOfBoundsException" "java/lang/Throwable" "detailMessage" "Ljava/lang/String;") ∈ lw_all := lw_g (lw_at lw_m8 231 rfl) rfl
theorem q1969 : (Jvm.Cond.lays "java/lang/ArrayIndexOutOfBoundsException" "java/lang/Throwable" "cause" "Ljava/lang/Throwable;") ∈ lw_all := lw_g (lw_at lw_m8 232 rfl) rfl
theorem q1970 : (Jvm.Cond.lays "java/lang/ArrayIndexOutOfBoundsException" "java/lang/Throwable" "stackTrace" "[Ljava/lang/StackTraceElement;") ∈ lw_all := lw_g (lw_at lw_m8 233 rfl) rfl
theorem q1971 : (Jvm.Cond.lays "java/lang/ArrayIndexOutOfBoundsException" "java/lang/Throwable" "depth" "I") ∈ lw_all := lw_g (lw_at lw_m8 234 rfl) rfl
theorem q1972 : (Jvm.Cond.lays "java/lang/ArrayIndexOutOfBoundsException" "java/lang/Throwable" "suppressedExceptions" "Ljava/util/List;") ∈ lw_all := lw_g (lw_at lw_m8 235 rfl) rfl
theorem q1973 : (Jvm.Cond.superclass "java/lang/ArrayIndexOutOfBoundsException" "java/lang/IndexOutOfBoundsException") ∈ lw_all := lw_g (lw_at lw_m8 236 rfl) rfl
theorem q1974 : (Jvm.Cond.castable "java/lang/ArrayIndexOutOfBoundsException" "java/lang/ArrayIndexOutOfBoundsException") ∈ lw_tbl := lw_at lw_m8 237 rfl
theorem q1977 : (Jvm.Cond.selects "java/lang/ArrayIndexOutOfBoundsException" ({ cls := "java/lang/Throwable", name := "fillInStackTrace", desc := "(I)Ljava/lang/Throwable;" } : Jvm.MethodName) ({ cls := "java/lang/Throwable", name := "fillInStackTrace", desc := "(I)Ljava/lang/Throwable;" } : Jvm.MethodName)) ∈ lw_all := lw_g (lw_at lw_m9 0 rfl) rfl
theorem q2737 : (Jvm.Cond.castable "java/lang/ArrayIndexOutOfBoundsException" "java/lang/IndexOutOfBoundsException") ∈ lw_tbl := lw_at lw_m12 40 rfl
theorem q2766 : (Jvm.Cond.castable "java/lang/ArrayIndexOutOfBoundsException" "java/lang/Object") ∈ lw_tbl := lw_at lw_m12 69 rfl
abbrev cJ31_init : ByteArray := object_method_1_code
def yJ31_init : MethodName := ⟨RJ31, "<init>", "()V"⟩
theorem dJ31_init_0 : decode cJ31_init 0 = .ok (.return_, 1) := by decide +kernel
abbrev cJ31_equals : ByteArray := object_method_4_code
def yJ31_equals : MethodName := ⟨RJ31, "equals", "(Ljava/lang/Object;)Z"⟩
def dkwJ31_equals_0 : List UInt8 := [42, 43, 166, 0, 7, 4, 167, 0, 4, 3, 172]
abbrev dktJ31_equals_0 : List UInt8 := dkwJ31_equals_0 ++ []
theorem dksJ31_equals_0 : cJ31_equals.data.toList.drop 0 = dktJ31_equals_0 := by decide +kernel
theorem dJ31_equals_0 : decode cJ31_equals 0 = .ok (.aload_n 0, 1) := dk_42 (dk_at dksJ31_equals_0 0 rfl rfl)
theorem dJ31_equals_1 : decode cJ31_equals 1 = .ok (.aload_n 1, 1) := dk_43 (dk_at dksJ31_equals_0 1 rfl rfl)
theorem dJ31_equals_2 : decode cJ31_equals 2 = .ok (.if_acmp .ne 7, 3) := dk_166 0 7 (dk_at dksJ31_equals_0 2 rfl rfl)
theorem dJ31_equals_5 : decode cJ31_equals 5 = .ok (.iconst 1, 1) := dk_4 (dk_at dksJ31_equals_0 5 rfl rfl)
theorem dJ31_equals_6 : decode cJ31_equals 6 = .ok (.goto 4, 3) := dk_167 0 4 (dk_at dksJ31_equals_0 6 rfl rfl)
theorem dJ31_equals_9 : decode cJ31_equals 9 = .ok (.iconst 0, 1) := dk_3 (dk_at dksJ31_equals_0 9 rfl rfl)
theorem dJ31_equals_10 : decode cJ31_equals 10 = .ok (.ireturn, 1) := dk_172 (dk_at dksJ31_equals_0 10 rfl rfl)
theorem q110 : (Jvm.Cond.instanceMethod ({ cls := "java/lang/Object", name := "<init>", desc := "()V" } : Jvm.MethodName)) ∈ lw_all := lw_g (lw_at lw_m1 53 rfl) rfl
theorem q111 : (Jvm.Cond.code ({ cls := "java/lang/Object", name := "<init>", desc := "()V" } : Jvm.MethodName) object_method_1_code (1 : Nat) (Option.none : Option Jvm.ClassFile.FieldType)) ∈ lw_all := lw_g (lw_at lw_m1 54 rfl) rfl
theorem q192 : (Jvm.Cond.declares ({ cls := "java/lang/Object", name := "hashCode", desc := "()I" } : Jvm.MethodName)) ∈ lw_tbl := lw_at lw_m1 135 rfl
theorem q194 : (Jvm.Cond.instanceMethod ({ cls := "java/lang/Object", name := "hashCode", desc := "()I" } : Jvm.MethodName)) ∈ lw_all := lw_g (lw_at lw_m1 137 rfl) rfl
theorem q195 : (Jvm.Cond.sameMethod "java/lang/Object" "java/lang/Object" "hashCode" "()I") ∈ lw_all := lw_g (lw_at lw_m1 138 rfl) rfl
theorem q392 : (Jvm.Cond.native ({ cls := "java/lang/Object", name := "clone", desc := "()Ljava/lang/Object;" } : Jvm.MethodName)) ∈ lw_all := lw_g (lw_at lw_m2 95 rfl) rfl
theorem q393 : (Jvm.Cond.instanceMethod ({ cls := "java/lang/Object", name := "clone", desc := "()Ljava/lang/Object;" } : Jvm.MethodName)) ∈ lw_all := lw_g (lw_at lw_m2 96 rfl) rfl
theorem q592 : (Jvm.Cond.native ({ cls := "java/lang/Object", name := "hashCode", desc := "()I" } : Jvm.MethodName)) ∈ lw_all := lw_g (lw_at lw_m3 55 rfl) rfl
theorem q659 : (Jvm.Cond.instanceMethod ({ cls := "java/lang/Object", name := "getClass", desc := "()Ljava/lang/Class;" } : Jvm.MethodName)) ∈ lw_all := lw_g (lw_at lw_m3 122 rfl) rfl
theorem q660 : (Jvm.Cond.sameMethod "java/lang/Object" "java/lang/Object" "getClass" "()Ljava/lang/Class;") ∈ lw_all := lw_g (lw_at lw_m3 123 rfl) rfl
theorem q686 : (Jvm.Cond.native ({ cls := "java/lang/Object", name := "getClass", desc := "()Ljava/lang/Class;" } : Jvm.MethodName)) ∈ lw_all := lw_g (lw_at lw_m3 149 rfl) rfl
theorem q918 : (Jvm.Cond.declares ({ cls := "java/lang/Object", name := "equals", desc := "(Ljava/lang/Object;)Z" } : Jvm.MethodName)) ∈ lw_tbl := lw_at lw_m4 141 rfl
theorem q920 : (Jvm.Cond.instanceMethod ({ cls := "java/lang/Object", name := "equals", desc := "(Ljava/lang/Object;)Z" } : Jvm.MethodName)) ∈ lw_all := lw_g (lw_at lw_m4 143 rfl) rfl
theorem q921 : (Jvm.Cond.sameMethod "java/lang/Object" "java/lang/Object" "equals" "(Ljava/lang/Object;)Z") ∈ lw_all := lw_g (lw_at lw_m4 144 rfl) rfl
theorem q959 : (Jvm.Cond.code ({ cls := "java/lang/Object", name := "equals", desc := "(Ljava/lang/Object;)Z" } : Jvm.MethodName) object_method_4_code (2 : Nat) (Option.some Jvm.ClassFile.FieldType.boolean)) ∈ lw_all := lw_g (lw_at lw_m4 182 rfl) rfl
theorem q2736 : (Jvm.Cond.initialized "java/lang/Object") ∈ lw_all := lw_g (lw_at lw_m12 39 rfl) rfl
theorem q2771 : (Jvm.Cond.declares ({ cls := "java/lang/Object", name := "getClass", desc := "()Ljava/lang/Class;" } : Jvm.MethodName)) ∈ lw_tbl := lw_at lw_m12 74 rfl
theorem q2785 : (Jvm.Cond.instantiable "java/lang/Object" (0 : Nat)) ∈ lw_all := lw_g (lw_at lw_m12 88 rfl) rfl
theorem q250 : (Jvm.Cond.castable "java/lang/System$2" "jdk/internal/access/JavaLangAccess") ∈ lw_tbl := lw_at lw_m1 193 rfl
theorem q251 : (Jvm.Cond.selects "java/lang/System$2" ({ cls := "jdk/internal/access/JavaLangAccess", name := "getUTF16Char", desc := "([BI)C" } : Jvm.MethodName) ({ cls := "java/lang/System$2", name := "getUTF16Char", desc := "([BI)C" } : Jvm.MethodName)) ∈ lw_all := lw_g (lw_at lw_m1 194 rfl) rfl
theorem q252 : (Jvm.Cond.unhidden "java/lang/System$2" "getUTF16Char" "([BI)C") ∈ lw_tbl := lw_at lw_m1 195 rfl
theorem q253 : (Jvm.Cond.instanceMethod ({ cls := "java/lang/System$2", name := "getUTF16Char", desc := "([BI)C" } : Jvm.MethodName)) ∈ lw_all := lw_g (lw_at lw_m1 196 rfl) rfl
theorem q254 : (Jvm.Cond.publicMethod ({ cls := "java/lang/System$2", name := "getUTF16Char", desc := "([BI)C" } : Jvm.MethodName)) ∈ lw_tbl := lw_at lw_m1 197 rfl
theorem q255 : (Jvm.Cond.code ({ cls := "java/lang/System$2", name := "getUTF16Char", desc := "([BI)C" } : Jvm.MethodName) prog_41_method_45_code (3 : Nat) (Option.some Jvm.ClassFile.FieldType.char)) ∈ lw_all := lw_g (lw_at lw_m1 198 rfl) rfl
theorem q256 : (Jvm.Cond.methodLink "java/lang/System$2" (185 : Nat) ({ cls := "java/lang/StringUTF16", name := "getChar", desc := "([BI)C" } : Jvm.MethodName)) ∈ lw_all := lw_g (lw_at lw_m1 199 rfl) rfl
theorem q590 : (Jvm.Cond.selects "java/lang/System$2" ({ cls := "java/lang/Object", name := "hashCode", desc := "()I" } : Jvm.MethodName) ({ cls := "java/lang/Object", name := "hashCode", desc := "()I" } : Jvm.MethodName)) ∈ lw_all := lw_g (lw_at lw_m3 53 rfl) rfl
theorem q679 : (Jvm.Cond.selects "java/lang/System$2" ({ cls := "java/lang/Object", name := "getClass", desc := "()Ljava/lang/Class;" } : Jvm.MethodName) ({ cls := "java/lang/Object", name := "getClass", desc := "()Ljava/lang/Class;" } : Jvm.MethodName)) ∈ lw_all := lw_g (lw_at lw_m3 142 rfl) rfl
theorem q957 : (Jvm.Cond.selects "java/lang/System$2" ({ cls := "java/lang/Object", name := "equals", desc := "(Ljava/lang/Object;)Z" } : Jvm.MethodName) ({ cls := "java/lang/Object", name := "equals", desc := "(Ljava/lang/Object;)Z" } : Jvm.MethodName)) ∈ lw_all := lw_g (lw_at lw_m4 180 rfl) rfl
theorem q2764 : (Jvm.Cond.castable "java/lang/System$2" "java/lang/Object") ∈ lw_tbl := lw_at lw_m12 67 rfl
abbrev cJ4_valueOf : ByteArray := prog_29_method_22_code
def yJ4_valueOf : MethodName := ⟨RJ4, "valueOf", "(I)Ljava/lang/Integer;"⟩
def dkwJ4_valueOf_1 : List UInt8 := [187, 0, 1, 89, 26, 183, 0, 199, 176]
abbrev dktJ4_valueOf_1 : List UInt8 := dkwJ4_valueOf_1 ++ []
def dkwJ4_valueOf_0 : List UInt8 := [26, 16, 128, 161, 0, 20, 26, 178, 0, 191, 163, 0, 13, 178, 0, 195, 26, 17, 0, 128, 96, 50, 176]
abbrev dktJ4_valueOf_0 : List UInt8 := dkwJ4_valueOf_0 ++ dktJ4_valueOf_1
theorem dksJ4_valueOf_0 : cJ4_valueOf.data.toList.drop 0 = dktJ4_valueOf_0 := by decide +kernel
theorem dksJ4_valueOf_1 : cJ4_valueOf.data.toList.drop 23 = dktJ4_valueOf_1 := dk_seg dksJ4_valueOf_0 23 rfl rfl
theorem dJ4_valueOf_0 : decode cJ4_valueOf 0 = .ok (.iload_n 0, 1) := dk_26 (dk_at dksJ4_valueOf_0 0 rfl rfl)
theorem dJ4_valueOf_1 : decode cJ4_valueOf 1 = .ok (.bipush (-128), 2) := dk_16 128 (dk_at dksJ4_valueOf_0 1 rfl rfl)
theorem dJ4_valueOf_3 : decode cJ4_valueOf 3 = .ok (.if_icmp .lt 20, 3) := dk_161 0 20 (dk_at dksJ4_valueOf_0 3 rfl rfl)
theorem dJ4_valueOf_6 : decode cJ4_valueOf 6 = .ok (.iload_n 0, 1) := dk_26 (dk_at dksJ4_valueOf_0 6 rfl rfl)
theorem dJ4_valueOf_7 : decode cJ4_valueOf 7 = .ok (.getstatic 191, 3) := dk_178 0 191 (dk_at dksJ4_valueOf_0 7 rfl rfl)
theorem dJ4_valueOf_10 : decode cJ4_valueOf 10 = .ok (.if_icmp .gt 13, 3) := dk_163 0 13 (dk_at dksJ4_valueOf_0 10 rfl rfl)
theorem dJ4_valueOf_13 : decode cJ4_valueOf 13 = .ok (.getstatic 195, 3) := dk_178 0 195 (dk_at dksJ4_valueOf_0 13 rfl rfl)
theorem dJ4_valueOf_16 : decode cJ4_valueOf 16 = .ok (.iload_n 0, 1) := dk_26 (dk_at dksJ4_valueOf_0 16 rfl rfl)
theorem dJ4_valueOf_17 : decode cJ4_valueOf 17 = .ok (.sipush 128, 3) := dk_17 0 128 (dk_at dksJ4_valueOf_0 17 rfl rfl)
theorem dJ4_valueOf_20 : decode cJ4_valueOf 20 = .ok (.iadd, 1) := dk_96 (dk_at dksJ4_valueOf_0 20 rfl rfl)
theorem dJ4_valueOf_21 : decode cJ4_valueOf 21 = .ok (.aaload, 1) := dk_50 (dk_at dksJ4_valueOf_0 21 rfl rfl)
theorem dJ4_valueOf_22 : decode cJ4_valueOf 22 = .ok (.areturn, 1) := dk_176 (dk_at dksJ4_valueOf_0 22 rfl rfl)
theorem dJ4_valueOf_23 : decode cJ4_valueOf 23 = .ok (.new 1, 3) := dk_187 0 1 (dk_at dksJ4_valueOf_1 0 rfl rfl)
theorem dJ4_valueOf_26 : decode cJ4_valueOf 26 = .ok (.dup, 1) := dk_89 (dk_at dksJ4_valueOf_1 3 rfl rfl)
theorem dJ4_valueOf_27 : decode cJ4_valueOf 27 = .ok (.iload_n 0, 1) := dk_26 (dk_at dksJ4_valueOf_1 4 rfl rfl)
theorem dJ4_valueOf_28 : decode cJ4_valueOf 28 = .ok (.invokespecial 199, 3) := dk_183 0 199 (dk_at dksJ4_valueOf_1 5 rfl rfl)
theorem dJ4_valueOf_31 : decode cJ4_valueOf 31 = .ok (.areturn, 1) := dk_176 (dk_at dksJ4_valueOf_1 8 rfl rfl)
abbrev cJ4_init : ByteArray := prog_29_method_23_code
def yJ4_init : MethodName := ⟨RJ4, "<init>", "(I)V"⟩
def dkwJ4_init_0 : List UInt8 := [42, 183, 0, 202, 42, 27, 181, 0, 205, 177]
abbrev dktJ4_init_0 : List UInt8 := dkwJ4_init_0 ++ []
theorem dksJ4_init_0 : cJ4_init.data.toList.drop 0 = dktJ4_init_0 := by decide +kernel
theorem dJ4_init_0 : decode cJ4_init 0 = .ok (.aload_n 0, 1) := dk_42 (dk_at dksJ4_init_0 0 rfl rfl)
theorem dJ4_init_1 : decode cJ4_init 1 = .ok (.invokespecial 202, 3) := dk_183 0 202 (dk_at dksJ4_init_0 1 rfl rfl)
theorem dJ4_init_4 : decode cJ4_init 4 = .ok (.aload_n 0, 1) := dk_42 (dk_at dksJ4_init_0 4 rfl rfl)
theorem dJ4_init_5 : decode cJ4_init 5 = .ok (.iload_n 1, 1) := dk_27 (dk_at dksJ4_init_0 5 rfl rfl)
theorem dJ4_init_6 : decode cJ4_init 6 = .ok (.putfield 205, 3) := dk_181 0 205 (dk_at dksJ4_init_0 6 rfl rfl)
theorem dJ4_init_9 : decode cJ4_init 9 = .ok (.return_, 1) := dk_177 (dk_at dksJ4_init_0 9 rfl rfl)
abbrev cJ4_hashCode : ByteArray := prog_29_method_32_code
def yJ4_hashCode : MethodName := ⟨RJ4, "hashCode", "()I"⟩
def dkwJ4_hashCode_0 : List UInt8 := [42, 180, 0, 205, 184, 0, 208, 172]
abbrev dktJ4_hashCode_0 : List UInt8 := dkwJ4_hashCode_0 ++ []
theorem dksJ4_hashCode_0 : cJ4_hashCode.data.toList.drop 0 = dktJ4_hashCode_0 := by decide +kernel
theorem dJ4_hashCode_0 : decode cJ4_hashCode 0 = .ok (.aload_n 0, 1) := dk_42 (dk_at dksJ4_hashCode_0 0 rfl rfl)
theorem dJ4_hashCode_1 : decode cJ4_hashCode 1 = .ok (.getfield 205, 3) := dk_180 0 205 (dk_at dksJ4_hashCode_0 1 rfl rfl)
theorem dJ4_hashCode_4 : decode cJ4_hashCode 4 = .ok (.invokestatic 208, 3) := dk_184 0 208 (dk_at dksJ4_hashCode_0 4 rfl rfl)
theorem dJ4_hashCode_7 : decode cJ4_hashCode 7 = .ok (.ireturn, 1) := dk_172 (dk_at dksJ4_hashCode_0 7 rfl rfl)
abbrev cJ4_hashCode_2 : ByteArray := prog_29_method_33_code
def yJ4_hashCode_2 : MethodName := ⟨RJ4, "hashCode", "(I)I"⟩
theorem dJ4_hashCode_2_0 : decode cJ4_hashCode_2 0 = .ok (.iload_n 0, 1) := by decide +kernel
theorem dJ4_hashCode_2_1 : decode cJ4_hashCode_2 1 = .ok (.ireturn, 1) := by decide +kernel
abbrev cJ4_stringSize : ByteArray := prog_29_method_13_code
def yJ4_stringSize : MethodName := ⟨RJ4, "stringSize", "(I)I"⟩
def dkwJ4_stringSize_1 : List UInt8 := [164, 0, 7, 29, 27, 96, 172, 16, 10, 28, 104, 61, 132, 3, 1, 167, 255, 233, 16, 10, 27, 96, 172]
abbrev dktJ4_stringSize_1 : List UInt8 := dkwJ4_stringSize_1 ++ []
def dkwJ4_stringSize_0 : List UInt8 := [4, 60, 26, 155, 0, 8, 3, 60, 26, 116, 59, 16, 246, 61, 4, 62, 29, 16, 10, 162, 0, 23, 26, 28]
abbrev dktJ4_stringSize_0 : List UInt8 := dkwJ4_stringSize_0 ++ dktJ4_stringSize_1
theorem dksJ4_stringSize_0 : cJ4_stringSize.data.toList.drop 0 = dktJ4_stringSize_0 := by decide +kernel
theorem dksJ4_stringSize_1 : cJ4_stringSize.data.toList.drop 24 = dktJ4_stringSize_1 := dk_seg dksJ4_stringSize_0 24 rfl rfl
theorem dJ4_stringSize_0 : decode cJ4_stringSize 0 = .ok (.iconst 1, 1) := dk_4 (dk_at dksJ4_stringSize_0 0 rfl rfl)
theorem dJ4_stringSize_1 : decode cJ4_stringSize 1 = .ok (.istore_n 1, 1) := dk_60 (dk_at dksJ4_stringSize_0 1 rfl rfl)
theorem dJ4_stringSize_2 : decode cJ4_stringSize 2 = .ok (.iload_n 0, 1) := dk_26 (dk_at dksJ4_stringSize_0 2 rfl rfl)
theorem dJ4_stringSize_3 : decode cJ4_stringSize 3 = .ok (.ifCond .lt 8, 3) := dk_155 0 8 (dk_at dksJ4_stringSize_0 3 rfl rfl)
theorem dJ4_stringSize_6 : decode cJ4_stringSize 6 = .ok (.iconst 0, 1) := dk_3 (dk_at dksJ4_stringSize_0 6 rfl rfl)
theorem dJ4_stringSize_7 : decode cJ4_stringSize 7 = .ok (.istore_n 1, 1) := dk_60 (dk_at dksJ4_stringSize_0 7 rfl rfl)
theorem dJ4_stringSize_8 : decode cJ4_stringSize 8 = .ok (.iload_n 0, 1) := dk_26 (dk_at dksJ4_stringSize_0 8 rfl rfl)
theorem dJ4_stringSize_9 : decode cJ4_stringSize 9 = .ok (.ineg, 1) := dk_116 (dk_at dksJ4_stringSize_0 9 rfl rfl)
theorem dJ4_stringSize_10 : decode cJ4_stringSize 10 = .ok (.istore_n 0, 1) := dk_59 (dk_at dksJ4_stringSize_0 10 rfl rfl)
theorem dJ4_stringSize_11 : decode cJ4_stringSize 11 = .ok (.bipush (-10), 2) := dk_16 246 (dk_at dksJ4_stringSize_0 11 rfl rfl)
theorem dJ4_stringSize_13 : decode cJ4_stringSize 13 = .ok (.istore_n 2, 1) := dk_61 (dk_at dksJ4_stringSize_0 13 rfl rfl)
theorem dJ4_stringSize_14 : decode cJ4_stringSize 14 = .ok (.iconst 1, 1) := dk_4 (dk_at dksJ4_stringSize_0 14 rfl rfl)
theorem dJ4_stringSize_15 : decode cJ4_stringSize 15 = .ok (.istore_n 3, 1) := dk_62 (dk_at dksJ4_stringSize_0 15 rfl rfl)
theorem dJ4_stringSize_16 : decode cJ4_stringSize 16 = .ok (.iload_n 3, 1) := dk_29 (dk_at dksJ4_stringSize_0 16 rfl rfl)
theorem dJ4_stringSize_17 : decode cJ4_stringSize 17 = .ok (.bipush 10, 2) := dk_16 10 (dk_at dksJ4_stringSize_0 17 rfl rfl)
theorem dJ4_stringSize_19 : decode cJ4_stringSize 19 = .ok (.if_icmp .ge 23, 3) := dk_162 0 23 (dk_at dksJ4_stringSize_0 19 rfl rfl)
theorem dJ4_stringSize_22 : decode cJ4_stringSize 22 = .ok (.iload_n 0, 1) := dk_26 (dk_at dksJ4_stringSize_0 22 rfl rfl)
theorem dJ4_stringSize_23 : decode cJ4_stringSize 23 = .ok (.iload_n 2, 1) := dk_28 (dk_at dksJ4_stringSize_0 23 rfl rfl)
theorem dJ4_stringSize_24 : decode cJ4_stringSize 24 = .ok (.if_icmp .le 7, 3) := dk_164 0 7 (dk_at dksJ4_stringSize_1 0 rfl rfl)
theorem dJ4_stringSize_27 : decode cJ4_stringSize 27 = .ok (.iload_n 3, 1) := dk_29 (dk_at dksJ4_stringSize_1 3 rfl rfl)
theorem dJ4_stringSize_28 : decode cJ4_stringSize 28 = .ok (.iload_n 1, 1) := dk_27 (dk_at dksJ4_stringSize_1 4 rfl rfl)
theorem dJ4_stringSize_29 : decode cJ4_stringSize 29 = .ok (.iadd, 1) := dk_96 (dk_at dksJ4_stringSize_1 5 rfl rfl)
theorem dJ4_stringSize_30 : decode cJ4_stringSize 30 = .ok (.ireturn, 1) := dk_172 (dk_at dksJ4_stringSize_1 6 rfl rfl)
theorem dJ4_stringSize_31 : decode cJ4_stringSize 31 = .ok (.bipush 10, 2) := dk_16 10 (dk_at dksJ4_stringSize_1 7 rfl rfl)
theorem dJ4_stringSize_33 : decode cJ4_stringSize 33 = .ok (.iload_n 2, 1) := dk_28 (dk_at dksJ4_stringSize_1 9 rfl rfl)
theorem dJ4_stringSize_34 : decode cJ4_stringSize 34 = .ok (.imul, 1) := dk_104 (dk_at dksJ4_stringSize_1 10 rfl rfl)
theorem dJ4_stringSize_35 : decode cJ4_stringSize 35 = .ok (.istore_n 2, 1) := dk_61 (dk_at dksJ4_stringSize_1 11 rfl rfl)
theorem dJ4_stringSize_36 : decode cJ4_stringSize 36 = .ok (.iinc 3 1, 3) := dk_132 3 1 (dk_at dksJ4_stringSize_1 12 rfl rfl)
theorem dJ4_stringSize_39 : decode cJ4_stringSize 39 = .ok (.goto (-23), 3) := dk_167 255 233 (dk_at dksJ4_stringSize_1 15 rfl rfl)
theorem dJ4_stringSize_42 : decode cJ4_stringSize 42 = .ok (.bipush 10, 2) := dk_16 10 (dk_at dksJ4_stringSize_1 18 rfl rfl)
theorem dJ4_stringSize_44 : decode cJ4_stringSize 44 = .ok (.iload_n 1, 1) := dk_27 (dk_at dksJ4_stringSize_1 20 rfl rfl)
theorem dJ4_stringSize_45 : decode cJ4_stringSize 45 = .ok (.iadd, 1) := dk_96 (dk_at dksJ4_stringSize_1 21 rfl rfl)
theorem dJ4_stringSize_46 : decode cJ4_stringSize 46 = .ok (.ireturn, 1) := dk_172 (dk_at dksJ4_stringSize_1 22 rfl rfl)
abbrev cJ4_getChars : ByteArray := prog_29_method_12_code
def yJ4_getChars : MethodName := ⟨RJ4, "getChars", "(II[B)I"⟩
def dkwJ4_getChars_5 : List UInt8 := [16, 45, 84, 21, 5, 172]
abbrev dktJ4_getChars_5 : List UInt8 := dkwJ4_getChars_5 ++ []
def dkwJ4_getChars_4 : List UInt8 := [132, 5, 255, 21, 5, 178, 0, 87, 26, 116, 51, 84, 21, 6, 153, 0, 12, 44, 132, 5, 255, 21, 5]
abbrev dktJ4_getChars_4 : List UInt8 := dkwJ4_getChars_4 ++ dktJ4_getChars_5
def dkwJ4_getChars_3 : List UInt8 := [167, 255, 209, 44, 132, 5, 255, 21, 5, 178, 0, 83, 26, 116, 51, 84, 26, 16, 247, 162, 0, 16, 44]
abbrev dktJ4_getChars_3 : List UInt8 := dkwJ4_getChars_3 ++ dktJ4_getChars_4
def dkwJ4_getChars_2 : List UInt8 := [21, 5, 178, 0, 83, 21, 4, 51, 84, 44, 132, 5, 255, 21, 5, 178, 0, 87, 21, 4, 51, 84]
abbrev dktJ4_getChars_2 : List UInt8 := dkwJ4_getChars_2 ++ dktJ4_getChars_3
def dkwJ4_getChars_1 : List UInt8 := [16, 156, 163, 0, 47, 26, 16, 100, 108, 62, 29, 16, 100, 104, 26, 100, 54, 4, 29, 59, 44, 132, 5, 255]
abbrev dktJ4_getChars_1 : List UInt8 := dkwJ4_getChars_1 ++ dktJ4_getChars_2
def dkwJ4_getChars_0 : List UInt8 := [27, 54, 5, 26, 156, 0, 7, 4, 167, 0, 4, 3, 54, 6, 21, 6, 154, 0, 6, 26, 116, 59, 26]
abbrev dktJ4_getChars_0 : List UInt8 := dkwJ4_getChars_0 ++ dktJ4_getChars_1
theorem dksJ4_getChars_0 : cJ4_getChars.data.toList.drop 0 = dktJ4_getChars_0 := by decide +kernel
theorem dksJ4_getChars_1 : cJ4_getChars.data.toList.drop 23 = dktJ4_getChars_1 := dk_seg dksJ4_getChars_0 23 rfl rfl
theorem dksJ4_getChars_2 : cJ4_getChars.data.toList.drop 47 = dktJ4_getChars_2 := dk_seg dksJ4_getChars_1 24 rfl rfl
theorem dksJ4_getChars_3 : cJ4_getChars.data.toList.drop 69 = dktJ4_getChars_3 := dk_seg dksJ4_getChars_2 22 rfl rfl
theorem dksJ4_getChars_4 : cJ4_getChars.data.toList.drop 92 = dktJ4_getChars_4 := dk_seg dksJ4_getChars_3 23 rfl rfl
theorem dksJ4_getChars_5 : cJ4_getChars.data.toList.drop 115 = dktJ4_getChars_5 := dk_seg dksJ4_getChars_4 23 rfl rfl
theorem dJ4_getChars_0 : decode cJ4_getChars 0 = .ok (.iload_n 1, 1) := dk_27 (dk_at dksJ4_getChars_0 0 rfl rfl)
theorem dJ4_getChars_1 : decode cJ4_getChars 1 = .ok (.istore 5, 2) := dk_54 5 (dk_at dksJ4_getChars_0 1 rfl rfl)
theorem dJ4_getChars_3 : decode cJ4_getChars 3 = .ok (.iload_n 0, 1) := dk_26 (dk_at dksJ4_getChars_0 3 rfl rfl)
theorem dJ4_getChars_4 : decode cJ4_getChars 4 = .ok (.ifCond .ge 7, 3) := dk_156 0 7 (dk_at dksJ4_getChars_0 4 rfl rfl)
theorem dJ4_getChars_7 : decode cJ4_getChars 7 = .ok (.iconst 1, 1) := dk_4 (dk_at dksJ4_getChars_0 7 rfl rfl)
theorem dJ4_getChars_8 : decode cJ4_getChars 8 = .ok (.goto 4, 3) := dk_167 0 4 (dk_at dksJ4_getChars_0 8 rfl rfl)
theorem dJ4_getChars_11 : decode cJ4_getChars 11 = .ok (.iconst 0, 1) := dk_3 (dk_at dksJ4_getChars_0 11 rfl rfl)
theorem dJ4_getChars_12 : decode cJ4_getChars 12 = .ok (.istore 6, 2) := dk_54 6 (dk_at dksJ4_getChars_0 12 rfl rfl)
theorem dJ4_getChars_14 : decode cJ4_getChars 14 = .ok (.iload 6, 2) := dk_21 6 (dk_at dksJ4_getChars_0 14 rfl rfl)
theorem dJ4_getChars_16 : decode cJ4_getChars 16 = .ok (.ifCond .ne 6, 3) := dk_154 0 6 (dk_at dksJ4_getChars_0 16 rfl rfl)
theorem dJ4_getChars_19 : decode cJ4_getChars 19 = .ok (.iload_n 0, 1) := dk_26 (dk_at dksJ4_getChars_0 19 rfl rfl)
theorem dJ4_getChars_20 : decode cJ4_getChars 20 = .ok (.ineg, 1) := dk_116 (dk_at dksJ4_getChars_0 20 rfl rfl)
theorem dJ4_getChars_21 : decode cJ4_getChars 21 = .ok (.istore_n 0, 1) := dk_59 (dk_at dksJ4_getChars_0 21 rfl rfl)
theorem dJ4_getChars_22 : decode cJ4_getChars 22 = .ok (.iload_n 0, 1) := dk_26 (dk_at dksJ4_getChars_0 22 rfl rfl)
theorem dJ4_getChars_23 : decode cJ4_getChars 23 = .ok (.bipush (-100), 2) := dk_16 156 (dk_at dksJ4_getChars_1 0 rfl rfl)
theorem dJ4_getChars_25 : decode cJ4_getChars 25 = .ok (.if_icmp .gt 47, 3) := dk_163 0 47 (dk_at dksJ4_getChars_1 2 rfl rfl)
theorem dJ4_getChars_28 : decode cJ4_getChars 28 = .ok (.iload_n 0, 1) := dk_26 (dk_at dksJ4_getChars_1 5 rfl rfl)
theorem dJ4_getChars_29 : decode cJ4_getChars 29 = .ok (.bipush 100, 2) := dk_16 100 (dk_at dksJ4_getChars_1 6 rfl rfl)
theorem dJ4_getChars_31 : decode cJ4_getChars 31 = .ok (.idiv, 1) := dk_108 (dk_at dksJ4_getChars_1 8 rfl rfl)
theorem dJ4_getChars_32 : decode cJ4_getChars 32 = .ok (.istore_n 3, 1) := dk_62 (dk_at dksJ4_getChars_1 9 rfl rfl)
theorem dJ4_getChars_33 : decode cJ4_getChars 33 = .ok (.iload_n 3, 1) := dk_29 (dk_at dksJ4_getChars_1 10 rfl rfl)
theorem dJ4_getChars_34 : decode cJ4_getChars 34 = .ok (.bipush 100, 2) := dk_16 100 (dk_at dksJ4_getChars_1 11 rfl rfl)
theorem dJ4_getChars_36 : decode cJ4_getChars 36 = .ok (.imul, 1) := dk_104 (dk_at dksJ4_getChars_1 13 rfl rfl)
theorem dJ4_getChars_37 : decode cJ4_getChars 37 = .ok (.iload_n 0, 1) := dk_26 (dk_at dksJ4_getChars_1 14 rfl rfl)
theorem dJ4_getChars_38 : decode cJ4_getChars 38 = .ok (.isub, 1) := dk_100 (dk_at dksJ4_getChars_1 15 rfl rfl)
theorem dJ4_getChars_39 : decode cJ4_getChars 39 = .ok (.istore 4, 2) := dk_54 4 (dk_at dksJ4_getChars_1 16 rfl rfl)
theorem dJ4_getChars_41 : decode cJ4_getChars 41 = .ok (.iload_n 3, 1) := dk_29 (dk_at dksJ4_getChars_1 18 rfl rfl)
theorem dJ4_getChars_42 : decode cJ4_getChars 42 = .ok (.istore_n 0, 1) := dk_59 (dk_at dksJ4_getChars_1 19 rfl rfl)
theorem dJ4_getChars_43 : decode cJ4_getChars 43 = .ok (.aload_n 2, 1) := dk_44 (dk_at dksJ4_getChars_1 20 rfl rfl)
theorem dJ4_getChars_44 : decode cJ4_getChars 44 = .ok (.iinc 5 (-1), 3) := dk_132 5 255 (dk_at dksJ4_getChars_1 21 rfl rfl)
theorem dJ4_getChars_47 : decode cJ4_getChars 47 = .ok (.iload 5, 2) := dk_21 5 (dk_at dksJ4_getChars_2 0 rfl rfl)
theorem dJ4_getChars_49 : decode cJ4_getChars 49 = .ok (.getstatic 83, 3) := dk_178 0 83 (dk_at dksJ4_getChars_2 2 rfl rfl)
theorem dJ4_getChars_52 : decode cJ4_getChars 52 = .ok (.iload 4, 2) := dk_21 4 (dk_at dksJ4_getChars_2 5 rfl rfl)
theorem dJ4_getChars_54 : decode cJ4_getChars 54 = .ok (.baload, 1) := dk_51 (dk_at dksJ4_getChars_2 7 rfl rfl)
theorem dJ4_getChars_55 : decode cJ4_getChars 55 = .ok (.bastore, 1) := dk_84 (dk_at dksJ4_getChars_2 8 rfl rfl)
theorem dJ4_getChars_56 : decode cJ4_getChars 56 = .ok (.aload_n 2, 1) := dk_44 (dk_at dksJ4_getChars_2 9 rfl rfl)
theorem dJ4_getChars_57 : decode cJ4_getChars 57 = .ok (.iinc 5 (-1), 3) := dk_132 5 255 (dk_at dksJ4_getChars_2 10 rfl rfl)
theorem dJ4_getChars_60 : decode cJ4_getChars 60 = .ok (.iload 5, 2) := dk_21 5 (dk_at dksJ4_getChars_2 13 rfl rfl)
theorem dJ4_getChars_62 : decode cJ4_getChars 62 = .ok (.getstatic 87, 3) := dk_178 0 87 (dk_at dksJ4_getChars_2 15 rfl rfl)
theorem dJ4_getChars_65 : decode cJ4_getChars 65 = .ok (.iload 4, 2) := dk_21 4 (dk_at dksJ4_getChars_2 18 rfl rfl)
theorem dJ4_getChars_67 : decode cJ4_getChars 67 = .ok (.baload, 1) := dk_51 (dk_at dksJ4_getChars_2 20 rfl rfl)
theorem dJ4_getChars_68 : decode cJ4_getChars 68 = .ok (.bastore, 1) := dk_84 (dk_at dksJ4_getChars_2 21 rfl rfl)
theorem dJ4_getChars_69 : decode cJ4_getChars 69 = .ok (.goto (-47), 3) := dk_167 255 209 (dk_at dksJ4_getChars_3 0 rfl rfl)
theorem dJ4_getChars_72 : decode cJ4_getChars 72 = .ok (.aload_n 2, 1) := dk_44 (dk_at dksJ4_getChars_3 3 rfl rfl)
theorem dJ4_getChars_73 : decode cJ4_getChars 73 = .ok (.iinc 5 (-1), 3) := dk_132 5 255 (dk_at dksJ4_getChars_3 4 rfl rfl)
theorem dJ4_getChars_76 : decode cJ4_getChars 76 = .ok (.iload 5, 2) := dk_21 5 (dk_at dksJ4_getChars_3 7 rfl rfl)
theorem dJ4_getChars_78 : decode cJ4_getChars 78 = .ok (.getstatic 83, 3) := dk_178 0 83 (dk_at dksJ4_getChars_3 9 rfl rfl)
theorem dJ4_getChars_81 : decode cJ4_getChars 81 = .ok (.iload_n 0, 1) := dk_26 (dk_at dksJ4_getChars_3 12 rfl rfl)
theorem dJ4_getChars_82 : decode cJ4_getChars 82 = .ok (.ineg, 1) := dk_116 (dk_at dksJ4_getChars_3 13 rfl rfl)
theorem dJ4_getChars_83 : decode cJ4_getChars 83 = .ok (.baload, 1) := dk_51 (dk_at dksJ4_getChars_3 14 rfl rfl)
theorem dJ4_getChars_84 : decode cJ4_getChars 84 = .ok (.bastore, 1) := dk_84 (dk_at dksJ4_getChars_3 15 rfl rfl)
theorem dJ4_getChars_85 : decode cJ4_getChars 85 = .ok (.iload_n 0, 1) := dk_26 (dk_at dksJ4_getChars_3 16 rfl rfl)
theorem dJ4_getChars_86 : decode cJ4_getChars 86 = .ok (.bipush (-9), 2) := dk_16 247 (dk_at dksJ4_getChars_3 17 rfl rfl)
theorem dJ4_getChars_88 : decode cJ4_getChars 88 = .ok (.if_icmp .ge 16, 3) := dk_162 0 16 (dk_at dksJ4_getChars_3 19 rfl rfl)
theorem dJ4_getChars_91 : decode cJ4_getChars 91 = .ok (.aload_n 2, 1) := dk_44 (dk_at dksJ4_getChars_3 22 rfl rfl)
theorem dJ4_getChars_92 : decode cJ4_getChars 92 = .ok (.iinc 5 (-1), 3) := dk_132 5 255 (dk_at dksJ4_getChars_4 0 rfl rfl)
theorem dJ4_getChars_95 : decode cJ4_getChars 95 = .ok (.iload 5, 2) := dk_21 5 (dk_at dksJ4_getChars_4 3 rfl rfl)
theorem dJ4_getChars_97 : decode cJ4_getChars 97 = .ok (.getstatic 87, 3) := dk_178 0 87 (dk_at dksJ4_getChars_4 5 rfl rfl)
theorem dJ4_getChars_100 : decode cJ4_getChars 100 = .ok (.iload_n 0, 1) := dk_26 (dk_at dksJ4_getChars_4 8 rfl rfl)
theorem dJ4_getChars_101 : decode cJ4_getChars 101 = .ok (.ineg, 1) := dk_116 (dk_at dksJ4_getChars_4 9 rfl rfl)
theorem dJ4_getChars_102 : decode cJ4_getChars 102 = .ok (.baload, 1) := dk_51 (dk_at dksJ4_getChars_4 10 rfl rfl)
theorem dJ4_getChars_103 : decode cJ4_getChars 103 = .ok (.bastore, 1) := dk_84 (dk_at dksJ4_getChars_4 11 rfl rfl)
theorem dJ4_getChars_104 : decode cJ4_getChars 104 = .ok (.iload 6, 2) := dk_21 6 (dk_at dksJ4_getChars_4 12 rfl rfl)
theorem dJ4_getChars_106 : decode cJ4_getChars 106 = .ok (.ifCond .eq 12, 3) := dk_153 0 12 (dk_at dksJ4_getChars_4 14 rfl rfl)
theorem dJ4_getChars_109 : decode cJ4_getChars 109 = .ok (.aload_n 2, 1) := dk_44 (dk_at dksJ4_getChars_4 17 rfl rfl)
theorem dJ4_getChars_110 : decode cJ4_getChars 110 = .ok (.iinc 5 (-1), 3) := dk_132 5 255 (dk_at dksJ4_getChars_4 18 rfl rfl)
theorem dJ4_getChars_113 : decode cJ4_getChars 113 = .ok (.iload 5, 2) := dk_21 5 (dk_at dksJ4_getChars_4 21 rfl rfl)
theorem dJ4_getChars_115 : decode cJ4_getChars 115 = .ok (.bipush 45, 2) := dk_16 45 (dk_at dksJ4_getChars_5 0 rfl rfl)
theorem dJ4_getChars_117 : decode cJ4_getChars 117 = .ok (.bastore, 1) := dk_84 (dk_at dksJ4_getChars_5 2 rfl rfl)
theorem dJ4_getChars_118 : decode cJ4_getChars 118 = .ok (.iload 5, 2) := dk_21 5 (dk_at dksJ4_getChars_5 3 rfl rfl)
theorem dJ4_getChars_120 : decode cJ4_getChars 120 = .ok (.ireturn, 1) := dk_172 (dk_at dksJ4_getChars_5 5 rfl rfl)
abbrev cJ4_compareTo : ByteArray := prog_29_method_63_code
def yJ4_compareTo : MethodName := ⟨RJ4, "compareTo", "(Ljava/lang/Object;)I"⟩
def dkwJ4_compareTo_0 : List UInt8 := [42, 43, 192, 0, 1, 182, 1, 28, 172]
abbrev dktJ4_compareTo_0 : List UInt8 := dkwJ4_compareTo_0 ++ []
theorem dksJ4_compareTo_0 : cJ4_compareTo.data.toList.drop 0 = dktJ4_compareTo_0 := by decide +kernel
theorem dJ4_compareTo_0 : decode cJ4_compareTo 0 = .ok (.aload_n 0, 1) := dk_42 (dk_at dksJ4_compareTo_0 0 rfl rfl)
theorem dJ4_compareTo_1 : decode cJ4_compareTo 1 = .ok (.aload_n 1, 1) := dk_43 (dk_at dksJ4_compareTo_0 1 rfl rfl)
theorem dJ4_compareTo_2 : decode cJ4_compareTo 2 = .ok (.checkcast 1, 3) := dk_192 0 1 (dk_at dksJ4_compareTo_0 2 rfl rfl)
theorem dJ4_compareTo_5 : decode cJ4_compareTo 5 = .ok (.invokevirtual 284, 3) := dk_182 1 28 (dk_at dksJ4_compareTo_0 5 rfl rfl)
theorem dJ4_compareTo_8 : decode cJ4_compareTo 8 = .ok (.ireturn, 1) := dk_172 (dk_at dksJ4_compareTo_0 8 rfl rfl)
abbrev cJ4_compareTo_2 : ByteArray := prog_29_method_39_code
def yJ4_compareTo_2 : MethodName := ⟨RJ4, "compareTo", "(Ljava/lang/Integer;)I"⟩
def dkwJ4_compareTo_2_0 : List UInt8 := [42, 180, 0, 205, 43, 180, 0, 205, 184, 1, 3, 172]
abbrev dktJ4_compareTo_2_0 : List UInt8 := dkwJ4_compareTo_2_0 ++ []
theorem dksJ4_compareTo_2_0 : cJ4_compareTo_2.data.toList.drop 0 = dktJ4_compareTo_2_0 := by decide +kernel
theorem dJ4_compareTo_2_0 : decode cJ4_compareTo_2 0 = .ok (.aload_n 0, 1) := dk_42 (dk_at dksJ4_compareTo_2_0 0 rfl rfl)
theorem dJ4_compareTo_2_1 : decode cJ4_compareTo_2 1 = .ok (.getfield 205, 3) := dk_180 0 205 (dk_at dksJ4_compareTo_2_0 1 rfl rfl)
theorem dJ4_compareTo_2_4 : decode cJ4_compareTo_2 4 = .ok (.aload_n 1, 1) := dk_43 (dk_at dksJ4_compareTo_2_0 4 rfl rfl)
theorem dJ4_compareTo_2_5 : decode cJ4_compareTo_2 5 = .ok (.getfield 205, 3) := dk_180 0 205 (dk_at dksJ4_compareTo_2_0 5 rfl rfl)
theorem dJ4_compareTo_2_8 : decode cJ4_compareTo_2 8 = .ok (.invokestatic 259, 3) := dk_184 1 3 (dk_at dksJ4_compareTo_2_0 8 rfl rfl)
theorem dJ4_compareTo_2_11 : decode cJ4_compareTo_2 11 = .ok (.ireturn, 1) := dk_172 (dk_at dksJ4_compareTo_2_0 11 rfl rfl)
abbrev cJ4_compare : ByteArray := prog_29_method_40_code
def yJ4_compare : MethodName := ⟨RJ4, "compare", "(II)I"⟩
def dkwJ4_compare_0 : List UInt8 := [26, 27, 162, 0, 7, 2, 167, 0, 13, 26, 27, 160, 0, 7, 3, 167, 0, 4, 4, 172]
abbrev dktJ4_compare_0 : List UInt8 := dkwJ4_compare_0 ++ []
theorem dksJ4_compare_0 : cJ4_compare.data.toList.drop 0 = dktJ4_compare_0 := by decide +kernel
theorem dJ4_compare_0 : decode cJ4_compare 0 = .ok (.iload_n 0, 1) := dk_26 (dk_at dksJ4_compare_0 0 rfl rfl)
theorem dJ4_compare_1 : decode cJ4_compare 1 = .ok (.iload_n 1, 1) := dk_27 (dk_at dksJ4_compare_0 1 rfl rfl)
theorem dJ4_compare_2 : decode cJ4_compare 2 = .ok (.if_icmp .ge 7, 3) := dk_162 0 7 (dk_at dksJ4_compare_0 2 rfl rfl)
theorem dJ4_compare_5 : decode cJ4_compare 5 = .ok (.iconst (-1), 1) := dk_2 (dk_at dksJ4_compare_0 5 rfl rfl)
theorem dJ4_compare_6 : decode cJ4_compare 6 = .ok (.goto 13, 3) := dk_167 0 13 (dk_at dksJ4_compare_0 6 rfl rfl)
theorem dJ4_compare_9 : decode cJ4_compare 9 = .ok (.iload_n 0, 1) := dk_26 (dk_at dksJ4_compare_0 9 rfl rfl)
theorem dJ4_compare_10 : decode cJ4_compare 10 = .ok (.iload_n 1, 1) := dk_27 (dk_at dksJ4_compare_0 10 rfl rfl)
theorem dJ4_compare_11 : decode cJ4_compare 11 = .ok (.if_icmp .ne 7, 3) := dk_160 0 7 (dk_at dksJ4_compare_0 11 rfl rfl)
theorem dJ4_compare_14 : decode cJ4_compare 14 = .ok (.iconst 0, 1) := dk_3 (dk_at dksJ4_compare_0 14 rfl rfl)
theorem dJ4_compare_15 : decode cJ4_compare 15 = .ok (.goto 4, 3) := dk_167 0 4 (dk_at dksJ4_compare_0 15 rfl rfl)
theorem dJ4_compare_18 : decode cJ4_compare 18 = .ok (.iconst 1, 1) := dk_4 (dk_at dksJ4_compare_0 18 rfl rfl)
theorem dJ4_compare_19 : decode cJ4_compare 19 = .ok (.ireturn, 1) := dk_172 (dk_at dksJ4_compare_0 19 rfl rfl)
abbrev cJ4_numberOfLeadingZeros : ByteArray := prog_29_method_47_code
def yJ4_numberOfLeadingZeros : MethodName := ⟨RJ4, "numberOfLeadingZeros", "(I)I"⟩
def dkwJ4_numberOfLeadingZeros_3 : List UInt8 := [5, 124, 59, 27, 26, 4, 124, 100, 172]
abbrev dktJ4_numberOfLeadingZeros_3 : List UInt8 := dkwJ4_numberOfLeadingZeros_3 ++ []
def dkwJ4_numberOfLeadingZeros_2 : List UInt8 := [124, 59, 26, 16, 16, 161, 0, 10, 132, 1, 252, 26, 7, 124, 59, 26, 7, 161, 0, 10, 132, 1, 254, 26]
abbrev dktJ4_numberOfLeadingZeros_2 : List UInt8 := dkwJ4_numberOfLeadingZeros_2 ++ dktJ4_numberOfLeadingZeros_3
def dkwJ4_numberOfLeadingZeros_1 : List UInt8 := [161, 0, 11, 132, 1, 240, 26, 16, 16, 124, 59, 26, 17, 1, 0, 161, 0, 11, 132, 1, 248, 26, 16, 8]
abbrev dktJ4_numberOfLeadingZeros_1 : List UInt8 := dkwJ4_numberOfLeadingZeros_1 ++ dktJ4_numberOfLeadingZeros_2
def dkwJ4_numberOfLeadingZeros_0 : List UInt8 := [26, 157, 0, 14, 26, 154, 0, 8, 16, 32, 167, 0, 4, 3, 172, 16, 31, 60, 26, 19, 1, 8]
abbrev dktJ4_numberOfLeadingZeros_0 : List UInt8 := dkwJ4_numberOfLeadingZeros_0 ++ dktJ4_numberOfLeadingZeros_1
theorem dksJ4_numberOfLeadingZeros_0 : cJ4_numberOfLeadingZeros.data.toList.drop 0 = dktJ4_numberOfLeadingZeros_0 := by decide +kernel
theorem dksJ4_numberOfLeadingZeros_1 : cJ4_numberOfLeadingZeros.data.toList.drop 22 = dktJ4_numberOfLeadingZeros_1 := dk_seg dksJ4_numberOfLeadingZeros_0 22 rfl rfl
theorem dksJ4_numberOfLeadingZeros_2 : cJ4_numberOfLeadingZeros.data.toList.drop 46 = dktJ4_numberOfLeadingZeros_2 := dk_seg dksJ4_numberOfLeadingZeros_1 24 rfl rfl
theorem dksJ4_numberOfLeadingZeros_3 : cJ4_numberOfLeadingZeros.data.toList.drop 70 = dktJ4_numberOfLeadingZeros_3 := dk_seg dksJ4_numberOfLeadingZeros_2 24 rfl rfl
theorem dJ4_numberOfLeadingZeros_0 : decode cJ4_numberOfLeadingZeros 0 = .ok (.iload_n 0, 1) := dk_26 (dk_at dksJ4_numberOfLeadingZeros_0 0 rfl rfl)
theorem dJ4_numberOfLeadingZeros_1 : decode cJ4_numberOfLeadingZeros 1 = .ok (.ifCond .gt 14, 3) := dk_157 0 14 (dk_at dksJ4_numberOfLeadingZeros_0 1 rfl rfl)
theorem dJ4_numberOfLeadingZeros_4 : decode cJ4_numberOfLeadingZeros 4 = .ok (.iload_n 0, 1) := dk_26 (dk_at dksJ4_numberOfLeadingZeros_0 4 rfl rfl)
theorem dJ4_numberOfLeadingZeros_5 : decode cJ4_numberOfLeadingZeros 5 = .ok (.ifCond .ne 8, 3) := dk_154 0 8 (dk_at dksJ4_numberOfLeadingZeros_0 5 rfl rfl)
theorem dJ4_numberOfLeadingZeros_8 : decode cJ4_numberOfLeadingZeros 8 = .ok (.bipush 32, 2) := dk_16 32 (dk_at dksJ4_numberOfLeadingZeros_0 8 rfl rfl)
theorem dJ4_numberOfLeadingZeros_10 : decode cJ4_numberOfLeadingZeros 10 = .ok (.goto 4, 3) := dk_167 0 4 (dk_at dksJ4_numberOfLeadingZeros_0 10 rfl rfl)
theorem dJ4_numberOfLeadingZeros_13 : decode cJ4_numberOfLeadingZeros 13 = .ok (.iconst 0, 1) := dk_3 (dk_at dksJ4_numberOfLeadingZeros_0 13 rfl rfl)
theorem dJ4_numberOfLeadingZeros_14 : decode cJ4_numberOfLeadingZeros 14 = .ok (.ireturn, 1) := dk_172 (dk_at dksJ4_numberOfLeadingZeros_0 14 rfl rfl)
theorem dJ4_numberOfLeadingZeros_15 : decode cJ4_numberOfLeadingZeros 15 = .ok (.bipush 31, 2) := dk_16 31 (dk_at dksJ4_numberOfLeadingZeros_0 15 rfl rfl)
theorem dJ4_numberOfLeadingZeros_17 : decode cJ4_numberOfLeadingZeros 17 = .ok (.istore_n 1, 1) := dk_60 (dk_at dksJ4_numberOfLeadingZeros_0 17 rfl rfl)
theorem dJ4_numberOfLeadingZeros_18 : decode cJ4_numberOfLeadingZeros 18 = .ok (.iload_n 0, 1) := dk_26 (dk_at dksJ4_numberOfLeadingZeros_0 18 rfl rfl)
theorem dJ4_numberOfLeadingZeros_19 : decode cJ4_numberOfLeadingZeros 19 = .ok (.ldc_w 264, 3) := dk_19 1 8 (dk_at dksJ4_numberOfLeadingZeros_0 19 rfl rfl)
theorem dJ4_numberOfLeadingZeros_22 : decode cJ4_numberOfLeadingZeros 22 = .ok (.if_icmp .lt 11, 3) := dk_161 0 11 (dk_at dksJ4_numberOfLeadingZeros_1 0 rfl rfl)
theorem dJ4_numberOfLeadingZeros_25 : decode cJ4_numberOfLeadingZeros 25 = .ok (.iinc 1 (-16), 3) := dk_132 1 240 (dk_at dksJ4_numberOfLeadingZeros_1 3 rfl rfl)
theorem dJ4_numberOfLeadingZeros_28 : decode cJ4_numberOfLeadingZeros 28 = .ok (.iload_n 0, 1) := dk_26 (dk_at dksJ4_numberOfLeadingZeros_1 6 rfl rfl)
theorem dJ4_numberOfLeadingZeros_29 : decode cJ4_numberOfLeadingZeros 29 = .ok (.bipush 16, 2) := dk_16 16 (dk_at dksJ4_numberOfLeadingZeros_1 7 rfl rfl)
theorem dJ4_numberOfLeadingZeros_31 : decode cJ4_numberOfLeadingZeros 31 = .ok (.iushr, 1) := dk_124 (dk_at dksJ4_numberOfLeadingZeros_1 9 rfl rfl)
theorem dJ4_numberOfLeadingZeros_32 : decode cJ4_numberOfLeadingZeros 32 = .ok (.istore_n 0, 1) := dk_59 (dk_at dksJ4_numberOfLeadingZeros_1 10 rfl rfl)
theorem dJ4_numberOfLeadingZeros_33 : decode cJ4_numberOfLeadingZeros 33 = .ok (.iload_n 0, 1) := dk_26 (dk_at dksJ4_numberOfLeadingZeros_1 11 rfl rfl)
theorem dJ4_numberOfLeadingZeros_34 : decode cJ4_numberOfLeadingZeros 34 = .ok (.sipush 256, 3) := dk_17 1 0 (dk_at dksJ4_numberOfLeadingZeros_1 12 rfl rfl)
theorem dJ4_numberOfLeadingZeros_37 : decode cJ4_numberOfLeadingZeros 37 = .ok (.if_icmp .lt 11, 3) := dk_161 0 11 (dk_at dksJ4_numberOfLeadingZeros_1 15 rfl rfl)
theorem dJ4_numberOfLeadingZeros_40 : decode cJ4_numberOfLeadingZeros 40 = .ok (.iinc 1 (-8), 3) := dk_132 1 248 (dk_at dksJ4_numberOfLeadingZeros_1 18 rfl rfl)
theorem dJ4_numberOfLeadingZeros_43 : decode cJ4_numberOfLeadingZeros 43 = .ok (.iload_n 0, 1) := dk_26 (dk_at dksJ4_numberOfLeadingZeros_1 21 rfl rfl)
theorem dJ4_numberOfLeadingZeros_44 : decode cJ4_numberOfLeadingZeros 44 = .ok (.bipush 8, 2) := dk_16 8 (dk_at dksJ4_numberOfLeadingZeros_1 22 rfl rfl)
theorem dJ4_numberOfLeadingZeros_46 : decode cJ4_numberOfLeadingZeros 46 = .ok (.iushr, 1) := dk_124 (dk_at dksJ4_numberOfLeadingZeros_2 0 rfl rfl)
theorem dJ4_numberOfLeadingZeros_47 : decode cJ4_numberOfLeadingZeros 47 = .ok (.istore_n 0, 1) := dk_59 (dk_at dksJ4_numberOfLeadingZeros_2 1 rfl rfl)
theorem dJ4_numberOfLeadingZeros_48 : decode cJ4_numberOfLeadingZeros 48 = .ok (.iload_n 0, 1) := dk_26 (dk_at dksJ4_numberOfLeadingZeros_2 2 rfl rfl)
theorem dJ4_numberOfLeadingZeros_49 : decode cJ4_numberOfLeadingZeros 49 = .ok (.bipush 16, 2) := dk_16 16 (dk_at dksJ4_numberOfLeadingZeros_2 3 rfl rfl)
theorem dJ4_numberOfLeadingZeros_51 : decode cJ4_numberOfLeadingZeros 51 = .ok (.if_icmp .lt 10, 3) := dk_161 0 10 (dk_at dksJ4_numberOfLeadingZeros_2 5 rfl rfl)
theorem dJ4_numberOfLeadingZeros_54 : decode cJ4_numberOfLeadingZeros 54 = .ok (.iinc 1 (-4), 3) := dk_132 1 252 (dk_at dksJ4_numberOfLeadingZeros_2 8 rfl rfl)
theorem dJ4_numberOfLeadingZeros_57 : decode cJ4_numberOfLeadingZeros 57 = .ok (.iload_n 0, 1) := dk_26 (dk_at dksJ4_numberOfLeadingZeros_2 11 rfl rfl)
theorem dJ4_numberOfLeadingZeros_58 : decode cJ4_numberOfLeadingZeros 58 = .ok (.iconst 4, 1) := dk_7 (dk_at dksJ4_numberOfLeadingZeros_2 12 rfl rfl)
theorem dJ4_numberOfLeadingZeros_59 : decode cJ4_numberOfLeadingZeros 59 = .ok (.iushr, 1) := dk_124 (dk_at dksJ4_numberOfLeadingZeros_2 13 rfl rfl)
theorem dJ4_numberOfLeadingZeros_60 : decode cJ4_numberOfLeadingZeros 60 = .ok (.istore_n 0, 1) := dk_59 (dk_at dksJ4_numberOfLeadingZeros_2 14 rfl rfl)
theorem dJ4_numberOfLeadingZeros_61 : decode cJ4_numberOfLeadingZeros 61 = .ok (.iload_n 0, 1) := dk_26 (dk_at dksJ4_numberOfLeadingZeros_2 15 rfl rfl)
theorem dJ4_numberOfLeadingZeros_62 : decode cJ4_numberOfLeadingZeros 62 = .ok (.iconst 4, 1) := dk_7 (dk_at dksJ4_numberOfLeadingZeros_2 16 rfl rfl)
theorem dJ4_numberOfLeadingZeros_63 : decode cJ4_numberOfLeadingZeros 63 = .ok (.if_icmp .lt 10, 3) := dk_161 0 10 (dk_at dksJ4_numberOfLeadingZeros_2 17 rfl rfl)
theorem dJ4_numberOfLeadingZeros_66 : decode cJ4_numberOfLeadingZeros 66 = .ok (.iinc 1 (-2), 3) := dk_132 1 254 (dk_at dksJ4_numberOfLeadingZeros_2 20 rfl rfl)
theorem dJ4_numberOfLeadingZeros_69 : decode cJ4_numberOfLeadingZeros 69 = .ok (.iload_n 0, 1) := dk_26 (dk_at dksJ4_numberOfLeadingZeros_2 23 rfl rfl)
theorem dJ4_numberOfLeadingZeros_70 : decode cJ4_numberOfLeadingZeros 70 = .ok (.iconst 2, 1) := dk_5 (dk_at dksJ4_numberOfLeadingZeros_3 0 rfl rfl)
theorem dJ4_numberOfLeadingZeros_71 : decode cJ4_numberOfLeadingZeros 71 = .ok (.iushr, 1) := dk_124 (dk_at dksJ4_numberOfLeadingZeros_3 1 rfl rfl)
theorem dJ4_numberOfLeadingZeros_72 : decode cJ4_numberOfLeadingZeros 72 = .ok (.istore_n 0, 1) := dk_59 (dk_at dksJ4_numberOfLeadingZeros_3 2 rfl rfl)
theorem dJ4_numberOfLeadingZeros_73 : decode cJ4_numberOfLeadingZeros 73 = .ok (.iload_n 1, 1) := dk_27 (dk_at dksJ4_numberOfLeadingZeros_3 3 rfl rfl)
theorem dJ4_numberOfLeadingZeros_74 : decode cJ4_numberOfLeadingZeros 74 = .ok (.iload_n 0, 1) := dk_26 (dk_at dksJ4_numberOfLeadingZeros_3 4 rfl rfl)
theorem dJ4_numberOfLeadingZeros_75 : decode cJ4_numberOfLeadingZeros 75 = .ok (.iconst 1, 1) := dk_4 (dk_at dksJ4_numberOfLeadingZeros_3 5 rfl rfl)
theorem dJ4_numberOfLeadingZeros_76 : decode cJ4_numberOfLeadingZeros 76 = .ok (.iushr, 1) := dk_124 (dk_at dksJ4_numberOfLeadingZeros_3 6 rfl rfl)
theorem dJ4_numberOfLeadingZeros_77 : decode cJ4_numberOfLeadingZeros 77 = .ok (.isub, 1) := dk_100 (dk_at dksJ4_numberOfLeadingZeros_3 7 rfl rfl)
theorem dJ4_numberOfLeadingZeros_78 : decode cJ4_numberOfLeadingZeros 78 = .ok (.ireturn, 1) := dk_172 (dk_at dksJ4_numberOfLeadingZeros_3 8 rfl rfl)
abbrev cJ4_numberOfTrailingZeros : ByteArray := prog_29_method_48_code
def yJ4_numberOfTrailingZeros : MethodName := ⟨RJ4, "numberOfTrailingZeros", "(I)I"⟩
def dkwJ4_numberOfTrailingZeros_3 : List UInt8 := [5, 124, 59, 27, 26, 4, 124, 96, 172]
abbrev dktJ4_numberOfTrailingZeros_3 : List UInt8 := dkwJ4_numberOfTrailingZeros_3 ++ []
def dkwJ4_numberOfTrailingZeros_2 : List UInt8 := [124, 59, 26, 16, 16, 164, 0, 10, 132, 1, 4, 26, 7, 124, 59, 26, 7, 164, 0, 10, 132, 1, 2, 26]
abbrev dktJ4_numberOfTrailingZeros_2 : List UInt8 := dkwJ4_numberOfTrailingZeros_2 ++ dktJ4_numberOfTrailingZeros_3
def dkwJ4_numberOfTrailingZeros_1 : List UInt8 := [164, 0, 11, 132, 1, 16, 26, 16, 16, 124, 59, 26, 17, 1, 0, 164, 0, 11, 132, 1, 8, 26, 16, 8]
abbrev dktJ4_numberOfTrailingZeros_1 : List UInt8 := dkwJ4_numberOfTrailingZeros_1 ++ dktJ4_numberOfTrailingZeros_2
def dkwJ4_numberOfTrailingZeros_0 : List UInt8 := [26, 2, 130, 26, 4, 100, 126, 59, 26, 157, 0, 8, 26, 16, 32, 126, 172, 4, 60, 26, 19, 1, 8]
abbrev dktJ4_numberOfTrailingZeros_0 : List UInt8 := dkwJ4_numberOfTrailingZeros_0 ++ dktJ4_numberOfTrailingZeros_1
theorem dksJ4_numberOfTrailingZeros_0 : cJ4_numberOfTrailingZeros.data.toList.drop 0 = dktJ4_numberOfTrailingZeros_0 := by decide +kernel
theorem dksJ4_numberOfTrailingZeros_1 : cJ4_numberOfTrailingZeros.data.toList.drop 23 = dktJ4_numberOfTrailingZeros_1 := dk_seg dksJ4_numberOfTrailingZeros_0 23 rfl rfl
theorem dksJ4_numberOfTrailingZeros_2 : cJ4_numberOfTrailingZeros.data.toList.drop 47 = dktJ4_numberOfTrailingZeros_2 := dk_seg dksJ4_numberOfTrailingZeros_1 24 rfl rfl
theorem dksJ4_numberOfTrailingZeros_3 : cJ4_numberOfTrailingZeros.data.toList.drop 71 = dktJ4_numberOfTrailingZeros_3 := dk_seg dksJ4_numberOfTrailingZeros_2 24 rfl rfl
theorem dJ4_numberOfTrailingZeros_0 : decode cJ4_numberOfTrailingZeros 0 = .ok (.iload_n 0, 1) := dk_26 (dk_at dksJ4_numberOfTrailingZeros_0 0 rfl rfl)
theorem dJ4_numberOfTrailingZeros_1 : decode cJ4_numberOfTrailingZeros 1 = .ok (.iconst (-1), 1) := dk_2 (dk_at dksJ4_numberOfTrailingZeros_0 1 rfl rfl)
theorem dJ4_numberOfTrailingZeros_2 : decode cJ4_numberOfTrailingZeros 2 = .ok (.ixor, 1) := dk_130 (dk_at dksJ4_numberOfTrailingZeros_0 2 rfl rfl)
theorem dJ4_numberOfTrailingZeros_3 : decode cJ4_numberOfTrailingZeros 3 = .ok (.iload_n 0, 1) := dk_26 (dk_at dksJ4_numberOfTrailingZeros_0 3 rfl rfl)
theorem dJ4_numberOfTrailingZeros_4 : decode cJ4_numberOfTrailingZeros 4 = .ok (.iconst 1, 1) := dk_4 (dk_at dksJ4_numberOfTrailingZeros_0 4 rfl rfl)
theorem dJ4_numberOfTrailingZeros_5 : decode cJ4_numberOfTrailingZeros 5 = .ok (.isub, 1) := dk_100 (dk_at dksJ4_numberOfTrailingZeros_0 5 rfl rfl)
theorem dJ4_numberOfTrailingZeros_6 : decode cJ4_numberOfTrailingZeros 6 = .ok (.iand, 1) := dk_126 (dk_at dksJ4_numberOfTrailingZeros_0 6 rfl rfl)
theorem dJ4_numberOfTrailingZeros_7 : decode cJ4_numberOfTrailingZeros 7 = .ok (.istore_n 0, 1) := dk_59 (dk_at dksJ4_numberOfTrailingZeros_0 7 rfl rfl)
theorem dJ4_numberOfTrailingZeros_8 : decode cJ4_numberOfTrailingZeros 8 = .ok (.iload_n 0, 1) := dk_26 (dk_at dksJ4_numberOfTrailingZeros_0 8 rfl rfl)
theorem dJ4_numberOfTrailingZeros_9 : decode cJ4_numberOfTrailingZeros 9 = .ok (.ifCond .gt 8, 3) := dk_157 0 8 (dk_at dksJ4_numberOfTrailingZeros_0 9 rfl rfl)
theorem dJ4_numberOfTrailingZeros_12 : decode cJ4_numberOfTrailingZeros 12 = .ok (.iload_n 0, 1) := dk_26 (dk_at dksJ4_numberOfTrailingZeros_0 12 rfl rfl)
theorem dJ4_numberOfTrailingZeros_13 : decode cJ4_numberOfTrailingZeros 13 = .ok (.bipush 32, 2) := dk_16 32 (dk_at dksJ4_numberOfTrailingZeros_0 13 rfl rfl)
theorem dJ4_numberOfTrailingZeros_15 : decode cJ4_numberOfTrailingZeros 15 = .ok (.iand, 1) := dk_126 (dk_at dksJ4_numberOfTrailingZeros_0 15 rfl rfl)
theorem dJ4_numberOfTrailingZeros_16 : decode cJ4_numberOfTrailingZeros 16 = .ok (.ireturn, 1) := dk_172 (dk_at dksJ4_numberOfTrailingZeros_0 16 rfl rfl)
theorem dJ4_numberOfTrailingZeros_17 : decode cJ4_numberOfTrailingZeros 17 = .ok (.iconst 1, 1) := dk_4 (dk_at dksJ4_numberOfTrailingZeros_0 17 rfl rfl)
theorem dJ4_numberOfTrailingZeros_18 : decode cJ4_numberOfTrailingZeros 18 = .ok (.istore_n 1, 1) := dk_60 (dk_at dksJ4_numberOfTrailingZeros_0 18 rfl rfl)
theorem dJ4_numberOfTrailingZeros_19 : decode cJ4_numberOfTrailingZeros 19 = .ok (.iload_n 0, 1) := dk_26 (dk_at dksJ4_numberOfTrailingZeros_0 19 rfl rfl)
theorem dJ4_numberOfTrailingZeros_20 : decode cJ4_numberOfTrailingZeros 20 = .ok (.ldc_w 264, 3) := dk_19 1 8 (dk_at dksJ4_numberOfTrailingZeros_0 20 rfl rfl)
theorem dJ4_numberOfTrailingZeros_23 : decode cJ4_numberOfTrailingZeros 23 = .ok (.if_icmp .le 11, 3) := dk_164 0 11 (dk_at dksJ4_numberOfTrailingZeros_1 0 rfl rfl)
theorem dJ4_numberOfTrailingZeros_26 : decode cJ4_numberOfTrailingZeros 26 = .ok (.iinc 1 16, 3) := dk_132 1 16 (dk_at dksJ4_numberOfTrailingZeros_1 3 rfl rfl)
theorem dJ4_numberOfTrailingZeros_29 : decode cJ4_numberOfTrailingZeros 29 = .ok (.iload_n 0, 1) := dk_26 (dk_at dksJ4_numberOfTrailingZeros_1 6 rfl rfl)
theorem dJ4_numberOfTrailingZeros_30 : decode cJ4_numberOfTrailingZeros 30 = .ok (.bipush 16, 2) := dk_16 16 (dk_at dksJ4_numberOfTrailingZeros_1 7 rfl rfl)
theorem dJ4_numberOfTrailingZeros_32 : decode cJ4_numberOfTrailingZeros 32 = .ok (.iushr, 1) := dk_124 (dk_at dksJ4_numberOfTrailingZeros_1 9 rfl rfl)
theorem dJ4_numberOfTrailingZeros_33 : decode cJ4_numberOfTrailingZeros 33 = .ok (.istore_n 0, 1) := dk_59 (dk_at dksJ4_numberOfTrailingZeros_1 10 rfl rfl)
theorem dJ4_numberOfTrailingZeros_34 : decode cJ4_numberOfTrailingZeros 34 = .ok (.iload_n 0, 1) := dk_26 (dk_at dksJ4_numberOfTrailingZeros_1 11 rfl rfl)
theorem dJ4_numberOfTrailingZeros_35 : decode cJ4_numberOfTrailingZeros 35 = .ok (.sipush 256, 3) := dk_17 1 0 (dk_at dksJ4_numberOfTrailingZeros_1 12 rfl rfl)
theorem dJ4_numberOfTrailingZeros_38 : decode cJ4_numberOfTrailingZeros 38 = .ok (.if_icmp .le 11, 3) := dk_164 0 11 (dk_at dksJ4_numberOfTrailingZeros_1 15 rfl rfl)
theorem dJ4_numberOfTrailingZeros_41 : decode cJ4_numberOfTrailingZeros 41 = .ok (.iinc 1 8, 3) := dk_132 1 8 (dk_at dksJ4_numberOfTrailingZeros_1 18 rfl rfl)
theorem dJ4_numberOfTrailingZeros_44 : decode cJ4_numberOfTrailingZeros 44 = .ok (.iload_n 0, 1) := dk_26 (dk_at dksJ4_numberOfTrailingZeros_1 21 rfl rfl)
theorem dJ4_numberOfTrailingZeros_45 : decode cJ4_numberOfTrailingZeros 45 = .ok (.bipush 8, 2) := dk_16 8 (dk_at dksJ4_numberOfTrailingZeros_1 22 rfl rfl)
theorem dJ4_numberOfTrailingZeros_47 : decode cJ4_numberOfTrailingZeros 47 = .ok (.iushr, 1) := dk_124 (dk_at dksJ4_numberOfTrailingZeros_2 0 rfl rfl)
theorem dJ4_numberOfTrailingZeros_48 : decode cJ4_numberOfTrailingZeros 48 = .ok (.istore_n 0, 1) := dk_59 (dk_at dksJ4_numberOfTrailingZeros_2 1 rfl rfl)
theorem dJ4_numberOfTrailingZeros_49 : decode cJ4_numberOfTrailingZeros 49 = .ok (.iload_n 0, 1) := dk_26 (dk_at dksJ4_numberOfTrailingZeros_2 2 rfl rfl)
theorem dJ4_numberOfTrailingZeros_50 : decode cJ4_numberOfTrailingZeros 50 = .ok (.bipush 16, 2) := dk_16 16 (dk_at dksJ4_numberOfTrailingZeros_2 3 rfl rfl)
theorem dJ4_numberOfTrailingZeros_52 : decode cJ4_numberOfTrailingZeros 52 = .ok (.if_icmp .le 10, 3) := dk_164 0 10 (dk_at dksJ4_numberOfTrailingZeros_2 5 rfl rfl)
theorem dJ4_numberOfTrailingZeros_55 : decode cJ4_numberOfTrailingZeros 55 = .ok (.iinc 1 4, 3) := dk_132 1 4 (dk_at dksJ4_numberOfTrailingZeros_2 8 rfl rfl)
theorem dJ4_numberOfTrailingZeros_58 : decode cJ4_numberOfTrailingZeros 58 = .ok (.iload_n 0, 1) := dk_26 (dk_at dksJ4_numberOfTrailingZeros_2 11 rfl rfl)
theorem dJ4_numberOfTrailingZeros_59 : decode cJ4_numberOfTrailingZeros 59 = .ok (.iconst 4, 1) := dk_7 (dk_at dksJ4_numberOfTrailingZeros_2 12 rfl rfl)
theorem dJ4_numberOfTrailingZeros_60 : decode cJ4_numberOfTrailingZeros 60 = .ok (.iushr, 1) := dk_124 (dk_at dksJ4_numberOfTrailingZeros_2 13 rfl rfl)
theorem dJ4_numberOfTrailingZeros_61 : decode cJ4_numberOfTrailingZeros 61 = .ok (.istore_n 0, 1) := dk_59 (dk_at dksJ4_numberOfTrailingZeros_2 14 rfl rfl)
theorem dJ4_numberOfTrailingZeros_62 : decode cJ4_numberOfTrailingZeros 62 = .ok (.iload_n 0, 1) := dk_26 (dk_at dksJ4_numberOfTrailingZeros_2 15 rfl rfl)
theorem dJ4_numberOfTrailingZeros_63 : decode cJ4_numberOfTrailingZeros 63 = .ok (.iconst 4, 1) := dk_7 (dk_at dksJ4_numberOfTrailingZeros_2 16 rfl rfl)
theorem dJ4_numberOfTrailingZeros_64 : decode cJ4_numberOfTrailingZeros 64 = .ok (.if_icmp .le 10, 3) := dk_164 0 10 (dk_at dksJ4_numberOfTrailingZeros_2 17 rfl rfl)
theorem dJ4_numberOfTrailingZeros_67 : decode cJ4_numberOfTrailingZeros 67 = .ok (.iinc 1 2, 3) := dk_132 1 2 (dk_at dksJ4_numberOfTrailingZeros_2 20 rfl rfl)
theorem dJ4_numberOfTrailingZeros_70 : decode cJ4_numberOfTrailingZeros 70 = .ok (.iload_n 0, 1) := dk_26 (dk_at dksJ4_numberOfTrailingZeros_2 23 rfl rfl)
theorem dJ4_numberOfTrailingZeros_71 : decode cJ4_numberOfTrailingZeros 71 = .ok (.iconst 2, 1) := dk_5 (dk_at dksJ4_numberOfTrailingZeros_3 0 rfl rfl)
theorem dJ4_numberOfTrailingZeros_72 : decode cJ4_numberOfTrailingZeros 72 = .ok (.iushr, 1) := dk_124 (dk_at dksJ4_numberOfTrailingZeros_3 1 rfl rfl)
theorem dJ4_numberOfTrailingZeros_73 : decode cJ4_numberOfTrailingZeros 73 = .ok (.istore_n 0, 1) := dk_59 (dk_at dksJ4_numberOfTrailingZeros_3 2 rfl rfl)
theorem dJ4_numberOfTrailingZeros_74 : decode cJ4_numberOfTrailingZeros 74 = .ok (.iload_n 1, 1) := dk_27 (dk_at dksJ4_numberOfTrailingZeros_3 3 rfl rfl)
theorem dJ4_numberOfTrailingZeros_75 : decode cJ4_numberOfTrailingZeros 75 = .ok (.iload_n 0, 1) := dk_26 (dk_at dksJ4_numberOfTrailingZeros_3 4 rfl rfl)
theorem dJ4_numberOfTrailingZeros_76 : decode cJ4_numberOfTrailingZeros 76 = .ok (.iconst 1, 1) := dk_4 (dk_at dksJ4_numberOfTrailingZeros_3 5 rfl rfl)
theorem dJ4_numberOfTrailingZeros_77 : decode cJ4_numberOfTrailingZeros 77 = .ok (.iushr, 1) := dk_124 (dk_at dksJ4_numberOfTrailingZeros_3 6 rfl rfl)
theorem dJ4_numberOfTrailingZeros_78 : decode cJ4_numberOfTrailingZeros 78 = .ok (.iadd, 1) := dk_96 (dk_at dksJ4_numberOfTrailingZeros_3 7 rfl rfl)
theorem dJ4_numberOfTrailingZeros_79 : decode cJ4_numberOfTrailingZeros 79 = .ok (.ireturn, 1) := dk_172 (dk_at dksJ4_numberOfTrailingZeros_3 8 rfl rfl)
abbrev cJ4_equals : ByteArray := prog_29_method_34_code
def yJ4_equals : MethodName := ⟨RJ4, "equals", "(Ljava/lang/Object;)Z"⟩
def dkwJ4_equals_1 : List UInt8 := [167, 0, 4, 3, 172, 3, 172]
abbrev dktJ4_equals_1 : List UInt8 := dkwJ4_equals_1 ++ []
def dkwJ4_equals_0 : List UInt8 := [43, 193, 0, 1, 153, 0, 23, 42, 180, 0, 205, 43, 192, 0, 1, 182, 0, 211, 160, 0, 7, 4]
abbrev dktJ4_equals_0 : List UInt8 := dkwJ4_equals_0 ++ dktJ4_equals_1
theorem dksJ4_equals_0 : cJ4_equals.data.toList.drop 0 = dktJ4_equals_0 := by decide +kernel
theorem dksJ4_equals_1 : cJ4_equals.data.toList.drop 22 = dktJ4_equals_1 := dk_seg dksJ4_equals_0 22 rfl rfl
theorem dJ4_equals_0 : decode cJ4_equals 0 = .ok (.aload_n 1, 1) := dk_43 (dk_at dksJ4_equals_0 0 rfl rfl)
theorem dJ4_equals_1 : decode cJ4_equals 1 = .ok (.instanceof 1, 3) := dk_193 0 1 (dk_at dksJ4_equals_0 1 rfl rfl)
theorem dJ4_equals_4 : decode cJ4_equals 4 = .ok (.ifCond .eq 23, 3) := dk_153 0 23 (dk_at dksJ4_equals_0 4 rfl rfl)
theorem dJ4_equals_7 : decode cJ4_equals 7 = .ok (.aload_n 0, 1) := dk_42 (dk_at dksJ4_equals_0 7 rfl rfl)
theorem dJ4_equals_8 : decode cJ4_equals 8 = .ok (.getfield 205, 3) := dk_180 0 205 (dk_at dksJ4_equals_0 8 rfl rfl)
theorem dJ4_equals_11 : decode cJ4_equals 11 = .ok (.aload_n 1, 1) := dk_43 (dk_at dksJ4_equals_0 11 rfl rfl)
theorem dJ4_equals_12 : decode cJ4_equals 12 = .ok (.checkcast 1, 3) := dk_192 0 1 (dk_at dksJ4_equals_0 12 rfl rfl)
theorem dJ4_equals_15 : decode cJ4_equals 15 = .ok (.invokevirtual 211, 3) := dk_182 0 211 (dk_at dksJ4_equals_0 15 rfl rfl)
theorem dJ4_equals_18 : decode cJ4_equals 18 = .ok (.if_icmp .ne 7, 3) := dk_160 0 7 (dk_at dksJ4_equals_0 18 rfl rfl)
theorem dJ4_equals_21 : decode cJ4_equals 21 = .ok (.iconst 1, 1) := dk_4 (dk_at dksJ4_equals_0 21 rfl rfl)
theorem dJ4_equals_22 : decode cJ4_equals 22 = .ok (.goto 4, 3) := dk_167 0 4 (dk_at dksJ4_equals_1 0 rfl rfl)
theorem dJ4_equals_25 : decode cJ4_equals 25 = .ok (.iconst 0, 1) := dk_3 (dk_at dksJ4_equals_1 3 rfl rfl)
theorem dJ4_equals_26 : decode cJ4_equals 26 = .ok (.ireturn, 1) := dk_172 (dk_at dksJ4_equals_1 4 rfl rfl)
theorem dJ4_equals_27 : decode cJ4_equals 27 = .ok (.iconst 0, 1) := dk_3 (dk_at dksJ4_equals_1 5 rfl rfl)
theorem dJ4_equals_28 : decode cJ4_equals 28 = .ok (.ireturn, 1) := dk_172 (dk_at dksJ4_equals_1 6 rfl rfl)
abbrev cJ4_intValue : ByteArray := prog_29_method_27_code
def yJ4_intValue : MethodName := ⟨RJ4, "intValue", "()I"⟩
theorem dJ4_intValue_0 : decode cJ4_intValue 0 = .ok (.aload_n 0, 1) := by decide +kernel
theorem dJ4_intValue_1 : decode cJ4_intValue 1 = .ok (.getfield 205, 3) := by decide +kernel
theorem dJ4_intValue_4 : decode cJ4_intValue 4 = .ok (.ireturn, 1) := by decide +kernel
theorem q64 : (Jvm.Cond.initialized "java/lang/Integer") ∈ lw_all := lw_g (lw_at lw_m1 7 rfl) rfl
theorem q160 : (Jvm.Cond.static ({ cls := "java/lang/Integer", name := "valueOf", desc := "(I)Ljava/lang/Integer;" } : Jvm.MethodName)) ∈ lw_all := lw_g (lw_at lw_m1 103 rfl) rfl
theorem q161 : (Jvm.Cond.code ({ cls := "java/lang/Integer", name := "valueOf", desc := "(I)Ljava/lang/Integer;" } : Jvm.MethodName) prog_29_method_22_code (1 : Nat) (Option.some (Jvm.ClassFile.FieldType.object "java/lang/Integer"))) ∈ lw_all := lw_g (lw_at lw_m1 104 rfl) rfl
theorem q162 : (Jvm.Cond.fieldLink "java/lang/Integer" (191 : Nat) "java/lang/Integer$IntegerCache" "high" "I") ∈ lw_all := lw_g (lw_at lw_m1 105 rfl) rfl
theorem q164 : (Jvm.Cond.fieldLink "java/lang/Integer" (195 : Nat) "java/lang/Integer$IntegerCache" "cache" "[Ljava/lang/Integer;") ∈ lw_all := lw_g (lw_at lw_m1 107 rfl) rfl
theorem q166 : (Jvm.Cond.classLink "java/lang/Integer" (1 : Nat) "java/lang/Integer") ∈ lw_all := lw_g (lw_at lw_m1 109 rfl) rfl
theorem q167 : (Jvm.Cond.instantiable "java/lang/Integer" (1 : Nat)) ∈ lw_all := lw_g (lw_at lw_m1 110 rfl) rfl
theorem q168 : (Jvm.Cond.methodLink "java/lang/Integer" (199 : Nat) ({ cls := "java/lang/Integer", name := "<init>", desc := "(I)V" } : Jvm.MethodName)) ∈ lw_all := lw_g (lw_at lw_m1 111 rfl) rfl
theorem q169 : (Jvm.Cond.instanceMethod ({ cls := "java/lang/Integer", name := "<init>", desc := "(I)V" } : Jvm.MethodName)) ∈ lw_all := lw_g (lw_at lw_m1 112 rfl) rfl
theorem q170 : (Jvm.Cond.code ({ cls := "java/lang/Integer", name := "<init>", desc := "(I)V" } : Jvm.MethodName) prog_29_method_23_code (2 : Nat) (Option.none : Option Jvm.ClassFile.FieldType)) ∈ lw_all := lw_g (lw_at lw_m1 113 rfl) rfl
theorem q171 : (Jvm.Cond.methodLink "java/lang/Integer" (202 : Nat) ({ cls := "java/lang/Number", name := "<init>", desc := "()V" } : Jvm.MethodName)) ∈ lw_all := lw_g (lw_at lw_m1 114 rfl) rfl
theorem q175 : (Jvm.Cond.fieldLink "java/lang/Integer" (205 : Nat) "java/lang/Integer" "value" "I") ∈ lw_all := lw_g (lw_at lw_m1 118 rfl) rfl
theorem q176 : (Jvm.Cond.laysFinal "java/lang/Integer" "java/lang/Integer" "value" "I") ∈ lw_all := lw_g (lw_at lw_m1 119 rfl) rfl
theorem q177 : (Jvm.Cond.soleField "java/lang/Integer" "value") ∈ lw_all := lw_g (lw_at lw_m1 120 rfl) rfl
theorem q178 : (Jvm.Cond.superclass "java/lang/Integer" "java/lang/Number") ∈ lw_all := lw_g (lw_at lw_m1 121 rfl) rfl
theorem q216 : (Jvm.Cond.selects "java/lang/Integer" ({ cls := "java/lang/Object", name := "hashCode", desc := "()I" } : Jvm.MethodName) ({ cls := "java/lang/Integer", name := "hashCode", desc := "()I" } : Jvm.MethodName)) ∈ lw_all := lw_g (lw_at lw_m1 159 rfl) rfl
theorem q217 : (Jvm.Cond.instanceMethod ({ cls := "java/lang/Integer", name := "hashCode", desc := "()I" } : Jvm.MethodName)) ∈ lw_all := lw_g (lw_at lw_m1 160 rfl) rfl
theorem q218 : (Jvm.Cond.code ({ cls := "java/lang/Integer", name := "hashCode", desc := "()I" } : Jvm.MethodName) prog_29_method_32_code (1 : Nat) (Option.some Jvm.ClassFile.FieldType.int)) ∈ lw_all := lw_g (lw_at lw_m1 161 rfl) rfl
theorem q219 : (Jvm.Cond.methodLink "java/lang/Integer" (208 : Nat) ({ cls := "java/lang/Integer", name := "hashCode", desc := "(I)I" } : Jvm.MethodName)) ∈ lw_all := lw_g (lw_at lw_m1 162 rfl) rfl
theorem q220 : (Jvm.Cond.static ({ cls := "java/lang/Integer", name := "hashCode", desc := "(I)I" } : Jvm.MethodName)) ∈ lw_all := lw_g (lw_at lw_m1 163 rfl) rfl
theorem q221 : (Jvm.Cond.code ({ cls := "java/lang/Integer", name := "hashCode", desc := "(I)I" } : Jvm.MethodName) prog_29_method_33_code (1 : Nat) (Option.some Jvm.ClassFile.FieldType.int)) ∈ lw_all := lw_g (lw_at lw_m1 164 rfl) rfl
theorem q475 : (Jvm.Cond.static ({ cls := "java/lang/Integer", name := "stringSize", desc := "(I)I" } : Jvm.MethodName)) ∈ lw_all := lw_g (lw_at lw_m2 178 rfl) rfl
theorem q476 : (Jvm.Cond.code ({ cls := "java/lang/Integer", name := "stringSize", desc := "(I)I" } : Jvm.MethodName) prog_29_method_13_code (4 : Nat) (Option.some Jvm.ClassFile.FieldType.int)) ∈ lw_all := lw_g (lw_at lw_m2 179 rfl) rfl
theorem q478 : (Jvm.Cond.static ({ cls := "java/lang/Integer", name := "getChars", desc := "(II[B)I" } : Jvm.MethodName)) ∈ lw_all := lw_g (lw_at lw_m2 181 rfl) rfl
theorem q479 : (Jvm.Cond.code ({ cls := "java/lang/Integer", name := "getChars", desc := "(II[B)I" } : Jvm.MethodName) prog_29_method_12_code (7 : Nat) (Option.some Jvm.ClassFile.FieldType.int)) ∈ lw_all := lw_g (lw_at lw_m2 182 rfl) rfl
theorem q480 : (Jvm.Cond.fieldLink "java/lang/Integer" (83 : Nat) "java/lang/Integer" "DigitOnes" "[B") ∈ lw_all := lw_g (lw_at lw_m2 183 rfl) rfl
theorem q481 : (Jvm.Cond.laysStatic "java/lang/Integer" "DigitOnes" "[B") ∈ lw_tbl := lw_at lw_m2 184 rfl
theorem q482 : (Jvm.Cond.fieldLink "java/lang/Integer" (87 : Nat) "java/lang/Integer" "DigitTens" "[B") ∈ lw_all := lw_g (lw_at lw_m2 185 rfl) rfl
theorem q483 : (Jvm.Cond.laysStatic "java/lang/Integer" "DigitTens" "[B") ∈ lw_tbl := lw_at lw_m2 186 rfl
theorem q676 : (Jvm.Cond.selects "java/lang/Integer" ({ cls := "java/lang/Object", name := "getClass", desc := "()Ljava/lang/Class;" } : Jvm.MethodName) ({ cls := "java/lang/Object", name := "getClass", desc := "()Ljava/lang/Class;" } : Jvm.MethodName)) ∈ lw_all := lw_g (lw_at lw_m3 139 rfl) rfl
theorem q708 : (Jvm.Cond.castable "java/lang/Integer" "java/lang/Comparable") ∈ lw_tbl := lw_at lw_m3 171 rfl
theorem q709 : (Jvm.Cond.selects "java/lang/Integer" ({ cls := "java/lang/Comparable", name := "compareTo", desc := "(Ljava/lang/Object;)I" } : Jvm.MethodName) ({ cls := "java/lang/Integer", name := "compareTo", desc := "(Ljava/lang/Object;)I" } : Jvm.MethodName)) ∈ lw_all := lw_g (lw_at lw_m3 172 rfl) rfl
theorem q710 : (Jvm.Cond.unhidden "java/lang/Integer" "compareTo" "(Ljava/lang/Object;)I") ∈ lw_tbl := lw_at lw_m3 173 rfl
theorem q711 : (Jvm.Cond.instanceMethod ({ cls := "java/lang/Integer", name := "compareTo", desc := "(Ljava/lang/Object;)I" } : Jvm.MethodName)) ∈ lw_all := lw_g (lw_at lw_m3 174 rfl) rfl
theorem q712 : (Jvm.Cond.publicMethod ({ cls := "java/lang/Integer", name := "compareTo", desc := "(Ljava/lang/Object;)I" } : Jvm.MethodName)) ∈ lw_tbl := lw_at lw_m3 175 rfl
theorem q713 : (Jvm.Cond.code ({ cls := "java/lang/Integer", name := "compareTo", desc := "(Ljava/lang/Object;)I" } : Jvm.MethodName) prog_29_method_63_code (2 : Nat) (Option.some Jvm.ClassFile.FieldType.int)) ∈ lw_all := lw_g (lw_at lw_m3 176 rfl) rfl
theorem q714 : (Jvm.Cond.methodLink "java/lang/Integer" (284 : Nat) ({ cls := "java/lang/Integer", name := "compareTo", desc := "(Ljava/lang/Integer;)I" } : Jvm.MethodName)) ∈ lw_all := lw_g (lw_at lw_m3 177 rfl) rfl
theorem q715 : (Jvm.Cond.instanceMethod ({ cls := "java/lang/Integer", name := "compareTo", desc := "(Ljava/lang/Integer;)I" } : Jvm.MethodName)) ∈ lw_all := lw_g (lw_at lw_m3 178 rfl) rfl
theorem q716 : (Jvm.Cond.selects "java/lang/Integer" ({ cls := "java/lang/Integer", name := "compareTo", desc := "(Ljava/lang/Integer;)I" } : Jvm.MethodName) ({ cls := "java/lang/Integer", name := "compareTo", desc := "(Ljava/lang/Integer;)I" } : Jvm.MethodName)) ∈ lw_all := lw_g (lw_at lw_m3 179 rfl) rfl
theorem q717 : (Jvm.Cond.code ({ cls := "java/lang/Integer", name := "compareTo", desc := "(Ljava/lang/Integer;)I" } : Jvm.MethodName) prog_29_method_39_code (2 : Nat) (Option.some Jvm.ClassFile.FieldType.int)) ∈ lw_all := lw_g (lw_at lw_m3 180 rfl) rfl
theorem q718 : (Jvm.Cond.methodLink "java/lang/Integer" (259 : Nat) ({ cls := "java/lang/Integer", name := "compare", desc := "(II)I" } : Jvm.MethodName)) ∈ lw_all := lw_g (lw_at lw_m3 181 rfl) rfl
theorem q719 : (Jvm.Cond.static ({ cls := "java/lang/Integer", name := "compare", desc := "(II)I" } : Jvm.MethodName)) ∈ lw_all := lw_g (lw_at lw_m3 182 rfl) rfl
theorem q720 : (Jvm.Cond.code ({ cls := "java/lang/Integer", name := "compare", desc := "(II)I" } : Jvm.MethodName) prog_29_method_40_code (2 : Nat) (Option.some Jvm.ClassFile.FieldType.int)) ∈ lw_all := lw_g (lw_at lw_m3 183 rfl) rfl
theorem q811 : (Jvm.Cond.static ({ cls := "java/lang/Integer", name := "numberOfLeadingZeros", desc := "(I)I" } : Jvm.MethodName)) ∈ lw_all := lw_g (lw_at lw_m4 34 rfl) rfl
theorem q812 : (Jvm.Cond.code ({ cls := "java/lang/Integer", name := "numberOfLeadingZeros", desc := "(I)I" } : Jvm.MethodName) prog_29_method_47_code (2 : Nat) (Option.some Jvm.ClassFile.FieldType.int)) ∈ lw_all := lw_g (lw_at lw_m4 35 rfl) rfl
theorem q813 : (Jvm.Cond.constant "java/lang/Integer" (264 : Nat) (65536 : Int32)) ∈ lw_all := lw_g (lw_at lw_m4 36 rfl) rfl
theorem q820 : (Jvm.Cond.static ({ cls := "java/lang/Integer", name := "numberOfTrailingZeros", desc := "(I)I" } : Jvm.MethodName)) ∈ lw_all := lw_g (lw_at lw_m4 43 rfl) rfl
theorem q821 : (Jvm.Cond.code ({ cls := "java/lang/Integer", name := "numberOfTrailingZeros", desc := "(I)I" } : Jvm.MethodName) prog_29_method_48_code (2 : Nat) (Option.some Jvm.ClassFile.FieldType.int)) ∈ lw_all := lw_g (lw_at lw_m4 44 rfl) rfl
theorem q943 : (Jvm.Cond.selects "java/lang/Integer" ({ cls := "java/lang/Object", name := "equals", desc := "(Ljava/lang/Object;)Z" } : Jvm.MethodName) ({ cls := "java/lang/Integer", name := "equals", desc := "(Ljava/lang/Object;)Z" } : Jvm.MethodName)) ∈ lw_all := lw_g (lw_at lw_m4 166 rfl) rfl
theorem q944 : (Jvm.Cond.instanceMethod ({ cls := "java/lang/Integer", name := "equals", desc := "(Ljava/lang/Object;)Z" } : Jvm.MethodName)) ∈ lw_all := lw_g (lw_at lw_m4 167 rfl) rfl
theorem q945 : (Jvm.Cond.code ({ cls := "java/lang/Integer", name := "equals", desc := "(Ljava/lang/Object;)Z" } : Jvm.MethodName) prog_29_method_34_code (2 : Nat) (Option.some Jvm.ClassFile.FieldType.boolean)) ∈ lw_all := lw_g (lw_at lw_m4 168 rfl) rfl
theorem q946 : (Jvm.Cond.methodLink "java/lang/Integer" (211 : Nat) ({ cls := "java/lang/Integer", name := "intValue", desc := "()I" } : Jvm.MethodName)) ∈ lw_all := lw_g (lw_at lw_m4 169 rfl) rfl
theorem q947 : (Jvm.Cond.instanceMethod ({ cls := "java/lang/Integer", name := "intValue", desc := "()I" } : Jvm.MethodName)) ∈ lw_all := lw_g (lw_at lw_m4 170 rfl) rfl
theorem q948 : (Jvm.Cond.selects "java/lang/Integer" ({ cls := "java/lang/Integer", name := "intValue", desc := "()I" } : Jvm.MethodName) ({ cls := "java/lang/Integer", name := "intValue", desc := "()I" } : Jvm.MethodName)) ∈ lw_all := lw_g (lw_at lw_m4 171 rfl) rfl
theorem q949 : (Jvm.Cond.code ({ cls := "java/lang/Integer", name := "intValue", desc := "()I" } : Jvm.MethodName) prog_29_method_27_code (1 : Nat) (Option.some Jvm.ClassFile.FieldType.int)) ∈ lw_all := lw_g (lw_at lw_m4 172 rfl) rfl
theorem q2748 : (Jvm.Cond.castable "java/lang/Integer" "java/lang/Object") ∈ lw_tbl := lw_at lw_m12 51 rfl
abbrev cJ5_hashCode : ByteArray := prog_36_method_78_code
def yJ5_hashCode : MethodName := ⟨RJ5, "hashCode", "()I"⟩
def dkwJ5_hashCode_2 : List UInt8 := [181, 0, 23, 167, 0, 8, 42, 27, 181, 0, 19, 27, 172]
abbrev dktJ5_hashCode_2 : List UInt8 := dkwJ5_hashCode_2 ++ []
def dkwJ5_hashCode_1 : List UInt8 := [180, 0, 9, 184, 2, 116, 167, 0, 10, 42, 180, 0, 9, 184, 2, 120, 60, 27, 154, 0, 11, 42, 4]
abbrev dktJ5_hashCode_1 : List UInt8 := dkwJ5_hashCode_1 ++ dktJ5_hashCode_2
def dkwJ5_hashCode_0 : List UInt8 := [42, 180, 0, 19, 60, 27, 154, 0, 52, 42, 180, 0, 23, 154, 0, 45, 42, 182, 1, 236, 153, 0, 13, 42]
abbrev dktJ5_hashCode_0 : List UInt8 := dkwJ5_hashCode_0 ++ dktJ5_hashCode_1
theorem dksJ5_hashCode_0 : cJ5_hashCode.data.toList.drop 0 = dktJ5_hashCode_0 := by decide +kernel
theorem dksJ5_hashCode_1 : cJ5_hashCode.data.toList.drop 24 = dktJ5_hashCode_1 := dk_seg dksJ5_hashCode_0 24 rfl rfl
theorem dksJ5_hashCode_2 : cJ5_hashCode.data.toList.drop 47 = dktJ5_hashCode_2 := dk_seg dksJ5_hashCode_1 23 rfl rfl
theorem dJ5_hashCode_0 : decode cJ5_hashCode 0 = .ok (.aload_n 0, 1) := dk_42 (dk_at dksJ5_hashCode_0 0 rfl rfl)
theorem dJ5_hashCode_1 : decode cJ5_hashCode 1 = .ok (.getfield 19, 3) := dk_180 0 19 (dk_at dksJ5_hashCode_0 1 rfl rfl)
theorem dJ5_hashCode_4 : decode cJ5_hashCode 4 = .ok (.istore_n 1, 1) := dk_60 (dk_at dksJ5_hashCode_0 4 rfl rfl)
theorem dJ5_hashCode_5 : decode cJ5_hashCode 5 = .ok (.iload_n 1, 1) := dk_27 (dk_at dksJ5_hashCode_0 5 rfl rfl)
theorem dJ5_hashCode_6 : decode cJ5_hashCode 6 = .ok (.ifCond .ne 52, 3) := dk_154 0 52 (dk_at dksJ5_hashCode_0 6 rfl rfl)
theorem dJ5_hashCode_9 : decode cJ5_hashCode 9 = .ok (.aload_n 0, 1) := dk_42 (dk_at dksJ5_hashCode_0 9 rfl rfl)
theorem dJ5_hashCode_10 : decode cJ5_hashCode 10 = .ok (.getfield 23, 3) := dk_180 0 23 (dk_at dksJ5_hashCode_0 10 rfl rfl)
theorem dJ5_hashCode_13 : decode cJ5_hashCode 13 = .ok (.ifCond .ne 45, 3) := dk_154 0 45 (dk_at dksJ5_hashCode_0 13 rfl rfl)
theorem dJ5_hashCode_16 : decode cJ5_hashCode 16 = .ok (.aload_n 0, 1) := dk_42 (dk_at dksJ5_hashCode_0 16 rfl rfl)
theorem dJ5_hashCode_17 : decode cJ5_hashCode 17 = .ok (.invokevirtual 492, 3) := dk_182 1 236 (dk_at dksJ5_hashCode_0 17 rfl rfl)
theorem dJ5_hashCode_20 : decode cJ5_hashCode 20 = .ok (.ifCond .eq 13, 3) := dk_153 0 13 (dk_at dksJ5_hashCode_0 20 rfl rfl)
theorem dJ5_hashCode_23 : decode cJ5_hashCode 23 = .ok (.aload_n 0, 1) := dk_42 (dk_at dksJ5_hashCode_0 23 rfl rfl)
theorem dJ5_hashCode_24 : decode cJ5_hashCode 24 = .ok (.getfield 9, 3) := dk_180 0 9 (dk_at dksJ5_hashCode_1 0 rfl rfl)
theorem dJ5_hashCode_27 : decode cJ5_hashCode 27 = .ok (.invokestatic 628, 3) := dk_184 2 116 (dk_at dksJ5_hashCode_1 3 rfl rfl)
theorem dJ5_hashCode_30 : decode cJ5_hashCode 30 = .ok (.goto 10, 3) := dk_167 0 10 (dk_at dksJ5_hashCode_1 6 rfl rfl)
theorem dJ5_hashCode_33 : decode cJ5_hashCode 33 = .ok (.aload_n 0, 1) := dk_42 (dk_at dksJ5_hashCode_1 9 rfl rfl)
theorem dJ5_hashCode_34 : decode cJ5_hashCode 34 = .ok (.getfield 9, 3) := dk_180 0 9 (dk_at dksJ5_hashCode_1 10 rfl rfl)
theorem dJ5_hashCode_37 : decode cJ5_hashCode 37 = .ok (.invokestatic 632, 3) := dk_184 2 120 (dk_at dksJ5_hashCode_1 13 rfl rfl)
theorem dJ5_hashCode_40 : decode cJ5_hashCode 40 = .ok (.istore_n 1, 1) := dk_60 (dk_at dksJ5_hashCode_1 16 rfl rfl)
theorem dJ5_hashCode_41 : decode cJ5_hashCode 41 = .ok (.iload_n 1, 1) := dk_27 (dk_at dksJ5_hashCode_1 17 rfl rfl)
theorem dJ5_hashCode_42 : decode cJ5_hashCode 42 = .ok (.ifCond .ne 11, 3) := dk_154 0 11 (dk_at dksJ5_hashCode_1 18 rfl rfl)
theorem dJ5_hashCode_45 : decode cJ5_hashCode 45 = .ok (.aload_n 0, 1) := dk_42 (dk_at dksJ5_hashCode_1 21 rfl rfl)
theorem dJ5_hashCode_46 : decode cJ5_hashCode 46 = .ok (.iconst 1, 1) := dk_4 (dk_at dksJ5_hashCode_1 22 rfl rfl)
theorem dJ5_hashCode_47 : decode cJ5_hashCode 47 = .ok (.putfield 23, 3) := dk_181 0 23 (dk_at dksJ5_hashCode_2 0 rfl rfl)
theorem dJ5_hashCode_50 : decode cJ5_hashCode 50 = .ok (.goto 8, 3) := dk_167 0 8 (dk_at dksJ5_hashCode_2 3 rfl rfl)
theorem dJ5_hashCode_53 : decode cJ5_hashCode 53 = .ok (.aload_n 0, 1) := dk_42 (dk_at dksJ5_hashCode_2 6 rfl rfl)
theorem dJ5_hashCode_54 : decode cJ5_hashCode 54 = .ok (.iload_n 1, 1) := dk_27 (dk_at dksJ5_hashCode_2 7 rfl rfl)
theorem dJ5_hashCode_55 : decode cJ5_hashCode 55 = .ok (.putfield 19, 3) := dk_181 0 19 (dk_at dksJ5_hashCode_2 8 rfl rfl)
theorem dJ5_hashCode_58 : decode cJ5_hashCode 58 = .ok (.iload_n 1, 1) := dk_27 (dk_at dksJ5_hashCode_2 11 rfl rfl)
theorem dJ5_hashCode_59 : decode cJ5_hashCode 59 = .ok (.ireturn, 1) := dk_172 (dk_at dksJ5_hashCode_2 12 rfl rfl)
abbrev cJ5_isLatin1 : ByteArray := prog_36_method_154_code
def yJ5_isLatin1 : MethodName := ⟨RJ5, "isLatin1", "()Z"⟩
def dkwJ5_isLatin1_0 : List UInt8 := [178, 0, 38, 153, 0, 14, 42, 180, 0, 15, 154, 0, 7, 4, 167, 0, 4, 3, 172]
abbrev dktJ5_isLatin1_0 : List UInt8 := dkwJ5_isLatin1_0 ++ []
theorem dksJ5_isLatin1_0 : cJ5_isLatin1.data.toList.drop 0 = dktJ5_isLatin1_0 := by decide +kernel
theorem dJ5_isLatin1_0 : decode cJ5_isLatin1 0 = .ok (.getstatic 38, 3) := dk_178 0 38 (dk_at dksJ5_isLatin1_0 0 rfl rfl)
theorem dJ5_isLatin1_3 : decode cJ5_isLatin1 3 = .ok (.ifCond .eq 14, 3) := dk_153 0 14 (dk_at dksJ5_isLatin1_0 3 rfl rfl)
theorem dJ5_isLatin1_6 : decode cJ5_isLatin1 6 = .ok (.aload_n 0, 1) := dk_42 (dk_at dksJ5_isLatin1_0 6 rfl rfl)
theorem dJ5_isLatin1_7 : decode cJ5_isLatin1 7 = .ok (.getfield 15, 3) := dk_180 0 15 (dk_at dksJ5_isLatin1_0 7 rfl rfl)
theorem dJ5_isLatin1_10 : decode cJ5_isLatin1 10 = .ok (.ifCond .ne 7, 3) := dk_154 0 7 (dk_at dksJ5_isLatin1_0 10 rfl rfl)
theorem dJ5_isLatin1_13 : decode cJ5_isLatin1 13 = .ok (.iconst 1, 1) := dk_4 (dk_at dksJ5_isLatin1_0 13 rfl rfl)
theorem dJ5_isLatin1_14 : decode cJ5_isLatin1 14 = .ok (.goto 4, 3) := dk_167 0 4 (dk_at dksJ5_isLatin1_0 14 rfl rfl)
theorem dJ5_isLatin1_17 : decode cJ5_isLatin1 17 = .ok (.iconst 0, 1) := dk_3 (dk_at dksJ5_isLatin1_0 17 rfl rfl)
theorem dJ5_isLatin1_18 : decode cJ5_isLatin1 18 = .ok (.ireturn, 1) := dk_172 (dk_at dksJ5_isLatin1_0 18 rfl rfl)
abbrev cJ5_checkBoundsBeginEnd : ByteArray := prog_36_method_158_code
def yJ5_checkBoundsBeginEnd : MethodName := ⟨RJ5, "checkBoundsBeginEnd", "(III)V"⟩
def dkwJ5_checkBoundsBeginEnd_0 : List UInt8 := [26, 27, 28, 178, 4, 29, 184, 4, 38, 87, 177]
abbrev dktJ5_checkBoundsBeginEnd_0 : List UInt8 := dkwJ5_checkBoundsBeginEnd_0 ++ []
theorem dksJ5_checkBoundsBeginEnd_0 : cJ5_checkBoundsBeginEnd.data.toList.drop 0 = dktJ5_checkBoundsBeginEnd_0 := by decide +kernel
theorem dJ5_checkBoundsBeginEnd_0 : decode cJ5_checkBoundsBeginEnd 0 = .ok (.iload_n 0, 1) := dk_26 (dk_at dksJ5_checkBoundsBeginEnd_0 0 rfl rfl)
theorem dJ5_checkBoundsBeginEnd_1 : decode cJ5_checkBoundsBeginEnd 1 = .ok (.iload_n 1, 1) := dk_27 (dk_at dksJ5_checkBoundsBeginEnd_0 1 rfl rfl)
theorem dJ5_checkBoundsBeginEnd_2 : decode cJ5_checkBoundsBeginEnd 2 = .ok (.iload_n 2, 1) := dk_28 (dk_at dksJ5_checkBoundsBeginEnd_0 2 rfl rfl)
theorem dJ5_checkBoundsBeginEnd_3 : decode cJ5_checkBoundsBeginEnd 3 = .ok (.getstatic 1053, 3) := dk_178 4 29 (dk_at dksJ5_checkBoundsBeginEnd_0 3 rfl rfl)
theorem dJ5_checkBoundsBeginEnd_6 : decode cJ5_checkBoundsBeginEnd 6 = .ok (.invokestatic 1062, 3) := dk_184 4 38 (dk_at dksJ5_checkBoundsBeginEnd_0 6 rfl rfl)
theorem dJ5_checkBoundsBeginEnd_9 : decode cJ5_checkBoundsBeginEnd 9 = .ok (.pop, 1) := dk_87 (dk_at dksJ5_checkBoundsBeginEnd_0 9 rfl rfl)
theorem dJ5_checkBoundsBeginEnd_10 : decode cJ5_checkBoundsBeginEnd 10 = .ok (.return_, 1) := dk_177 (dk_at dksJ5_checkBoundsBeginEnd_0 10 rfl rfl)
abbrev cJ5_length : ByteArray := prog_36_method_54_code
def yJ5_length : MethodName := ⟨RJ5, "length", "()I"⟩
def dkwJ5_length_0 : List UInt8 := [42, 180, 0, 9, 190, 42, 182, 1, 79, 122, 172]
abbrev dktJ5_length_0 : List UInt8 := dkwJ5_length_0 ++ []
theorem dksJ5_length_0 : cJ5_length.data.toList.drop 0 = dktJ5_length_0 := by decide +kernel
theorem dJ5_length_0 : decode cJ5_length 0 = .ok (.aload_n 0, 1) := dk_42 (dk_at dksJ5_length_0 0 rfl rfl)
theorem dJ5_length_1 : decode cJ5_length 1 = .ok (.getfield 9, 3) := dk_180 0 9 (dk_at dksJ5_length_0 1 rfl rfl)
theorem dJ5_length_4 : decode cJ5_length 4 = .ok (.arraylength, 1) := dk_190 (dk_at dksJ5_length_0 4 rfl rfl)
theorem dJ5_length_5 : decode cJ5_length 5 = .ok (.aload_n 0, 1) := dk_42 (dk_at dksJ5_length_0 5 rfl rfl)
theorem dJ5_length_6 : decode cJ5_length 6 = .ok (.invokevirtual 335, 3) := dk_182 1 79 (dk_at dksJ5_length_0 6 rfl rfl)
theorem dJ5_length_9 : decode cJ5_length 9 = .ok (.ishr, 1) := dk_122 (dk_at dksJ5_length_0 9 rfl rfl)
theorem dJ5_length_10 : decode cJ5_length 10 = .ok (.ireturn, 1) := dk_172 (dk_at dksJ5_length_0 10 rfl rfl)
abbrev cJ5_coder : ByteArray := prog_36_method_152_code
def yJ5_coder : MethodName := ⟨RJ5, "coder", "()B"⟩
def dkwJ5_coder_0 : List UInt8 := [178, 0, 38, 153, 0, 10, 42, 180, 0, 15, 167, 0, 4, 4, 172]
abbrev dktJ5_coder_0 : List UInt8 := dkwJ5_coder_0 ++ []
theorem dksJ5_coder_0 : cJ5_coder.data.toList.drop 0 = dktJ5_coder_0 := by decide +kernel
theorem dJ5_coder_0 : decode cJ5_coder 0 = .ok (.getstatic 38, 3) := dk_178 0 38 (dk_at dksJ5_coder_0 0 rfl rfl)
theorem dJ5_coder_3 : decode cJ5_coder 3 = .ok (.ifCond .eq 10, 3) := dk_153 0 10 (dk_at dksJ5_coder_0 3 rfl rfl)
theorem dJ5_coder_6 : decode cJ5_coder 6 = .ok (.aload_n 0, 1) := dk_42 (dk_at dksJ5_coder_0 6 rfl rfl)
theorem dJ5_coder_7 : decode cJ5_coder 7 = .ok (.getfield 15, 3) := dk_180 0 15 (dk_at dksJ5_coder_0 7 rfl rfl)
theorem dJ5_coder_10 : decode cJ5_coder 10 = .ok (.goto 4, 3) := dk_167 0 4 (dk_at dksJ5_coder_0 10 rfl rfl)
theorem dJ5_coder_13 : decode cJ5_coder 13 = .ok (.iconst 1, 1) := dk_4 (dk_at dksJ5_coder_0 13 rfl rfl)
theorem dJ5_coder_14 : decode cJ5_coder 14 = .ok (.ireturn, 1) := dk_172 (dk_at dksJ5_coder_0 14 rfl rfl)
abbrev cJ5_checkBoundsOffCount : ByteArray := prog_36_method_157_code
def yJ5_checkBoundsOffCount : MethodName := ⟨RJ5, "checkBoundsOffCount", "(III)I"⟩
def dkwJ5_checkBoundsOffCount_0 : List UInt8 := [26, 27, 28, 178, 4, 29, 184, 4, 41, 172]
abbrev dktJ5_checkBoundsOffCount_0 : List UInt8 := dkwJ5_checkBoundsOffCount_0 ++ []
theorem dksJ5_checkBoundsOffCount_0 : cJ5_checkBoundsOffCount.data.toList.drop 0 = dktJ5_checkBoundsOffCount_0 := by decide +kernel
theorem dJ5_checkBoundsOffCount_0 : decode cJ5_checkBoundsOffCount 0 = .ok (.iload_n 0, 1) := dk_26 (dk_at dksJ5_checkBoundsOffCount_0 0 rfl rfl)
theorem dJ5_checkBoundsOffCount_1 : decode cJ5_checkBoundsOffCount 1 = .ok (.iload_n 1, 1) := dk_27 (dk_at dksJ5_checkBoundsOffCount_0 1 rfl rfl)
theorem dJ5_checkBoundsOffCount_2 : decode cJ5_checkBoundsOffCount 2 = .ok (.iload_n 2, 1) := dk_28 (dk_at dksJ5_checkBoundsOffCount_0 2 rfl rfl)
theorem dJ5_checkBoundsOffCount_3 : decode cJ5_checkBoundsOffCount 3 = .ok (.getstatic 1053, 3) := dk_178 4 29 (dk_at dksJ5_checkBoundsOffCount_0 3 rfl rfl)
theorem dJ5_checkBoundsOffCount_6 : decode cJ5_checkBoundsOffCount 6 = .ok (.invokestatic 1065, 3) := dk_184 4 41 (dk_at dksJ5_checkBoundsOffCount_0 6 rfl rfl)
theorem dJ5_checkBoundsOffCount_9 : decode cJ5_checkBoundsOffCount 9 = .ok (.ireturn, 1) := dk_172 (dk_at dksJ5_checkBoundsOffCount_0 9 rfl rfl)
abbrev cJ5_getBytes : ByteArray := prog_36_method_147_code
def yJ5_getBytes : MethodName := ⟨RJ5, "getBytes", "([BIB)V"⟩
def dkwJ5_getBytes_1 : List UInt8 := [184, 0, 212, 167, 0, 18, 42, 180, 0, 9, 3, 43, 28, 42, 180, 0, 9, 190, 184, 0, 106, 177]
abbrev dktJ5_getBytes_1 : List UInt8 := dkwJ5_getBytes_1 ++ []
def dkwJ5_getBytes_0 : List UInt8 := [42, 182, 1, 79, 29, 160, 0, 23, 42, 180, 0, 9, 3, 43, 28, 29, 120, 42, 180, 0, 9, 190]
abbrev dktJ5_getBytes_0 : List UInt8 := dkwJ5_getBytes_0 ++ dktJ5_getBytes_1
theorem dksJ5_getBytes_0 : cJ5_getBytes.data.toList.drop 0 = dktJ5_getBytes_0 := by decide +kernel
theorem dksJ5_getBytes_1 : cJ5_getBytes.data.toList.drop 22 = dktJ5_getBytes_1 := dk_seg dksJ5_getBytes_0 22 rfl rfl
theorem dJ5_getBytes_0 : decode cJ5_getBytes 0 = .ok (.aload_n 0, 1) := dk_42 (dk_at dksJ5_getBytes_0 0 rfl rfl)
theorem dJ5_getBytes_1 : decode cJ5_getBytes 1 = .ok (.invokevirtual 335, 3) := dk_182 1 79 (dk_at dksJ5_getBytes_0 1 rfl rfl)
theorem dJ5_getBytes_4 : decode cJ5_getBytes 4 = .ok (.iload_n 3, 1) := dk_29 (dk_at dksJ5_getBytes_0 4 rfl rfl)
theorem dJ5_getBytes_5 : decode cJ5_getBytes 5 = .ok (.if_icmp .ne 23, 3) := dk_160 0 23 (dk_at dksJ5_getBytes_0 5 rfl rfl)
theorem dJ5_getBytes_8 : decode cJ5_getBytes 8 = .ok (.aload_n 0, 1) := dk_42 (dk_at dksJ5_getBytes_0 8 rfl rfl)
theorem dJ5_getBytes_9 : decode cJ5_getBytes 9 = .ok (.getfield 9, 3) := dk_180 0 9 (dk_at dksJ5_getBytes_0 9 rfl rfl)
theorem dJ5_getBytes_12 : decode cJ5_getBytes 12 = .ok (.iconst 0, 1) := dk_3 (dk_at dksJ5_getBytes_0 12 rfl rfl)
theorem dJ5_getBytes_13 : decode cJ5_getBytes 13 = .ok (.aload_n 1, 1) := dk_43 (dk_at dksJ5_getBytes_0 13 rfl rfl)
theorem dJ5_getBytes_14 : decode cJ5_getBytes 14 = .ok (.iload_n 2, 1) := dk_28 (dk_at dksJ5_getBytes_0 14 rfl rfl)
theorem dJ5_getBytes_15 : decode cJ5_getBytes 15 = .ok (.iload_n 3, 1) := dk_29 (dk_at dksJ5_getBytes_0 15 rfl rfl)
theorem dJ5_getBytes_16 : decode cJ5_getBytes 16 = .ok (.ishl, 1) := dk_120 (dk_at dksJ5_getBytes_0 16 rfl rfl)
theorem dJ5_getBytes_17 : decode cJ5_getBytes 17 = .ok (.aload_n 0, 1) := dk_42 (dk_at dksJ5_getBytes_0 17 rfl rfl)
theorem dJ5_getBytes_18 : decode cJ5_getBytes 18 = .ok (.getfield 9, 3) := dk_180 0 9 (dk_at dksJ5_getBytes_0 18 rfl rfl)
theorem dJ5_getBytes_21 : decode cJ5_getBytes 21 = .ok (.arraylength, 1) := dk_190 (dk_at dksJ5_getBytes_0 21 rfl rfl)
theorem dJ5_getBytes_22 : decode cJ5_getBytes 22 = .ok (.invokestatic 212, 3) := dk_184 0 212 (dk_at dksJ5_getBytes_1 0 rfl rfl)
theorem dJ5_getBytes_25 : decode cJ5_getBytes 25 = .ok (.goto 18, 3) := dk_167 0 18 (dk_at dksJ5_getBytes_1 3 rfl rfl)
theorem dJ5_getBytes_28 : decode cJ5_getBytes 28 = .ok (.aload_n 0, 1) := dk_42 (dk_at dksJ5_getBytes_1 6 rfl rfl)
theorem dJ5_getBytes_29 : decode cJ5_getBytes 29 = .ok (.getfield 9, 3) := dk_180 0 9 (dk_at dksJ5_getBytes_1 7 rfl rfl)
theorem dJ5_getBytes_32 : decode cJ5_getBytes 32 = .ok (.iconst 0, 1) := dk_3 (dk_at dksJ5_getBytes_1 10 rfl rfl)
theorem dJ5_getBytes_33 : decode cJ5_getBytes 33 = .ok (.aload_n 1, 1) := dk_43 (dk_at dksJ5_getBytes_1 11 rfl rfl)
theorem dJ5_getBytes_34 : decode cJ5_getBytes 34 = .ok (.iload_n 2, 1) := dk_28 (dk_at dksJ5_getBytes_1 12 rfl rfl)
theorem dJ5_getBytes_35 : decode cJ5_getBytes 35 = .ok (.aload_n 0, 1) := dk_42 (dk_at dksJ5_getBytes_1 13 rfl rfl)
theorem dJ5_getBytes_36 : decode cJ5_getBytes 36 = .ok (.getfield 9, 3) := dk_180 0 9 (dk_at dksJ5_getBytes_1 14 rfl rfl)
theorem dJ5_getBytes_39 : decode cJ5_getBytes 39 = .ok (.arraylength, 1) := dk_190 (dk_at dksJ5_getBytes_1 17 rfl rfl)
theorem dJ5_getBytes_40 : decode cJ5_getBytes 40 = .ok (.invokestatic 106, 3) := dk_184 0 106 (dk_at dksJ5_getBytes_1 18 rfl rfl)
theorem dJ5_getBytes_43 : decode cJ5_getBytes 43 = .ok (.return_, 1) := dk_177 (dk_at dksJ5_getBytes_1 21 rfl rfl)
abbrev cJ5_init : ByteArray := prog_36_method_53_code
def yJ5_init : MethodName := ⟨RJ5, "<init>", "(Ljava/lang/StringBuilder;)V"⟩
def dkwJ5_init_0 : List UInt8 := [42, 43, 1, 183, 1, 233, 177]
abbrev dktJ5_init_0 : List UInt8 := dkwJ5_init_0 ++ []
theorem dksJ5_init_0 : cJ5_init.data.toList.drop 0 = dktJ5_init_0 := by decide +kernel
theorem dJ5_init_0 : decode cJ5_init 0 = .ok (.aload_n 0, 1) := dk_42 (dk_at dksJ5_init_0 0 rfl rfl)
theorem dJ5_init_1 : decode cJ5_init 1 = .ok (.aload_n 1, 1) := dk_43 (dk_at dksJ5_init_0 1 rfl rfl)
theorem dJ5_init_2 : decode cJ5_init 2 = .ok (.aconst_null, 1) := dk_1 (dk_at dksJ5_init_0 2 rfl rfl)
theorem dJ5_init_3 : decode cJ5_init 3 = .ok (.invokespecial 489, 3) := dk_183 1 233 (dk_at dksJ5_init_0 3 rfl rfl)
theorem dJ5_init_6 : decode cJ5_init 6 = .ok (.return_, 1) := dk_177 (dk_at dksJ5_init_0 6 rfl rfl)
abbrev cJ5_init_2 : ByteArray := prog_36_method_150_code
def yJ5_init_2 : MethodName := ⟨RJ5, "<init>", "(Ljava/lang/AbstractStringBuilder;Ljava/lang/Void;)V"⟩
def dkwJ5_init_2_4 : List UInt8 := [181, 0, 9, 177]
abbrev dktJ5_init_2_4 : List UInt8 := dkwJ5_init_2_4 ++ []
def dkwJ5_init_2_3 : List UInt8 := [184, 0, 47, 181, 0, 15, 177, 42, 4, 181, 0, 15, 42, 45, 3, 21, 4, 4, 120, 184, 0, 54]
abbrev dktJ5_init_2_3 : List UInt8 := dkwJ5_init_2_3 ++ dktJ5_init_2_4
def dkwJ5_init_2_2 : List UInt8 := [180, 4, 24, 153, 0, 28, 42, 45, 3, 21, 4, 184, 4, 27, 181, 0, 9, 42, 42, 180, 0, 9, 21, 4]
abbrev dktJ5_init_2_2 : List UInt8 := dkwJ5_init_2_2 ++ dktJ5_init_2_3
def dkwJ5_init_2_1 : List UInt8 := [181, 0, 15, 42, 45, 3, 21, 4, 184, 0, 54, 181, 0, 9, 167, 0, 59, 178, 0, 38, 153, 0, 35, 43]
abbrev dktJ5_init_2_1 : List UInt8 := dkwJ5_init_2_1 ++ dktJ5_init_2_2
def dkwJ5_init_2_0 : List UInt8 := [42, 183, 0, 1, 43, 182, 2, 40, 78, 43, 182, 2, 37, 54, 4, 43, 182, 4, 23, 153, 0, 22, 42, 3]
abbrev dktJ5_init_2_0 : List UInt8 := dkwJ5_init_2_0 ++ dktJ5_init_2_1
theorem dksJ5_init_2_0 : cJ5_init_2.data.toList.drop 0 = dktJ5_init_2_0 := by decide +kernel
theorem dksJ5_init_2_1 : cJ5_init_2.data.toList.drop 24 = dktJ5_init_2_1 := dk_seg dksJ5_init_2_0 24 rfl rfl
theorem dksJ5_init_2_2 : cJ5_init_2.data.toList.drop 48 = dktJ5_init_2_2 := dk_seg dksJ5_init_2_1 24 rfl rfl
theorem dksJ5_init_2_3 : cJ5_init_2.data.toList.drop 72 = dktJ5_init_2_3 := dk_seg dksJ5_init_2_2 24 rfl rfl
theorem dksJ5_init_2_4 : cJ5_init_2.data.toList.drop 94 = dktJ5_init_2_4 := dk_seg dksJ5_init_2_3 22 rfl rfl
theorem dJ5_init_2_0 : decode cJ5_init_2 0 = .ok (.aload_n 0, 1) := dk_42 (dk_at dksJ5_init_2_0 0 rfl rfl)
theorem dJ5_init_2_1 : decode cJ5_init_2 1 = .ok (.invokespecial 1, 3) := dk_183 0 1 (dk_at dksJ5_init_2_0 1 rfl rfl)
theorem dJ5_init_2_4 : decode cJ5_init_2 4 = .ok (.aload_n 1, 1) := dk_43 (dk_at dksJ5_init_2_0 4 rfl rfl)
theorem dJ5_init_2_5 : decode cJ5_init_2 5 = .ok (.invokevirtual 552, 3) := dk_182 2 40 (dk_at dksJ5_init_2_0 5 rfl rfl)
theorem dJ5_init_2_8 : decode cJ5_init_2 8 = .ok (.astore_n 3, 1) := dk_78 (dk_at dksJ5_init_2_0 8 rfl rfl)
theorem dJ5_init_2_9 : decode cJ5_init_2 9 = .ok (.aload_n 1, 1) := dk_43 (dk_at dksJ5_init_2_0 9 rfl rfl)
theorem dJ5_init_2_10 : decode cJ5_init_2 10 = .ok (.invokevirtual 549, 3) := dk_182 2 37 (dk_at dksJ5_init_2_0 10 rfl rfl)
theorem dJ5_init_2_13 : decode cJ5_init_2 13 = .ok (.istore 4, 2) := dk_54 4 (dk_at dksJ5_init_2_0 13 rfl rfl)
theorem dJ5_init_2_15 : decode cJ5_init_2 15 = .ok (.aload_n 1, 1) := dk_43 (dk_at dksJ5_init_2_0 15 rfl rfl)
theorem dJ5_init_2_16 : decode cJ5_init_2 16 = .ok (.invokevirtual 1047, 3) := dk_182 4 23 (dk_at dksJ5_init_2_0 16 rfl rfl)
theorem dJ5_init_2_19 : decode cJ5_init_2 19 = .ok (.ifCond .eq 22, 3) := dk_153 0 22 (dk_at dksJ5_init_2_0 19 rfl rfl)
theorem dJ5_init_2_22 : decode cJ5_init_2 22 = .ok (.aload_n 0, 1) := dk_42 (dk_at dksJ5_init_2_0 22 rfl rfl)
theorem dJ5_init_2_23 : decode cJ5_init_2 23 = .ok (.iconst 0, 1) := dk_3 (dk_at dksJ5_init_2_0 23 rfl rfl)
theorem dJ5_init_2_24 : decode cJ5_init_2 24 = .ok (.putfield 15, 3) := dk_181 0 15 (dk_at dksJ5_init_2_1 0 rfl rfl)
theorem dJ5_init_2_27 : decode cJ5_init_2 27 = .ok (.aload_n 0, 1) := dk_42 (dk_at dksJ5_init_2_1 3 rfl rfl)
theorem dJ5_init_2_28 : decode cJ5_init_2 28 = .ok (.aload_n 3, 1) := dk_45 (dk_at dksJ5_init_2_1 4 rfl rfl)
theorem dJ5_init_2_29 : decode cJ5_init_2 29 = .ok (.iconst 0, 1) := dk_3 (dk_at dksJ5_init_2_1 5 rfl rfl)
theorem dJ5_init_2_30 : decode cJ5_init_2 30 = .ok (.iload 4, 2) := dk_21 4 (dk_at dksJ5_init_2_1 6 rfl rfl)
theorem dJ5_init_2_32 : decode cJ5_init_2 32 = .ok (.invokestatic 54, 3) := dk_184 0 54 (dk_at dksJ5_init_2_1 8 rfl rfl)
theorem dJ5_init_2_35 : decode cJ5_init_2 35 = .ok (.putfield 9, 3) := dk_181 0 9 (dk_at dksJ5_init_2_1 11 rfl rfl)
theorem dJ5_init_2_38 : decode cJ5_init_2 38 = .ok (.goto 59, 3) := dk_167 0 59 (dk_at dksJ5_init_2_1 14 rfl rfl)
theorem dJ5_init_2_41 : decode cJ5_init_2 41 = .ok (.getstatic 38, 3) := dk_178 0 38 (dk_at dksJ5_init_2_1 17 rfl rfl)
theorem dJ5_init_2_44 : decode cJ5_init_2 44 = .ok (.ifCond .eq 35, 3) := dk_153 0 35 (dk_at dksJ5_init_2_1 20 rfl rfl)
theorem dJ5_init_2_47 : decode cJ5_init_2 47 = .ok (.aload_n 1, 1) := dk_43 (dk_at dksJ5_init_2_1 23 rfl rfl)
theorem dJ5_init_2_48 : decode cJ5_init_2 48 = .ok (.getfield 1048, 3) := dk_180 4 24 (dk_at dksJ5_init_2_2 0 rfl rfl)
theorem dJ5_init_2_51 : decode cJ5_init_2 51 = .ok (.ifCond .eq 28, 3) := dk_153 0 28 (dk_at dksJ5_init_2_2 3 rfl rfl)
theorem dJ5_init_2_54 : decode cJ5_init_2 54 = .ok (.aload_n 0, 1) := dk_42 (dk_at dksJ5_init_2_2 6 rfl rfl)
theorem dJ5_init_2_55 : decode cJ5_init_2 55 = .ok (.aload_n 3, 1) := dk_45 (dk_at dksJ5_init_2_2 7 rfl rfl)
theorem dJ5_init_2_56 : decode cJ5_init_2 56 = .ok (.iconst 0, 1) := dk_3 (dk_at dksJ5_init_2_2 8 rfl rfl)
theorem dJ5_init_2_57 : decode cJ5_init_2 57 = .ok (.iload 4, 2) := dk_21 4 (dk_at dksJ5_init_2_2 9 rfl rfl)
theorem dJ5_init_2_59 : decode cJ5_init_2 59 = .ok (.invokestatic 1051, 3) := dk_184 4 27 (dk_at dksJ5_init_2_2 11 rfl rfl)
theorem dJ5_init_2_62 : decode cJ5_init_2 62 = .ok (.putfield 9, 3) := dk_181 0 9 (dk_at dksJ5_init_2_2 14 rfl rfl)
theorem dJ5_init_2_65 : decode cJ5_init_2 65 = .ok (.aload_n 0, 1) := dk_42 (dk_at dksJ5_init_2_2 17 rfl rfl)
theorem dJ5_init_2_66 : decode cJ5_init_2 66 = .ok (.aload_n 0, 1) := dk_42 (dk_at dksJ5_init_2_2 18 rfl rfl)
theorem dJ5_init_2_67 : decode cJ5_init_2 67 = .ok (.getfield 9, 3) := dk_180 0 9 (dk_at dksJ5_init_2_2 19 rfl rfl)
theorem dJ5_init_2_70 : decode cJ5_init_2 70 = .ok (.iload 4, 2) := dk_21 4 (dk_at dksJ5_init_2_2 22 rfl rfl)
theorem dJ5_init_2_72 : decode cJ5_init_2 72 = .ok (.invokestatic 47, 3) := dk_184 0 47 (dk_at dksJ5_init_2_3 0 rfl rfl)
theorem dJ5_init_2_75 : decode cJ5_init_2 75 = .ok (.putfield 15, 3) := dk_181 0 15 (dk_at dksJ5_init_2_3 3 rfl rfl)
theorem dJ5_init_2_78 : decode cJ5_init_2 78 = .ok (.return_, 1) := dk_177 (dk_at dksJ5_init_2_3 6 rfl rfl)
theorem dJ5_init_2_79 : decode cJ5_init_2 79 = .ok (.aload_n 0, 1) := dk_42 (dk_at dksJ5_init_2_3 7 rfl rfl)
theorem dJ5_init_2_80 : decode cJ5_init_2 80 = .ok (.iconst 1, 1) := dk_4 (dk_at dksJ5_init_2_3 8 rfl rfl)
theorem dJ5_init_2_81 : decode cJ5_init_2 81 = .ok (.putfield 15, 3) := dk_181 0 15 (dk_at dksJ5_init_2_3 9 rfl rfl)
theorem dJ5_init_2_84 : decode cJ5_init_2 84 = .ok (.aload_n 0, 1) := dk_42 (dk_at dksJ5_init_2_3 12 rfl rfl)
theorem dJ5_init_2_85 : decode cJ5_init_2 85 = .ok (.aload_n 3, 1) := dk_45 (dk_at dksJ5_init_2_3 13 rfl rfl)
theorem dJ5_init_2_86 : decode cJ5_init_2 86 = .ok (.iconst 0, 1) := dk_3 (dk_at dksJ5_init_2_3 14 rfl rfl)
theorem dJ5_init_2_87 : decode cJ5_init_2 87 = .ok (.iload 4, 2) := dk_21 4 (dk_at dksJ5_init_2_3 15 rfl rfl)
theorem dJ5_init_2_89 : decode cJ5_init_2 89 = .ok (.iconst 1, 1) := dk_4 (dk_at dksJ5_init_2_3 17 rfl rfl)
theorem dJ5_init_2_90 : decode cJ5_init_2 90 = .ok (.ishl, 1) := dk_120 (dk_at dksJ5_init_2_3 18 rfl rfl)
theorem dJ5_init_2_91 : decode cJ5_init_2 91 = .ok (.invokestatic 54, 3) := dk_184 0 54 (dk_at dksJ5_init_2_3 19 rfl rfl)
theorem dJ5_init_2_94 : decode cJ5_init_2 94 = .ok (.putfield 9, 3) := dk_181 0 9 (dk_at dksJ5_init_2_4 0 rfl rfl)
theorem dJ5_init_2_97 : decode cJ5_init_2 97 = .ok (.return_, 1) := dk_177 (dk_at dksJ5_init_2_4 3 rfl rfl)
abbrev cJ5_compareTo : ByteArray := prog_36_method_162_code
def yJ5_compareTo : MethodName := ⟨RJ5, "compareTo", "(Ljava/lang/Object;)I"⟩
def dkwJ5_compareTo_0 : List UInt8 := [42, 43, 192, 0, 10, 182, 4, 60, 172]
abbrev dktJ5_compareTo_0 : List UInt8 := dkwJ5_compareTo_0 ++ []
theorem dksJ5_compareTo_0 : cJ5_compareTo.data.toList.drop 0 = dktJ5_compareTo_0 := by decide +kernel
theorem dJ5_compareTo_0 : decode cJ5_compareTo 0 = .ok (.aload_n 0, 1) := dk_42 (dk_at dksJ5_compareTo_0 0 rfl rfl)
theorem dJ5_compareTo_1 : decode cJ5_compareTo 1 = .ok (.aload_n 1, 1) := dk_43 (dk_at dksJ5_compareTo_0 1 rfl rfl)
theorem dJ5_compareTo_2 : decode cJ5_compareTo 2 = .ok (.checkcast 10, 3) := dk_192 0 10 (dk_at dksJ5_compareTo_0 2 rfl rfl)
theorem dJ5_compareTo_5 : decode cJ5_compareTo 5 = .ok (.invokevirtual 1084, 3) := dk_182 4 60 (dk_at dksJ5_compareTo_0 5 rfl rfl)
theorem dJ5_compareTo_8 : decode cJ5_compareTo 8 = .ok (.ireturn, 1) := dk_172 (dk_at dksJ5_compareTo_0 8 rfl rfl)
abbrev cJ5_compareTo_2 : ByteArray := prog_36_method_71_code
def yJ5_compareTo_2 : MethodName := ⟨RJ5, "compareTo", "(Ljava/lang/String;)I"⟩
def dkwJ5_compareTo_2_2 : List UInt8 := [154, 0, 11, 44, 45, 184, 2, 79, 167, 0, 8, 44, 45, 184, 2, 82, 172]
abbrev dktJ5_compareTo_2_2 : List UInt8 := dkwJ5_compareTo_2_2 ++ []
def dkwJ5_compareTo_2_1 : List UInt8 := [160, 0, 22, 21, 4, 154, 0, 11, 44, 45, 184, 2, 74, 167, 0, 8, 44, 45, 184, 2, 78, 172, 21, 4]
abbrev dktJ5_compareTo_2_1 : List UInt8 := dkwJ5_compareTo_2_1 ++ dktJ5_compareTo_2_2
def dkwJ5_compareTo_2_0 : List UInt8 := [42, 180, 0, 9, 77, 43, 180, 0, 9, 78, 42, 182, 1, 79, 54, 4, 21, 4, 43, 182, 1, 79]
abbrev dktJ5_compareTo_2_0 : List UInt8 := dkwJ5_compareTo_2_0 ++ dktJ5_compareTo_2_1
theorem dksJ5_compareTo_2_0 : cJ5_compareTo_2.data.toList.drop 0 = dktJ5_compareTo_2_0 := by decide +kernel
theorem dksJ5_compareTo_2_1 : cJ5_compareTo_2.data.toList.drop 22 = dktJ5_compareTo_2_1 := dk_seg dksJ5_compareTo_2_0 22 rfl rfl
theorem dksJ5_compareTo_2_2 : cJ5_compareTo_2.data.toList.drop 46 = dktJ5_compareTo_2_2 := dk_seg dksJ5_compareTo_2_1 24 rfl rfl
theorem dJ5_compareTo_2_0 : decode cJ5_compareTo_2 0 = .ok (.aload_n 0, 1) := dk_42 (dk_at dksJ5_compareTo_2_0 0 rfl rfl)
theorem dJ5_compareTo_2_1 : decode cJ5_compareTo_2 1 = .ok (.getfield 9, 3) := dk_180 0 9 (dk_at dksJ5_compareTo_2_0 1 rfl rfl)
theorem dJ5_compareTo_2_4 : decode cJ5_compareTo_2 4 = .ok (.astore_n 2, 1) := dk_77 (dk_at dksJ5_compareTo_2_0 4 rfl rfl)
theorem dJ5_compareTo_2_5 : decode cJ5_compareTo_2 5 = .ok (.aload_n 1, 1) := dk_43 (dk_at dksJ5_compareTo_2_0 5 rfl rfl)
theorem dJ5_compareTo_2_6 : decode cJ5_compareTo_2 6 = .ok (.getfield 9, 3) := dk_180 0 9 (dk_at dksJ5_compareTo_2_0 6 rfl rfl)
theorem dJ5_compareTo_2_9 : decode cJ5_compareTo_2 9 = .ok (.astore_n 3, 1) := dk_78 (dk_at dksJ5_compareTo_2_0 9 rfl rfl)
theorem dJ5_compareTo_2_10 : decode cJ5_compareTo_2 10 = .ok (.aload_n 0, 1) := dk_42 (dk_at dksJ5_compareTo_2_0 10 rfl rfl)
theorem dJ5_compareTo_2_11 : decode cJ5_compareTo_2 11 = .ok (.invokevirtual 335, 3) := dk_182 1 79 (dk_at dksJ5_compareTo_2_0 11 rfl rfl)
theorem dJ5_compareTo_2_14 : decode cJ5_compareTo_2 14 = .ok (.istore 4, 2) := dk_54 4 (dk_at dksJ5_compareTo_2_0 14 rfl rfl)
theorem dJ5_compareTo_2_16 : decode cJ5_compareTo_2 16 = .ok (.iload 4, 2) := dk_21 4 (dk_at dksJ5_compareTo_2_0 16 rfl rfl)
theorem dJ5_compareTo_2_18 : decode cJ5_compareTo_2 18 = .ok (.aload_n 1, 1) := dk_43 (dk_at dksJ5_compareTo_2_0 18 rfl rfl)
theorem dJ5_compareTo_2_19 : decode cJ5_compareTo_2 19 = .ok (.invokevirtual 335, 3) := dk_182 1 79 (dk_at dksJ5_compareTo_2_0 19 rfl rfl)
theorem dJ5_compareTo_2_22 : decode cJ5_compareTo_2 22 = .ok (.if_icmp .ne 22, 3) := dk_160 0 22 (dk_at dksJ5_compareTo_2_1 0 rfl rfl)
theorem dJ5_compareTo_2_25 : decode cJ5_compareTo_2 25 = .ok (.iload 4, 2) := dk_21 4 (dk_at dksJ5_compareTo_2_1 3 rfl rfl)
theorem dJ5_compareTo_2_27 : decode cJ5_compareTo_2 27 = .ok (.ifCond .ne 11, 3) := dk_154 0 11 (dk_at dksJ5_compareTo_2_1 5 rfl rfl)
theorem dJ5_compareTo_2_30 : decode cJ5_compareTo_2 30 = .ok (.aload_n 2, 1) := dk_44 (dk_at dksJ5_compareTo_2_1 8 rfl rfl)
theorem dJ5_compareTo_2_31 : decode cJ5_compareTo_2 31 = .ok (.aload_n 3, 1) := dk_45 (dk_at dksJ5_compareTo_2_1 9 rfl rfl)
theorem dJ5_compareTo_2_32 : decode cJ5_compareTo_2 32 = .ok (.invokestatic 586, 3) := dk_184 2 74 (dk_at dksJ5_compareTo_2_1 10 rfl rfl)
theorem dJ5_compareTo_2_35 : decode cJ5_compareTo_2 35 = .ok (.goto 8, 3) := dk_167 0 8 (dk_at dksJ5_compareTo_2_1 13 rfl rfl)
theorem dJ5_compareTo_2_38 : decode cJ5_compareTo_2 38 = .ok (.aload_n 2, 1) := dk_44 (dk_at dksJ5_compareTo_2_1 16 rfl rfl)
theorem dJ5_compareTo_2_39 : decode cJ5_compareTo_2 39 = .ok (.aload_n 3, 1) := dk_45 (dk_at dksJ5_compareTo_2_1 17 rfl rfl)
theorem dJ5_compareTo_2_40 : decode cJ5_compareTo_2 40 = .ok (.invokestatic 590, 3) := dk_184 2 78 (dk_at dksJ5_compareTo_2_1 18 rfl rfl)
theorem dJ5_compareTo_2_43 : decode cJ5_compareTo_2 43 = .ok (.ireturn, 1) := dk_172 (dk_at dksJ5_compareTo_2_1 21 rfl rfl)
theorem dJ5_compareTo_2_44 : decode cJ5_compareTo_2 44 = .ok (.iload 4, 2) := dk_21 4 (dk_at dksJ5_compareTo_2_1 22 rfl rfl)
theorem dJ5_compareTo_2_46 : decode cJ5_compareTo_2 46 = .ok (.ifCond .ne 11, 3) := dk_154 0 11 (dk_at dksJ5_compareTo_2_2 0 rfl rfl)
theorem dJ5_compareTo_2_49 : decode cJ5_compareTo_2 49 = .ok (.aload_n 2, 1) := dk_44 (dk_at dksJ5_compareTo_2_2 3 rfl rfl)
theorem dJ5_compareTo_2_50 : decode cJ5_compareTo_2 50 = .ok (.aload_n 3, 1) := dk_45 (dk_at dksJ5_compareTo_2_2 4 rfl rfl)
theorem dJ5_compareTo_2_51 : decode cJ5_compareTo_2 51 = .ok (.invokestatic 591, 3) := dk_184 2 79 (dk_at dksJ5_compareTo_2_2 5 rfl rfl)
theorem dJ5_compareTo_2_54 : decode cJ5_compareTo_2 54 = .ok (.goto 8, 3) := dk_167 0 8 (dk_at dksJ5_compareTo_2_2 8 rfl rfl)
theorem dJ5_compareTo_2_57 : decode cJ5_compareTo_2 57 = .ok (.aload_n 2, 1) := dk_44 (dk_at dksJ5_compareTo_2_2 11 rfl rfl)
theorem dJ5_compareTo_2_58 : decode cJ5_compareTo_2 58 = .ok (.aload_n 3, 1) := dk_45 (dk_at dksJ5_compareTo_2_2 12 rfl rfl)
theorem dJ5_compareTo_2_59 : decode cJ5_compareTo_2 59 = .ok (.invokestatic 594, 3) := dk_184 2 82 (dk_at dksJ5_compareTo_2_2 13 rfl rfl)
theorem dJ5_compareTo_2_62 : decode cJ5_compareTo_2 62 = .ok (.ireturn, 1) := dk_172 (dk_at dksJ5_compareTo_2_2 16 rfl rfl)
abbrev cJ5_checkOffset : ByteArray := prog_36_method_156_code
def yJ5_checkOffset : MethodName := ⟨RJ5, "checkOffset", "(II)V"⟩
def dkwJ5_checkOffset_0 : List UInt8 := [26, 27, 27, 178, 4, 29, 184, 4, 38, 87, 177]
abbrev dktJ5_checkOffset_0 : List UInt8 := dkwJ5_checkOffset_0 ++ []
theorem dksJ5_checkOffset_0 : cJ5_checkOffset.data.toList.drop 0 = dktJ5_checkOffset_0 := by decide +kernel
theorem dJ5_checkOffset_0 : decode cJ5_checkOffset 0 = .ok (.iload_n 0, 1) := dk_26 (dk_at dksJ5_checkOffset_0 0 rfl rfl)
theorem dJ5_checkOffset_1 : decode cJ5_checkOffset 1 = .ok (.iload_n 1, 1) := dk_27 (dk_at dksJ5_checkOffset_0 1 rfl rfl)
theorem dJ5_checkOffset_2 : decode cJ5_checkOffset 2 = .ok (.iload_n 1, 1) := dk_27 (dk_at dksJ5_checkOffset_0 2 rfl rfl)
theorem dJ5_checkOffset_3 : decode cJ5_checkOffset 3 = .ok (.getstatic 1053, 3) := dk_178 4 29 (dk_at dksJ5_checkOffset_0 3 rfl rfl)
theorem dJ5_checkOffset_6 : decode cJ5_checkOffset 6 = .ok (.invokestatic 1062, 3) := dk_184 4 38 (dk_at dksJ5_checkOffset_0 6 rfl rfl)
theorem dJ5_checkOffset_9 : decode cJ5_checkOffset 9 = .ok (.pop, 1) := dk_87 (dk_at dksJ5_checkOffset_0 9 rfl rfl)
theorem dJ5_checkOffset_10 : decode cJ5_checkOffset 10 = .ok (.return_, 1) := dk_177 (dk_at dksJ5_checkOffset_0 10 rfl rfl)
abbrev cJ5_equals : ByteArray := prog_36_method_66_code
def yJ5_equals : MethodName := ⟨RJ5, "equals", "(Ljava/lang/Object;)Z"⟩
def dkwJ5_equals_2 : List UInt8 := [184, 2, 29, 153, 0, 7, 4, 167, 0, 4, 3, 172]
abbrev dktJ5_equals_2 : List UInt8 := dkwJ5_equals_2 ++ []
def dkwJ5_equals_1 : List UInt8 := [153, 0, 14, 42, 180, 0, 15, 44, 180, 0, 15, 160, 0, 21, 42, 180, 0, 9, 44, 180, 0, 9]
abbrev dktJ5_equals_1 : List UInt8 := dkwJ5_equals_1 ++ dktJ5_equals_2
def dkwJ5_equals_0 : List UInt8 := [42, 43, 166, 0, 5, 4, 172, 43, 193, 0, 10, 153, 0, 43, 43, 192, 0, 10, 77, 178, 0, 38]
abbrev dktJ5_equals_0 : List UInt8 := dkwJ5_equals_0 ++ dktJ5_equals_1
theorem dksJ5_equals_0 : cJ5_equals.data.toList.drop 0 = dktJ5_equals_0 := by decide +kernel
theorem dksJ5_equals_1 : cJ5_equals.data.toList.drop 22 = dktJ5_equals_1 := dk_seg dksJ5_equals_0 22 rfl rfl
theorem dksJ5_equals_2 : cJ5_equals.data.toList.drop 44 = dktJ5_equals_2 := dk_seg dksJ5_equals_1 22 rfl rfl
theorem dJ5_equals_0 : decode cJ5_equals 0 = .ok (.aload_n 0, 1) := dk_42 (dk_at dksJ5_equals_0 0 rfl rfl)
theorem dJ5_equals_1 : decode cJ5_equals 1 = .ok (.aload_n 1, 1) := dk_43 (dk_at dksJ5_equals_0 1 rfl rfl)
theorem dJ5_equals_2 : decode cJ5_equals 2 = .ok (.if_acmp .ne 5, 3) := dk_166 0 5 (dk_at dksJ5_equals_0 2 rfl rfl)
theorem dJ5_equals_5 : decode cJ5_equals 5 = .ok (.iconst 1, 1) := dk_4 (dk_at dksJ5_equals_0 5 rfl rfl)
theorem dJ5_equals_6 : decode cJ5_equals 6 = .ok (.ireturn, 1) := dk_172 (dk_at dksJ5_equals_0 6 rfl rfl)
theorem dJ5_equals_7 : decode cJ5_equals 7 = .ok (.aload_n 1, 1) := dk_43 (dk_at dksJ5_equals_0 7 rfl rfl)
theorem dJ5_equals_8 : decode cJ5_equals 8 = .ok (.instanceof 10, 3) := dk_193 0 10 (dk_at dksJ5_equals_0 8 rfl rfl)
theorem dJ5_equals_11 : decode cJ5_equals 11 = .ok (.ifCond .eq 43, 3) := dk_153 0 43 (dk_at dksJ5_equals_0 11 rfl rfl)
theorem dJ5_equals_14 : decode cJ5_equals 14 = .ok (.aload_n 1, 1) := dk_43 (dk_at dksJ5_equals_0 14 rfl rfl)
theorem dJ5_equals_15 : decode cJ5_equals 15 = .ok (.checkcast 10, 3) := dk_192 0 10 (dk_at dksJ5_equals_0 15 rfl rfl)
theorem dJ5_equals_18 : decode cJ5_equals 18 = .ok (.astore_n 2, 1) := dk_77 (dk_at dksJ5_equals_0 18 rfl rfl)
theorem dJ5_equals_19 : decode cJ5_equals 19 = .ok (.getstatic 38, 3) := dk_178 0 38 (dk_at dksJ5_equals_0 19 rfl rfl)
theorem dJ5_equals_22 : decode cJ5_equals 22 = .ok (.ifCond .eq 14, 3) := dk_153 0 14 (dk_at dksJ5_equals_1 0 rfl rfl)
theorem dJ5_equals_25 : decode cJ5_equals 25 = .ok (.aload_n 0, 1) := dk_42 (dk_at dksJ5_equals_1 3 rfl rfl)
theorem dJ5_equals_26 : decode cJ5_equals 26 = .ok (.getfield 15, 3) := dk_180 0 15 (dk_at dksJ5_equals_1 4 rfl rfl)
theorem dJ5_equals_29 : decode cJ5_equals 29 = .ok (.aload_n 2, 1) := dk_44 (dk_at dksJ5_equals_1 7 rfl rfl)
theorem dJ5_equals_30 : decode cJ5_equals 30 = .ok (.getfield 15, 3) := dk_180 0 15 (dk_at dksJ5_equals_1 8 rfl rfl)
theorem dJ5_equals_33 : decode cJ5_equals 33 = .ok (.if_icmp .ne 21, 3) := dk_160 0 21 (dk_at dksJ5_equals_1 11 rfl rfl)
theorem dJ5_equals_36 : decode cJ5_equals 36 = .ok (.aload_n 0, 1) := dk_42 (dk_at dksJ5_equals_1 14 rfl rfl)
theorem dJ5_equals_37 : decode cJ5_equals 37 = .ok (.getfield 9, 3) := dk_180 0 9 (dk_at dksJ5_equals_1 15 rfl rfl)
theorem dJ5_equals_40 : decode cJ5_equals 40 = .ok (.aload_n 2, 1) := dk_44 (dk_at dksJ5_equals_1 18 rfl rfl)
theorem dJ5_equals_41 : decode cJ5_equals 41 = .ok (.getfield 9, 3) := dk_180 0 9 (dk_at dksJ5_equals_1 19 rfl rfl)
theorem dJ5_equals_44 : decode cJ5_equals 44 = .ok (.invokestatic 541, 3) := dk_184 2 29 (dk_at dksJ5_equals_2 0 rfl rfl)
theorem dJ5_equals_47 : decode cJ5_equals 47 = .ok (.ifCond .eq 7, 3) := dk_153 0 7 (dk_at dksJ5_equals_2 3 rfl rfl)
theorem dJ5_equals_50 : decode cJ5_equals 50 = .ok (.iconst 1, 1) := dk_4 (dk_at dksJ5_equals_2 6 rfl rfl)
theorem dJ5_equals_51 : decode cJ5_equals 51 = .ok (.goto 4, 3) := dk_167 0 4 (dk_at dksJ5_equals_2 7 rfl rfl)
theorem dJ5_equals_54 : decode cJ5_equals 54 = .ok (.iconst 0, 1) := dk_3 (dk_at dksJ5_equals_2 10 rfl rfl)
theorem dJ5_equals_55 : decode cJ5_equals 55 = .ok (.ireturn, 1) := dk_172 (dk_at dksJ5_equals_2 11 rfl rfl)
abbrev cJ5_indexOf : ByteArray := prog_36_method_79_code
def yJ5_indexOf : MethodName := ⟨RJ5, "indexOf", "(I)I"⟩
def dkwJ5_indexOf_0 : List UInt8 := [42, 27, 3, 182, 2, 121, 172]
abbrev dktJ5_indexOf_0 : List UInt8 := dkwJ5_indexOf_0 ++ []
theorem dksJ5_indexOf_0 : cJ5_indexOf.data.toList.drop 0 = dktJ5_indexOf_0 := by decide +kernel
theorem dJ5_indexOf_0 : decode cJ5_indexOf 0 = .ok (.aload_n 0, 1) := dk_42 (dk_at dksJ5_indexOf_0 0 rfl rfl)
theorem dJ5_indexOf_1 : decode cJ5_indexOf 1 = .ok (.iload_n 1, 1) := dk_27 (dk_at dksJ5_indexOf_0 1 rfl rfl)
theorem dJ5_indexOf_2 : decode cJ5_indexOf 2 = .ok (.iconst 0, 1) := dk_3 (dk_at dksJ5_indexOf_0 2 rfl rfl)
theorem dJ5_indexOf_3 : decode cJ5_indexOf 3 = .ok (.invokevirtual 633, 3) := dk_182 2 121 (dk_at dksJ5_indexOf_0 3 rfl rfl)
theorem dJ5_indexOf_6 : decode cJ5_indexOf 6 = .ok (.ireturn, 1) := dk_172 (dk_at dksJ5_indexOf_0 6 rfl rfl)
abbrev cJ5_indexOf_2 : ByteArray := prog_36_method_80_code
def yJ5_indexOf_2 : MethodName := ⟨RJ5, "indexOf", "(II)I"⟩
def dkwJ5_indexOf_2_1 : List UInt8 := [180, 0, 9, 27, 28, 42, 182, 1, 249, 184, 2, 128, 172]
abbrev dktJ5_indexOf_2_1 : List UInt8 := dkwJ5_indexOf_2_1 ++ []
def dkwJ5_indexOf_2_0 : List UInt8 := [42, 182, 1, 236, 153, 0, 19, 42, 180, 0, 9, 27, 28, 42, 182, 1, 249, 184, 2, 125, 167, 0, 16, 42]
abbrev dktJ5_indexOf_2_0 : List UInt8 := dkwJ5_indexOf_2_0 ++ dktJ5_indexOf_2_1
theorem dksJ5_indexOf_2_0 : cJ5_indexOf_2.data.toList.drop 0 = dktJ5_indexOf_2_0 := by decide +kernel
theorem dksJ5_indexOf_2_1 : cJ5_indexOf_2.data.toList.drop 24 = dktJ5_indexOf_2_1 := dk_seg dksJ5_indexOf_2_0 24 rfl rfl
theorem dJ5_indexOf_2_0 : decode cJ5_indexOf_2 0 = .ok (.aload_n 0, 1) := dk_42 (dk_at dksJ5_indexOf_2_0 0 rfl rfl)
theorem dJ5_indexOf_2_1 : decode cJ5_indexOf_2 1 = .ok (.invokevirtual 492, 3) := dk_182 1 236 (dk_at dksJ5_indexOf_2_0 1 rfl rfl)
theorem dJ5_indexOf_2_4 : decode cJ5_indexOf_2 4 = .ok (.ifCond .eq 19, 3) := dk_153 0 19 (dk_at dksJ5_indexOf_2_0 4 rfl rfl)
theorem dJ5_indexOf_2_7 : decode cJ5_indexOf_2 7 = .ok (.aload_n 0, 1) := dk_42 (dk_at dksJ5_indexOf_2_0 7 rfl rfl)
theorem dJ5_indexOf_2_8 : decode cJ5_indexOf_2 8 = .ok (.getfield 9, 3) := dk_180 0 9 (dk_at dksJ5_indexOf_2_0 8 rfl rfl)
theorem dJ5_indexOf_2_11 : decode cJ5_indexOf_2 11 = .ok (.iload_n 1, 1) := dk_27 (dk_at dksJ5_indexOf_2_0 11 rfl rfl)
theorem dJ5_indexOf_2_12 : decode cJ5_indexOf_2 12 = .ok (.iload_n 2, 1) := dk_28 (dk_at dksJ5_indexOf_2_0 12 rfl rfl)
theorem dJ5_indexOf_2_13 : decode cJ5_indexOf_2 13 = .ok (.aload_n 0, 1) := dk_42 (dk_at dksJ5_indexOf_2_0 13 rfl rfl)
theorem dJ5_indexOf_2_14 : decode cJ5_indexOf_2 14 = .ok (.invokevirtual 505, 3) := dk_182 1 249 (dk_at dksJ5_indexOf_2_0 14 rfl rfl)
theorem dJ5_indexOf_2_17 : decode cJ5_indexOf_2 17 = .ok (.invokestatic 637, 3) := dk_184 2 125 (dk_at dksJ5_indexOf_2_0 17 rfl rfl)
theorem dJ5_indexOf_2_20 : decode cJ5_indexOf_2 20 = .ok (.goto 16, 3) := dk_167 0 16 (dk_at dksJ5_indexOf_2_0 20 rfl rfl)
theorem dJ5_indexOf_2_23 : decode cJ5_indexOf_2 23 = .ok (.aload_n 0, 1) := dk_42 (dk_at dksJ5_indexOf_2_0 23 rfl rfl)
theorem dJ5_indexOf_2_24 : decode cJ5_indexOf_2 24 = .ok (.getfield 9, 3) := dk_180 0 9 (dk_at dksJ5_indexOf_2_1 0 rfl rfl)
theorem dJ5_indexOf_2_27 : decode cJ5_indexOf_2 27 = .ok (.iload_n 1, 1) := dk_27 (dk_at dksJ5_indexOf_2_1 3 rfl rfl)
theorem dJ5_indexOf_2_28 : decode cJ5_indexOf_2 28 = .ok (.iload_n 2, 1) := dk_28 (dk_at dksJ5_indexOf_2_1 4 rfl rfl)
theorem dJ5_indexOf_2_29 : decode cJ5_indexOf_2 29 = .ok (.aload_n 0, 1) := dk_42 (dk_at dksJ5_indexOf_2_1 5 rfl rfl)
theorem dJ5_indexOf_2_30 : decode cJ5_indexOf_2 30 = .ok (.invokevirtual 505, 3) := dk_182 1 249 (dk_at dksJ5_indexOf_2_1 6 rfl rfl)
theorem dJ5_indexOf_2_33 : decode cJ5_indexOf_2 33 = .ok (.invokestatic 640, 3) := dk_184 2 128 (dk_at dksJ5_indexOf_2_1 9 rfl rfl)
theorem dJ5_indexOf_2_36 : decode cJ5_indexOf_2 36 = .ok (.ireturn, 1) := dk_172 (dk_at dksJ5_indexOf_2_1 12 rfl rfl)
abbrev cJ5_checkIndex : ByteArray := prog_36_method_155_code
def yJ5_checkIndex : MethodName := ⟨RJ5, "checkIndex", "(II)V"⟩
def dkwJ5_checkIndex_0 : List UInt8 := [26, 27, 178, 4, 29, 184, 4, 35, 87, 177]
abbrev dktJ5_checkIndex_0 : List UInt8 := dkwJ5_checkIndex_0 ++ []
theorem dksJ5_checkIndex_0 : cJ5_checkIndex.data.toList.drop 0 = dktJ5_checkIndex_0 := by decide +kernel
theorem dJ5_checkIndex_0 : decode cJ5_checkIndex 0 = .ok (.iload_n 0, 1) := dk_26 (dk_at dksJ5_checkIndex_0 0 rfl rfl)
theorem dJ5_checkIndex_1 : decode cJ5_checkIndex 1 = .ok (.iload_n 1, 1) := dk_27 (dk_at dksJ5_checkIndex_0 1 rfl rfl)
theorem dJ5_checkIndex_2 : decode cJ5_checkIndex 2 = .ok (.getstatic 1053, 3) := dk_178 4 29 (dk_at dksJ5_checkIndex_0 2 rfl rfl)
theorem dJ5_checkIndex_5 : decode cJ5_checkIndex 5 = .ok (.invokestatic 1059, 3) := dk_184 4 35 (dk_at dksJ5_checkIndex_0 5 rfl rfl)
theorem dJ5_checkIndex_8 : decode cJ5_checkIndex 8 = .ok (.pop, 1) := dk_87 (dk_at dksJ5_checkIndex_0 8 rfl rfl)
theorem dJ5_checkIndex_9 : decode cJ5_checkIndex 9 = .ok (.return_, 1) := dk_177 (dk_at dksJ5_checkIndex_0 9 rfl rfl)
abbrev cJ5_charAt : ByteArray := prog_36_method_56_code
def yJ5_charAt : MethodName := ⟨RJ5, "charAt", "(I)C"⟩
def dkwJ5_charAt_1 : List UInt8 := [172]
abbrev dktJ5_charAt_1 : List UInt8 := dkwJ5_charAt_1 ++ []
def dkwJ5_charAt_0 : List UInt8 := [42, 182, 1, 236, 153, 0, 12, 42, 180, 0, 9, 27, 184, 1, 239, 172, 42, 180, 0, 9, 27, 184, 1, 242]
abbrev dktJ5_charAt_0 : List UInt8 := dkwJ5_charAt_0 ++ dktJ5_charAt_1
theorem dksJ5_charAt_0 : cJ5_charAt.data.toList.drop 0 = dktJ5_charAt_0 := by decide +kernel
theorem dksJ5_charAt_1 : cJ5_charAt.data.toList.drop 24 = dktJ5_charAt_1 := dk_seg dksJ5_charAt_0 24 rfl rfl
theorem dJ5_charAt_0 : decode cJ5_charAt 0 = .ok (.aload_n 0, 1) := dk_42 (dk_at dksJ5_charAt_0 0 rfl rfl)
theorem dJ5_charAt_1 : decode cJ5_charAt 1 = .ok (.invokevirtual 492, 3) := dk_182 1 236 (dk_at dksJ5_charAt_0 1 rfl rfl)
theorem dJ5_charAt_4 : decode cJ5_charAt 4 = .ok (.ifCond .eq 12, 3) := dk_153 0 12 (dk_at dksJ5_charAt_0 4 rfl rfl)
theorem dJ5_charAt_7 : decode cJ5_charAt 7 = .ok (.aload_n 0, 1) := dk_42 (dk_at dksJ5_charAt_0 7 rfl rfl)
theorem dJ5_charAt_8 : decode cJ5_charAt 8 = .ok (.getfield 9, 3) := dk_180 0 9 (dk_at dksJ5_charAt_0 8 rfl rfl)
theorem dJ5_charAt_11 : decode cJ5_charAt 11 = .ok (.iload_n 1, 1) := dk_27 (dk_at dksJ5_charAt_0 11 rfl rfl)
theorem dJ5_charAt_12 : decode cJ5_charAt 12 = .ok (.invokestatic 495, 3) := dk_184 1 239 (dk_at dksJ5_charAt_0 12 rfl rfl)
theorem dJ5_charAt_15 : decode cJ5_charAt 15 = .ok (.ireturn, 1) := dk_172 (dk_at dksJ5_charAt_0 15 rfl rfl)
theorem dJ5_charAt_16 : decode cJ5_charAt 16 = .ok (.aload_n 0, 1) := dk_42 (dk_at dksJ5_charAt_0 16 rfl rfl)
theorem dJ5_charAt_17 : decode cJ5_charAt 17 = .ok (.getfield 9, 3) := dk_180 0 9 (dk_at dksJ5_charAt_0 17 rfl rfl)
theorem dJ5_charAt_20 : decode cJ5_charAt 20 = .ok (.iload_n 1, 1) := dk_27 (dk_at dksJ5_charAt_0 20 rfl rfl)
theorem dJ5_charAt_21 : decode cJ5_charAt 21 = .ok (.invokestatic 498, 3) := dk_184 1 242 (dk_at dksJ5_charAt_0 21 rfl rfl)
theorem dJ5_charAt_24 : decode cJ5_charAt 24 = .ok (.ireturn, 1) := dk_172 (dk_at dksJ5_charAt_1 0 rfl rfl)
theorem q66 : (Jvm.Cond.initialized "java/lang/String") ∈ lw_all := lw_g (lw_at lw_m1 9 rfl) rfl
theorem q222 : (Jvm.Cond.selects "java/lang/String" ({ cls := "java/lang/Object", name := "hashCode", desc := "()I" } : Jvm.MethodName) ({ cls := "java/lang/String", name := "hashCode", desc := "()I" } : Jvm.MethodName)) ∈ lw_all := lw_g (lw_at lw_m1 165 rfl) rfl
theorem q223 : (Jvm.Cond.instanceMethod ({ cls := "java/lang/String", name := "hashCode", desc := "()I" } : Jvm.MethodName)) ∈ lw_all := lw_g (lw_at lw_m1 166 rfl) rfl
theorem q224 : (Jvm.Cond.code ({ cls := "java/lang/String", name := "hashCode", desc := "()I" } : Jvm.MethodName) prog_36_method_78_code (2 : Nat) (Option.some Jvm.ClassFile.FieldType.int)) ∈ lw_all := lw_g (lw_at lw_m1 167 rfl) rfl
theorem q225 : (Jvm.Cond.methodLink "java/lang/String" (492 : Nat) ({ cls := "java/lang/String", name := "isLatin1", desc := "()Z" } : Jvm.MethodName)) ∈ lw_all := lw_g (lw_at lw_m1 168 rfl) rfl
theorem q226 : (Jvm.Cond.instanceMethod ({ cls := "java/lang/String", name := "isLatin1", desc := "()Z" } : Jvm.MethodName)) ∈ lw_all := lw_g (lw_at lw_m1 169 rfl) rfl
theorem q227 : (Jvm.Cond.selects "java/lang/String" ({ cls := "java/lang/String", name := "isLatin1", desc := "()Z" } : Jvm.MethodName) ({ cls := "java/lang/String", name := "isLatin1", desc := "()Z" } : Jvm.MethodName)) ∈ lw_all := lw_g (lw_at lw_m1 170 rfl) rfl
theorem q228 : (Jvm.Cond.code ({ cls := "java/lang/String", name := "isLatin1", desc := "()Z" } : Jvm.MethodName) prog_36_method_154_code (1 : Nat) (Option.some Jvm.ClassFile.FieldType.boolean)) ∈ lw_all := lw_g (lw_at lw_m1 171 rfl) rfl
theorem q229 : (Jvm.Cond.fieldLink "java/lang/String" (38 : Nat) "java/lang/String" "COMPACT_STRINGS" "Z") ∈ lw_all := lw_g (lw_at lw_m1 172 rfl) rfl
theorem q230 : (Jvm.Cond.laysStatic "java/lang/String" "COMPACT_STRINGS" "Z") ∈ lw_tbl := lw_at lw_m1 173 rfl
theorem q231 : (Jvm.Cond.methodLink "java/lang/String" (628 : Nat) ({ cls := "java/lang/StringLatin1", name := "hashCode", desc := "([B)I" } : Jvm.MethodName)) ∈ lw_all := lw_g (lw_at lw_m1 174 rfl) rfl
theorem q344 : (Jvm.Cond.fieldLink "java/lang/String" (1048 : Nat) "java/lang/AbstractStringBuilder" "maybeLatin1" "Z") ∈ lw_all := lw_g (lw_at lw_m2 47 rfl) rfl
theorem q415 : (Jvm.Cond.static ({ cls := "java/lang/String", name := "checkBoundsBeginEnd", desc := "(III)V" } : Jvm.MethodName)) ∈ lw_all := lw_g (lw_at lw_m2 118 rfl) rfl
theorem q416 : (Jvm.Cond.code ({ cls := "java/lang/String", name := "checkBoundsBeginEnd", desc := "(III)V" } : Jvm.MethodName) prog_36_method_158_code (3 : Nat) (Option.none : Option Jvm.ClassFile.FieldType)) ∈ lw_all := lw_g (lw_at lw_m2 119 rfl) rfl
theorem q417 : (Jvm.Cond.fieldLink "java/lang/String" (1053 : Nat) "jdk/internal/util/Preconditions" "SIOOBE_FORMATTER" "Ljava/util/function/BiFunction;") ∈ lw_all := lw_g (lw_at lw_m2 120 rfl) rfl
theorem q419 : (Jvm.Cond.methodLink "java/lang/String" (1062 : Nat) ({ cls := "jdk/internal/util/Preconditions", name := "checkFromToIndex", desc := "(IIILjava/util/function/BiFunction;)I" } : Jvm.MethodName)) ∈ lw_all := lw_g (lw_at lw_m2 122 rfl) rfl
theorem q426 : (Jvm.Cond.instanceMethod ({ cls := "java/lang/String", name := "length", desc := "()I" } : Jvm.MethodName)) ∈ lw_all := lw_g (lw_at lw_m2 129 rfl) rfl
theorem q427 : (Jvm.Cond.selects "java/lang/String" ({ cls := "java/lang/String", name := "length", desc := "()I" } : Jvm.MethodName) ({ cls := "java/lang/String", name := "length", desc := "()I" } : Jvm.MethodName)) ∈ lw_all := lw_g (lw_at lw_m2 130 rfl) rfl
theorem q428 : (Jvm.Cond.code ({ cls := "java/lang/String", name := "length", desc := "()I" } : Jvm.MethodName) prog_36_method_54_code (1 : Nat) (Option.some Jvm.ClassFile.FieldType.int)) ∈ lw_all := lw_g (lw_at lw_m2 131 rfl) rfl
theorem q429 : (Jvm.Cond.methodLink "java/lang/String" (335 : Nat) ({ cls := "java/lang/String", name := "coder", desc := "()B" } : Jvm.MethodName)) ∈ lw_all := lw_g (lw_at lw_m2 132 rfl) rfl
theorem q430 : (Jvm.Cond.instanceMethod ({ cls := "java/lang/String", name := "coder", desc := "()B" } : Jvm.MethodName)) ∈ lw_all := lw_g (lw_at lw_m2 133 rfl) rfl
theorem q431 : (Jvm.Cond.selects "java/lang/String" ({ cls := "java/lang/String", name := "coder", desc := "()B" } : Jvm.MethodName) ({ cls := "java/lang/String", name := "coder", desc := "()B" } : Jvm.MethodName)) ∈ lw_all := lw_g (lw_at lw_m2 134 rfl) rfl
theorem q432 : (Jvm.Cond.code ({ cls := "java/lang/String", name := "coder", desc := "()B" } : Jvm.MethodName) prog_36_method_152_code (1 : Nat) (Option.some Jvm.ClassFile.FieldType.byte)) ∈ lw_all := lw_g (lw_at lw_m2 135 rfl) rfl
theorem q456 : (Jvm.Cond.static ({ cls := "java/lang/String", name := "checkBoundsOffCount", desc := "(III)I" } : Jvm.MethodName)) ∈ lw_all := lw_g (lw_at lw_m2 159 rfl) rfl
theorem q457 : (Jvm.Cond.code ({ cls := "java/lang/String", name := "checkBoundsOffCount", desc := "(III)I" } : Jvm.MethodName) prog_36_method_157_code (3 : Nat) (Option.some Jvm.ClassFile.FieldType.int)) ∈ lw_all := lw_g (lw_at lw_m2 160 rfl) rfl
theorem q458 : (Jvm.Cond.methodLink "java/lang/String" (1065 : Nat) ({ cls := "jdk/internal/util/Preconditions", name := "checkFromIndexSize", desc := "(IIILjava/util/function/BiFunction;)I" } : Jvm.MethodName)) ∈ lw_all := lw_g (lw_at lw_m2 161 rfl) rfl
theorem q462 : (Jvm.Cond.instanceMethod ({ cls := "java/lang/String", name := "getBytes", desc := "([BIB)V" } : Jvm.MethodName)) ∈ lw_all := lw_g (lw_at lw_m2 165 rfl) rfl
theorem q463 : (Jvm.Cond.selects "java/lang/String" ({ cls := "java/lang/String", name := "getBytes", desc := "([BIB)V" } : Jvm.MethodName) ({ cls := "java/lang/String", name := "getBytes", desc := "([BIB)V" } : Jvm.MethodName)) ∈ lw_all := lw_g (lw_at lw_m2 166 rfl) rfl
theorem q464 : (Jvm.Cond.code ({ cls := "java/lang/String", name := "getBytes", desc := "([BIB)V" } : Jvm.MethodName) prog_36_method_147_code (4 : Nat) (Option.none : Option Jvm.ClassFile.FieldType)) ∈ lw_all := lw_g (lw_at lw_m2 167 rfl) rfl
theorem q465 : (Jvm.Cond.methodLink "java/lang/String" (212 : Nat) ({ cls := "java/lang/System", name := "arraycopy", desc := "(Ljava/lang/Object;ILjava/lang/Object;II)V" } : Jvm.MethodName)) ∈ lw_all := lw_g (lw_at lw_m2 168 rfl) rfl
theorem q466 : (Jvm.Cond.methodLink "java/lang/String" (106 : Nat) ({ cls := "java/lang/StringLatin1", name := "inflate", desc := "([BI[BII)V" } : Jvm.MethodName)) ∈ lw_all := lw_g (lw_at lw_m2 169 rfl) rfl
theorem q497 : (Jvm.Cond.instantiable "java/lang/String" (4 : Nat)) ∈ lw_all := lw_g (lw_at lw_m2 200 rfl) rfl
theorem q499 : (Jvm.Cond.instanceMethod ({ cls := "java/lang/String", name := "<init>", desc := "(Ljava/lang/StringBuilder;)V" } : Jvm.MethodName)) ∈ lw_all := lw_g (lw_at lw_m2 202 rfl) rfl
theorem q500 : (Jvm.Cond.code ({ cls := "java/lang/String", name := "<init>", desc := "(Ljava/lang/StringBuilder;)V" } : Jvm.MethodName) prog_36_method_53_code (2 : Nat) (Option.none : Option Jvm.ClassFile.FieldType)) ∈ lw_all := lw_g (lw_at lw_m2 203 rfl) rfl
theorem q501 : (Jvm.Cond.methodLink "java/lang/String" (489 : Nat) ({ cls := "java/lang/String", name := "<init>", desc := "(Ljava/lang/AbstractStringBuilder;Ljava/lang/Void;)V" } : Jvm.MethodName)) ∈ lw_all := lw_g (lw_at lw_m2 204 rfl) rfl
theorem q502 : (Jvm.Cond.instanceMethod ({ cls := "java/lang/String", name := "<init>", desc := "(Ljava/lang/AbstractStringBuilder;Ljava/lang/Void;)V" } : Jvm.MethodName)) ∈ lw_all := lw_g (lw_at lw_m2 205 rfl) rfl
theorem q503 : (Jvm.Cond.code ({ cls := "java/lang/String", name := "<init>", desc := "(Ljava/lang/AbstractStringBuilder;Ljava/lang/Void;)V" } : Jvm.MethodName) prog_36_method_150_code (5 : Nat) (Option.none : Option Jvm.ClassFile.FieldType)) ∈ lw_all := lw_g (lw_at lw_m2 206 rfl) rfl
theorem q504 : (Jvm.Cond.methodLink "java/lang/String" (1 : Nat) ({ cls := "java/lang/Object", name := "<init>", desc := "()V" } : Jvm.MethodName)) ∈ lw_all := lw_g (lw_at lw_m2 207 rfl) rfl
theorem q505 : (Jvm.Cond.methodLink "java/lang/String" (552 : Nat) ({ cls := "java/lang/AbstractStringBuilder", name := "getValue", desc := "()[B" } : Jvm.MethodName)) ∈ lw_all := lw_g (lw_at lw_m2 208 rfl) rfl
theorem q510 : (Jvm.Cond.methodLink "java/lang/String" (549 : Nat) ({ cls := "java/lang/AbstractStringBuilder", name := "length", desc := "()I" } : Jvm.MethodName)) ∈ lw_all := lw_g (lw_at lw_m2 213 rfl) rfl
theorem q518 : (Jvm.Cond.methodLink "java/lang/String" (1047 : Nat) ({ cls := "java/lang/AbstractStringBuilder", name := "isLatin1", desc := "()Z" } : Jvm.MethodName)) ∈ lw_all := lw_g (lw_at lw_m2 221 rfl) rfl
theorem q519 : (Jvm.Cond.methodLink "java/lang/String" (54 : Nat) ({ cls := "java/util/Arrays", name := "copyOfRange", desc := "([BII)[B" } : Jvm.MethodName)) ∈ lw_all := lw_g (lw_at lw_m2 222 rfl) rfl
theorem q560 : (Jvm.Cond.methodLink "java/lang/String" (1051 : Nat) ({ cls := "java/lang/StringUTF16", name := "compress", desc := "([BII)[B" } : Jvm.MethodName)) ∈ lw_all := lw_g (lw_at lw_m3 23 rfl) rfl
theorem q568 : (Jvm.Cond.methodLink "java/lang/String" (47 : Nat) ({ cls := "java/lang/StringUTF16", name := "coderFromArrayLen", desc := "([BI)B" } : Jvm.MethodName)) ∈ lw_all := lw_g (lw_at lw_m3 31 rfl) rfl
theorem q571 : (Jvm.Cond.fieldLink "java/lang/String" (9 : Nat) "java/lang/String" "value" "[B") ∈ lw_all := lw_g (lw_at lw_m3 34 rfl) rfl
theorem q572 : (Jvm.Cond.fieldLink "java/lang/String" (15 : Nat) "java/lang/String" "coder" "B") ∈ lw_all := lw_g (lw_at lw_m3 35 rfl) rfl
theorem q573 : (Jvm.Cond.fieldLink "java/lang/String" (19 : Nat) "java/lang/String" "hash" "I") ∈ lw_all := lw_g (lw_at lw_m3 36 rfl) rfl
theorem q574 : (Jvm.Cond.fieldLink "java/lang/String" (23 : Nat) "java/lang/String" "hashIsZero" "Z") ∈ lw_all := lw_g (lw_at lw_m3 37 rfl) rfl
theorem q575 : (Jvm.Cond.laysFinal "java/lang/String" "java/lang/String" "value" "[B") ∈ lw_all := lw_g (lw_at lw_m3 38 rfl) rfl
theorem q576 : (Jvm.Cond.soleField "java/lang/String" "value") ∈ lw_all := lw_g (lw_at lw_m3 39 rfl) rfl
theorem q577 : (Jvm.Cond.laysFinal "java/lang/String" "java/lang/String" "coder" "B") ∈ lw_all := lw_g (lw_at lw_m3 40 rfl) rfl
theorem q578 : (Jvm.Cond.soleField "java/lang/String" "coder") ∈ lw_all := lw_g (lw_at lw_m3 41 rfl) rfl
theorem q579 : (Jvm.Cond.lays "java/lang/String" "java/lang/String" "hash" "I") ∈ lw_all := lw_g (lw_at lw_m3 42 rfl) rfl
theorem q580 : (Jvm.Cond.soleField "java/lang/String" "hash") ∈ lw_all := lw_g (lw_at lw_m3 43 rfl) rfl
theorem q581 : (Jvm.Cond.lays "java/lang/String" "java/lang/String" "hashIsZero" "Z") ∈ lw_all := lw_g (lw_at lw_m3 44 rfl) rfl
theorem q582 : (Jvm.Cond.soleField "java/lang/String" "hashIsZero") ∈ lw_all := lw_g (lw_at lw_m3 45 rfl) rfl
theorem q583 : (Jvm.Cond.superclass "java/lang/String" "java/lang/Object") ∈ lw_all := lw_g (lw_at lw_m3 46 rfl) rfl
theorem q585 : (Jvm.Cond.methodLink "java/lang/String" (632 : Nat) ({ cls := "java/lang/StringUTF16", name := "hashCode", desc := "([B)I" } : Jvm.MethodName)) ∈ lw_all := lw_g (lw_at lw_m3 48 rfl) rfl
theorem q677 : (Jvm.Cond.selects "java/lang/String" ({ cls := "java/lang/Object", name := "getClass", desc := "()Ljava/lang/Class;" } : Jvm.MethodName) ({ cls := "java/lang/Object", name := "getClass", desc := "()Ljava/lang/Class;" } : Jvm.MethodName)) ∈ lw_all := lw_g (lw_at lw_m3 140 rfl) rfl
theorem q721 : (Jvm.Cond.castable "java/lang/String" "java/lang/Comparable") ∈ lw_tbl := lw_at lw_m3 184 rfl
theorem q722 : (Jvm.Cond.selects "java/lang/String" ({ cls := "java/lang/Comparable", name := "compareTo", desc := "(Ljava/lang/Object;)I" } : Jvm.MethodName) ({ cls := "java/lang/String", name := "compareTo", desc := "(Ljava/lang/Object;)I" } : Jvm.MethodName)) ∈ lw_all := lw_g (lw_at lw_m3 185 rfl) rfl
theorem q723 : (Jvm.Cond.unhidden "java/lang/String" "compareTo" "(Ljava/lang/Object;)I") ∈ lw_tbl := lw_at lw_m3 186 rfl
theorem q724 : (Jvm.Cond.instanceMethod ({ cls := "java/lang/String", name := "compareTo", desc := "(Ljava/lang/Object;)I" } : Jvm.MethodName)) ∈ lw_all := lw_g (lw_at lw_m3 187 rfl) rfl
theorem q725 : (Jvm.Cond.publicMethod ({ cls := "java/lang/String", name := "compareTo", desc := "(Ljava/lang/Object;)I" } : Jvm.MethodName)) ∈ lw_tbl := lw_at lw_m3 188 rfl
theorem q726 : (Jvm.Cond.code ({ cls := "java/lang/String", name := "compareTo", desc := "(Ljava/lang/Object;)I" } : Jvm.MethodName) prog_36_method_162_code (2 : Nat) (Option.some Jvm.ClassFile.FieldType.int)) ∈ lw_all := lw_g (lw_at lw_m3 189 rfl) rfl
theorem q727 : (Jvm.Cond.classLink "java/lang/String" (10 : Nat) "java/lang/String") ∈ lw_all := lw_g (lw_at lw_m3 190 rfl) rfl
theorem q728 : (Jvm.Cond.methodLink "java/lang/String" (1084 : Nat) ({ cls := "java/lang/String", name := "compareTo", desc := "(Ljava/lang/String;)I" } : Jvm.MethodName)) ∈ lw_all := lw_g (lw_at lw_m3 191 rfl) rfl
theorem q729 : (Jvm.Cond.instanceMethod ({ cls := "java/lang/String", name := "compareTo", desc := "(Ljava/lang/String;)I" } : Jvm.MethodName)) ∈ lw_all := lw_g (lw_at lw_m3 192 rfl) rfl
theorem q730 : (Jvm.Cond.selects "java/lang/String" ({ cls := "java/lang/String", name := "compareTo", desc := "(Ljava/lang/String;)I" } : Jvm.MethodName) ({ cls := "java/lang/String", name := "compareTo", desc := "(Ljava/lang/String;)I" } : Jvm.MethodName)) ∈ lw_all := lw_g (lw_at lw_m3 193 rfl) rfl
theorem q731 : (Jvm.Cond.code ({ cls := "java/lang/String", name := "compareTo", desc := "(Ljava/lang/String;)I" } : Jvm.MethodName) prog_36_method_71_code (5 : Nat) (Option.some Jvm.ClassFile.FieldType.int)) ∈ lw_all := lw_g (lw_at lw_m3 194 rfl) rfl
theorem q732 : (Jvm.Cond.methodLink "java/lang/String" (586 : Nat) ({ cls := "java/lang/StringLatin1", name := "compareTo", desc := "([B[B)I" } : Jvm.MethodName)) ∈ lw_all := lw_g (lw_at lw_m3 195 rfl) rfl
theorem q846 : (Jvm.Cond.methodLink "java/lang/String" (590 : Nat) ({ cls := "java/lang/StringUTF16", name := "compareTo", desc := "([B[B)I" } : Jvm.MethodName)) ∈ lw_all := lw_g (lw_at lw_m4 69 rfl) rfl
theorem q853 : (Jvm.Cond.methodLink "java/lang/String" (591 : Nat) ({ cls := "java/lang/StringLatin1", name := "compareToUTF16", desc := "([B[B)I" } : Jvm.MethodName)) ∈ lw_all := lw_g (lw_at lw_m4 76 rfl) rfl
theorem q864 : (Jvm.Cond.methodLink "java/lang/String" (594 : Nat) ({ cls := "java/lang/StringUTF16", name := "compareToLatin1", desc := "([B[B)I" } : Jvm.MethodName)) ∈ lw_all := lw_g (lw_at lw_m4 87 rfl) rfl
theorem q890 : (Jvm.Cond.static ({ cls := "java/lang/String", name := "checkOffset", desc := "(II)V" } : Jvm.MethodName)) ∈ lw_all := lw_g (lw_at lw_m4 113 rfl) rfl
theorem q891 : (Jvm.Cond.code ({ cls := "java/lang/String", name := "checkOffset", desc := "(II)V" } : Jvm.MethodName) prog_36_method_156_code (2 : Nat) (Option.none : Option Jvm.ClassFile.FieldType)) ∈ lw_all := lw_g (lw_at lw_m4 114 rfl) rfl
theorem q950 : (Jvm.Cond.selects "java/lang/String" ({ cls := "java/lang/Object", name := "equals", desc := "(Ljava/lang/Object;)Z" } : Jvm.MethodName) ({ cls := "java/lang/String", name := "equals", desc := "(Ljava/lang/Object;)Z" } : Jvm.MethodName)) ∈ lw_all := lw_g (lw_at lw_m4 173 rfl) rfl
theorem q951 : (Jvm.Cond.instanceMethod ({ cls := "java/lang/String", name := "equals", desc := "(Ljava/lang/Object;)Z" } : Jvm.MethodName)) ∈ lw_all := lw_g (lw_at lw_m4 174 rfl) rfl
theorem q952 : (Jvm.Cond.code ({ cls := "java/lang/String", name := "equals", desc := "(Ljava/lang/Object;)Z" } : Jvm.MethodName) prog_36_method_66_code (3 : Nat) (Option.some Jvm.ClassFile.FieldType.boolean)) ∈ lw_all := lw_g (lw_at lw_m4 175 rfl) rfl
theorem q953 : (Jvm.Cond.methodLink "java/lang/String" (541 : Nat) ({ cls := "java/lang/StringLatin1", name := "equals", desc := "([B[B)Z" } : Jvm.MethodName)) ∈ lw_all := lw_g (lw_at lw_m4 176 rfl) rfl
theorem q1696 : (Jvm.Cond.instanceMethod ({ cls := "java/lang/String", name := "indexOf", desc := "(I)I" } : Jvm.MethodName)) ∈ lw_all := lw_g (lw_at lw_m7 199 rfl) rfl
theorem q1697 : (Jvm.Cond.selects "java/lang/String" ({ cls := "java/lang/String", name := "indexOf", desc := "(I)I" } : Jvm.MethodName) ({ cls := "java/lang/String", name := "indexOf", desc := "(I)I" } : Jvm.MethodName)) ∈ lw_all := lw_g (lw_at lw_m7 200 rfl) rfl
theorem q1698 : (Jvm.Cond.code ({ cls := "java/lang/String", name := "indexOf", desc := "(I)I" } : Jvm.MethodName) prog_36_method_79_code (2 : Nat) (Option.some Jvm.ClassFile.FieldType.int)) ∈ lw_all := lw_g (lw_at lw_m7 201 rfl) rfl
theorem q1699 : (Jvm.Cond.methodLink "java/lang/String" (633 : Nat) ({ cls := "java/lang/String", name := "indexOf", desc := "(II)I" } : Jvm.MethodName)) ∈ lw_all := lw_g (lw_at lw_m7 202 rfl) rfl
theorem q1700 : (Jvm.Cond.instanceMethod ({ cls := "java/lang/String", name := "indexOf", desc := "(II)I" } : Jvm.MethodName)) ∈ lw_all := lw_g (lw_at lw_m7 203 rfl) rfl
theorem q1701 : (Jvm.Cond.selects "java/lang/String" ({ cls := "java/lang/String", name := "indexOf", desc := "(II)I" } : Jvm.MethodName) ({ cls := "java/lang/String", name := "indexOf", desc := "(II)I" } : Jvm.MethodName)) ∈ lw_all := lw_g (lw_at lw_m7 204 rfl) rfl
theorem q1702 : (Jvm.Cond.code ({ cls := "java/lang/String", name := "indexOf", desc := "(II)I" } : Jvm.MethodName) prog_36_method_80_code (3 : Nat) (Option.some Jvm.ClassFile.FieldType.int)) ∈ lw_all := lw_g (lw_at lw_m7 205 rfl) rfl
theorem q1703 : (Jvm.Cond.methodLink "java/lang/String" (505 : Nat) ({ cls := "java/lang/String", name := "length", desc := "()I" } : Jvm.MethodName)) ∈ lw_all := lw_g (lw_at lw_m7 206 rfl) rfl
theorem q1704 : (Jvm.Cond.methodLink "java/lang/String" (637 : Nat) ({ cls := "java/lang/StringLatin1", name := "indexOf", desc := "([BIII)I" } : Jvm.MethodName)) ∈ lw_all := lw_g (lw_at lw_m7 207 rfl) rfl
theorem q1714 : (Jvm.Cond.methodLink "java/lang/String" (640 : Nat) ({ cls := "java/lang/StringUTF16", name := "indexOf", desc := "([BIII)I" } : Jvm.MethodName)) ∈ lw_all := lw_g (lw_at lw_m7 217 rfl) rfl
theorem q1807 : (Jvm.Cond.static ({ cls := "java/lang/String", name := "checkIndex", desc := "(II)V" } : Jvm.MethodName)) ∈ lw_all := lw_g (lw_at lw_m8 70 rfl) rfl
theorem q1808 : (Jvm.Cond.code ({ cls := "java/lang/String", name := "checkIndex", desc := "(II)V" } : Jvm.MethodName) prog_36_method_155_code (2 : Nat) (Option.none : Option Jvm.ClassFile.FieldType)) ∈ lw_all := lw_g (lw_at lw_m8 71 rfl) rfl
theorem q1809 : (Jvm.Cond.methodLink "java/lang/String" (1059 : Nat) ({ cls := "jdk/internal/util/Preconditions", name := "checkIndex", desc := "(IILjava/util/function/BiFunction;)I" } : Jvm.MethodName)) ∈ lw_all := lw_g (lw_at lw_m8 72 rfl) rfl
theorem q2032 : (Jvm.Cond.instanceMethod ({ cls := "java/lang/String", name := "charAt", desc := "(I)C" } : Jvm.MethodName)) ∈ lw_all := lw_g (lw_at lw_m9 55 rfl) rfl
theorem q2033 : (Jvm.Cond.selects "java/lang/String" ({ cls := "java/lang/String", name := "charAt", desc := "(I)C" } : Jvm.MethodName) ({ cls := "java/lang/String", name := "charAt", desc := "(I)C" } : Jvm.MethodName)) ∈ lw_all := lw_g (lw_at lw_m9 56 rfl) rfl
theorem q2034 : (Jvm.Cond.code ({ cls := "java/lang/String", name := "charAt", desc := "(I)C" } : Jvm.MethodName) prog_36_method_56_code (2 : Nat) (Option.some Jvm.ClassFile.FieldType.char)) ∈ lw_all := lw_g (lw_at lw_m9 57 rfl) rfl
theorem q2035 : (Jvm.Cond.methodLink "java/lang/String" (495 : Nat) ({ cls := "java/lang/StringLatin1", name := "charAt", desc := "([BI)C" } : Jvm.MethodName)) ∈ lw_all := lw_g (lw_at lw_m9 58 rfl) rfl
theorem q2039 : (Jvm.Cond.methodLink "java/lang/String" (498 : Nat) ({ cls := "java/lang/StringUTF16", name := "charAt", desc := "([BI)C" } : Jvm.MethodName)) ∈ lw_all := lw_g (lw_at lw_m9 62 rfl) rfl
theorem q2760 : (Jvm.Cond.castable "java/lang/String" "java/lang/Object") ∈ lw_tbl := lw_at lw_m12 63 rfl
abbrev cJ6_hashCode : ByteArray := prog_38_method_21_code
def yJ6_hashCode : MethodName := ⟨RJ6, "hashCode", "([B)I"⟩
def dkwJ6_hashCode_2 : List UInt8 := [3, 167, 0, 22, 42, 3, 51, 17, 0, 255, 126, 167, 0, 12, 42, 3, 42, 190, 3, 7, 184, 0, 84, 172]
abbrev dktJ6_hashCode_2 : List UInt8 := dkwJ6_hashCode_2 ++ []
def dkwJ6_hashCode_1 : List UInt8 := [171, 0, 0, 0, 0, 40, 0, 0, 0, 2, 0, 0, 0, 0, 0, 0, 0, 26, 0, 0, 0, 1, 0, 0, 0, 30]
abbrev dktJ6_hashCode_1 : List UInt8 := dkwJ6_hashCode_1 ++ dktJ6_hashCode_2
def dkwJ6_hashCode_0 : List UInt8 := [42, 190]
abbrev dktJ6_hashCode_0 : List UInt8 := dkwJ6_hashCode_0 ++ dktJ6_hashCode_1
theorem dksJ6_hashCode_0 : cJ6_hashCode.data.toList.drop 0 = dktJ6_hashCode_0 := by decide +kernel
theorem dksJ6_hashCode_1 : cJ6_hashCode.data.toList.drop 2 = dktJ6_hashCode_1 := dk_seg dksJ6_hashCode_0 2 rfl rfl
theorem dksJ6_hashCode_2 : cJ6_hashCode.data.toList.drop 28 = dktJ6_hashCode_2 := dk_seg dksJ6_hashCode_1 26 rfl rfl
theorem dJ6_hashCode_0 : decode cJ6_hashCode 0 = .ok (.aload_n 0, 1) := dk_42 (dk_at dksJ6_hashCode_0 0 rfl rfl)
theorem dJ6_hashCode_1 : decode cJ6_hashCode 1 = .ok (.arraylength, 1) := dk_190 (dk_at dksJ6_hashCode_0 1 rfl rfl)
theorem dJ6_hashCode_2 : decode cJ6_hashCode 2 = .ok (.lookupswitch 40 #[(0, 26), (1, 30)], 26) := by decide +kernel
theorem dJ6_hashCode_28 : decode cJ6_hashCode 28 = .ok (.iconst 0, 1) := dk_3 (dk_at dksJ6_hashCode_2 0 rfl rfl)
theorem dJ6_hashCode_29 : decode cJ6_hashCode 29 = .ok (.goto 22, 3) := dk_167 0 22 (dk_at dksJ6_hashCode_2 1 rfl rfl)
theorem dJ6_hashCode_32 : decode cJ6_hashCode 32 = .ok (.aload_n 0, 1) := dk_42 (dk_at dksJ6_hashCode_2 4 rfl rfl)
theorem dJ6_hashCode_33 : decode cJ6_hashCode 33 = .ok (.iconst 0, 1) := dk_3 (dk_at dksJ6_hashCode_2 5 rfl rfl)
theorem dJ6_hashCode_34 : decode cJ6_hashCode 34 = .ok (.baload, 1) := dk_51 (dk_at dksJ6_hashCode_2 6 rfl rfl)
theorem dJ6_hashCode_35 : decode cJ6_hashCode 35 = .ok (.sipush 255, 3) := dk_17 0 255 (dk_at dksJ6_hashCode_2 7 rfl rfl)
theorem dJ6_hashCode_38 : decode cJ6_hashCode 38 = .ok (.iand, 1) := dk_126 (dk_at dksJ6_hashCode_2 10 rfl rfl)
theorem dJ6_hashCode_39 : decode cJ6_hashCode 39 = .ok (.goto 12, 3) := dk_167 0 12 (dk_at dksJ6_hashCode_2 11 rfl rfl)
theorem dJ6_hashCode_42 : decode cJ6_hashCode 42 = .ok (.aload_n 0, 1) := dk_42 (dk_at dksJ6_hashCode_2 14 rfl rfl)
theorem dJ6_hashCode_43 : decode cJ6_hashCode 43 = .ok (.iconst 0, 1) := dk_3 (dk_at dksJ6_hashCode_2 15 rfl rfl)
theorem dJ6_hashCode_44 : decode cJ6_hashCode 44 = .ok (.aload_n 0, 1) := dk_42 (dk_at dksJ6_hashCode_2 16 rfl rfl)
theorem dJ6_hashCode_45 : decode cJ6_hashCode 45 = .ok (.arraylength, 1) := dk_190 (dk_at dksJ6_hashCode_2 17 rfl rfl)
theorem dJ6_hashCode_46 : decode cJ6_hashCode 46 = .ok (.iconst 0, 1) := dk_3 (dk_at dksJ6_hashCode_2 18 rfl rfl)
theorem dJ6_hashCode_47 : decode cJ6_hashCode 47 = .ok (.iconst 4, 1) := dk_7 (dk_at dksJ6_hashCode_2 19 rfl rfl)
theorem dJ6_hashCode_48 : decode cJ6_hashCode 48 = .ok (.invokestatic 84, 3) := dk_184 0 84 (dk_at dksJ6_hashCode_2 20 rfl rfl)
theorem dJ6_hashCode_51 : decode cJ6_hashCode 51 = .ok (.ireturn, 1) := dk_172 (dk_at dksJ6_hashCode_2 23 rfl rfl)
abbrev cJ6_inflate : ByteArray := prog_38_method_50_code
def yJ6_inflate : MethodName := ⟨RJ6, "inflate", "([BI[BII)V"⟩
def dkwJ6_inflate_0 : List UInt8 := [42, 27, 44, 29, 21, 4, 184, 0, 240, 177]
abbrev dktJ6_inflate_0 : List UInt8 := dkwJ6_inflate_0 ++ []
theorem dksJ6_inflate_0 : cJ6_inflate.data.toList.drop 0 = dktJ6_inflate_0 := by decide +kernel
theorem dJ6_inflate_0 : decode cJ6_inflate 0 = .ok (.aload_n 0, 1) := dk_42 (dk_at dksJ6_inflate_0 0 rfl rfl)
theorem dJ6_inflate_1 : decode cJ6_inflate 1 = .ok (.iload_n 1, 1) := dk_27 (dk_at dksJ6_inflate_0 1 rfl rfl)
theorem dJ6_inflate_2 : decode cJ6_inflate 2 = .ok (.aload_n 2, 1) := dk_44 (dk_at dksJ6_inflate_0 2 rfl rfl)
theorem dJ6_inflate_3 : decode cJ6_inflate 3 = .ok (.iload_n 3, 1) := dk_29 (dk_at dksJ6_inflate_0 3 rfl rfl)
theorem dJ6_inflate_4 : decode cJ6_inflate 4 = .ok (.iload 4, 2) := dk_21 4 (dk_at dksJ6_inflate_0 4 rfl rfl)
theorem dJ6_inflate_6 : decode cJ6_inflate 6 = .ok (.invokestatic 240, 3) := dk_184 0 240 (dk_at dksJ6_inflate_0 6 rfl rfl)
theorem dJ6_inflate_9 : decode cJ6_inflate 9 = .ok (.return_, 1) := dk_177 (dk_at dksJ6_inflate_0 9 rfl rfl)
abbrev cJ6_compareTo : ByteArray := prog_38_method_14_code
def yJ6_compareTo : MethodName := ⟨RJ6, "compareTo", "([B[B)I"⟩
def dkwJ6_compareTo_0 : List UInt8 := [42, 190, 61, 43, 190, 62, 42, 43, 28, 29, 184, 0, 34, 172]
abbrev dktJ6_compareTo_0 : List UInt8 := dkwJ6_compareTo_0 ++ []
theorem dksJ6_compareTo_0 : cJ6_compareTo.data.toList.drop 0 = dktJ6_compareTo_0 := by decide +kernel
theorem dJ6_compareTo_0 : decode cJ6_compareTo 0 = .ok (.aload_n 0, 1) := dk_42 (dk_at dksJ6_compareTo_0 0 rfl rfl)
theorem dJ6_compareTo_1 : decode cJ6_compareTo 1 = .ok (.arraylength, 1) := dk_190 (dk_at dksJ6_compareTo_0 1 rfl rfl)
theorem dJ6_compareTo_2 : decode cJ6_compareTo 2 = .ok (.istore_n 2, 1) := dk_61 (dk_at dksJ6_compareTo_0 2 rfl rfl)
theorem dJ6_compareTo_3 : decode cJ6_compareTo 3 = .ok (.aload_n 1, 1) := dk_43 (dk_at dksJ6_compareTo_0 3 rfl rfl)
theorem dJ6_compareTo_4 : decode cJ6_compareTo 4 = .ok (.arraylength, 1) := dk_190 (dk_at dksJ6_compareTo_0 4 rfl rfl)
theorem dJ6_compareTo_5 : decode cJ6_compareTo 5 = .ok (.istore_n 3, 1) := dk_62 (dk_at dksJ6_compareTo_0 5 rfl rfl)
theorem dJ6_compareTo_6 : decode cJ6_compareTo 6 = .ok (.aload_n 0, 1) := dk_42 (dk_at dksJ6_compareTo_0 6 rfl rfl)
theorem dJ6_compareTo_7 : decode cJ6_compareTo 7 = .ok (.aload_n 1, 1) := dk_43 (dk_at dksJ6_compareTo_0 7 rfl rfl)
theorem dJ6_compareTo_8 : decode cJ6_compareTo 8 = .ok (.iload_n 2, 1) := dk_28 (dk_at dksJ6_compareTo_0 8 rfl rfl)
theorem dJ6_compareTo_9 : decode cJ6_compareTo 9 = .ok (.iload_n 3, 1) := dk_29 (dk_at dksJ6_compareTo_0 9 rfl rfl)
theorem dJ6_compareTo_10 : decode cJ6_compareTo 10 = .ok (.invokestatic 34, 3) := dk_184 0 34 (dk_at dksJ6_compareTo_0 10 rfl rfl)
theorem dJ6_compareTo_13 : decode cJ6_compareTo 13 = .ok (.ireturn, 1) := dk_172 (dk_at dksJ6_compareTo_0 13 rfl rfl)
abbrev cJ6_compareTo_2 : ByteArray := prog_38_method_15_code
def yJ6_compareTo_2 : MethodName := ⟨RJ6, "compareTo", "([B[BII)I"⟩
def dkwJ6_compareTo_2_1 : List UInt8 := [167, 0, 16, 42, 21, 5, 184, 0, 50, 43, 21, 5, 184, 0, 50, 100, 172]
abbrev dktJ6_compareTo_2_1 : List UInt8 := dkwJ6_compareTo_2_1 ++ []
def dkwJ6_compareTo_2_0 : List UInt8 := [28, 29, 184, 0, 38, 54, 4, 42, 43, 21, 4, 184, 0, 44, 54, 5, 21, 5, 156, 0, 9, 28, 29, 100]
abbrev dktJ6_compareTo_2_0 : List UInt8 := dkwJ6_compareTo_2_0 ++ dktJ6_compareTo_2_1
theorem dksJ6_compareTo_2_0 : cJ6_compareTo_2.data.toList.drop 0 = dktJ6_compareTo_2_0 := by decide +kernel
theorem dksJ6_compareTo_2_1 : cJ6_compareTo_2.data.toList.drop 24 = dktJ6_compareTo_2_1 := dk_seg dksJ6_compareTo_2_0 24 rfl rfl
theorem dJ6_compareTo_2_0 : decode cJ6_compareTo_2 0 = .ok (.iload_n 2, 1) := dk_28 (dk_at dksJ6_compareTo_2_0 0 rfl rfl)
theorem dJ6_compareTo_2_1 : decode cJ6_compareTo_2 1 = .ok (.iload_n 3, 1) := dk_29 (dk_at dksJ6_compareTo_2_0 1 rfl rfl)
theorem dJ6_compareTo_2_2 : decode cJ6_compareTo_2 2 = .ok (.invokestatic 38, 3) := dk_184 0 38 (dk_at dksJ6_compareTo_2_0 2 rfl rfl)
theorem dJ6_compareTo_2_5 : decode cJ6_compareTo_2 5 = .ok (.istore 4, 2) := dk_54 4 (dk_at dksJ6_compareTo_2_0 5 rfl rfl)
theorem dJ6_compareTo_2_7 : decode cJ6_compareTo_2 7 = .ok (.aload_n 0, 1) := dk_42 (dk_at dksJ6_compareTo_2_0 7 rfl rfl)
theorem dJ6_compareTo_2_8 : decode cJ6_compareTo_2 8 = .ok (.aload_n 1, 1) := dk_43 (dk_at dksJ6_compareTo_2_0 8 rfl rfl)
theorem dJ6_compareTo_2_9 : decode cJ6_compareTo_2 9 = .ok (.iload 4, 2) := dk_21 4 (dk_at dksJ6_compareTo_2_0 9 rfl rfl)
theorem dJ6_compareTo_2_11 : decode cJ6_compareTo_2 11 = .ok (.invokestatic 44, 3) := dk_184 0 44 (dk_at dksJ6_compareTo_2_0 11 rfl rfl)
theorem dJ6_compareTo_2_14 : decode cJ6_compareTo_2 14 = .ok (.istore 5, 2) := dk_54 5 (dk_at dksJ6_compareTo_2_0 14 rfl rfl)
theorem dJ6_compareTo_2_16 : decode cJ6_compareTo_2 16 = .ok (.iload 5, 2) := dk_21 5 (dk_at dksJ6_compareTo_2_0 16 rfl rfl)
theorem dJ6_compareTo_2_18 : decode cJ6_compareTo_2 18 = .ok (.ifCond .ge 9, 3) := dk_156 0 9 (dk_at dksJ6_compareTo_2_0 18 rfl rfl)
theorem dJ6_compareTo_2_21 : decode cJ6_compareTo_2 21 = .ok (.iload_n 2, 1) := dk_28 (dk_at dksJ6_compareTo_2_0 21 rfl rfl)
theorem dJ6_compareTo_2_22 : decode cJ6_compareTo_2 22 = .ok (.iload_n 3, 1) := dk_29 (dk_at dksJ6_compareTo_2_0 22 rfl rfl)
theorem dJ6_compareTo_2_23 : decode cJ6_compareTo_2 23 = .ok (.isub, 1) := dk_100 (dk_at dksJ6_compareTo_2_0 23 rfl rfl)
theorem dJ6_compareTo_2_24 : decode cJ6_compareTo_2 24 = .ok (.goto 16, 3) := dk_167 0 16 (dk_at dksJ6_compareTo_2_1 0 rfl rfl)
theorem dJ6_compareTo_2_27 : decode cJ6_compareTo_2 27 = .ok (.aload_n 0, 1) := dk_42 (dk_at dksJ6_compareTo_2_1 3 rfl rfl)
theorem dJ6_compareTo_2_28 : decode cJ6_compareTo_2 28 = .ok (.iload 5, 2) := dk_21 5 (dk_at dksJ6_compareTo_2_1 4 rfl rfl)
theorem dJ6_compareTo_2_30 : decode cJ6_compareTo_2 30 = .ok (.invokestatic 50, 3) := dk_184 0 50 (dk_at dksJ6_compareTo_2_1 6 rfl rfl)
theorem dJ6_compareTo_2_33 : decode cJ6_compareTo_2 33 = .ok (.aload_n 1, 1) := dk_43 (dk_at dksJ6_compareTo_2_1 9 rfl rfl)
theorem dJ6_compareTo_2_34 : decode cJ6_compareTo_2 34 = .ok (.iload 5, 2) := dk_21 5 (dk_at dksJ6_compareTo_2_1 10 rfl rfl)
theorem dJ6_compareTo_2_36 : decode cJ6_compareTo_2 36 = .ok (.invokestatic 50, 3) := dk_184 0 50 (dk_at dksJ6_compareTo_2_1 12 rfl rfl)
theorem dJ6_compareTo_2_39 : decode cJ6_compareTo_2 39 = .ok (.isub, 1) := dk_100 (dk_at dksJ6_compareTo_2_1 15 rfl rfl)
theorem dJ6_compareTo_2_40 : decode cJ6_compareTo_2 40 = .ok (.ireturn, 1) := dk_172 (dk_at dksJ6_compareTo_2_1 16 rfl rfl)
abbrev cJ6_getChar : ByteArray := prog_38_method_44_code
def yJ6_getChar : MethodName := ⟨RJ6, "getChar", "([BI)C"⟩
def dkwJ6_getChar_0 : List UInt8 := [42, 27, 51, 17, 0, 255, 126, 146, 172]
abbrev dktJ6_getChar_0 : List UInt8 := dkwJ6_getChar_0 ++ []
theorem dksJ6_getChar_0 : cJ6_getChar.data.toList.drop 0 = dktJ6_getChar_0 := by decide +kernel
theorem dJ6_getChar_0 : decode cJ6_getChar 0 = .ok (.aload_n 0, 1) := dk_42 (dk_at dksJ6_getChar_0 0 rfl rfl)
theorem dJ6_getChar_1 : decode cJ6_getChar 1 = .ok (.iload_n 1, 1) := dk_27 (dk_at dksJ6_getChar_0 1 rfl rfl)
theorem dJ6_getChar_2 : decode cJ6_getChar 2 = .ok (.baload, 1) := dk_51 (dk_at dksJ6_getChar_0 2 rfl rfl)
theorem dJ6_getChar_3 : decode cJ6_getChar 3 = .ok (.sipush 255, 3) := dk_17 0 255 (dk_at dksJ6_getChar_0 3 rfl rfl)
theorem dJ6_getChar_6 : decode cJ6_getChar 6 = .ok (.iand, 1) := dk_126 (dk_at dksJ6_getChar_0 6 rfl rfl)
theorem dJ6_getChar_7 : decode cJ6_getChar 7 = .ok (.i2c, 1) := dk_146 (dk_at dksJ6_getChar_0 7 rfl rfl)
theorem dJ6_getChar_8 : decode cJ6_getChar 8 = .ok (.ireturn, 1) := dk_172 (dk_at dksJ6_getChar_0 8 rfl rfl)
abbrev cJ6_compareToUTF16 : ByteArray := prog_38_method_16_code
def yJ6_compareToUTF16 : MethodName := ⟨RJ6, "compareToUTF16", "([B[B)I"⟩
def dkwJ6_compareToUTF16_0 : List UInt8 := [42, 184, 0, 54, 61, 43, 184, 0, 58, 62, 42, 43, 28, 29, 184, 0, 59, 172]
abbrev dktJ6_compareToUTF16_0 : List UInt8 := dkwJ6_compareToUTF16_0 ++ []
theorem dksJ6_compareToUTF16_0 : cJ6_compareToUTF16.data.toList.drop 0 = dktJ6_compareToUTF16_0 := by decide +kernel
theorem dJ6_compareToUTF16_0 : decode cJ6_compareToUTF16 0 = .ok (.aload_n 0, 1) := dk_42 (dk_at dksJ6_compareToUTF16_0 0 rfl rfl)
theorem dJ6_compareToUTF16_1 : decode cJ6_compareToUTF16 1 = .ok (.invokestatic 54, 3) := dk_184 0 54 (dk_at dksJ6_compareToUTF16_0 1 rfl rfl)
theorem dJ6_compareToUTF16_4 : decode cJ6_compareToUTF16 4 = .ok (.istore_n 2, 1) := dk_61 (dk_at dksJ6_compareToUTF16_0 4 rfl rfl)
theorem dJ6_compareToUTF16_5 : decode cJ6_compareToUTF16 5 = .ok (.aload_n 1, 1) := dk_43 (dk_at dksJ6_compareToUTF16_0 5 rfl rfl)
theorem dJ6_compareToUTF16_6 : decode cJ6_compareToUTF16 6 = .ok (.invokestatic 58, 3) := dk_184 0 58 (dk_at dksJ6_compareToUTF16_0 6 rfl rfl)
theorem dJ6_compareToUTF16_9 : decode cJ6_compareToUTF16 9 = .ok (.istore_n 3, 1) := dk_62 (dk_at dksJ6_compareToUTF16_0 9 rfl rfl)
theorem dJ6_compareToUTF16_10 : decode cJ6_compareToUTF16 10 = .ok (.aload_n 0, 1) := dk_42 (dk_at dksJ6_compareToUTF16_0 10 rfl rfl)
theorem dJ6_compareToUTF16_11 : decode cJ6_compareToUTF16 11 = .ok (.aload_n 1, 1) := dk_43 (dk_at dksJ6_compareToUTF16_0 11 rfl rfl)
theorem dJ6_compareToUTF16_12 : decode cJ6_compareToUTF16 12 = .ok (.iload_n 2, 1) := dk_28 (dk_at dksJ6_compareToUTF16_0 12 rfl rfl)
theorem dJ6_compareToUTF16_13 : decode cJ6_compareToUTF16 13 = .ok (.iload_n 3, 1) := dk_29 (dk_at dksJ6_compareToUTF16_0 13 rfl rfl)
theorem dJ6_compareToUTF16_14 : decode cJ6_compareToUTF16 14 = .ok (.invokestatic 59, 3) := dk_184 0 59 (dk_at dksJ6_compareToUTF16_0 14 rfl rfl)
theorem dJ6_compareToUTF16_17 : decode cJ6_compareToUTF16 17 = .ok (.ireturn, 1) := dk_172 (dk_at dksJ6_compareToUTF16_0 17 rfl rfl)
abbrev cJ6_length : ByteArray := prog_38_method_5_code
def yJ6_length : MethodName := ⟨RJ6, "length", "([B)I"⟩
theorem dJ6_length_0 : decode cJ6_length 0 = .ok (.aload_n 0, 1) := by decide +kernel
theorem dJ6_length_1 : decode cJ6_length 1 = .ok (.arraylength, 1) := by decide +kernel
theorem dJ6_length_2 : decode cJ6_length 2 = .ok (.ireturn, 1) := by decide +kernel
abbrev cJ6_compareToUTF16Values : ByteArray := prog_38_method_18_code
def yJ6_compareToUTF16Values : MethodName := ⟨RJ6, "compareToUTF16Values", "([B[BII)I"⟩
def dkwJ6_compareToUTF16Values_2 : List UInt8 := [132, 5, 1, 167, 255, 217, 28, 29, 100, 172]
abbrev dktJ6_compareToUTF16Values_2 : List UInt8 := dkwJ6_compareToUTF16Values_2 ++ []
def dkwJ6_compareToUTF16Values_1 : List UInt8 := [54, 6, 43, 21, 5, 184, 0, 65, 54, 7, 21, 6, 21, 7, 159, 0, 9, 21, 6, 21, 7, 100, 172]
abbrev dktJ6_compareToUTF16Values_1 : List UInt8 := dkwJ6_compareToUTF16Values_1 ++ dktJ6_compareToUTF16Values_2
def dkwJ6_compareToUTF16Values_0 : List UInt8 := [28, 29, 184, 0, 38, 54, 4, 3, 54, 5, 21, 5, 21, 4, 162, 0, 38, 42, 21, 5, 184, 0, 50]
abbrev dktJ6_compareToUTF16Values_0 : List UInt8 := dkwJ6_compareToUTF16Values_0 ++ dktJ6_compareToUTF16Values_1
theorem dksJ6_compareToUTF16Values_0 : cJ6_compareToUTF16Values.data.toList.drop 0 = dktJ6_compareToUTF16Values_0 := by decide +kernel
theorem dksJ6_compareToUTF16Values_1 : cJ6_compareToUTF16Values.data.toList.drop 23 = dktJ6_compareToUTF16Values_1 := dk_seg dksJ6_compareToUTF16Values_0 23 rfl rfl
theorem dksJ6_compareToUTF16Values_2 : cJ6_compareToUTF16Values.data.toList.drop 46 = dktJ6_compareToUTF16Values_2 := dk_seg dksJ6_compareToUTF16Values_1 23 rfl rfl
theorem dJ6_compareToUTF16Values_0 : decode cJ6_compareToUTF16Values 0 = .ok (.iload_n 2, 1) := dk_28 (dk_at dksJ6_compareToUTF16Values_0 0 rfl rfl)
theorem dJ6_compareToUTF16Values_1 : decode cJ6_compareToUTF16Values 1 = .ok (.iload_n 3, 1) := dk_29 (dk_at dksJ6_compareToUTF16Values_0 1 rfl rfl)
theorem dJ6_compareToUTF16Values_2 : decode cJ6_compareToUTF16Values 2 = .ok (.invokestatic 38, 3) := dk_184 0 38 (dk_at dksJ6_compareToUTF16Values_0 2 rfl rfl)
theorem dJ6_compareToUTF16Values_5 : decode cJ6_compareToUTF16Values 5 = .ok (.istore 4, 2) := dk_54 4 (dk_at dksJ6_compareToUTF16Values_0 5 rfl rfl)
theorem dJ6_compareToUTF16Values_7 : decode cJ6_compareToUTF16Values 7 = .ok (.iconst 0, 1) := dk_3 (dk_at dksJ6_compareToUTF16Values_0 7 rfl rfl)
theorem dJ6_compareToUTF16Values_8 : decode cJ6_compareToUTF16Values 8 = .ok (.istore 5, 2) := dk_54 5 (dk_at dksJ6_compareToUTF16Values_0 8 rfl rfl)
theorem dJ6_compareToUTF16Values_10 : decode cJ6_compareToUTF16Values 10 = .ok (.iload 5, 2) := dk_21 5 (dk_at dksJ6_compareToUTF16Values_0 10 rfl rfl)
theorem dJ6_compareToUTF16Values_12 : decode cJ6_compareToUTF16Values 12 = .ok (.iload 4, 2) := dk_21 4 (dk_at dksJ6_compareToUTF16Values_0 12 rfl rfl)
theorem dJ6_compareToUTF16Values_14 : decode cJ6_compareToUTF16Values 14 = .ok (.if_icmp .ge 38, 3) := dk_162 0 38 (dk_at dksJ6_compareToUTF16Values_0 14 rfl rfl)
theorem dJ6_compareToUTF16Values_17 : decode cJ6_compareToUTF16Values 17 = .ok (.aload_n 0, 1) := dk_42 (dk_at dksJ6_compareToUTF16Values_0 17 rfl rfl)
theorem dJ6_compareToUTF16Values_18 : decode cJ6_compareToUTF16Values 18 = .ok (.iload 5, 2) := dk_21 5 (dk_at dksJ6_compareToUTF16Values_0 18 rfl rfl)
theorem dJ6_compareToUTF16Values_20 : decode cJ6_compareToUTF16Values 20 = .ok (.invokestatic 50, 3) := dk_184 0 50 (dk_at dksJ6_compareToUTF16Values_0 20 rfl rfl)
theorem dJ6_compareToUTF16Values_23 : decode cJ6_compareToUTF16Values 23 = .ok (.istore 6, 2) := dk_54 6 (dk_at dksJ6_compareToUTF16Values_1 0 rfl rfl)
theorem dJ6_compareToUTF16Values_25 : decode cJ6_compareToUTF16Values 25 = .ok (.aload_n 1, 1) := dk_43 (dk_at dksJ6_compareToUTF16Values_1 2 rfl rfl)
theorem dJ6_compareToUTF16Values_26 : decode cJ6_compareToUTF16Values 26 = .ok (.iload 5, 2) := dk_21 5 (dk_at dksJ6_compareToUTF16Values_1 3 rfl rfl)
theorem dJ6_compareToUTF16Values_28 : decode cJ6_compareToUTF16Values 28 = .ok (.invokestatic 65, 3) := dk_184 0 65 (dk_at dksJ6_compareToUTF16Values_1 5 rfl rfl)
theorem dJ6_compareToUTF16Values_31 : decode cJ6_compareToUTF16Values 31 = .ok (.istore 7, 2) := dk_54 7 (dk_at dksJ6_compareToUTF16Values_1 8 rfl rfl)
theorem dJ6_compareToUTF16Values_33 : decode cJ6_compareToUTF16Values 33 = .ok (.iload 6, 2) := dk_21 6 (dk_at dksJ6_compareToUTF16Values_1 10 rfl rfl)
theorem dJ6_compareToUTF16Values_35 : decode cJ6_compareToUTF16Values 35 = .ok (.iload 7, 2) := dk_21 7 (dk_at dksJ6_compareToUTF16Values_1 12 rfl rfl)
theorem dJ6_compareToUTF16Values_37 : decode cJ6_compareToUTF16Values 37 = .ok (.if_icmp .eq 9, 3) := dk_159 0 9 (dk_at dksJ6_compareToUTF16Values_1 14 rfl rfl)
theorem dJ6_compareToUTF16Values_40 : decode cJ6_compareToUTF16Values 40 = .ok (.iload 6, 2) := dk_21 6 (dk_at dksJ6_compareToUTF16Values_1 17 rfl rfl)
theorem dJ6_compareToUTF16Values_42 : decode cJ6_compareToUTF16Values 42 = .ok (.iload 7, 2) := dk_21 7 (dk_at dksJ6_compareToUTF16Values_1 19 rfl rfl)
theorem dJ6_compareToUTF16Values_44 : decode cJ6_compareToUTF16Values 44 = .ok (.isub, 1) := dk_100 (dk_at dksJ6_compareToUTF16Values_1 21 rfl rfl)
theorem dJ6_compareToUTF16Values_45 : decode cJ6_compareToUTF16Values 45 = .ok (.ireturn, 1) := dk_172 (dk_at dksJ6_compareToUTF16Values_1 22 rfl rfl)
theorem dJ6_compareToUTF16Values_46 : decode cJ6_compareToUTF16Values 46 = .ok (.iinc 5 1, 3) := dk_132 5 1 (dk_at dksJ6_compareToUTF16Values_2 0 rfl rfl)
theorem dJ6_compareToUTF16Values_49 : decode cJ6_compareToUTF16Values 49 = .ok (.goto (-39), 3) := dk_167 255 217 (dk_at dksJ6_compareToUTF16Values_2 3 rfl rfl)
theorem dJ6_compareToUTF16Values_52 : decode cJ6_compareToUTF16Values 52 = .ok (.iload_n 2, 1) := dk_28 (dk_at dksJ6_compareToUTF16Values_2 6 rfl rfl)
theorem dJ6_compareToUTF16Values_53 : decode cJ6_compareToUTF16Values 53 = .ok (.iload_n 3, 1) := dk_29 (dk_at dksJ6_compareToUTF16Values_2 7 rfl rfl)
theorem dJ6_compareToUTF16Values_54 : decode cJ6_compareToUTF16Values 54 = .ok (.isub, 1) := dk_100 (dk_at dksJ6_compareToUTF16Values_2 8 rfl rfl)
theorem dJ6_compareToUTF16Values_55 : decode cJ6_compareToUTF16Values 55 = .ok (.ireturn, 1) := dk_172 (dk_at dksJ6_compareToUTF16Values_2 9 rfl rfl)
abbrev cJ6_compareToUTF16_2 : ByteArray := prog_38_method_17_code
def yJ6_compareToUTF16_2 : MethodName := ⟨RJ6, "compareToUTF16", "([B[BII)I"⟩
def dkwJ6_compareToUTF16_2_0 : List UInt8 := [28, 42, 184, 0, 54, 184, 0, 62, 29, 43, 184, 0, 58, 184, 0, 62, 42, 43, 28, 29, 184, 0, 59, 172]
abbrev dktJ6_compareToUTF16_2_0 : List UInt8 := dkwJ6_compareToUTF16_2_0 ++ []
theorem dksJ6_compareToUTF16_2_0 : cJ6_compareToUTF16_2.data.toList.drop 0 = dktJ6_compareToUTF16_2_0 := by decide +kernel
theorem dJ6_compareToUTF16_2_0 : decode cJ6_compareToUTF16_2 0 = .ok (.iload_n 2, 1) := dk_28 (dk_at dksJ6_compareToUTF16_2_0 0 rfl rfl)
theorem dJ6_compareToUTF16_2_1 : decode cJ6_compareToUTF16_2 1 = .ok (.aload_n 0, 1) := dk_42 (dk_at dksJ6_compareToUTF16_2_0 1 rfl rfl)
theorem dJ6_compareToUTF16_2_2 : decode cJ6_compareToUTF16_2 2 = .ok (.invokestatic 54, 3) := dk_184 0 54 (dk_at dksJ6_compareToUTF16_2_0 2 rfl rfl)
theorem dJ6_compareToUTF16_2_5 : decode cJ6_compareToUTF16_2 5 = .ok (.invokestatic 62, 3) := dk_184 0 62 (dk_at dksJ6_compareToUTF16_2_0 5 rfl rfl)
theorem dJ6_compareToUTF16_2_8 : decode cJ6_compareToUTF16_2 8 = .ok (.iload_n 3, 1) := dk_29 (dk_at dksJ6_compareToUTF16_2_0 8 rfl rfl)
theorem dJ6_compareToUTF16_2_9 : decode cJ6_compareToUTF16_2 9 = .ok (.aload_n 1, 1) := dk_43 (dk_at dksJ6_compareToUTF16_2_0 9 rfl rfl)
theorem dJ6_compareToUTF16_2_10 : decode cJ6_compareToUTF16_2 10 = .ok (.invokestatic 58, 3) := dk_184 0 58 (dk_at dksJ6_compareToUTF16_2_0 10 rfl rfl)
theorem dJ6_compareToUTF16_2_13 : decode cJ6_compareToUTF16_2 13 = .ok (.invokestatic 62, 3) := dk_184 0 62 (dk_at dksJ6_compareToUTF16_2_0 13 rfl rfl)
theorem dJ6_compareToUTF16_2_16 : decode cJ6_compareToUTF16_2 16 = .ok (.aload_n 0, 1) := dk_42 (dk_at dksJ6_compareToUTF16_2_0 16 rfl rfl)
theorem dJ6_compareToUTF16_2_17 : decode cJ6_compareToUTF16_2 17 = .ok (.aload_n 1, 1) := dk_43 (dk_at dksJ6_compareToUTF16_2_0 17 rfl rfl)
theorem dJ6_compareToUTF16_2_18 : decode cJ6_compareToUTF16_2 18 = .ok (.iload_n 2, 1) := dk_28 (dk_at dksJ6_compareToUTF16_2_0 18 rfl rfl)
theorem dJ6_compareToUTF16_2_19 : decode cJ6_compareToUTF16_2 19 = .ok (.iload_n 3, 1) := dk_29 (dk_at dksJ6_compareToUTF16_2_0 19 rfl rfl)
theorem dJ6_compareToUTF16_2_20 : decode cJ6_compareToUTF16_2 20 = .ok (.invokestatic 59, 3) := dk_184 0 59 (dk_at dksJ6_compareToUTF16_2_0 20 rfl rfl)
theorem dJ6_compareToUTF16_2_23 : decode cJ6_compareToUTF16_2 23 = .ok (.ireturn, 1) := dk_172 (dk_at dksJ6_compareToUTF16_2_0 23 rfl rfl)
abbrev cJ6_equals : ByteArray := prog_38_method_13_code
def yJ6_equals : MethodName := ⟨RJ6, "equals", "([B[B)Z"⟩
def dkwJ6_equals_1 : List UInt8 := [3, 172, 132, 2, 1, 167, 255, 236, 4, 172, 3, 172]
abbrev dktJ6_equals_1 : List UInt8 := dkwJ6_equals_1 ++ []
def dkwJ6_equals_0 : List UInt8 := [42, 190, 43, 190, 160, 0, 30, 3, 61, 28, 42, 190, 162, 0, 20, 42, 28, 51, 43, 28, 51, 159, 0, 5]
abbrev dktJ6_equals_0 : List UInt8 := dkwJ6_equals_0 ++ dktJ6_equals_1
theorem dksJ6_equals_0 : cJ6_equals.data.toList.drop 0 = dktJ6_equals_0 := by decide +kernel
theorem dksJ6_equals_1 : cJ6_equals.data.toList.drop 24 = dktJ6_equals_1 := dk_seg dksJ6_equals_0 24 rfl rfl
theorem dJ6_equals_0 : decode cJ6_equals 0 = .ok (.aload_n 0, 1) := dk_42 (dk_at dksJ6_equals_0 0 rfl rfl)
theorem dJ6_equals_1 : decode cJ6_equals 1 = .ok (.arraylength, 1) := dk_190 (dk_at dksJ6_equals_0 1 rfl rfl)
theorem dJ6_equals_2 : decode cJ6_equals 2 = .ok (.aload_n 1, 1) := dk_43 (dk_at dksJ6_equals_0 2 rfl rfl)
theorem dJ6_equals_3 : decode cJ6_equals 3 = .ok (.arraylength, 1) := dk_190 (dk_at dksJ6_equals_0 3 rfl rfl)
theorem dJ6_equals_4 : decode cJ6_equals 4 = .ok (.if_icmp .ne 30, 3) := dk_160 0 30 (dk_at dksJ6_equals_0 4 rfl rfl)
theorem dJ6_equals_7 : decode cJ6_equals 7 = .ok (.iconst 0, 1) := dk_3 (dk_at dksJ6_equals_0 7 rfl rfl)
theorem dJ6_equals_8 : decode cJ6_equals 8 = .ok (.istore_n 2, 1) := dk_61 (dk_at dksJ6_equals_0 8 rfl rfl)
theorem dJ6_equals_9 : decode cJ6_equals 9 = .ok (.iload_n 2, 1) := dk_28 (dk_at dksJ6_equals_0 9 rfl rfl)
theorem dJ6_equals_10 : decode cJ6_equals 10 = .ok (.aload_n 0, 1) := dk_42 (dk_at dksJ6_equals_0 10 rfl rfl)
theorem dJ6_equals_11 : decode cJ6_equals 11 = .ok (.arraylength, 1) := dk_190 (dk_at dksJ6_equals_0 11 rfl rfl)
theorem dJ6_equals_12 : decode cJ6_equals 12 = .ok (.if_icmp .ge 20, 3) := dk_162 0 20 (dk_at dksJ6_equals_0 12 rfl rfl)
theorem dJ6_equals_15 : decode cJ6_equals 15 = .ok (.aload_n 0, 1) := dk_42 (dk_at dksJ6_equals_0 15 rfl rfl)
theorem dJ6_equals_16 : decode cJ6_equals 16 = .ok (.iload_n 2, 1) := dk_28 (dk_at dksJ6_equals_0 16 rfl rfl)
theorem dJ6_equals_17 : decode cJ6_equals 17 = .ok (.baload, 1) := dk_51 (dk_at dksJ6_equals_0 17 rfl rfl)
theorem dJ6_equals_18 : decode cJ6_equals 18 = .ok (.aload_n 1, 1) := dk_43 (dk_at dksJ6_equals_0 18 rfl rfl)
theorem dJ6_equals_19 : decode cJ6_equals 19 = .ok (.iload_n 2, 1) := dk_28 (dk_at dksJ6_equals_0 19 rfl rfl)
theorem dJ6_equals_20 : decode cJ6_equals 20 = .ok (.baload, 1) := dk_51 (dk_at dksJ6_equals_0 20 rfl rfl)
theorem dJ6_equals_21 : decode cJ6_equals 21 = .ok (.if_icmp .eq 5, 3) := dk_159 0 5 (dk_at dksJ6_equals_0 21 rfl rfl)
theorem dJ6_equals_24 : decode cJ6_equals 24 = .ok (.iconst 0, 1) := dk_3 (dk_at dksJ6_equals_1 0 rfl rfl)
theorem dJ6_equals_25 : decode cJ6_equals 25 = .ok (.ireturn, 1) := dk_172 (dk_at dksJ6_equals_1 1 rfl rfl)
theorem dJ6_equals_26 : decode cJ6_equals 26 = .ok (.iinc 2 1, 3) := dk_132 2 1 (dk_at dksJ6_equals_1 2 rfl rfl)
theorem dJ6_equals_29 : decode cJ6_equals 29 = .ok (.goto (-20), 3) := dk_167 255 236 (dk_at dksJ6_equals_1 5 rfl rfl)
theorem dJ6_equals_32 : decode cJ6_equals 32 = .ok (.iconst 1, 1) := dk_4 (dk_at dksJ6_equals_1 8 rfl rfl)
theorem dJ6_equals_33 : decode cJ6_equals 33 = .ok (.ireturn, 1) := dk_172 (dk_at dksJ6_equals_1 9 rfl rfl)
theorem dJ6_equals_34 : decode cJ6_equals 34 = .ok (.iconst 0, 1) := dk_3 (dk_at dksJ6_equals_1 10 rfl rfl)
theorem dJ6_equals_35 : decode cJ6_equals 35 = .ok (.ireturn, 1) := dk_172 (dk_at dksJ6_equals_1 11 rfl rfl)
abbrev cJ6_indexOf : ByteArray := prog_38_method_22_code
def yJ6_indexOf : MethodName := ⟨RJ6, "indexOf", "([BIII)I"⟩
def dkwJ6_indexOf_1 : List UInt8 := [161, 0, 5, 2, 172, 42, 27, 28, 29, 184, 0, 95, 172]
abbrev dktJ6_indexOf_1 : List UInt8 := dkwJ6_indexOf_1 ++ []
def dkwJ6_indexOf_0 : List UInt8 := [27, 184, 0, 88, 154, 0, 5, 2, 172, 28, 3, 184, 0, 92, 61, 29, 42, 190, 184, 0, 38, 62, 28, 29]
abbrev dktJ6_indexOf_0 : List UInt8 := dkwJ6_indexOf_0 ++ dktJ6_indexOf_1
theorem dksJ6_indexOf_0 : cJ6_indexOf.data.toList.drop 0 = dktJ6_indexOf_0 := by decide +kernel
theorem dksJ6_indexOf_1 : cJ6_indexOf.data.toList.drop 24 = dktJ6_indexOf_1 := dk_seg dksJ6_indexOf_0 24 rfl rfl
theorem dJ6_indexOf_0 : decode cJ6_indexOf 0 = .ok (.iload_n 1, 1) := dk_27 (dk_at dksJ6_indexOf_0 0 rfl rfl)
theorem dJ6_indexOf_1 : decode cJ6_indexOf 1 = .ok (.invokestatic 88, 3) := dk_184 0 88 (dk_at dksJ6_indexOf_0 1 rfl rfl)
theorem dJ6_indexOf_4 : decode cJ6_indexOf 4 = .ok (.ifCond .ne 5, 3) := dk_154 0 5 (dk_at dksJ6_indexOf_0 4 rfl rfl)
theorem dJ6_indexOf_7 : decode cJ6_indexOf 7 = .ok (.iconst (-1), 1) := dk_2 (dk_at dksJ6_indexOf_0 7 rfl rfl)
theorem dJ6_indexOf_8 : decode cJ6_indexOf 8 = .ok (.ireturn, 1) := dk_172 (dk_at dksJ6_indexOf_0 8 rfl rfl)
theorem dJ6_indexOf_9 : decode cJ6_indexOf 9 = .ok (.iload_n 2, 1) := dk_28 (dk_at dksJ6_indexOf_0 9 rfl rfl)
theorem dJ6_indexOf_10 : decode cJ6_indexOf 10 = .ok (.iconst 0, 1) := dk_3 (dk_at dksJ6_indexOf_0 10 rfl rfl)
theorem dJ6_indexOf_11 : decode cJ6_indexOf 11 = .ok (.invokestatic 92, 3) := dk_184 0 92 (dk_at dksJ6_indexOf_0 11 rfl rfl)
theorem dJ6_indexOf_14 : decode cJ6_indexOf 14 = .ok (.istore_n 2, 1) := dk_61 (dk_at dksJ6_indexOf_0 14 rfl rfl)
theorem dJ6_indexOf_15 : decode cJ6_indexOf 15 = .ok (.iload_n 3, 1) := dk_29 (dk_at dksJ6_indexOf_0 15 rfl rfl)
theorem dJ6_indexOf_16 : decode cJ6_indexOf 16 = .ok (.aload_n 0, 1) := dk_42 (dk_at dksJ6_indexOf_0 16 rfl rfl)
theorem dJ6_indexOf_17 : decode cJ6_indexOf 17 = .ok (.arraylength, 1) := dk_190 (dk_at dksJ6_indexOf_0 17 rfl rfl)
theorem dJ6_indexOf_18 : decode cJ6_indexOf 18 = .ok (.invokestatic 38, 3) := dk_184 0 38 (dk_at dksJ6_indexOf_0 18 rfl rfl)
theorem dJ6_indexOf_21 : decode cJ6_indexOf 21 = .ok (.istore_n 3, 1) := dk_62 (dk_at dksJ6_indexOf_0 21 rfl rfl)
theorem dJ6_indexOf_22 : decode cJ6_indexOf 22 = .ok (.iload_n 2, 1) := dk_28 (dk_at dksJ6_indexOf_0 22 rfl rfl)
theorem dJ6_indexOf_23 : decode cJ6_indexOf 23 = .ok (.iload_n 3, 1) := dk_29 (dk_at dksJ6_indexOf_0 23 rfl rfl)
theorem dJ6_indexOf_24 : decode cJ6_indexOf 24 = .ok (.if_icmp .lt 5, 3) := dk_161 0 5 (dk_at dksJ6_indexOf_1 0 rfl rfl)
theorem dJ6_indexOf_27 : decode cJ6_indexOf 27 = .ok (.iconst (-1), 1) := dk_2 (dk_at dksJ6_indexOf_1 3 rfl rfl)
theorem dJ6_indexOf_28 : decode cJ6_indexOf 28 = .ok (.ireturn, 1) := dk_172 (dk_at dksJ6_indexOf_1 4 rfl rfl)
theorem dJ6_indexOf_29 : decode cJ6_indexOf 29 = .ok (.aload_n 0, 1) := dk_42 (dk_at dksJ6_indexOf_1 5 rfl rfl)
theorem dJ6_indexOf_30 : decode cJ6_indexOf 30 = .ok (.iload_n 1, 1) := dk_27 (dk_at dksJ6_indexOf_1 6 rfl rfl)
theorem dJ6_indexOf_31 : decode cJ6_indexOf 31 = .ok (.iload_n 2, 1) := dk_28 (dk_at dksJ6_indexOf_1 7 rfl rfl)
theorem dJ6_indexOf_32 : decode cJ6_indexOf 32 = .ok (.iload_n 3, 1) := dk_29 (dk_at dksJ6_indexOf_1 8 rfl rfl)
theorem dJ6_indexOf_33 : decode cJ6_indexOf 33 = .ok (.invokestatic 95, 3) := dk_184 0 95 (dk_at dksJ6_indexOf_1 9 rfl rfl)
theorem dJ6_indexOf_36 : decode cJ6_indexOf 36 = .ok (.ireturn, 1) := dk_172 (dk_at dksJ6_indexOf_1 12 rfl rfl)
abbrev cJ6_canEncode : ByteArray := prog_38_method_4_code
def yJ6_canEncode : MethodName := ⟨RJ6, "canEncode", "(I)Z"⟩
def dkwJ6_canEncode_0 : List UInt8 := [26, 155, 0, 14, 26, 17, 0, 255, 163, 0, 7, 4, 167, 0, 4, 3, 172]
abbrev dktJ6_canEncode_0 : List UInt8 := dkwJ6_canEncode_0 ++ []
theorem dksJ6_canEncode_0 : cJ6_canEncode.data.toList.drop 0 = dktJ6_canEncode_0 := by decide +kernel
theorem dJ6_canEncode_0 : decode cJ6_canEncode 0 = .ok (.iload_n 0, 1) := dk_26 (dk_at dksJ6_canEncode_0 0 rfl rfl)
theorem dJ6_canEncode_1 : decode cJ6_canEncode 1 = .ok (.ifCond .lt 14, 3) := dk_155 0 14 (dk_at dksJ6_canEncode_0 1 rfl rfl)
theorem dJ6_canEncode_4 : decode cJ6_canEncode 4 = .ok (.iload_n 0, 1) := dk_26 (dk_at dksJ6_canEncode_0 4 rfl rfl)
theorem dJ6_canEncode_5 : decode cJ6_canEncode 5 = .ok (.sipush 255, 3) := dk_17 0 255 (dk_at dksJ6_canEncode_0 5 rfl rfl)
theorem dJ6_canEncode_8 : decode cJ6_canEncode 8 = .ok (.if_icmp .gt 7, 3) := dk_163 0 7 (dk_at dksJ6_canEncode_0 8 rfl rfl)
theorem dJ6_canEncode_11 : decode cJ6_canEncode 11 = .ok (.iconst 1, 1) := dk_4 (dk_at dksJ6_canEncode_0 11 rfl rfl)
theorem dJ6_canEncode_12 : decode cJ6_canEncode 12 = .ok (.goto 4, 3) := dk_167 0 4 (dk_at dksJ6_canEncode_0 12 rfl rfl)
theorem dJ6_canEncode_15 : decode cJ6_canEncode 15 = .ok (.iconst 0, 1) := dk_3 (dk_at dksJ6_canEncode_0 15 rfl rfl)
theorem dJ6_canEncode_16 : decode cJ6_canEncode 16 = .ok (.ireturn, 1) := dk_172 (dk_at dksJ6_canEncode_0 16 rfl rfl)
abbrev cJ6_indexOfChar : ByteArray := prog_38_method_23_code
def yJ6_indexOfChar : MethodName := ⟨RJ6, "indexOfChar", "([BIII)I"⟩
def dkwJ6_indexOfChar_1 : List UInt8 := [172, 132, 5, 1, 167, 255, 235, 2, 172]
abbrev dktJ6_indexOfChar_1 : List UInt8 := dkwJ6_indexOfChar_1 ++ []
def dkwJ6_indexOfChar_0 : List UInt8 := [27, 145, 54, 4, 28, 54, 5, 21, 5, 29, 162, 0, 21, 42, 21, 5, 51, 21, 4, 160, 0, 6, 21, 5]
abbrev dktJ6_indexOfChar_0 : List UInt8 := dkwJ6_indexOfChar_0 ++ dktJ6_indexOfChar_1
theorem dksJ6_indexOfChar_0 : cJ6_indexOfChar.data.toList.drop 0 = dktJ6_indexOfChar_0 := by decide +kernel
theorem dksJ6_indexOfChar_1 : cJ6_indexOfChar.data.toList.drop 24 = dktJ6_indexOfChar_1 := dk_seg dksJ6_indexOfChar_0 24 rfl rfl
theorem dJ6_indexOfChar_0 : decode cJ6_indexOfChar 0 = .ok (.iload_n 1, 1) := dk_27 (dk_at dksJ6_indexOfChar_0 0 rfl rfl)
theorem dJ6_indexOfChar_1 : decode cJ6_indexOfChar 1 = .ok (.i2b, 1) := dk_145 (dk_at dksJ6_indexOfChar_0 1 rfl rfl)
theorem dJ6_indexOfChar_2 : decode cJ6_indexOfChar 2 = .ok (.istore 4, 2) := dk_54 4 (dk_at dksJ6_indexOfChar_0 2 rfl rfl)
theorem dJ6_indexOfChar_4 : decode cJ6_indexOfChar 4 = .ok (.iload_n 2, 1) := dk_28 (dk_at dksJ6_indexOfChar_0 4 rfl rfl)
theorem dJ6_indexOfChar_5 : decode cJ6_indexOfChar 5 = .ok (.istore 5, 2) := dk_54 5 (dk_at dksJ6_indexOfChar_0 5 rfl rfl)
theorem dJ6_indexOfChar_7 : decode cJ6_indexOfChar 7 = .ok (.iload 5, 2) := dk_21 5 (dk_at dksJ6_indexOfChar_0 7 rfl rfl)
theorem dJ6_indexOfChar_9 : decode cJ6_indexOfChar 9 = .ok (.iload_n 3, 1) := dk_29 (dk_at dksJ6_indexOfChar_0 9 rfl rfl)
theorem dJ6_indexOfChar_10 : decode cJ6_indexOfChar 10 = .ok (.if_icmp .ge 21, 3) := dk_162 0 21 (dk_at dksJ6_indexOfChar_0 10 rfl rfl)
theorem dJ6_indexOfChar_13 : decode cJ6_indexOfChar 13 = .ok (.aload_n 0, 1) := dk_42 (dk_at dksJ6_indexOfChar_0 13 rfl rfl)
theorem dJ6_indexOfChar_14 : decode cJ6_indexOfChar 14 = .ok (.iload 5, 2) := dk_21 5 (dk_at dksJ6_indexOfChar_0 14 rfl rfl)
theorem dJ6_indexOfChar_16 : decode cJ6_indexOfChar 16 = .ok (.baload, 1) := dk_51 (dk_at dksJ6_indexOfChar_0 16 rfl rfl)
theorem dJ6_indexOfChar_17 : decode cJ6_indexOfChar 17 = .ok (.iload 4, 2) := dk_21 4 (dk_at dksJ6_indexOfChar_0 17 rfl rfl)
theorem dJ6_indexOfChar_19 : decode cJ6_indexOfChar 19 = .ok (.if_icmp .ne 6, 3) := dk_160 0 6 (dk_at dksJ6_indexOfChar_0 19 rfl rfl)
theorem dJ6_indexOfChar_22 : decode cJ6_indexOfChar 22 = .ok (.iload 5, 2) := dk_21 5 (dk_at dksJ6_indexOfChar_0 22 rfl rfl)
theorem dJ6_indexOfChar_24 : decode cJ6_indexOfChar 24 = .ok (.ireturn, 1) := dk_172 (dk_at dksJ6_indexOfChar_1 0 rfl rfl)
theorem dJ6_indexOfChar_25 : decode cJ6_indexOfChar 25 = .ok (.iinc 5 1, 3) := dk_132 5 1 (dk_at dksJ6_indexOfChar_1 1 rfl rfl)
theorem dJ6_indexOfChar_28 : decode cJ6_indexOfChar 28 = .ok (.goto (-21), 3) := dk_167 255 235 (dk_at dksJ6_indexOfChar_1 4 rfl rfl)
theorem dJ6_indexOfChar_31 : decode cJ6_indexOfChar 31 = .ok (.iconst (-1), 1) := dk_2 (dk_at dksJ6_indexOfChar_1 7 rfl rfl)
theorem dJ6_indexOfChar_32 : decode cJ6_indexOfChar 32 = .ok (.ireturn, 1) := dk_172 (dk_at dksJ6_indexOfChar_1 8 rfl rfl)
abbrev cJ6_canEncode_2 : ByteArray := prog_38_method_3_code
def yJ6_canEncode_2 : MethodName := ⟨RJ6, "canEncode", "(C)Z"⟩
def dkwJ6_canEncode_2_0 : List UInt8 := [26, 17, 0, 255, 163, 0, 7, 4, 167, 0, 4, 3, 172]
abbrev dktJ6_canEncode_2_0 : List UInt8 := dkwJ6_canEncode_2_0 ++ []
theorem dksJ6_canEncode_2_0 : cJ6_canEncode_2.data.toList.drop 0 = dktJ6_canEncode_2_0 := by decide +kernel
theorem dJ6_canEncode_2_0 : decode cJ6_canEncode_2 0 = .ok (.iload_n 0, 1) := dk_26 (dk_at dksJ6_canEncode_2_0 0 rfl rfl)
theorem dJ6_canEncode_2_1 : decode cJ6_canEncode_2 1 = .ok (.sipush 255, 3) := dk_17 0 255 (dk_at dksJ6_canEncode_2_0 1 rfl rfl)
theorem dJ6_canEncode_2_4 : decode cJ6_canEncode_2 4 = .ok (.if_icmp .gt 7, 3) := dk_163 0 7 (dk_at dksJ6_canEncode_2_0 4 rfl rfl)
theorem dJ6_canEncode_2_7 : decode cJ6_canEncode_2 7 = .ok (.iconst 1, 1) := dk_4 (dk_at dksJ6_canEncode_2_0 7 rfl rfl)
theorem dJ6_canEncode_2_8 : decode cJ6_canEncode_2 8 = .ok (.goto 4, 3) := dk_167 0 4 (dk_at dksJ6_canEncode_2_0 8 rfl rfl)
theorem dJ6_canEncode_2_11 : decode cJ6_canEncode_2 11 = .ok (.iconst 0, 1) := dk_3 (dk_at dksJ6_canEncode_2_0 11 rfl rfl)
theorem dJ6_canEncode_2_12 : decode cJ6_canEncode_2 12 = .ok (.ireturn, 1) := dk_172 (dk_at dksJ6_canEncode_2_0 12 rfl rfl)
abbrev cJ6_charAt : ByteArray := prog_38_method_2_code
def yJ6_charAt : MethodName := ⟨RJ6, "charAt", "([BI)C"⟩
def dkwJ6_charAt_0 : List UInt8 := [27, 42, 190, 184, 0, 9, 42, 27, 51, 17, 0, 255, 126, 146, 172]
abbrev dktJ6_charAt_0 : List UInt8 := dkwJ6_charAt_0 ++ []
theorem dksJ6_charAt_0 : cJ6_charAt.data.toList.drop 0 = dktJ6_charAt_0 := by decide +kernel
theorem dJ6_charAt_0 : decode cJ6_charAt 0 = .ok (.iload_n 1, 1) := dk_27 (dk_at dksJ6_charAt_0 0 rfl rfl)
theorem dJ6_charAt_1 : decode cJ6_charAt 1 = .ok (.aload_n 0, 1) := dk_42 (dk_at dksJ6_charAt_0 1 rfl rfl)
theorem dJ6_charAt_2 : decode cJ6_charAt 2 = .ok (.arraylength, 1) := dk_190 (dk_at dksJ6_charAt_0 2 rfl rfl)
theorem dJ6_charAt_3 : decode cJ6_charAt 3 = .ok (.invokestatic 9, 3) := dk_184 0 9 (dk_at dksJ6_charAt_0 3 rfl rfl)
theorem dJ6_charAt_6 : decode cJ6_charAt 6 = .ok (.aload_n 0, 1) := dk_42 (dk_at dksJ6_charAt_0 6 rfl rfl)
theorem dJ6_charAt_7 : decode cJ6_charAt 7 = .ok (.iload_n 1, 1) := dk_27 (dk_at dksJ6_charAt_0 7 rfl rfl)
theorem dJ6_charAt_8 : decode cJ6_charAt 8 = .ok (.baload, 1) := dk_51 (dk_at dksJ6_charAt_0 8 rfl rfl)
theorem dJ6_charAt_9 : decode cJ6_charAt 9 = .ok (.sipush 255, 3) := dk_17 0 255 (dk_at dksJ6_charAt_0 9 rfl rfl)
theorem dJ6_charAt_12 : decode cJ6_charAt 12 = .ok (.iand, 1) := dk_126 (dk_at dksJ6_charAt_0 12 rfl rfl)
theorem dJ6_charAt_13 : decode cJ6_charAt 13 = .ok (.i2c, 1) := dk_146 (dk_at dksJ6_charAt_0 13 rfl rfl)
theorem dJ6_charAt_14 : decode cJ6_charAt 14 = .ok (.ireturn, 1) := dk_172 (dk_at dksJ6_charAt_0 14 rfl rfl)
theorem q67 : (Jvm.Cond.initialized "java/lang/StringLatin1") ∈ lw_all := lw_g (lw_at lw_m1 10 rfl) rfl
theorem q232 : (Jvm.Cond.static ({ cls := "java/lang/StringLatin1", name := "hashCode", desc := "([B)I" } : Jvm.MethodName)) ∈ lw_all := lw_g (lw_at lw_m1 175 rfl) rfl
theorem q233 : (Jvm.Cond.code ({ cls := "java/lang/StringLatin1", name := "hashCode", desc := "([B)I" } : Jvm.MethodName) prog_38_method_21_code (1 : Nat) (Option.some Jvm.ClassFile.FieldType.int)) ∈ lw_all := lw_g (lw_at lw_m1 176 rfl) rfl
theorem q234 : (Jvm.Cond.methodLink "java/lang/StringLatin1" (84 : Nat) ({ cls := "jdk/internal/util/ArraysSupport", name := "vectorizedHashCode", desc := "(Ljava/lang/Object;IIII)I" } : Jvm.MethodName)) ∈ lw_all := lw_g (lw_at lw_m1 177 rfl) rfl
theorem q447 : (Jvm.Cond.static ({ cls := "java/lang/StringLatin1", name := "inflate", desc := "([BI[BII)V" } : Jvm.MethodName)) ∈ lw_all := lw_g (lw_at lw_m2 150 rfl) rfl
theorem q448 : (Jvm.Cond.code ({ cls := "java/lang/StringLatin1", name := "inflate", desc := "([BI[BII)V" } : Jvm.MethodName) prog_38_method_50_code (5 : Nat) (Option.none : Option Jvm.ClassFile.FieldType)) ∈ lw_all := lw_g (lw_at lw_m2 151 rfl) rfl
theorem q449 : (Jvm.Cond.methodLink "java/lang/StringLatin1" (240 : Nat) ({ cls := "java/lang/StringUTF16", name := "inflate", desc := "([BI[BII)V" } : Jvm.MethodName)) ∈ lw_all := lw_g (lw_at lw_m2 152 rfl) rfl
theorem q733 : (Jvm.Cond.static ({ cls := "java/lang/StringLatin1", name := "compareTo", desc := "([B[B)I" } : Jvm.MethodName)) ∈ lw_all := lw_g (lw_at lw_m3 196 rfl) rfl
theorem q734 : (Jvm.Cond.code ({ cls := "java/lang/StringLatin1", name := "compareTo", desc := "([B[B)I" } : Jvm.MethodName) prog_38_method_14_code (4 : Nat) (Option.some Jvm.ClassFile.FieldType.int)) ∈ lw_all := lw_g (lw_at lw_m3 197 rfl) rfl
theorem q735 : (Jvm.Cond.methodLink "java/lang/StringLatin1" (34 : Nat) ({ cls := "java/lang/StringLatin1", name := "compareTo", desc := "([B[BII)I" } : Jvm.MethodName)) ∈ lw_all := lw_g (lw_at lw_m3 198 rfl) rfl
theorem q736 : (Jvm.Cond.static ({ cls := "java/lang/StringLatin1", name := "compareTo", desc := "([B[BII)I" } : Jvm.MethodName)) ∈ lw_all := lw_g (lw_at lw_m3 199 rfl) rfl
theorem q737 : (Jvm.Cond.code ({ cls := "java/lang/StringLatin1", name := "compareTo", desc := "([B[BII)I" } : Jvm.MethodName) prog_38_method_15_code (6 : Nat) (Option.some Jvm.ClassFile.FieldType.int)) ∈ lw_all := lw_g (lw_at lw_m3 200 rfl) rfl
theorem q738 : (Jvm.Cond.methodLink "java/lang/StringLatin1" (38 : Nat) ({ cls := "java/lang/Math", name := "min", desc := "(II)I" } : Jvm.MethodName)) ∈ lw_all := lw_g (lw_at lw_m3 201 rfl) rfl
theorem q739 : (Jvm.Cond.methodLink "java/lang/StringLatin1" (44 : Nat) ({ cls := "jdk/internal/util/ArraysSupport", name := "mismatch", desc := "([B[BI)I" } : Jvm.MethodName)) ∈ lw_all := lw_g (lw_at lw_m3 202 rfl) rfl
theorem q843 : (Jvm.Cond.methodLink "java/lang/StringLatin1" (50 : Nat) ({ cls := "java/lang/StringLatin1", name := "getChar", desc := "([BI)C" } : Jvm.MethodName)) ∈ lw_all := lw_g (lw_at lw_m4 66 rfl) rfl
theorem q844 : (Jvm.Cond.static ({ cls := "java/lang/StringLatin1", name := "getChar", desc := "([BI)C" } : Jvm.MethodName)) ∈ lw_all := lw_g (lw_at lw_m4 67 rfl) rfl
theorem q845 : (Jvm.Cond.code ({ cls := "java/lang/StringLatin1", name := "getChar", desc := "([BI)C" } : Jvm.MethodName) prog_38_method_44_code (2 : Nat) (Option.some Jvm.ClassFile.FieldType.char)) ∈ lw_all := lw_g (lw_at lw_m4 68 rfl) rfl
theorem q854 : (Jvm.Cond.static ({ cls := "java/lang/StringLatin1", name := "compareToUTF16", desc := "([B[B)I" } : Jvm.MethodName)) ∈ lw_all := lw_g (lw_at lw_m4 77 rfl) rfl
theorem q855 : (Jvm.Cond.code ({ cls := "java/lang/StringLatin1", name := "compareToUTF16", desc := "([B[B)I" } : Jvm.MethodName) prog_38_method_16_code (4 : Nat) (Option.some Jvm.ClassFile.FieldType.int)) ∈ lw_all := lw_g (lw_at lw_m4 78 rfl) rfl
theorem q856 : (Jvm.Cond.methodLink "java/lang/StringLatin1" (54 : Nat) ({ cls := "java/lang/StringLatin1", name := "length", desc := "([B)I" } : Jvm.MethodName)) ∈ lw_all := lw_g (lw_at lw_m4 79 rfl) rfl
theorem q857 : (Jvm.Cond.static ({ cls := "java/lang/StringLatin1", name := "length", desc := "([B)I" } : Jvm.MethodName)) ∈ lw_all := lw_g (lw_at lw_m4 80 rfl) rfl
theorem q858 : (Jvm.Cond.code ({ cls := "java/lang/StringLatin1", name := "length", desc := "([B)I" } : Jvm.MethodName) prog_38_method_5_code (1 : Nat) (Option.some Jvm.ClassFile.FieldType.int)) ∈ lw_all := lw_g (lw_at lw_m4 81 rfl) rfl
theorem q859 : (Jvm.Cond.methodLink "java/lang/StringLatin1" (58 : Nat) ({ cls := "java/lang/StringUTF16", name := "length", desc := "([B)I" } : Jvm.MethodName)) ∈ lw_all := lw_g (lw_at lw_m4 82 rfl) rfl
theorem q860 : (Jvm.Cond.methodLink "java/lang/StringLatin1" (59 : Nat) ({ cls := "java/lang/StringLatin1", name := "compareToUTF16Values", desc := "([B[BII)I" } : Jvm.MethodName)) ∈ lw_all := lw_g (lw_at lw_m4 83 rfl) rfl
theorem q861 : (Jvm.Cond.static ({ cls := "java/lang/StringLatin1", name := "compareToUTF16Values", desc := "([B[BII)I" } : Jvm.MethodName)) ∈ lw_all := lw_g (lw_at lw_m4 84 rfl) rfl
theorem q862 : (Jvm.Cond.code ({ cls := "java/lang/StringLatin1", name := "compareToUTF16Values", desc := "([B[BII)I" } : Jvm.MethodName) prog_38_method_18_code (8 : Nat) (Option.some Jvm.ClassFile.FieldType.int)) ∈ lw_all := lw_g (lw_at lw_m4 85 rfl) rfl
theorem q863 : (Jvm.Cond.methodLink "java/lang/StringLatin1" (65 : Nat) ({ cls := "java/lang/StringUTF16", name := "getChar", desc := "([BI)C" } : Jvm.MethodName)) ∈ lw_all := lw_g (lw_at lw_m4 86 rfl) rfl
theorem q893 : (Jvm.Cond.static ({ cls := "java/lang/StringLatin1", name := "compareToUTF16", desc := "([B[BII)I" } : Jvm.MethodName)) ∈ lw_all := lw_g (lw_at lw_m4 116 rfl) rfl
theorem q894 : (Jvm.Cond.code ({ cls := "java/lang/StringLatin1", name := "compareToUTF16", desc := "([B[BII)I" } : Jvm.MethodName) prog_38_method_17_code (4 : Nat) (Option.some Jvm.ClassFile.FieldType.int)) ∈ lw_all := lw_g (lw_at lw_m4 117 rfl) rfl
theorem q895 : (Jvm.Cond.methodLink "java/lang/StringLatin1" (62 : Nat) ({ cls := "java/lang/String", name := "checkOffset", desc := "(II)V" } : Jvm.MethodName)) ∈ lw_all := lw_g (lw_at lw_m4 118 rfl) rfl
theorem q954 : (Jvm.Cond.static ({ cls := "java/lang/StringLatin1", name := "equals", desc := "([B[B)Z" } : Jvm.MethodName)) ∈ lw_all := lw_g (lw_at lw_m4 177 rfl) rfl
theorem q955 : (Jvm.Cond.code ({ cls := "java/lang/StringLatin1", name := "equals", desc := "([B[B)Z" } : Jvm.MethodName) prog_38_method_13_code (3 : Nat) (Option.some Jvm.ClassFile.FieldType.boolean)) ∈ lw_all := lw_g (lw_at lw_m4 178 rfl) rfl
theorem q1705 : (Jvm.Cond.static ({ cls := "java/lang/StringLatin1", name := "indexOf", desc := "([BIII)I" } : Jvm.MethodName)) ∈ lw_all := lw_g (lw_at lw_m7 208 rfl) rfl
theorem q1706 : (Jvm.Cond.code ({ cls := "java/lang/StringLatin1", name := "indexOf", desc := "([BIII)I" } : Jvm.MethodName) prog_38_method_22_code (4 : Nat) (Option.some Jvm.ClassFile.FieldType.int)) ∈ lw_all := lw_g (lw_at lw_m7 209 rfl) rfl
theorem q1707 : (Jvm.Cond.methodLink "java/lang/StringLatin1" (88 : Nat) ({ cls := "java/lang/StringLatin1", name := "canEncode", desc := "(I)Z" } : Jvm.MethodName)) ∈ lw_all := lw_g (lw_at lw_m7 210 rfl) rfl
theorem q1708 : (Jvm.Cond.static ({ cls := "java/lang/StringLatin1", name := "canEncode", desc := "(I)Z" } : Jvm.MethodName)) ∈ lw_all := lw_g (lw_at lw_m7 211 rfl) rfl
theorem q1709 : (Jvm.Cond.code ({ cls := "java/lang/StringLatin1", name := "canEncode", desc := "(I)Z" } : Jvm.MethodName) prog_38_method_4_code (1 : Nat) (Option.some Jvm.ClassFile.FieldType.boolean)) ∈ lw_all := lw_g (lw_at lw_m7 212 rfl) rfl
theorem q1710 : (Jvm.Cond.methodLink "java/lang/StringLatin1" (92 : Nat) ({ cls := "java/lang/Math", name := "max", desc := "(II)I" } : Jvm.MethodName)) ∈ lw_all := lw_g (lw_at lw_m7 213 rfl) rfl
theorem q1711 : (Jvm.Cond.methodLink "java/lang/StringLatin1" (95 : Nat) ({ cls := "java/lang/StringLatin1", name := "indexOfChar", desc := "([BIII)I" } : Jvm.MethodName)) ∈ lw_all := lw_g (lw_at lw_m7 214 rfl) rfl
theorem q1712 : (Jvm.Cond.static ({ cls := "java/lang/StringLatin1", name := "indexOfChar", desc := "([BIII)I" } : Jvm.MethodName)) ∈ lw_all := lw_g (lw_at lw_m7 215 rfl) rfl
theorem q1713 : (Jvm.Cond.code ({ cls := "java/lang/StringLatin1", name := "indexOfChar", desc := "([BIII)I" } : Jvm.MethodName) prog_38_method_23_code (6 : Nat) (Option.some Jvm.ClassFile.FieldType.int)) ∈ lw_all := lw_g (lw_at lw_m7 216 rfl) rfl
theorem q1798 : (Jvm.Cond.static ({ cls := "java/lang/StringLatin1", name := "canEncode", desc := "(C)Z" } : Jvm.MethodName)) ∈ lw_all := lw_g (lw_at lw_m8 61 rfl) rfl
theorem q1799 : (Jvm.Cond.code ({ cls := "java/lang/StringLatin1", name := "canEncode", desc := "(C)Z" } : Jvm.MethodName) prog_38_method_3_code (1 : Nat) (Option.some Jvm.ClassFile.FieldType.boolean)) ∈ lw_all := lw_g (lw_at lw_m8 62 rfl) rfl
theorem q2036 : (Jvm.Cond.static ({ cls := "java/lang/StringLatin1", name := "charAt", desc := "([BI)C" } : Jvm.MethodName)) ∈ lw_all := lw_g (lw_at lw_m9 59 rfl) rfl
theorem q2037 : (Jvm.Cond.code ({ cls := "java/lang/StringLatin1", name := "charAt", desc := "([BI)C" } : Jvm.MethodName) prog_38_method_2_code (2 : Nat) (Option.some Jvm.ClassFile.FieldType.char)) ∈ lw_all := lw_g (lw_at lw_m9 60 rfl) rfl
theorem q2038 : (Jvm.Cond.methodLink "java/lang/StringLatin1" (9 : Nat) ({ cls := "java/lang/String", name := "checkIndex", desc := "(II)V" } : Jvm.MethodName)) ∈ lw_all := lw_g (lw_at lw_m9 61 rfl) rfl
abbrev cJ7_vectorizedHashCode : ByteArray := prog_67_method_4_code
def yJ7_vectorizedHashCode : MethodName := ⟨RJ7, "vectorizedHashCode", "(Ljava/lang/Object;IIII)I"⟩
def dkwJ7_vectorizedHashCode_6 : List UInt8 := [183, 0, 91, 18, 92, 182, 0, 94, 21, 4, 182, 0, 98, 182, 0, 101, 183, 0, 105, 191, 172]
abbrev dktJ7_vectorizedHashCode_6 : List UInt8 := dkwJ7_vectorizedHashCode_6 ++ []
def dkwJ7_vectorizedHashCode_5 : List UInt8 := [167, 0, 44, 29, 42, 192, 0, 82, 27, 28, 184, 0, 84, 167, 0, 31, 187, 0, 87, 89, 187, 0, 89, 89]
abbrev dktJ7_vectorizedHashCode_5 : List UInt8 := dkwJ7_vectorizedHashCode_5 ++ dktJ7_vectorizedHashCode_6
def dkwJ7_vectorizedHashCode_4 : List UInt8 := [29, 42, 192, 0, 60, 27, 28, 184, 0, 75, 167, 0, 57, 29, 42, 192, 0, 77, 27, 28, 184, 0, 79]
abbrev dktJ7_vectorizedHashCode_4 : List UInt8 := dkwJ7_vectorizedHashCode_4 ++ dktJ7_vectorizedHashCode_5
def dkwJ7_vectorizedHashCode_3 : List UInt8 := [192, 0, 60, 27, 28, 184, 0, 66, 167, 0, 83, 29, 42, 192, 0, 69, 27, 28, 184, 0, 71, 167, 0, 70]
abbrev dktJ7_vectorizedHashCode_3 : List UInt8 := dkwJ7_vectorizedHashCode_3 ++ dktJ7_vectorizedHashCode_4
def dkwJ7_vectorizedHashCode_2 : List UInt8 := [29, 42, 192, 0, 60, 27, 28, 184, 0, 62, 167, 0, 103, 42, 193, 0, 60, 153, 0, 16, 29, 42]
abbrev dktJ7_vectorizedHashCode_2 : List UInt8 := dkwJ7_vectorizedHashCode_2 ++ dktJ7_vectorizedHashCode_3
def dkwJ7_vectorizedHashCode_1 : List UInt8 := [170, 0, 0, 0, 0, 127, 0, 0, 0, 4, 0, 0, 0, 10, 0, 0, 0, 42, 0, 0, 0, 55, 0, 0, 0, 127, 0, 0, 0, 127, 0, 0, 0, 88, 0, 0, 0, 101, 0, 0, 0, 114]
abbrev dktJ7_vectorizedHashCode_1 : List UInt8 := dkwJ7_vectorizedHashCode_1 ++ dktJ7_vectorizedHashCode_2
def dkwJ7_vectorizedHashCode_0 : List UInt8 := [21, 4]
abbrev dktJ7_vectorizedHashCode_0 : List UInt8 := dkwJ7_vectorizedHashCode_0 ++ dktJ7_vectorizedHashCode_1
theorem dksJ7_vectorizedHashCode_0 : cJ7_vectorizedHashCode.data.toList.drop 0 = dktJ7_vectorizedHashCode_0 := by decide +kernel
theorem dksJ7_vectorizedHashCode_1 : cJ7_vectorizedHashCode.data.toList.drop 2 = dktJ7_vectorizedHashCode_1 := dk_seg dksJ7_vectorizedHashCode_0 2 rfl rfl
theorem dksJ7_vectorizedHashCode_2 : cJ7_vectorizedHashCode.data.toList.drop 44 = dktJ7_vectorizedHashCode_2 := dk_seg dksJ7_vectorizedHashCode_1 42 rfl rfl
theorem dksJ7_vectorizedHashCode_3 : cJ7_vectorizedHashCode.data.toList.drop 66 = dktJ7_vectorizedHashCode_3 := dk_seg dksJ7_vectorizedHashCode_2 22 rfl rfl
theorem dksJ7_vectorizedHashCode_4 : cJ7_vectorizedHashCode.data.toList.drop 90 = dktJ7_vectorizedHashCode_4 := dk_seg dksJ7_vectorizedHashCode_3 24 rfl rfl
theorem dksJ7_vectorizedHashCode_5 : cJ7_vectorizedHashCode.data.toList.drop 113 = dktJ7_vectorizedHashCode_5 := dk_seg dksJ7_vectorizedHashCode_4 23 rfl rfl
theorem dksJ7_vectorizedHashCode_6 : cJ7_vectorizedHashCode.data.toList.drop 137 = dktJ7_vectorizedHashCode_6 := dk_seg dksJ7_vectorizedHashCode_5 24 rfl rfl
theorem dJ7_vectorizedHashCode_0 : decode cJ7_vectorizedHashCode 0 = .ok (.iload 4, 2) := dk_21 4 (dk_at dksJ7_vectorizedHashCode_0 0 rfl rfl)
theorem dJ7_vectorizedHashCode_2 : decode cJ7_vectorizedHashCode 2 = .ok (.tableswitch 127 4 10 #[42, 55, 127, 127, 88, 101, 114], 42) := by decide +kernel
theorem dJ7_vectorizedHashCode_44 : decode cJ7_vectorizedHashCode 44 = .ok (.iload_n 3, 1) := dk_29 (dk_at dksJ7_vectorizedHashCode_2 0 rfl rfl)
theorem dJ7_vectorizedHashCode_45 : decode cJ7_vectorizedHashCode 45 = .ok (.aload_n 0, 1) := dk_42 (dk_at dksJ7_vectorizedHashCode_2 1 rfl rfl)
theorem dJ7_vectorizedHashCode_46 : decode cJ7_vectorizedHashCode 46 = .ok (.checkcast 60, 3) := dk_192 0 60 (dk_at dksJ7_vectorizedHashCode_2 2 rfl rfl)
theorem dJ7_vectorizedHashCode_49 : decode cJ7_vectorizedHashCode 49 = .ok (.iload_n 1, 1) := dk_27 (dk_at dksJ7_vectorizedHashCode_2 5 rfl rfl)
theorem dJ7_vectorizedHashCode_50 : decode cJ7_vectorizedHashCode 50 = .ok (.iload_n 2, 1) := dk_28 (dk_at dksJ7_vectorizedHashCode_2 6 rfl rfl)
theorem dJ7_vectorizedHashCode_51 : decode cJ7_vectorizedHashCode 51 = .ok (.invokestatic 62, 3) := dk_184 0 62 (dk_at dksJ7_vectorizedHashCode_2 7 rfl rfl)
theorem dJ7_vectorizedHashCode_54 : decode cJ7_vectorizedHashCode 54 = .ok (.goto 103, 3) := dk_167 0 103 (dk_at dksJ7_vectorizedHashCode_2 10 rfl rfl)
theorem dJ7_vectorizedHashCode_57 : decode cJ7_vectorizedHashCode 57 = .ok (.aload_n 0, 1) := dk_42 (dk_at dksJ7_vectorizedHashCode_2 13 rfl rfl)
theorem dJ7_vectorizedHashCode_58 : decode cJ7_vectorizedHashCode 58 = .ok (.instanceof 60, 3) := dk_193 0 60 (dk_at dksJ7_vectorizedHashCode_2 14 rfl rfl)
theorem dJ7_vectorizedHashCode_61 : decode cJ7_vectorizedHashCode 61 = .ok (.ifCond .eq 16, 3) := dk_153 0 16 (dk_at dksJ7_vectorizedHashCode_2 17 rfl rfl)
theorem dJ7_vectorizedHashCode_64 : decode cJ7_vectorizedHashCode 64 = .ok (.iload_n 3, 1) := dk_29 (dk_at dksJ7_vectorizedHashCode_2 20 rfl rfl)
theorem dJ7_vectorizedHashCode_65 : decode cJ7_vectorizedHashCode 65 = .ok (.aload_n 0, 1) := dk_42 (dk_at dksJ7_vectorizedHashCode_2 21 rfl rfl)
theorem dJ7_vectorizedHashCode_66 : decode cJ7_vectorizedHashCode 66 = .ok (.checkcast 60, 3) := dk_192 0 60 (dk_at dksJ7_vectorizedHashCode_3 0 rfl rfl)
theorem dJ7_vectorizedHashCode_69 : decode cJ7_vectorizedHashCode 69 = .ok (.iload_n 1, 1) := dk_27 (dk_at dksJ7_vectorizedHashCode_3 3 rfl rfl)
theorem dJ7_vectorizedHashCode_70 : decode cJ7_vectorizedHashCode 70 = .ok (.iload_n 2, 1) := dk_28 (dk_at dksJ7_vectorizedHashCode_3 4 rfl rfl)
theorem dJ7_vectorizedHashCode_71 : decode cJ7_vectorizedHashCode 71 = .ok (.invokestatic 66, 3) := dk_184 0 66 (dk_at dksJ7_vectorizedHashCode_3 5 rfl rfl)
theorem dJ7_vectorizedHashCode_74 : decode cJ7_vectorizedHashCode 74 = .ok (.goto 83, 3) := dk_167 0 83 (dk_at dksJ7_vectorizedHashCode_3 8 rfl rfl)
theorem dJ7_vectorizedHashCode_77 : decode cJ7_vectorizedHashCode 77 = .ok (.iload_n 3, 1) := dk_29 (dk_at dksJ7_vectorizedHashCode_3 11 rfl rfl)
theorem dJ7_vectorizedHashCode_78 : decode cJ7_vectorizedHashCode 78 = .ok (.aload_n 0, 1) := dk_42 (dk_at dksJ7_vectorizedHashCode_3 12 rfl rfl)
theorem dJ7_vectorizedHashCode_79 : decode cJ7_vectorizedHashCode 79 = .ok (.checkcast 69, 3) := dk_192 0 69 (dk_at dksJ7_vectorizedHashCode_3 13 rfl rfl)
theorem dJ7_vectorizedHashCode_82 : decode cJ7_vectorizedHashCode 82 = .ok (.iload_n 1, 1) := dk_27 (dk_at dksJ7_vectorizedHashCode_3 16 rfl rfl)
theorem dJ7_vectorizedHashCode_83 : decode cJ7_vectorizedHashCode 83 = .ok (.iload_n 2, 1) := dk_28 (dk_at dksJ7_vectorizedHashCode_3 17 rfl rfl)
theorem dJ7_vectorizedHashCode_84 : decode cJ7_vectorizedHashCode 84 = .ok (.invokestatic 71, 3) := dk_184 0 71 (dk_at dksJ7_vectorizedHashCode_3 18 rfl rfl)
theorem dJ7_vectorizedHashCode_87 : decode cJ7_vectorizedHashCode 87 = .ok (.goto 70, 3) := dk_167 0 70 (dk_at dksJ7_vectorizedHashCode_3 21 rfl rfl)
theorem dJ7_vectorizedHashCode_90 : decode cJ7_vectorizedHashCode 90 = .ok (.iload_n 3, 1) := dk_29 (dk_at dksJ7_vectorizedHashCode_4 0 rfl rfl)
theorem dJ7_vectorizedHashCode_91 : decode cJ7_vectorizedHashCode 91 = .ok (.aload_n 0, 1) := dk_42 (dk_at dksJ7_vectorizedHashCode_4 1 rfl rfl)
theorem dJ7_vectorizedHashCode_92 : decode cJ7_vectorizedHashCode 92 = .ok (.checkcast 60, 3) := dk_192 0 60 (dk_at dksJ7_vectorizedHashCode_4 2 rfl rfl)
theorem dJ7_vectorizedHashCode_95 : decode cJ7_vectorizedHashCode 95 = .ok (.iload_n 1, 1) := dk_27 (dk_at dksJ7_vectorizedHashCode_4 5 rfl rfl)
theorem dJ7_vectorizedHashCode_96 : decode cJ7_vectorizedHashCode 96 = .ok (.iload_n 2, 1) := dk_28 (dk_at dksJ7_vectorizedHashCode_4 6 rfl rfl)
theorem dJ7_vectorizedHashCode_97 : decode cJ7_vectorizedHashCode 97 = .ok (.invokestatic 75, 3) := dk_184 0 75 (dk_at dksJ7_vectorizedHashCode_4 7 rfl rfl)
theorem dJ7_vectorizedHashCode_100 : decode cJ7_vectorizedHashCode 100 = .ok (.goto 57, 3) := dk_167 0 57 (dk_at dksJ7_vectorizedHashCode_4 10 rfl rfl)
theorem dJ7_vectorizedHashCode_103 : decode cJ7_vectorizedHashCode 103 = .ok (.iload_n 3, 1) := dk_29 (dk_at dksJ7_vectorizedHashCode_4 13 rfl rfl)
theorem dJ7_vectorizedHashCode_104 : decode cJ7_vectorizedHashCode 104 = .ok (.aload_n 0, 1) := dk_42 (dk_at dksJ7_vectorizedHashCode_4 14 rfl rfl)
theorem dJ7_vectorizedHashCode_105 : decode cJ7_vectorizedHashCode 105 = .ok (.checkcast 77, 3) := dk_192 0 77 (dk_at dksJ7_vectorizedHashCode_4 15 rfl rfl)
theorem dJ7_vectorizedHashCode_108 : decode cJ7_vectorizedHashCode 108 = .ok (.iload_n 1, 1) := dk_27 (dk_at dksJ7_vectorizedHashCode_4 18 rfl rfl)
theorem dJ7_vectorizedHashCode_109 : decode cJ7_vectorizedHashCode 109 = .ok (.iload_n 2, 1) := dk_28 (dk_at dksJ7_vectorizedHashCode_4 19 rfl rfl)
theorem dJ7_vectorizedHashCode_110 : decode cJ7_vectorizedHashCode 110 = .ok (.invokestatic 79, 3) := dk_184 0 79 (dk_at dksJ7_vectorizedHashCode_4 20 rfl rfl)
theorem dJ7_vectorizedHashCode_113 : decode cJ7_vectorizedHashCode 113 = .ok (.goto 44, 3) := dk_167 0 44 (dk_at dksJ7_vectorizedHashCode_5 0 rfl rfl)
theorem dJ7_vectorizedHashCode_116 : decode cJ7_vectorizedHashCode 116 = .ok (.iload_n 3, 1) := dk_29 (dk_at dksJ7_vectorizedHashCode_5 3 rfl rfl)
theorem dJ7_vectorizedHashCode_117 : decode cJ7_vectorizedHashCode 117 = .ok (.aload_n 0, 1) := dk_42 (dk_at dksJ7_vectorizedHashCode_5 4 rfl rfl)
theorem dJ7_vectorizedHashCode_118 : decode cJ7_vectorizedHashCode 118 = .ok (.checkcast 82, 3) := dk_192 0 82 (dk_at dksJ7_vectorizedHashCode_5 5 rfl rfl)
theorem dJ7_vectorizedHashCode_121 : decode cJ7_vectorizedHashCode 121 = .ok (.iload_n 1, 1) := dk_27 (dk_at dksJ7_vectorizedHashCode_5 8 rfl rfl)
theorem dJ7_vectorizedHashCode_122 : decode cJ7_vectorizedHashCode 122 = .ok (.iload_n 2, 1) := dk_28 (dk_at dksJ7_vectorizedHashCode_5 9 rfl rfl)
theorem dJ7_vectorizedHashCode_123 : decode cJ7_vectorizedHashCode 123 = .ok (.invokestatic 84, 3) := dk_184 0 84 (dk_at dksJ7_vectorizedHashCode_5 10 rfl rfl)
theorem dJ7_vectorizedHashCode_126 : decode cJ7_vectorizedHashCode 126 = .ok (.goto 31, 3) := dk_167 0 31 (dk_at dksJ7_vectorizedHashCode_5 13 rfl rfl)
theorem dJ7_vectorizedHashCode_129 : decode cJ7_vectorizedHashCode 129 = .ok (.new 87, 3) := dk_187 0 87 (dk_at dksJ7_vectorizedHashCode_5 16 rfl rfl)
theorem dJ7_vectorizedHashCode_132 : decode cJ7_vectorizedHashCode 132 = .ok (.dup, 1) := dk_89 (dk_at dksJ7_vectorizedHashCode_5 19 rfl rfl)
theorem dJ7_vectorizedHashCode_133 : decode cJ7_vectorizedHashCode 133 = .ok (.new 89, 3) := dk_187 0 89 (dk_at dksJ7_vectorizedHashCode_5 20 rfl rfl)
theorem dJ7_vectorizedHashCode_136 : decode cJ7_vectorizedHashCode 136 = .ok (.dup, 1) := dk_89 (dk_at dksJ7_vectorizedHashCode_5 23 rfl rfl)
theorem dJ7_vectorizedHashCode_137 : decode cJ7_vectorizedHashCode 137 = .ok (.invokespecial 91, 3) := dk_183 0 91 (dk_at dksJ7_vectorizedHashCode_6 0 rfl rfl)
theorem dJ7_vectorizedHashCode_140 : decode cJ7_vectorizedHashCode 140 = .ok (.ldc 92, 2) := dk_18 92 (dk_at dksJ7_vectorizedHashCode_6 3 rfl rfl)
theorem dJ7_vectorizedHashCode_142 : decode cJ7_vectorizedHashCode 142 = .ok (.invokevirtual 94, 3) := dk_182 0 94 (dk_at dksJ7_vectorizedHashCode_6 5 rfl rfl)
theorem dJ7_vectorizedHashCode_145 : decode cJ7_vectorizedHashCode 145 = .ok (.iload 4, 2) := dk_21 4 (dk_at dksJ7_vectorizedHashCode_6 8 rfl rfl)
theorem dJ7_vectorizedHashCode_147 : decode cJ7_vectorizedHashCode 147 = .ok (.invokevirtual 98, 3) := dk_182 0 98 (dk_at dksJ7_vectorizedHashCode_6 10 rfl rfl)
theorem dJ7_vectorizedHashCode_150 : decode cJ7_vectorizedHashCode 150 = .ok (.invokevirtual 101, 3) := dk_182 0 101 (dk_at dksJ7_vectorizedHashCode_6 13 rfl rfl)
theorem dJ7_vectorizedHashCode_153 : decode cJ7_vectorizedHashCode 153 = .ok (.invokespecial 105, 3) := dk_183 0 105 (dk_at dksJ7_vectorizedHashCode_6 16 rfl rfl)
theorem dJ7_vectorizedHashCode_156 : decode cJ7_vectorizedHashCode 156 = .ok (.athrow, 1) := dk_191 (dk_at dksJ7_vectorizedHashCode_6 19 rfl rfl)
theorem dJ7_vectorizedHashCode_157 : decode cJ7_vectorizedHashCode 157 = .ok (.ireturn, 1) := dk_172 (dk_at dksJ7_vectorizedHashCode_6 20 rfl rfl)
abbrev cJ7_signedHashCode : ByteArray := prog_67_method_5_code
def yJ7_signedHashCode : MethodName := ⟨RJ7, "signedHashCode", "(I[BII)I"⟩
def dkwJ7_signedHashCode_1 : List UInt8 := [17, 0, 255, 126, 96, 59, 132, 5, 1, 167, 255, 232, 26, 172]
abbrev dktJ7_signedHashCode_1 : List UInt8 := dkwJ7_signedHashCode_1 ++ []
def dkwJ7_signedHashCode_0 : List UInt8 := [28, 29, 96, 54, 4, 28, 54, 5, 21, 5, 21, 4, 162, 0, 23, 16, 31, 26, 104, 43, 21, 5, 51]
abbrev dktJ7_signedHashCode_0 : List UInt8 := dkwJ7_signedHashCode_0 ++ dktJ7_signedHashCode_1
theorem dksJ7_signedHashCode_0 : cJ7_signedHashCode.data.toList.drop 0 = dktJ7_signedHashCode_0 := by decide +kernel
theorem dksJ7_signedHashCode_1 : cJ7_signedHashCode.data.toList.drop 23 = dktJ7_signedHashCode_1 := dk_seg dksJ7_signedHashCode_0 23 rfl rfl
theorem dJ7_signedHashCode_0 : decode cJ7_signedHashCode 0 = .ok (.iload_n 2, 1) := dk_28 (dk_at dksJ7_signedHashCode_0 0 rfl rfl)
theorem dJ7_signedHashCode_1 : decode cJ7_signedHashCode 1 = .ok (.iload_n 3, 1) := dk_29 (dk_at dksJ7_signedHashCode_0 1 rfl rfl)
theorem dJ7_signedHashCode_2 : decode cJ7_signedHashCode 2 = .ok (.iadd, 1) := dk_96 (dk_at dksJ7_signedHashCode_0 2 rfl rfl)
theorem dJ7_signedHashCode_3 : decode cJ7_signedHashCode 3 = .ok (.istore 4, 2) := dk_54 4 (dk_at dksJ7_signedHashCode_0 3 rfl rfl)
theorem dJ7_signedHashCode_5 : decode cJ7_signedHashCode 5 = .ok (.iload_n 2, 1) := dk_28 (dk_at dksJ7_signedHashCode_0 5 rfl rfl)
theorem dJ7_signedHashCode_6 : decode cJ7_signedHashCode 6 = .ok (.istore 5, 2) := dk_54 5 (dk_at dksJ7_signedHashCode_0 6 rfl rfl)
theorem dJ7_signedHashCode_8 : decode cJ7_signedHashCode 8 = .ok (.iload 5, 2) := dk_21 5 (dk_at dksJ7_signedHashCode_0 8 rfl rfl)
theorem dJ7_signedHashCode_10 : decode cJ7_signedHashCode 10 = .ok (.iload 4, 2) := dk_21 4 (dk_at dksJ7_signedHashCode_0 10 rfl rfl)
theorem dJ7_signedHashCode_12 : decode cJ7_signedHashCode 12 = .ok (.if_icmp .ge 23, 3) := dk_162 0 23 (dk_at dksJ7_signedHashCode_0 12 rfl rfl)
theorem dJ7_signedHashCode_15 : decode cJ7_signedHashCode 15 = .ok (.bipush 31, 2) := dk_16 31 (dk_at dksJ7_signedHashCode_0 15 rfl rfl)
theorem dJ7_signedHashCode_17 : decode cJ7_signedHashCode 17 = .ok (.iload_n 0, 1) := dk_26 (dk_at dksJ7_signedHashCode_0 17 rfl rfl)
theorem dJ7_signedHashCode_18 : decode cJ7_signedHashCode 18 = .ok (.imul, 1) := dk_104 (dk_at dksJ7_signedHashCode_0 18 rfl rfl)
theorem dJ7_signedHashCode_19 : decode cJ7_signedHashCode 19 = .ok (.aload_n 1, 1) := dk_43 (dk_at dksJ7_signedHashCode_0 19 rfl rfl)
theorem dJ7_signedHashCode_20 : decode cJ7_signedHashCode 20 = .ok (.iload 5, 2) := dk_21 5 (dk_at dksJ7_signedHashCode_0 20 rfl rfl)
theorem dJ7_signedHashCode_22 : decode cJ7_signedHashCode 22 = .ok (.baload, 1) := dk_51 (dk_at dksJ7_signedHashCode_0 22 rfl rfl)
theorem dJ7_signedHashCode_23 : decode cJ7_signedHashCode 23 = .ok (.sipush 255, 3) := dk_17 0 255 (dk_at dksJ7_signedHashCode_1 0 rfl rfl)
theorem dJ7_signedHashCode_26 : decode cJ7_signedHashCode 26 = .ok (.iand, 1) := dk_126 (dk_at dksJ7_signedHashCode_1 3 rfl rfl)
theorem dJ7_signedHashCode_27 : decode cJ7_signedHashCode 27 = .ok (.iadd, 1) := dk_96 (dk_at dksJ7_signedHashCode_1 4 rfl rfl)
theorem dJ7_signedHashCode_28 : decode cJ7_signedHashCode 28 = .ok (.istore_n 0, 1) := dk_59 (dk_at dksJ7_signedHashCode_1 5 rfl rfl)
theorem dJ7_signedHashCode_29 : decode cJ7_signedHashCode 29 = .ok (.iinc 5 1, 3) := dk_132 5 1 (dk_at dksJ7_signedHashCode_1 6 rfl rfl)
theorem dJ7_signedHashCode_32 : decode cJ7_signedHashCode 32 = .ok (.goto (-24), 3) := dk_167 255 232 (dk_at dksJ7_signedHashCode_1 9 rfl rfl)
theorem dJ7_signedHashCode_35 : decode cJ7_signedHashCode 35 = .ok (.iload_n 0, 1) := dk_26 (dk_at dksJ7_signedHashCode_1 12 rfl rfl)
theorem dJ7_signedHashCode_36 : decode cJ7_signedHashCode 36 = .ok (.ireturn, 1) := dk_172 (dk_at dksJ7_signedHashCode_1 13 rfl rfl)
abbrev cJ7_utf16hashCode : ByteArray := prog_67_method_10_code
def yJ7_utf16hashCode : MethodName := ⟨RJ7, "utf16hashCode", "(I[BII)I"⟩
def dkwJ7_utf16hashCode_1 : List UInt8 := [21, 5, 185, 0, 110, 3, 0, 96, 59, 132, 5, 1, 167, 255, 229, 26, 172]
abbrev dktJ7_utf16hashCode_1 : List UInt8 := dkwJ7_utf16hashCode_1 ++ []
def dkwJ7_utf16hashCode_0 : List UInt8 := [28, 29, 96, 54, 4, 28, 54, 5, 21, 5, 21, 4, 162, 0, 26, 16, 31, 26, 104, 178, 0, 106, 43]
abbrev dktJ7_utf16hashCode_0 : List UInt8 := dkwJ7_utf16hashCode_0 ++ dktJ7_utf16hashCode_1
theorem dksJ7_utf16hashCode_0 : cJ7_utf16hashCode.data.toList.drop 0 = dktJ7_utf16hashCode_0 := by decide +kernel
theorem dksJ7_utf16hashCode_1 : cJ7_utf16hashCode.data.toList.drop 23 = dktJ7_utf16hashCode_1 := dk_seg dksJ7_utf16hashCode_0 23 rfl rfl
theorem dJ7_utf16hashCode_0 : decode cJ7_utf16hashCode 0 = .ok (.iload_n 2, 1) := dk_28 (dk_at dksJ7_utf16hashCode_0 0 rfl rfl)
theorem dJ7_utf16hashCode_1 : decode cJ7_utf16hashCode 1 = .ok (.iload_n 3, 1) := dk_29 (dk_at dksJ7_utf16hashCode_0 1 rfl rfl)
theorem dJ7_utf16hashCode_2 : decode cJ7_utf16hashCode 2 = .ok (.iadd, 1) := dk_96 (dk_at dksJ7_utf16hashCode_0 2 rfl rfl)
theorem dJ7_utf16hashCode_3 : decode cJ7_utf16hashCode 3 = .ok (.istore 4, 2) := dk_54 4 (dk_at dksJ7_utf16hashCode_0 3 rfl rfl)
theorem dJ7_utf16hashCode_5 : decode cJ7_utf16hashCode 5 = .ok (.iload_n 2, 1) := dk_28 (dk_at dksJ7_utf16hashCode_0 5 rfl rfl)
theorem dJ7_utf16hashCode_6 : decode cJ7_utf16hashCode 6 = .ok (.istore 5, 2) := dk_54 5 (dk_at dksJ7_utf16hashCode_0 6 rfl rfl)
theorem dJ7_utf16hashCode_8 : decode cJ7_utf16hashCode 8 = .ok (.iload 5, 2) := dk_21 5 (dk_at dksJ7_utf16hashCode_0 8 rfl rfl)
theorem dJ7_utf16hashCode_10 : decode cJ7_utf16hashCode 10 = .ok (.iload 4, 2) := dk_21 4 (dk_at dksJ7_utf16hashCode_0 10 rfl rfl)
theorem dJ7_utf16hashCode_12 : decode cJ7_utf16hashCode 12 = .ok (.if_icmp .ge 26, 3) := dk_162 0 26 (dk_at dksJ7_utf16hashCode_0 12 rfl rfl)
theorem dJ7_utf16hashCode_15 : decode cJ7_utf16hashCode 15 = .ok (.bipush 31, 2) := dk_16 31 (dk_at dksJ7_utf16hashCode_0 15 rfl rfl)
theorem dJ7_utf16hashCode_17 : decode cJ7_utf16hashCode 17 = .ok (.iload_n 0, 1) := dk_26 (dk_at dksJ7_utf16hashCode_0 17 rfl rfl)
theorem dJ7_utf16hashCode_18 : decode cJ7_utf16hashCode 18 = .ok (.imul, 1) := dk_104 (dk_at dksJ7_utf16hashCode_0 18 rfl rfl)
theorem dJ7_utf16hashCode_19 : decode cJ7_utf16hashCode 19 = .ok (.getstatic 106, 3) := dk_178 0 106 (dk_at dksJ7_utf16hashCode_0 19 rfl rfl)
theorem dJ7_utf16hashCode_22 : decode cJ7_utf16hashCode 22 = .ok (.aload_n 1, 1) := dk_43 (dk_at dksJ7_utf16hashCode_0 22 rfl rfl)
theorem dJ7_utf16hashCode_23 : decode cJ7_utf16hashCode 23 = .ok (.iload 5, 2) := dk_21 5 (dk_at dksJ7_utf16hashCode_1 0 rfl rfl)
theorem dJ7_utf16hashCode_25 : decode cJ7_utf16hashCode 25 = .ok (.invokeinterface 110 3, 5) := by decide +kernel
theorem dJ7_utf16hashCode_30 : decode cJ7_utf16hashCode 30 = .ok (.iadd, 1) := dk_96 (dk_at dksJ7_utf16hashCode_1 7 rfl rfl)
theorem dJ7_utf16hashCode_31 : decode cJ7_utf16hashCode 31 = .ok (.istore_n 0, 1) := dk_59 (dk_at dksJ7_utf16hashCode_1 8 rfl rfl)
theorem dJ7_utf16hashCode_32 : decode cJ7_utf16hashCode 32 = .ok (.iinc 5 1, 3) := dk_132 5 1 (dk_at dksJ7_utf16hashCode_1 9 rfl rfl)
theorem dJ7_utf16hashCode_35 : decode cJ7_utf16hashCode 35 = .ok (.goto (-27), 3) := dk_167 255 229 (dk_at dksJ7_utf16hashCode_1 12 rfl rfl)
theorem dJ7_utf16hashCode_38 : decode cJ7_utf16hashCode 38 = .ok (.iload_n 0, 1) := dk_26 (dk_at dksJ7_utf16hashCode_1 15 rfl rfl)
theorem dJ7_utf16hashCode_39 : decode cJ7_utf16hashCode 39 = .ok (.ireturn, 1) := dk_172 (dk_at dksJ7_utf16hashCode_1 16 rfl rfl)
abbrev cJ7_hashCode : ByteArray := prog_67_method_7_code
def yJ7_hashCode : MethodName := ⟨RJ7, "hashCode", "(I[CII)I"⟩
def dkwJ7_hashCode_1 : List UInt8 := [59, 132, 5, 1, 167, 255, 236, 26, 172]
abbrev dktJ7_hashCode_1 : List UInt8 := dkwJ7_hashCode_1 ++ []
def dkwJ7_hashCode_0 : List UInt8 := [28, 29, 96, 54, 4, 28, 54, 5, 21, 5, 21, 4, 162, 0, 19, 16, 31, 26, 104, 43, 21, 5, 52, 96]
abbrev dktJ7_hashCode_0 : List UInt8 := dkwJ7_hashCode_0 ++ dktJ7_hashCode_1
theorem dksJ7_hashCode_0 : cJ7_hashCode.data.toList.drop 0 = dktJ7_hashCode_0 := by decide +kernel
theorem dksJ7_hashCode_1 : cJ7_hashCode.data.toList.drop 24 = dktJ7_hashCode_1 := dk_seg dksJ7_hashCode_0 24 rfl rfl
theorem dJ7_hashCode_0 : decode cJ7_hashCode 0 = .ok (.iload_n 2, 1) := dk_28 (dk_at dksJ7_hashCode_0 0 rfl rfl)
theorem dJ7_hashCode_1 : decode cJ7_hashCode 1 = .ok (.iload_n 3, 1) := dk_29 (dk_at dksJ7_hashCode_0 1 rfl rfl)
theorem dJ7_hashCode_2 : decode cJ7_hashCode 2 = .ok (.iadd, 1) := dk_96 (dk_at dksJ7_hashCode_0 2 rfl rfl)
theorem dJ7_hashCode_3 : decode cJ7_hashCode 3 = .ok (.istore 4, 2) := dk_54 4 (dk_at dksJ7_hashCode_0 3 rfl rfl)
theorem dJ7_hashCode_5 : decode cJ7_hashCode 5 = .ok (.iload_n 2, 1) := dk_28 (dk_at dksJ7_hashCode_0 5 rfl rfl)
theorem dJ7_hashCode_6 : decode cJ7_hashCode 6 = .ok (.istore 5, 2) := dk_54 5 (dk_at dksJ7_hashCode_0 6 rfl rfl)
theorem dJ7_hashCode_8 : decode cJ7_hashCode 8 = .ok (.iload 5, 2) := dk_21 5 (dk_at dksJ7_hashCode_0 8 rfl rfl)
theorem dJ7_hashCode_10 : decode cJ7_hashCode 10 = .ok (.iload 4, 2) := dk_21 4 (dk_at dksJ7_hashCode_0 10 rfl rfl)
theorem dJ7_hashCode_12 : decode cJ7_hashCode 12 = .ok (.if_icmp .ge 19, 3) := dk_162 0 19 (dk_at dksJ7_hashCode_0 12 rfl rfl)
theorem dJ7_hashCode_15 : decode cJ7_hashCode 15 = .ok (.bipush 31, 2) := dk_16 31 (dk_at dksJ7_hashCode_0 15 rfl rfl)
theorem dJ7_hashCode_17 : decode cJ7_hashCode 17 = .ok (.iload_n 0, 1) := dk_26 (dk_at dksJ7_hashCode_0 17 rfl rfl)
theorem dJ7_hashCode_18 : decode cJ7_hashCode 18 = .ok (.imul, 1) := dk_104 (dk_at dksJ7_hashCode_0 18 rfl rfl)
theorem dJ7_hashCode_19 : decode cJ7_hashCode 19 = .ok (.aload_n 1, 1) := dk_43 (dk_at dksJ7_hashCode_0 19 rfl rfl)
theorem dJ7_hashCode_20 : decode cJ7_hashCode 20 = .ok (.iload 5, 2) := dk_21 5 (dk_at dksJ7_hashCode_0 20 rfl rfl)
theorem dJ7_hashCode_22 : decode cJ7_hashCode 22 = .ok (.caload, 1) := dk_52 (dk_at dksJ7_hashCode_0 22 rfl rfl)
theorem dJ7_hashCode_23 : decode cJ7_hashCode 23 = .ok (.iadd, 1) := dk_96 (dk_at dksJ7_hashCode_0 23 rfl rfl)
theorem dJ7_hashCode_24 : decode cJ7_hashCode 24 = .ok (.istore_n 0, 1) := dk_59 (dk_at dksJ7_hashCode_1 0 rfl rfl)
theorem dJ7_hashCode_25 : decode cJ7_hashCode 25 = .ok (.iinc 5 1, 3) := dk_132 5 1 (dk_at dksJ7_hashCode_1 1 rfl rfl)
theorem dJ7_hashCode_28 : decode cJ7_hashCode 28 = .ok (.goto (-20), 3) := dk_167 255 236 (dk_at dksJ7_hashCode_1 4 rfl rfl)
theorem dJ7_hashCode_31 : decode cJ7_hashCode 31 = .ok (.iload_n 0, 1) := dk_26 (dk_at dksJ7_hashCode_1 7 rfl rfl)
theorem dJ7_hashCode_32 : decode cJ7_hashCode 32 = .ok (.ireturn, 1) := dk_172 (dk_at dksJ7_hashCode_1 8 rfl rfl)
abbrev cJ7_hashCode_2 : ByteArray := prog_67_method_6_code
def yJ7_hashCode_2 : MethodName := ⟨RJ7, "hashCode", "(I[BII)I"⟩
def dkwJ7_hashCode_2_1 : List UInt8 := [59, 132, 5, 1, 167, 255, 236, 26, 172]
abbrev dktJ7_hashCode_2_1 : List UInt8 := dkwJ7_hashCode_2_1 ++ []
def dkwJ7_hashCode_2_0 : List UInt8 := [28, 29, 96, 54, 4, 28, 54, 5, 21, 5, 21, 4, 162, 0, 19, 16, 31, 26, 104, 43, 21, 5, 51, 96]
abbrev dktJ7_hashCode_2_0 : List UInt8 := dkwJ7_hashCode_2_0 ++ dktJ7_hashCode_2_1
theorem dksJ7_hashCode_2_0 : cJ7_hashCode_2.data.toList.drop 0 = dktJ7_hashCode_2_0 := by decide +kernel
theorem dksJ7_hashCode_2_1 : cJ7_hashCode_2.data.toList.drop 24 = dktJ7_hashCode_2_1 := dk_seg dksJ7_hashCode_2_0 24 rfl rfl
theorem dJ7_hashCode_2_0 : decode cJ7_hashCode_2 0 = .ok (.iload_n 2, 1) := dk_28 (dk_at dksJ7_hashCode_2_0 0 rfl rfl)
theorem dJ7_hashCode_2_1 : decode cJ7_hashCode_2 1 = .ok (.iload_n 3, 1) := dk_29 (dk_at dksJ7_hashCode_2_0 1 rfl rfl)
theorem dJ7_hashCode_2_2 : decode cJ7_hashCode_2 2 = .ok (.iadd, 1) := dk_96 (dk_at dksJ7_hashCode_2_0 2 rfl rfl)
theorem dJ7_hashCode_2_3 : decode cJ7_hashCode_2 3 = .ok (.istore 4, 2) := dk_54 4 (dk_at dksJ7_hashCode_2_0 3 rfl rfl)
theorem dJ7_hashCode_2_5 : decode cJ7_hashCode_2 5 = .ok (.iload_n 2, 1) := dk_28 (dk_at dksJ7_hashCode_2_0 5 rfl rfl)
theorem dJ7_hashCode_2_6 : decode cJ7_hashCode_2 6 = .ok (.istore 5, 2) := dk_54 5 (dk_at dksJ7_hashCode_2_0 6 rfl rfl)
theorem dJ7_hashCode_2_8 : decode cJ7_hashCode_2 8 = .ok (.iload 5, 2) := dk_21 5 (dk_at dksJ7_hashCode_2_0 8 rfl rfl)
theorem dJ7_hashCode_2_10 : decode cJ7_hashCode_2 10 = .ok (.iload 4, 2) := dk_21 4 (dk_at dksJ7_hashCode_2_0 10 rfl rfl)
theorem dJ7_hashCode_2_12 : decode cJ7_hashCode_2 12 = .ok (.if_icmp .ge 19, 3) := dk_162 0 19 (dk_at dksJ7_hashCode_2_0 12 rfl rfl)
theorem dJ7_hashCode_2_15 : decode cJ7_hashCode_2 15 = .ok (.bipush 31, 2) := dk_16 31 (dk_at dksJ7_hashCode_2_0 15 rfl rfl)
theorem dJ7_hashCode_2_17 : decode cJ7_hashCode_2 17 = .ok (.iload_n 0, 1) := dk_26 (dk_at dksJ7_hashCode_2_0 17 rfl rfl)
theorem dJ7_hashCode_2_18 : decode cJ7_hashCode_2 18 = .ok (.imul, 1) := dk_104 (dk_at dksJ7_hashCode_2_0 18 rfl rfl)
theorem dJ7_hashCode_2_19 : decode cJ7_hashCode_2 19 = .ok (.aload_n 1, 1) := dk_43 (dk_at dksJ7_hashCode_2_0 19 rfl rfl)
theorem dJ7_hashCode_2_20 : decode cJ7_hashCode_2 20 = .ok (.iload 5, 2) := dk_21 5 (dk_at dksJ7_hashCode_2_0 20 rfl rfl)
theorem dJ7_hashCode_2_22 : decode cJ7_hashCode_2 22 = .ok (.baload, 1) := dk_51 (dk_at dksJ7_hashCode_2_0 22 rfl rfl)
theorem dJ7_hashCode_2_23 : decode cJ7_hashCode_2 23 = .ok (.iadd, 1) := dk_96 (dk_at dksJ7_hashCode_2_0 23 rfl rfl)
theorem dJ7_hashCode_2_24 : decode cJ7_hashCode_2 24 = .ok (.istore_n 0, 1) := dk_59 (dk_at dksJ7_hashCode_2_1 0 rfl rfl)
theorem dJ7_hashCode_2_25 : decode cJ7_hashCode_2 25 = .ok (.iinc 5 1, 3) := dk_132 5 1 (dk_at dksJ7_hashCode_2_1 1 rfl rfl)
theorem dJ7_hashCode_2_28 : decode cJ7_hashCode_2 28 = .ok (.goto (-20), 3) := dk_167 255 236 (dk_at dksJ7_hashCode_2_1 4 rfl rfl)
theorem dJ7_hashCode_2_31 : decode cJ7_hashCode_2 31 = .ok (.iload_n 0, 1) := dk_26 (dk_at dksJ7_hashCode_2_1 7 rfl rfl)
theorem dJ7_hashCode_2_32 : decode cJ7_hashCode_2 32 = .ok (.ireturn, 1) := dk_172 (dk_at dksJ7_hashCode_2_1 8 rfl rfl)
abbrev cJ7_hashCode_3 : ByteArray := prog_67_method_8_code
def yJ7_hashCode_3 : MethodName := ⟨RJ7, "hashCode", "(I[SII)I"⟩
def dkwJ7_hashCode_3_1 : List UInt8 := [59, 132, 5, 1, 167, 255, 236, 26, 172]
abbrev dktJ7_hashCode_3_1 : List UInt8 := dkwJ7_hashCode_3_1 ++ []
def dkwJ7_hashCode_3_0 : List UInt8 := [28, 29, 96, 54, 4, 28, 54, 5, 21, 5, 21, 4, 162, 0, 19, 16, 31, 26, 104, 43, 21, 5, 53, 96]
abbrev dktJ7_hashCode_3_0 : List UInt8 := dkwJ7_hashCode_3_0 ++ dktJ7_hashCode_3_1
theorem dksJ7_hashCode_3_0 : cJ7_hashCode_3.data.toList.drop 0 = dktJ7_hashCode_3_0 := by decide +kernel
theorem dksJ7_hashCode_3_1 : cJ7_hashCode_3.data.toList.drop 24 = dktJ7_hashCode_3_1 := dk_seg dksJ7_hashCode_3_0 24 rfl rfl
theorem dJ7_hashCode_3_0 : decode cJ7_hashCode_3 0 = .ok (.iload_n 2, 1) := dk_28 (dk_at dksJ7_hashCode_3_0 0 rfl rfl)
theorem dJ7_hashCode_3_1 : decode cJ7_hashCode_3 1 = .ok (.iload_n 3, 1) := dk_29 (dk_at dksJ7_hashCode_3_0 1 rfl rfl)
theorem dJ7_hashCode_3_2 : decode cJ7_hashCode_3 2 = .ok (.iadd, 1) := dk_96 (dk_at dksJ7_hashCode_3_0 2 rfl rfl)
theorem dJ7_hashCode_3_3 : decode cJ7_hashCode_3 3 = .ok (.istore 4, 2) := dk_54 4 (dk_at dksJ7_hashCode_3_0 3 rfl rfl)
theorem dJ7_hashCode_3_5 : decode cJ7_hashCode_3 5 = .ok (.iload_n 2, 1) := dk_28 (dk_at dksJ7_hashCode_3_0 5 rfl rfl)
theorem dJ7_hashCode_3_6 : decode cJ7_hashCode_3 6 = .ok (.istore 5, 2) := dk_54 5 (dk_at dksJ7_hashCode_3_0 6 rfl rfl)
theorem dJ7_hashCode_3_8 : decode cJ7_hashCode_3 8 = .ok (.iload 5, 2) := dk_21 5 (dk_at dksJ7_hashCode_3_0 8 rfl rfl)
theorem dJ7_hashCode_3_10 : decode cJ7_hashCode_3 10 = .ok (.iload 4, 2) := dk_21 4 (dk_at dksJ7_hashCode_3_0 10 rfl rfl)
theorem dJ7_hashCode_3_12 : decode cJ7_hashCode_3 12 = .ok (.if_icmp .ge 19, 3) := dk_162 0 19 (dk_at dksJ7_hashCode_3_0 12 rfl rfl)
theorem dJ7_hashCode_3_15 : decode cJ7_hashCode_3 15 = .ok (.bipush 31, 2) := dk_16 31 (dk_at dksJ7_hashCode_3_0 15 rfl rfl)
theorem dJ7_hashCode_3_17 : decode cJ7_hashCode_3 17 = .ok (.iload_n 0, 1) := dk_26 (dk_at dksJ7_hashCode_3_0 17 rfl rfl)
theorem dJ7_hashCode_3_18 : decode cJ7_hashCode_3 18 = .ok (.imul, 1) := dk_104 (dk_at dksJ7_hashCode_3_0 18 rfl rfl)
theorem dJ7_hashCode_3_19 : decode cJ7_hashCode_3 19 = .ok (.aload_n 1, 1) := dk_43 (dk_at dksJ7_hashCode_3_0 19 rfl rfl)
theorem dJ7_hashCode_3_20 : decode cJ7_hashCode_3 20 = .ok (.iload 5, 2) := dk_21 5 (dk_at dksJ7_hashCode_3_0 20 rfl rfl)
theorem dJ7_hashCode_3_22 : decode cJ7_hashCode_3 22 = .ok (.saload, 1) := dk_53 (dk_at dksJ7_hashCode_3_0 22 rfl rfl)
theorem dJ7_hashCode_3_23 : decode cJ7_hashCode_3 23 = .ok (.iadd, 1) := dk_96 (dk_at dksJ7_hashCode_3_0 23 rfl rfl)
theorem dJ7_hashCode_3_24 : decode cJ7_hashCode_3 24 = .ok (.istore_n 0, 1) := dk_59 (dk_at dksJ7_hashCode_3_1 0 rfl rfl)
theorem dJ7_hashCode_3_25 : decode cJ7_hashCode_3 25 = .ok (.iinc 5 1, 3) := dk_132 5 1 (dk_at dksJ7_hashCode_3_1 1 rfl rfl)
theorem dJ7_hashCode_3_28 : decode cJ7_hashCode_3 28 = .ok (.goto (-20), 3) := dk_167 255 236 (dk_at dksJ7_hashCode_3_1 4 rfl rfl)
theorem dJ7_hashCode_3_31 : decode cJ7_hashCode_3 31 = .ok (.iload_n 0, 1) := dk_26 (dk_at dksJ7_hashCode_3_1 7 rfl rfl)
theorem dJ7_hashCode_3_32 : decode cJ7_hashCode_3 32 = .ok (.ireturn, 1) := dk_172 (dk_at dksJ7_hashCode_3_1 8 rfl rfl)
abbrev cJ7_hashCode_4 : ByteArray := prog_67_method_9_code
def yJ7_hashCode_4 : MethodName := ⟨RJ7, "hashCode", "(I[III)I"⟩
def dkwJ7_hashCode_4_1 : List UInt8 := [59, 132, 5, 1, 167, 255, 236, 26, 172]
abbrev dktJ7_hashCode_4_1 : List UInt8 := dkwJ7_hashCode_4_1 ++ []
def dkwJ7_hashCode_4_0 : List UInt8 := [28, 29, 96, 54, 4, 28, 54, 5, 21, 5, 21, 4, 162, 0, 19, 16, 31, 26, 104, 43, 21, 5, 46, 96]
abbrev dktJ7_hashCode_4_0 : List UInt8 := dkwJ7_hashCode_4_0 ++ dktJ7_hashCode_4_1
theorem dksJ7_hashCode_4_0 : cJ7_hashCode_4.data.toList.drop 0 = dktJ7_hashCode_4_0 := by decide +kernel
theorem dksJ7_hashCode_4_1 : cJ7_hashCode_4.data.toList.drop 24 = dktJ7_hashCode_4_1 := dk_seg dksJ7_hashCode_4_0 24 rfl rfl
theorem dJ7_hashCode_4_0 : decode cJ7_hashCode_4 0 = .ok (.iload_n 2, 1) := dk_28 (dk_at dksJ7_hashCode_4_0 0 rfl rfl)
theorem dJ7_hashCode_4_1 : decode cJ7_hashCode_4 1 = .ok (.iload_n 3, 1) := dk_29 (dk_at dksJ7_hashCode_4_0 1 rfl rfl)
theorem dJ7_hashCode_4_2 : decode cJ7_hashCode_4 2 = .ok (.iadd, 1) := dk_96 (dk_at dksJ7_hashCode_4_0 2 rfl rfl)
theorem dJ7_hashCode_4_3 : decode cJ7_hashCode_4 3 = .ok (.istore 4, 2) := dk_54 4 (dk_at dksJ7_hashCode_4_0 3 rfl rfl)
theorem dJ7_hashCode_4_5 : decode cJ7_hashCode_4 5 = .ok (.iload_n 2, 1) := dk_28 (dk_at dksJ7_hashCode_4_0 5 rfl rfl)
theorem dJ7_hashCode_4_6 : decode cJ7_hashCode_4 6 = .ok (.istore 5, 2) := dk_54 5 (dk_at dksJ7_hashCode_4_0 6 rfl rfl)
theorem dJ7_hashCode_4_8 : decode cJ7_hashCode_4 8 = .ok (.iload 5, 2) := dk_21 5 (dk_at dksJ7_hashCode_4_0 8 rfl rfl)
theorem dJ7_hashCode_4_10 : decode cJ7_hashCode_4 10 = .ok (.iload 4, 2) := dk_21 4 (dk_at dksJ7_hashCode_4_0 10 rfl rfl)
theorem dJ7_hashCode_4_12 : decode cJ7_hashCode_4 12 = .ok (.if_icmp .ge 19, 3) := dk_162 0 19 (dk_at dksJ7_hashCode_4_0 12 rfl rfl)
theorem dJ7_hashCode_4_15 : decode cJ7_hashCode_4 15 = .ok (.bipush 31, 2) := dk_16 31 (dk_at dksJ7_hashCode_4_0 15 rfl rfl)
theorem dJ7_hashCode_4_17 : decode cJ7_hashCode_4 17 = .ok (.iload_n 0, 1) := dk_26 (dk_at dksJ7_hashCode_4_0 17 rfl rfl)
theorem dJ7_hashCode_4_18 : decode cJ7_hashCode_4 18 = .ok (.imul, 1) := dk_104 (dk_at dksJ7_hashCode_4_0 18 rfl rfl)
theorem dJ7_hashCode_4_19 : decode cJ7_hashCode_4 19 = .ok (.aload_n 1, 1) := dk_43 (dk_at dksJ7_hashCode_4_0 19 rfl rfl)
theorem dJ7_hashCode_4_20 : decode cJ7_hashCode_4 20 = .ok (.iload 5, 2) := dk_21 5 (dk_at dksJ7_hashCode_4_0 20 rfl rfl)
theorem dJ7_hashCode_4_22 : decode cJ7_hashCode_4 22 = .ok (.iaload, 1) := dk_46 (dk_at dksJ7_hashCode_4_0 22 rfl rfl)
theorem dJ7_hashCode_4_23 : decode cJ7_hashCode_4 23 = .ok (.iadd, 1) := dk_96 (dk_at dksJ7_hashCode_4_0 23 rfl rfl)
theorem dJ7_hashCode_4_24 : decode cJ7_hashCode_4 24 = .ok (.istore_n 0, 1) := dk_59 (dk_at dksJ7_hashCode_4_1 0 rfl rfl)
theorem dJ7_hashCode_4_25 : decode cJ7_hashCode_4 25 = .ok (.iinc 5 1, 3) := dk_132 5 1 (dk_at dksJ7_hashCode_4_1 1 rfl rfl)
theorem dJ7_hashCode_4_28 : decode cJ7_hashCode_4 28 = .ok (.goto (-20), 3) := dk_167 255 236 (dk_at dksJ7_hashCode_4_1 4 rfl rfl)
theorem dJ7_hashCode_4_31 : decode cJ7_hashCode_4 31 = .ok (.iload_n 0, 1) := dk_26 (dk_at dksJ7_hashCode_4_1 7 rfl rfl)
theorem dJ7_hashCode_4_32 : decode cJ7_hashCode_4 32 = .ok (.ireturn, 1) := dk_172 (dk_at dksJ7_hashCode_4_1 8 rfl rfl)
abbrev cJ7_newLength : ByteArray := prog_67_method_27_code
def yJ7_newLength : MethodName := ⟨RJ7, "newLength", "(III)I"⟩
def dkwJ7_newLength_1 : List UInt8 := [184, 0, 201, 172]
abbrev dktJ7_newLength_1 : List UInt8 := dkwJ7_newLength_1 ++ []
def dkwJ7_newLength_0 : List UInt8 := [26, 27, 28, 184, 0, 194, 96, 62, 3, 29, 162, 0, 11, 29, 18, 200, 163, 0, 5, 29, 172, 26, 27]
abbrev dktJ7_newLength_0 : List UInt8 := dkwJ7_newLength_0 ++ dktJ7_newLength_1
theorem dksJ7_newLength_0 : cJ7_newLength.data.toList.drop 0 = dktJ7_newLength_0 := by decide +kernel
theorem dksJ7_newLength_1 : cJ7_newLength.data.toList.drop 23 = dktJ7_newLength_1 := dk_seg dksJ7_newLength_0 23 rfl rfl
theorem dJ7_newLength_0 : decode cJ7_newLength 0 = .ok (.iload_n 0, 1) := dk_26 (dk_at dksJ7_newLength_0 0 rfl rfl)
theorem dJ7_newLength_1 : decode cJ7_newLength 1 = .ok (.iload_n 1, 1) := dk_27 (dk_at dksJ7_newLength_0 1 rfl rfl)
theorem dJ7_newLength_2 : decode cJ7_newLength 2 = .ok (.iload_n 2, 1) := dk_28 (dk_at dksJ7_newLength_0 2 rfl rfl)
theorem dJ7_newLength_3 : decode cJ7_newLength 3 = .ok (.invokestatic 194, 3) := dk_184 0 194 (dk_at dksJ7_newLength_0 3 rfl rfl)
theorem dJ7_newLength_6 : decode cJ7_newLength 6 = .ok (.iadd, 1) := dk_96 (dk_at dksJ7_newLength_0 6 rfl rfl)
theorem dJ7_newLength_7 : decode cJ7_newLength 7 = .ok (.istore_n 3, 1) := dk_62 (dk_at dksJ7_newLength_0 7 rfl rfl)
theorem dJ7_newLength_8 : decode cJ7_newLength 8 = .ok (.iconst 0, 1) := dk_3 (dk_at dksJ7_newLength_0 8 rfl rfl)
theorem dJ7_newLength_9 : decode cJ7_newLength 9 = .ok (.iload_n 3, 1) := dk_29 (dk_at dksJ7_newLength_0 9 rfl rfl)
theorem dJ7_newLength_10 : decode cJ7_newLength 10 = .ok (.if_icmp .ge 11, 3) := dk_162 0 11 (dk_at dksJ7_newLength_0 10 rfl rfl)
theorem dJ7_newLength_13 : decode cJ7_newLength 13 = .ok (.iload_n 3, 1) := dk_29 (dk_at dksJ7_newLength_0 13 rfl rfl)
theorem dJ7_newLength_14 : decode cJ7_newLength 14 = .ok (.ldc 200, 2) := dk_18 200 (dk_at dksJ7_newLength_0 14 rfl rfl)
theorem dJ7_newLength_16 : decode cJ7_newLength 16 = .ok (.if_icmp .gt 5, 3) := dk_163 0 5 (dk_at dksJ7_newLength_0 16 rfl rfl)
theorem dJ7_newLength_19 : decode cJ7_newLength 19 = .ok (.iload_n 3, 1) := dk_29 (dk_at dksJ7_newLength_0 19 rfl rfl)
theorem dJ7_newLength_20 : decode cJ7_newLength 20 = .ok (.ireturn, 1) := dk_172 (dk_at dksJ7_newLength_0 20 rfl rfl)
theorem dJ7_newLength_21 : decode cJ7_newLength 21 = .ok (.iload_n 0, 1) := dk_26 (dk_at dksJ7_newLength_0 21 rfl rfl)
theorem dJ7_newLength_22 : decode cJ7_newLength 22 = .ok (.iload_n 1, 1) := dk_27 (dk_at dksJ7_newLength_0 22 rfl rfl)
theorem dJ7_newLength_23 : decode cJ7_newLength 23 = .ok (.invokestatic 201, 3) := dk_184 0 201 (dk_at dksJ7_newLength_1 0 rfl rfl)
theorem dJ7_newLength_26 : decode cJ7_newLength 26 = .ok (.ireturn, 1) := dk_172 (dk_at dksJ7_newLength_1 3 rfl rfl)
abbrev cJ7_hugeLength : ByteArray := prog_67_method_28_code
def yJ7_hugeLength : MethodName := ⟨RJ7, "hugeLength", "(II)I"⟩
def dkwJ7_hugeLength_2 : List UInt8 := [191, 28, 18, 200, 163, 0, 6, 18, 200, 172, 28, 172]
abbrev dktJ7_hugeLength_2 : List UInt8 := dkwJ7_hugeLength_2 ++ []
def dkwJ7_hugeLength_1 : List UInt8 := [26, 182, 0, 98, 18, 208, 182, 0, 94, 27, 182, 0, 98, 18, 210, 182, 0, 94, 182, 0, 101, 183, 0, 212]
abbrev dktJ7_hugeLength_1 : List UInt8 := dkwJ7_hugeLength_1 ++ dktJ7_hugeLength_2
def dkwJ7_hugeLength_0 : List UInt8 := [26, 27, 96, 61, 28, 156, 0, 44, 187, 0, 204, 89, 187, 0, 89, 89, 183, 0, 91, 18, 206, 182, 0, 94]
abbrev dktJ7_hugeLength_0 : List UInt8 := dkwJ7_hugeLength_0 ++ dktJ7_hugeLength_1
theorem dksJ7_hugeLength_0 : cJ7_hugeLength.data.toList.drop 0 = dktJ7_hugeLength_0 := by decide +kernel
theorem dksJ7_hugeLength_1 : cJ7_hugeLength.data.toList.drop 24 = dktJ7_hugeLength_1 := dk_seg dksJ7_hugeLength_0 24 rfl rfl
theorem dksJ7_hugeLength_2 : cJ7_hugeLength.data.toList.drop 48 = dktJ7_hugeLength_2 := dk_seg dksJ7_hugeLength_1 24 rfl rfl
theorem dJ7_hugeLength_0 : decode cJ7_hugeLength 0 = .ok (.iload_n 0, 1) := dk_26 (dk_at dksJ7_hugeLength_0 0 rfl rfl)
theorem dJ7_hugeLength_1 : decode cJ7_hugeLength 1 = .ok (.iload_n 1, 1) := dk_27 (dk_at dksJ7_hugeLength_0 1 rfl rfl)
theorem dJ7_hugeLength_2 : decode cJ7_hugeLength 2 = .ok (.iadd, 1) := dk_96 (dk_at dksJ7_hugeLength_0 2 rfl rfl)
theorem dJ7_hugeLength_3 : decode cJ7_hugeLength 3 = .ok (.istore_n 2, 1) := dk_61 (dk_at dksJ7_hugeLength_0 3 rfl rfl)
theorem dJ7_hugeLength_4 : decode cJ7_hugeLength 4 = .ok (.iload_n 2, 1) := dk_28 (dk_at dksJ7_hugeLength_0 4 rfl rfl)
theorem dJ7_hugeLength_5 : decode cJ7_hugeLength 5 = .ok (.ifCond .ge 44, 3) := dk_156 0 44 (dk_at dksJ7_hugeLength_0 5 rfl rfl)
theorem dJ7_hugeLength_8 : decode cJ7_hugeLength 8 = .ok (.new 204, 3) := dk_187 0 204 (dk_at dksJ7_hugeLength_0 8 rfl rfl)
theorem dJ7_hugeLength_11 : decode cJ7_hugeLength 11 = .ok (.dup, 1) := dk_89 (dk_at dksJ7_hugeLength_0 11 rfl rfl)
theorem dJ7_hugeLength_12 : decode cJ7_hugeLength 12 = .ok (.new 89, 3) := dk_187 0 89 (dk_at dksJ7_hugeLength_0 12 rfl rfl)
theorem dJ7_hugeLength_15 : decode cJ7_hugeLength 15 = .ok (.dup, 1) := dk_89 (dk_at dksJ7_hugeLength_0 15 rfl rfl)
theorem dJ7_hugeLength_16 : decode cJ7_hugeLength 16 = .ok (.invokespecial 91, 3) := dk_183 0 91 (dk_at dksJ7_hugeLength_0 16 rfl rfl)
theorem dJ7_hugeLength_19 : decode cJ7_hugeLength 19 = .ok (.ldc 206, 2) := dk_18 206 (dk_at dksJ7_hugeLength_0 19 rfl rfl)
theorem dJ7_hugeLength_21 : decode cJ7_hugeLength 21 = .ok (.invokevirtual 94, 3) := dk_182 0 94 (dk_at dksJ7_hugeLength_0 21 rfl rfl)
theorem dJ7_hugeLength_24 : decode cJ7_hugeLength 24 = .ok (.iload_n 0, 1) := dk_26 (dk_at dksJ7_hugeLength_1 0 rfl rfl)
theorem dJ7_hugeLength_25 : decode cJ7_hugeLength 25 = .ok (.invokevirtual 98, 3) := dk_182 0 98 (dk_at dksJ7_hugeLength_1 1 rfl rfl)
theorem dJ7_hugeLength_28 : decode cJ7_hugeLength 28 = .ok (.ldc 208, 2) := dk_18 208 (dk_at dksJ7_hugeLength_1 4 rfl rfl)
theorem dJ7_hugeLength_30 : decode cJ7_hugeLength 30 = .ok (.invokevirtual 94, 3) := dk_182 0 94 (dk_at dksJ7_hugeLength_1 6 rfl rfl)
theorem dJ7_hugeLength_33 : decode cJ7_hugeLength 33 = .ok (.iload_n 1, 1) := dk_27 (dk_at dksJ7_hugeLength_1 9 rfl rfl)
theorem dJ7_hugeLength_34 : decode cJ7_hugeLength 34 = .ok (.invokevirtual 98, 3) := dk_182 0 98 (dk_at dksJ7_hugeLength_1 10 rfl rfl)
theorem dJ7_hugeLength_37 : decode cJ7_hugeLength 37 = .ok (.ldc 210, 2) := dk_18 210 (dk_at dksJ7_hugeLength_1 13 rfl rfl)
theorem dJ7_hugeLength_39 : decode cJ7_hugeLength 39 = .ok (.invokevirtual 94, 3) := dk_182 0 94 (dk_at dksJ7_hugeLength_1 15 rfl rfl)
theorem dJ7_hugeLength_42 : decode cJ7_hugeLength 42 = .ok (.invokevirtual 101, 3) := dk_182 0 101 (dk_at dksJ7_hugeLength_1 18 rfl rfl)
theorem dJ7_hugeLength_45 : decode cJ7_hugeLength 45 = .ok (.invokespecial 212, 3) := dk_183 0 212 (dk_at dksJ7_hugeLength_1 21 rfl rfl)
theorem dJ7_hugeLength_48 : decode cJ7_hugeLength 48 = .ok (.athrow, 1) := dk_191 (dk_at dksJ7_hugeLength_2 0 rfl rfl)
theorem dJ7_hugeLength_49 : decode cJ7_hugeLength 49 = .ok (.iload_n 2, 1) := dk_28 (dk_at dksJ7_hugeLength_2 1 rfl rfl)
theorem dJ7_hugeLength_50 : decode cJ7_hugeLength 50 = .ok (.ldc 200, 2) := dk_18 200 (dk_at dksJ7_hugeLength_2 2 rfl rfl)
theorem dJ7_hugeLength_52 : decode cJ7_hugeLength 52 = .ok (.if_icmp .gt 6, 3) := dk_163 0 6 (dk_at dksJ7_hugeLength_2 4 rfl rfl)
theorem dJ7_hugeLength_55 : decode cJ7_hugeLength 55 = .ok (.ldc 200, 2) := dk_18 200 (dk_at dksJ7_hugeLength_2 7 rfl rfl)
theorem dJ7_hugeLength_57 : decode cJ7_hugeLength 57 = .ok (.ireturn, 1) := dk_172 (dk_at dksJ7_hugeLength_2 9 rfl rfl)
theorem dJ7_hugeLength_58 : decode cJ7_hugeLength 58 = .ok (.iload_n 2, 1) := dk_28 (dk_at dksJ7_hugeLength_2 10 rfl rfl)
theorem dJ7_hugeLength_59 : decode cJ7_hugeLength 59 = .ok (.ireturn, 1) := dk_172 (dk_at dksJ7_hugeLength_2 11 rfl rfl)
abbrev cJ7_mismatch : ByteArray := prog_67_method_13_code
def yJ7_mismatch : MethodName := ⟨RJ7, "mismatch", "([B[BI)I"⟩
def dkwJ7_mismatch_3 : List UInt8 := [172]
abbrev dktJ7_mismatch_3 : List UInt8 := dkwJ7_mismatch_3 ++ []
def dkwJ7_mismatch_2 : List UInt8 := [62, 29, 28, 162, 0, 20, 42, 29, 51, 43, 29, 51, 159, 0, 5, 29, 172, 132, 3, 1, 167, 255, 237, 2]
abbrev dktJ7_mismatch_2 : List UInt8 := dkwJ7_mismatch_2 ++ dktJ7_mismatch_3
def dkwJ7_mismatch_1 : List UInt8 := [43, 178, 0, 126, 133, 28, 178, 0, 129, 184, 0, 122, 62, 29, 155, 0, 5, 29, 172, 28, 29, 2, 130, 100]
abbrev dktJ7_mismatch_1 : List UInt8 := dkwJ7_mismatch_1 ++ dktJ7_mismatch_2
def dkwJ7_mismatch_0 : List UInt8 := [3, 62, 28, 16, 7, 164, 0, 44, 42, 3, 51, 43, 3, 51, 159, 0, 5, 3, 172, 42, 178, 0, 126, 133]
abbrev dktJ7_mismatch_0 : List UInt8 := dkwJ7_mismatch_0 ++ dktJ7_mismatch_1
theorem dksJ7_mismatch_0 : cJ7_mismatch.data.toList.drop 0 = dktJ7_mismatch_0 := by decide +kernel
theorem dksJ7_mismatch_1 : cJ7_mismatch.data.toList.drop 24 = dktJ7_mismatch_1 := dk_seg dksJ7_mismatch_0 24 rfl rfl
theorem dksJ7_mismatch_2 : cJ7_mismatch.data.toList.drop 48 = dktJ7_mismatch_2 := dk_seg dksJ7_mismatch_1 24 rfl rfl
theorem dksJ7_mismatch_3 : cJ7_mismatch.data.toList.drop 72 = dktJ7_mismatch_3 := dk_seg dksJ7_mismatch_2 24 rfl rfl
theorem dJ7_mismatch_0 : decode cJ7_mismatch 0 = .ok (.iconst 0, 1) := dk_3 (dk_at dksJ7_mismatch_0 0 rfl rfl)
theorem dJ7_mismatch_1 : decode cJ7_mismatch 1 = .ok (.istore_n 3, 1) := dk_62 (dk_at dksJ7_mismatch_0 1 rfl rfl)
theorem dJ7_mismatch_2 : decode cJ7_mismatch 2 = .ok (.iload_n 2, 1) := dk_28 (dk_at dksJ7_mismatch_0 2 rfl rfl)
theorem dJ7_mismatch_3 : decode cJ7_mismatch 3 = .ok (.bipush 7, 2) := dk_16 7 (dk_at dksJ7_mismatch_0 3 rfl rfl)
theorem dJ7_mismatch_5 : decode cJ7_mismatch 5 = .ok (.if_icmp .le 44, 3) := dk_164 0 44 (dk_at dksJ7_mismatch_0 5 rfl rfl)
theorem dJ7_mismatch_8 : decode cJ7_mismatch 8 = .ok (.aload_n 0, 1) := dk_42 (dk_at dksJ7_mismatch_0 8 rfl rfl)
theorem dJ7_mismatch_9 : decode cJ7_mismatch 9 = .ok (.iconst 0, 1) := dk_3 (dk_at dksJ7_mismatch_0 9 rfl rfl)
theorem dJ7_mismatch_10 : decode cJ7_mismatch 10 = .ok (.baload, 1) := dk_51 (dk_at dksJ7_mismatch_0 10 rfl rfl)
theorem dJ7_mismatch_11 : decode cJ7_mismatch 11 = .ok (.aload_n 1, 1) := dk_43 (dk_at dksJ7_mismatch_0 11 rfl rfl)
theorem dJ7_mismatch_12 : decode cJ7_mismatch 12 = .ok (.iconst 0, 1) := dk_3 (dk_at dksJ7_mismatch_0 12 rfl rfl)
theorem dJ7_mismatch_13 : decode cJ7_mismatch 13 = .ok (.baload, 1) := dk_51 (dk_at dksJ7_mismatch_0 13 rfl rfl)
theorem dJ7_mismatch_14 : decode cJ7_mismatch 14 = .ok (.if_icmp .eq 5, 3) := dk_159 0 5 (dk_at dksJ7_mismatch_0 14 rfl rfl)
theorem dJ7_mismatch_17 : decode cJ7_mismatch 17 = .ok (.iconst 0, 1) := dk_3 (dk_at dksJ7_mismatch_0 17 rfl rfl)
theorem dJ7_mismatch_18 : decode cJ7_mismatch 18 = .ok (.ireturn, 1) := dk_172 (dk_at dksJ7_mismatch_0 18 rfl rfl)
theorem dJ7_mismatch_19 : decode cJ7_mismatch 19 = .ok (.aload_n 0, 1) := dk_42 (dk_at dksJ7_mismatch_0 19 rfl rfl)
theorem dJ7_mismatch_20 : decode cJ7_mismatch 20 = .ok (.getstatic 126, 3) := dk_178 0 126 (dk_at dksJ7_mismatch_0 20 rfl rfl)
theorem dJ7_mismatch_23 : decode cJ7_mismatch 23 = .ok (.i2l, 1) := dk_133 (dk_at dksJ7_mismatch_0 23 rfl rfl)
theorem dJ7_mismatch_24 : decode cJ7_mismatch 24 = .ok (.aload_n 1, 1) := dk_43 (dk_at dksJ7_mismatch_1 0 rfl rfl)
theorem dJ7_mismatch_25 : decode cJ7_mismatch 25 = .ok (.getstatic 126, 3) := dk_178 0 126 (dk_at dksJ7_mismatch_1 1 rfl rfl)
theorem dJ7_mismatch_28 : decode cJ7_mismatch 28 = .ok (.i2l, 1) := dk_133 (dk_at dksJ7_mismatch_1 4 rfl rfl)
theorem dJ7_mismatch_29 : decode cJ7_mismatch 29 = .ok (.iload_n 2, 1) := dk_28 (dk_at dksJ7_mismatch_1 5 rfl rfl)
theorem dJ7_mismatch_30 : decode cJ7_mismatch 30 = .ok (.getstatic 129, 3) := dk_178 0 129 (dk_at dksJ7_mismatch_1 6 rfl rfl)
theorem dJ7_mismatch_33 : decode cJ7_mismatch 33 = .ok (.invokestatic 122, 3) := dk_184 0 122 (dk_at dksJ7_mismatch_1 9 rfl rfl)
theorem dJ7_mismatch_36 : decode cJ7_mismatch 36 = .ok (.istore_n 3, 1) := dk_62 (dk_at dksJ7_mismatch_1 12 rfl rfl)
theorem dJ7_mismatch_37 : decode cJ7_mismatch 37 = .ok (.iload_n 3, 1) := dk_29 (dk_at dksJ7_mismatch_1 13 rfl rfl)
theorem dJ7_mismatch_38 : decode cJ7_mismatch 38 = .ok (.ifCond .lt 5, 3) := dk_155 0 5 (dk_at dksJ7_mismatch_1 14 rfl rfl)
theorem dJ7_mismatch_41 : decode cJ7_mismatch 41 = .ok (.iload_n 3, 1) := dk_29 (dk_at dksJ7_mismatch_1 17 rfl rfl)
theorem dJ7_mismatch_42 : decode cJ7_mismatch 42 = .ok (.ireturn, 1) := dk_172 (dk_at dksJ7_mismatch_1 18 rfl rfl)
theorem dJ7_mismatch_43 : decode cJ7_mismatch 43 = .ok (.iload_n 2, 1) := dk_28 (dk_at dksJ7_mismatch_1 19 rfl rfl)
theorem dJ7_mismatch_44 : decode cJ7_mismatch 44 = .ok (.iload_n 3, 1) := dk_29 (dk_at dksJ7_mismatch_1 20 rfl rfl)
theorem dJ7_mismatch_45 : decode cJ7_mismatch 45 = .ok (.iconst (-1), 1) := dk_2 (dk_at dksJ7_mismatch_1 21 rfl rfl)
theorem dJ7_mismatch_46 : decode cJ7_mismatch 46 = .ok (.ixor, 1) := dk_130 (dk_at dksJ7_mismatch_1 22 rfl rfl)
theorem dJ7_mismatch_47 : decode cJ7_mismatch 47 = .ok (.isub, 1) := dk_100 (dk_at dksJ7_mismatch_1 23 rfl rfl)
theorem dJ7_mismatch_48 : decode cJ7_mismatch 48 = .ok (.istore_n 3, 1) := dk_62 (dk_at dksJ7_mismatch_2 0 rfl rfl)
theorem dJ7_mismatch_49 : decode cJ7_mismatch 49 = .ok (.iload_n 3, 1) := dk_29 (dk_at dksJ7_mismatch_2 1 rfl rfl)
theorem dJ7_mismatch_50 : decode cJ7_mismatch 50 = .ok (.iload_n 2, 1) := dk_28 (dk_at dksJ7_mismatch_2 2 rfl rfl)
theorem dJ7_mismatch_51 : decode cJ7_mismatch 51 = .ok (.if_icmp .ge 20, 3) := dk_162 0 20 (dk_at dksJ7_mismatch_2 3 rfl rfl)
theorem dJ7_mismatch_54 : decode cJ7_mismatch 54 = .ok (.aload_n 0, 1) := dk_42 (dk_at dksJ7_mismatch_2 6 rfl rfl)
theorem dJ7_mismatch_55 : decode cJ7_mismatch 55 = .ok (.iload_n 3, 1) := dk_29 (dk_at dksJ7_mismatch_2 7 rfl rfl)
theorem dJ7_mismatch_56 : decode cJ7_mismatch 56 = .ok (.baload, 1) := dk_51 (dk_at dksJ7_mismatch_2 8 rfl rfl)
theorem dJ7_mismatch_57 : decode cJ7_mismatch 57 = .ok (.aload_n 1, 1) := dk_43 (dk_at dksJ7_mismatch_2 9 rfl rfl)
theorem dJ7_mismatch_58 : decode cJ7_mismatch 58 = .ok (.iload_n 3, 1) := dk_29 (dk_at dksJ7_mismatch_2 10 rfl rfl)
theorem dJ7_mismatch_59 : decode cJ7_mismatch 59 = .ok (.baload, 1) := dk_51 (dk_at dksJ7_mismatch_2 11 rfl rfl)
theorem dJ7_mismatch_60 : decode cJ7_mismatch 60 = .ok (.if_icmp .eq 5, 3) := dk_159 0 5 (dk_at dksJ7_mismatch_2 12 rfl rfl)
theorem dJ7_mismatch_63 : decode cJ7_mismatch 63 = .ok (.iload_n 3, 1) := dk_29 (dk_at dksJ7_mismatch_2 15 rfl rfl)
theorem dJ7_mismatch_64 : decode cJ7_mismatch 64 = .ok (.ireturn, 1) := dk_172 (dk_at dksJ7_mismatch_2 16 rfl rfl)
theorem dJ7_mismatch_65 : decode cJ7_mismatch 65 = .ok (.iinc 3 1, 3) := dk_132 3 1 (dk_at dksJ7_mismatch_2 17 rfl rfl)
theorem dJ7_mismatch_68 : decode cJ7_mismatch 68 = .ok (.goto (-19), 3) := dk_167 255 237 (dk_at dksJ7_mismatch_2 20 rfl rfl)
theorem dJ7_mismatch_71 : decode cJ7_mismatch 71 = .ok (.iconst (-1), 1) := dk_2 (dk_at dksJ7_mismatch_2 23 rfl rfl)
theorem dJ7_mismatch_72 : decode cJ7_mismatch 72 = .ok (.ireturn, 1) := dk_172 (dk_at dksJ7_mismatch_3 0 rfl rfl)
abbrev cJ7_vectorizedMismatch : ByteArray := prog_67_method_3_code
def yJ7_vectorizedMismatch : MethodName := ⟨RJ7, "vectorizedMismatch", "(Ljava/lang/Object;JLjava/lang/Object;JII)I"⟩
def dkwJ7_vectorizedMismatch_11 : List UInt8 := [54, 10, 21, 10, 2, 130, 172, 21, 10, 2, 130, 172]
abbrev dktJ7_vectorizedMismatch_11 : List UInt8 := dkwJ7_vectorizedMismatch_11 ++ []
def dkwJ7_vectorizedMismatch_10 : List UInt8 := [178, 0, 46, 21, 7, 96, 122, 54, 17, 21, 9, 21, 8, 120, 21, 17, 96, 172, 21, 10, 21, 11, 100]
abbrev dktJ7_vectorizedMismatch_10 : List UInt8 := dkwJ7_vectorizedMismatch_10 ++ dktJ7_vectorizedMismatch_11
def dkwJ7_vectorizedMismatch_9 : List UInt8 := [153, 0, 18, 21, 16, 184, 0, 58, 178, 0, 46, 21, 7, 96, 122, 167, 0, 15, 21, 16, 184, 0, 11]
abbrev dktJ7_vectorizedMismatch_9 : List UInt8 := dkwJ7_vectorizedMismatch_9 ++ dktJ7_vectorizedMismatch_10
def dkwJ7_vectorizedMismatch_8 : List UInt8 := [182, 0, 54, 54, 15, 21, 14, 21, 15, 159, 0, 54, 21, 14, 21, 15, 130, 54, 16, 178, 0, 36]
abbrev dktJ7_vectorizedMismatch_8 : List UInt8 := dkwJ7_vectorizedMismatch_8 ++ dktJ7_vectorizedMismatch_9
def dkwJ7_vectorizedMismatch_7 : List UInt8 := [55, 12, 178, 0, 26, 42, 31, 22, 12, 97, 182, 0, 54, 54, 14, 178, 0, 26, 45, 22, 4, 22, 12, 97]
abbrev dktJ7_vectorizedMismatch_7 : List UInt8 := dkwJ7_vectorizedMismatch_7 ++ dktJ7_vectorizedMismatch_8
def dkwJ7_vectorizedMismatch_6 : List UInt8 := [4, 178, 0, 51, 21, 7, 100, 120, 54, 11, 21, 10, 21, 11, 161, 0, 104, 21, 9, 133, 178, 0, 20, 121]
abbrev dktJ7_vectorizedMismatch_6 : List UInt8 := dkwJ7_vectorizedMismatch_6 ++ dktJ7_vectorizedMismatch_7
def dkwJ7_vectorizedMismatch_5 : List UInt8 := [132, 9, 1, 167, 255, 148, 21, 6, 21, 9, 21, 8, 120, 100, 54, 10, 21, 7, 178, 0, 51, 162, 0, 126]
abbrev dktJ7_vectorizedMismatch_5 : List UInt8 := dkwJ7_vectorizedMismatch_5 ++ dktJ7_vectorizedMismatch_6
def dkwJ7_vectorizedMismatch_4 : List UInt8 := [22, 16, 184, 0, 49, 178, 0, 46, 21, 7, 96, 122, 54, 18, 21, 9, 21, 8, 120, 21, 18, 96, 172]
abbrev dktJ7_vectorizedMismatch_4 : List UInt8 := dkwJ7_vectorizedMismatch_4 ++ dktJ7_vectorizedMismatch_5
def dkwJ7_vectorizedMismatch_3 : List UInt8 := [55, 16, 178, 0, 36, 153, 0, 18, 22, 16, 184, 0, 40, 178, 0, 46, 21, 7, 96, 122, 167, 0, 15]
abbrev dktJ7_vectorizedMismatch_3 : List UInt8 := dkwJ7_vectorizedMismatch_3 ++ dktJ7_vectorizedMismatch_4
def dkwJ7_vectorizedMismatch_2 : List UInt8 := [22, 4, 22, 10, 97, 182, 0, 30, 55, 14, 22, 12, 22, 14, 148, 153, 0, 54, 22, 12, 22, 14, 131]
abbrev dktJ7_vectorizedMismatch_2 : List UInt8 := dkwJ7_vectorizedMismatch_2 ++ dktJ7_vectorizedMismatch_3
def dkwJ7_vectorizedMismatch_1 : List UInt8 := [178, 0, 20, 121, 55, 10, 178, 0, 26, 42, 31, 22, 10, 97, 182, 0, 30, 55, 12, 178, 0, 26, 45]
abbrev dktJ7_vectorizedMismatch_1 : List UInt8 := dkwJ7_vectorizedMismatch_1 ++ dktJ7_vectorizedMismatch_2
def dkwJ7_vectorizedMismatch_0 : List UInt8 := [178, 0, 20, 21, 7, 100, 54, 8, 3, 54, 9, 21, 9, 21, 6, 21, 8, 122, 162, 0, 104, 21, 9, 133]
abbrev dktJ7_vectorizedMismatch_0 : List UInt8 := dkwJ7_vectorizedMismatch_0 ++ dktJ7_vectorizedMismatch_1
theorem dksJ7_vectorizedMismatch_0 : cJ7_vectorizedMismatch.data.toList.drop 0 = dktJ7_vectorizedMismatch_0 := by decide +kernel
theorem dksJ7_vectorizedMismatch_1 : cJ7_vectorizedMismatch.data.toList.drop 24 = dktJ7_vectorizedMismatch_1 := dk_seg dksJ7_vectorizedMismatch_0 24 rfl rfl
theorem dksJ7_vectorizedMismatch_2 : cJ7_vectorizedMismatch.data.toList.drop 47 = dktJ7_vectorizedMismatch_2 := dk_seg dksJ7_vectorizedMismatch_1 23 rfl rfl
theorem dksJ7_vectorizedMismatch_3 : cJ7_vectorizedMismatch.data.toList.drop 70 = dktJ7_vectorizedMismatch_3 := dk_seg dksJ7_vectorizedMismatch_2 23 rfl rfl
theorem dksJ7_vectorizedMismatch_4 : cJ7_vectorizedMismatch.data.toList.drop 93 = dktJ7_vectorizedMismatch_4 := dk_seg dksJ7_vectorizedMismatch_3 23 rfl rfl
theorem dksJ7_vectorizedMismatch_5 : cJ7_vectorizedMismatch.data.toList.drop 116 = dktJ7_vectorizedMismatch_5 := dk_seg dksJ7_vectorizedMismatch_4 23 rfl rfl
theorem dksJ7_vectorizedMismatch_6 : cJ7_vectorizedMismatch.data.toList.drop 140 = dktJ7_vectorizedMismatch_6 := dk_seg dksJ7_vectorizedMismatch_5 24 rfl rfl
theorem dksJ7_vectorizedMismatch_7 : cJ7_vectorizedMismatch.data.toList.drop 164 = dktJ7_vectorizedMismatch_7 := dk_seg dksJ7_vectorizedMismatch_6 24 rfl rfl
theorem dksJ7_vectorizedMismatch_8 : cJ7_vectorizedMismatch.data.toList.drop 188 = dktJ7_vectorizedMismatch_8 := dk_seg dksJ7_vectorizedMismatch_7 24 rfl rfl
theorem dksJ7_vectorizedMismatch_9 : cJ7_vectorizedMismatch.data.toList.drop 210 = dktJ7_vectorizedMismatch_9 := dk_seg dksJ7_vectorizedMismatch_8 22 rfl rfl
theorem dksJ7_vectorizedMismatch_10 : cJ7_vectorizedMismatch.data.toList.drop 233 = dktJ7_vectorizedMismatch_10 := dk_seg dksJ7_vectorizedMismatch_9 23 rfl rfl
theorem dksJ7_vectorizedMismatch_11 : cJ7_vectorizedMismatch.data.toList.drop 256 = dktJ7_vectorizedMismatch_11 := dk_seg dksJ7_vectorizedMismatch_10 23 rfl rfl
theorem dJ7_vectorizedMismatch_0 : decode cJ7_vectorizedMismatch 0 = .ok (.getstatic 20, 3) := dk_178 0 20 (dk_at dksJ7_vectorizedMismatch_0 0 rfl rfl)
theorem dJ7_vectorizedMismatch_3 : decode cJ7_vectorizedMismatch 3 = .ok (.iload 7, 2) := dk_21 7 (dk_at dksJ7_vectorizedMismatch_0 3 rfl rfl)
theorem dJ7_vectorizedMismatch_5 : decode cJ7_vectorizedMismatch 5 = .ok (.isub, 1) := dk_100 (dk_at dksJ7_vectorizedMismatch_0 5 rfl rfl)
theorem dJ7_vectorizedMismatch_6 : decode cJ7_vectorizedMismatch 6 = .ok (.istore 8, 2) := dk_54 8 (dk_at dksJ7_vectorizedMismatch_0 6 rfl rfl)
theorem dJ7_vectorizedMismatch_8 : decode cJ7_vectorizedMismatch 8 = .ok (.iconst 0, 1) := dk_3 (dk_at dksJ7_vectorizedMismatch_0 8 rfl rfl)
theorem dJ7_vectorizedMismatch_9 : decode cJ7_vectorizedMismatch 9 = .ok (.istore 9, 2) := dk_54 9 (dk_at dksJ7_vectorizedMismatch_0 9 rfl rfl)
theorem dJ7_vectorizedMismatch_11 : decode cJ7_vectorizedMismatch 11 = .ok (.iload 9, 2) := dk_21 9 (dk_at dksJ7_vectorizedMismatch_0 11 rfl rfl)
theorem dJ7_vectorizedMismatch_13 : decode cJ7_vectorizedMismatch 13 = .ok (.iload 6, 2) := dk_21 6 (dk_at dksJ7_vectorizedMismatch_0 13 rfl rfl)
theorem dJ7_vectorizedMismatch_15 : decode cJ7_vectorizedMismatch 15 = .ok (.iload 8, 2) := dk_21 8 (dk_at dksJ7_vectorizedMismatch_0 15 rfl rfl)
theorem dJ7_vectorizedMismatch_17 : decode cJ7_vectorizedMismatch 17 = .ok (.ishr, 1) := dk_122 (dk_at dksJ7_vectorizedMismatch_0 17 rfl rfl)
theorem dJ7_vectorizedMismatch_18 : decode cJ7_vectorizedMismatch 18 = .ok (.if_icmp .ge 104, 3) := dk_162 0 104 (dk_at dksJ7_vectorizedMismatch_0 18 rfl rfl)
theorem dJ7_vectorizedMismatch_21 : decode cJ7_vectorizedMismatch 21 = .ok (.iload 9, 2) := dk_21 9 (dk_at dksJ7_vectorizedMismatch_0 21 rfl rfl)
theorem dJ7_vectorizedMismatch_23 : decode cJ7_vectorizedMismatch 23 = .ok (.i2l, 1) := dk_133 (dk_at dksJ7_vectorizedMismatch_0 23 rfl rfl)
theorem dJ7_vectorizedMismatch_24 : decode cJ7_vectorizedMismatch 24 = .ok (.getstatic 20, 3) := dk_178 0 20 (dk_at dksJ7_vectorizedMismatch_1 0 rfl rfl)
theorem dJ7_vectorizedMismatch_27 : decode cJ7_vectorizedMismatch 27 = .ok (.lshl, 1) := dk_121 (dk_at dksJ7_vectorizedMismatch_1 3 rfl rfl)
theorem dJ7_vectorizedMismatch_28 : decode cJ7_vectorizedMismatch 28 = .ok (.lstore 10, 2) := dk_55 10 (dk_at dksJ7_vectorizedMismatch_1 4 rfl rfl)
theorem dJ7_vectorizedMismatch_30 : decode cJ7_vectorizedMismatch 30 = .ok (.getstatic 26, 3) := dk_178 0 26 (dk_at dksJ7_vectorizedMismatch_1 6 rfl rfl)
theorem dJ7_vectorizedMismatch_33 : decode cJ7_vectorizedMismatch 33 = .ok (.aload_n 0, 1) := dk_42 (dk_at dksJ7_vectorizedMismatch_1 9 rfl rfl)
theorem dJ7_vectorizedMismatch_34 : decode cJ7_vectorizedMismatch 34 = .ok (.lload_n 1, 1) := dk_31 (dk_at dksJ7_vectorizedMismatch_1 10 rfl rfl)
theorem dJ7_vectorizedMismatch_35 : decode cJ7_vectorizedMismatch 35 = .ok (.lload 10, 2) := dk_22 10 (dk_at dksJ7_vectorizedMismatch_1 11 rfl rfl)
theorem dJ7_vectorizedMismatch_37 : decode cJ7_vectorizedMismatch 37 = .ok (.ladd, 1) := dk_97 (dk_at dksJ7_vectorizedMismatch_1 13 rfl rfl)
theorem dJ7_vectorizedMismatch_38 : decode cJ7_vectorizedMismatch 38 = .ok (.invokevirtual 30, 3) := dk_182 0 30 (dk_at dksJ7_vectorizedMismatch_1 14 rfl rfl)
theorem dJ7_vectorizedMismatch_41 : decode cJ7_vectorizedMismatch 41 = .ok (.lstore 12, 2) := dk_55 12 (dk_at dksJ7_vectorizedMismatch_1 17 rfl rfl)
theorem dJ7_vectorizedMismatch_43 : decode cJ7_vectorizedMismatch 43 = .ok (.getstatic 26, 3) := dk_178 0 26 (dk_at dksJ7_vectorizedMismatch_1 19 rfl rfl)
theorem dJ7_vectorizedMismatch_46 : decode cJ7_vectorizedMismatch 46 = .ok (.aload_n 3, 1) := dk_45 (dk_at dksJ7_vectorizedMismatch_1 22 rfl rfl)
theorem dJ7_vectorizedMismatch_47 : decode cJ7_vectorizedMismatch 47 = .ok (.lload 4, 2) := dk_22 4 (dk_at dksJ7_vectorizedMismatch_2 0 rfl rfl)
theorem dJ7_vectorizedMismatch_49 : decode cJ7_vectorizedMismatch 49 = .ok (.lload 10, 2) := dk_22 10 (dk_at dksJ7_vectorizedMismatch_2 2 rfl rfl)
theorem dJ7_vectorizedMismatch_51 : decode cJ7_vectorizedMismatch 51 = .ok (.ladd, 1) := dk_97 (dk_at dksJ7_vectorizedMismatch_2 4 rfl rfl)
theorem dJ7_vectorizedMismatch_52 : decode cJ7_vectorizedMismatch 52 = .ok (.invokevirtual 30, 3) := dk_182 0 30 (dk_at dksJ7_vectorizedMismatch_2 5 rfl rfl)
theorem dJ7_vectorizedMismatch_55 : decode cJ7_vectorizedMismatch 55 = .ok (.lstore 14, 2) := dk_55 14 (dk_at dksJ7_vectorizedMismatch_2 8 rfl rfl)
theorem dJ7_vectorizedMismatch_57 : decode cJ7_vectorizedMismatch 57 = .ok (.lload 12, 2) := dk_22 12 (dk_at dksJ7_vectorizedMismatch_2 10 rfl rfl)
theorem dJ7_vectorizedMismatch_59 : decode cJ7_vectorizedMismatch 59 = .ok (.lload 14, 2) := dk_22 14 (dk_at dksJ7_vectorizedMismatch_2 12 rfl rfl)
theorem dJ7_vectorizedMismatch_61 : decode cJ7_vectorizedMismatch 61 = .ok (.lcmp, 1) := dk_148 (dk_at dksJ7_vectorizedMismatch_2 14 rfl rfl)
theorem dJ7_vectorizedMismatch_62 : decode cJ7_vectorizedMismatch 62 = .ok (.ifCond .eq 54, 3) := dk_153 0 54 (dk_at dksJ7_vectorizedMismatch_2 15 rfl rfl)
theorem dJ7_vectorizedMismatch_65 : decode cJ7_vectorizedMismatch 65 = .ok (.lload 12, 2) := dk_22 12 (dk_at dksJ7_vectorizedMismatch_2 18 rfl rfl)
theorem dJ7_vectorizedMismatch_67 : decode cJ7_vectorizedMismatch 67 = .ok (.lload 14, 2) := dk_22 14 (dk_at dksJ7_vectorizedMismatch_2 20 rfl rfl)
theorem dJ7_vectorizedMismatch_69 : decode cJ7_vectorizedMismatch 69 = .ok (.lxor, 1) := dk_131 (dk_at dksJ7_vectorizedMismatch_2 22 rfl rfl)
theorem dJ7_vectorizedMismatch_70 : decode cJ7_vectorizedMismatch 70 = .ok (.lstore 16, 2) := dk_55 16 (dk_at dksJ7_vectorizedMismatch_3 0 rfl rfl)
theorem dJ7_vectorizedMismatch_72 : decode cJ7_vectorizedMismatch 72 = .ok (.getstatic 36, 3) := dk_178 0 36 (dk_at dksJ7_vectorizedMismatch_3 2 rfl rfl)
theorem dJ7_vectorizedMismatch_75 : decode cJ7_vectorizedMismatch 75 = .ok (.ifCond .eq 18, 3) := dk_153 0 18 (dk_at dksJ7_vectorizedMismatch_3 5 rfl rfl)
theorem dJ7_vectorizedMismatch_78 : decode cJ7_vectorizedMismatch 78 = .ok (.lload 16, 2) := dk_22 16 (dk_at dksJ7_vectorizedMismatch_3 8 rfl rfl)
theorem dJ7_vectorizedMismatch_80 : decode cJ7_vectorizedMismatch 80 = .ok (.invokestatic 40, 3) := dk_184 0 40 (dk_at dksJ7_vectorizedMismatch_3 10 rfl rfl)
theorem dJ7_vectorizedMismatch_83 : decode cJ7_vectorizedMismatch 83 = .ok (.getstatic 46, 3) := dk_178 0 46 (dk_at dksJ7_vectorizedMismatch_3 13 rfl rfl)
theorem dJ7_vectorizedMismatch_86 : decode cJ7_vectorizedMismatch 86 = .ok (.iload 7, 2) := dk_21 7 (dk_at dksJ7_vectorizedMismatch_3 16 rfl rfl)
theorem dJ7_vectorizedMismatch_88 : decode cJ7_vectorizedMismatch 88 = .ok (.iadd, 1) := dk_96 (dk_at dksJ7_vectorizedMismatch_3 18 rfl rfl)
theorem dJ7_vectorizedMismatch_89 : decode cJ7_vectorizedMismatch 89 = .ok (.ishr, 1) := dk_122 (dk_at dksJ7_vectorizedMismatch_3 19 rfl rfl)
theorem dJ7_vectorizedMismatch_90 : decode cJ7_vectorizedMismatch 90 = .ok (.goto 15, 3) := dk_167 0 15 (dk_at dksJ7_vectorizedMismatch_3 20 rfl rfl)
theorem dJ7_vectorizedMismatch_93 : decode cJ7_vectorizedMismatch 93 = .ok (.lload 16, 2) := dk_22 16 (dk_at dksJ7_vectorizedMismatch_4 0 rfl rfl)
theorem dJ7_vectorizedMismatch_95 : decode cJ7_vectorizedMismatch 95 = .ok (.invokestatic 49, 3) := dk_184 0 49 (dk_at dksJ7_vectorizedMismatch_4 2 rfl rfl)
theorem dJ7_vectorizedMismatch_98 : decode cJ7_vectorizedMismatch 98 = .ok (.getstatic 46, 3) := dk_178 0 46 (dk_at dksJ7_vectorizedMismatch_4 5 rfl rfl)
theorem dJ7_vectorizedMismatch_101 : decode cJ7_vectorizedMismatch 101 = .ok (.iload 7, 2) := dk_21 7 (dk_at dksJ7_vectorizedMismatch_4 8 rfl rfl)
theorem dJ7_vectorizedMismatch_103 : decode cJ7_vectorizedMismatch 103 = .ok (.iadd, 1) := dk_96 (dk_at dksJ7_vectorizedMismatch_4 10 rfl rfl)
theorem dJ7_vectorizedMismatch_104 : decode cJ7_vectorizedMismatch 104 = .ok (.ishr, 1) := dk_122 (dk_at dksJ7_vectorizedMismatch_4 11 rfl rfl)
theorem dJ7_vectorizedMismatch_105 : decode cJ7_vectorizedMismatch 105 = .ok (.istore 18, 2) := dk_54 18 (dk_at dksJ7_vectorizedMismatch_4 12 rfl rfl)
theorem dJ7_vectorizedMismatch_107 : decode cJ7_vectorizedMismatch 107 = .ok (.iload 9, 2) := dk_21 9 (dk_at dksJ7_vectorizedMismatch_4 14 rfl rfl)
theorem dJ7_vectorizedMismatch_109 : decode cJ7_vectorizedMismatch 109 = .ok (.iload 8, 2) := dk_21 8 (dk_at dksJ7_vectorizedMismatch_4 16 rfl rfl)
theorem dJ7_vectorizedMismatch_111 : decode cJ7_vectorizedMismatch 111 = .ok (.ishl, 1) := dk_120 (dk_at dksJ7_vectorizedMismatch_4 18 rfl rfl)
theorem dJ7_vectorizedMismatch_112 : decode cJ7_vectorizedMismatch 112 = .ok (.iload 18, 2) := dk_21 18 (dk_at dksJ7_vectorizedMismatch_4 19 rfl rfl)
theorem dJ7_vectorizedMismatch_114 : decode cJ7_vectorizedMismatch 114 = .ok (.iadd, 1) := dk_96 (dk_at dksJ7_vectorizedMismatch_4 21 rfl rfl)
theorem dJ7_vectorizedMismatch_115 : decode cJ7_vectorizedMismatch 115 = .ok (.ireturn, 1) := dk_172 (dk_at dksJ7_vectorizedMismatch_4 22 rfl rfl)
theorem dJ7_vectorizedMismatch_116 : decode cJ7_vectorizedMismatch 116 = .ok (.iinc 9 1, 3) := dk_132 9 1 (dk_at dksJ7_vectorizedMismatch_5 0 rfl rfl)
theorem dJ7_vectorizedMismatch_119 : decode cJ7_vectorizedMismatch 119 = .ok (.goto (-108), 3) := dk_167 255 148 (dk_at dksJ7_vectorizedMismatch_5 3 rfl rfl)
theorem dJ7_vectorizedMismatch_122 : decode cJ7_vectorizedMismatch 122 = .ok (.iload 6, 2) := dk_21 6 (dk_at dksJ7_vectorizedMismatch_5 6 rfl rfl)
theorem dJ7_vectorizedMismatch_124 : decode cJ7_vectorizedMismatch 124 = .ok (.iload 9, 2) := dk_21 9 (dk_at dksJ7_vectorizedMismatch_5 8 rfl rfl)
theorem dJ7_vectorizedMismatch_126 : decode cJ7_vectorizedMismatch 126 = .ok (.iload 8, 2) := dk_21 8 (dk_at dksJ7_vectorizedMismatch_5 10 rfl rfl)
theorem dJ7_vectorizedMismatch_128 : decode cJ7_vectorizedMismatch 128 = .ok (.ishl, 1) := dk_120 (dk_at dksJ7_vectorizedMismatch_5 12 rfl rfl)
theorem dJ7_vectorizedMismatch_129 : decode cJ7_vectorizedMismatch 129 = .ok (.isub, 1) := dk_100 (dk_at dksJ7_vectorizedMismatch_5 13 rfl rfl)
theorem dJ7_vectorizedMismatch_130 : decode cJ7_vectorizedMismatch 130 = .ok (.istore 10, 2) := dk_54 10 (dk_at dksJ7_vectorizedMismatch_5 14 rfl rfl)
theorem dJ7_vectorizedMismatch_132 : decode cJ7_vectorizedMismatch 132 = .ok (.iload 7, 2) := dk_21 7 (dk_at dksJ7_vectorizedMismatch_5 16 rfl rfl)
theorem dJ7_vectorizedMismatch_134 : decode cJ7_vectorizedMismatch 134 = .ok (.getstatic 51, 3) := dk_178 0 51 (dk_at dksJ7_vectorizedMismatch_5 18 rfl rfl)
theorem dJ7_vectorizedMismatch_137 : decode cJ7_vectorizedMismatch 137 = .ok (.if_icmp .ge 126, 3) := dk_162 0 126 (dk_at dksJ7_vectorizedMismatch_5 21 rfl rfl)
theorem dJ7_vectorizedMismatch_140 : decode cJ7_vectorizedMismatch 140 = .ok (.iconst 1, 1) := dk_4 (dk_at dksJ7_vectorizedMismatch_6 0 rfl rfl)
theorem dJ7_vectorizedMismatch_141 : decode cJ7_vectorizedMismatch 141 = .ok (.getstatic 51, 3) := dk_178 0 51 (dk_at dksJ7_vectorizedMismatch_6 1 rfl rfl)
theorem dJ7_vectorizedMismatch_144 : decode cJ7_vectorizedMismatch 144 = .ok (.iload 7, 2) := dk_21 7 (dk_at dksJ7_vectorizedMismatch_6 4 rfl rfl)
theorem dJ7_vectorizedMismatch_146 : decode cJ7_vectorizedMismatch 146 = .ok (.isub, 1) := dk_100 (dk_at dksJ7_vectorizedMismatch_6 6 rfl rfl)
theorem dJ7_vectorizedMismatch_147 : decode cJ7_vectorizedMismatch 147 = .ok (.ishl, 1) := dk_120 (dk_at dksJ7_vectorizedMismatch_6 7 rfl rfl)
theorem dJ7_vectorizedMismatch_148 : decode cJ7_vectorizedMismatch 148 = .ok (.istore 11, 2) := dk_54 11 (dk_at dksJ7_vectorizedMismatch_6 8 rfl rfl)
theorem dJ7_vectorizedMismatch_150 : decode cJ7_vectorizedMismatch 150 = .ok (.iload 10, 2) := dk_21 10 (dk_at dksJ7_vectorizedMismatch_6 10 rfl rfl)
theorem dJ7_vectorizedMismatch_152 : decode cJ7_vectorizedMismatch 152 = .ok (.iload 11, 2) := dk_21 11 (dk_at dksJ7_vectorizedMismatch_6 12 rfl rfl)
theorem dJ7_vectorizedMismatch_154 : decode cJ7_vectorizedMismatch 154 = .ok (.if_icmp .lt 104, 3) := dk_161 0 104 (dk_at dksJ7_vectorizedMismatch_6 14 rfl rfl)
theorem dJ7_vectorizedMismatch_157 : decode cJ7_vectorizedMismatch 157 = .ok (.iload 9, 2) := dk_21 9 (dk_at dksJ7_vectorizedMismatch_6 17 rfl rfl)
theorem dJ7_vectorizedMismatch_159 : decode cJ7_vectorizedMismatch 159 = .ok (.i2l, 1) := dk_133 (dk_at dksJ7_vectorizedMismatch_6 19 rfl rfl)
theorem dJ7_vectorizedMismatch_160 : decode cJ7_vectorizedMismatch 160 = .ok (.getstatic 20, 3) := dk_178 0 20 (dk_at dksJ7_vectorizedMismatch_6 20 rfl rfl)
theorem dJ7_vectorizedMismatch_163 : decode cJ7_vectorizedMismatch 163 = .ok (.lshl, 1) := dk_121 (dk_at dksJ7_vectorizedMismatch_6 23 rfl rfl)
theorem dJ7_vectorizedMismatch_164 : decode cJ7_vectorizedMismatch 164 = .ok (.lstore 12, 2) := dk_55 12 (dk_at dksJ7_vectorizedMismatch_7 0 rfl rfl)
theorem dJ7_vectorizedMismatch_166 : decode cJ7_vectorizedMismatch 166 = .ok (.getstatic 26, 3) := dk_178 0 26 (dk_at dksJ7_vectorizedMismatch_7 2 rfl rfl)
theorem dJ7_vectorizedMismatch_169 : decode cJ7_vectorizedMismatch 169 = .ok (.aload_n 0, 1) := dk_42 (dk_at dksJ7_vectorizedMismatch_7 5 rfl rfl)
theorem dJ7_vectorizedMismatch_170 : decode cJ7_vectorizedMismatch 170 = .ok (.lload_n 1, 1) := dk_31 (dk_at dksJ7_vectorizedMismatch_7 6 rfl rfl)
theorem dJ7_vectorizedMismatch_171 : decode cJ7_vectorizedMismatch 171 = .ok (.lload 12, 2) := dk_22 12 (dk_at dksJ7_vectorizedMismatch_7 7 rfl rfl)
theorem dJ7_vectorizedMismatch_173 : decode cJ7_vectorizedMismatch 173 = .ok (.ladd, 1) := dk_97 (dk_at dksJ7_vectorizedMismatch_7 9 rfl rfl)
theorem dJ7_vectorizedMismatch_174 : decode cJ7_vectorizedMismatch 174 = .ok (.invokevirtual 54, 3) := dk_182 0 54 (dk_at dksJ7_vectorizedMismatch_7 10 rfl rfl)
theorem dJ7_vectorizedMismatch_177 : decode cJ7_vectorizedMismatch 177 = .ok (.istore 14, 2) := dk_54 14 (dk_at dksJ7_vectorizedMismatch_7 13 rfl rfl)
theorem dJ7_vectorizedMismatch_179 : decode cJ7_vectorizedMismatch 179 = .ok (.getstatic 26, 3) := dk_178 0 26 (dk_at dksJ7_vectorizedMismatch_7 15 rfl rfl)
theorem dJ7_vectorizedMismatch_182 : decode cJ7_vectorizedMismatch 182 = .ok (.aload_n 3, 1) := dk_45 (dk_at dksJ7_vectorizedMismatch_7 18 rfl rfl)
theorem dJ7_vectorizedMismatch_183 : decode cJ7_vectorizedMismatch 183 = .ok (.lload 4, 2) := dk_22 4 (dk_at dksJ7_vectorizedMismatch_7 19 rfl rfl)
theorem dJ7_vectorizedMismatch_185 : decode cJ7_vectorizedMismatch 185 = .ok (.lload 12, 2) := dk_22 12 (dk_at dksJ7_vectorizedMismatch_7 21 rfl rfl)
theorem dJ7_vectorizedMismatch_187 : decode cJ7_vectorizedMismatch 187 = .ok (.ladd, 1) := dk_97 (dk_at dksJ7_vectorizedMismatch_7 23 rfl rfl)
theorem dJ7_vectorizedMismatch_188 : decode cJ7_vectorizedMismatch 188 = .ok (.invokevirtual 54, 3) := dk_182 0 54 (dk_at dksJ7_vectorizedMismatch_8 0 rfl rfl)
theorem dJ7_vectorizedMismatch_191 : decode cJ7_vectorizedMismatch 191 = .ok (.istore 15, 2) := dk_54 15 (dk_at dksJ7_vectorizedMismatch_8 3 rfl rfl)
theorem dJ7_vectorizedMismatch_193 : decode cJ7_vectorizedMismatch 193 = .ok (.iload 14, 2) := dk_21 14 (dk_at dksJ7_vectorizedMismatch_8 5 rfl rfl)
theorem dJ7_vectorizedMismatch_195 : decode cJ7_vectorizedMismatch 195 = .ok (.iload 15, 2) := dk_21 15 (dk_at dksJ7_vectorizedMismatch_8 7 rfl rfl)
theorem dJ7_vectorizedMismatch_197 : decode cJ7_vectorizedMismatch 197 = .ok (.if_icmp .eq 54, 3) := dk_159 0 54 (dk_at dksJ7_vectorizedMismatch_8 9 rfl rfl)
theorem dJ7_vectorizedMismatch_200 : decode cJ7_vectorizedMismatch 200 = .ok (.iload 14, 2) := dk_21 14 (dk_at dksJ7_vectorizedMismatch_8 12 rfl rfl)
theorem dJ7_vectorizedMismatch_202 : decode cJ7_vectorizedMismatch 202 = .ok (.iload 15, 2) := dk_21 15 (dk_at dksJ7_vectorizedMismatch_8 14 rfl rfl)
theorem dJ7_vectorizedMismatch_204 : decode cJ7_vectorizedMismatch 204 = .ok (.ixor, 1) := dk_130 (dk_at dksJ7_vectorizedMismatch_8 16 rfl rfl)
theorem dJ7_vectorizedMismatch_205 : decode cJ7_vectorizedMismatch 205 = .ok (.istore 16, 2) := dk_54 16 (dk_at dksJ7_vectorizedMismatch_8 17 rfl rfl)
theorem dJ7_vectorizedMismatch_207 : decode cJ7_vectorizedMismatch 207 = .ok (.getstatic 36, 3) := dk_178 0 36 (dk_at dksJ7_vectorizedMismatch_8 19 rfl rfl)
theorem dJ7_vectorizedMismatch_210 : decode cJ7_vectorizedMismatch 210 = .ok (.ifCond .eq 18, 3) := dk_153 0 18 (dk_at dksJ7_vectorizedMismatch_9 0 rfl rfl)
theorem dJ7_vectorizedMismatch_213 : decode cJ7_vectorizedMismatch 213 = .ok (.iload 16, 2) := dk_21 16 (dk_at dksJ7_vectorizedMismatch_9 3 rfl rfl)
theorem dJ7_vectorizedMismatch_215 : decode cJ7_vectorizedMismatch 215 = .ok (.invokestatic 58, 3) := dk_184 0 58 (dk_at dksJ7_vectorizedMismatch_9 5 rfl rfl)
theorem dJ7_vectorizedMismatch_218 : decode cJ7_vectorizedMismatch 218 = .ok (.getstatic 46, 3) := dk_178 0 46 (dk_at dksJ7_vectorizedMismatch_9 8 rfl rfl)
theorem dJ7_vectorizedMismatch_221 : decode cJ7_vectorizedMismatch 221 = .ok (.iload 7, 2) := dk_21 7 (dk_at dksJ7_vectorizedMismatch_9 11 rfl rfl)
theorem dJ7_vectorizedMismatch_223 : decode cJ7_vectorizedMismatch 223 = .ok (.iadd, 1) := dk_96 (dk_at dksJ7_vectorizedMismatch_9 13 rfl rfl)
theorem dJ7_vectorizedMismatch_224 : decode cJ7_vectorizedMismatch 224 = .ok (.ishr, 1) := dk_122 (dk_at dksJ7_vectorizedMismatch_9 14 rfl rfl)
theorem dJ7_vectorizedMismatch_225 : decode cJ7_vectorizedMismatch 225 = .ok (.goto 15, 3) := dk_167 0 15 (dk_at dksJ7_vectorizedMismatch_9 15 rfl rfl)
theorem dJ7_vectorizedMismatch_228 : decode cJ7_vectorizedMismatch 228 = .ok (.iload 16, 2) := dk_21 16 (dk_at dksJ7_vectorizedMismatch_9 18 rfl rfl)
theorem dJ7_vectorizedMismatch_230 : decode cJ7_vectorizedMismatch 230 = .ok (.invokestatic 11, 3) := dk_184 0 11 (dk_at dksJ7_vectorizedMismatch_9 20 rfl rfl)
theorem dJ7_vectorizedMismatch_233 : decode cJ7_vectorizedMismatch 233 = .ok (.getstatic 46, 3) := dk_178 0 46 (dk_at dksJ7_vectorizedMismatch_10 0 rfl rfl)
theorem dJ7_vectorizedMismatch_236 : decode cJ7_vectorizedMismatch 236 = .ok (.iload 7, 2) := dk_21 7 (dk_at dksJ7_vectorizedMismatch_10 3 rfl rfl)
theorem dJ7_vectorizedMismatch_238 : decode cJ7_vectorizedMismatch 238 = .ok (.iadd, 1) := dk_96 (dk_at dksJ7_vectorizedMismatch_10 5 rfl rfl)
theorem dJ7_vectorizedMismatch_239 : decode cJ7_vectorizedMismatch 239 = .ok (.ishr, 1) := dk_122 (dk_at dksJ7_vectorizedMismatch_10 6 rfl rfl)
theorem dJ7_vectorizedMismatch_240 : decode cJ7_vectorizedMismatch 240 = .ok (.istore 17, 2) := dk_54 17 (dk_at dksJ7_vectorizedMismatch_10 7 rfl rfl)
theorem dJ7_vectorizedMismatch_242 : decode cJ7_vectorizedMismatch 242 = .ok (.iload 9, 2) := dk_21 9 (dk_at dksJ7_vectorizedMismatch_10 9 rfl rfl)
theorem dJ7_vectorizedMismatch_244 : decode cJ7_vectorizedMismatch 244 = .ok (.iload 8, 2) := dk_21 8 (dk_at dksJ7_vectorizedMismatch_10 11 rfl rfl)
theorem dJ7_vectorizedMismatch_246 : decode cJ7_vectorizedMismatch 246 = .ok (.ishl, 1) := dk_120 (dk_at dksJ7_vectorizedMismatch_10 13 rfl rfl)
theorem dJ7_vectorizedMismatch_247 : decode cJ7_vectorizedMismatch 247 = .ok (.iload 17, 2) := dk_21 17 (dk_at dksJ7_vectorizedMismatch_10 14 rfl rfl)
theorem dJ7_vectorizedMismatch_249 : decode cJ7_vectorizedMismatch 249 = .ok (.iadd, 1) := dk_96 (dk_at dksJ7_vectorizedMismatch_10 16 rfl rfl)
theorem dJ7_vectorizedMismatch_250 : decode cJ7_vectorizedMismatch 250 = .ok (.ireturn, 1) := dk_172 (dk_at dksJ7_vectorizedMismatch_10 17 rfl rfl)
theorem dJ7_vectorizedMismatch_251 : decode cJ7_vectorizedMismatch 251 = .ok (.iload 10, 2) := dk_21 10 (dk_at dksJ7_vectorizedMismatch_10 18 rfl rfl)
theorem dJ7_vectorizedMismatch_253 : decode cJ7_vectorizedMismatch 253 = .ok (.iload 11, 2) := dk_21 11 (dk_at dksJ7_vectorizedMismatch_10 20 rfl rfl)
theorem dJ7_vectorizedMismatch_255 : decode cJ7_vectorizedMismatch 255 = .ok (.isub, 1) := dk_100 (dk_at dksJ7_vectorizedMismatch_10 22 rfl rfl)
theorem dJ7_vectorizedMismatch_256 : decode cJ7_vectorizedMismatch 256 = .ok (.istore 10, 2) := dk_54 10 (dk_at dksJ7_vectorizedMismatch_11 0 rfl rfl)
theorem dJ7_vectorizedMismatch_258 : decode cJ7_vectorizedMismatch 258 = .ok (.iload 10, 2) := dk_21 10 (dk_at dksJ7_vectorizedMismatch_11 2 rfl rfl)
theorem dJ7_vectorizedMismatch_260 : decode cJ7_vectorizedMismatch 260 = .ok (.iconst (-1), 1) := dk_2 (dk_at dksJ7_vectorizedMismatch_11 4 rfl rfl)
theorem dJ7_vectorizedMismatch_261 : decode cJ7_vectorizedMismatch 261 = .ok (.ixor, 1) := dk_130 (dk_at dksJ7_vectorizedMismatch_11 5 rfl rfl)
theorem dJ7_vectorizedMismatch_262 : decode cJ7_vectorizedMismatch 262 = .ok (.ireturn, 1) := dk_172 (dk_at dksJ7_vectorizedMismatch_11 6 rfl rfl)
theorem dJ7_vectorizedMismatch_263 : decode cJ7_vectorizedMismatch 263 = .ok (.iload 10, 2) := dk_21 10 (dk_at dksJ7_vectorizedMismatch_11 7 rfl rfl)
theorem dJ7_vectorizedMismatch_265 : decode cJ7_vectorizedMismatch 265 = .ok (.iconst (-1), 1) := dk_2 (dk_at dksJ7_vectorizedMismatch_11 9 rfl rfl)
theorem dJ7_vectorizedMismatch_266 : decode cJ7_vectorizedMismatch 266 = .ok (.ixor, 1) := dk_130 (dk_at dksJ7_vectorizedMismatch_11 10 rfl rfl)
theorem dJ7_vectorizedMismatch_267 : decode cJ7_vectorizedMismatch 267 = .ok (.ireturn, 1) := dk_172 (dk_at dksJ7_vectorizedMismatch_11 11 rfl rfl)
theorem q68 : (Jvm.Cond.initialized "jdk/internal/util/ArraysSupport") ∈ lw_all := lw_g (lw_at lw_m1 11 rfl) rfl
theorem q235 : (Jvm.Cond.static ({ cls := "jdk/internal/util/ArraysSupport", name := "vectorizedHashCode", desc := "(Ljava/lang/Object;IIII)I" } : Jvm.MethodName)) ∈ lw_all := lw_g (lw_at lw_m1 178 rfl) rfl
theorem q236 : (Jvm.Cond.code ({ cls := "jdk/internal/util/ArraysSupport", name := "vectorizedHashCode", desc := "(Ljava/lang/Object;IIII)I" } : Jvm.MethodName) prog_67_method_4_code (5 : Nat) (Option.some Jvm.ClassFile.FieldType.int)) ∈ lw_all := lw_g (lw_at lw_m1 179 rfl) rfl
theorem q237 : (Jvm.Cond.classLink "jdk/internal/util/ArraysSupport" (60 : Nat) "[B") ∈ lw_all := lw_g (lw_at lw_m1 180 rfl) rfl
theorem q238 : (Jvm.Cond.methodLink "jdk/internal/util/ArraysSupport" (62 : Nat) ({ cls := "jdk/internal/util/ArraysSupport", name := "signedHashCode", desc := "(I[BII)I" } : Jvm.MethodName)) ∈ lw_all := lw_g (lw_at lw_m1 181 rfl) rfl
theorem q239 : (Jvm.Cond.static ({ cls := "jdk/internal/util/ArraysSupport", name := "signedHashCode", desc := "(I[BII)I" } : Jvm.MethodName)) ∈ lw_all := lw_g (lw_at lw_m1 182 rfl) rfl
theorem q240 : (Jvm.Cond.code ({ cls := "jdk/internal/util/ArraysSupport", name := "signedHashCode", desc := "(I[BII)I" } : Jvm.MethodName) prog_67_method_5_code (6 : Nat) (Option.some Jvm.ClassFile.FieldType.int)) ∈ lw_all := lw_g (lw_at lw_m1 183 rfl) rfl
theorem q241 : (Jvm.Cond.methodLink "jdk/internal/util/ArraysSupport" (66 : Nat) ({ cls := "jdk/internal/util/ArraysSupport", name := "utf16hashCode", desc := "(I[BII)I" } : Jvm.MethodName)) ∈ lw_all := lw_g (lw_at lw_m1 184 rfl) rfl
theorem q242 : (Jvm.Cond.static ({ cls := "jdk/internal/util/ArraysSupport", name := "utf16hashCode", desc := "(I[BII)I" } : Jvm.MethodName)) ∈ lw_all := lw_g (lw_at lw_m1 185 rfl) rfl
theorem q243 : (Jvm.Cond.code ({ cls := "jdk/internal/util/ArraysSupport", name := "utf16hashCode", desc := "(I[BII)I" } : Jvm.MethodName) prog_67_method_10_code (6 : Nat) (Option.some Jvm.ClassFile.FieldType.int)) ∈ lw_all := lw_g (lw_at lw_m1 186 rfl) rfl
theorem q244 : (Jvm.Cond.fieldLink "jdk/internal/util/ArraysSupport" (106 : Nat) "jdk/internal/util/ArraysSupport" "JLA" "Ljdk/internal/access/JavaLangAccess;") ∈ lw_all := lw_g (lw_at lw_m1 187 rfl) rfl
theorem q245 : (Jvm.Cond.laysStatic "jdk/internal/util/ArraysSupport" "JLA" "Ljdk/internal/access/JavaLangAccess;") ∈ lw_tbl := lw_at lw_m1 188 rfl
theorem q246 : (Jvm.Cond.interfaceEntry "jdk/internal/util/ArraysSupport" (110 : Nat)) ∈ lw_tbl := lw_at lw_m1 189 rfl
theorem q247 : (Jvm.Cond.methodLink "jdk/internal/util/ArraysSupport" (110 : Nat) ({ cls := "jdk/internal/access/JavaLangAccess", name := "getUTF16Char", desc := "([BI)C" } : Jvm.MethodName)) ∈ lw_all := lw_g (lw_at lw_m1 190 rfl) rfl
theorem q268 : (Jvm.Cond.classLink "jdk/internal/util/ArraysSupport" (69 : Nat) "[C") ∈ lw_all := lw_g (lw_at lw_m1 211 rfl) rfl
theorem q269 : (Jvm.Cond.methodLink "jdk/internal/util/ArraysSupport" (71 : Nat) ({ cls := "jdk/internal/util/ArraysSupport", name := "hashCode", desc := "(I[CII)I" } : Jvm.MethodName)) ∈ lw_all := lw_g (lw_at lw_m1 212 rfl) rfl
theorem q270 : (Jvm.Cond.static ({ cls := "jdk/internal/util/ArraysSupport", name := "hashCode", desc := "(I[CII)I" } : Jvm.MethodName)) ∈ lw_all := lw_g (lw_at lw_m1 213 rfl) rfl
theorem q271 : (Jvm.Cond.code ({ cls := "jdk/internal/util/ArraysSupport", name := "hashCode", desc := "(I[CII)I" } : Jvm.MethodName) prog_67_method_7_code (6 : Nat) (Option.some Jvm.ClassFile.FieldType.int)) ∈ lw_all := lw_g (lw_at lw_m1 214 rfl) rfl
theorem q272 : (Jvm.Cond.methodLink "jdk/internal/util/ArraysSupport" (75 : Nat) ({ cls := "jdk/internal/util/ArraysSupport", name := "hashCode", desc := "(I[BII)I" } : Jvm.MethodName)) ∈ lw_all := lw_g (lw_at lw_m1 215 rfl) rfl
theorem q273 : (Jvm.Cond.static ({ cls := "jdk/internal/util/ArraysSupport", name := "hashCode", desc := "(I[BII)I" } : Jvm.MethodName)) ∈ lw_all := lw_g (lw_at lw_m1 216 rfl) rfl
theorem q274 : (Jvm.Cond.code ({ cls := "jdk/internal/util/ArraysSupport", name := "hashCode", desc := "(I[BII)I" } : Jvm.MethodName) prog_67_method_6_code (6 : Nat) (Option.some Jvm.ClassFile.FieldType.int)) ∈ lw_all := lw_g (lw_at lw_m1 217 rfl) rfl
theorem q275 : (Jvm.Cond.classLink "jdk/internal/util/ArraysSupport" (77 : Nat) "[S") ∈ lw_all := lw_g (lw_at lw_m1 218 rfl) rfl
theorem q276 : (Jvm.Cond.methodLink "jdk/internal/util/ArraysSupport" (79 : Nat) ({ cls := "jdk/internal/util/ArraysSupport", name := "hashCode", desc := "(I[SII)I" } : Jvm.MethodName)) ∈ lw_all := lw_g (lw_at lw_m1 219 rfl) rfl
theorem q277 : (Jvm.Cond.static ({ cls := "jdk/internal/util/ArraysSupport", name := "hashCode", desc := "(I[SII)I" } : Jvm.MethodName)) ∈ lw_all := lw_g (lw_at lw_m1 220 rfl) rfl
theorem q278 : (Jvm.Cond.code ({ cls := "jdk/internal/util/ArraysSupport", name := "hashCode", desc := "(I[SII)I" } : Jvm.MethodName) prog_67_method_8_code (6 : Nat) (Option.some Jvm.ClassFile.FieldType.int)) ∈ lw_all := lw_g (lw_at lw_m1 221 rfl) rfl
theorem q279 : (Jvm.Cond.classLink "jdk/internal/util/ArraysSupport" (82 : Nat) "[I") ∈ lw_all := lw_g (lw_at lw_m1 222 rfl) rfl
theorem q280 : (Jvm.Cond.methodLink "jdk/internal/util/ArraysSupport" (84 : Nat) ({ cls := "jdk/internal/util/ArraysSupport", name := "hashCode", desc := "(I[III)I" } : Jvm.MethodName)) ∈ lw_all := lw_g (lw_at lw_m1 223 rfl) rfl
theorem q281 : (Jvm.Cond.static ({ cls := "jdk/internal/util/ArraysSupport", name := "hashCode", desc := "(I[III)I" } : Jvm.MethodName)) ∈ lw_all := lw_g (lw_at lw_m1 224 rfl) rfl
theorem q282 : (Jvm.Cond.code ({ cls := "jdk/internal/util/ArraysSupport", name := "hashCode", desc := "(I[III)I" } : Jvm.MethodName) prog_67_method_9_code (6 : Nat) (Option.some Jvm.ClassFile.FieldType.int)) ∈ lw_all := lw_g (lw_at lw_m1 225 rfl) rfl
theorem q283 : (Jvm.Cond.classLink "jdk/internal/util/ArraysSupport" (87 : Nat) "java/lang/IllegalArgumentException") ∈ lw_all := lw_g (lw_at lw_m1 226 rfl) rfl
theorem q325 : (Jvm.Cond.classLink "jdk/internal/util/ArraysSupport" (89 : Nat) "java/lang/StringBuilder") ∈ lw_all := lw_g (lw_at lw_m2 28 rfl) rfl
theorem q327 : (Jvm.Cond.methodLink "jdk/internal/util/ArraysSupport" (91 : Nat) ({ cls := "java/lang/StringBuilder", name := "<init>", desc := "()V" } : Jvm.MethodName)) ∈ lw_all := lw_g (lw_at lw_m2 30 rfl) rfl
theorem q356 : (Jvm.Cond.stringRef "jdk/internal/util/ArraysSupport" (92 : Nat) "unrecognized basic type: ") ∈ lw_tbl := lw_at lw_m2 59 rfl
theorem q357 : (Jvm.Cond.methodLink "jdk/internal/util/ArraysSupport" (94 : Nat) ({ cls := "java/lang/StringBuilder", name := "append", desc := "(Ljava/lang/String;)Ljava/lang/StringBuilder;" } : Jvm.MethodName)) ∈ lw_all := lw_g (lw_at lw_m2 60 rfl) rfl
theorem q377 : (Jvm.Cond.static ({ cls := "jdk/internal/util/ArraysSupport", name := "newLength", desc := "(III)I" } : Jvm.MethodName)) ∈ lw_all := lw_g (lw_at lw_m2 80 rfl) rfl
theorem q378 : (Jvm.Cond.code ({ cls := "jdk/internal/util/ArraysSupport", name := "newLength", desc := "(III)I" } : Jvm.MethodName) prog_67_method_27_code (4 : Nat) (Option.some Jvm.ClassFile.FieldType.int)) ∈ lw_all := lw_g (lw_at lw_m2 81 rfl) rfl
theorem q379 : (Jvm.Cond.methodLink "jdk/internal/util/ArraysSupport" (194 : Nat) ({ cls := "java/lang/Math", name := "max", desc := "(II)I" } : Jvm.MethodName)) ∈ lw_all := lw_g (lw_at lw_m2 82 rfl) rfl
theorem q382 : (Jvm.Cond.constant "jdk/internal/util/ArraysSupport" (200 : Nat) (2147483639 : Int32)) ∈ lw_all := lw_g (lw_at lw_m2 85 rfl) rfl
theorem q383 : (Jvm.Cond.methodLink "jdk/internal/util/ArraysSupport" (201 : Nat) ({ cls := "jdk/internal/util/ArraysSupport", name := "hugeLength", desc := "(II)I" } : Jvm.MethodName)) ∈ lw_all := lw_g (lw_at lw_m2 86 rfl) rfl
theorem q384 : (Jvm.Cond.static ({ cls := "jdk/internal/util/ArraysSupport", name := "hugeLength", desc := "(II)I" } : Jvm.MethodName)) ∈ lw_all := lw_g (lw_at lw_m2 87 rfl) rfl
theorem q385 : (Jvm.Cond.code ({ cls := "jdk/internal/util/ArraysSupport", name := "hugeLength", desc := "(II)I" } : Jvm.MethodName) prog_67_method_28_code (3 : Nat) (Option.some Jvm.ClassFile.FieldType.int)) ∈ lw_all := lw_g (lw_at lw_m2 88 rfl) rfl
theorem q467 : (Jvm.Cond.methodLink "jdk/internal/util/ArraysSupport" (98 : Nat) ({ cls := "java/lang/StringBuilder", name := "append", desc := "(I)Ljava/lang/StringBuilder;" } : Jvm.MethodName)) ∈ lw_all := lw_g (lw_at lw_m2 170 rfl) rfl
theorem q492 : (Jvm.Cond.methodLink "jdk/internal/util/ArraysSupport" (101 : Nat) ({ cls := "java/lang/StringBuilder", name := "toString", desc := "()Ljava/lang/String;" } : Jvm.MethodName)) ∈ lw_all := lw_g (lw_at lw_m2 195 rfl) rfl
theorem q584 : (Jvm.Cond.methodLink "jdk/internal/util/ArraysSupport" (105 : Nat) ({ cls := "java/lang/IllegalArgumentException", name := "<init>", desc := "(Ljava/lang/String;)V" } : Jvm.MethodName)) ∈ lw_all := lw_g (lw_at lw_m3 47 rfl) rfl
theorem q740 : (Jvm.Cond.static ({ cls := "jdk/internal/util/ArraysSupport", name := "mismatch", desc := "([B[BI)I" } : Jvm.MethodName)) ∈ lw_all := lw_g (lw_at lw_m3 203 rfl) rfl
theorem q741 : (Jvm.Cond.code ({ cls := "jdk/internal/util/ArraysSupport", name := "mismatch", desc := "([B[BI)I" } : Jvm.MethodName) prog_67_method_13_code (4 : Nat) (Option.some Jvm.ClassFile.FieldType.int)) ∈ lw_all := lw_g (lw_at lw_m3 204 rfl) rfl
theorem q742 : (Jvm.Cond.fieldLink "jdk/internal/util/ArraysSupport" (126 : Nat) "jdk/internal/misc/Unsafe" "ARRAY_BYTE_BASE_OFFSET" "I") ∈ lw_all := lw_g (lw_at lw_m3 205 rfl) rfl
theorem q744 : (Jvm.Cond.fieldLink "jdk/internal/util/ArraysSupport" (129 : Nat) "jdk/internal/util/ArraysSupport" "LOG2_ARRAY_BYTE_INDEX_SCALE" "I") ∈ lw_all := lw_g (lw_at lw_m3 207 rfl) rfl
theorem q745 : (Jvm.Cond.laysStatic "jdk/internal/util/ArraysSupport" "LOG2_ARRAY_BYTE_INDEX_SCALE" "I") ∈ lw_tbl := lw_at lw_m3 208 rfl
theorem q746 : (Jvm.Cond.methodLink "jdk/internal/util/ArraysSupport" (122 : Nat) ({ cls := "jdk/internal/util/ArraysSupport", name := "vectorizedMismatch", desc := "(Ljava/lang/Object;JLjava/lang/Object;JII)I" } : Jvm.MethodName)) ∈ lw_all := lw_g (lw_at lw_m3 209 rfl) rfl
theorem q747 : (Jvm.Cond.static ({ cls := "jdk/internal/util/ArraysSupport", name := "vectorizedMismatch", desc := "(Ljava/lang/Object;JLjava/lang/Object;JII)I" } : Jvm.MethodName)) ∈ lw_all := lw_g (lw_at lw_m3 210 rfl) rfl
theorem q748 : (Jvm.Cond.code ({ cls := "jdk/internal/util/ArraysSupport", name := "vectorizedMismatch", desc := "(Ljava/lang/Object;JLjava/lang/Object;JII)I" } : Jvm.MethodName) prog_67_method_3_code (19 : Nat) (Option.some Jvm.ClassFile.FieldType.int)) ∈ lw_all := lw_g (lw_at lw_m3 211 rfl) rfl
theorem q749 : (Jvm.Cond.fieldLink "jdk/internal/util/ArraysSupport" (20 : Nat) "jdk/internal/util/ArraysSupport" "LOG2_ARRAY_LONG_INDEX_SCALE" "I") ∈ lw_all := lw_g (lw_at lw_m3 212 rfl) rfl
theorem q750 : (Jvm.Cond.laysStatic "jdk/internal/util/ArraysSupport" "LOG2_ARRAY_LONG_INDEX_SCALE" "I") ∈ lw_tbl := lw_at lw_m3 213 rfl
theorem q751 : (Jvm.Cond.fieldLink "jdk/internal/util/ArraysSupport" (26 : Nat) "jdk/internal/util/ArraysSupport" "U" "Ljdk/internal/misc/Unsafe;") ∈ lw_all := lw_g (lw_at lw_m3 214 rfl) rfl
theorem q752 : (Jvm.Cond.laysStatic "jdk/internal/util/ArraysSupport" "U" "Ljdk/internal/misc/Unsafe;") ∈ lw_tbl := lw_at lw_m3 215 rfl
theorem q753 : (Jvm.Cond.methodLink "jdk/internal/util/ArraysSupport" (30 : Nat) ({ cls := "jdk/internal/misc/Unsafe", name := "getLongUnaligned", desc := "(Ljava/lang/Object;J)J" } : Jvm.MethodName)) ∈ lw_all := lw_g (lw_at lw_m3 216 rfl) rfl
theorem q805 : (Jvm.Cond.fieldLink "jdk/internal/util/ArraysSupport" (36 : Nat) "jdk/internal/util/ArraysSupport" "BIG_ENDIAN" "Z") ∈ lw_all := lw_g (lw_at lw_m4 28 rfl) rfl
theorem q806 : (Jvm.Cond.laysStatic "jdk/internal/util/ArraysSupport" "BIG_ENDIAN" "Z") ∈ lw_tbl := lw_at lw_m4 29 rfl
theorem q807 : (Jvm.Cond.methodLink "jdk/internal/util/ArraysSupport" (40 : Nat) ({ cls := "java/lang/Long", name := "numberOfLeadingZeros", desc := "(J)I" } : Jvm.MethodName)) ∈ lw_all := lw_g (lw_at lw_m4 30 rfl) rfl
theorem q814 : (Jvm.Cond.fieldLink "jdk/internal/util/ArraysSupport" (46 : Nat) "jdk/internal/util/ArraysSupport" "LOG2_BYTE_BIT_SIZE" "I") ∈ lw_all := lw_g (lw_at lw_m4 37 rfl) rfl
theorem q815 : (Jvm.Cond.laysStatic "jdk/internal/util/ArraysSupport" "LOG2_BYTE_BIT_SIZE" "I") ∈ lw_tbl := lw_at lw_m4 38 rfl
theorem q816 : (Jvm.Cond.methodLink "jdk/internal/util/ArraysSupport" (49 : Nat) ({ cls := "java/lang/Long", name := "numberOfTrailingZeros", desc := "(J)I" } : Jvm.MethodName)) ∈ lw_all := lw_g (lw_at lw_m4 39 rfl) rfl
theorem q822 : (Jvm.Cond.fieldLink "jdk/internal/util/ArraysSupport" (51 : Nat) "jdk/internal/util/ArraysSupport" "LOG2_ARRAY_INT_INDEX_SCALE" "I") ∈ lw_all := lw_g (lw_at lw_m4 45 rfl) rfl
theorem q823 : (Jvm.Cond.laysStatic "jdk/internal/util/ArraysSupport" "LOG2_ARRAY_INT_INDEX_SCALE" "I") ∈ lw_tbl := lw_at lw_m4 46 rfl
theorem q824 : (Jvm.Cond.methodLink "jdk/internal/util/ArraysSupport" (54 : Nat) ({ cls := "jdk/internal/misc/Unsafe", name := "getIntUnaligned", desc := "(Ljava/lang/Object;J)I" } : Jvm.MethodName)) ∈ lw_all := lw_g (lw_at lw_m4 47 rfl) rfl
theorem q841 : (Jvm.Cond.methodLink "jdk/internal/util/ArraysSupport" (58 : Nat) ({ cls := "java/lang/Integer", name := "numberOfLeadingZeros", desc := "(I)I" } : Jvm.MethodName)) ∈ lw_all := lw_g (lw_at lw_m4 64 rfl) rfl
theorem q842 : (Jvm.Cond.methodLink "jdk/internal/util/ArraysSupport" (11 : Nat) ({ cls := "java/lang/Integer", name := "numberOfTrailingZeros", desc := "(I)I" } : Jvm.MethodName)) ∈ lw_all := lw_g (lw_at lw_m4 65 rfl) rfl
theorem q69 : (Jvm.Cond.initialized "java/lang/StringUTF16") ∈ lw_all := lw_g (lw_at lw_m1 12 rfl) rfl
theorem q257 : (Jvm.Cond.static ({ cls := "java/lang/StringUTF16", name := "getChar", desc := "([BI)C" } : Jvm.MethodName)) ∈ lw_all := lw_g (lw_at lw_m1 200 rfl) rfl
theorem q258 : (Jvm.Cond.code ({ cls := "java/lang/StringUTF16", name := "getChar", desc := "([BI)C" } : Jvm.MethodName) prog_39_method_5_code (2 : Nat) (Option.some Jvm.ClassFile.FieldType.char)) ∈ lw_all := lw_g (lw_at lw_m1 201 rfl) rfl
theorem q259 : (Jvm.Cond.fieldLink "java/lang/StringUTF16" (44 : Nat) "java/lang/StringUTF16" "$assertionsDisabled" "Z") ∈ lw_all := lw_g (lw_at lw_m1 202 rfl) rfl
theorem q260 : (Jvm.Cond.laysStatic "java/lang/StringUTF16" "$assertionsDisabled" "Z") ∈ lw_tbl := lw_at lw_m1 203 rfl
theorem q261 : (Jvm.Cond.methodLink "java/lang/StringUTF16" (48 : Nat) ({ cls := "java/lang/StringUTF16", name := "length", desc := "([B)I" } : Jvm.MethodName)) ∈ lw_all := lw_g (lw_at lw_m1 204 rfl) rfl
theorem q262 : (Jvm.Cond.static ({ cls := "java/lang/StringUTF16", name := "length", desc := "([B)I" } : Jvm.MethodName)) ∈ lw_all := lw_g (lw_at lw_m1 205 rfl) rfl
theorem q263 : (Jvm.Cond.code ({ cls := "java/lang/StringUTF16", name := "length", desc := "([B)I" } : Jvm.MethodName) prog_39_method_6_code (1 : Nat) (Option.some Jvm.ClassFile.FieldType.int)) ∈ lw_all := lw_g (lw_at lw_m1 206 rfl) rfl
theorem q264 : (Jvm.Cond.fieldLink "java/lang/StringUTF16" (59 : Nat) "java/lang/StringUTF16" "HI_BYTE_SHIFT" "I") ∈ lw_all := lw_g (lw_at lw_m1 207 rfl) rfl
theorem q265 : (Jvm.Cond.laysStatic "java/lang/StringUTF16" "HI_BYTE_SHIFT" "I") ∈ lw_tbl := lw_at lw_m1 208 rfl
theorem q266 : (Jvm.Cond.fieldLink "java/lang/StringUTF16" (63 : Nat) "java/lang/StringUTF16" "LO_BYTE_SHIFT" "I") ∈ lw_all := lw_g (lw_at lw_m1 209 rfl) rfl
theorem q267 : (Jvm.Cond.laysStatic "java/lang/StringUTF16" "LO_BYTE_SHIFT" "I") ∈ lw_tbl := lw_at lw_m1 210 rfl
theorem q336 : (Jvm.Cond.static ({ cls := "java/lang/StringUTF16", name := "newBytesFor", desc := "(I)[B" } : Jvm.MethodName)) ∈ lw_all := lw_g (lw_at lw_m2 39 rfl) rfl
theorem q337 : (Jvm.Cond.code ({ cls := "java/lang/StringUTF16", name := "newBytesFor", desc := "(I)[B" } : Jvm.MethodName) prog_39_method_2_code (1 : Nat) (Option.some (Jvm.ClassFile.FieldType.array Jvm.ClassFile.FieldType.byte))) ∈ lw_all := lw_g (lw_at lw_m2 40 rfl) rfl
theorem q338 : (Jvm.Cond.methodLink "java/lang/StringUTF16" (11 : Nat) ({ cls := "java/lang/StringUTF16", name := "newBytesLength", desc := "(I)I" } : Jvm.MethodName)) ∈ lw_all := lw_g (lw_at lw_m2 41 rfl) rfl
theorem q339 : (Jvm.Cond.static ({ cls := "java/lang/StringUTF16", name := "newBytesLength", desc := "(I)I" } : Jvm.MethodName)) ∈ lw_all := lw_g (lw_at lw_m2 42 rfl) rfl
theorem q340 : (Jvm.Cond.code ({ cls := "java/lang/StringUTF16", name := "newBytesLength", desc := "(I)I" } : Jvm.MethodName) prog_39_method_3_code (1 : Nat) (Option.some Jvm.ClassFile.FieldType.int)) ∈ lw_all := lw_g (lw_at lw_m2 43 rfl) rfl
theorem q341 : (Jvm.Cond.constant "java/lang/StringUTF16" (20 : Nat) (1073741823 : Int32)) ∈ lw_all := lw_g (lw_at lw_m2 44 rfl) rfl
theorem q409 : (Jvm.Cond.static ({ cls := "java/lang/StringUTF16", name := "putCharsAt", desc := "([BICCCC)I" } : Jvm.MethodName)) ∈ lw_all := lw_g (lw_at lw_m2 112 rfl) rfl
theorem q410 : (Jvm.Cond.code ({ cls := "java/lang/StringUTF16", name := "putCharsAt", desc := "([BICCCC)I" } : Jvm.MethodName) prog_39_method_81_code (7 : Nat) (Option.some Jvm.ClassFile.FieldType.int)) ∈ lw_all := lw_g (lw_at lw_m2 113 rfl) rfl
theorem q411 : (Jvm.Cond.methodLink "java/lang/StringUTF16" (96 : Nat) ({ cls := "java/lang/StringUTF16", name := "checkBoundsBeginEnd", desc := "(II[B)V" } : Jvm.MethodName)) ∈ lw_all := lw_g (lw_at lw_m2 114 rfl) rfl
theorem q412 : (Jvm.Cond.static ({ cls := "java/lang/StringUTF16", name := "checkBoundsBeginEnd", desc := "(II[B)V" } : Jvm.MethodName)) ∈ lw_all := lw_g (lw_at lw_m2 115 rfl) rfl
theorem q413 : (Jvm.Cond.code ({ cls := "java/lang/StringUTF16", name := "checkBoundsBeginEnd", desc := "(II[B)V" } : Jvm.MethodName) prog_39_method_93_code (3 : Nat) (Option.none : Option Jvm.ClassFile.FieldType)) ∈ lw_all := lw_g (lw_at lw_m2 116 rfl) rfl
theorem q414 : (Jvm.Cond.methodLink "java/lang/StringUTF16" (241 : Nat) ({ cls := "java/lang/String", name := "checkBoundsBeginEnd", desc := "(III)V" } : Jvm.MethodName)) ∈ lw_all := lw_g (lw_at lw_m2 117 rfl) rfl
theorem q422 : (Jvm.Cond.methodLink "java/lang/StringUTF16" (111 : Nat) ({ cls := "java/lang/StringUTF16", name := "putChar", desc := "([BII)V" } : Jvm.MethodName)) ∈ lw_all := lw_g (lw_at lw_m2 125 rfl) rfl
theorem q423 : (Jvm.Cond.static ({ cls := "java/lang/StringUTF16", name := "putChar", desc := "([BII)V" } : Jvm.MethodName)) ∈ lw_all := lw_g (lw_at lw_m2 126 rfl) rfl
theorem q424 : (Jvm.Cond.code ({ cls := "java/lang/StringUTF16", name := "putChar", desc := "([BII)V" } : Jvm.MethodName) prog_39_method_4_code (3 : Nat) (Option.none : Option Jvm.ClassFile.FieldType)) ∈ lw_all := lw_g (lw_at lw_m2 127 rfl) rfl
theorem q450 : (Jvm.Cond.static ({ cls := "java/lang/StringUTF16", name := "inflate", desc := "([BI[BII)V" } : Jvm.MethodName)) ∈ lw_all := lw_g (lw_at lw_m2 153 rfl) rfl
theorem q451 : (Jvm.Cond.code ({ cls := "java/lang/StringUTF16", name := "inflate", desc := "([BI[BII)V" } : Jvm.MethodName) prog_39_method_86_code (6 : Nat) (Option.none : Option Jvm.ClassFile.FieldType)) ∈ lw_all := lw_g (lw_at lw_m2 154 rfl) rfl
theorem q452 : (Jvm.Cond.methodLink "java/lang/StringUTF16" (173 : Nat) ({ cls := "java/lang/StringUTF16", name := "checkBoundsOffCount", desc := "(II[B)V" } : Jvm.MethodName)) ∈ lw_all := lw_g (lw_at lw_m2 155 rfl) rfl
theorem q453 : (Jvm.Cond.static ({ cls := "java/lang/StringUTF16", name := "checkBoundsOffCount", desc := "(II[B)V" } : Jvm.MethodName)) ∈ lw_all := lw_g (lw_at lw_m2 156 rfl) rfl
theorem q454 : (Jvm.Cond.code ({ cls := "java/lang/StringUTF16", name := "checkBoundsOffCount", desc := "(II[B)V" } : Jvm.MethodName) prog_39_method_94_code (3 : Nat) (Option.none : Option Jvm.ClassFile.FieldType)) ∈ lw_all := lw_g (lw_at lw_m2 157 rfl) rfl
theorem q455 : (Jvm.Cond.methodLink "java/lang/StringUTF16" (419 : Nat) ({ cls := "java/lang/String", name := "checkBoundsOffCount", desc := "(III)I" } : Jvm.MethodName)) ∈ lw_all := lw_g (lw_at lw_m2 158 rfl) rfl
theorem q485 : (Jvm.Cond.static ({ cls := "java/lang/StringUTF16", name := "getChars", desc := "(III[B)I" } : Jvm.MethodName)) ∈ lw_all := lw_g (lw_at lw_m2 188 rfl) rfl
theorem q486 : (Jvm.Cond.code ({ cls := "java/lang/StringUTF16", name := "getChars", desc := "(III[B)I" } : Jvm.MethodName) prog_39_method_77_code (5 : Nat) (Option.some Jvm.ClassFile.FieldType.int)) ∈ lw_all := lw_g (lw_at lw_m2 189 rfl) rfl
theorem q487 : (Jvm.Cond.methodLink "java/lang/StringUTF16" (393 : Nat) ({ cls := "java/lang/StringUTF16", name := "getChars", desc := "(II[B)I" } : Jvm.MethodName)) ∈ lw_all := lw_g (lw_at lw_m2 190 rfl) rfl
theorem q488 : (Jvm.Cond.static ({ cls := "java/lang/StringUTF16", name := "getChars", desc := "(II[B)I" } : Jvm.MethodName)) ∈ lw_all := lw_g (lw_at lw_m2 191 rfl) rfl
theorem q489 : (Jvm.Cond.code ({ cls := "java/lang/StringUTF16", name := "getChars", desc := "(II[B)I" } : Jvm.MethodName) prog_39_method_89_code (7 : Nat) (Option.some Jvm.ClassFile.FieldType.int)) ∈ lw_all := lw_g (lw_at lw_m2 192 rfl) rfl
theorem q490 : (Jvm.Cond.fieldLink "java/lang/StringUTF16" (403 : Nat) "java/lang/Integer" "DigitOnes" "[B") ∈ lw_all := lw_g (lw_at lw_m2 193 rfl) rfl
theorem q491 : (Jvm.Cond.fieldLink "java/lang/StringUTF16" (407 : Nat) "java/lang/Integer" "DigitTens" "[B") ∈ lw_all := lw_g (lw_at lw_m2 194 rfl) rfl
theorem q561 : (Jvm.Cond.static ({ cls := "java/lang/StringUTF16", name := "compress", desc := "([BII)[B" } : Jvm.MethodName)) ∈ lw_all := lw_g (lw_at lw_m3 24 rfl) rfl
theorem q562 : (Jvm.Cond.code ({ cls := "java/lang/StringUTF16", name := "compress", desc := "([BII)[B" } : Jvm.MethodName) prog_39_method_17_code (6 : Nat) (Option.some (Jvm.ClassFile.FieldType.array Jvm.ClassFile.FieldType.byte))) ∈ lw_all := lw_g (lw_at lw_m3 25 rfl) rfl
theorem q563 : (Jvm.Cond.methodLink "java/lang/StringUTF16" (123 : Nat) ({ cls := "java/lang/StringUTF16", name := "compress", desc := "([BI[BII)I" } : Jvm.MethodName)) ∈ lw_all := lw_g (lw_at lw_m3 26 rfl) rfl
theorem q564 : (Jvm.Cond.static ({ cls := "java/lang/StringUTF16", name := "compress", desc := "([BI[BII)I" } : Jvm.MethodName)) ∈ lw_all := lw_g (lw_at lw_m3 27 rfl) rfl
theorem q565 : (Jvm.Cond.code ({ cls := "java/lang/StringUTF16", name := "compress", desc := "([BI[BII)I" } : Jvm.MethodName) prog_39_method_22_code (7 : Nat) (Option.some Jvm.ClassFile.FieldType.int)) ∈ lw_all := lw_g (lw_at lw_m3 28 rfl) rfl
theorem q566 : (Jvm.Cond.methodLink "java/lang/StringUTF16" (71 : Nat) ({ cls := "java/lang/StringUTF16", name := "getChar", desc := "([BI)C" } : Jvm.MethodName)) ∈ lw_all := lw_g (lw_at lw_m3 29 rfl) rfl
theorem q567 : (Jvm.Cond.methodLink "java/lang/StringUTF16" (126 : Nat) ({ cls := "java/util/Arrays", name := "copyOfRange", desc := "([BII)[B" } : Jvm.MethodName)) ∈ lw_all := lw_g (lw_at lw_m3 30 rfl) rfl
theorem q569 : (Jvm.Cond.static ({ cls := "java/lang/StringUTF16", name := "coderFromArrayLen", desc := "([BI)B" } : Jvm.MethodName)) ∈ lw_all := lw_g (lw_at lw_m3 32 rfl) rfl
theorem q570 : (Jvm.Cond.code ({ cls := "java/lang/StringUTF16", name := "coderFromArrayLen", desc := "([BI)B" } : Jvm.MethodName) prog_39_method_15_code (2 : Nat) (Option.some Jvm.ClassFile.FieldType.byte)) ∈ lw_all := lw_g (lw_at lw_m3 33 rfl) rfl
theorem q586 : (Jvm.Cond.static ({ cls := "java/lang/StringUTF16", name := "hashCode", desc := "([B)I" } : Jvm.MethodName)) ∈ lw_all := lw_g (lw_at lw_m3 49 rfl) rfl
theorem q587 : (Jvm.Cond.code ({ cls := "java/lang/StringUTF16", name := "hashCode", desc := "([B)I" } : Jvm.MethodName) prog_39_method_39_code (1 : Nat) (Option.some Jvm.ClassFile.FieldType.int)) ∈ lw_all := lw_g (lw_at lw_m3 50 rfl) rfl
theorem q588 : (Jvm.Cond.methodLink "java/lang/StringUTF16" (220 : Nat) ({ cls := "jdk/internal/util/ArraysSupport", name := "vectorizedHashCode", desc := "(Ljava/lang/Object;IIII)I" } : Jvm.MethodName)) ∈ lw_all := lw_g (lw_at lw_m3 51 rfl) rfl
theorem q847 : (Jvm.Cond.static ({ cls := "java/lang/StringUTF16", name := "compareTo", desc := "([B[B)I" } : Jvm.MethodName)) ∈ lw_all := lw_g (lw_at lw_m4 70 rfl) rfl
theorem q848 : (Jvm.Cond.code ({ cls := "java/lang/StringUTF16", name := "compareTo", desc := "([B[B)I" } : Jvm.MethodName) prog_39_method_29_code (4 : Nat) (Option.some Jvm.ClassFile.FieldType.int)) ∈ lw_all := lw_g (lw_at lw_m4 71 rfl) rfl
theorem q849 : (Jvm.Cond.methodLink "java/lang/StringUTF16" (176 : Nat) ({ cls := "java/lang/StringUTF16", name := "compareValues", desc := "([B[BII)I" } : Jvm.MethodName)) ∈ lw_all := lw_g (lw_at lw_m4 72 rfl) rfl
theorem q850 : (Jvm.Cond.static ({ cls := "java/lang/StringUTF16", name := "compareValues", desc := "([B[BII)I" } : Jvm.MethodName)) ∈ lw_all := lw_g (lw_at lw_m4 73 rfl) rfl
theorem q851 : (Jvm.Cond.code ({ cls := "java/lang/StringUTF16", name := "compareValues", desc := "([B[BII)I" } : Jvm.MethodName) prog_39_method_31_code (8 : Nat) (Option.some Jvm.ClassFile.FieldType.int)) ∈ lw_all := lw_g (lw_at lw_m4 74 rfl) rfl
theorem q852 : (Jvm.Cond.methodLink "java/lang/StringUTF16" (183 : Nat) ({ cls := "java/lang/Math", name := "min", desc := "(II)I" } : Jvm.MethodName)) ∈ lw_all := lw_g (lw_at lw_m4 75 rfl) rfl
theorem q865 : (Jvm.Cond.static ({ cls := "java/lang/StringUTF16", name := "compareToLatin1", desc := "([B[B)I" } : Jvm.MethodName)) ∈ lw_all := lw_g (lw_at lw_m4 88 rfl) rfl
theorem q866 : (Jvm.Cond.code ({ cls := "java/lang/StringUTF16", name := "compareToLatin1", desc := "([B[B)I" } : Jvm.MethodName) prog_39_method_32_code (2 : Nat) (Option.some Jvm.ClassFile.FieldType.int)) ∈ lw_all := lw_g (lw_at lw_m4 89 rfl) rfl
theorem q867 : (Jvm.Cond.methodLink "java/lang/StringUTF16" (189 : Nat) ({ cls := "java/lang/StringLatin1", name := "compareToUTF16", desc := "([B[B)I" } : Jvm.MethodName)) ∈ lw_all := lw_g (lw_at lw_m4 90 rfl) rfl
theorem q884 : (Jvm.Cond.static ({ cls := "java/lang/StringUTF16", name := "compareTo", desc := "([B[BII)I" } : Jvm.MethodName)) ∈ lw_all := lw_g (lw_at lw_m4 107 rfl) rfl
theorem q885 : (Jvm.Cond.code ({ cls := "java/lang/StringUTF16", name := "compareTo", desc := "([B[BII)I" } : Jvm.MethodName) prog_39_method_30_code (4 : Nat) (Option.some Jvm.ClassFile.FieldType.int)) ∈ lw_all := lw_g (lw_at lw_m4 108 rfl) rfl
theorem q886 : (Jvm.Cond.methodLink "java/lang/StringUTF16" (180 : Nat) ({ cls := "java/lang/StringUTF16", name := "checkOffset", desc := "(I[B)V" } : Jvm.MethodName)) ∈ lw_all := lw_g (lw_at lw_m4 109 rfl) rfl
theorem q887 : (Jvm.Cond.static ({ cls := "java/lang/StringUTF16", name := "checkOffset", desc := "(I[B)V" } : Jvm.MethodName)) ∈ lw_all := lw_g (lw_at lw_m4 110 rfl) rfl
theorem q888 : (Jvm.Cond.code ({ cls := "java/lang/StringUTF16", name := "checkOffset", desc := "(I[B)V" } : Jvm.MethodName) prog_39_method_92_code (2 : Nat) (Option.none : Option Jvm.ClassFile.FieldType)) ∈ lw_all := lw_g (lw_at lw_m4 111 rfl) rfl
theorem q889 : (Jvm.Cond.methodLink "java/lang/StringUTF16" (417 : Nat) ({ cls := "java/lang/String", name := "checkOffset", desc := "(II)V" } : Jvm.MethodName)) ∈ lw_all := lw_g (lw_at lw_m4 112 rfl) rfl
theorem q897 : (Jvm.Cond.static ({ cls := "java/lang/StringUTF16", name := "compareToLatin1", desc := "([B[BII)I" } : Jvm.MethodName)) ∈ lw_all := lw_g (lw_at lw_m4 120 rfl) rfl
theorem q898 : (Jvm.Cond.code ({ cls := "java/lang/StringUTF16", name := "compareToLatin1", desc := "([B[BII)I" } : Jvm.MethodName) prog_39_method_33_code (4 : Nat) (Option.some Jvm.ClassFile.FieldType.int)) ∈ lw_all := lw_g (lw_at lw_m4 121 rfl) rfl
theorem q899 : (Jvm.Cond.methodLink "java/lang/StringUTF16" (193 : Nat) ({ cls := "java/lang/StringLatin1", name := "compareToUTF16", desc := "([B[BII)I" } : Jvm.MethodName)) ∈ lw_all := lw_g (lw_at lw_m4 122 rfl) rfl
theorem q1715 : (Jvm.Cond.static ({ cls := "java/lang/StringUTF16", name := "indexOf", desc := "([BIII)I" } : Jvm.MethodName)) ∈ lw_all := lw_g (lw_at lw_m7 218 rfl) rfl
theorem q1716 : (Jvm.Cond.code ({ cls := "java/lang/StringUTF16", name := "indexOf", desc := "([BIII)I" } : Jvm.MethodName) prog_39_method_40_code (4 : Nat) (Option.some Jvm.ClassFile.FieldType.int)) ∈ lw_all := lw_g (lw_at lw_m7 219 rfl) rfl
theorem q1717 : (Jvm.Cond.methodLink "java/lang/StringUTF16" (224 : Nat) ({ cls := "java/lang/Math", name := "max", desc := "(II)I" } : Jvm.MethodName)) ∈ lw_all := lw_g (lw_at lw_m7 220 rfl) rfl
theorem q1718 : (Jvm.Cond.constant "java/lang/StringUTF16" (227 : Nat) (65536 : Int32)) ∈ lw_all := lw_g (lw_at lw_m7 221 rfl) rfl
theorem q1719 : (Jvm.Cond.methodLink "java/lang/StringUTF16" (228 : Nat) ({ cls := "java/lang/StringUTF16", name := "indexOfChar", desc := "([BIII)I" } : Jvm.MethodName)) ∈ lw_all := lw_g (lw_at lw_m7 222 rfl) rfl
theorem q1720 : (Jvm.Cond.static ({ cls := "java/lang/StringUTF16", name := "indexOfChar", desc := "([BIII)I" } : Jvm.MethodName)) ∈ lw_all := lw_g (lw_at lw_m7 223 rfl) rfl
theorem q1721 : (Jvm.Cond.code ({ cls := "java/lang/StringUTF16", name := "indexOfChar", desc := "([BIII)I" } : Jvm.MethodName) prog_39_method_47_code (4 : Nat) (Option.some Jvm.ClassFile.FieldType.int)) ∈ lw_all := lw_g (lw_at lw_m7 224 rfl) rfl
theorem q1722 : (Jvm.Cond.methodLink "java/lang/StringUTF16" (244 : Nat) ({ cls := "java/lang/StringUTF16", name := "indexOfCharUnsafe", desc := "([BIII)I" } : Jvm.MethodName)) ∈ lw_all := lw_g (lw_at lw_m7 225 rfl) rfl
theorem q1723 : (Jvm.Cond.static ({ cls := "java/lang/StringUTF16", name := "indexOfCharUnsafe", desc := "([BIII)I" } : Jvm.MethodName)) ∈ lw_all := lw_g (lw_at lw_m7 226 rfl) rfl
theorem q1724 : (Jvm.Cond.code ({ cls := "java/lang/StringUTF16", name := "indexOfCharUnsafe", desc := "([BIII)I" } : Jvm.MethodName) prog_39_method_48_code (5 : Nat) (Option.some Jvm.ClassFile.FieldType.int)) ∈ lw_all := lw_g (lw_at lw_m7 227 rfl) rfl
theorem q1725 : (Jvm.Cond.methodLink "java/lang/StringUTF16" (232 : Nat) ({ cls := "java/lang/StringUTF16", name := "indexOfSupplementary", desc := "([BIII)I" } : Jvm.MethodName)) ∈ lw_all := lw_g (lw_at lw_m7 228 rfl) rfl
theorem q1726 : (Jvm.Cond.static ({ cls := "java/lang/StringUTF16", name := "indexOfSupplementary", desc := "([BIII)I" } : Jvm.MethodName)) ∈ lw_all := lw_g (lw_at lw_m7 229 rfl) rfl
theorem q1727 : (Jvm.Cond.code ({ cls := "java/lang/StringUTF16", name := "indexOfSupplementary", desc := "([BIII)I" } : Jvm.MethodName) prog_39_method_49_code (7 : Nat) (Option.some Jvm.ClassFile.FieldType.int)) ∈ lw_all := lw_g (lw_at lw_m7 230 rfl) rfl
theorem q1728 : (Jvm.Cond.methodLink "java/lang/StringUTF16" (164 : Nat) ({ cls := "java/lang/Character", name := "isValidCodePoint", desc := "(I)Z" } : Jvm.MethodName)) ∈ lw_all := lw_g (lw_at lw_m7 231 rfl) rfl
theorem q1731 : (Jvm.Cond.methodLink "java/lang/StringUTF16" (157 : Nat) ({ cls := "java/lang/Character", name := "highSurrogate", desc := "(I)C" } : Jvm.MethodName)) ∈ lw_all := lw_g (lw_at lw_m7 234 rfl) rfl
theorem q1735 : (Jvm.Cond.methodLink "java/lang/StringUTF16" (161 : Nat) ({ cls := "java/lang/Character", name := "lowSurrogate", desc := "(I)C" } : Jvm.MethodName)) ∈ lw_all := lw_g (lw_at lw_m7 238 rfl) rfl
theorem q1801 : (Jvm.Cond.static ({ cls := "java/lang/StringUTF16", name := "putCharSB", desc := "([BII)V" } : Jvm.MethodName)) ∈ lw_all := lw_g (lw_at lw_m8 64 rfl) rfl
theorem q1802 : (Jvm.Cond.code ({ cls := "java/lang/StringUTF16", name := "putCharSB", desc := "([BII)V" } : Jvm.MethodName) prog_39_method_71_code (3 : Nat) (Option.none : Option Jvm.ClassFile.FieldType)) ∈ lw_all := lw_g (lw_at lw_m8 65 rfl) rfl
theorem q1803 : (Jvm.Cond.methodLink "java/lang/StringUTF16" (67 : Nat) ({ cls := "java/lang/StringUTF16", name := "checkIndex", desc := "(I[B)V" } : Jvm.MethodName)) ∈ lw_all := lw_g (lw_at lw_m8 66 rfl) rfl
theorem q1804 : (Jvm.Cond.static ({ cls := "java/lang/StringUTF16", name := "checkIndex", desc := "(I[B)V" } : Jvm.MethodName)) ∈ lw_all := lw_g (lw_at lw_m8 67 rfl) rfl
theorem q1805 : (Jvm.Cond.code ({ cls := "java/lang/StringUTF16", name := "checkIndex", desc := "(I[B)V" } : Jvm.MethodName) prog_39_method_91_code (2 : Nat) (Option.none : Option Jvm.ClassFile.FieldType)) ∈ lw_all := lw_g (lw_at lw_m8 68 rfl) rfl
theorem q1806 : (Jvm.Cond.methodLink "java/lang/StringUTF16" (414 : Nat) ({ cls := "java/lang/String", name := "checkIndex", desc := "(II)V" } : Jvm.MethodName)) ∈ lw_all := lw_g (lw_at lw_m8 69 rfl) rfl
theorem q2040 : (Jvm.Cond.static ({ cls := "java/lang/StringUTF16", name := "charAt", desc := "([BI)C" } : Jvm.MethodName)) ∈ lw_all := lw_g (lw_at lw_m9 63 rfl) rfl
theorem q2041 : (Jvm.Cond.code ({ cls := "java/lang/StringUTF16", name := "charAt", desc := "([BI)C" } : Jvm.MethodName) prog_39_method_83_code (2 : Nat) (Option.some Jvm.ClassFile.FieldType.char)) ∈ lw_all := lw_g (lw_at lw_m9 64 rfl) rfl
abbrev cJ9_init : ByteArray := prog_42_method_1_code
def yJ9_init : MethodName := ⟨RJ9, "<init>", "()V"⟩
def dkwJ9_init_1 : List UInt8 := [182, 0, 27, 87, 177]
abbrev dktJ9_init_1 : List UInt8 := dkwJ9_init_1 ++ []
def dkwJ9_init_0 : List UInt8 := [42, 183, 0, 1, 42, 42, 181, 0, 7, 42, 178, 0, 13, 181, 0, 17, 42, 178, 0, 20, 181, 0, 24, 42]
abbrev dktJ9_init_0 : List UInt8 := dkwJ9_init_0 ++ dktJ9_init_1
theorem dksJ9_init_0 : cJ9_init.data.toList.drop 0 = dktJ9_init_0 := by decide +kernel
theorem dksJ9_init_1 : cJ9_init.data.toList.drop 24 = dktJ9_init_1 := dk_seg dksJ9_init_0 24 rfl rfl
theorem dJ9_init_0 : decode cJ9_init 0 = .ok (.aload_n 0, 1) := dk_42 (dk_at dksJ9_init_0 0 rfl rfl)
theorem dJ9_init_1 : decode cJ9_init 1 = .ok (.invokespecial 1, 3) := dk_183 0 1 (dk_at dksJ9_init_0 1 rfl rfl)
theorem dJ9_init_4 : decode cJ9_init 4 = .ok (.aload_n 0, 1) := dk_42 (dk_at dksJ9_init_0 4 rfl rfl)
theorem dJ9_init_5 : decode cJ9_init 5 = .ok (.aload_n 0, 1) := dk_42 (dk_at dksJ9_init_0 5 rfl rfl)
theorem dJ9_init_6 : decode cJ9_init 6 = .ok (.putfield 7, 3) := dk_181 0 7 (dk_at dksJ9_init_0 6 rfl rfl)
theorem dJ9_init_9 : decode cJ9_init 9 = .ok (.aload_n 0, 1) := dk_42 (dk_at dksJ9_init_0 9 rfl rfl)
theorem dJ9_init_10 : decode cJ9_init 10 = .ok (.getstatic 13, 3) := dk_178 0 13 (dk_at dksJ9_init_0 10 rfl rfl)
theorem dJ9_init_13 : decode cJ9_init 13 = .ok (.putfield 17, 3) := dk_181 0 17 (dk_at dksJ9_init_0 13 rfl rfl)
theorem dJ9_init_16 : decode cJ9_init 16 = .ok (.aload_n 0, 1) := dk_42 (dk_at dksJ9_init_0 16 rfl rfl)
theorem dJ9_init_17 : decode cJ9_init 17 = .ok (.getstatic 20, 3) := dk_178 0 20 (dk_at dksJ9_init_0 17 rfl rfl)
theorem dJ9_init_20 : decode cJ9_init 20 = .ok (.putfield 24, 3) := dk_181 0 24 (dk_at dksJ9_init_0 20 rfl rfl)
theorem dJ9_init_23 : decode cJ9_init 23 = .ok (.aload_n 0, 1) := dk_42 (dk_at dksJ9_init_0 23 rfl rfl)
theorem dJ9_init_24 : decode cJ9_init 24 = .ok (.invokevirtual 27, 3) := dk_182 0 27 (dk_at dksJ9_init_1 0 rfl rfl)
theorem dJ9_init_27 : decode cJ9_init 27 = .ok (.pop, 1) := dk_87 (dk_at dksJ9_init_1 3 rfl rfl)
theorem dJ9_init_28 : decode cJ9_init 28 = .ok (.return_, 1) := dk_177 (dk_at dksJ9_init_1 4 rfl rfl)
abbrev cJ9_init_2 : ByteArray := prog_42_method_2_code
def yJ9_init_2 : MethodName := ⟨RJ9, "<init>", "(Ljava/lang/String;)V"⟩
def dkwJ9_init_2_1 : List UInt8 := [182, 0, 27, 87, 42, 43, 181, 0, 31, 177]
abbrev dktJ9_init_2_1 : List UInt8 := dkwJ9_init_2_1 ++ []
def dkwJ9_init_2_0 : List UInt8 := [42, 183, 0, 1, 42, 42, 181, 0, 7, 42, 178, 0, 13, 181, 0, 17, 42, 178, 0, 20, 181, 0, 24, 42]
abbrev dktJ9_init_2_0 : List UInt8 := dkwJ9_init_2_0 ++ dktJ9_init_2_1
theorem dksJ9_init_2_0 : cJ9_init_2.data.toList.drop 0 = dktJ9_init_2_0 := by decide +kernel
theorem dksJ9_init_2_1 : cJ9_init_2.data.toList.drop 24 = dktJ9_init_2_1 := dk_seg dksJ9_init_2_0 24 rfl rfl
theorem dJ9_init_2_0 : decode cJ9_init_2 0 = .ok (.aload_n 0, 1) := dk_42 (dk_at dksJ9_init_2_0 0 rfl rfl)
theorem dJ9_init_2_1 : decode cJ9_init_2 1 = .ok (.invokespecial 1, 3) := dk_183 0 1 (dk_at dksJ9_init_2_0 1 rfl rfl)
theorem dJ9_init_2_4 : decode cJ9_init_2 4 = .ok (.aload_n 0, 1) := dk_42 (dk_at dksJ9_init_2_0 4 rfl rfl)
theorem dJ9_init_2_5 : decode cJ9_init_2 5 = .ok (.aload_n 0, 1) := dk_42 (dk_at dksJ9_init_2_0 5 rfl rfl)
theorem dJ9_init_2_6 : decode cJ9_init_2 6 = .ok (.putfield 7, 3) := dk_181 0 7 (dk_at dksJ9_init_2_0 6 rfl rfl)
theorem dJ9_init_2_9 : decode cJ9_init_2 9 = .ok (.aload_n 0, 1) := dk_42 (dk_at dksJ9_init_2_0 9 rfl rfl)
theorem dJ9_init_2_10 : decode cJ9_init_2 10 = .ok (.getstatic 13, 3) := dk_178 0 13 (dk_at dksJ9_init_2_0 10 rfl rfl)
theorem dJ9_init_2_13 : decode cJ9_init_2 13 = .ok (.putfield 17, 3) := dk_181 0 17 (dk_at dksJ9_init_2_0 13 rfl rfl)
theorem dJ9_init_2_16 : decode cJ9_init_2 16 = .ok (.aload_n 0, 1) := dk_42 (dk_at dksJ9_init_2_0 16 rfl rfl)
theorem dJ9_init_2_17 : decode cJ9_init_2 17 = .ok (.getstatic 20, 3) := dk_178 0 20 (dk_at dksJ9_init_2_0 17 rfl rfl)
theorem dJ9_init_2_20 : decode cJ9_init_2 20 = .ok (.putfield 24, 3) := dk_181 0 24 (dk_at dksJ9_init_2_0 20 rfl rfl)
theorem dJ9_init_2_23 : decode cJ9_init_2 23 = .ok (.aload_n 0, 1) := dk_42 (dk_at dksJ9_init_2_0 23 rfl rfl)
theorem dJ9_init_2_24 : decode cJ9_init_2 24 = .ok (.invokevirtual 27, 3) := dk_182 0 27 (dk_at dksJ9_init_2_1 0 rfl rfl)
theorem dJ9_init_2_27 : decode cJ9_init_2 27 = .ok (.pop, 1) := dk_87 (dk_at dksJ9_init_2_1 3 rfl rfl)
theorem dJ9_init_2_28 : decode cJ9_init_2 28 = .ok (.aload_n 0, 1) := dk_42 (dk_at dksJ9_init_2_1 4 rfl rfl)
theorem dJ9_init_2_29 : decode cJ9_init_2 29 = .ok (.aload_n 1, 1) := dk_43 (dk_at dksJ9_init_2_1 5 rfl rfl)
theorem dJ9_init_2_30 : decode cJ9_init_2 30 = .ok (.putfield 31, 3) := dk_181 0 31 (dk_at dksJ9_init_2_1 6 rfl rfl)
theorem dJ9_init_2_33 : decode cJ9_init_2 33 = .ok (.return_, 1) := dk_177 (dk_at dksJ9_init_2_1 9 rfl rfl)
theorem q70 : (Jvm.Cond.initialized "java/lang/Throwable") ∈ lw_all := lw_g (lw_at lw_m1 13 rfl) rfl
theorem q290 : (Jvm.Cond.declares ({ cls := "java/lang/Throwable", name := "<init>", desc := "()V" } : Jvm.MethodName)) ∈ lw_tbl := lw_at lw_m1 233 rfl
theorem q291 : (Jvm.Cond.declares ({ cls := "java/lang/Throwable", name := "<init>", desc := "(Ljava/lang/String;)V" } : Jvm.MethodName)) ∈ lw_tbl := lw_at lw_m1 234 rfl
theorem q295 : (Jvm.Cond.lays "java/lang/Throwable" "java/lang/Throwable" "cause" "Ljava/lang/Throwable;") ∈ lw_all := lw_g (lw_at lw_m1 238 rfl) rfl
theorem q297 : (Jvm.Cond.lays "java/lang/Throwable" "java/lang/Throwable" "stackTrace" "[Ljava/lang/StackTraceElement;") ∈ lw_all := lw_g (lw_at lw_m2 0 rfl) rfl
theorem q299 : (Jvm.Cond.lays "java/lang/Throwable" "java/lang/Throwable" "suppressedExceptions" "Ljava/util/List;") ∈ lw_all := lw_g (lw_at lw_m2 2 rfl) rfl
theorem q301 : (Jvm.Cond.lays "java/lang/Throwable" "java/lang/Throwable" "detailMessage" "Ljava/lang/String;") ∈ lw_all := lw_g (lw_at lw_m2 4 rfl) rfl
theorem q303 : (Jvm.Cond.lays "java/lang/Throwable" "java/lang/Throwable" "backtrace" "Ljava/lang/Object;") ∈ lw_all := lw_g (lw_at lw_m2 6 rfl) rfl
theorem q304 : (Jvm.Cond.fieldLink "java/lang/Throwable" (198 : Nat) "java/lang/Throwable" "backtrace" "Ljava/lang/Object;") ∈ lw_all := lw_g (lw_at lw_m2 7 rfl) rfl
theorem q305 : (Jvm.Cond.superclass "java/lang/Throwable" "java/lang/Object") ∈ lw_all := lw_g (lw_at lw_m2 8 rfl) rfl
theorem q306 : (Jvm.Cond.instanceMethod ({ cls := "java/lang/Throwable", name := "<init>", desc := "()V" } : Jvm.MethodName)) ∈ lw_all := lw_g (lw_at lw_m2 9 rfl) rfl
theorem q307 : (Jvm.Cond.code ({ cls := "java/lang/Throwable", name := "<init>", desc := "()V" } : Jvm.MethodName) prog_42_method_1_code (1 : Nat) (Option.none : Option Jvm.ClassFile.FieldType)) ∈ lw_all := lw_g (lw_at lw_m2 10 rfl) rfl
theorem q308 : (Jvm.Cond.methodLink "java/lang/Throwable" (1 : Nat) ({ cls := "java/lang/Object", name := "<init>", desc := "()V" } : Jvm.MethodName)) ∈ lw_all := lw_g (lw_at lw_m2 11 rfl) rfl
theorem q309 : (Jvm.Cond.fieldLink "java/lang/Throwable" (13 : Nat) "java/lang/Throwable" "UNASSIGNED_STACK" "[Ljava/lang/StackTraceElement;") ∈ lw_all := lw_g (lw_at lw_m2 12 rfl) rfl
theorem q310 : (Jvm.Cond.laysStatic "java/lang/Throwable" "UNASSIGNED_STACK" "[Ljava/lang/StackTraceElement;") ∈ lw_tbl := lw_at lw_m2 13 rfl
theorem q311 : (Jvm.Cond.fieldLink "java/lang/Throwable" (20 : Nat) "java/lang/Throwable" "SUPPRESSED_SENTINEL" "Ljava/util/List;") ∈ lw_all := lw_g (lw_at lw_m2 14 rfl) rfl
theorem q312 : (Jvm.Cond.laysStatic "java/lang/Throwable" "SUPPRESSED_SENTINEL" "Ljava/util/List;") ∈ lw_tbl := lw_at lw_m2 15 rfl
theorem q313 : (Jvm.Cond.methodLink "java/lang/Throwable" (27 : Nat) ({ cls := "java/lang/Throwable", name := "fillInStackTrace", desc := "()Ljava/lang/Throwable;" } : Jvm.MethodName)) ∈ lw_all := lw_g (lw_at lw_m2 16 rfl) rfl
theorem q314 : (Jvm.Cond.instanceMethod ({ cls := "java/lang/Throwable", name := "fillInStackTrace", desc := "()Ljava/lang/Throwable;" } : Jvm.MethodName)) ∈ lw_all := lw_g (lw_at lw_m2 17 rfl) rfl
theorem q315 : (Jvm.Cond.sameMethod "java/lang/Throwable" "java/lang/Throwable" "fillInStackTrace" "()Ljava/lang/Throwable;") ∈ lw_all := lw_g (lw_at lw_m2 18 rfl) rfl
theorem q319 : (Jvm.Cond.codeSync ({ cls := "java/lang/Throwable", name := "fillInStackTrace", desc := "()Ljava/lang/Throwable;" } : Jvm.MethodName) prog_42_method_18_code (1 : Nat) (Option.some (Jvm.ClassFile.FieldType.object "java/lang/Throwable"))) ∈ lw_all := lw_g (lw_at lw_m2 22 rfl) rfl
theorem q320 : (Jvm.Cond.methodLink "java/lang/Throwable" (202 : Nat) ({ cls := "java/lang/Throwable", name := "fillInStackTrace", desc := "(I)Ljava/lang/Throwable;" } : Jvm.MethodName)) ∈ lw_all := lw_g (lw_at lw_m2 23 rfl) rfl
theorem q321 : (Jvm.Cond.privateMethod ({ cls := "java/lang/Throwable", name := "fillInStackTrace", desc := "(I)Ljava/lang/Throwable;" } : Jvm.MethodName)) ∈ lw_tbl := lw_at lw_m2 24 rfl
theorem q322 : (Jvm.Cond.instanceMethod ({ cls := "java/lang/Throwable", name := "fillInStackTrace", desc := "(I)Ljava/lang/Throwable;" } : Jvm.MethodName)) ∈ lw_all := lw_g (lw_at lw_m2 25 rfl) rfl
theorem q323 : (Jvm.Cond.instantiable "java/lang/Throwable" (6 : Nat)) ∈ lw_all := lw_g (lw_at lw_m2 26 rfl) rfl
theorem q324 : (Jvm.Cond.native ({ cls := "java/lang/Throwable", name := "fillInStackTrace", desc := "(I)Ljava/lang/Throwable;" } : Jvm.MethodName)) ∈ lw_all := lw_g (lw_at lw_m2 27 rfl) rfl
theorem q545 : (Jvm.Cond.instanceMethod ({ cls := "java/lang/Throwable", name := "<init>", desc := "(Ljava/lang/String;)V" } : Jvm.MethodName)) ∈ lw_all := lw_g (lw_at lw_m3 8 rfl) rfl
theorem q546 : (Jvm.Cond.code ({ cls := "java/lang/Throwable", name := "<init>", desc := "(Ljava/lang/String;)V" } : Jvm.MethodName) prog_42_method_2_code (2 : Nat) (Option.none : Option Jvm.ClassFile.FieldType)) ∈ lw_all := lw_g (lw_at lw_m3 9 rfl) rfl
theorem q547 : (Jvm.Cond.fieldLink "java/lang/Throwable" (198 : Nat) "java/lang/Throwable" "backtrace" "Ljava/lang/Object;") ∈ lw_all := lw_g (lw_at lw_m3 10 rfl) rfl
theorem q548 : (Jvm.Cond.fieldLink "java/lang/Throwable" (31 : Nat) "java/lang/Throwable" "detailMessage" "Ljava/lang/String;") ∈ lw_all := lw_g (lw_at lw_m3 11 rfl) rfl
theorem q549 : (Jvm.Cond.fieldLink "java/lang/Throwable" (7 : Nat) "java/lang/Throwable" "cause" "Ljava/lang/Throwable;") ∈ lw_all := lw_g (lw_at lw_m3 12 rfl) rfl
theorem q550 : (Jvm.Cond.fieldLink "java/lang/Throwable" (17 : Nat) "java/lang/Throwable" "stackTrace" "[Ljava/lang/StackTraceElement;") ∈ lw_all := lw_g (lw_at lw_m3 13 rfl) rfl
theorem q551 : (Jvm.Cond.fieldLink "java/lang/Throwable" (24 : Nat) "java/lang/Throwable" "suppressedExceptions" "Ljava/util/List;") ∈ lw_all := lw_g (lw_at lw_m3 14 rfl) rfl
theorem q552 : (Jvm.Cond.soleField "java/lang/Throwable" "backtrace") ∈ lw_all := lw_g (lw_at lw_m3 15 rfl) rfl
theorem q553 : (Jvm.Cond.soleField "java/lang/Throwable" "detailMessage") ∈ lw_all := lw_g (lw_at lw_m3 16 rfl) rfl
theorem q554 : (Jvm.Cond.soleField "java/lang/Throwable" "cause") ∈ lw_all := lw_g (lw_at lw_m3 17 rfl) rfl
theorem q555 : (Jvm.Cond.soleField "java/lang/Throwable" "stackTrace") ∈ lw_all := lw_g (lw_at lw_m3 18 rfl) rfl
theorem q557 : (Jvm.Cond.soleField "java/lang/Throwable" "depth") ∈ lw_all := lw_g (lw_at lw_m3 20 rfl) rfl
theorem q558 : (Jvm.Cond.soleField "java/lang/Throwable" "suppressedExceptions") ∈ lw_all := lw_g (lw_at lw_m3 21 rfl) rfl
theorem q2725 : (Jvm.Cond.sameMethod "java/lang/Throwable" "java/lang/Throwable" "fillInStackTrace" "(I)Ljava/lang/Throwable;") ∈ lw_all := lw_g (lw_at lw_m12 28 rfl) rfl
theorem q2767 : (Jvm.Cond.castable "java/lang/Throwable" "java/lang/Object") ∈ lw_tbl := lw_at lw_m12 70 rfl
