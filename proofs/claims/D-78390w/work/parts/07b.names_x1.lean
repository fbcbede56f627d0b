set_option maxRecDepth 100000
abbrev cX1_init : ByteArray := prog_1_method_14_code
def yX1_init : MethodName := ⟨RX1, "<init>", "()V"⟩
def dkwX1_init_9 : List UInt8 := [181, 0, 192, 42, 16, 120, 188, 5, 181, 0, 195, 177]
abbrev dktX1_init_9 : List UInt8 := dkwX1_init_9 ++ []
def dkwX1_init_8 : List UInt8 := [183, 0, 173, 181, 0, 181, 42, 187, 0, 185, 89, 183, 0, 187, 181, 0, 188, 42, 5, 189, 0, 171]
abbrev dktX1_init_8 : List UInt8 := dkwX1_init_8 ++ dktX1_init_9
def dkwX1_init_7 : List UInt8 := [187, 0, 171, 89, 187, 0, 45, 89, 183, 0, 173, 183, 0, 174, 181, 0, 177, 42, 187, 0, 45, 89]
abbrev dktX1_init_7 : List UInt8 := dkwX1_init_7 ++ dktX1_init_8
def dkwX1_init_6 : List UInt8 := [89, 7, 42, 186, 0, 169, 0, 0, 83, 89, 8, 42, 186, 0, 170, 0, 0, 83, 181, 0, 114, 42]
abbrev dktX1_init_6 : List UInt8 := dkwX1_init_6 ++ dktX1_init_7
def dkwX1_init_5 : List UInt8 := [186, 0, 164, 0, 0, 83, 89, 5, 42, 186, 0, 167, 0, 0, 83, 89, 6, 42, 186, 0, 168, 0, 0, 83]
abbrev dktX1_init_5 : List UInt8 := dkwX1_init_5 ++ dktX1_init_6
def dkwX1_init_4 : List UInt8 := [89, 8, 186, 0, 163, 0, 0, 83, 181, 0, 74, 42, 16, 6, 189, 0, 119, 89, 3, 1, 83, 89, 4, 42]
abbrev dktX1_init_4 : List UInt8 := dkwX1_init_4 ++ dktX1_init_5
def dkwX1_init_3 : List UInt8 := [89, 5, 186, 0, 160, 0, 0, 83, 89, 6, 186, 0, 161, 0, 0, 83, 89, 7, 186, 0, 162, 0, 0, 83]
abbrev dktX1_init_3 : List UInt8 := dkwX1_init_3 ++ dktX1_init_4
def dkwX1_init_2 : List UInt8 := [185, 0, 151, 3, 0, 87, 42, 16, 6, 189, 0, 83, 89, 3, 1, 83, 89, 4, 186, 0, 157, 0, 0, 83]
abbrev dktX1_init_2 : List UInt8 := dkwX1_init_2 ++ dktX1_init_3
def dkwX1_init_1 : List UInt8 := [5, 184, 0, 146, 185, 0, 151, 3, 0, 87, 42, 180, 0, 136, 16, 95, 184, 0, 140, 6, 184, 0, 146]
abbrev dktX1_init_1 : List UInt8 := dkwX1_init_1 ++ dktX1_init_2
def dkwX1_init_0 : List UInt8 := [42, 183, 0, 130, 42, 187, 0, 133, 89, 183, 0, 135, 181, 0, 136, 42, 180, 0, 136, 16, 94, 184, 0, 140]
abbrev dktX1_init_0 : List UInt8 := dkwX1_init_0 ++ dktX1_init_1
theorem dksX1_init_0 : cX1_init.data.toList.drop 0 = dktX1_init_0 := by decide +kernel
theorem dksX1_init_1 : cX1_init.data.toList.drop 24 = dktX1_init_1 := dk_seg dksX1_init_0 24 rfl rfl
theorem dksX1_init_2 : cX1_init.data.toList.drop 47 = dktX1_init_2 := dk_seg dksX1_init_1 23 rfl rfl
theorem dksX1_init_3 : cX1_init.data.toList.drop 71 = dktX1_init_3 := dk_seg dksX1_init_2 24 rfl rfl
theorem dksX1_init_4 : cX1_init.data.toList.drop 95 = dktX1_init_4 := dk_seg dksX1_init_3 24 rfl rfl
theorem dksX1_init_5 : cX1_init.data.toList.drop 119 = dktX1_init_5 := dk_seg dksX1_init_4 24 rfl rfl
theorem dksX1_init_6 : cX1_init.data.toList.drop 143 = dktX1_init_6 := dk_seg dksX1_init_5 24 rfl rfl
theorem dksX1_init_7 : cX1_init.data.toList.drop 165 = dktX1_init_7 := dk_seg dksX1_init_6 22 rfl rfl
theorem dksX1_init_8 : cX1_init.data.toList.drop 187 = dktX1_init_8 := dk_seg dksX1_init_7 22 rfl rfl
theorem dksX1_init_9 : cX1_init.data.toList.drop 209 = dktX1_init_9 := dk_seg dksX1_init_8 22 rfl rfl
theorem dX1_init_0 : decode cX1_init 0 = .ok (.aload_n 0, 1) := dk_42 (dk_at dksX1_init_0 0 rfl rfl)
theorem dX1_init_1 : decode cX1_init 1 = .ok (.invokespecial 130, 3) := dk_183 0 130 (dk_at dksX1_init_0 1 rfl rfl)
theorem dX1_init_4 : decode cX1_init 4 = .ok (.aload_n 0, 1) := dk_42 (dk_at dksX1_init_0 4 rfl rfl)
theorem dX1_init_5 : decode cX1_init 5 = .ok (.new 133, 3) := dk_187 0 133 (dk_at dksX1_init_0 5 rfl rfl)
theorem dX1_init_8 : decode cX1_init 8 = .ok (.dup, 1) := dk_89 (dk_at dksX1_init_0 8 rfl rfl)
theorem dX1_init_9 : decode cX1_init 9 = .ok (.invokespecial 135, 3) := dk_183 0 135 (dk_at dksX1_init_0 9 rfl rfl)
theorem dX1_init_12 : decode cX1_init 12 = .ok (.putfield 136, 3) := dk_181 0 136 (dk_at dksX1_init_0 12 rfl rfl)
theorem dX1_init_15 : decode cX1_init 15 = .ok (.aload_n 0, 1) := dk_42 (dk_at dksX1_init_0 15 rfl rfl)
theorem dX1_init_16 : decode cX1_init 16 = .ok (.getfield 136, 3) := dk_180 0 136 (dk_at dksX1_init_0 16 rfl rfl)
theorem dX1_init_19 : decode cX1_init 19 = .ok (.bipush 94, 2) := dk_16 94 (dk_at dksX1_init_0 19 rfl rfl)
theorem dX1_init_21 : decode cX1_init 21 = .ok (.invokestatic 140, 3) := dk_184 0 140 (dk_at dksX1_init_0 21 rfl rfl)
theorem dX1_init_24 : decode cX1_init 24 = .ok (.iconst 2, 1) := dk_5 (dk_at dksX1_init_1 0 rfl rfl)
theorem dX1_init_25 : decode cX1_init 25 = .ok (.invokestatic 146, 3) := dk_184 0 146 (dk_at dksX1_init_1 1 rfl rfl)
theorem dX1_init_28 : decode cX1_init 28 = .ok (.invokeinterface 151 3, 5) := by decide +kernel
theorem dX1_init_33 : decode cX1_init 33 = .ok (.pop, 1) := dk_87 (dk_at dksX1_init_1 9 rfl rfl)
theorem dX1_init_34 : decode cX1_init 34 = .ok (.aload_n 0, 1) := dk_42 (dk_at dksX1_init_1 10 rfl rfl)
theorem dX1_init_35 : decode cX1_init 35 = .ok (.getfield 136, 3) := dk_180 0 136 (dk_at dksX1_init_1 11 rfl rfl)
theorem dX1_init_38 : decode cX1_init 38 = .ok (.bipush 95, 2) := dk_16 95 (dk_at dksX1_init_1 14 rfl rfl)
theorem dX1_init_40 : decode cX1_init 40 = .ok (.invokestatic 140, 3) := dk_184 0 140 (dk_at dksX1_init_1 16 rfl rfl)
theorem dX1_init_43 : decode cX1_init 43 = .ok (.iconst 3, 1) := dk_6 (dk_at dksX1_init_1 19 rfl rfl)
theorem dX1_init_44 : decode cX1_init 44 = .ok (.invokestatic 146, 3) := dk_184 0 146 (dk_at dksX1_init_1 20 rfl rfl)
theorem dX1_init_47 : decode cX1_init 47 = .ok (.invokeinterface 151 3, 5) := by decide +kernel
theorem dX1_init_52 : decode cX1_init 52 = .ok (.pop, 1) := dk_87 (dk_at dksX1_init_2 5 rfl rfl)
theorem dX1_init_53 : decode cX1_init 53 = .ok (.aload_n 0, 1) := dk_42 (dk_at dksX1_init_2 6 rfl rfl)
theorem dX1_init_54 : decode cX1_init 54 = .ok (.bipush 6, 2) := dk_16 6 (dk_at dksX1_init_2 7 rfl rfl)
theorem dX1_init_56 : decode cX1_init 56 = .ok (.anewarray 83, 3) := dk_189 0 83 (dk_at dksX1_init_2 9 rfl rfl)
theorem dX1_init_59 : decode cX1_init 59 = .ok (.dup, 1) := dk_89 (dk_at dksX1_init_2 12 rfl rfl)
theorem dX1_init_60 : decode cX1_init 60 = .ok (.iconst 0, 1) := dk_3 (dk_at dksX1_init_2 13 rfl rfl)
theorem dX1_init_61 : decode cX1_init 61 = .ok (.aconst_null, 1) := dk_1 (dk_at dksX1_init_2 14 rfl rfl)
theorem dX1_init_62 : decode cX1_init 62 = .ok (.aastore, 1) := dk_83 (dk_at dksX1_init_2 15 rfl rfl)
theorem dX1_init_63 : decode cX1_init 63 = .ok (.dup, 1) := dk_89 (dk_at dksX1_init_2 16 rfl rfl)
theorem dX1_init_64 : decode cX1_init 64 = .ok (.iconst 1, 1) := dk_4 (dk_at dksX1_init_2 17 rfl rfl)
theorem dX1_init_65 : decode cX1_init 65 = .ok (.invokedynamic 157, 5) := by decide +kernel
theorem dX1_init_70 : decode cX1_init 70 = .ok (.aastore, 1) := dk_83 (dk_at dksX1_init_2 23 rfl rfl)
theorem dX1_init_71 : decode cX1_init 71 = .ok (.dup, 1) := dk_89 (dk_at dksX1_init_3 0 rfl rfl)
theorem dX1_init_72 : decode cX1_init 72 = .ok (.iconst 2, 1) := dk_5 (dk_at dksX1_init_3 1 rfl rfl)
theorem dX1_init_73 : decode cX1_init 73 = .ok (.invokedynamic 160, 5) := by decide +kernel
theorem dX1_init_78 : decode cX1_init 78 = .ok (.aastore, 1) := dk_83 (dk_at dksX1_init_3 7 rfl rfl)
theorem dX1_init_79 : decode cX1_init 79 = .ok (.dup, 1) := dk_89 (dk_at dksX1_init_3 8 rfl rfl)
theorem dX1_init_80 : decode cX1_init 80 = .ok (.iconst 3, 1) := dk_6 (dk_at dksX1_init_3 9 rfl rfl)
theorem dX1_init_81 : decode cX1_init 81 = .ok (.invokedynamic 161, 5) := by decide +kernel
theorem dX1_init_86 : decode cX1_init 86 = .ok (.aastore, 1) := dk_83 (dk_at dksX1_init_3 15 rfl rfl)
theorem dX1_init_87 : decode cX1_init 87 = .ok (.dup, 1) := dk_89 (dk_at dksX1_init_3 16 rfl rfl)
theorem dX1_init_88 : decode cX1_init 88 = .ok (.iconst 4, 1) := dk_7 (dk_at dksX1_init_3 17 rfl rfl)
theorem dX1_init_89 : decode cX1_init 89 = .ok (.invokedynamic 162, 5) := by decide +kernel
theorem dX1_init_94 : decode cX1_init 94 = .ok (.aastore, 1) := dk_83 (dk_at dksX1_init_3 23 rfl rfl)
theorem dX1_init_95 : decode cX1_init 95 = .ok (.dup, 1) := dk_89 (dk_at dksX1_init_4 0 rfl rfl)
theorem dX1_init_96 : decode cX1_init 96 = .ok (.iconst 5, 1) := dk_8 (dk_at dksX1_init_4 1 rfl rfl)
theorem dX1_init_97 : decode cX1_init 97 = .ok (.invokedynamic 163, 5) := by decide +kernel
theorem dX1_init_102 : decode cX1_init 102 = .ok (.aastore, 1) := dk_83 (dk_at dksX1_init_4 7 rfl rfl)
theorem dX1_init_103 : decode cX1_init 103 = .ok (.putfield 74, 3) := dk_181 0 74 (dk_at dksX1_init_4 8 rfl rfl)
theorem dX1_init_106 : decode cX1_init 106 = .ok (.aload_n 0, 1) := dk_42 (dk_at dksX1_init_4 11 rfl rfl)
theorem dX1_init_107 : decode cX1_init 107 = .ok (.bipush 6, 2) := dk_16 6 (dk_at dksX1_init_4 12 rfl rfl)
theorem dX1_init_109 : decode cX1_init 109 = .ok (.anewarray 119, 3) := dk_189 0 119 (dk_at dksX1_init_4 14 rfl rfl)
theorem dX1_init_112 : decode cX1_init 112 = .ok (.dup, 1) := dk_89 (dk_at dksX1_init_4 17 rfl rfl)
theorem dX1_init_113 : decode cX1_init 113 = .ok (.iconst 0, 1) := dk_3 (dk_at dksX1_init_4 18 rfl rfl)
theorem dX1_init_114 : decode cX1_init 114 = .ok (.aconst_null, 1) := dk_1 (dk_at dksX1_init_4 19 rfl rfl)
theorem dX1_init_115 : decode cX1_init 115 = .ok (.aastore, 1) := dk_83 (dk_at dksX1_init_4 20 rfl rfl)
theorem dX1_init_116 : decode cX1_init 116 = .ok (.dup, 1) := dk_89 (dk_at dksX1_init_4 21 rfl rfl)
theorem dX1_init_117 : decode cX1_init 117 = .ok (.iconst 1, 1) := dk_4 (dk_at dksX1_init_4 22 rfl rfl)
theorem dX1_init_118 : decode cX1_init 118 = .ok (.aload_n 0, 1) := dk_42 (dk_at dksX1_init_4 23 rfl rfl)
theorem dX1_init_119 : decode cX1_init 119 = .ok (.invokedynamic 164, 5) := by decide +kernel
theorem dX1_init_124 : decode cX1_init 124 = .ok (.aastore, 1) := dk_83 (dk_at dksX1_init_5 5 rfl rfl)
theorem dX1_init_125 : decode cX1_init 125 = .ok (.dup, 1) := dk_89 (dk_at dksX1_init_5 6 rfl rfl)
theorem dX1_init_126 : decode cX1_init 126 = .ok (.iconst 2, 1) := dk_5 (dk_at dksX1_init_5 7 rfl rfl)
theorem dX1_init_127 : decode cX1_init 127 = .ok (.aload_n 0, 1) := dk_42 (dk_at dksX1_init_5 8 rfl rfl)
theorem dX1_init_128 : decode cX1_init 128 = .ok (.invokedynamic 167, 5) := by decide +kernel
theorem dX1_init_133 : decode cX1_init 133 = .ok (.aastore, 1) := dk_83 (dk_at dksX1_init_5 14 rfl rfl)
theorem dX1_init_134 : decode cX1_init 134 = .ok (.dup, 1) := dk_89 (dk_at dksX1_init_5 15 rfl rfl)
theorem dX1_init_135 : decode cX1_init 135 = .ok (.iconst 3, 1) := dk_6 (dk_at dksX1_init_5 16 rfl rfl)
theorem dX1_init_136 : decode cX1_init 136 = .ok (.aload_n 0, 1) := dk_42 (dk_at dksX1_init_5 17 rfl rfl)
theorem dX1_init_137 : decode cX1_init 137 = .ok (.invokedynamic 168, 5) := by decide +kernel
theorem dX1_init_142 : decode cX1_init 142 = .ok (.aastore, 1) := dk_83 (dk_at dksX1_init_5 23 rfl rfl)
theorem dX1_init_143 : decode cX1_init 143 = .ok (.dup, 1) := dk_89 (dk_at dksX1_init_6 0 rfl rfl)
theorem dX1_init_144 : decode cX1_init 144 = .ok (.iconst 4, 1) := dk_7 (dk_at dksX1_init_6 1 rfl rfl)
theorem dX1_init_145 : decode cX1_init 145 = .ok (.aload_n 0, 1) := dk_42 (dk_at dksX1_init_6 2 rfl rfl)
theorem dX1_init_146 : decode cX1_init 146 = .ok (.invokedynamic 169, 5) := by decide +kernel
theorem dX1_init_151 : decode cX1_init 151 = .ok (.aastore, 1) := dk_83 (dk_at dksX1_init_6 8 rfl rfl)
theorem dX1_init_152 : decode cX1_init 152 = .ok (.dup, 1) := dk_89 (dk_at dksX1_init_6 9 rfl rfl)
theorem dX1_init_153 : decode cX1_init 153 = .ok (.iconst 5, 1) := dk_8 (dk_at dksX1_init_6 10 rfl rfl)
theorem dX1_init_154 : decode cX1_init 154 = .ok (.aload_n 0, 1) := dk_42 (dk_at dksX1_init_6 11 rfl rfl)
theorem dX1_init_155 : decode cX1_init 155 = .ok (.invokedynamic 170, 5) := by decide +kernel
theorem dX1_init_160 : decode cX1_init 160 = .ok (.aastore, 1) := dk_83 (dk_at dksX1_init_6 17 rfl rfl)
theorem dX1_init_161 : decode cX1_init 161 = .ok (.putfield 114, 3) := dk_181 0 114 (dk_at dksX1_init_6 18 rfl rfl)
theorem dX1_init_164 : decode cX1_init 164 = .ok (.aload_n 0, 1) := dk_42 (dk_at dksX1_init_6 21 rfl rfl)
theorem dX1_init_165 : decode cX1_init 165 = .ok (.new 171, 3) := dk_187 0 171 (dk_at dksX1_init_7 0 rfl rfl)
theorem dX1_init_168 : decode cX1_init 168 = .ok (.dup, 1) := dk_89 (dk_at dksX1_init_7 3 rfl rfl)
theorem dX1_init_169 : decode cX1_init 169 = .ok (.new 45, 3) := dk_187 0 45 (dk_at dksX1_init_7 4 rfl rfl)
theorem dX1_init_172 : decode cX1_init 172 = .ok (.dup, 1) := dk_89 (dk_at dksX1_init_7 7 rfl rfl)
theorem dX1_init_173 : decode cX1_init 173 = .ok (.invokespecial 173, 3) := dk_183 0 173 (dk_at dksX1_init_7 8 rfl rfl)
theorem dX1_init_176 : decode cX1_init 176 = .ok (.invokespecial 174, 3) := dk_183 0 174 (dk_at dksX1_init_7 11 rfl rfl)
theorem dX1_init_179 : decode cX1_init 179 = .ok (.putfield 177, 3) := dk_181 0 177 (dk_at dksX1_init_7 14 rfl rfl)
theorem dX1_init_182 : decode cX1_init 182 = .ok (.aload_n 0, 1) := dk_42 (dk_at dksX1_init_7 17 rfl rfl)
theorem dX1_init_183 : decode cX1_init 183 = .ok (.new 45, 3) := dk_187 0 45 (dk_at dksX1_init_7 18 rfl rfl)
theorem dX1_init_186 : decode cX1_init 186 = .ok (.dup, 1) := dk_89 (dk_at dksX1_init_7 21 rfl rfl)
theorem dX1_init_187 : decode cX1_init 187 = .ok (.invokespecial 173, 3) := dk_183 0 173 (dk_at dksX1_init_8 0 rfl rfl)
theorem dX1_init_190 : decode cX1_init 190 = .ok (.putfield 181, 3) := dk_181 0 181 (dk_at dksX1_init_8 3 rfl rfl)
theorem dX1_init_193 : decode cX1_init 193 = .ok (.aload_n 0, 1) := dk_42 (dk_at dksX1_init_8 6 rfl rfl)
theorem dX1_init_194 : decode cX1_init 194 = .ok (.new 185, 3) := dk_187 0 185 (dk_at dksX1_init_8 7 rfl rfl)
theorem dX1_init_197 : decode cX1_init 197 = .ok (.dup, 1) := dk_89 (dk_at dksX1_init_8 10 rfl rfl)
theorem dX1_init_198 : decode cX1_init 198 = .ok (.invokespecial 187, 3) := dk_183 0 187 (dk_at dksX1_init_8 11 rfl rfl)
theorem dX1_init_201 : decode cX1_init 201 = .ok (.putfield 188, 3) := dk_181 0 188 (dk_at dksX1_init_8 14 rfl rfl)
theorem dX1_init_204 : decode cX1_init 204 = .ok (.aload_n 0, 1) := dk_42 (dk_at dksX1_init_8 17 rfl rfl)
theorem dX1_init_205 : decode cX1_init 205 = .ok (.iconst 2, 1) := dk_5 (dk_at dksX1_init_8 18 rfl rfl)
theorem dX1_init_206 : decode cX1_init 206 = .ok (.anewarray 171, 3) := dk_189 0 171 (dk_at dksX1_init_8 19 rfl rfl)
theorem dX1_init_209 : decode cX1_init 209 = .ok (.putfield 192, 3) := dk_181 0 192 (dk_at dksX1_init_9 0 rfl rfl)
theorem dX1_init_212 : decode cX1_init 212 = .ok (.aload_n 0, 1) := dk_42 (dk_at dksX1_init_9 3 rfl rfl)
theorem dX1_init_213 : decode cX1_init 213 = .ok (.bipush 120, 2) := dk_16 120 (dk_at dksX1_init_9 4 rfl rfl)
theorem dX1_init_215 : decode cX1_init 215 = .ok (.newarray .char, 2) := dk_188_5 (dk_at dksX1_init_9 6 rfl rfl)
theorem dX1_init_217 : decode cX1_init 217 = .ok (.putfield 195, 3) := dk_181 0 195 (dk_at dksX1_init_9 8 rfl rfl)
theorem dX1_init_220 : decode cX1_init 220 = .ok (.return_, 1) := dk_177 (dk_at dksX1_init_9 11 rfl rfl)
abbrev cX1_lambda_new_0 : ByteArray := prog_1_method_60_code
def yX1_lambda_new_0 : MethodName := ⟨RX1, "lambda$new$0", "(LFormulaEditor$Structure;)LFormulaEditor$Box;"⟩
def dkwX1_lambda_new_0_2 : List UInt8 := [180, 0, 111, 182, 1, 108, 183, 0, 108, 176]
abbrev dktX1_lambda_new_0_2 : List UInt8 := dkwX1_lambda_new_0_2 ++ []
def dkwX1_lambda_new_0_1 : List UInt8 := [180, 0, 91, 184, 0, 99, 42, 180, 0, 66, 3, 50, 180, 0, 111, 182, 1, 108, 42, 182, 1, 148]
abbrev dktX1_lambda_new_0_1 : List UInt8 := dkwX1_lambda_new_0_1 ++ dktX1_lambda_new_0_2
def dkwX1_lambda_new_0_0 : List UInt8 := [187, 0, 92, 89, 42, 180, 0, 66, 3, 50, 180, 0, 111, 180, 0, 91, 42, 182, 1, 148, 180, 0, 111]
abbrev dktX1_lambda_new_0_0 : List UInt8 := dkwX1_lambda_new_0_0 ++ dktX1_lambda_new_0_1
theorem dksX1_lambda_new_0_0 : cX1_lambda_new_0.data.toList.drop 0 = dktX1_lambda_new_0_0 := by decide +kernel
theorem dksX1_lambda_new_0_1 : cX1_lambda_new_0.data.toList.drop 23 = dktX1_lambda_new_0_1 := dk_seg dksX1_lambda_new_0_0 23 rfl rfl
theorem dksX1_lambda_new_0_2 : cX1_lambda_new_0.data.toList.drop 45 = dktX1_lambda_new_0_2 := dk_seg dksX1_lambda_new_0_1 22 rfl rfl
theorem dX1_lambda_new_0_0 : decode cX1_lambda_new_0 0 = .ok (.new 92, 3) := dk_187 0 92 (dk_at dksX1_lambda_new_0_0 0 rfl rfl)
theorem dX1_lambda_new_0_3 : decode cX1_lambda_new_0 3 = .ok (.dup, 1) := dk_89 (dk_at dksX1_lambda_new_0_0 3 rfl rfl)
theorem dX1_lambda_new_0_4 : decode cX1_lambda_new_0 4 = .ok (.aload_n 0, 1) := dk_42 (dk_at dksX1_lambda_new_0_0 4 rfl rfl)
theorem dX1_lambda_new_0_5 : decode cX1_lambda_new_0 5 = .ok (.getfield 66, 3) := dk_180 0 66 (dk_at dksX1_lambda_new_0_0 5 rfl rfl)
theorem dX1_lambda_new_0_8 : decode cX1_lambda_new_0 8 = .ok (.iconst 0, 1) := dk_3 (dk_at dksX1_lambda_new_0_0 8 rfl rfl)
theorem dX1_lambda_new_0_9 : decode cX1_lambda_new_0 9 = .ok (.aaload, 1) := dk_50 (dk_at dksX1_lambda_new_0_0 9 rfl rfl)
theorem dX1_lambda_new_0_10 : decode cX1_lambda_new_0 10 = .ok (.getfield 111, 3) := dk_180 0 111 (dk_at dksX1_lambda_new_0_0 10 rfl rfl)
theorem dX1_lambda_new_0_13 : decode cX1_lambda_new_0 13 = .ok (.getfield 91, 3) := dk_180 0 91 (dk_at dksX1_lambda_new_0_0 13 rfl rfl)
theorem dX1_lambda_new_0_16 : decode cX1_lambda_new_0 16 = .ok (.aload_n 0, 1) := dk_42 (dk_at dksX1_lambda_new_0_0 16 rfl rfl)
theorem dX1_lambda_new_0_17 : decode cX1_lambda_new_0 17 = .ok (.invokevirtual 404, 3) := dk_182 1 148 (dk_at dksX1_lambda_new_0_0 17 rfl rfl)
theorem dX1_lambda_new_0_20 : decode cX1_lambda_new_0 20 = .ok (.getfield 111, 3) := dk_180 0 111 (dk_at dksX1_lambda_new_0_0 20 rfl rfl)
theorem dX1_lambda_new_0_23 : decode cX1_lambda_new_0 23 = .ok (.getfield 91, 3) := dk_180 0 91 (dk_at dksX1_lambda_new_0_1 0 rfl rfl)
theorem dX1_lambda_new_0_26 : decode cX1_lambda_new_0 26 = .ok (.invokestatic 99, 3) := dk_184 0 99 (dk_at dksX1_lambda_new_0_1 3 rfl rfl)
theorem dX1_lambda_new_0_29 : decode cX1_lambda_new_0 29 = .ok (.aload_n 0, 1) := dk_42 (dk_at dksX1_lambda_new_0_1 6 rfl rfl)
theorem dX1_lambda_new_0_30 : decode cX1_lambda_new_0 30 = .ok (.getfield 66, 3) := dk_180 0 66 (dk_at dksX1_lambda_new_0_1 7 rfl rfl)
theorem dX1_lambda_new_0_33 : decode cX1_lambda_new_0 33 = .ok (.iconst 0, 1) := dk_3 (dk_at dksX1_lambda_new_0_1 10 rfl rfl)
theorem dX1_lambda_new_0_34 : decode cX1_lambda_new_0 34 = .ok (.aaload, 1) := dk_50 (dk_at dksX1_lambda_new_0_1 11 rfl rfl)
theorem dX1_lambda_new_0_35 : decode cX1_lambda_new_0 35 = .ok (.getfield 111, 3) := dk_180 0 111 (dk_at dksX1_lambda_new_0_1 12 rfl rfl)
theorem dX1_lambda_new_0_38 : decode cX1_lambda_new_0 38 = .ok (.invokevirtual 364, 3) := dk_182 1 108 (dk_at dksX1_lambda_new_0_1 15 rfl rfl)
theorem dX1_lambda_new_0_41 : decode cX1_lambda_new_0 41 = .ok (.aload_n 0, 1) := dk_42 (dk_at dksX1_lambda_new_0_1 18 rfl rfl)
theorem dX1_lambda_new_0_42 : decode cX1_lambda_new_0 42 = .ok (.invokevirtual 404, 3) := dk_182 1 148 (dk_at dksX1_lambda_new_0_1 19 rfl rfl)
theorem dX1_lambda_new_0_45 : decode cX1_lambda_new_0 45 = .ok (.getfield 111, 3) := dk_180 0 111 (dk_at dksX1_lambda_new_0_2 0 rfl rfl)
theorem dX1_lambda_new_0_48 : decode cX1_lambda_new_0 48 = .ok (.invokevirtual 364, 3) := dk_182 1 108 (dk_at dksX1_lambda_new_0_2 3 rfl rfl)
theorem dX1_lambda_new_0_51 : decode cX1_lambda_new_0 51 = .ok (.invokespecial 108, 3) := dk_183 0 108 (dk_at dksX1_lambda_new_0_2 6 rfl rfl)
theorem dX1_lambda_new_0_54 : decode cX1_lambda_new_0 54 = .ok (.areturn, 1) := dk_176 (dk_at dksX1_lambda_new_0_2 9 rfl rfl)
abbrev cX1_lambda_new_1 : ByteArray := prog_1_method_59_code
def yX1_lambda_new_1 : MethodName := ⟨RX1, "lambda$new$1", "(LFormulaEditor$Structure;)LFormulaEditor$Box;"⟩
def dkwX1_lambda_new_1_1 : List UInt8 := [3, 183, 0, 108, 176]
abbrev dktX1_lambda_new_1_1 : List UInt8 := dkwX1_lambda_new_1_1 ++ []
def dkwX1_lambda_new_1_0 : List UInt8 := [187, 0, 92, 89, 42, 182, 1, 148, 180, 0, 111, 180, 0, 91, 42, 182, 1, 148, 180, 0, 111, 182, 1, 108]
abbrev dktX1_lambda_new_1_0 : List UInt8 := dkwX1_lambda_new_1_0 ++ dktX1_lambda_new_1_1
theorem dksX1_lambda_new_1_0 : cX1_lambda_new_1.data.toList.drop 0 = dktX1_lambda_new_1_0 := by decide +kernel
theorem dksX1_lambda_new_1_1 : cX1_lambda_new_1.data.toList.drop 24 = dktX1_lambda_new_1_1 := dk_seg dksX1_lambda_new_1_0 24 rfl rfl
theorem dX1_lambda_new_1_0 : decode cX1_lambda_new_1 0 = .ok (.new 92, 3) := dk_187 0 92 (dk_at dksX1_lambda_new_1_0 0 rfl rfl)
theorem dX1_lambda_new_1_3 : decode cX1_lambda_new_1 3 = .ok (.dup, 1) := dk_89 (dk_at dksX1_lambda_new_1_0 3 rfl rfl)
theorem dX1_lambda_new_1_4 : decode cX1_lambda_new_1 4 = .ok (.aload_n 0, 1) := dk_42 (dk_at dksX1_lambda_new_1_0 4 rfl rfl)
theorem dX1_lambda_new_1_5 : decode cX1_lambda_new_1 5 = .ok (.invokevirtual 404, 3) := dk_182 1 148 (dk_at dksX1_lambda_new_1_0 5 rfl rfl)
theorem dX1_lambda_new_1_8 : decode cX1_lambda_new_1 8 = .ok (.getfield 111, 3) := dk_180 0 111 (dk_at dksX1_lambda_new_1_0 8 rfl rfl)
theorem dX1_lambda_new_1_11 : decode cX1_lambda_new_1 11 = .ok (.getfield 91, 3) := dk_180 0 91 (dk_at dksX1_lambda_new_1_0 11 rfl rfl)
theorem dX1_lambda_new_1_14 : decode cX1_lambda_new_1 14 = .ok (.aload_n 0, 1) := dk_42 (dk_at dksX1_lambda_new_1_0 14 rfl rfl)
theorem dX1_lambda_new_1_15 : decode cX1_lambda_new_1 15 = .ok (.invokevirtual 404, 3) := dk_182 1 148 (dk_at dksX1_lambda_new_1_0 15 rfl rfl)
theorem dX1_lambda_new_1_18 : decode cX1_lambda_new_1 18 = .ok (.getfield 111, 3) := dk_180 0 111 (dk_at dksX1_lambda_new_1_0 18 rfl rfl)
theorem dX1_lambda_new_1_21 : decode cX1_lambda_new_1 21 = .ok (.invokevirtual 364, 3) := dk_182 1 108 (dk_at dksX1_lambda_new_1_0 21 rfl rfl)
theorem dX1_lambda_new_1_24 : decode cX1_lambda_new_1 24 = .ok (.iconst 0, 1) := dk_3 (dk_at dksX1_lambda_new_1_1 0 rfl rfl)
theorem dX1_lambda_new_1_25 : decode cX1_lambda_new_1 25 = .ok (.invokespecial 108, 3) := dk_183 0 108 (dk_at dksX1_lambda_new_1_1 1 rfl rfl)
theorem dX1_lambda_new_1_28 : decode cX1_lambda_new_1 28 = .ok (.areturn, 1) := dk_176 (dk_at dksX1_lambda_new_1_1 4 rfl rfl)
abbrev cX1_lambda_new_2 : ByteArray := prog_1_method_58_code
def yX1_lambda_new_2 : MethodName := ⟨RX1, "lambda$new$2", "(LFormulaEditor$Structure;)LFormulaEditor$Box;"⟩
def dkwX1_lambda_new_2_1 : List UInt8 := [182, 1, 108, 183, 0, 108, 176]
abbrev dktX1_lambda_new_2_1 : List UInt8 := dkwX1_lambda_new_2_1 ++ []
def dkwX1_lambda_new_2_0 : List UInt8 := [187, 0, 92, 89, 42, 182, 1, 148, 180, 0, 111, 180, 0, 91, 3, 42, 182, 1, 148, 180, 0, 111]
abbrev dktX1_lambda_new_2_0 : List UInt8 := dkwX1_lambda_new_2_0 ++ dktX1_lambda_new_2_1
theorem dksX1_lambda_new_2_0 : cX1_lambda_new_2.data.toList.drop 0 = dktX1_lambda_new_2_0 := by decide +kernel
theorem dksX1_lambda_new_2_1 : cX1_lambda_new_2.data.toList.drop 22 = dktX1_lambda_new_2_1 := dk_seg dksX1_lambda_new_2_0 22 rfl rfl
theorem dX1_lambda_new_2_0 : decode cX1_lambda_new_2 0 = .ok (.new 92, 3) := dk_187 0 92 (dk_at dksX1_lambda_new_2_0 0 rfl rfl)
theorem dX1_lambda_new_2_3 : decode cX1_lambda_new_2 3 = .ok (.dup, 1) := dk_89 (dk_at dksX1_lambda_new_2_0 3 rfl rfl)
theorem dX1_lambda_new_2_4 : decode cX1_lambda_new_2 4 = .ok (.aload_n 0, 1) := dk_42 (dk_at dksX1_lambda_new_2_0 4 rfl rfl)
theorem dX1_lambda_new_2_5 : decode cX1_lambda_new_2 5 = .ok (.invokevirtual 404, 3) := dk_182 1 148 (dk_at dksX1_lambda_new_2_0 5 rfl rfl)
theorem dX1_lambda_new_2_8 : decode cX1_lambda_new_2 8 = .ok (.getfield 111, 3) := dk_180 0 111 (dk_at dksX1_lambda_new_2_0 8 rfl rfl)
theorem dX1_lambda_new_2_11 : decode cX1_lambda_new_2 11 = .ok (.getfield 91, 3) := dk_180 0 91 (dk_at dksX1_lambda_new_2_0 11 rfl rfl)
theorem dX1_lambda_new_2_14 : decode cX1_lambda_new_2 14 = .ok (.iconst 0, 1) := dk_3 (dk_at dksX1_lambda_new_2_0 14 rfl rfl)
theorem dX1_lambda_new_2_15 : decode cX1_lambda_new_2 15 = .ok (.aload_n 0, 1) := dk_42 (dk_at dksX1_lambda_new_2_0 15 rfl rfl)
theorem dX1_lambda_new_2_16 : decode cX1_lambda_new_2 16 = .ok (.invokevirtual 404, 3) := dk_182 1 148 (dk_at dksX1_lambda_new_2_0 16 rfl rfl)
theorem dX1_lambda_new_2_19 : decode cX1_lambda_new_2 19 = .ok (.getfield 111, 3) := dk_180 0 111 (dk_at dksX1_lambda_new_2_0 19 rfl rfl)
theorem dX1_lambda_new_2_22 : decode cX1_lambda_new_2 22 = .ok (.invokevirtual 364, 3) := dk_182 1 108 (dk_at dksX1_lambda_new_2_1 0 rfl rfl)
theorem dX1_lambda_new_2_25 : decode cX1_lambda_new_2 25 = .ok (.invokespecial 108, 3) := dk_183 0 108 (dk_at dksX1_lambda_new_2_1 3 rfl rfl)
theorem dX1_lambda_new_2_28 : decode cX1_lambda_new_2 28 = .ok (.areturn, 1) := dk_176 (dk_at dksX1_lambda_new_2_1 6 rfl rfl)
abbrev cX1_lambda_new_3 : ByteArray := prog_1_method_57_code
def yX1_lambda_new_3 : MethodName := ⟨RX1, "lambda$new$3", "(LFormulaEditor$Structure;)LFormulaEditor$Box;"⟩
def dkwX1_lambda_new_3_1 : List UInt8 := [180, 0, 96, 96, 42, 182, 1, 148, 180, 0, 111, 180, 0, 105, 183, 0, 108, 176]
abbrev dktX1_lambda_new_3_1 : List UInt8 := dkwX1_lambda_new_3_1 ++ []
def dkwX1_lambda_new_3_0 : List UInt8 := [187, 0, 92, 89, 4, 42, 182, 1, 148, 180, 0, 111, 180, 0, 91, 96, 4, 42, 182, 1, 148, 180, 0, 111]
abbrev dktX1_lambda_new_3_0 : List UInt8 := dkwX1_lambda_new_3_0 ++ dktX1_lambda_new_3_1
theorem dksX1_lambda_new_3_0 : cX1_lambda_new_3.data.toList.drop 0 = dktX1_lambda_new_3_0 := by decide +kernel
theorem dksX1_lambda_new_3_1 : cX1_lambda_new_3.data.toList.drop 24 = dktX1_lambda_new_3_1 := dk_seg dksX1_lambda_new_3_0 24 rfl rfl
theorem dX1_lambda_new_3_0 : decode cX1_lambda_new_3 0 = .ok (.new 92, 3) := dk_187 0 92 (dk_at dksX1_lambda_new_3_0 0 rfl rfl)
theorem dX1_lambda_new_3_3 : decode cX1_lambda_new_3 3 = .ok (.dup, 1) := dk_89 (dk_at dksX1_lambda_new_3_0 3 rfl rfl)
theorem dX1_lambda_new_3_4 : decode cX1_lambda_new_3 4 = .ok (.iconst 1, 1) := dk_4 (dk_at dksX1_lambda_new_3_0 4 rfl rfl)
theorem dX1_lambda_new_3_5 : decode cX1_lambda_new_3 5 = .ok (.aload_n 0, 1) := dk_42 (dk_at dksX1_lambda_new_3_0 5 rfl rfl)
theorem dX1_lambda_new_3_6 : decode cX1_lambda_new_3 6 = .ok (.invokevirtual 404, 3) := dk_182 1 148 (dk_at dksX1_lambda_new_3_0 6 rfl rfl)
theorem dX1_lambda_new_3_9 : decode cX1_lambda_new_3 9 = .ok (.getfield 111, 3) := dk_180 0 111 (dk_at dksX1_lambda_new_3_0 9 rfl rfl)
theorem dX1_lambda_new_3_12 : decode cX1_lambda_new_3 12 = .ok (.getfield 91, 3) := dk_180 0 91 (dk_at dksX1_lambda_new_3_0 12 rfl rfl)
theorem dX1_lambda_new_3_15 : decode cX1_lambda_new_3 15 = .ok (.iadd, 1) := dk_96 (dk_at dksX1_lambda_new_3_0 15 rfl rfl)
theorem dX1_lambda_new_3_16 : decode cX1_lambda_new_3 16 = .ok (.iconst 1, 1) := dk_4 (dk_at dksX1_lambda_new_3_0 16 rfl rfl)
theorem dX1_lambda_new_3_17 : decode cX1_lambda_new_3 17 = .ok (.aload_n 0, 1) := dk_42 (dk_at dksX1_lambda_new_3_0 17 rfl rfl)
theorem dX1_lambda_new_3_18 : decode cX1_lambda_new_3 18 = .ok (.invokevirtual 404, 3) := dk_182 1 148 (dk_at dksX1_lambda_new_3_0 18 rfl rfl)
theorem dX1_lambda_new_3_21 : decode cX1_lambda_new_3 21 = .ok (.getfield 111, 3) := dk_180 0 111 (dk_at dksX1_lambda_new_3_0 21 rfl rfl)
theorem dX1_lambda_new_3_24 : decode cX1_lambda_new_3 24 = .ok (.getfield 96, 3) := dk_180 0 96 (dk_at dksX1_lambda_new_3_1 0 rfl rfl)
theorem dX1_lambda_new_3_27 : decode cX1_lambda_new_3 27 = .ok (.iadd, 1) := dk_96 (dk_at dksX1_lambda_new_3_1 3 rfl rfl)
theorem dX1_lambda_new_3_28 : decode cX1_lambda_new_3 28 = .ok (.aload_n 0, 1) := dk_42 (dk_at dksX1_lambda_new_3_1 4 rfl rfl)
theorem dX1_lambda_new_3_29 : decode cX1_lambda_new_3 29 = .ok (.invokevirtual 404, 3) := dk_182 1 148 (dk_at dksX1_lambda_new_3_1 5 rfl rfl)
theorem dX1_lambda_new_3_32 : decode cX1_lambda_new_3 32 = .ok (.getfield 111, 3) := dk_180 0 111 (dk_at dksX1_lambda_new_3_1 8 rfl rfl)
theorem dX1_lambda_new_3_35 : decode cX1_lambda_new_3 35 = .ok (.getfield 105, 3) := dk_180 0 105 (dk_at dksX1_lambda_new_3_1 11 rfl rfl)
theorem dX1_lambda_new_3_38 : decode cX1_lambda_new_3 38 = .ok (.invokespecial 108, 3) := dk_183 0 108 (dk_at dksX1_lambda_new_3_1 14 rfl rfl)
theorem dX1_lambda_new_3_41 : decode cX1_lambda_new_3 41 = .ok (.areturn, 1) := dk_176 (dk_at dksX1_lambda_new_3_1 17 rfl rfl)
abbrev cX1_lambda_new_4 : ByteArray := prog_1_method_56_code
def yX1_lambda_new_4 : MethodName := ⟨RX1, "lambda$new$4", "(LFormulaEditor$Structure;)LFormulaEditor$Box;"⟩
def dkwX1_lambda_new_4_1 : List UInt8 := [180, 0, 96, 42, 182, 1, 148, 180, 0, 111, 180, 0, 105, 183, 0, 108, 176]
abbrev dktX1_lambda_new_4_1 : List UInt8 := dkwX1_lambda_new_4_1 ++ []
def dkwX1_lambda_new_4_0 : List UInt8 := [187, 0, 92, 89, 5, 42, 182, 1, 148, 180, 0, 111, 180, 0, 91, 96, 42, 182, 1, 148, 180, 0, 111]
abbrev dktX1_lambda_new_4_0 : List UInt8 := dkwX1_lambda_new_4_0 ++ dktX1_lambda_new_4_1
theorem dksX1_lambda_new_4_0 : cX1_lambda_new_4.data.toList.drop 0 = dktX1_lambda_new_4_0 := by decide +kernel
theorem dksX1_lambda_new_4_1 : cX1_lambda_new_4.data.toList.drop 23 = dktX1_lambda_new_4_1 := dk_seg dksX1_lambda_new_4_0 23 rfl rfl
theorem dX1_lambda_new_4_0 : decode cX1_lambda_new_4 0 = .ok (.new 92, 3) := dk_187 0 92 (dk_at dksX1_lambda_new_4_0 0 rfl rfl)
theorem dX1_lambda_new_4_3 : decode cX1_lambda_new_4 3 = .ok (.dup, 1) := dk_89 (dk_at dksX1_lambda_new_4_0 3 rfl rfl)
theorem dX1_lambda_new_4_4 : decode cX1_lambda_new_4 4 = .ok (.iconst 2, 1) := dk_5 (dk_at dksX1_lambda_new_4_0 4 rfl rfl)
theorem dX1_lambda_new_4_5 : decode cX1_lambda_new_4 5 = .ok (.aload_n 0, 1) := dk_42 (dk_at dksX1_lambda_new_4_0 5 rfl rfl)
theorem dX1_lambda_new_4_6 : decode cX1_lambda_new_4 6 = .ok (.invokevirtual 404, 3) := dk_182 1 148 (dk_at dksX1_lambda_new_4_0 6 rfl rfl)
theorem dX1_lambda_new_4_9 : decode cX1_lambda_new_4 9 = .ok (.getfield 111, 3) := dk_180 0 111 (dk_at dksX1_lambda_new_4_0 9 rfl rfl)
theorem dX1_lambda_new_4_12 : decode cX1_lambda_new_4 12 = .ok (.getfield 91, 3) := dk_180 0 91 (dk_at dksX1_lambda_new_4_0 12 rfl rfl)
theorem dX1_lambda_new_4_15 : decode cX1_lambda_new_4 15 = .ok (.iadd, 1) := dk_96 (dk_at dksX1_lambda_new_4_0 15 rfl rfl)
theorem dX1_lambda_new_4_16 : decode cX1_lambda_new_4 16 = .ok (.aload_n 0, 1) := dk_42 (dk_at dksX1_lambda_new_4_0 16 rfl rfl)
theorem dX1_lambda_new_4_17 : decode cX1_lambda_new_4 17 = .ok (.invokevirtual 404, 3) := dk_182 1 148 (dk_at dksX1_lambda_new_4_0 17 rfl rfl)
theorem dX1_lambda_new_4_20 : decode cX1_lambda_new_4 20 = .ok (.getfield 111, 3) := dk_180 0 111 (dk_at dksX1_lambda_new_4_0 20 rfl rfl)
theorem dX1_lambda_new_4_23 : decode cX1_lambda_new_4 23 = .ok (.getfield 96, 3) := dk_180 0 96 (dk_at dksX1_lambda_new_4_1 0 rfl rfl)
theorem dX1_lambda_new_4_26 : decode cX1_lambda_new_4 26 = .ok (.aload_n 0, 1) := dk_42 (dk_at dksX1_lambda_new_4_1 3 rfl rfl)
theorem dX1_lambda_new_4_27 : decode cX1_lambda_new_4 27 = .ok (.invokevirtual 404, 3) := dk_182 1 148 (dk_at dksX1_lambda_new_4_1 4 rfl rfl)
theorem dX1_lambda_new_4_30 : decode cX1_lambda_new_4 30 = .ok (.getfield 111, 3) := dk_180 0 111 (dk_at dksX1_lambda_new_4_1 7 rfl rfl)
theorem dX1_lambda_new_4_33 : decode cX1_lambda_new_4 33 = .ok (.getfield 105, 3) := dk_180 0 105 (dk_at dksX1_lambda_new_4_1 10 rfl rfl)
theorem dX1_lambda_new_4_36 : decode cX1_lambda_new_4 36 = .ok (.invokespecial 108, 3) := dk_183 0 108 (dk_at dksX1_lambda_new_4_1 13 rfl rfl)
theorem dX1_lambda_new_4_39 : decode cX1_lambda_new_4 39 = .ok (.areturn, 1) := dk_176 (dk_at dksX1_lambda_new_4_1 16 rfl rfl)
abbrev cX1_lambda_new_5 : ByteArray := prog_1_method_55_code
def yX1_lambda_new_5 : MethodName := ⟨RX1, "lambda$new$5", "(LFormulaEditor$Structure;[[CII)V"⟩
def dkwX1_lambda_new_5_0 : List UInt8 := [42, 43, 44, 29, 21, 4, 182, 1, 157, 177]
abbrev dktX1_lambda_new_5_0 : List UInt8 := dkwX1_lambda_new_5_0 ++ []
theorem dksX1_lambda_new_5_0 : cX1_lambda_new_5.data.toList.drop 0 = dktX1_lambda_new_5_0 := by decide +kernel
theorem dX1_lambda_new_5_0 : decode cX1_lambda_new_5 0 = .ok (.aload_n 0, 1) := dk_42 (dk_at dksX1_lambda_new_5_0 0 rfl rfl)
theorem dX1_lambda_new_5_1 : decode cX1_lambda_new_5 1 = .ok (.aload_n 1, 1) := dk_43 (dk_at dksX1_lambda_new_5_0 1 rfl rfl)
theorem dX1_lambda_new_5_2 : decode cX1_lambda_new_5 2 = .ok (.aload_n 2, 1) := dk_44 (dk_at dksX1_lambda_new_5_0 2 rfl rfl)
theorem dX1_lambda_new_5_3 : decode cX1_lambda_new_5 3 = .ok (.iload_n 3, 1) := dk_29 (dk_at dksX1_lambda_new_5_0 3 rfl rfl)
theorem dX1_lambda_new_5_4 : decode cX1_lambda_new_5 4 = .ok (.iload 4, 2) := dk_21 4 (dk_at dksX1_lambda_new_5_0 4 rfl rfl)
theorem dX1_lambda_new_5_6 : decode cX1_lambda_new_5 6 = .ok (.invokevirtual 413, 3) := dk_182 1 157 (dk_at dksX1_lambda_new_5_0 6 rfl rfl)
theorem dX1_lambda_new_5_9 : decode cX1_lambda_new_5 9 = .ok (.return_, 1) := dk_177 (dk_at dksX1_lambda_new_5_0 9 rfl rfl)
abbrev cX1_drawFraction : ByteArray := prog_1_method_11_code
def yX1_drawFraction : MethodName := ⟨RX1, "drawFraction", "(LFormulaEditor$Structure;[[CII)V"⟩
def dkwX1_drawFraction_5 : List UInt8 := [180, 0, 96, 96, 182, 0, 127, 177]
abbrev dktX1_drawFraction_5 : List UInt8 := dkwX1_drawFraction_5 ++ []
def dkwX1_drawFraction_4 : List UInt8 := [180, 0, 66, 4, 50, 44, 29, 21, 5, 25, 7, 180, 0, 91, 100, 5, 108, 96, 21, 4, 4, 96, 25, 7]
abbrev dktX1_drawFraction_4 : List UInt8 := dkwX1_drawFraction_4 ++ dktX1_drawFraction_5
def dkwX1_drawFraction_3 : List UInt8 := [180, 0, 91, 100, 5, 108, 96, 21, 4, 4, 100, 25, 6, 180, 0, 105, 100, 182, 0, 127, 42, 43]
abbrev dktX1_drawFraction_3 : List UInt8 := dkwX1_drawFraction_3 ++ dktX1_drawFraction_4
def dkwX1_drawFraction_2 : List UInt8 := [180, 0, 66, 4, 50, 180, 0, 111, 58, 7, 42, 43, 180, 0, 66, 3, 50, 44, 29, 21, 5, 25, 6]
abbrev dktX1_drawFraction_2 : List UInt8 := dkwX1_drawFraction_2 ++ dktX1_drawFraction_3
def dkwX1_drawFraction_1 : List UInt8 := [21, 6, 96, 16, 45, 85, 132, 6, 1, 167, 255, 235, 43, 180, 0, 66, 3, 50, 180, 0, 111, 58, 6, 43]
abbrev dktX1_drawFraction_1 : List UInt8 := dkwX1_drawFraction_1 ++ dktX1_drawFraction_2
def dkwX1_drawFraction_0 : List UInt8 := [43, 180, 0, 87, 180, 0, 91, 54, 5, 3, 54, 6, 21, 6, 21, 5, 162, 0, 20, 44, 21, 4, 50, 29]
abbrev dktX1_drawFraction_0 : List UInt8 := dkwX1_drawFraction_0 ++ dktX1_drawFraction_1
theorem dksX1_drawFraction_0 : cX1_drawFraction.data.toList.drop 0 = dktX1_drawFraction_0 := by decide +kernel
theorem dksX1_drawFraction_1 : cX1_drawFraction.data.toList.drop 24 = dktX1_drawFraction_1 := dk_seg dksX1_drawFraction_0 24 rfl rfl
theorem dksX1_drawFraction_2 : cX1_drawFraction.data.toList.drop 48 = dktX1_drawFraction_2 := dk_seg dksX1_drawFraction_1 24 rfl rfl
theorem dksX1_drawFraction_3 : cX1_drawFraction.data.toList.drop 71 = dktX1_drawFraction_3 := dk_seg dksX1_drawFraction_2 23 rfl rfl
theorem dksX1_drawFraction_4 : cX1_drawFraction.data.toList.drop 93 = dktX1_drawFraction_4 := dk_seg dksX1_drawFraction_3 22 rfl rfl
theorem dksX1_drawFraction_5 : cX1_drawFraction.data.toList.drop 117 = dktX1_drawFraction_5 := dk_seg dksX1_drawFraction_4 24 rfl rfl
theorem dX1_drawFraction_0 : decode cX1_drawFraction 0 = .ok (.aload_n 1, 1) := dk_43 (dk_at dksX1_drawFraction_0 0 rfl rfl)
theorem dX1_drawFraction_1 : decode cX1_drawFraction 1 = .ok (.getfield 87, 3) := dk_180 0 87 (dk_at dksX1_drawFraction_0 1 rfl rfl)
theorem dX1_drawFraction_4 : decode cX1_drawFraction 4 = .ok (.getfield 91, 3) := dk_180 0 91 (dk_at dksX1_drawFraction_0 4 rfl rfl)
theorem dX1_drawFraction_7 : decode cX1_drawFraction 7 = .ok (.istore 5, 2) := dk_54 5 (dk_at dksX1_drawFraction_0 7 rfl rfl)
theorem dX1_drawFraction_9 : decode cX1_drawFraction 9 = .ok (.iconst 0, 1) := dk_3 (dk_at dksX1_drawFraction_0 9 rfl rfl)
theorem dX1_drawFraction_10 : decode cX1_drawFraction 10 = .ok (.istore 6, 2) := dk_54 6 (dk_at dksX1_drawFraction_0 10 rfl rfl)
theorem dX1_drawFraction_12 : decode cX1_drawFraction 12 = .ok (.iload 6, 2) := dk_21 6 (dk_at dksX1_drawFraction_0 12 rfl rfl)
theorem dX1_drawFraction_14 : decode cX1_drawFraction 14 = .ok (.iload 5, 2) := dk_21 5 (dk_at dksX1_drawFraction_0 14 rfl rfl)
theorem dX1_drawFraction_16 : decode cX1_drawFraction 16 = .ok (.if_icmp .ge 20, 3) := dk_162 0 20 (dk_at dksX1_drawFraction_0 16 rfl rfl)
theorem dX1_drawFraction_19 : decode cX1_drawFraction 19 = .ok (.aload_n 2, 1) := dk_44 (dk_at dksX1_drawFraction_0 19 rfl rfl)
theorem dX1_drawFraction_20 : decode cX1_drawFraction 20 = .ok (.iload 4, 2) := dk_21 4 (dk_at dksX1_drawFraction_0 20 rfl rfl)
theorem dX1_drawFraction_22 : decode cX1_drawFraction 22 = .ok (.aaload, 1) := dk_50 (dk_at dksX1_drawFraction_0 22 rfl rfl)
theorem dX1_drawFraction_23 : decode cX1_drawFraction 23 = .ok (.iload_n 3, 1) := dk_29 (dk_at dksX1_drawFraction_0 23 rfl rfl)
theorem dX1_drawFraction_24 : decode cX1_drawFraction 24 = .ok (.iload 6, 2) := dk_21 6 (dk_at dksX1_drawFraction_1 0 rfl rfl)
theorem dX1_drawFraction_26 : decode cX1_drawFraction 26 = .ok (.iadd, 1) := dk_96 (dk_at dksX1_drawFraction_1 2 rfl rfl)
theorem dX1_drawFraction_27 : decode cX1_drawFraction 27 = .ok (.bipush 45, 2) := dk_16 45 (dk_at dksX1_drawFraction_1 3 rfl rfl)
theorem dX1_drawFraction_29 : decode cX1_drawFraction 29 = .ok (.castore, 1) := dk_85 (dk_at dksX1_drawFraction_1 5 rfl rfl)
theorem dX1_drawFraction_30 : decode cX1_drawFraction 30 = .ok (.iinc 6 1, 3) := dk_132 6 1 (dk_at dksX1_drawFraction_1 6 rfl rfl)
theorem dX1_drawFraction_33 : decode cX1_drawFraction 33 = .ok (.goto (-21), 3) := dk_167 255 235 (dk_at dksX1_drawFraction_1 9 rfl rfl)
theorem dX1_drawFraction_36 : decode cX1_drawFraction 36 = .ok (.aload_n 1, 1) := dk_43 (dk_at dksX1_drawFraction_1 12 rfl rfl)
theorem dX1_drawFraction_37 : decode cX1_drawFraction 37 = .ok (.getfield 66, 3) := dk_180 0 66 (dk_at dksX1_drawFraction_1 13 rfl rfl)
theorem dX1_drawFraction_40 : decode cX1_drawFraction 40 = .ok (.iconst 0, 1) := dk_3 (dk_at dksX1_drawFraction_1 16 rfl rfl)
theorem dX1_drawFraction_41 : decode cX1_drawFraction 41 = .ok (.aaload, 1) := dk_50 (dk_at dksX1_drawFraction_1 17 rfl rfl)
theorem dX1_drawFraction_42 : decode cX1_drawFraction 42 = .ok (.getfield 111, 3) := dk_180 0 111 (dk_at dksX1_drawFraction_1 18 rfl rfl)
theorem dX1_drawFraction_45 : decode cX1_drawFraction 45 = .ok (.astore 6, 2) := dk_58 6 (dk_at dksX1_drawFraction_1 21 rfl rfl)
theorem dX1_drawFraction_47 : decode cX1_drawFraction 47 = .ok (.aload_n 1, 1) := dk_43 (dk_at dksX1_drawFraction_1 23 rfl rfl)
theorem dX1_drawFraction_48 : decode cX1_drawFraction 48 = .ok (.getfield 66, 3) := dk_180 0 66 (dk_at dksX1_drawFraction_2 0 rfl rfl)
theorem dX1_drawFraction_51 : decode cX1_drawFraction 51 = .ok (.iconst 1, 1) := dk_4 (dk_at dksX1_drawFraction_2 3 rfl rfl)
theorem dX1_drawFraction_52 : decode cX1_drawFraction 52 = .ok (.aaload, 1) := dk_50 (dk_at dksX1_drawFraction_2 4 rfl rfl)
theorem dX1_drawFraction_53 : decode cX1_drawFraction 53 = .ok (.getfield 111, 3) := dk_180 0 111 (dk_at dksX1_drawFraction_2 5 rfl rfl)
theorem dX1_drawFraction_56 : decode cX1_drawFraction 56 = .ok (.astore 7, 2) := dk_58 7 (dk_at dksX1_drawFraction_2 8 rfl rfl)
theorem dX1_drawFraction_58 : decode cX1_drawFraction 58 = .ok (.aload_n 0, 1) := dk_42 (dk_at dksX1_drawFraction_2 10 rfl rfl)
theorem dX1_drawFraction_59 : decode cX1_drawFraction 59 = .ok (.aload_n 1, 1) := dk_43 (dk_at dksX1_drawFraction_2 11 rfl rfl)
theorem dX1_drawFraction_60 : decode cX1_drawFraction 60 = .ok (.getfield 66, 3) := dk_180 0 66 (dk_at dksX1_drawFraction_2 12 rfl rfl)
theorem dX1_drawFraction_63 : decode cX1_drawFraction 63 = .ok (.iconst 0, 1) := dk_3 (dk_at dksX1_drawFraction_2 15 rfl rfl)
theorem dX1_drawFraction_64 : decode cX1_drawFraction 64 = .ok (.aaload, 1) := dk_50 (dk_at dksX1_drawFraction_2 16 rfl rfl)
theorem dX1_drawFraction_65 : decode cX1_drawFraction 65 = .ok (.aload_n 2, 1) := dk_44 (dk_at dksX1_drawFraction_2 17 rfl rfl)
theorem dX1_drawFraction_66 : decode cX1_drawFraction 66 = .ok (.iload_n 3, 1) := dk_29 (dk_at dksX1_drawFraction_2 18 rfl rfl)
theorem dX1_drawFraction_67 : decode cX1_drawFraction 67 = .ok (.iload 5, 2) := dk_21 5 (dk_at dksX1_drawFraction_2 19 rfl rfl)
theorem dX1_drawFraction_69 : decode cX1_drawFraction 69 = .ok (.aload 6, 2) := dk_25 6 (dk_at dksX1_drawFraction_2 21 rfl rfl)
theorem dX1_drawFraction_71 : decode cX1_drawFraction 71 = .ok (.getfield 91, 3) := dk_180 0 91 (dk_at dksX1_drawFraction_3 0 rfl rfl)
theorem dX1_drawFraction_74 : decode cX1_drawFraction 74 = .ok (.isub, 1) := dk_100 (dk_at dksX1_drawFraction_3 3 rfl rfl)
theorem dX1_drawFraction_75 : decode cX1_drawFraction 75 = .ok (.iconst 2, 1) := dk_5 (dk_at dksX1_drawFraction_3 4 rfl rfl)
theorem dX1_drawFraction_76 : decode cX1_drawFraction 76 = .ok (.idiv, 1) := dk_108 (dk_at dksX1_drawFraction_3 5 rfl rfl)
theorem dX1_drawFraction_77 : decode cX1_drawFraction 77 = .ok (.iadd, 1) := dk_96 (dk_at dksX1_drawFraction_3 6 rfl rfl)
theorem dX1_drawFraction_78 : decode cX1_drawFraction 78 = .ok (.iload 4, 2) := dk_21 4 (dk_at dksX1_drawFraction_3 7 rfl rfl)
theorem dX1_drawFraction_80 : decode cX1_drawFraction 80 = .ok (.iconst 1, 1) := dk_4 (dk_at dksX1_drawFraction_3 9 rfl rfl)
theorem dX1_drawFraction_81 : decode cX1_drawFraction 81 = .ok (.isub, 1) := dk_100 (dk_at dksX1_drawFraction_3 10 rfl rfl)
theorem dX1_drawFraction_82 : decode cX1_drawFraction 82 = .ok (.aload 6, 2) := dk_25 6 (dk_at dksX1_drawFraction_3 11 rfl rfl)
theorem dX1_drawFraction_84 : decode cX1_drawFraction 84 = .ok (.getfield 105, 3) := dk_180 0 105 (dk_at dksX1_drawFraction_3 13 rfl rfl)
theorem dX1_drawFraction_87 : decode cX1_drawFraction 87 = .ok (.isub, 1) := dk_100 (dk_at dksX1_drawFraction_3 16 rfl rfl)
theorem dX1_drawFraction_88 : decode cX1_drawFraction 88 = .ok (.invokevirtual 127, 3) := dk_182 0 127 (dk_at dksX1_drawFraction_3 17 rfl rfl)
theorem dX1_drawFraction_91 : decode cX1_drawFraction 91 = .ok (.aload_n 0, 1) := dk_42 (dk_at dksX1_drawFraction_3 20 rfl rfl)
theorem dX1_drawFraction_92 : decode cX1_drawFraction 92 = .ok (.aload_n 1, 1) := dk_43 (dk_at dksX1_drawFraction_3 21 rfl rfl)
theorem dX1_drawFraction_93 : decode cX1_drawFraction 93 = .ok (.getfield 66, 3) := dk_180 0 66 (dk_at dksX1_drawFraction_4 0 rfl rfl)
theorem dX1_drawFraction_96 : decode cX1_drawFraction 96 = .ok (.iconst 1, 1) := dk_4 (dk_at dksX1_drawFraction_4 3 rfl rfl)
theorem dX1_drawFraction_97 : decode cX1_drawFraction 97 = .ok (.aaload, 1) := dk_50 (dk_at dksX1_drawFraction_4 4 rfl rfl)
theorem dX1_drawFraction_98 : decode cX1_drawFraction 98 = .ok (.aload_n 2, 1) := dk_44 (dk_at dksX1_drawFraction_4 5 rfl rfl)
theorem dX1_drawFraction_99 : decode cX1_drawFraction 99 = .ok (.iload_n 3, 1) := dk_29 (dk_at dksX1_drawFraction_4 6 rfl rfl)
theorem dX1_drawFraction_100 : decode cX1_drawFraction 100 = .ok (.iload 5, 2) := dk_21 5 (dk_at dksX1_drawFraction_4 7 rfl rfl)
theorem dX1_drawFraction_102 : decode cX1_drawFraction 102 = .ok (.aload 7, 2) := dk_25 7 (dk_at dksX1_drawFraction_4 9 rfl rfl)
theorem dX1_drawFraction_104 : decode cX1_drawFraction 104 = .ok (.getfield 91, 3) := dk_180 0 91 (dk_at dksX1_drawFraction_4 11 rfl rfl)
theorem dX1_drawFraction_107 : decode cX1_drawFraction 107 = .ok (.isub, 1) := dk_100 (dk_at dksX1_drawFraction_4 14 rfl rfl)
theorem dX1_drawFraction_108 : decode cX1_drawFraction 108 = .ok (.iconst 2, 1) := dk_5 (dk_at dksX1_drawFraction_4 15 rfl rfl)
theorem dX1_drawFraction_109 : decode cX1_drawFraction 109 = .ok (.idiv, 1) := dk_108 (dk_at dksX1_drawFraction_4 16 rfl rfl)
theorem dX1_drawFraction_110 : decode cX1_drawFraction 110 = .ok (.iadd, 1) := dk_96 (dk_at dksX1_drawFraction_4 17 rfl rfl)
theorem dX1_drawFraction_111 : decode cX1_drawFraction 111 = .ok (.iload 4, 2) := dk_21 4 (dk_at dksX1_drawFraction_4 18 rfl rfl)
theorem dX1_drawFraction_113 : decode cX1_drawFraction 113 = .ok (.iconst 1, 1) := dk_4 (dk_at dksX1_drawFraction_4 20 rfl rfl)
theorem dX1_drawFraction_114 : decode cX1_drawFraction 114 = .ok (.iadd, 1) := dk_96 (dk_at dksX1_drawFraction_4 21 rfl rfl)
theorem dX1_drawFraction_115 : decode cX1_drawFraction 115 = .ok (.aload 7, 2) := dk_25 7 (dk_at dksX1_drawFraction_4 22 rfl rfl)
theorem dX1_drawFraction_117 : decode cX1_drawFraction 117 = .ok (.getfield 96, 3) := dk_180 0 96 (dk_at dksX1_drawFraction_5 0 rfl rfl)
theorem dX1_drawFraction_120 : decode cX1_drawFraction 120 = .ok (.iadd, 1) := dk_96 (dk_at dksX1_drawFraction_5 3 rfl rfl)
theorem dX1_drawFraction_121 : decode cX1_drawFraction 121 = .ok (.invokevirtual 127, 3) := dk_182 0 127 (dk_at dksX1_drawFraction_5 4 rfl rfl)
theorem dX1_drawFraction_124 : decode cX1_drawFraction 124 = .ok (.return_, 1) := dk_177 (dk_at dksX1_drawFraction_5 7 rfl rfl)
abbrev cX1_draw : ByteArray := prog_1_method_10_code
def yX1_draw : MethodName := ⟨RX1, "draw", "(LFormulaEditor$Row;[[CII)V"⟩
def dkwX1_draw_5 : List UInt8 := [182, 0, 124, 146, 85, 132, 5, 1, 132, 6, 1, 167, 255, 154, 177]
abbrev dktX1_draw_5 : List UInt8 := dkwX1_draw_5 ++ []
def dkwX1_draw_4 : List UInt8 := [21, 5, 25, 8, 180, 0, 87, 180, 0, 91, 96, 54, 5, 167, 0, 19, 44, 21, 4, 50, 21, 5, 25, 7]
abbrev dktX1_draw_4 : List UInt8 := dkwX1_draw_4 ++ dktX1_draw_5
def dkwX1_draw_3 : List UInt8 := [58, 8, 42, 180, 0, 114, 25, 8, 180, 0, 78, 50, 25, 8, 44, 21, 5, 21, 4, 185, 0, 118, 5, 0]
abbrev dktX1_draw_3 : List UInt8 := dkwX1_draw_3 ++ dktX1_draw_4
def dkwX1_draw_2 : List UInt8 := [185, 0, 60, 2, 0, 192, 0, 112, 58, 7, 25, 7, 193, 0, 64, 153, 0, 48, 25, 7, 192, 0, 64]
abbrev dktX1_draw_2 : List UInt8 := dkwX1_draw_2 ++ dktX1_draw_3
def dkwX1_draw_1 : List UInt8 := [54, 6, 21, 6, 43, 180, 0, 44, 185, 0, 56, 1, 0, 162, 0, 94, 43, 180, 0, 44, 21, 6]
abbrev dktX1_draw_1 : List UInt8 := dkwX1_draw_1 ++ dktX1_draw_2
def dkwX1_draw_0 : List UInt8 := [43, 180, 0, 44, 185, 0, 50, 1, 0, 153, 0, 11, 44, 21, 4, 50, 29, 16, 63, 85, 29, 54, 5, 3]
abbrev dktX1_draw_0 : List UInt8 := dkwX1_draw_0 ++ dktX1_draw_1
theorem dksX1_draw_0 : cX1_draw.data.toList.drop 0 = dktX1_draw_0 := by decide +kernel
theorem dksX1_draw_1 : cX1_draw.data.toList.drop 24 = dktX1_draw_1 := dk_seg dksX1_draw_0 24 rfl rfl
theorem dksX1_draw_2 : cX1_draw.data.toList.drop 46 = dktX1_draw_2 := dk_seg dksX1_draw_1 22 rfl rfl
theorem dksX1_draw_3 : cX1_draw.data.toList.drop 69 = dktX1_draw_3 := dk_seg dksX1_draw_2 23 rfl rfl
theorem dksX1_draw_4 : cX1_draw.data.toList.drop 93 = dktX1_draw_4 := dk_seg dksX1_draw_3 24 rfl rfl
theorem dksX1_draw_5 : cX1_draw.data.toList.drop 117 = dktX1_draw_5 := dk_seg dksX1_draw_4 24 rfl rfl
theorem dX1_draw_0 : decode cX1_draw 0 = .ok (.aload_n 1, 1) := dk_43 (dk_at dksX1_draw_0 0 rfl rfl)
theorem dX1_draw_1 : decode cX1_draw 1 = .ok (.getfield 44, 3) := dk_180 0 44 (dk_at dksX1_draw_0 1 rfl rfl)
theorem dX1_draw_4 : decode cX1_draw 4 = .ok (.invokeinterface 50 1, 5) := by decide +kernel
theorem dX1_draw_9 : decode cX1_draw 9 = .ok (.ifCond .eq 11, 3) := dk_153 0 11 (dk_at dksX1_draw_0 9 rfl rfl)
theorem dX1_draw_12 : decode cX1_draw 12 = .ok (.aload_n 2, 1) := dk_44 (dk_at dksX1_draw_0 12 rfl rfl)
theorem dX1_draw_13 : decode cX1_draw 13 = .ok (.iload 4, 2) := dk_21 4 (dk_at dksX1_draw_0 13 rfl rfl)
theorem dX1_draw_15 : decode cX1_draw 15 = .ok (.aaload, 1) := dk_50 (dk_at dksX1_draw_0 15 rfl rfl)
theorem dX1_draw_16 : decode cX1_draw 16 = .ok (.iload_n 3, 1) := dk_29 (dk_at dksX1_draw_0 16 rfl rfl)
theorem dX1_draw_17 : decode cX1_draw 17 = .ok (.bipush 63, 2) := dk_16 63 (dk_at dksX1_draw_0 17 rfl rfl)
theorem dX1_draw_19 : decode cX1_draw 19 = .ok (.castore, 1) := dk_85 (dk_at dksX1_draw_0 19 rfl rfl)
theorem dX1_draw_20 : decode cX1_draw 20 = .ok (.iload_n 3, 1) := dk_29 (dk_at dksX1_draw_0 20 rfl rfl)
theorem dX1_draw_21 : decode cX1_draw 21 = .ok (.istore 5, 2) := dk_54 5 (dk_at dksX1_draw_0 21 rfl rfl)
theorem dX1_draw_23 : decode cX1_draw 23 = .ok (.iconst 0, 1) := dk_3 (dk_at dksX1_draw_0 23 rfl rfl)
theorem dX1_draw_24 : decode cX1_draw 24 = .ok (.istore 6, 2) := dk_54 6 (dk_at dksX1_draw_1 0 rfl rfl)
theorem dX1_draw_26 : decode cX1_draw 26 = .ok (.iload 6, 2) := dk_21 6 (dk_at dksX1_draw_1 2 rfl rfl)
theorem dX1_draw_28 : decode cX1_draw 28 = .ok (.aload_n 1, 1) := dk_43 (dk_at dksX1_draw_1 4 rfl rfl)
theorem dX1_draw_29 : decode cX1_draw 29 = .ok (.getfield 44, 3) := dk_180 0 44 (dk_at dksX1_draw_1 5 rfl rfl)
theorem dX1_draw_32 : decode cX1_draw 32 = .ok (.invokeinterface 56 1, 5) := by decide +kernel
theorem dX1_draw_37 : decode cX1_draw 37 = .ok (.if_icmp .ge 94, 3) := dk_162 0 94 (dk_at dksX1_draw_1 13 rfl rfl)
theorem dX1_draw_40 : decode cX1_draw 40 = .ok (.aload_n 1, 1) := dk_43 (dk_at dksX1_draw_1 16 rfl rfl)
theorem dX1_draw_41 : decode cX1_draw 41 = .ok (.getfield 44, 3) := dk_180 0 44 (dk_at dksX1_draw_1 17 rfl rfl)
theorem dX1_draw_44 : decode cX1_draw 44 = .ok (.iload 6, 2) := dk_21 6 (dk_at dksX1_draw_1 20 rfl rfl)
theorem dX1_draw_46 : decode cX1_draw 46 = .ok (.invokeinterface 60 2, 5) := by decide +kernel
theorem dX1_draw_51 : decode cX1_draw 51 = .ok (.checkcast 112, 3) := dk_192 0 112 (dk_at dksX1_draw_2 5 rfl rfl)
theorem dX1_draw_54 : decode cX1_draw 54 = .ok (.astore 7, 2) := dk_58 7 (dk_at dksX1_draw_2 8 rfl rfl)
theorem dX1_draw_56 : decode cX1_draw 56 = .ok (.aload 7, 2) := dk_25 7 (dk_at dksX1_draw_2 10 rfl rfl)
theorem dX1_draw_58 : decode cX1_draw 58 = .ok (.instanceof 64, 3) := dk_193 0 64 (dk_at dksX1_draw_2 12 rfl rfl)
theorem dX1_draw_61 : decode cX1_draw 61 = .ok (.ifCond .eq 48, 3) := dk_153 0 48 (dk_at dksX1_draw_2 15 rfl rfl)
theorem dX1_draw_64 : decode cX1_draw 64 = .ok (.aload 7, 2) := dk_25 7 (dk_at dksX1_draw_2 18 rfl rfl)
theorem dX1_draw_66 : decode cX1_draw 66 = .ok (.checkcast 64, 3) := dk_192 0 64 (dk_at dksX1_draw_2 20 rfl rfl)
theorem dX1_draw_69 : decode cX1_draw 69 = .ok (.astore 8, 2) := dk_58 8 (dk_at dksX1_draw_3 0 rfl rfl)
theorem dX1_draw_71 : decode cX1_draw 71 = .ok (.aload_n 0, 1) := dk_42 (dk_at dksX1_draw_3 2 rfl rfl)
theorem dX1_draw_72 : decode cX1_draw 72 = .ok (.getfield 114, 3) := dk_180 0 114 (dk_at dksX1_draw_3 3 rfl rfl)
theorem dX1_draw_75 : decode cX1_draw 75 = .ok (.aload 8, 2) := dk_25 8 (dk_at dksX1_draw_3 6 rfl rfl)
theorem dX1_draw_77 : decode cX1_draw 77 = .ok (.getfield 78, 3) := dk_180 0 78 (dk_at dksX1_draw_3 8 rfl rfl)
theorem dX1_draw_80 : decode cX1_draw 80 = .ok (.aaload, 1) := dk_50 (dk_at dksX1_draw_3 11 rfl rfl)
theorem dX1_draw_81 : decode cX1_draw 81 = .ok (.aload 8, 2) := dk_25 8 (dk_at dksX1_draw_3 12 rfl rfl)
theorem dX1_draw_83 : decode cX1_draw 83 = .ok (.aload_n 2, 1) := dk_44 (dk_at dksX1_draw_3 14 rfl rfl)
theorem dX1_draw_84 : decode cX1_draw 84 = .ok (.iload 5, 2) := dk_21 5 (dk_at dksX1_draw_3 15 rfl rfl)
theorem dX1_draw_86 : decode cX1_draw 86 = .ok (.iload 4, 2) := dk_21 4 (dk_at dksX1_draw_3 17 rfl rfl)
theorem dX1_draw_88 : decode cX1_draw 88 = .ok (.invokeinterface 118 5, 5) := by decide +kernel
theorem dX1_draw_93 : decode cX1_draw 93 = .ok (.iload 5, 2) := dk_21 5 (dk_at dksX1_draw_4 0 rfl rfl)
theorem dX1_draw_95 : decode cX1_draw 95 = .ok (.aload 8, 2) := dk_25 8 (dk_at dksX1_draw_4 2 rfl rfl)
theorem dX1_draw_97 : decode cX1_draw 97 = .ok (.getfield 87, 3) := dk_180 0 87 (dk_at dksX1_draw_4 4 rfl rfl)
theorem dX1_draw_100 : decode cX1_draw 100 = .ok (.getfield 91, 3) := dk_180 0 91 (dk_at dksX1_draw_4 7 rfl rfl)
theorem dX1_draw_103 : decode cX1_draw 103 = .ok (.iadd, 1) := dk_96 (dk_at dksX1_draw_4 10 rfl rfl)
theorem dX1_draw_104 : decode cX1_draw 104 = .ok (.istore 5, 2) := dk_54 5 (dk_at dksX1_draw_4 11 rfl rfl)
theorem dX1_draw_106 : decode cX1_draw 106 = .ok (.goto 19, 3) := dk_167 0 19 (dk_at dksX1_draw_4 13 rfl rfl)
theorem dX1_draw_109 : decode cX1_draw 109 = .ok (.aload_n 2, 1) := dk_44 (dk_at dksX1_draw_4 16 rfl rfl)
theorem dX1_draw_110 : decode cX1_draw 110 = .ok (.iload 4, 2) := dk_21 4 (dk_at dksX1_draw_4 17 rfl rfl)
theorem dX1_draw_112 : decode cX1_draw 112 = .ok (.aaload, 1) := dk_50 (dk_at dksX1_draw_4 19 rfl rfl)
theorem dX1_draw_113 : decode cX1_draw 113 = .ok (.iload 5, 2) := dk_21 5 (dk_at dksX1_draw_4 20 rfl rfl)
theorem dX1_draw_115 : decode cX1_draw 115 = .ok (.aload 7, 2) := dk_25 7 (dk_at dksX1_draw_4 22 rfl rfl)
theorem dX1_draw_117 : decode cX1_draw 117 = .ok (.invokevirtual 124, 3) := dk_182 0 124 (dk_at dksX1_draw_5 0 rfl rfl)
theorem dX1_draw_120 : decode cX1_draw 120 = .ok (.i2c, 1) := dk_146 (dk_at dksX1_draw_5 3 rfl rfl)
theorem dX1_draw_121 : decode cX1_draw 121 = .ok (.castore, 1) := dk_85 (dk_at dksX1_draw_5 4 rfl rfl)
theorem dX1_draw_122 : decode cX1_draw 122 = .ok (.iinc 5 1, 3) := dk_132 5 1 (dk_at dksX1_draw_5 5 rfl rfl)
theorem dX1_draw_125 : decode cX1_draw 125 = .ok (.iinc 6 1, 3) := dk_132 6 1 (dk_at dksX1_draw_5 8 rfl rfl)
theorem dX1_draw_128 : decode cX1_draw 128 = .ok (.goto (-102), 3) := dk_167 255 154 (dk_at dksX1_draw_5 11 rfl rfl)
theorem dX1_draw_131 : decode cX1_draw 131 = .ok (.return_, 1) := dk_177 (dk_at dksX1_draw_5 14 rfl rfl)
abbrev cX1_lambda_new_6 : ByteArray := prog_1_method_54_code
def yX1_lambda_new_6 : MethodName := ⟨RX1, "lambda$new$6", "(LFormulaEditor$Structure;[[CII)V"⟩
def dkwX1_lambda_new_6_1 : List UInt8 := [182, 0, 127, 177]
abbrev dktX1_lambda_new_6_1 : List UInt8 := dkwX1_lambda_new_6_1 ++ []
def dkwX1_lambda_new_6_0 : List UInt8 := [42, 43, 182, 1, 148, 44, 29, 21, 4, 4, 100, 43, 182, 1, 148, 180, 0, 111, 180, 0, 105, 100]
abbrev dktX1_lambda_new_6_0 : List UInt8 := dkwX1_lambda_new_6_0 ++ dktX1_lambda_new_6_1
theorem dksX1_lambda_new_6_0 : cX1_lambda_new_6.data.toList.drop 0 = dktX1_lambda_new_6_0 := by decide +kernel
theorem dksX1_lambda_new_6_1 : cX1_lambda_new_6.data.toList.drop 22 = dktX1_lambda_new_6_1 := dk_seg dksX1_lambda_new_6_0 22 rfl rfl
theorem dX1_lambda_new_6_0 : decode cX1_lambda_new_6 0 = .ok (.aload_n 0, 1) := dk_42 (dk_at dksX1_lambda_new_6_0 0 rfl rfl)
theorem dX1_lambda_new_6_1 : decode cX1_lambda_new_6 1 = .ok (.aload_n 1, 1) := dk_43 (dk_at dksX1_lambda_new_6_0 1 rfl rfl)
theorem dX1_lambda_new_6_2 : decode cX1_lambda_new_6 2 = .ok (.invokevirtual 404, 3) := dk_182 1 148 (dk_at dksX1_lambda_new_6_0 2 rfl rfl)
theorem dX1_lambda_new_6_5 : decode cX1_lambda_new_6 5 = .ok (.aload_n 2, 1) := dk_44 (dk_at dksX1_lambda_new_6_0 5 rfl rfl)
theorem dX1_lambda_new_6_6 : decode cX1_lambda_new_6 6 = .ok (.iload_n 3, 1) := dk_29 (dk_at dksX1_lambda_new_6_0 6 rfl rfl)
theorem dX1_lambda_new_6_7 : decode cX1_lambda_new_6 7 = .ok (.iload 4, 2) := dk_21 4 (dk_at dksX1_lambda_new_6_0 7 rfl rfl)
theorem dX1_lambda_new_6_9 : decode cX1_lambda_new_6 9 = .ok (.iconst 1, 1) := dk_4 (dk_at dksX1_lambda_new_6_0 9 rfl rfl)
theorem dX1_lambda_new_6_10 : decode cX1_lambda_new_6 10 = .ok (.isub, 1) := dk_100 (dk_at dksX1_lambda_new_6_0 10 rfl rfl)
theorem dX1_lambda_new_6_11 : decode cX1_lambda_new_6 11 = .ok (.aload_n 1, 1) := dk_43 (dk_at dksX1_lambda_new_6_0 11 rfl rfl)
theorem dX1_lambda_new_6_12 : decode cX1_lambda_new_6 12 = .ok (.invokevirtual 404, 3) := dk_182 1 148 (dk_at dksX1_lambda_new_6_0 12 rfl rfl)
theorem dX1_lambda_new_6_15 : decode cX1_lambda_new_6 15 = .ok (.getfield 111, 3) := dk_180 0 111 (dk_at dksX1_lambda_new_6_0 15 rfl rfl)
theorem dX1_lambda_new_6_18 : decode cX1_lambda_new_6 18 = .ok (.getfield 105, 3) := dk_180 0 105 (dk_at dksX1_lambda_new_6_0 18 rfl rfl)
theorem dX1_lambda_new_6_21 : decode cX1_lambda_new_6 21 = .ok (.isub, 1) := dk_100 (dk_at dksX1_lambda_new_6_0 21 rfl rfl)
theorem dX1_lambda_new_6_22 : decode cX1_lambda_new_6 22 = .ok (.invokevirtual 127, 3) := dk_182 0 127 (dk_at dksX1_lambda_new_6_1 0 rfl rfl)
theorem dX1_lambda_new_6_25 : decode cX1_lambda_new_6 25 = .ok (.return_, 1) := dk_177 (dk_at dksX1_lambda_new_6_1 3 rfl rfl)
abbrev cX1_lambda_new_7 : ByteArray := prog_1_method_53_code
def yX1_lambda_new_7 : MethodName := ⟨RX1, "lambda$new$7", "(LFormulaEditor$Structure;[[CII)V"⟩
def dkwX1_lambda_new_7_1 : List UInt8 := [182, 0, 127, 177]
abbrev dktX1_lambda_new_7_1 : List UInt8 := dkwX1_lambda_new_7_1 ++ []
def dkwX1_lambda_new_7_0 : List UInt8 := [42, 43, 182, 1, 148, 44, 29, 21, 4, 4, 96, 43, 182, 1, 148, 180, 0, 111, 180, 0, 96, 96]
abbrev dktX1_lambda_new_7_0 : List UInt8 := dkwX1_lambda_new_7_0 ++ dktX1_lambda_new_7_1
theorem dksX1_lambda_new_7_0 : cX1_lambda_new_7.data.toList.drop 0 = dktX1_lambda_new_7_0 := by decide +kernel
theorem dksX1_lambda_new_7_1 : cX1_lambda_new_7.data.toList.drop 22 = dktX1_lambda_new_7_1 := dk_seg dksX1_lambda_new_7_0 22 rfl rfl
theorem dX1_lambda_new_7_0 : decode cX1_lambda_new_7 0 = .ok (.aload_n 0, 1) := dk_42 (dk_at dksX1_lambda_new_7_0 0 rfl rfl)
theorem dX1_lambda_new_7_1 : decode cX1_lambda_new_7 1 = .ok (.aload_n 1, 1) := dk_43 (dk_at dksX1_lambda_new_7_0 1 rfl rfl)
theorem dX1_lambda_new_7_2 : decode cX1_lambda_new_7 2 = .ok (.invokevirtual 404, 3) := dk_182 1 148 (dk_at dksX1_lambda_new_7_0 2 rfl rfl)
theorem dX1_lambda_new_7_5 : decode cX1_lambda_new_7 5 = .ok (.aload_n 2, 1) := dk_44 (dk_at dksX1_lambda_new_7_0 5 rfl rfl)
theorem dX1_lambda_new_7_6 : decode cX1_lambda_new_7 6 = .ok (.iload_n 3, 1) := dk_29 (dk_at dksX1_lambda_new_7_0 6 rfl rfl)
theorem dX1_lambda_new_7_7 : decode cX1_lambda_new_7 7 = .ok (.iload 4, 2) := dk_21 4 (dk_at dksX1_lambda_new_7_0 7 rfl rfl)
theorem dX1_lambda_new_7_9 : decode cX1_lambda_new_7 9 = .ok (.iconst 1, 1) := dk_4 (dk_at dksX1_lambda_new_7_0 9 rfl rfl)
theorem dX1_lambda_new_7_10 : decode cX1_lambda_new_7 10 = .ok (.iadd, 1) := dk_96 (dk_at dksX1_lambda_new_7_0 10 rfl rfl)
theorem dX1_lambda_new_7_11 : decode cX1_lambda_new_7 11 = .ok (.aload_n 1, 1) := dk_43 (dk_at dksX1_lambda_new_7_0 11 rfl rfl)
theorem dX1_lambda_new_7_12 : decode cX1_lambda_new_7 12 = .ok (.invokevirtual 404, 3) := dk_182 1 148 (dk_at dksX1_lambda_new_7_0 12 rfl rfl)
theorem dX1_lambda_new_7_15 : decode cX1_lambda_new_7 15 = .ok (.getfield 111, 3) := dk_180 0 111 (dk_at dksX1_lambda_new_7_0 15 rfl rfl)
theorem dX1_lambda_new_7_18 : decode cX1_lambda_new_7 18 = .ok (.getfield 96, 3) := dk_180 0 96 (dk_at dksX1_lambda_new_7_0 18 rfl rfl)
theorem dX1_lambda_new_7_21 : decode cX1_lambda_new_7 21 = .ok (.iadd, 1) := dk_96 (dk_at dksX1_lambda_new_7_0 21 rfl rfl)
theorem dX1_lambda_new_7_22 : decode cX1_lambda_new_7 22 = .ok (.invokevirtual 127, 3) := dk_182 0 127 (dk_at dksX1_lambda_new_7_1 0 rfl rfl)
theorem dX1_lambda_new_7_25 : decode cX1_lambda_new_7 25 = .ok (.return_, 1) := dk_177 (dk_at dksX1_lambda_new_7_1 3 rfl rfl)
abbrev cX1_lambda_new_8 : ByteArray := prog_1_method_52_code
def yX1_lambda_new_8 : MethodName := ⟨RX1, "lambda$new$8", "(LFormulaEditor$Structure;[[CII)V"⟩
def dkwX1_lambda_new_8_0 : List UInt8 := [42, 43, 182, 1, 148, 44, 29, 21, 4, 182, 1, 154, 177]
abbrev dktX1_lambda_new_8_0 : List UInt8 := dkwX1_lambda_new_8_0 ++ []
theorem dksX1_lambda_new_8_0 : cX1_lambda_new_8.data.toList.drop 0 = dktX1_lambda_new_8_0 := by decide +kernel
theorem dX1_lambda_new_8_0 : decode cX1_lambda_new_8 0 = .ok (.aload_n 0, 1) := dk_42 (dk_at dksX1_lambda_new_8_0 0 rfl rfl)
theorem dX1_lambda_new_8_1 : decode cX1_lambda_new_8 1 = .ok (.aload_n 1, 1) := dk_43 (dk_at dksX1_lambda_new_8_0 1 rfl rfl)
theorem dX1_lambda_new_8_2 : decode cX1_lambda_new_8 2 = .ok (.invokevirtual 404, 3) := dk_182 1 148 (dk_at dksX1_lambda_new_8_0 2 rfl rfl)
theorem dX1_lambda_new_8_5 : decode cX1_lambda_new_8 5 = .ok (.aload_n 2, 1) := dk_44 (dk_at dksX1_lambda_new_8_0 5 rfl rfl)
theorem dX1_lambda_new_8_6 : decode cX1_lambda_new_8 6 = .ok (.iload_n 3, 1) := dk_29 (dk_at dksX1_lambda_new_8_0 6 rfl rfl)
theorem dX1_lambda_new_8_7 : decode cX1_lambda_new_8 7 = .ok (.iload 4, 2) := dk_21 4 (dk_at dksX1_lambda_new_8_0 7 rfl rfl)
theorem dX1_lambda_new_8_9 : decode cX1_lambda_new_8 9 = .ok (.invokevirtual 410, 3) := dk_182 1 154 (dk_at dksX1_lambda_new_8_0 9 rfl rfl)
theorem dX1_lambda_new_8_12 : decode cX1_lambda_new_8 12 = .ok (.return_, 1) := dk_177 (dk_at dksX1_lambda_new_8_0 12 rfl rfl)
abbrev cX1_drawRoot : ByteArray := prog_1_method_12_code
def yX1_drawRoot : MethodName := ⟨RX1, "drawRoot", "(LFormulaEditor$Row;[[CII)V"⟩
def dkwX1_drawRoot_3 : List UInt8 := [50, 29, 16, 86, 85, 132, 6, 1, 167, 255, 232, 42, 43, 44, 29, 4, 96, 21, 4, 182, 0, 127, 177]
abbrev dktX1_drawRoot_3 : List UInt8 := dkwX1_drawRoot_3 ++ []
def dkwX1_drawRoot_2 : List UInt8 := [25, 5, 180, 0, 96, 100, 54, 6, 21, 6, 21, 4, 25, 5, 180, 0, 105, 96, 163, 0, 17, 44, 21, 6]
abbrev dktX1_drawRoot_2 : List UInt8 := dkwX1_drawRoot_2 ++ dktX1_drawRoot_3
def dkwX1_drawRoot_1 : List UInt8 := [180, 0, 96, 100, 4, 100, 50, 29, 4, 96, 21, 6, 96, 16, 95, 85, 132, 6, 1, 167, 255, 222, 21, 4]
abbrev dktX1_drawRoot_1 : List UInt8 := dkwX1_drawRoot_1 ++ dktX1_drawRoot_2
def dkwX1_drawRoot_0 : List UInt8 := [43, 180, 0, 111, 58, 5, 3, 54, 6, 21, 6, 25, 5, 180, 0, 91, 162, 0, 30, 44, 21, 4, 25, 5]
abbrev dktX1_drawRoot_0 : List UInt8 := dkwX1_drawRoot_0 ++ dktX1_drawRoot_1
theorem dksX1_drawRoot_0 : cX1_drawRoot.data.toList.drop 0 = dktX1_drawRoot_0 := by decide +kernel
theorem dksX1_drawRoot_1 : cX1_drawRoot.data.toList.drop 24 = dktX1_drawRoot_1 := dk_seg dksX1_drawRoot_0 24 rfl rfl
theorem dksX1_drawRoot_2 : cX1_drawRoot.data.toList.drop 48 = dktX1_drawRoot_2 := dk_seg dksX1_drawRoot_1 24 rfl rfl
theorem dksX1_drawRoot_3 : cX1_drawRoot.data.toList.drop 72 = dktX1_drawRoot_3 := dk_seg dksX1_drawRoot_2 24 rfl rfl
theorem dX1_drawRoot_0 : decode cX1_drawRoot 0 = .ok (.aload_n 1, 1) := dk_43 (dk_at dksX1_drawRoot_0 0 rfl rfl)
theorem dX1_drawRoot_1 : decode cX1_drawRoot 1 = .ok (.getfield 111, 3) := dk_180 0 111 (dk_at dksX1_drawRoot_0 1 rfl rfl)
theorem dX1_drawRoot_4 : decode cX1_drawRoot 4 = .ok (.astore 5, 2) := dk_58 5 (dk_at dksX1_drawRoot_0 4 rfl rfl)
theorem dX1_drawRoot_6 : decode cX1_drawRoot 6 = .ok (.iconst 0, 1) := dk_3 (dk_at dksX1_drawRoot_0 6 rfl rfl)
theorem dX1_drawRoot_7 : decode cX1_drawRoot 7 = .ok (.istore 6, 2) := dk_54 6 (dk_at dksX1_drawRoot_0 7 rfl rfl)
theorem dX1_drawRoot_9 : decode cX1_drawRoot 9 = .ok (.iload 6, 2) := dk_21 6 (dk_at dksX1_drawRoot_0 9 rfl rfl)
theorem dX1_drawRoot_11 : decode cX1_drawRoot 11 = .ok (.aload 5, 2) := dk_25 5 (dk_at dksX1_drawRoot_0 11 rfl rfl)
theorem dX1_drawRoot_13 : decode cX1_drawRoot 13 = .ok (.getfield 91, 3) := dk_180 0 91 (dk_at dksX1_drawRoot_0 13 rfl rfl)
theorem dX1_drawRoot_16 : decode cX1_drawRoot 16 = .ok (.if_icmp .ge 30, 3) := dk_162 0 30 (dk_at dksX1_drawRoot_0 16 rfl rfl)
theorem dX1_drawRoot_19 : decode cX1_drawRoot 19 = .ok (.aload_n 2, 1) := dk_44 (dk_at dksX1_drawRoot_0 19 rfl rfl)
theorem dX1_drawRoot_20 : decode cX1_drawRoot 20 = .ok (.iload 4, 2) := dk_21 4 (dk_at dksX1_drawRoot_0 20 rfl rfl)
theorem dX1_drawRoot_22 : decode cX1_drawRoot 22 = .ok (.aload 5, 2) := dk_25 5 (dk_at dksX1_drawRoot_0 22 rfl rfl)
theorem dX1_drawRoot_24 : decode cX1_drawRoot 24 = .ok (.getfield 96, 3) := dk_180 0 96 (dk_at dksX1_drawRoot_1 0 rfl rfl)
theorem dX1_drawRoot_27 : decode cX1_drawRoot 27 = .ok (.isub, 1) := dk_100 (dk_at dksX1_drawRoot_1 3 rfl rfl)
theorem dX1_drawRoot_28 : decode cX1_drawRoot 28 = .ok (.iconst 1, 1) := dk_4 (dk_at dksX1_drawRoot_1 4 rfl rfl)
theorem dX1_drawRoot_29 : decode cX1_drawRoot 29 = .ok (.isub, 1) := dk_100 (dk_at dksX1_drawRoot_1 5 rfl rfl)
theorem dX1_drawRoot_30 : decode cX1_drawRoot 30 = .ok (.aaload, 1) := dk_50 (dk_at dksX1_drawRoot_1 6 rfl rfl)
theorem dX1_drawRoot_31 : decode cX1_drawRoot 31 = .ok (.iload_n 3, 1) := dk_29 (dk_at dksX1_drawRoot_1 7 rfl rfl)
theorem dX1_drawRoot_32 : decode cX1_drawRoot 32 = .ok (.iconst 1, 1) := dk_4 (dk_at dksX1_drawRoot_1 8 rfl rfl)
theorem dX1_drawRoot_33 : decode cX1_drawRoot 33 = .ok (.iadd, 1) := dk_96 (dk_at dksX1_drawRoot_1 9 rfl rfl)
theorem dX1_drawRoot_34 : decode cX1_drawRoot 34 = .ok (.iload 6, 2) := dk_21 6 (dk_at dksX1_drawRoot_1 10 rfl rfl)
theorem dX1_drawRoot_36 : decode cX1_drawRoot 36 = .ok (.iadd, 1) := dk_96 (dk_at dksX1_drawRoot_1 12 rfl rfl)
theorem dX1_drawRoot_37 : decode cX1_drawRoot 37 = .ok (.bipush 95, 2) := dk_16 95 (dk_at dksX1_drawRoot_1 13 rfl rfl)
theorem dX1_drawRoot_39 : decode cX1_drawRoot 39 = .ok (.castore, 1) := dk_85 (dk_at dksX1_drawRoot_1 15 rfl rfl)
theorem dX1_drawRoot_40 : decode cX1_drawRoot 40 = .ok (.iinc 6 1, 3) := dk_132 6 1 (dk_at dksX1_drawRoot_1 16 rfl rfl)
theorem dX1_drawRoot_43 : decode cX1_drawRoot 43 = .ok (.goto (-34), 3) := dk_167 255 222 (dk_at dksX1_drawRoot_1 19 rfl rfl)
theorem dX1_drawRoot_46 : decode cX1_drawRoot 46 = .ok (.iload 4, 2) := dk_21 4 (dk_at dksX1_drawRoot_1 22 rfl rfl)
theorem dX1_drawRoot_48 : decode cX1_drawRoot 48 = .ok (.aload 5, 2) := dk_25 5 (dk_at dksX1_drawRoot_2 0 rfl rfl)
theorem dX1_drawRoot_50 : decode cX1_drawRoot 50 = .ok (.getfield 96, 3) := dk_180 0 96 (dk_at dksX1_drawRoot_2 2 rfl rfl)
theorem dX1_drawRoot_53 : decode cX1_drawRoot 53 = .ok (.isub, 1) := dk_100 (dk_at dksX1_drawRoot_2 5 rfl rfl)
theorem dX1_drawRoot_54 : decode cX1_drawRoot 54 = .ok (.istore 6, 2) := dk_54 6 (dk_at dksX1_drawRoot_2 6 rfl rfl)
theorem dX1_drawRoot_56 : decode cX1_drawRoot 56 = .ok (.iload 6, 2) := dk_21 6 (dk_at dksX1_drawRoot_2 8 rfl rfl)
theorem dX1_drawRoot_58 : decode cX1_drawRoot 58 = .ok (.iload 4, 2) := dk_21 4 (dk_at dksX1_drawRoot_2 10 rfl rfl)
theorem dX1_drawRoot_60 : decode cX1_drawRoot 60 = .ok (.aload 5, 2) := dk_25 5 (dk_at dksX1_drawRoot_2 12 rfl rfl)
theorem dX1_drawRoot_62 : decode cX1_drawRoot 62 = .ok (.getfield 105, 3) := dk_180 0 105 (dk_at dksX1_drawRoot_2 14 rfl rfl)
theorem dX1_drawRoot_65 : decode cX1_drawRoot 65 = .ok (.iadd, 1) := dk_96 (dk_at dksX1_drawRoot_2 17 rfl rfl)
theorem dX1_drawRoot_66 : decode cX1_drawRoot 66 = .ok (.if_icmp .gt 17, 3) := dk_163 0 17 (dk_at dksX1_drawRoot_2 18 rfl rfl)
theorem dX1_drawRoot_69 : decode cX1_drawRoot 69 = .ok (.aload_n 2, 1) := dk_44 (dk_at dksX1_drawRoot_2 21 rfl rfl)
theorem dX1_drawRoot_70 : decode cX1_drawRoot 70 = .ok (.iload 6, 2) := dk_21 6 (dk_at dksX1_drawRoot_2 22 rfl rfl)
theorem dX1_drawRoot_72 : decode cX1_drawRoot 72 = .ok (.aaload, 1) := dk_50 (dk_at dksX1_drawRoot_3 0 rfl rfl)
theorem dX1_drawRoot_73 : decode cX1_drawRoot 73 = .ok (.iload_n 3, 1) := dk_29 (dk_at dksX1_drawRoot_3 1 rfl rfl)
theorem dX1_drawRoot_74 : decode cX1_drawRoot 74 = .ok (.bipush 86, 2) := dk_16 86 (dk_at dksX1_drawRoot_3 2 rfl rfl)
theorem dX1_drawRoot_76 : decode cX1_drawRoot 76 = .ok (.castore, 1) := dk_85 (dk_at dksX1_drawRoot_3 4 rfl rfl)
theorem dX1_drawRoot_77 : decode cX1_drawRoot 77 = .ok (.iinc 6 1, 3) := dk_132 6 1 (dk_at dksX1_drawRoot_3 5 rfl rfl)
theorem dX1_drawRoot_80 : decode cX1_drawRoot 80 = .ok (.goto (-24), 3) := dk_167 255 232 (dk_at dksX1_drawRoot_3 8 rfl rfl)
theorem dX1_drawRoot_83 : decode cX1_drawRoot 83 = .ok (.aload_n 0, 1) := dk_42 (dk_at dksX1_drawRoot_3 11 rfl rfl)
theorem dX1_drawRoot_84 : decode cX1_drawRoot 84 = .ok (.aload_n 1, 1) := dk_43 (dk_at dksX1_drawRoot_3 12 rfl rfl)
theorem dX1_drawRoot_85 : decode cX1_drawRoot 85 = .ok (.aload_n 2, 1) := dk_44 (dk_at dksX1_drawRoot_3 13 rfl rfl)
theorem dX1_drawRoot_86 : decode cX1_drawRoot 86 = .ok (.iload_n 3, 1) := dk_29 (dk_at dksX1_drawRoot_3 14 rfl rfl)
theorem dX1_drawRoot_87 : decode cX1_drawRoot 87 = .ok (.iconst 1, 1) := dk_4 (dk_at dksX1_drawRoot_3 15 rfl rfl)
theorem dX1_drawRoot_88 : decode cX1_drawRoot 88 = .ok (.iadd, 1) := dk_96 (dk_at dksX1_drawRoot_3 16 rfl rfl)
theorem dX1_drawRoot_89 : decode cX1_drawRoot 89 = .ok (.iload 4, 2) := dk_21 4 (dk_at dksX1_drawRoot_3 17 rfl rfl)
theorem dX1_drawRoot_91 : decode cX1_drawRoot 91 = .ok (.invokevirtual 127, 3) := dk_182 0 127 (dk_at dksX1_drawRoot_3 19 rfl rfl)
theorem dX1_drawRoot_94 : decode cX1_drawRoot 94 = .ok (.return_, 1) := dk_177 (dk_at dksX1_drawRoot_3 22 rfl rfl)
abbrev cX1_lambda_new_9 : ByteArray := prog_1_method_51_code
def yX1_lambda_new_9 : MethodName := ⟨RX1, "lambda$new$9", "(LFormulaEditor$Structure;[[CII)V"⟩
def dkwX1_lambda_new_9_0 : List UInt8 := [42, 43, 182, 1, 148, 44, 29, 21, 4, 182, 1, 151, 177]
abbrev dktX1_lambda_new_9_0 : List UInt8 := dkwX1_lambda_new_9_0 ++ []
theorem dksX1_lambda_new_9_0 : cX1_lambda_new_9.data.toList.drop 0 = dktX1_lambda_new_9_0 := by decide +kernel
theorem dX1_lambda_new_9_0 : decode cX1_lambda_new_9 0 = .ok (.aload_n 0, 1) := dk_42 (dk_at dksX1_lambda_new_9_0 0 rfl rfl)
theorem dX1_lambda_new_9_1 : decode cX1_lambda_new_9 1 = .ok (.aload_n 1, 1) := dk_43 (dk_at dksX1_lambda_new_9_0 1 rfl rfl)
theorem dX1_lambda_new_9_2 : decode cX1_lambda_new_9 2 = .ok (.invokevirtual 404, 3) := dk_182 1 148 (dk_at dksX1_lambda_new_9_0 2 rfl rfl)
theorem dX1_lambda_new_9_5 : decode cX1_lambda_new_9 5 = .ok (.aload_n 2, 1) := dk_44 (dk_at dksX1_lambda_new_9_0 5 rfl rfl)
theorem dX1_lambda_new_9_6 : decode cX1_lambda_new_9 6 = .ok (.iload_n 3, 1) := dk_29 (dk_at dksX1_lambda_new_9_0 6 rfl rfl)
theorem dX1_lambda_new_9_7 : decode cX1_lambda_new_9 7 = .ok (.iload 4, 2) := dk_21 4 (dk_at dksX1_lambda_new_9_0 7 rfl rfl)
theorem dX1_lambda_new_9_9 : decode cX1_lambda_new_9 9 = .ok (.invokevirtual 407, 3) := dk_182 1 151 (dk_at dksX1_lambda_new_9_0 9 rfl rfl)
theorem dX1_lambda_new_9_12 : decode cX1_lambda_new_9 12 = .ok (.return_, 1) := dk_177 (dk_at dksX1_lambda_new_9_0 12 rfl rfl)
abbrev cX1_drawParentheses : ByteArray := prog_1_method_13_code
def yX1_drawParentheses : MethodName := ⟨RX1, "drawParentheses", "(LFormulaEditor$Row;[[CII)V"⟩
def dkwX1_drawParentheses_3 : List UInt8 := [177]
abbrev dktX1_drawParentheses_3 : List UInt8 := dkwX1_drawParentheses_3 ++ []
def dkwX1_drawParentheses_2 : List UInt8 := [180, 0, 91, 96, 16, 41, 85, 132, 6, 1, 167, 255, 216, 42, 43, 44, 29, 4, 96, 21, 4, 182, 0, 127]
abbrev dktX1_drawParentheses_2 : List UInt8 := dkwX1_drawParentheses_2 ++ dktX1_drawParentheses_3
def dkwX1_drawParentheses_1 : List UInt8 := [180, 0, 105, 96, 163, 0, 33, 44, 21, 6, 50, 29, 16, 40, 85, 44, 21, 6, 50, 29, 4, 96, 25, 5]
abbrev dktX1_drawParentheses_1 : List UInt8 := dkwX1_drawParentheses_1 ++ dktX1_drawParentheses_2
def dkwX1_drawParentheses_0 : List UInt8 := [43, 180, 0, 111, 58, 5, 21, 4, 25, 5, 180, 0, 96, 100, 54, 6, 21, 6, 21, 4, 25, 5]
abbrev dktX1_drawParentheses_0 : List UInt8 := dkwX1_drawParentheses_0 ++ dktX1_drawParentheses_1
theorem dksX1_drawParentheses_0 : cX1_drawParentheses.data.toList.drop 0 = dktX1_drawParentheses_0 := by decide +kernel
theorem dksX1_drawParentheses_1 : cX1_drawParentheses.data.toList.drop 22 = dktX1_drawParentheses_1 := dk_seg dksX1_drawParentheses_0 22 rfl rfl
theorem dksX1_drawParentheses_2 : cX1_drawParentheses.data.toList.drop 46 = dktX1_drawParentheses_2 := dk_seg dksX1_drawParentheses_1 24 rfl rfl
theorem dksX1_drawParentheses_3 : cX1_drawParentheses.data.toList.drop 70 = dktX1_drawParentheses_3 := dk_seg dksX1_drawParentheses_2 24 rfl rfl
theorem dX1_drawParentheses_0 : decode cX1_drawParentheses 0 = .ok (.aload_n 1, 1) := dk_43 (dk_at dksX1_drawParentheses_0 0 rfl rfl)
theorem dX1_drawParentheses_1 : decode cX1_drawParentheses 1 = .ok (.getfield 111, 3) := dk_180 0 111 (dk_at dksX1_drawParentheses_0 1 rfl rfl)
theorem dX1_drawParentheses_4 : decode cX1_drawParentheses 4 = .ok (.astore 5, 2) := dk_58 5 (dk_at dksX1_drawParentheses_0 4 rfl rfl)
theorem dX1_drawParentheses_6 : decode cX1_drawParentheses 6 = .ok (.iload 4, 2) := dk_21 4 (dk_at dksX1_drawParentheses_0 6 rfl rfl)
theorem dX1_drawParentheses_8 : decode cX1_drawParentheses 8 = .ok (.aload 5, 2) := dk_25 5 (dk_at dksX1_drawParentheses_0 8 rfl rfl)
theorem dX1_drawParentheses_10 : decode cX1_drawParentheses 10 = .ok (.getfield 96, 3) := dk_180 0 96 (dk_at dksX1_drawParentheses_0 10 rfl rfl)
theorem dX1_drawParentheses_13 : decode cX1_drawParentheses 13 = .ok (.isub, 1) := dk_100 (dk_at dksX1_drawParentheses_0 13 rfl rfl)
theorem dX1_drawParentheses_14 : decode cX1_drawParentheses 14 = .ok (.istore 6, 2) := dk_54 6 (dk_at dksX1_drawParentheses_0 14 rfl rfl)
theorem dX1_drawParentheses_16 : decode cX1_drawParentheses 16 = .ok (.iload 6, 2) := dk_21 6 (dk_at dksX1_drawParentheses_0 16 rfl rfl)
theorem dX1_drawParentheses_18 : decode cX1_drawParentheses 18 = .ok (.iload 4, 2) := dk_21 4 (dk_at dksX1_drawParentheses_0 18 rfl rfl)
theorem dX1_drawParentheses_20 : decode cX1_drawParentheses 20 = .ok (.aload 5, 2) := dk_25 5 (dk_at dksX1_drawParentheses_0 20 rfl rfl)
theorem dX1_drawParentheses_22 : decode cX1_drawParentheses 22 = .ok (.getfield 105, 3) := dk_180 0 105 (dk_at dksX1_drawParentheses_1 0 rfl rfl)
theorem dX1_drawParentheses_25 : decode cX1_drawParentheses 25 = .ok (.iadd, 1) := dk_96 (dk_at dksX1_drawParentheses_1 3 rfl rfl)
theorem dX1_drawParentheses_26 : decode cX1_drawParentheses 26 = .ok (.if_icmp .gt 33, 3) := dk_163 0 33 (dk_at dksX1_drawParentheses_1 4 rfl rfl)
theorem dX1_drawParentheses_29 : decode cX1_drawParentheses 29 = .ok (.aload_n 2, 1) := dk_44 (dk_at dksX1_drawParentheses_1 7 rfl rfl)
theorem dX1_drawParentheses_30 : decode cX1_drawParentheses 30 = .ok (.iload 6, 2) := dk_21 6 (dk_at dksX1_drawParentheses_1 8 rfl rfl)
theorem dX1_drawParentheses_32 : decode cX1_drawParentheses 32 = .ok (.aaload, 1) := dk_50 (dk_at dksX1_drawParentheses_1 10 rfl rfl)
theorem dX1_drawParentheses_33 : decode cX1_drawParentheses 33 = .ok (.iload_n 3, 1) := dk_29 (dk_at dksX1_drawParentheses_1 11 rfl rfl)
theorem dX1_drawParentheses_34 : decode cX1_drawParentheses 34 = .ok (.bipush 40, 2) := dk_16 40 (dk_at dksX1_drawParentheses_1 12 rfl rfl)
theorem dX1_drawParentheses_36 : decode cX1_drawParentheses 36 = .ok (.castore, 1) := dk_85 (dk_at dksX1_drawParentheses_1 14 rfl rfl)
theorem dX1_drawParentheses_37 : decode cX1_drawParentheses 37 = .ok (.aload_n 2, 1) := dk_44 (dk_at dksX1_drawParentheses_1 15 rfl rfl)
theorem dX1_drawParentheses_38 : decode cX1_drawParentheses 38 = .ok (.iload 6, 2) := dk_21 6 (dk_at dksX1_drawParentheses_1 16 rfl rfl)
theorem dX1_drawParentheses_40 : decode cX1_drawParentheses 40 = .ok (.aaload, 1) := dk_50 (dk_at dksX1_drawParentheses_1 18 rfl rfl)
theorem dX1_drawParentheses_41 : decode cX1_drawParentheses 41 = .ok (.iload_n 3, 1) := dk_29 (dk_at dksX1_drawParentheses_1 19 rfl rfl)
theorem dX1_drawParentheses_42 : decode cX1_drawParentheses 42 = .ok (.iconst 1, 1) := dk_4 (dk_at dksX1_drawParentheses_1 20 rfl rfl)
theorem dX1_drawParentheses_43 : decode cX1_drawParentheses 43 = .ok (.iadd, 1) := dk_96 (dk_at dksX1_drawParentheses_1 21 rfl rfl)
theorem dX1_drawParentheses_44 : decode cX1_drawParentheses 44 = .ok (.aload 5, 2) := dk_25 5 (dk_at dksX1_drawParentheses_1 22 rfl rfl)
theorem dX1_drawParentheses_46 : decode cX1_drawParentheses 46 = .ok (.getfield 91, 3) := dk_180 0 91 (dk_at dksX1_drawParentheses_2 0 rfl rfl)
theorem dX1_drawParentheses_49 : decode cX1_drawParentheses 49 = .ok (.iadd, 1) := dk_96 (dk_at dksX1_drawParentheses_2 3 rfl rfl)
theorem dX1_drawParentheses_50 : decode cX1_drawParentheses 50 = .ok (.bipush 41, 2) := dk_16 41 (dk_at dksX1_drawParentheses_2 4 rfl rfl)
theorem dX1_drawParentheses_52 : decode cX1_drawParentheses 52 = .ok (.castore, 1) := dk_85 (dk_at dksX1_drawParentheses_2 6 rfl rfl)
theorem dX1_drawParentheses_53 : decode cX1_drawParentheses 53 = .ok (.iinc 6 1, 3) := dk_132 6 1 (dk_at dksX1_drawParentheses_2 7 rfl rfl)
theorem dX1_drawParentheses_56 : decode cX1_drawParentheses 56 = .ok (.goto (-40), 3) := dk_167 255 216 (dk_at dksX1_drawParentheses_2 10 rfl rfl)
theorem dX1_drawParentheses_59 : decode cX1_drawParentheses 59 = .ok (.aload_n 0, 1) := dk_42 (dk_at dksX1_drawParentheses_2 13 rfl rfl)
theorem dX1_drawParentheses_60 : decode cX1_drawParentheses 60 = .ok (.aload_n 1, 1) := dk_43 (dk_at dksX1_drawParentheses_2 14 rfl rfl)
theorem dX1_drawParentheses_61 : decode cX1_drawParentheses 61 = .ok (.aload_n 2, 1) := dk_44 (dk_at dksX1_drawParentheses_2 15 rfl rfl)
theorem dX1_drawParentheses_62 : decode cX1_drawParentheses 62 = .ok (.iload_n 3, 1) := dk_29 (dk_at dksX1_drawParentheses_2 16 rfl rfl)
theorem dX1_drawParentheses_63 : decode cX1_drawParentheses 63 = .ok (.iconst 1, 1) := dk_4 (dk_at dksX1_drawParentheses_2 17 rfl rfl)
theorem dX1_drawParentheses_64 : decode cX1_drawParentheses 64 = .ok (.iadd, 1) := dk_96 (dk_at dksX1_drawParentheses_2 18 rfl rfl)
theorem dX1_drawParentheses_65 : decode cX1_drawParentheses 65 = .ok (.iload 4, 2) := dk_21 4 (dk_at dksX1_drawParentheses_2 19 rfl rfl)
theorem dX1_drawParentheses_67 : decode cX1_drawParentheses 67 = .ok (.invokevirtual 127, 3) := dk_182 0 127 (dk_at dksX1_drawParentheses_2 21 rfl rfl)
theorem dX1_drawParentheses_70 : decode cX1_drawParentheses 70 = .ok (.return_, 1) := dk_177 (dk_at dksX1_drawParentheses_3 0 rfl rfl)
abbrev cX1_clearText : ByteArray := prog_1_method_17_code
def yX1_clearText : MethodName := ⟨RX1, "clearText", "()I"⟩
def dkwX1_clearText_0 : List UInt8 := [42, 180, 0, 229, 60, 42, 3, 181, 0, 229, 27, 172]
abbrev dktX1_clearText_0 : List UInt8 := dkwX1_clearText_0 ++ []
theorem dksX1_clearText_0 : cX1_clearText.data.toList.drop 0 = dktX1_clearText_0 := by decide +kernel
theorem dX1_clearText_0 : decode cX1_clearText 0 = .ok (.aload_n 0, 1) := dk_42 (dk_at dksX1_clearText_0 0 rfl rfl)
theorem dX1_clearText_1 : decode cX1_clearText 1 = .ok (.getfield 229, 3) := dk_180 0 229 (dk_at dksX1_clearText_0 1 rfl rfl)
theorem dX1_clearText_4 : decode cX1_clearText 4 = .ok (.istore_n 1, 1) := dk_60 (dk_at dksX1_clearText_0 4 rfl rfl)
theorem dX1_clearText_5 : decode cX1_clearText 5 = .ok (.aload_n 0, 1) := dk_42 (dk_at dksX1_clearText_0 5 rfl rfl)
theorem dX1_clearText_6 : decode cX1_clearText 6 = .ok (.iconst 0, 1) := dk_3 (dk_at dksX1_clearText_0 6 rfl rfl)
theorem dX1_clearText_7 : decode cX1_clearText 7 = .ok (.putfield 229, 3) := dk_181 0 229 (dk_at dksX1_clearText_0 7 rfl rfl)
theorem dX1_clearText_10 : decode cX1_clearText 10 = .ok (.iload_n 1, 1) := dk_27 (dk_at dksX1_clearText_0 10 rfl rfl)
theorem dX1_clearText_11 : decode cX1_clearText 11 = .ok (.ireturn, 1) := dk_172 (dk_at dksX1_clearText_0 11 rfl rfl)
abbrev cX1_errorPosition : ByteArray := prog_1_method_18_code
def yX1_errorPosition : MethodName := ⟨RX1, "errorPosition", "()I"⟩
def dkwX1_errorPosition_1 : List UInt8 := [16, 247, 172]
abbrev dktX1_errorPosition_1 : List UInt8 := dkwX1_errorPosition_1 ++ []
def dkwX1_errorPosition_0 : List UInt8 := [187, 0, 232, 89, 42, 183, 0, 234, 76, 43, 182, 0, 237, 199, 0, 10, 43, 180, 0, 241, 167, 0, 5]
abbrev dktX1_errorPosition_0 : List UInt8 := dkwX1_errorPosition_0 ++ dktX1_errorPosition_1
theorem dksX1_errorPosition_0 : cX1_errorPosition.data.toList.drop 0 = dktX1_errorPosition_0 := by decide +kernel
theorem dksX1_errorPosition_1 : cX1_errorPosition.data.toList.drop 23 = dktX1_errorPosition_1 := dk_seg dksX1_errorPosition_0 23 rfl rfl
theorem dX1_errorPosition_0 : decode cX1_errorPosition 0 = .ok (.new 232, 3) := dk_187 0 232 (dk_at dksX1_errorPosition_0 0 rfl rfl)
theorem dX1_errorPosition_3 : decode cX1_errorPosition 3 = .ok (.dup, 1) := dk_89 (dk_at dksX1_errorPosition_0 3 rfl rfl)
theorem dX1_errorPosition_4 : decode cX1_errorPosition 4 = .ok (.aload_n 0, 1) := dk_42 (dk_at dksX1_errorPosition_0 4 rfl rfl)
theorem dX1_errorPosition_5 : decode cX1_errorPosition 5 = .ok (.invokespecial 234, 3) := dk_183 0 234 (dk_at dksX1_errorPosition_0 5 rfl rfl)
theorem dX1_errorPosition_8 : decode cX1_errorPosition 8 = .ok (.astore_n 1, 1) := dk_76 (dk_at dksX1_errorPosition_0 8 rfl rfl)
theorem dX1_errorPosition_9 : decode cX1_errorPosition 9 = .ok (.aload_n 1, 1) := dk_43 (dk_at dksX1_errorPosition_0 9 rfl rfl)
theorem dX1_errorPosition_10 : decode cX1_errorPosition 10 = .ok (.invokevirtual 237, 3) := dk_182 0 237 (dk_at dksX1_errorPosition_0 10 rfl rfl)
theorem dX1_errorPosition_13 : decode cX1_errorPosition 13 = .ok (.ifnonnull 10, 3) := dk_199 0 10 (dk_at dksX1_errorPosition_0 13 rfl rfl)
theorem dX1_errorPosition_16 : decode cX1_errorPosition 16 = .ok (.aload_n 1, 1) := dk_43 (dk_at dksX1_errorPosition_0 16 rfl rfl)
theorem dX1_errorPosition_17 : decode cX1_errorPosition 17 = .ok (.getfield 241, 3) := dk_180 0 241 (dk_at dksX1_errorPosition_0 17 rfl rfl)
theorem dX1_errorPosition_20 : decode cX1_errorPosition 20 = .ok (.goto 5, 3) := dk_167 0 5 (dk_at dksX1_errorPosition_0 20 rfl rfl)
theorem dX1_errorPosition_23 : decode cX1_errorPosition 23 = .ok (.bipush (-9), 2) := dk_16 247 (dk_at dksX1_errorPosition_1 0 rfl rfl)
theorem dX1_errorPosition_25 : decode cX1_errorPosition 25 = .ok (.ireturn, 1) := dk_172 (dk_at dksX1_errorPosition_1 2 rfl rfl)
abbrev cX1_isOperand : ByteArray := prog_1_method_6_code
def yX1_isOperand : MethodName := ⟨RX1, "isOperand", "(I)Z"⟩
def dkwX1_isOperand_1 : List UInt8 := [20, 0, 25, 20, 0, 27, 184, 0, 19, 153, 0, 7, 4, 167, 0, 4, 3, 172]
abbrev dktX1_isOperand_1 : List UInt8 := dkwX1_isOperand_1 ++ []
def dkwX1_isOperand_0 : List UInt8 := [26, 133, 20, 0, 15, 20, 0, 17, 184, 0, 19, 153, 0, 9, 26, 16, 114, 160, 0, 17, 26, 133]
abbrev dktX1_isOperand_0 : List UInt8 := dkwX1_isOperand_0 ++ dktX1_isOperand_1
theorem dksX1_isOperand_0 : cX1_isOperand.data.toList.drop 0 = dktX1_isOperand_0 := by decide +kernel
theorem dksX1_isOperand_1 : cX1_isOperand.data.toList.drop 22 = dktX1_isOperand_1 := dk_seg dksX1_isOperand_0 22 rfl rfl
theorem dX1_isOperand_0 : decode cX1_isOperand 0 = .ok (.iload_n 0, 1) := dk_26 (dk_at dksX1_isOperand_0 0 rfl rfl)
theorem dX1_isOperand_1 : decode cX1_isOperand 1 = .ok (.i2l, 1) := dk_133 (dk_at dksX1_isOperand_0 1 rfl rfl)
theorem dX1_isOperand_2 : decode cX1_isOperand 2 = .ok (.ldc2_w 15, 3) := dk_20 0 15 (dk_at dksX1_isOperand_0 2 rfl rfl)
theorem dX1_isOperand_5 : decode cX1_isOperand 5 = .ok (.ldc2_w 17, 3) := dk_20 0 17 (dk_at dksX1_isOperand_0 5 rfl rfl)
theorem dX1_isOperand_8 : decode cX1_isOperand 8 = .ok (.invokestatic 19, 3) := dk_184 0 19 (dk_at dksX1_isOperand_0 8 rfl rfl)
theorem dX1_isOperand_11 : decode cX1_isOperand 11 = .ok (.ifCond .eq 9, 3) := dk_153 0 9 (dk_at dksX1_isOperand_0 11 rfl rfl)
theorem dX1_isOperand_14 : decode cX1_isOperand 14 = .ok (.iload_n 0, 1) := dk_26 (dk_at dksX1_isOperand_0 14 rfl rfl)
theorem dX1_isOperand_15 : decode cX1_isOperand 15 = .ok (.bipush 114, 2) := dk_16 114 (dk_at dksX1_isOperand_0 15 rfl rfl)
theorem dX1_isOperand_17 : decode cX1_isOperand 17 = .ok (.if_icmp .ne 17, 3) := dk_160 0 17 (dk_at dksX1_isOperand_0 17 rfl rfl)
theorem dX1_isOperand_20 : decode cX1_isOperand 20 = .ok (.iload_n 0, 1) := dk_26 (dk_at dksX1_isOperand_0 20 rfl rfl)
theorem dX1_isOperand_21 : decode cX1_isOperand 21 = .ok (.i2l, 1) := dk_133 (dk_at dksX1_isOperand_0 21 rfl rfl)
theorem dX1_isOperand_22 : decode cX1_isOperand 22 = .ok (.ldc2_w 25, 3) := dk_20 0 25 (dk_at dksX1_isOperand_1 0 rfl rfl)
theorem dX1_isOperand_25 : decode cX1_isOperand 25 = .ok (.ldc2_w 27, 3) := dk_20 0 27 (dk_at dksX1_isOperand_1 3 rfl rfl)
theorem dX1_isOperand_28 : decode cX1_isOperand 28 = .ok (.invokestatic 19, 3) := dk_184 0 19 (dk_at dksX1_isOperand_1 6 rfl rfl)
theorem dX1_isOperand_31 : decode cX1_isOperand 31 = .ok (.ifCond .eq 7, 3) := dk_153 0 7 (dk_at dksX1_isOperand_1 9 rfl rfl)
theorem dX1_isOperand_34 : decode cX1_isOperand 34 = .ok (.iconst 1, 1) := dk_4 (dk_at dksX1_isOperand_1 12 rfl rfl)
theorem dX1_isOperand_35 : decode cX1_isOperand 35 = .ok (.goto 4, 3) := dk_167 0 4 (dk_at dksX1_isOperand_1 13 rfl rfl)
theorem dX1_isOperand_38 : decode cX1_isOperand 38 = .ok (.iconst 0, 1) := dk_3 (dk_at dksX1_isOperand_1 16 rfl rfl)
theorem dX1_isOperand_39 : decode cX1_isOperand 39 = .ok (.ireturn, 1) := dk_172 (dk_at dksX1_isOperand_1 17 rfl rfl)
abbrev cX1_inRange : ByteArray := prog_1_method_1_code
def yX1_inRange : MethodName := ⟨RX1, "inRange", "(JJJ)Z"⟩
def dkwX1_inRange_0 : List UInt8 := [30, 32, 148, 155, 0, 14, 30, 22, 4, 148, 157, 0, 7, 4, 167, 0, 4, 3, 172]
abbrev dktX1_inRange_0 : List UInt8 := dkwX1_inRange_0 ++ []
theorem dksX1_inRange_0 : cX1_inRange.data.toList.drop 0 = dktX1_inRange_0 := by decide +kernel
theorem dX1_inRange_0 : decode cX1_inRange 0 = .ok (.lload_n 0, 1) := dk_30 (dk_at dksX1_inRange_0 0 rfl rfl)
theorem dX1_inRange_1 : decode cX1_inRange 1 = .ok (.lload_n 2, 1) := dk_32 (dk_at dksX1_inRange_0 1 rfl rfl)
theorem dX1_inRange_2 : decode cX1_inRange 2 = .ok (.lcmp, 1) := dk_148 (dk_at dksX1_inRange_0 2 rfl rfl)
theorem dX1_inRange_3 : decode cX1_inRange 3 = .ok (.ifCond .lt 14, 3) := dk_155 0 14 (dk_at dksX1_inRange_0 3 rfl rfl)
theorem dX1_inRange_6 : decode cX1_inRange 6 = .ok (.lload_n 0, 1) := dk_30 (dk_at dksX1_inRange_0 6 rfl rfl)
theorem dX1_inRange_7 : decode cX1_inRange 7 = .ok (.lload 4, 2) := dk_22 4 (dk_at dksX1_inRange_0 7 rfl rfl)
theorem dX1_inRange_9 : decode cX1_inRange 9 = .ok (.lcmp, 1) := dk_148 (dk_at dksX1_inRange_0 9 rfl rfl)
theorem dX1_inRange_10 : decode cX1_inRange 10 = .ok (.ifCond .gt 7, 3) := dk_157 0 7 (dk_at dksX1_inRange_0 10 rfl rfl)
theorem dX1_inRange_13 : decode cX1_inRange 13 = .ok (.iconst 1, 1) := dk_4 (dk_at dksX1_inRange_0 13 rfl rfl)
theorem dX1_inRange_14 : decode cX1_inRange 14 = .ok (.goto 4, 3) := dk_167 0 4 (dk_at dksX1_inRange_0 14 rfl rfl)
theorem dX1_inRange_17 : decode cX1_inRange 17 = .ok (.iconst 0, 1) := dk_3 (dk_at dksX1_inRange_0 17 rfl rfl)
theorem dX1_inRange_18 : decode cX1_inRange 18 = .ok (.ireturn, 1) := dk_172 (dk_at dksX1_inRange_0 18 rfl rfl)
abbrev cX1_isOperator : ByteArray := prog_1_method_7_code
def yX1_isOperator : MethodName := ⟨RX1, "isOperator", "(I)Z"⟩
def dkwX1_isOperator_0 : List UInt8 := [18, 29, 26, 182, 0, 31, 155, 0, 7, 4, 167, 0, 4, 3, 172]
abbrev dktX1_isOperator_0 : List UInt8 := dkwX1_isOperator_0 ++ []
theorem dksX1_isOperator_0 : cX1_isOperator.data.toList.drop 0 = dktX1_isOperator_0 := by decide +kernel
theorem dX1_isOperator_0 : decode cX1_isOperator 0 = .ok (.ldc 29, 2) := dk_18 29 (dk_at dksX1_isOperator_0 0 rfl rfl)
theorem dX1_isOperator_2 : decode cX1_isOperator 2 = .ok (.iload_n 0, 1) := dk_26 (dk_at dksX1_isOperator_0 2 rfl rfl)
theorem dX1_isOperator_3 : decode cX1_isOperator 3 = .ok (.invokevirtual 31, 3) := dk_182 0 31 (dk_at dksX1_isOperator_0 3 rfl rfl)
theorem dX1_isOperator_6 : decode cX1_isOperator 6 = .ok (.ifCond .lt 7, 3) := dk_155 0 7 (dk_at dksX1_isOperator_0 6 rfl rfl)
theorem dX1_isOperator_9 : decode cX1_isOperator 9 = .ok (.iconst 1, 1) := dk_4 (dk_at dksX1_isOperator_0 9 rfl rfl)
theorem dX1_isOperator_10 : decode cX1_isOperator 10 = .ok (.goto 4, 3) := dk_167 0 4 (dk_at dksX1_isOperator_0 10 rfl rfl)
theorem dX1_isOperator_13 : decode cX1_isOperator 13 = .ok (.iconst 0, 1) := dk_3 (dk_at dksX1_isOperator_0 13 rfl rfl)
theorem dX1_isOperator_14 : decode cX1_isOperator 14 = .ok (.ireturn, 1) := dk_172 (dk_at dksX1_isOperator_0 14 rfl rfl)
abbrev cX1_linearLength : ByteArray := prog_1_method_24_code
def yX1_linearLength : MethodName := ⟨RX1, "linearLength", "()I"⟩
def dkwX1_linearLength_0 : List UInt8 := [42, 180, 0, 177, 182, 1, 51, 182, 1, 54, 172]
abbrev dktX1_linearLength_0 : List UInt8 := dkwX1_linearLength_0 ++ []
theorem dksX1_linearLength_0 : cX1_linearLength.data.toList.drop 0 = dktX1_linearLength_0 := by decide +kernel
theorem dX1_linearLength_0 : decode cX1_linearLength 0 = .ok (.aload_n 0, 1) := dk_42 (dk_at dksX1_linearLength_0 0 rfl rfl)
theorem dX1_linearLength_1 : decode cX1_linearLength 1 = .ok (.getfield 177, 3) := dk_180 0 177 (dk_at dksX1_linearLength_0 1 rfl rfl)
theorem dX1_linearLength_4 : decode cX1_linearLength 4 = .ok (.invokevirtual 307, 3) := dk_182 1 51 (dk_at dksX1_linearLength_0 4 rfl rfl)
theorem dX1_linearLength_7 : decode cX1_linearLength 7 = .ok (.invokevirtual 310, 3) := dk_182 1 54 (dk_at dksX1_linearLength_0 7 rfl rfl)
theorem dX1_linearLength_10 : decode cX1_linearLength 10 = .ok (.ireturn, 1) := dk_172 (dk_at dksX1_linearLength_0 10 rfl rfl)
abbrev cX1_moveVertically : ByteArray := prog_1_method_28_code
def yX1_moveVertically : MethodName := ⟨RX1, "moveVertically", "(Z)I"⟩
def dkwX1_moveVertically_0 : List UInt8 := [42, 180, 0, 177, 27, 182, 1, 68, 153, 0, 13, 42, 180, 0, 177, 182, 1, 4, 167, 0, 5, 16, 247, 172]
abbrev dktX1_moveVertically_0 : List UInt8 := dkwX1_moveVertically_0 ++ []
theorem dksX1_moveVertically_0 : cX1_moveVertically.data.toList.drop 0 = dktX1_moveVertically_0 := by decide +kernel
theorem dX1_moveVertically_0 : decode cX1_moveVertically 0 = .ok (.aload_n 0, 1) := dk_42 (dk_at dksX1_moveVertically_0 0 rfl rfl)
theorem dX1_moveVertically_1 : decode cX1_moveVertically 1 = .ok (.getfield 177, 3) := dk_180 0 177 (dk_at dksX1_moveVertically_0 1 rfl rfl)
theorem dX1_moveVertically_4 : decode cX1_moveVertically 4 = .ok (.iload_n 1, 1) := dk_27 (dk_at dksX1_moveVertically_0 4 rfl rfl)
theorem dX1_moveVertically_5 : decode cX1_moveVertically 5 = .ok (.invokevirtual 324, 3) := dk_182 1 68 (dk_at dksX1_moveVertically_0 5 rfl rfl)
theorem dX1_moveVertically_8 : decode cX1_moveVertically 8 = .ok (.ifCond .eq 13, 3) := dk_153 0 13 (dk_at dksX1_moveVertically_0 8 rfl rfl)
theorem dX1_moveVertically_11 : decode cX1_moveVertically 11 = .ok (.aload_n 0, 1) := dk_42 (dk_at dksX1_moveVertically_0 11 rfl rfl)
theorem dX1_moveVertically_12 : decode cX1_moveVertically 12 = .ok (.getfield 177, 3) := dk_180 0 177 (dk_at dksX1_moveVertically_0 12 rfl rfl)
theorem dX1_moveVertically_15 : decode cX1_moveVertically 15 = .ok (.invokevirtual 260, 3) := dk_182 1 4 (dk_at dksX1_moveVertically_0 15 rfl rfl)
theorem dX1_moveVertically_18 : decode cX1_moveVertically 18 = .ok (.goto 5, 3) := dk_167 0 5 (dk_at dksX1_moveVertically_0 18 rfl rfl)
theorem dX1_moveVertically_21 : decode cX1_moveVertically 21 = .ok (.bipush (-9), 2) := dk_16 247 (dk_at dksX1_moveVertically_0 21 rfl rfl)
theorem dX1_moveVertically_23 : decode cX1_moveVertically 23 = .ok (.ireturn, 1) := dk_172 (dk_at dksX1_moveVertically_0 23 rfl rfl)
abbrev cX1_append : ByteArray := prog_1_method_16_code
def yX1_append : MethodName := ⟨RX1, "append", "(I)I"⟩
def dkwX1_append_2 : List UInt8 := [96, 181, 0, 229, 42, 180, 0, 229, 172]
abbrev dktX1_append_2 : List UInt8 := dkwX1_append_2 ++ []
def dkwX1_append_1 : List UInt8 := [167, 0, 4, 3, 184, 0, 209, 42, 180, 0, 195, 42, 180, 0, 229, 27, 146, 85, 42, 89, 180, 0, 229, 4]
abbrev dktX1_append_1 : List UInt8 := dkwX1_append_1 ++ dktX1_append_2
def dkwX1_append_0 : List UInt8 := [27, 133, 9, 20, 0, 224, 184, 0, 19, 184, 0, 226, 42, 180, 0, 229, 16, 120, 162, 0, 7, 4]
abbrev dktX1_append_0 : List UInt8 := dkwX1_append_0 ++ dktX1_append_1
theorem dksX1_append_0 : cX1_append.data.toList.drop 0 = dktX1_append_0 := by decide +kernel
theorem dksX1_append_1 : cX1_append.data.toList.drop 22 = dktX1_append_1 := dk_seg dksX1_append_0 22 rfl rfl
theorem dksX1_append_2 : cX1_append.data.toList.drop 46 = dktX1_append_2 := dk_seg dksX1_append_1 24 rfl rfl
theorem dX1_append_0 : decode cX1_append 0 = .ok (.iload_n 1, 1) := dk_27 (dk_at dksX1_append_0 0 rfl rfl)
theorem dX1_append_1 : decode cX1_append 1 = .ok (.i2l, 1) := dk_133 (dk_at dksX1_append_0 1 rfl rfl)
theorem dX1_append_2 : decode cX1_append 2 = .ok (.lconst 0, 1) := dk_9 (dk_at dksX1_append_0 2 rfl rfl)
theorem dX1_append_3 : decode cX1_append 3 = .ok (.ldc2_w 224, 3) := dk_20 0 224 (dk_at dksX1_append_0 3 rfl rfl)
theorem dX1_append_6 : decode cX1_append 6 = .ok (.invokestatic 19, 3) := dk_184 0 19 (dk_at dksX1_append_0 6 rfl rfl)
theorem dX1_append_9 : decode cX1_append 9 = .ok (.invokestatic 226, 3) := dk_184 0 226 (dk_at dksX1_append_0 9 rfl rfl)
theorem dX1_append_12 : decode cX1_append 12 = .ok (.aload_n 0, 1) := dk_42 (dk_at dksX1_append_0 12 rfl rfl)
theorem dX1_append_13 : decode cX1_append 13 = .ok (.getfield 229, 3) := dk_180 0 229 (dk_at dksX1_append_0 13 rfl rfl)
theorem dX1_append_16 : decode cX1_append 16 = .ok (.bipush 120, 2) := dk_16 120 (dk_at dksX1_append_0 16 rfl rfl)
theorem dX1_append_18 : decode cX1_append 18 = .ok (.if_icmp .ge 7, 3) := dk_162 0 7 (dk_at dksX1_append_0 18 rfl rfl)
theorem dX1_append_21 : decode cX1_append 21 = .ok (.iconst 1, 1) := dk_4 (dk_at dksX1_append_0 21 rfl rfl)
theorem dX1_append_22 : decode cX1_append 22 = .ok (.goto 4, 3) := dk_167 0 4 (dk_at dksX1_append_1 0 rfl rfl)
theorem dX1_append_25 : decode cX1_append 25 = .ok (.iconst 0, 1) := dk_3 (dk_at dksX1_append_1 3 rfl rfl)
theorem dX1_append_26 : decode cX1_append 26 = .ok (.invokestatic 209, 3) := dk_184 0 209 (dk_at dksX1_append_1 4 rfl rfl)
theorem dX1_append_29 : decode cX1_append 29 = .ok (.aload_n 0, 1) := dk_42 (dk_at dksX1_append_1 7 rfl rfl)
theorem dX1_append_30 : decode cX1_append 30 = .ok (.getfield 195, 3) := dk_180 0 195 (dk_at dksX1_append_1 8 rfl rfl)
theorem dX1_append_33 : decode cX1_append 33 = .ok (.aload_n 0, 1) := dk_42 (dk_at dksX1_append_1 11 rfl rfl)
theorem dX1_append_34 : decode cX1_append 34 = .ok (.getfield 229, 3) := dk_180 0 229 (dk_at dksX1_append_1 12 rfl rfl)
theorem dX1_append_37 : decode cX1_append 37 = .ok (.iload_n 1, 1) := dk_27 (dk_at dksX1_append_1 15 rfl rfl)
theorem dX1_append_38 : decode cX1_append 38 = .ok (.i2c, 1) := dk_146 (dk_at dksX1_append_1 16 rfl rfl)
theorem dX1_append_39 : decode cX1_append 39 = .ok (.castore, 1) := dk_85 (dk_at dksX1_append_1 17 rfl rfl)
theorem dX1_append_40 : decode cX1_append 40 = .ok (.aload_n 0, 1) := dk_42 (dk_at dksX1_append_1 18 rfl rfl)
theorem dX1_append_41 : decode cX1_append 41 = .ok (.dup, 1) := dk_89 (dk_at dksX1_append_1 19 rfl rfl)
theorem dX1_append_42 : decode cX1_append 42 = .ok (.getfield 229, 3) := dk_180 0 229 (dk_at dksX1_append_1 20 rfl rfl)
theorem dX1_append_45 : decode cX1_append 45 = .ok (.iconst 1, 1) := dk_4 (dk_at dksX1_append_1 23 rfl rfl)
theorem dX1_append_46 : decode cX1_append 46 = .ok (.iadd, 1) := dk_96 (dk_at dksX1_append_2 0 rfl rfl)
theorem dX1_append_47 : decode cX1_append 47 = .ok (.putfield 229, 3) := dk_181 0 229 (dk_at dksX1_append_2 1 rfl rfl)
theorem dX1_append_50 : decode cX1_append 50 = .ok (.aload_n 0, 1) := dk_42 (dk_at dksX1_append_2 4 rfl rfl)
theorem dX1_append_51 : decode cX1_append 51 = .ok (.getfield 229, 3) := dk_180 0 229 (dk_at dksX1_append_2 5 rfl rfl)
theorem dX1_append_54 : decode cX1_append 54 = .ok (.ireturn, 1) := dk_172 (dk_at dksX1_append_2 8 rfl rfl)
abbrev cX1_demandArgument : ByteArray := prog_1_method_3_code
def yX1_demandArgument : MethodName := ⟨RX1, "demandArgument", "(Z)V"⟩
def dkwX1_demandArgument_0 : List UInt8 := [26, 154, 0, 11, 187, 0, 7, 89, 183, 0, 9, 191, 177]
abbrev dktX1_demandArgument_0 : List UInt8 := dkwX1_demandArgument_0 ++ []
theorem dksX1_demandArgument_0 : cX1_demandArgument.data.toList.drop 0 = dktX1_demandArgument_0 := by decide +kernel
theorem dX1_demandArgument_0 : decode cX1_demandArgument 0 = .ok (.iload_n 0, 1) := dk_26 (dk_at dksX1_demandArgument_0 0 rfl rfl)
theorem dX1_demandArgument_1 : decode cX1_demandArgument 1 = .ok (.ifCond .ne 11, 3) := dk_154 0 11 (dk_at dksX1_demandArgument_0 1 rfl rfl)
theorem dX1_demandArgument_4 : decode cX1_demandArgument 4 = .ok (.new 7, 3) := dk_187 0 7 (dk_at dksX1_demandArgument_0 4 rfl rfl)
theorem dX1_demandArgument_7 : decode cX1_demandArgument 7 = .ok (.dup, 1) := dk_89 (dk_at dksX1_demandArgument_0 7 rfl rfl)
theorem dX1_demandArgument_8 : decode cX1_demandArgument 8 = .ok (.invokespecial 9, 3) := dk_183 0 9 (dk_at dksX1_demandArgument_0 8 rfl rfl)
theorem dX1_demandArgument_11 : decode cX1_demandArgument 11 = .ok (.athrow, 1) := dk_191 (dk_at dksX1_demandArgument_0 11 rfl rfl)
theorem dX1_demandArgument_12 : decode cX1_demandArgument 12 = .ok (.return_, 1) := dk_177 (dk_at dksX1_demandArgument_0 12 rfl rfl)
abbrev cX1_demandState : ByteArray := prog_1_method_4_code
def yX1_demandState : MethodName := ⟨RX1, "demandState", "(Z)V"⟩
def dkwX1_demandState_0 : List UInt8 := [26, 154, 0, 11, 187, 0, 10, 89, 183, 0, 12, 191, 177]
abbrev dktX1_demandState_0 : List UInt8 := dkwX1_demandState_0 ++ []
theorem dksX1_demandState_0 : cX1_demandState.data.toList.drop 0 = dktX1_demandState_0 := by decide +kernel
theorem dX1_demandState_0 : decode cX1_demandState 0 = .ok (.iload_n 0, 1) := dk_26 (dk_at dksX1_demandState_0 0 rfl rfl)
theorem dX1_demandState_1 : decode cX1_demandState 1 = .ok (.ifCond .ne 11, 3) := dk_154 0 11 (dk_at dksX1_demandState_0 1 rfl rfl)
theorem dX1_demandState_4 : decode cX1_demandState 4 = .ok (.new 10, 3) := dk_187 0 10 (dk_at dksX1_demandState_0 4 rfl rfl)
theorem dX1_demandState_7 : decode cX1_demandState 7 = .ok (.dup, 1) := dk_89 (dk_at dksX1_demandState_0 7 rfl rfl)
theorem dX1_demandState_8 : decode cX1_demandState 8 = .ok (.invokespecial 12, 3) := dk_183 0 12 (dk_at dksX1_demandState_0 8 rfl rfl)
theorem dX1_demandState_11 : decode cX1_demandState 11 = .ok (.athrow, 1) := dk_191 (dk_at dksX1_demandState_0 11 rfl rfl)
theorem dX1_demandState_12 : decode cX1_demandState 12 = .ok (.return_, 1) := dk_177 (dk_at dksX1_demandState_0 12 rfl rfl)
abbrev cX1_load : ByteArray := prog_1_method_19_code
def yX1_load : MethodName := ⟨RX1, "load", "()I"⟩
def dkwX1_load_3 : List UInt8 := [180, 0, 192, 4, 1, 83, 43, 182, 0, 253, 172]
abbrev dktX1_load_3 : List UInt8 := dkwX1_load_3 ++ []
def dkwX1_load_2 : List UInt8 := [43, 183, 0, 174, 181, 0, 177, 42, 180, 0, 188, 185, 0, 250, 1, 0, 42, 180, 0, 192, 3, 1, 83, 42]
abbrev dktX1_load_2 : List UInt8 := dkwX1_load_2 ++ dktX1_load_3
def dkwX1_load_1 : List UInt8 := [163, 0, 15, 43, 182, 0, 247, 8, 163, 0, 7, 4, 167, 0, 4, 3, 184, 0, 209, 42, 187, 0, 171, 89]
abbrev dktX1_load_1 : List UInt8 := dkwX1_load_1 ++ dktX1_load_2
def dkwX1_load_0 : List UInt8 := [187, 0, 232, 89, 42, 183, 0, 234, 182, 0, 237, 76, 43, 198, 0, 24, 43, 182, 0, 244, 16, 60]
abbrev dktX1_load_0 : List UInt8 := dkwX1_load_0 ++ dktX1_load_1
theorem dksX1_load_0 : cX1_load.data.toList.drop 0 = dktX1_load_0 := by decide +kernel
theorem dksX1_load_1 : cX1_load.data.toList.drop 22 = dktX1_load_1 := dk_seg dksX1_load_0 22 rfl rfl
theorem dksX1_load_2 : cX1_load.data.toList.drop 46 = dktX1_load_2 := dk_seg dksX1_load_1 24 rfl rfl
theorem dksX1_load_3 : cX1_load.data.toList.drop 70 = dktX1_load_3 := dk_seg dksX1_load_2 24 rfl rfl
theorem dX1_load_0 : decode cX1_load 0 = .ok (.new 232, 3) := dk_187 0 232 (dk_at dksX1_load_0 0 rfl rfl)
theorem dX1_load_3 : decode cX1_load 3 = .ok (.dup, 1) := dk_89 (dk_at dksX1_load_0 3 rfl rfl)
theorem dX1_load_4 : decode cX1_load 4 = .ok (.aload_n 0, 1) := dk_42 (dk_at dksX1_load_0 4 rfl rfl)
theorem dX1_load_5 : decode cX1_load 5 = .ok (.invokespecial 234, 3) := dk_183 0 234 (dk_at dksX1_load_0 5 rfl rfl)
theorem dX1_load_8 : decode cX1_load 8 = .ok (.invokevirtual 237, 3) := dk_182 0 237 (dk_at dksX1_load_0 8 rfl rfl)
theorem dX1_load_11 : decode cX1_load 11 = .ok (.astore_n 1, 1) := dk_76 (dk_at dksX1_load_0 11 rfl rfl)
theorem dX1_load_12 : decode cX1_load 12 = .ok (.aload_n 1, 1) := dk_43 (dk_at dksX1_load_0 12 rfl rfl)
theorem dX1_load_13 : decode cX1_load 13 = .ok (.ifnull 24, 3) := dk_198 0 24 (dk_at dksX1_load_0 13 rfl rfl)
theorem dX1_load_16 : decode cX1_load 16 = .ok (.aload_n 1, 1) := dk_43 (dk_at dksX1_load_0 16 rfl rfl)
theorem dX1_load_17 : decode cX1_load 17 = .ok (.invokevirtual 244, 3) := dk_182 0 244 (dk_at dksX1_load_0 17 rfl rfl)
theorem dX1_load_20 : decode cX1_load 20 = .ok (.bipush 60, 2) := dk_16 60 (dk_at dksX1_load_0 20 rfl rfl)
theorem dX1_load_22 : decode cX1_load 22 = .ok (.if_icmp .gt 15, 3) := dk_163 0 15 (dk_at dksX1_load_1 0 rfl rfl)
theorem dX1_load_25 : decode cX1_load 25 = .ok (.aload_n 1, 1) := dk_43 (dk_at dksX1_load_1 3 rfl rfl)
theorem dX1_load_26 : decode cX1_load 26 = .ok (.invokevirtual 247, 3) := dk_182 0 247 (dk_at dksX1_load_1 4 rfl rfl)
theorem dX1_load_29 : decode cX1_load 29 = .ok (.iconst 5, 1) := dk_8 (dk_at dksX1_load_1 7 rfl rfl)
theorem dX1_load_30 : decode cX1_load 30 = .ok (.if_icmp .gt 7, 3) := dk_163 0 7 (dk_at dksX1_load_1 8 rfl rfl)
theorem dX1_load_33 : decode cX1_load 33 = .ok (.iconst 1, 1) := dk_4 (dk_at dksX1_load_1 11 rfl rfl)
theorem dX1_load_34 : decode cX1_load 34 = .ok (.goto 4, 3) := dk_167 0 4 (dk_at dksX1_load_1 12 rfl rfl)
theorem dX1_load_37 : decode cX1_load 37 = .ok (.iconst 0, 1) := dk_3 (dk_at dksX1_load_1 15 rfl rfl)
theorem dX1_load_38 : decode cX1_load 38 = .ok (.invokestatic 209, 3) := dk_184 0 209 (dk_at dksX1_load_1 16 rfl rfl)
theorem dX1_load_41 : decode cX1_load 41 = .ok (.aload_n 0, 1) := dk_42 (dk_at dksX1_load_1 19 rfl rfl)
theorem dX1_load_42 : decode cX1_load 42 = .ok (.new 171, 3) := dk_187 0 171 (dk_at dksX1_load_1 20 rfl rfl)
theorem dX1_load_45 : decode cX1_load 45 = .ok (.dup, 1) := dk_89 (dk_at dksX1_load_1 23 rfl rfl)
theorem dX1_load_46 : decode cX1_load 46 = .ok (.aload_n 1, 1) := dk_43 (dk_at dksX1_load_2 0 rfl rfl)
theorem dX1_load_47 : decode cX1_load 47 = .ok (.invokespecial 174, 3) := dk_183 0 174 (dk_at dksX1_load_2 1 rfl rfl)
theorem dX1_load_50 : decode cX1_load 50 = .ok (.putfield 177, 3) := dk_181 0 177 (dk_at dksX1_load_2 4 rfl rfl)
theorem dX1_load_53 : decode cX1_load 53 = .ok (.aload_n 0, 1) := dk_42 (dk_at dksX1_load_2 7 rfl rfl)
theorem dX1_load_54 : decode cX1_load 54 = .ok (.getfield 188, 3) := dk_180 0 188 (dk_at dksX1_load_2 8 rfl rfl)
theorem dX1_load_57 : decode cX1_load 57 = .ok (.invokeinterface 250 1, 5) := by decide +kernel
theorem dX1_load_62 : decode cX1_load 62 = .ok (.aload_n 0, 1) := dk_42 (dk_at dksX1_load_2 16 rfl rfl)
theorem dX1_load_63 : decode cX1_load 63 = .ok (.getfield 192, 3) := dk_180 0 192 (dk_at dksX1_load_2 17 rfl rfl)
theorem dX1_load_66 : decode cX1_load 66 = .ok (.iconst 0, 1) := dk_3 (dk_at dksX1_load_2 20 rfl rfl)
theorem dX1_load_67 : decode cX1_load 67 = .ok (.aconst_null, 1) := dk_1 (dk_at dksX1_load_2 21 rfl rfl)
theorem dX1_load_68 : decode cX1_load 68 = .ok (.aastore, 1) := dk_83 (dk_at dksX1_load_2 22 rfl rfl)
theorem dX1_load_69 : decode cX1_load 69 = .ok (.aload_n 0, 1) := dk_42 (dk_at dksX1_load_2 23 rfl rfl)
theorem dX1_load_70 : decode cX1_load 70 = .ok (.getfield 192, 3) := dk_180 0 192 (dk_at dksX1_load_3 0 rfl rfl)
theorem dX1_load_73 : decode cX1_load 73 = .ok (.iconst 1, 1) := dk_4 (dk_at dksX1_load_3 3 rfl rfl)
theorem dX1_load_74 : decode cX1_load 74 = .ok (.aconst_null, 1) := dk_1 (dk_at dksX1_load_3 4 rfl rfl)
theorem dX1_load_75 : decode cX1_load 75 = .ok (.aastore, 1) := dk_83 (dk_at dksX1_load_3 5 rfl rfl)
theorem dX1_load_76 : decode cX1_load 76 = .ok (.aload_n 1, 1) := dk_43 (dk_at dksX1_load_3 6 rfl rfl)
theorem dX1_load_77 : decode cX1_load 77 = .ok (.invokevirtual 253, 3) := dk_182 0 253 (dk_at dksX1_load_3 7 rfl rfl)
theorem dX1_load_80 : decode cX1_load 80 = .ok (.ireturn, 1) := dk_172 (dk_at dksX1_load_3 10 rfl rfl)
abbrev cX1_about : ByteArray := prog_1_method_20_code
def yX1_about : MethodName := ⟨RX1, "about", "(I)I"⟩
def dkwX1_about_4 : List UInt8 := [180, 0, 254, 182, 1, 10, 172, 42, 180, 0, 181, 182, 0, 253, 172, 187, 0, 7, 89, 183, 0, 9, 191]
abbrev dktX1_about_4 : List UInt8 := dkwX1_about_4 ++ []
def dkwX1_about_3 : List UInt8 := [180, 0, 177, 182, 1, 4, 172, 42, 180, 0, 177, 180, 0, 254, 182, 1, 7, 172, 42, 180, 0, 177]
abbrev dktX1_about_3 : List UInt8 := dkwX1_about_3 ++ dktX1_about_4
def dkwX1_about_2 : List UInt8 := [42, 180, 0, 177, 180, 0, 254, 182, 0, 253, 172, 42, 180, 0, 177, 180, 0, 254, 182, 1, 1, 172, 42]
abbrev dktX1_about_2 : List UInt8 := dkwX1_about_2 ++ dktX1_about_3
def dkwX1_about_1 : List UInt8 := [170, 0, 0, 0, 0, 0, 99, 0, 0, 0, 0, 0, 0, 0, 5, 0, 0, 0, 39, 0, 0, 0, 50, 0, 0, 0, 61, 0, 0, 0, 69, 0, 0, 0, 80, 0, 0, 0, 91]
abbrev dktX1_about_1 : List UInt8 := dkwX1_about_1 ++ dktX1_about_2
def dkwX1_about_0 : List UInt8 := [27]
abbrev dktX1_about_0 : List UInt8 := dkwX1_about_0 ++ dktX1_about_1
theorem dksX1_about_0 : cX1_about.data.toList.drop 0 = dktX1_about_0 := by decide +kernel
theorem dksX1_about_1 : cX1_about.data.toList.drop 1 = dktX1_about_1 := dk_seg dksX1_about_0 1 rfl rfl
theorem dksX1_about_2 : cX1_about.data.toList.drop 40 = dktX1_about_2 := dk_seg dksX1_about_1 39 rfl rfl
theorem dksX1_about_3 : cX1_about.data.toList.drop 63 = dktX1_about_3 := dk_seg dksX1_about_2 23 rfl rfl
theorem dksX1_about_4 : cX1_about.data.toList.drop 85 = dktX1_about_4 := dk_seg dksX1_about_3 22 rfl rfl
theorem dX1_about_0 : decode cX1_about 0 = .ok (.iload_n 1, 1) := dk_27 (dk_at dksX1_about_0 0 rfl rfl)
theorem dX1_about_1 : decode cX1_about 1 = .ok (.tableswitch 99 0 5 #[39, 50, 61, 69, 80, 91], 39) := by decide +kernel
theorem dX1_about_40 : decode cX1_about 40 = .ok (.aload_n 0, 1) := dk_42 (dk_at dksX1_about_2 0 rfl rfl)
theorem dX1_about_41 : decode cX1_about 41 = .ok (.getfield 177, 3) := dk_180 0 177 (dk_at dksX1_about_2 1 rfl rfl)
theorem dX1_about_44 : decode cX1_about 44 = .ok (.getfield 254, 3) := dk_180 0 254 (dk_at dksX1_about_2 4 rfl rfl)
theorem dX1_about_47 : decode cX1_about 47 = .ok (.invokevirtual 253, 3) := dk_182 0 253 (dk_at dksX1_about_2 7 rfl rfl)
theorem dX1_about_50 : decode cX1_about 50 = .ok (.ireturn, 1) := dk_172 (dk_at dksX1_about_2 10 rfl rfl)
theorem dX1_about_51 : decode cX1_about 51 = .ok (.aload_n 0, 1) := dk_42 (dk_at dksX1_about_2 11 rfl rfl)
theorem dX1_about_52 : decode cX1_about 52 = .ok (.getfield 177, 3) := dk_180 0 177 (dk_at dksX1_about_2 12 rfl rfl)
theorem dX1_about_55 : decode cX1_about 55 = .ok (.getfield 254, 3) := dk_180 0 254 (dk_at dksX1_about_2 15 rfl rfl)
theorem dX1_about_58 : decode cX1_about 58 = .ok (.invokevirtual 257, 3) := dk_182 1 1 (dk_at dksX1_about_2 18 rfl rfl)
theorem dX1_about_61 : decode cX1_about 61 = .ok (.ireturn, 1) := dk_172 (dk_at dksX1_about_2 21 rfl rfl)
theorem dX1_about_62 : decode cX1_about 62 = .ok (.aload_n 0, 1) := dk_42 (dk_at dksX1_about_2 22 rfl rfl)
theorem dX1_about_63 : decode cX1_about 63 = .ok (.getfield 177, 3) := dk_180 0 177 (dk_at dksX1_about_3 0 rfl rfl)
theorem dX1_about_66 : decode cX1_about 66 = .ok (.invokevirtual 260, 3) := dk_182 1 4 (dk_at dksX1_about_3 3 rfl rfl)
theorem dX1_about_69 : decode cX1_about 69 = .ok (.ireturn, 1) := dk_172 (dk_at dksX1_about_3 6 rfl rfl)
theorem dX1_about_70 : decode cX1_about 70 = .ok (.aload_n 0, 1) := dk_42 (dk_at dksX1_about_3 7 rfl rfl)
theorem dX1_about_71 : decode cX1_about 71 = .ok (.getfield 177, 3) := dk_180 0 177 (dk_at dksX1_about_3 8 rfl rfl)
theorem dX1_about_74 : decode cX1_about 74 = .ok (.getfield 254, 3) := dk_180 0 254 (dk_at dksX1_about_3 11 rfl rfl)
theorem dX1_about_77 : decode cX1_about 77 = .ok (.invokevirtual 263, 3) := dk_182 1 7 (dk_at dksX1_about_3 14 rfl rfl)
theorem dX1_about_80 : decode cX1_about 80 = .ok (.ireturn, 1) := dk_172 (dk_at dksX1_about_3 17 rfl rfl)
theorem dX1_about_81 : decode cX1_about 81 = .ok (.aload_n 0, 1) := dk_42 (dk_at dksX1_about_3 18 rfl rfl)
theorem dX1_about_82 : decode cX1_about 82 = .ok (.getfield 177, 3) := dk_180 0 177 (dk_at dksX1_about_3 19 rfl rfl)
theorem dX1_about_85 : decode cX1_about 85 = .ok (.getfield 254, 3) := dk_180 0 254 (dk_at dksX1_about_4 0 rfl rfl)
theorem dX1_about_88 : decode cX1_about 88 = .ok (.invokevirtual 266, 3) := dk_182 1 10 (dk_at dksX1_about_4 3 rfl rfl)
theorem dX1_about_91 : decode cX1_about 91 = .ok (.ireturn, 1) := dk_172 (dk_at dksX1_about_4 6 rfl rfl)
theorem dX1_about_92 : decode cX1_about 92 = .ok (.aload_n 0, 1) := dk_42 (dk_at dksX1_about_4 7 rfl rfl)
theorem dX1_about_93 : decode cX1_about 93 = .ok (.getfield 181, 3) := dk_180 0 181 (dk_at dksX1_about_4 8 rfl rfl)
theorem dX1_about_96 : decode cX1_about 96 = .ok (.invokevirtual 253, 3) := dk_182 0 253 (dk_at dksX1_about_4 11 rfl rfl)
theorem dX1_about_99 : decode cX1_about 99 = .ok (.ireturn, 1) := dk_172 (dk_at dksX1_about_4 14 rfl rfl)
theorem dX1_about_100 : decode cX1_about 100 = .ok (.new 7, 3) := dk_187 0 7 (dk_at dksX1_about_4 15 rfl rfl)
theorem dX1_about_103 : decode cX1_about 103 = .ok (.dup, 1) := dk_89 (dk_at dksX1_about_4 18 rfl rfl)
theorem dX1_about_104 : decode cX1_about 104 = .ok (.invokespecial 9, 3) := dk_183 0 9 (dk_at dksX1_about_4 19 rfl rfl)
theorem dX1_about_107 : decode cX1_about 107 = .ok (.athrow, 1) := dk_191 (dk_at dksX1_about_4 22 rfl rfl)
abbrev cX1_place : ByteArray := prog_1_method_22_code
def yX1_place : MethodName := ⟨RX1, "place", "(II)I"⟩
def dkwX1_place_8 : List UInt8 := [182, 0, 124, 167, 0, 5, 16, 247, 172]
abbrev dktX1_place_8 : List UInt8 := dkwX1_place_8 ++ []
def dkwX1_place_7 : List UInt8 := [162, 0, 28, 45, 180, 1, 25, 180, 0, 44, 45, 180, 1, 31, 185, 0, 60, 2, 0, 192, 0, 112]
abbrev dktX1_place_7 : List UInt8 := dkwX1_place_7 ++ dktX1_place_8
def dkwX1_place_6 : List UInt8 := [180, 1, 25, 180, 1, 38, 172, 45, 180, 1, 31, 45, 180, 1, 25, 180, 0, 44, 185, 0, 56, 1, 0]
abbrev dktX1_place_6 : List UInt8 := dkwX1_place_6 ++ dktX1_place_7
def dkwX1_place_5 : List UInt8 := [180, 1, 34, 180, 0, 78, 172, 45, 180, 1, 25, 180, 1, 34, 199, 0, 7, 3, 167, 0, 10, 45]
abbrev dktX1_place_5 : List UInt8 := dkwX1_place_5 ++ dktX1_place_6
def dkwX1_place_4 : List UInt8 := [185, 0, 56, 1, 0, 172, 45, 180, 1, 25, 180, 1, 34, 199, 0, 7, 3, 167, 0, 13, 45, 180, 1, 25]
abbrev dktX1_place_4 : List UInt8 := dkwX1_place_4 ++ dktX1_place_5
def dkwX1_place_3 : List UInt8 := [45, 180, 1, 25, 182, 1, 28, 172, 45, 180, 1, 31, 172, 45, 180, 1, 25, 180, 0, 44]
abbrev dktX1_place_3 : List UInt8 := dkwX1_place_3 ++ dktX1_place_4
def dkwX1_place_2 : List UInt8 := [170, 0, 0, 0, 0, 107, 0, 0, 0, 0, 0, 0, 0, 4, 0, 0, 0, 34, 0, 0, 0, 42, 0, 0, 0, 47, 0, 0, 0, 60, 0, 0, 0, 85]
abbrev dktX1_place_2 : List UInt8 := dkwX1_place_2 ++ dktX1_place_3
def dkwX1_place_1 : List UInt8 := [180, 0, 177, 180, 0, 254, 183, 0, 174, 78, 45, 27, 182, 1, 22, 28]
abbrev dktX1_place_1 : List UInt8 := dkwX1_place_1 ++ dktX1_place_2
def dkwX1_place_0 : List UInt8 := [42, 27, 182, 1, 16, 28, 133, 9, 20, 1, 20, 184, 0, 19, 184, 0, 226, 187, 0, 171, 89, 42]
abbrev dktX1_place_0 : List UInt8 := dkwX1_place_0 ++ dktX1_place_1
theorem dksX1_place_0 : cX1_place.data.toList.drop 0 = dktX1_place_0 := by decide +kernel
theorem dksX1_place_1 : cX1_place.data.toList.drop 22 = dktX1_place_1 := dk_seg dksX1_place_0 22 rfl rfl
theorem dksX1_place_2 : cX1_place.data.toList.drop 38 = dktX1_place_2 := dk_seg dksX1_place_1 16 rfl rfl
theorem dksX1_place_3 : cX1_place.data.toList.drop 72 = dktX1_place_3 := dk_seg dksX1_place_2 34 rfl rfl
theorem dksX1_place_4 : cX1_place.data.toList.drop 92 = dktX1_place_4 := dk_seg dksX1_place_3 20 rfl rfl
theorem dksX1_place_5 : cX1_place.data.toList.drop 116 = dktX1_place_5 := dk_seg dksX1_place_4 24 rfl rfl
theorem dksX1_place_6 : cX1_place.data.toList.drop 138 = dktX1_place_6 := dk_seg dksX1_place_5 22 rfl rfl
theorem dksX1_place_7 : cX1_place.data.toList.drop 161 = dktX1_place_7 := dk_seg dksX1_place_6 23 rfl rfl
theorem dksX1_place_8 : cX1_place.data.toList.drop 183 = dktX1_place_8 := dk_seg dksX1_place_7 22 rfl rfl
theorem dX1_place_0 : decode cX1_place 0 = .ok (.aload_n 0, 1) := dk_42 (dk_at dksX1_place_0 0 rfl rfl)
theorem dX1_place_1 : decode cX1_place 1 = .ok (.iload_n 1, 1) := dk_27 (dk_at dksX1_place_0 1 rfl rfl)
theorem dX1_place_2 : decode cX1_place 2 = .ok (.invokevirtual 272, 3) := dk_182 1 16 (dk_at dksX1_place_0 2 rfl rfl)
theorem dX1_place_5 : decode cX1_place 5 = .ok (.iload_n 2, 1) := dk_28 (dk_at dksX1_place_0 5 rfl rfl)
theorem dX1_place_6 : decode cX1_place 6 = .ok (.i2l, 1) := dk_133 (dk_at dksX1_place_0 6 rfl rfl)
theorem dX1_place_7 : decode cX1_place 7 = .ok (.lconst 0, 1) := dk_9 (dk_at dksX1_place_0 7 rfl rfl)
theorem dX1_place_8 : decode cX1_place 8 = .ok (.ldc2_w 276, 3) := dk_20 1 20 (dk_at dksX1_place_0 8 rfl rfl)
theorem dX1_place_11 : decode cX1_place 11 = .ok (.invokestatic 19, 3) := dk_184 0 19 (dk_at dksX1_place_0 11 rfl rfl)
theorem dX1_place_14 : decode cX1_place 14 = .ok (.invokestatic 226, 3) := dk_184 0 226 (dk_at dksX1_place_0 14 rfl rfl)
theorem dX1_place_17 : decode cX1_place 17 = .ok (.new 171, 3) := dk_187 0 171 (dk_at dksX1_place_0 17 rfl rfl)
theorem dX1_place_20 : decode cX1_place 20 = .ok (.dup, 1) := dk_89 (dk_at dksX1_place_0 20 rfl rfl)
theorem dX1_place_21 : decode cX1_place 21 = .ok (.aload_n 0, 1) := dk_42 (dk_at dksX1_place_0 21 rfl rfl)
theorem dX1_place_22 : decode cX1_place 22 = .ok (.getfield 177, 3) := dk_180 0 177 (dk_at dksX1_place_1 0 rfl rfl)
theorem dX1_place_25 : decode cX1_place 25 = .ok (.getfield 254, 3) := dk_180 0 254 (dk_at dksX1_place_1 3 rfl rfl)
theorem dX1_place_28 : decode cX1_place 28 = .ok (.invokespecial 174, 3) := dk_183 0 174 (dk_at dksX1_place_1 6 rfl rfl)
theorem dX1_place_31 : decode cX1_place 31 = .ok (.astore_n 3, 1) := dk_78 (dk_at dksX1_place_1 9 rfl rfl)
theorem dX1_place_32 : decode cX1_place 32 = .ok (.aload_n 3, 1) := dk_45 (dk_at dksX1_place_1 10 rfl rfl)
theorem dX1_place_33 : decode cX1_place 33 = .ok (.iload_n 1, 1) := dk_27 (dk_at dksX1_place_1 11 rfl rfl)
theorem dX1_place_34 : decode cX1_place 34 = .ok (.invokevirtual 278, 3) := dk_182 1 22 (dk_at dksX1_place_1 12 rfl rfl)
theorem dX1_place_37 : decode cX1_place 37 = .ok (.iload_n 2, 1) := dk_28 (dk_at dksX1_place_1 15 rfl rfl)
theorem dX1_place_38 : decode cX1_place 38 = .ok (.tableswitch 107 0 4 #[34, 42, 47, 60, 85], 34) := by decide +kernel
theorem dX1_place_72 : decode cX1_place 72 = .ok (.aload_n 3, 1) := dk_45 (dk_at dksX1_place_3 0 rfl rfl)
theorem dX1_place_73 : decode cX1_place 73 = .ok (.getfield 281, 3) := dk_180 1 25 (dk_at dksX1_place_3 1 rfl rfl)
theorem dX1_place_76 : decode cX1_place 76 = .ok (.invokevirtual 284, 3) := dk_182 1 28 (dk_at dksX1_place_3 4 rfl rfl)
theorem dX1_place_79 : decode cX1_place 79 = .ok (.ireturn, 1) := dk_172 (dk_at dksX1_place_3 7 rfl rfl)
theorem dX1_place_80 : decode cX1_place 80 = .ok (.aload_n 3, 1) := dk_45 (dk_at dksX1_place_3 8 rfl rfl)
theorem dX1_place_81 : decode cX1_place 81 = .ok (.getfield 287, 3) := dk_180 1 31 (dk_at dksX1_place_3 9 rfl rfl)
theorem dX1_place_84 : decode cX1_place 84 = .ok (.ireturn, 1) := dk_172 (dk_at dksX1_place_3 12 rfl rfl)
theorem dX1_place_85 : decode cX1_place 85 = .ok (.aload_n 3, 1) := dk_45 (dk_at dksX1_place_3 13 rfl rfl)
theorem dX1_place_86 : decode cX1_place 86 = .ok (.getfield 281, 3) := dk_180 1 25 (dk_at dksX1_place_3 14 rfl rfl)
theorem dX1_place_89 : decode cX1_place 89 = .ok (.getfield 44, 3) := dk_180 0 44 (dk_at dksX1_place_3 17 rfl rfl)
theorem dX1_place_92 : decode cX1_place 92 = .ok (.invokeinterface 56 1, 5) := by decide +kernel
theorem dX1_place_97 : decode cX1_place 97 = .ok (.ireturn, 1) := dk_172 (dk_at dksX1_place_4 5 rfl rfl)
theorem dX1_place_98 : decode cX1_place 98 = .ok (.aload_n 3, 1) := dk_45 (dk_at dksX1_place_4 6 rfl rfl)
theorem dX1_place_99 : decode cX1_place 99 = .ok (.getfield 281, 3) := dk_180 1 25 (dk_at dksX1_place_4 7 rfl rfl)
theorem dX1_place_102 : decode cX1_place 102 = .ok (.getfield 290, 3) := dk_180 1 34 (dk_at dksX1_place_4 10 rfl rfl)
theorem dX1_place_105 : decode cX1_place 105 = .ok (.ifnonnull 7, 3) := dk_199 0 7 (dk_at dksX1_place_4 13 rfl rfl)
theorem dX1_place_108 : decode cX1_place 108 = .ok (.iconst 0, 1) := dk_3 (dk_at dksX1_place_4 16 rfl rfl)
theorem dX1_place_109 : decode cX1_place 109 = .ok (.goto 13, 3) := dk_167 0 13 (dk_at dksX1_place_4 17 rfl rfl)
theorem dX1_place_112 : decode cX1_place 112 = .ok (.aload_n 3, 1) := dk_45 (dk_at dksX1_place_4 20 rfl rfl)
theorem dX1_place_113 : decode cX1_place 113 = .ok (.getfield 281, 3) := dk_180 1 25 (dk_at dksX1_place_4 21 rfl rfl)
theorem dX1_place_116 : decode cX1_place 116 = .ok (.getfield 290, 3) := dk_180 1 34 (dk_at dksX1_place_5 0 rfl rfl)
theorem dX1_place_119 : decode cX1_place 119 = .ok (.getfield 78, 3) := dk_180 0 78 (dk_at dksX1_place_5 3 rfl rfl)
theorem dX1_place_122 : decode cX1_place 122 = .ok (.ireturn, 1) := dk_172 (dk_at dksX1_place_5 6 rfl rfl)
theorem dX1_place_123 : decode cX1_place 123 = .ok (.aload_n 3, 1) := dk_45 (dk_at dksX1_place_5 7 rfl rfl)
theorem dX1_place_124 : decode cX1_place 124 = .ok (.getfield 281, 3) := dk_180 1 25 (dk_at dksX1_place_5 8 rfl rfl)
theorem dX1_place_127 : decode cX1_place 127 = .ok (.getfield 290, 3) := dk_180 1 34 (dk_at dksX1_place_5 11 rfl rfl)
theorem dX1_place_130 : decode cX1_place 130 = .ok (.ifnonnull 7, 3) := dk_199 0 7 (dk_at dksX1_place_5 14 rfl rfl)
theorem dX1_place_133 : decode cX1_place 133 = .ok (.iconst 0, 1) := dk_3 (dk_at dksX1_place_5 17 rfl rfl)
theorem dX1_place_134 : decode cX1_place 134 = .ok (.goto 10, 3) := dk_167 0 10 (dk_at dksX1_place_5 18 rfl rfl)
theorem dX1_place_137 : decode cX1_place 137 = .ok (.aload_n 3, 1) := dk_45 (dk_at dksX1_place_5 21 rfl rfl)
theorem dX1_place_138 : decode cX1_place 138 = .ok (.getfield 281, 3) := dk_180 1 25 (dk_at dksX1_place_6 0 rfl rfl)
theorem dX1_place_141 : decode cX1_place 141 = .ok (.getfield 294, 3) := dk_180 1 38 (dk_at dksX1_place_6 3 rfl rfl)
theorem dX1_place_144 : decode cX1_place 144 = .ok (.ireturn, 1) := dk_172 (dk_at dksX1_place_6 6 rfl rfl)
theorem dX1_place_145 : decode cX1_place 145 = .ok (.aload_n 3, 1) := dk_45 (dk_at dksX1_place_6 7 rfl rfl)
theorem dX1_place_146 : decode cX1_place 146 = .ok (.getfield 287, 3) := dk_180 1 31 (dk_at dksX1_place_6 8 rfl rfl)
theorem dX1_place_149 : decode cX1_place 149 = .ok (.aload_n 3, 1) := dk_45 (dk_at dksX1_place_6 11 rfl rfl)
theorem dX1_place_150 : decode cX1_place 150 = .ok (.getfield 281, 3) := dk_180 1 25 (dk_at dksX1_place_6 12 rfl rfl)
theorem dX1_place_153 : decode cX1_place 153 = .ok (.getfield 44, 3) := dk_180 0 44 (dk_at dksX1_place_6 15 rfl rfl)
theorem dX1_place_156 : decode cX1_place 156 = .ok (.invokeinterface 56 1, 5) := by decide +kernel
theorem dX1_place_161 : decode cX1_place 161 = .ok (.if_icmp .ge 28, 3) := dk_162 0 28 (dk_at dksX1_place_7 0 rfl rfl)
theorem dX1_place_164 : decode cX1_place 164 = .ok (.aload_n 3, 1) := dk_45 (dk_at dksX1_place_7 3 rfl rfl)
theorem dX1_place_165 : decode cX1_place 165 = .ok (.getfield 281, 3) := dk_180 1 25 (dk_at dksX1_place_7 4 rfl rfl)
theorem dX1_place_168 : decode cX1_place 168 = .ok (.getfield 44, 3) := dk_180 0 44 (dk_at dksX1_place_7 7 rfl rfl)
theorem dX1_place_171 : decode cX1_place 171 = .ok (.aload_n 3, 1) := dk_45 (dk_at dksX1_place_7 10 rfl rfl)
theorem dX1_place_172 : decode cX1_place 172 = .ok (.getfield 287, 3) := dk_180 1 31 (dk_at dksX1_place_7 11 rfl rfl)
theorem dX1_place_175 : decode cX1_place 175 = .ok (.invokeinterface 60 2, 5) := by decide +kernel
theorem dX1_place_180 : decode cX1_place 180 = .ok (.checkcast 112, 3) := dk_192 0 112 (dk_at dksX1_place_7 19 rfl rfl)
theorem dX1_place_183 : decode cX1_place 183 = .ok (.invokevirtual 124, 3) := dk_182 0 124 (dk_at dksX1_place_8 0 rfl rfl)
theorem dX1_place_186 : decode cX1_place 186 = .ok (.goto 5, 3) := dk_167 0 5 (dk_at dksX1_place_8 3 rfl rfl)
theorem dX1_place_189 : decode cX1_place 189 = .ok (.bipush (-9), 2) := dk_16 247 (dk_at dksX1_place_8 6 rfl rfl)
theorem dX1_place_191 : decode cX1_place 191 = .ok (.ireturn, 1) := dk_172 (dk_at dksX1_place_8 8 rfl rfl)
abbrev cX1_demandPlace : ByteArray := prog_1_method_21_code
def yX1_demandPlace : MethodName := ⟨RX1, "demandPlace", "(I)V"⟩
def dkwX1_demandPlace_0 : List UInt8 := [27, 133, 9, 42, 180, 0, 177, 180, 0, 254, 182, 1, 1, 4, 100, 133, 184, 0, 19, 184, 1, 13, 177]
abbrev dktX1_demandPlace_0 : List UInt8 := dkwX1_demandPlace_0 ++ []
theorem dksX1_demandPlace_0 : cX1_demandPlace.data.toList.drop 0 = dktX1_demandPlace_0 := by decide +kernel
theorem dX1_demandPlace_0 : decode cX1_demandPlace 0 = .ok (.iload_n 1, 1) := dk_27 (dk_at dksX1_demandPlace_0 0 rfl rfl)
theorem dX1_demandPlace_1 : decode cX1_demandPlace 1 = .ok (.i2l, 1) := dk_133 (dk_at dksX1_demandPlace_0 1 rfl rfl)
theorem dX1_demandPlace_2 : decode cX1_demandPlace 2 = .ok (.lconst 0, 1) := dk_9 (dk_at dksX1_demandPlace_0 2 rfl rfl)
theorem dX1_demandPlace_3 : decode cX1_demandPlace 3 = .ok (.aload_n 0, 1) := dk_42 (dk_at dksX1_demandPlace_0 3 rfl rfl)
theorem dX1_demandPlace_4 : decode cX1_demandPlace 4 = .ok (.getfield 177, 3) := dk_180 0 177 (dk_at dksX1_demandPlace_0 4 rfl rfl)
theorem dX1_demandPlace_7 : decode cX1_demandPlace 7 = .ok (.getfield 254, 3) := dk_180 0 254 (dk_at dksX1_demandPlace_0 7 rfl rfl)
theorem dX1_demandPlace_10 : decode cX1_demandPlace 10 = .ok (.invokevirtual 257, 3) := dk_182 1 1 (dk_at dksX1_demandPlace_0 10 rfl rfl)
theorem dX1_demandPlace_13 : decode cX1_demandPlace 13 = .ok (.iconst 1, 1) := dk_4 (dk_at dksX1_demandPlace_0 13 rfl rfl)
theorem dX1_demandPlace_14 : decode cX1_demandPlace 14 = .ok (.isub, 1) := dk_100 (dk_at dksX1_demandPlace_0 14 rfl rfl)
theorem dX1_demandPlace_15 : decode cX1_demandPlace 15 = .ok (.i2l, 1) := dk_133 (dk_at dksX1_demandPlace_0 15 rfl rfl)
theorem dX1_demandPlace_16 : decode cX1_demandPlace 16 = .ok (.invokestatic 19, 3) := dk_184 0 19 (dk_at dksX1_demandPlace_0 16 rfl rfl)
theorem dX1_demandPlace_19 : decode cX1_demandPlace 19 = .ok (.invokestatic 269, 3) := dk_184 1 13 (dk_at dksX1_demandPlace_0 19 rfl rfl)
theorem dX1_demandPlace_22 : decode cX1_demandPlace 22 = .ok (.return_, 1) := dk_177 (dk_at dksX1_demandPlace_0 22 rfl rfl)
abbrev cX1_demandIndex : ByteArray := prog_1_method_2_code
def yX1_demandIndex : MethodName := ⟨RX1, "demandIndex", "(Z)V"⟩
def dkwX1_demandIndex_0 : List UInt8 := [26, 154, 0, 11, 187, 0, 1, 89, 183, 0, 3, 191, 177]
abbrev dktX1_demandIndex_0 : List UInt8 := dkwX1_demandIndex_0 ++ []
theorem dksX1_demandIndex_0 : cX1_demandIndex.data.toList.drop 0 = dktX1_demandIndex_0 := by decide +kernel
theorem dX1_demandIndex_0 : decode cX1_demandIndex 0 = .ok (.iload_n 0, 1) := dk_26 (dk_at dksX1_demandIndex_0 0 rfl rfl)
theorem dX1_demandIndex_1 : decode cX1_demandIndex 1 = .ok (.ifCond .ne 11, 3) := dk_154 0 11 (dk_at dksX1_demandIndex_0 1 rfl rfl)
theorem dX1_demandIndex_4 : decode cX1_demandIndex 4 = .ok (.new 1, 3) := dk_187 0 1 (dk_at dksX1_demandIndex_0 4 rfl rfl)
theorem dX1_demandIndex_7 : decode cX1_demandIndex 7 = .ok (.dup, 1) := dk_89 (dk_at dksX1_demandIndex_0 7 rfl rfl)
theorem dX1_demandIndex_8 : decode cX1_demandIndex 8 = .ok (.invokespecial 3, 3) := dk_183 0 3 (dk_at dksX1_demandIndex_0 8 rfl rfl)
theorem dX1_demandIndex_11 : decode cX1_demandIndex 11 = .ok (.athrow, 1) := dk_191 (dk_at dksX1_demandIndex_0 11 rfl rfl)
theorem dX1_demandIndex_12 : decode cX1_demandIndex 12 = .ok (.return_, 1) := dk_177 (dk_at dksX1_demandIndex_0 12 rfl rfl)
abbrev cX1_selection : ByteArray := prog_1_method_23_code
def yX1_selection : MethodName := ⟨RX1, "selection", "(I)I"⟩
def dkwX1_selection_2 : List UInt8 := [180, 1, 25, 42, 180, 0, 177, 180, 1, 31, 42, 180, 0, 177, 180, 1, 43, 100, 182, 1, 49, 172]
abbrev dktX1_selection_2 : List UInt8 := dkwX1_selection_2 ++ []
def dkwX1_selection_1 : List UInt8 := [167, 0, 43, 27, 4, 160, 0, 13, 42, 180, 0, 177, 182, 1, 46, 167, 0, 28, 42, 180, 0, 177]
abbrev dktX1_selection_1 : List UInt8 := dkwX1_selection_1 ++ dktX1_selection_2
def dkwX1_selection_0 : List UInt8 := [27, 133, 9, 20, 1, 41, 184, 0, 19, 184, 0, 226, 27, 154, 0, 13, 42, 180, 0, 177, 180, 1, 43]
abbrev dktX1_selection_0 : List UInt8 := dkwX1_selection_0 ++ dktX1_selection_1
theorem dksX1_selection_0 : cX1_selection.data.toList.drop 0 = dktX1_selection_0 := by decide +kernel
theorem dksX1_selection_1 : cX1_selection.data.toList.drop 23 = dktX1_selection_1 := dk_seg dksX1_selection_0 23 rfl rfl
theorem dksX1_selection_2 : cX1_selection.data.toList.drop 45 = dktX1_selection_2 := dk_seg dksX1_selection_1 22 rfl rfl
theorem dX1_selection_0 : decode cX1_selection 0 = .ok (.iload_n 1, 1) := dk_27 (dk_at dksX1_selection_0 0 rfl rfl)
theorem dX1_selection_1 : decode cX1_selection 1 = .ok (.i2l, 1) := dk_133 (dk_at dksX1_selection_0 1 rfl rfl)
theorem dX1_selection_2 : decode cX1_selection 2 = .ok (.lconst 0, 1) := dk_9 (dk_at dksX1_selection_0 2 rfl rfl)
theorem dX1_selection_3 : decode cX1_selection 3 = .ok (.ldc2_w 297, 3) := dk_20 1 41 (dk_at dksX1_selection_0 3 rfl rfl)
theorem dX1_selection_6 : decode cX1_selection 6 = .ok (.invokestatic 19, 3) := dk_184 0 19 (dk_at dksX1_selection_0 6 rfl rfl)
theorem dX1_selection_9 : decode cX1_selection 9 = .ok (.invokestatic 226, 3) := dk_184 0 226 (dk_at dksX1_selection_0 9 rfl rfl)
theorem dX1_selection_12 : decode cX1_selection 12 = .ok (.iload_n 1, 1) := dk_27 (dk_at dksX1_selection_0 12 rfl rfl)
theorem dX1_selection_13 : decode cX1_selection 13 = .ok (.ifCond .ne 13, 3) := dk_154 0 13 (dk_at dksX1_selection_0 13 rfl rfl)
theorem dX1_selection_16 : decode cX1_selection 16 = .ok (.aload_n 0, 1) := dk_42 (dk_at dksX1_selection_0 16 rfl rfl)
theorem dX1_selection_17 : decode cX1_selection 17 = .ok (.getfield 177, 3) := dk_180 0 177 (dk_at dksX1_selection_0 17 rfl rfl)
theorem dX1_selection_20 : decode cX1_selection 20 = .ok (.getfield 299, 3) := dk_180 1 43 (dk_at dksX1_selection_0 20 rfl rfl)
theorem dX1_selection_23 : decode cX1_selection 23 = .ok (.goto 43, 3) := dk_167 0 43 (dk_at dksX1_selection_1 0 rfl rfl)
theorem dX1_selection_26 : decode cX1_selection 26 = .ok (.iload_n 1, 1) := dk_27 (dk_at dksX1_selection_1 3 rfl rfl)
theorem dX1_selection_27 : decode cX1_selection 27 = .ok (.iconst 1, 1) := dk_4 (dk_at dksX1_selection_1 4 rfl rfl)
theorem dX1_selection_28 : decode cX1_selection 28 = .ok (.if_icmp .ne 13, 3) := dk_160 0 13 (dk_at dksX1_selection_1 5 rfl rfl)
theorem dX1_selection_31 : decode cX1_selection 31 = .ok (.aload_n 0, 1) := dk_42 (dk_at dksX1_selection_1 8 rfl rfl)
theorem dX1_selection_32 : decode cX1_selection 32 = .ok (.getfield 177, 3) := dk_180 0 177 (dk_at dksX1_selection_1 9 rfl rfl)
theorem dX1_selection_35 : decode cX1_selection 35 = .ok (.invokevirtual 302, 3) := dk_182 1 46 (dk_at dksX1_selection_1 12 rfl rfl)
theorem dX1_selection_38 : decode cX1_selection 38 = .ok (.goto 28, 3) := dk_167 0 28 (dk_at dksX1_selection_1 15 rfl rfl)
theorem dX1_selection_41 : decode cX1_selection 41 = .ok (.aload_n 0, 1) := dk_42 (dk_at dksX1_selection_1 18 rfl rfl)
theorem dX1_selection_42 : decode cX1_selection 42 = .ok (.getfield 177, 3) := dk_180 0 177 (dk_at dksX1_selection_1 19 rfl rfl)
theorem dX1_selection_45 : decode cX1_selection 45 = .ok (.getfield 281, 3) := dk_180 1 25 (dk_at dksX1_selection_2 0 rfl rfl)
theorem dX1_selection_48 : decode cX1_selection 48 = .ok (.aload_n 0, 1) := dk_42 (dk_at dksX1_selection_2 3 rfl rfl)
theorem dX1_selection_49 : decode cX1_selection 49 = .ok (.getfield 177, 3) := dk_180 0 177 (dk_at dksX1_selection_2 4 rfl rfl)
theorem dX1_selection_52 : decode cX1_selection 52 = .ok (.getfield 287, 3) := dk_180 1 31 (dk_at dksX1_selection_2 7 rfl rfl)
theorem dX1_selection_55 : decode cX1_selection 55 = .ok (.aload_n 0, 1) := dk_42 (dk_at dksX1_selection_2 10 rfl rfl)
theorem dX1_selection_56 : decode cX1_selection 56 = .ok (.getfield 177, 3) := dk_180 0 177 (dk_at dksX1_selection_2 11 rfl rfl)
theorem dX1_selection_59 : decode cX1_selection 59 = .ok (.getfield 299, 3) := dk_180 1 43 (dk_at dksX1_selection_2 14 rfl rfl)
theorem dX1_selection_62 : decode cX1_selection 62 = .ok (.isub, 1) := dk_100 (dk_at dksX1_selection_2 17 rfl rfl)
theorem dX1_selection_63 : decode cX1_selection 63 = .ok (.invokevirtual 305, 3) := dk_182 1 49 (dk_at dksX1_selection_2 18 rfl rfl)
theorem dX1_selection_66 : decode cX1_selection 66 = .ok (.ireturn, 1) := dk_172 (dk_at dksX1_selection_2 21 rfl rfl)
abbrev cX1_linearAt : ByteArray := prog_1_method_25_code
def yX1_linearAt : MethodName := ⟨RX1, "linearAt", "(I)I"⟩
def dkwX1_linearAt_1 : List UInt8 := [44, 27, 182, 1, 57, 172]
abbrev dktX1_linearAt_1 : List UInt8 := dkwX1_linearAt_1 ++ []
def dkwX1_linearAt_0 : List UInt8 := [42, 180, 0, 177, 182, 1, 51, 77, 27, 133, 9, 44, 182, 1, 54, 4, 100, 133, 184, 0, 19, 184, 1, 13]
abbrev dktX1_linearAt_0 : List UInt8 := dkwX1_linearAt_0 ++ dktX1_linearAt_1
theorem dksX1_linearAt_0 : cX1_linearAt.data.toList.drop 0 = dktX1_linearAt_0 := by decide +kernel
theorem dksX1_linearAt_1 : cX1_linearAt.data.toList.drop 24 = dktX1_linearAt_1 := dk_seg dksX1_linearAt_0 24 rfl rfl
theorem dX1_linearAt_0 : decode cX1_linearAt 0 = .ok (.aload_n 0, 1) := dk_42 (dk_at dksX1_linearAt_0 0 rfl rfl)
theorem dX1_linearAt_1 : decode cX1_linearAt 1 = .ok (.getfield 177, 3) := dk_180 0 177 (dk_at dksX1_linearAt_0 1 rfl rfl)
theorem dX1_linearAt_4 : decode cX1_linearAt 4 = .ok (.invokevirtual 307, 3) := dk_182 1 51 (dk_at dksX1_linearAt_0 4 rfl rfl)
theorem dX1_linearAt_7 : decode cX1_linearAt 7 = .ok (.astore_n 2, 1) := dk_77 (dk_at dksX1_linearAt_0 7 rfl rfl)
theorem dX1_linearAt_8 : decode cX1_linearAt 8 = .ok (.iload_n 1, 1) := dk_27 (dk_at dksX1_linearAt_0 8 rfl rfl)
theorem dX1_linearAt_9 : decode cX1_linearAt 9 = .ok (.i2l, 1) := dk_133 (dk_at dksX1_linearAt_0 9 rfl rfl)
theorem dX1_linearAt_10 : decode cX1_linearAt 10 = .ok (.lconst 0, 1) := dk_9 (dk_at dksX1_linearAt_0 10 rfl rfl)
theorem dX1_linearAt_11 : decode cX1_linearAt 11 = .ok (.aload_n 2, 1) := dk_44 (dk_at dksX1_linearAt_0 11 rfl rfl)
theorem dX1_linearAt_12 : decode cX1_linearAt 12 = .ok (.invokevirtual 310, 3) := dk_182 1 54 (dk_at dksX1_linearAt_0 12 rfl rfl)
theorem dX1_linearAt_15 : decode cX1_linearAt 15 = .ok (.iconst 1, 1) := dk_4 (dk_at dksX1_linearAt_0 15 rfl rfl)
theorem dX1_linearAt_16 : decode cX1_linearAt 16 = .ok (.isub, 1) := dk_100 (dk_at dksX1_linearAt_0 16 rfl rfl)
theorem dX1_linearAt_17 : decode cX1_linearAt 17 = .ok (.i2l, 1) := dk_133 (dk_at dksX1_linearAt_0 17 rfl rfl)
theorem dX1_linearAt_18 : decode cX1_linearAt 18 = .ok (.invokestatic 19, 3) := dk_184 0 19 (dk_at dksX1_linearAt_0 18 rfl rfl)
theorem dX1_linearAt_21 : decode cX1_linearAt 21 = .ok (.invokestatic 269, 3) := dk_184 1 13 (dk_at dksX1_linearAt_0 21 rfl rfl)
theorem dX1_linearAt_24 : decode cX1_linearAt 24 = .ok (.aload_n 2, 1) := dk_44 (dk_at dksX1_linearAt_1 0 rfl rfl)
theorem dX1_linearAt_25 : decode cX1_linearAt 25 = .ok (.iload_n 1, 1) := dk_27 (dk_at dksX1_linearAt_1 1 rfl rfl)
theorem dX1_linearAt_26 : decode cX1_linearAt 26 = .ok (.invokevirtual 313, 3) := dk_182 1 57 (dk_at dksX1_linearAt_1 2 rfl rfl)
theorem dX1_linearAt_29 : decode cX1_linearAt 29 = .ok (.ireturn, 1) := dk_172 (dk_at dksX1_linearAt_1 5 rfl rfl)
abbrev cX1_moveTo : ByteArray := prog_1_method_26_code
def yX1_moveTo : MethodName := ⟨RX1, "moveTo", "(I)I"⟩
def dkwX1_moveTo_0 : List UInt8 := [42, 27, 182, 1, 16, 42, 180, 0, 177, 182, 1, 4, 61, 42, 180, 0, 177, 27, 182, 1, 22, 28, 172]
abbrev dktX1_moveTo_0 : List UInt8 := dkwX1_moveTo_0 ++ []
theorem dksX1_moveTo_0 : cX1_moveTo.data.toList.drop 0 = dktX1_moveTo_0 := by decide +kernel
theorem dX1_moveTo_0 : decode cX1_moveTo 0 = .ok (.aload_n 0, 1) := dk_42 (dk_at dksX1_moveTo_0 0 rfl rfl)
theorem dX1_moveTo_1 : decode cX1_moveTo 1 = .ok (.iload_n 1, 1) := dk_27 (dk_at dksX1_moveTo_0 1 rfl rfl)
theorem dX1_moveTo_2 : decode cX1_moveTo 2 = .ok (.invokevirtual 272, 3) := dk_182 1 16 (dk_at dksX1_moveTo_0 2 rfl rfl)
theorem dX1_moveTo_5 : decode cX1_moveTo 5 = .ok (.aload_n 0, 1) := dk_42 (dk_at dksX1_moveTo_0 5 rfl rfl)
theorem dX1_moveTo_6 : decode cX1_moveTo 6 = .ok (.getfield 177, 3) := dk_180 0 177 (dk_at dksX1_moveTo_0 6 rfl rfl)
theorem dX1_moveTo_9 : decode cX1_moveTo 9 = .ok (.invokevirtual 260, 3) := dk_182 1 4 (dk_at dksX1_moveTo_0 9 rfl rfl)
theorem dX1_moveTo_12 : decode cX1_moveTo 12 = .ok (.istore_n 2, 1) := dk_61 (dk_at dksX1_moveTo_0 12 rfl rfl)
theorem dX1_moveTo_13 : decode cX1_moveTo 13 = .ok (.aload_n 0, 1) := dk_42 (dk_at dksX1_moveTo_0 13 rfl rfl)
theorem dX1_moveTo_14 : decode cX1_moveTo 14 = .ok (.getfield 177, 3) := dk_180 0 177 (dk_at dksX1_moveTo_0 14 rfl rfl)
theorem dX1_moveTo_17 : decode cX1_moveTo 17 = .ok (.iload_n 1, 1) := dk_27 (dk_at dksX1_moveTo_0 17 rfl rfl)
theorem dX1_moveTo_18 : decode cX1_moveTo 18 = .ok (.invokevirtual 278, 3) := dk_182 1 22 (dk_at dksX1_moveTo_0 18 rfl rfl)
theorem dX1_moveTo_21 : decode cX1_moveTo 21 = .ok (.iload_n 2, 1) := dk_28 (dk_at dksX1_moveTo_0 21 rfl rfl)
theorem dX1_moveTo_22 : decode cX1_moveTo 22 = .ok (.ireturn, 1) := dk_172 (dk_at dksX1_moveTo_0 22 rfl rfl)
abbrev cX1_moveBy : ByteArray := prog_1_method_27_code
def yX1_moveBy : MethodName := ⟨RX1, "moveBy", "(I)I"⟩
def dkwX1_moveBy_0 : List UInt8 := [27, 133, 20, 1, 61, 20, 1, 63, 184, 0, 19, 184, 0, 226, 42, 180, 0, 177, 27, 182, 1, 65, 172]
abbrev dktX1_moveBy_0 : List UInt8 := dkwX1_moveBy_0 ++ []
theorem dksX1_moveBy_0 : cX1_moveBy.data.toList.drop 0 = dktX1_moveBy_0 := by decide +kernel
theorem dX1_moveBy_0 : decode cX1_moveBy 0 = .ok (.iload_n 1, 1) := dk_27 (dk_at dksX1_moveBy_0 0 rfl rfl)
theorem dX1_moveBy_1 : decode cX1_moveBy 1 = .ok (.i2l, 1) := dk_133 (dk_at dksX1_moveBy_0 1 rfl rfl)
theorem dX1_moveBy_2 : decode cX1_moveBy 2 = .ok (.ldc2_w 317, 3) := dk_20 1 61 (dk_at dksX1_moveBy_0 2 rfl rfl)
theorem dX1_moveBy_5 : decode cX1_moveBy 5 = .ok (.ldc2_w 319, 3) := dk_20 1 63 (dk_at dksX1_moveBy_0 5 rfl rfl)
theorem dX1_moveBy_8 : decode cX1_moveBy 8 = .ok (.invokestatic 19, 3) := dk_184 0 19 (dk_at dksX1_moveBy_0 8 rfl rfl)
theorem dX1_moveBy_11 : decode cX1_moveBy 11 = .ok (.invokestatic 226, 3) := dk_184 0 226 (dk_at dksX1_moveBy_0 11 rfl rfl)
theorem dX1_moveBy_14 : decode cX1_moveBy 14 = .ok (.aload_n 0, 1) := dk_42 (dk_at dksX1_moveBy_0 14 rfl rfl)
theorem dX1_moveBy_15 : decode cX1_moveBy 15 = .ok (.getfield 177, 3) := dk_180 0 177 (dk_at dksX1_moveBy_0 15 rfl rfl)
theorem dX1_moveBy_18 : decode cX1_moveBy 18 = .ok (.iload_n 1, 1) := dk_27 (dk_at dksX1_moveBy_0 18 rfl rfl)
theorem dX1_moveBy_19 : decode cX1_moveBy 19 = .ok (.invokevirtual 321, 3) := dk_182 1 65 (dk_at dksX1_moveBy_0 19 rfl rfl)
theorem dX1_moveBy_22 : decode cX1_moveBy 22 = .ok (.ireturn, 1) := dk_172 (dk_at dksX1_moveBy_0 22 rfl rfl)
abbrev cX1_extend : ByteArray := prog_1_method_29_code
def yX1_extend : MethodName := ⟨RX1, "extend", "(Z)I"⟩
def dkwX1_extend_0 : List UInt8 := [42, 180, 0, 177, 27, 182, 1, 72, 184, 0, 209, 42, 180, 0, 177, 180, 1, 43, 172]
abbrev dktX1_extend_0 : List UInt8 := dkwX1_extend_0 ++ []
theorem dksX1_extend_0 : cX1_extend.data.toList.drop 0 = dktX1_extend_0 := by decide +kernel
theorem dX1_extend_0 : decode cX1_extend 0 = .ok (.aload_n 0, 1) := dk_42 (dk_at dksX1_extend_0 0 rfl rfl)
theorem dX1_extend_1 : decode cX1_extend 1 = .ok (.getfield 177, 3) := dk_180 0 177 (dk_at dksX1_extend_0 1 rfl rfl)
theorem dX1_extend_4 : decode cX1_extend 4 = .ok (.iload_n 1, 1) := dk_27 (dk_at dksX1_extend_0 4 rfl rfl)
theorem dX1_extend_5 : decode cX1_extend 5 = .ok (.invokevirtual 328, 3) := dk_182 1 72 (dk_at dksX1_extend_0 5 rfl rfl)
theorem dX1_extend_8 : decode cX1_extend 8 = .ok (.invokestatic 209, 3) := dk_184 0 209 (dk_at dksX1_extend_0 8 rfl rfl)
theorem dX1_extend_11 : decode cX1_extend 11 = .ok (.aload_n 0, 1) := dk_42 (dk_at dksX1_extend_0 11 rfl rfl)
theorem dX1_extend_12 : decode cX1_extend 12 = .ok (.getfield 177, 3) := dk_180 0 177 (dk_at dksX1_extend_0 12 rfl rfl)
theorem dX1_extend_15 : decode cX1_extend 15 = .ok (.getfield 299, 3) := dk_180 1 43 (dk_at dksX1_extend_0 15 rfl rfl)
theorem dX1_extend_18 : decode cX1_extend 18 = .ok (.ireturn, 1) := dk_172 (dk_at dksX1_extend_0 18 rfl rfl)
abbrev cX1_grow : ByteArray := prog_1_method_30_code
def yX1_grow : MethodName := ⟨RX1, "grow", "()I"⟩
def dkwX1_grow_0 : List UInt8 := [42, 180, 0, 177, 182, 1, 75, 184, 0, 209, 42, 180, 0, 177, 180, 1, 43, 172]
abbrev dktX1_grow_0 : List UInt8 := dkwX1_grow_0 ++ []
theorem dksX1_grow_0 : cX1_grow.data.toList.drop 0 = dktX1_grow_0 := by decide +kernel
theorem dX1_grow_0 : decode cX1_grow 0 = .ok (.aload_n 0, 1) := dk_42 (dk_at dksX1_grow_0 0 rfl rfl)
theorem dX1_grow_1 : decode cX1_grow 1 = .ok (.getfield 177, 3) := dk_180 0 177 (dk_at dksX1_grow_0 1 rfl rfl)
theorem dX1_grow_4 : decode cX1_grow 4 = .ok (.invokevirtual 331, 3) := dk_182 1 75 (dk_at dksX1_grow_0 4 rfl rfl)
theorem dX1_grow_7 : decode cX1_grow 7 = .ok (.invokestatic 209, 3) := dk_184 0 209 (dk_at dksX1_grow_0 7 rfl rfl)
theorem dX1_grow_10 : decode cX1_grow 10 = .ok (.aload_n 0, 1) := dk_42 (dk_at dksX1_grow_0 10 rfl rfl)
theorem dX1_grow_11 : decode cX1_grow 11 = .ok (.getfield 177, 3) := dk_180 0 177 (dk_at dksX1_grow_0 11 rfl rfl)
theorem dX1_grow_14 : decode cX1_grow 14 = .ok (.getfield 299, 3) := dk_180 1 43 (dk_at dksX1_grow_0 14 rfl rfl)
theorem dX1_grow_17 : decode cX1_grow 17 = .ok (.ireturn, 1) := dk_172 (dk_at dksX1_grow_0 17 rfl rfl)
abbrev cX1_copy : ByteArray := prog_1_method_31_code
def yX1_copy : MethodName := ⟨RX1, "copy", "()I"⟩
def dkwX1_copy_3 : List UInt8 := [182, 0, 253, 172]
abbrev dktX1_copy_3 : List UInt8 := dkwX1_copy_3 ++ []
def dkwX1_copy_2 : List UInt8 := [42, 180, 0, 177, 180, 1, 43, 100, 42, 180, 0, 177, 180, 1, 31, 182, 1, 78, 42, 180, 0, 181]
abbrev dktX1_copy_2 : List UInt8 := dkwX1_copy_2 ++ dktX1_copy_3
def dkwX1_copy_1 : List UInt8 := [183, 0, 173, 181, 0, 181, 42, 180, 0, 181, 42, 180, 0, 177, 180, 1, 25, 42, 180, 0, 177, 180, 1, 31]
abbrev dktX1_copy_1 : List UInt8 := dkwX1_copy_1 ++ dktX1_copy_2
def dkwX1_copy_0 : List UInt8 := [42, 180, 0, 177, 180, 1, 43, 158, 0, 7, 4, 167, 0, 4, 3, 184, 0, 209, 42, 187, 0, 45, 89]
abbrev dktX1_copy_0 : List UInt8 := dkwX1_copy_0 ++ dktX1_copy_1
theorem dksX1_copy_0 : cX1_copy.data.toList.drop 0 = dktX1_copy_0 := by decide +kernel
theorem dksX1_copy_1 : cX1_copy.data.toList.drop 23 = dktX1_copy_1 := dk_seg dksX1_copy_0 23 rfl rfl
theorem dksX1_copy_2 : cX1_copy.data.toList.drop 47 = dktX1_copy_2 := dk_seg dksX1_copy_1 24 rfl rfl
theorem dksX1_copy_3 : cX1_copy.data.toList.drop 69 = dktX1_copy_3 := dk_seg dksX1_copy_2 22 rfl rfl
theorem dX1_copy_0 : decode cX1_copy 0 = .ok (.aload_n 0, 1) := dk_42 (dk_at dksX1_copy_0 0 rfl rfl)
theorem dX1_copy_1 : decode cX1_copy 1 = .ok (.getfield 177, 3) := dk_180 0 177 (dk_at dksX1_copy_0 1 rfl rfl)
theorem dX1_copy_4 : decode cX1_copy 4 = .ok (.getfield 299, 3) := dk_180 1 43 (dk_at dksX1_copy_0 4 rfl rfl)
theorem dX1_copy_7 : decode cX1_copy 7 = .ok (.ifCond .le 7, 3) := dk_158 0 7 (dk_at dksX1_copy_0 7 rfl rfl)
theorem dX1_copy_10 : decode cX1_copy 10 = .ok (.iconst 1, 1) := dk_4 (dk_at dksX1_copy_0 10 rfl rfl)
theorem dX1_copy_11 : decode cX1_copy 11 = .ok (.goto 4, 3) := dk_167 0 4 (dk_at dksX1_copy_0 11 rfl rfl)
theorem dX1_copy_14 : decode cX1_copy 14 = .ok (.iconst 0, 1) := dk_3 (dk_at dksX1_copy_0 14 rfl rfl)
theorem dX1_copy_15 : decode cX1_copy 15 = .ok (.invokestatic 209, 3) := dk_184 0 209 (dk_at dksX1_copy_0 15 rfl rfl)
theorem dX1_copy_18 : decode cX1_copy 18 = .ok (.aload_n 0, 1) := dk_42 (dk_at dksX1_copy_0 18 rfl rfl)
theorem dX1_copy_19 : decode cX1_copy 19 = .ok (.new 45, 3) := dk_187 0 45 (dk_at dksX1_copy_0 19 rfl rfl)
theorem dX1_copy_22 : decode cX1_copy 22 = .ok (.dup, 1) := dk_89 (dk_at dksX1_copy_0 22 rfl rfl)
theorem dX1_copy_23 : decode cX1_copy 23 = .ok (.invokespecial 173, 3) := dk_183 0 173 (dk_at dksX1_copy_1 0 rfl rfl)
theorem dX1_copy_26 : decode cX1_copy 26 = .ok (.putfield 181, 3) := dk_181 0 181 (dk_at dksX1_copy_1 3 rfl rfl)
theorem dX1_copy_29 : decode cX1_copy 29 = .ok (.aload_n 0, 1) := dk_42 (dk_at dksX1_copy_1 6 rfl rfl)
theorem dX1_copy_30 : decode cX1_copy 30 = .ok (.getfield 181, 3) := dk_180 0 181 (dk_at dksX1_copy_1 7 rfl rfl)
theorem dX1_copy_33 : decode cX1_copy 33 = .ok (.aload_n 0, 1) := dk_42 (dk_at dksX1_copy_1 10 rfl rfl)
theorem dX1_copy_34 : decode cX1_copy 34 = .ok (.getfield 177, 3) := dk_180 0 177 (dk_at dksX1_copy_1 11 rfl rfl)
theorem dX1_copy_37 : decode cX1_copy 37 = .ok (.getfield 281, 3) := dk_180 1 25 (dk_at dksX1_copy_1 14 rfl rfl)
theorem dX1_copy_40 : decode cX1_copy 40 = .ok (.aload_n 0, 1) := dk_42 (dk_at dksX1_copy_1 17 rfl rfl)
theorem dX1_copy_41 : decode cX1_copy 41 = .ok (.getfield 177, 3) := dk_180 0 177 (dk_at dksX1_copy_1 18 rfl rfl)
theorem dX1_copy_44 : decode cX1_copy 44 = .ok (.getfield 287, 3) := dk_180 1 31 (dk_at dksX1_copy_1 21 rfl rfl)
theorem dX1_copy_47 : decode cX1_copy 47 = .ok (.aload_n 0, 1) := dk_42 (dk_at dksX1_copy_2 0 rfl rfl)
theorem dX1_copy_48 : decode cX1_copy 48 = .ok (.getfield 177, 3) := dk_180 0 177 (dk_at dksX1_copy_2 1 rfl rfl)
theorem dX1_copy_51 : decode cX1_copy 51 = .ok (.getfield 299, 3) := dk_180 1 43 (dk_at dksX1_copy_2 4 rfl rfl)
theorem dX1_copy_54 : decode cX1_copy 54 = .ok (.isub, 1) := dk_100 (dk_at dksX1_copy_2 7 rfl rfl)
theorem dX1_copy_55 : decode cX1_copy 55 = .ok (.aload_n 0, 1) := dk_42 (dk_at dksX1_copy_2 8 rfl rfl)
theorem dX1_copy_56 : decode cX1_copy 56 = .ok (.getfield 177, 3) := dk_180 0 177 (dk_at dksX1_copy_2 9 rfl rfl)
theorem dX1_copy_59 : decode cX1_copy 59 = .ok (.getfield 287, 3) := dk_180 1 31 (dk_at dksX1_copy_2 12 rfl rfl)
theorem dX1_copy_62 : decode cX1_copy 62 = .ok (.invokevirtual 334, 3) := dk_182 1 78 (dk_at dksX1_copy_2 15 rfl rfl)
theorem dX1_copy_65 : decode cX1_copy 65 = .ok (.aload_n 0, 1) := dk_42 (dk_at dksX1_copy_2 18 rfl rfl)
theorem dX1_copy_66 : decode cX1_copy 66 = .ok (.getfield 181, 3) := dk_180 0 181 (dk_at dksX1_copy_2 19 rfl rfl)
theorem dX1_copy_69 : decode cX1_copy 69 = .ok (.invokevirtual 253, 3) := dk_182 0 253 (dk_at dksX1_copy_3 0 rfl rfl)
theorem dX1_copy_72 : decode cX1_copy 72 = .ok (.ireturn, 1) := dk_172 (dk_at dksX1_copy_3 3 rfl rfl)
abbrev cX1_type : ByteArray := prog_1_method_32_code
def yX1_type : MethodName := ⟨RX1, "type", "(I)I"⟩
def dkwX1_type_1 : List UInt8 := [182, 0, 253, 172]
abbrev dktX1_type_1 : List UInt8 := dkwX1_type_1 ++ []
def dkwX1_type_0 : List UInt8 := [27, 184, 1, 82, 184, 0, 226, 42, 27, 186, 1, 85, 0, 0, 182, 1, 88, 42, 180, 0, 177, 180, 0, 254]
abbrev dktX1_type_0 : List UInt8 := dkwX1_type_0 ++ dktX1_type_1
theorem dksX1_type_0 : cX1_type.data.toList.drop 0 = dktX1_type_0 := by decide +kernel
theorem dksX1_type_1 : cX1_type.data.toList.drop 24 = dktX1_type_1 := dk_seg dksX1_type_0 24 rfl rfl
theorem dX1_type_0 : decode cX1_type 0 = .ok (.iload_n 1, 1) := dk_27 (dk_at dksX1_type_0 0 rfl rfl)
theorem dX1_type_1 : decode cX1_type 1 = .ok (.invokestatic 338, 3) := dk_184 1 82 (dk_at dksX1_type_0 1 rfl rfl)
theorem dX1_type_4 : decode cX1_type 4 = .ok (.invokestatic 226, 3) := dk_184 0 226 (dk_at dksX1_type_0 4 rfl rfl)
theorem dX1_type_7 : decode cX1_type 7 = .ok (.aload_n 0, 1) := dk_42 (dk_at dksX1_type_0 7 rfl rfl)
theorem dX1_type_8 : decode cX1_type 8 = .ok (.iload_n 1, 1) := dk_27 (dk_at dksX1_type_0 8 rfl rfl)
theorem dX1_type_9 : decode cX1_type 9 = .ok (.invokedynamic 341, 5) := by decide +kernel
theorem dX1_type_14 : decode cX1_type 14 = .ok (.invokevirtual 344, 3) := dk_182 1 88 (dk_at dksX1_type_0 14 rfl rfl)
theorem dX1_type_17 : decode cX1_type 17 = .ok (.aload_n 0, 1) := dk_42 (dk_at dksX1_type_0 17 rfl rfl)
theorem dX1_type_18 : decode cX1_type 18 = .ok (.getfield 177, 3) := dk_180 0 177 (dk_at dksX1_type_0 18 rfl rfl)
theorem dX1_type_21 : decode cX1_type 21 = .ok (.getfield 254, 3) := dk_180 0 254 (dk_at dksX1_type_0 21 rfl rfl)
theorem dX1_type_24 : decode cX1_type 24 = .ok (.invokevirtual 253, 3) := dk_182 0 253 (dk_at dksX1_type_1 0 rfl rfl)
theorem dX1_type_27 : decode cX1_type 27 = .ok (.ireturn, 1) := dk_172 (dk_at dksX1_type_1 3 rfl rfl)
abbrev cX1_isSymbol : ByteArray := prog_1_method_8_code
def yX1_isSymbol : MethodName := ⟨RX1, "isSymbol", "(I)Z"⟩
def dkwX1_isSymbol_0 : List UInt8 := [26, 184, 0, 37, 154, 0, 10, 26, 184, 0, 41, 153, 0, 7, 4, 167, 0, 4, 3, 172]
abbrev dktX1_isSymbol_0 : List UInt8 := dkwX1_isSymbol_0 ++ []
theorem dksX1_isSymbol_0 : cX1_isSymbol.data.toList.drop 0 = dktX1_isSymbol_0 := by decide +kernel
theorem dX1_isSymbol_0 : decode cX1_isSymbol 0 = .ok (.iload_n 0, 1) := dk_26 (dk_at dksX1_isSymbol_0 0 rfl rfl)
theorem dX1_isSymbol_1 : decode cX1_isSymbol 1 = .ok (.invokestatic 37, 3) := dk_184 0 37 (dk_at dksX1_isSymbol_0 1 rfl rfl)
theorem dX1_isSymbol_4 : decode cX1_isSymbol 4 = .ok (.ifCond .ne 10, 3) := dk_154 0 10 (dk_at dksX1_isSymbol_0 4 rfl rfl)
theorem dX1_isSymbol_7 : decode cX1_isSymbol 7 = .ok (.iload_n 0, 1) := dk_26 (dk_at dksX1_isSymbol_0 7 rfl rfl)
theorem dX1_isSymbol_8 : decode cX1_isSymbol 8 = .ok (.invokestatic 41, 3) := dk_184 0 41 (dk_at dksX1_isSymbol_0 8 rfl rfl)
theorem dX1_isSymbol_11 : decode cX1_isSymbol 11 = .ok (.ifCond .eq 7, 3) := dk_153 0 7 (dk_at dksX1_isSymbol_0 11 rfl rfl)
theorem dX1_isSymbol_14 : decode cX1_isSymbol 14 = .ok (.iconst 1, 1) := dk_4 (dk_at dksX1_isSymbol_0 14 rfl rfl)
theorem dX1_isSymbol_15 : decode cX1_isSymbol 15 = .ok (.goto 4, 3) := dk_167 0 4 (dk_at dksX1_isSymbol_0 15 rfl rfl)
theorem dX1_isSymbol_18 : decode cX1_isSymbol 18 = .ok (.iconst 0, 1) := dk_3 (dk_at dksX1_isSymbol_0 18 rfl rfl)
theorem dX1_isSymbol_19 : decode cX1_isSymbol 19 = .ok (.ireturn, 1) := dk_172 (dk_at dksX1_isSymbol_0 19 rfl rfl)
abbrev cX1_lambda_type_10 : ByteArray := prog_1_method_50_code
def yX1_lambda_type_10 : MethodName := ⟨RX1, "lambda$type$10", "(ILFormulaEditor$Document;)Z"⟩
def dkwX1_lambda_type_10_0 : List UInt8 := [43, 26, 182, 1, 113, 172]
abbrev dktX1_lambda_type_10_0 : List UInt8 := dkwX1_lambda_type_10_0 ++ []
theorem dksX1_lambda_type_10_0 : cX1_lambda_type_10.data.toList.drop 0 = dktX1_lambda_type_10_0 := by decide +kernel
theorem dX1_lambda_type_10_0 : decode cX1_lambda_type_10 0 = .ok (.aload_n 1, 1) := dk_43 (dk_at dksX1_lambda_type_10_0 0 rfl rfl)
theorem dX1_lambda_type_10_1 : decode cX1_lambda_type_10 1 = .ok (.iload_n 0, 1) := dk_26 (dk_at dksX1_lambda_type_10_0 1 rfl rfl)
theorem dX1_lambda_type_10_2 : decode cX1_lambda_type_10 2 = .ok (.invokevirtual 369, 3) := dk_182 1 113 (dk_at dksX1_lambda_type_10_0 2 rfl rfl)
theorem dX1_lambda_type_10_5 : decode cX1_lambda_type_10 5 = .ok (.ireturn, 1) := dk_172 (dk_at dksX1_lambda_type_10_0 5 rfl rfl)
abbrev cX1_act : ByteArray := prog_1_method_15_code
def yX1_act : MethodName := ⟨RX1, "act", "(LFormulaEditor$Change;)V"⟩
def dkwX1_act_2 : List UInt8 := [180, 0, 188, 44, 185, 0, 220, 2, 0, 177]
abbrev dktX1_act_2 : List UInt8 := dkwX1_act_2 ++ []
def dkwX1_act_1 : List UInt8 := [180, 0, 188, 185, 0, 213, 1, 0, 16, 14, 160, 0, 13, 42, 180, 0, 188, 185, 0, 216, 1, 0, 87, 42]
abbrev dktX1_act_1 : List UInt8 := dkwX1_act_1 ++ dktX1_act_2
def dkwX1_act_0 : List UInt8 := [42, 180, 0, 177, 182, 0, 199, 77, 43, 42, 180, 0, 177, 185, 0, 203, 2, 0, 184, 0, 209, 42]
abbrev dktX1_act_0 : List UInt8 := dkwX1_act_0 ++ dktX1_act_1
theorem dksX1_act_0 : cX1_act.data.toList.drop 0 = dktX1_act_0 := by decide +kernel
theorem dksX1_act_1 : cX1_act.data.toList.drop 22 = dktX1_act_1 := dk_seg dksX1_act_0 22 rfl rfl
theorem dksX1_act_2 : cX1_act.data.toList.drop 46 = dktX1_act_2 := dk_seg dksX1_act_1 24 rfl rfl
theorem dX1_act_0 : decode cX1_act 0 = .ok (.aload_n 0, 1) := dk_42 (dk_at dksX1_act_0 0 rfl rfl)
theorem dX1_act_1 : decode cX1_act 1 = .ok (.getfield 177, 3) := dk_180 0 177 (dk_at dksX1_act_0 1 rfl rfl)
theorem dX1_act_4 : decode cX1_act 4 = .ok (.invokevirtual 199, 3) := dk_182 0 199 (dk_at dksX1_act_0 4 rfl rfl)
theorem dX1_act_7 : decode cX1_act 7 = .ok (.astore_n 2, 1) := dk_77 (dk_at dksX1_act_0 7 rfl rfl)
theorem dX1_act_8 : decode cX1_act 8 = .ok (.aload_n 1, 1) := dk_43 (dk_at dksX1_act_0 8 rfl rfl)
theorem dX1_act_9 : decode cX1_act 9 = .ok (.aload_n 0, 1) := dk_42 (dk_at dksX1_act_0 9 rfl rfl)
theorem dX1_act_10 : decode cX1_act 10 = .ok (.getfield 177, 3) := dk_180 0 177 (dk_at dksX1_act_0 10 rfl rfl)
theorem dX1_act_13 : decode cX1_act 13 = .ok (.invokeinterface 203 2, 5) := by decide +kernel
theorem dX1_act_18 : decode cX1_act 18 = .ok (.invokestatic 209, 3) := dk_184 0 209 (dk_at dksX1_act_0 18 rfl rfl)
theorem dX1_act_21 : decode cX1_act 21 = .ok (.aload_n 0, 1) := dk_42 (dk_at dksX1_act_0 21 rfl rfl)
theorem dX1_act_22 : decode cX1_act 22 = .ok (.getfield 188, 3) := dk_180 0 188 (dk_at dksX1_act_1 0 rfl rfl)
theorem dX1_act_25 : decode cX1_act 25 = .ok (.invokeinterface 213 1, 5) := by decide +kernel
theorem dX1_act_30 : decode cX1_act 30 = .ok (.bipush 14, 2) := dk_16 14 (dk_at dksX1_act_1 8 rfl rfl)
theorem dX1_act_32 : decode cX1_act 32 = .ok (.if_icmp .ne 13, 3) := dk_160 0 13 (dk_at dksX1_act_1 10 rfl rfl)
theorem dX1_act_35 : decode cX1_act 35 = .ok (.aload_n 0, 1) := dk_42 (dk_at dksX1_act_1 13 rfl rfl)
theorem dX1_act_36 : decode cX1_act 36 = .ok (.getfield 188, 3) := dk_180 0 188 (dk_at dksX1_act_1 14 rfl rfl)
theorem dX1_act_39 : decode cX1_act 39 = .ok (.invokeinterface 216 1, 5) := by decide +kernel
theorem dX1_act_44 : decode cX1_act 44 = .ok (.pop, 1) := dk_87 (dk_at dksX1_act_1 22 rfl rfl)
theorem dX1_act_45 : decode cX1_act 45 = .ok (.aload_n 0, 1) := dk_42 (dk_at dksX1_act_1 23 rfl rfl)
theorem dX1_act_46 : decode cX1_act 46 = .ok (.getfield 188, 3) := dk_180 0 188 (dk_at dksX1_act_2 0 rfl rfl)
theorem dX1_act_49 : decode cX1_act 49 = .ok (.aload_n 2, 1) := dk_44 (dk_at dksX1_act_2 3 rfl rfl)
theorem dX1_act_50 : decode cX1_act 50 = .ok (.invokeinterface 220 2, 5) := by decide +kernel
theorem dX1_act_55 : decode cX1_act 55 = .ok (.return_, 1) := dk_177 (dk_at dksX1_act_2 9 rfl rfl)
abbrev cX1_wrap : ByteArray := prog_1_method_33_code
def yX1_wrap : MethodName := ⟨RX1, "wrap", "(I)I"⟩
def dkwX1_wrap_1 : List UInt8 := [180, 0, 177, 182, 1, 4, 172]
abbrev dktX1_wrap_1 : List UInt8 := dkwX1_wrap_1 ++ []
def dkwX1_wrap_0 : List UInt8 := [27, 133, 10, 20, 1, 20, 184, 0, 19, 184, 0, 226, 42, 27, 186, 1, 92, 0, 0, 182, 1, 88, 42]
abbrev dktX1_wrap_0 : List UInt8 := dkwX1_wrap_0 ++ dktX1_wrap_1
theorem dksX1_wrap_0 : cX1_wrap.data.toList.drop 0 = dktX1_wrap_0 := by decide +kernel
theorem dksX1_wrap_1 : cX1_wrap.data.toList.drop 23 = dktX1_wrap_1 := dk_seg dksX1_wrap_0 23 rfl rfl
theorem dX1_wrap_0 : decode cX1_wrap 0 = .ok (.iload_n 1, 1) := dk_27 (dk_at dksX1_wrap_0 0 rfl rfl)
theorem dX1_wrap_1 : decode cX1_wrap 1 = .ok (.i2l, 1) := dk_133 (dk_at dksX1_wrap_0 1 rfl rfl)
theorem dX1_wrap_2 : decode cX1_wrap 2 = .ok (.lconst 1, 1) := dk_10 (dk_at dksX1_wrap_0 2 rfl rfl)
theorem dX1_wrap_3 : decode cX1_wrap 3 = .ok (.ldc2_w 276, 3) := dk_20 1 20 (dk_at dksX1_wrap_0 3 rfl rfl)
theorem dX1_wrap_6 : decode cX1_wrap 6 = .ok (.invokestatic 19, 3) := dk_184 0 19 (dk_at dksX1_wrap_0 6 rfl rfl)
theorem dX1_wrap_9 : decode cX1_wrap 9 = .ok (.invokestatic 226, 3) := dk_184 0 226 (dk_at dksX1_wrap_0 9 rfl rfl)
theorem dX1_wrap_12 : decode cX1_wrap 12 = .ok (.aload_n 0, 1) := dk_42 (dk_at dksX1_wrap_0 12 rfl rfl)
theorem dX1_wrap_13 : decode cX1_wrap 13 = .ok (.iload_n 1, 1) := dk_27 (dk_at dksX1_wrap_0 13 rfl rfl)
theorem dX1_wrap_14 : decode cX1_wrap 14 = .ok (.invokedynamic 348, 5) := by decide +kernel
theorem dX1_wrap_19 : decode cX1_wrap 19 = .ok (.invokevirtual 344, 3) := dk_182 1 88 (dk_at dksX1_wrap_0 19 rfl rfl)
theorem dX1_wrap_22 : decode cX1_wrap 22 = .ok (.aload_n 0, 1) := dk_42 (dk_at dksX1_wrap_0 22 rfl rfl)
theorem dX1_wrap_23 : decode cX1_wrap 23 = .ok (.getfield 177, 3) := dk_180 0 177 (dk_at dksX1_wrap_1 0 rfl rfl)
theorem dX1_wrap_26 : decode cX1_wrap 26 = .ok (.invokevirtual 260, 3) := dk_182 1 4 (dk_at dksX1_wrap_1 3 rfl rfl)
theorem dX1_wrap_29 : decode cX1_wrap 29 = .ok (.ireturn, 1) := dk_172 (dk_at dksX1_wrap_1 6 rfl rfl)
abbrev cX1_lambda_wrap_11 : ByteArray := prog_1_method_49_code
def yX1_lambda_wrap_11 : MethodName := ⟨RX1, "lambda$wrap$11", "(ILFormulaEditor$Document;)Z"⟩
def dkwX1_lambda_wrap_11_0 : List UInt8 := [43, 26, 182, 1, 116, 172]
abbrev dktX1_lambda_wrap_11_0 : List UInt8 := dkwX1_lambda_wrap_11_0 ++ []
theorem dksX1_lambda_wrap_11_0 : cX1_lambda_wrap_11.data.toList.drop 0 = dktX1_lambda_wrap_11_0 := by decide +kernel
theorem dX1_lambda_wrap_11_0 : decode cX1_lambda_wrap_11 0 = .ok (.aload_n 1, 1) := dk_43 (dk_at dksX1_lambda_wrap_11_0 0 rfl rfl)
theorem dX1_lambda_wrap_11_1 : decode cX1_lambda_wrap_11 1 = .ok (.iload_n 0, 1) := dk_26 (dk_at dksX1_lambda_wrap_11_0 1 rfl rfl)
theorem dX1_lambda_wrap_11_2 : decode cX1_lambda_wrap_11 2 = .ok (.invokevirtual 372, 3) := dk_182 1 116 (dk_at dksX1_lambda_wrap_11_0 2 rfl rfl)
theorem dX1_lambda_wrap_11_5 : decode cX1_lambda_wrap_11 5 = .ok (.ireturn, 1) := dk_172 (dk_at dksX1_lambda_wrap_11_0 5 rfl rfl)
abbrev cX1_backspace : ByteArray := prog_1_method_34_code
def yX1_backspace : MethodName := ⟨RX1, "backspace", "()I"⟩
def dkwX1_backspace_1 : List UInt8 := [180, 0, 177, 180, 0, 254, 182, 0, 253, 100, 172]
abbrev dktX1_backspace_1 : List UInt8 := dkwX1_backspace_1 ++ []
def dkwX1_backspace_0 : List UInt8 := [42, 180, 0, 177, 180, 0, 254, 182, 0, 253, 60, 42, 186, 1, 93, 0, 0, 182, 1, 88, 27, 42]
abbrev dktX1_backspace_0 : List UInt8 := dkwX1_backspace_0 ++ dktX1_backspace_1
theorem dksX1_backspace_0 : cX1_backspace.data.toList.drop 0 = dktX1_backspace_0 := by decide +kernel
theorem dksX1_backspace_1 : cX1_backspace.data.toList.drop 22 = dktX1_backspace_1 := dk_seg dksX1_backspace_0 22 rfl rfl
theorem dX1_backspace_0 : decode cX1_backspace 0 = .ok (.aload_n 0, 1) := dk_42 (dk_at dksX1_backspace_0 0 rfl rfl)
theorem dX1_backspace_1 : decode cX1_backspace 1 = .ok (.getfield 177, 3) := dk_180 0 177 (dk_at dksX1_backspace_0 1 rfl rfl)
theorem dX1_backspace_4 : decode cX1_backspace 4 = .ok (.getfield 254, 3) := dk_180 0 254 (dk_at dksX1_backspace_0 4 rfl rfl)
theorem dX1_backspace_7 : decode cX1_backspace 7 = .ok (.invokevirtual 253, 3) := dk_182 0 253 (dk_at dksX1_backspace_0 7 rfl rfl)
theorem dX1_backspace_10 : decode cX1_backspace 10 = .ok (.istore_n 1, 1) := dk_60 (dk_at dksX1_backspace_0 10 rfl rfl)
theorem dX1_backspace_11 : decode cX1_backspace 11 = .ok (.aload_n 0, 1) := dk_42 (dk_at dksX1_backspace_0 11 rfl rfl)
theorem dX1_backspace_12 : decode cX1_backspace 12 = .ok (.invokedynamic 349, 5) := by decide +kernel
theorem dX1_backspace_17 : decode cX1_backspace 17 = .ok (.invokevirtual 344, 3) := dk_182 1 88 (dk_at dksX1_backspace_0 17 rfl rfl)
theorem dX1_backspace_20 : decode cX1_backspace 20 = .ok (.iload_n 1, 1) := dk_27 (dk_at dksX1_backspace_0 20 rfl rfl)
theorem dX1_backspace_21 : decode cX1_backspace 21 = .ok (.aload_n 0, 1) := dk_42 (dk_at dksX1_backspace_0 21 rfl rfl)
theorem dX1_backspace_22 : decode cX1_backspace 22 = .ok (.getfield 177, 3) := dk_180 0 177 (dk_at dksX1_backspace_1 0 rfl rfl)
theorem dX1_backspace_25 : decode cX1_backspace 25 = .ok (.getfield 254, 3) := dk_180 0 254 (dk_at dksX1_backspace_1 3 rfl rfl)
theorem dX1_backspace_28 : decode cX1_backspace 28 = .ok (.invokevirtual 253, 3) := dk_182 0 253 (dk_at dksX1_backspace_1 6 rfl rfl)
theorem dX1_backspace_31 : decode cX1_backspace 31 = .ok (.isub, 1) := dk_100 (dk_at dksX1_backspace_1 9 rfl rfl)
theorem dX1_backspace_32 : decode cX1_backspace 32 = .ok (.ireturn, 1) := dk_172 (dk_at dksX1_backspace_1 10 rfl rfl)
abbrev cX1_lambda_backspace_12 : ByteArray := prog_1_method_48_code
def yX1_lambda_backspace_12 : MethodName := ⟨RX1, "lambda$backspace$12", "(LFormulaEditor$Document;)Z"⟩
def dkwX1_lambda_backspace_12_0 : List UInt8 := [42, 182, 1, 119, 16, 247, 159, 0, 7, 4, 167, 0, 4, 3, 172]
abbrev dktX1_lambda_backspace_12_0 : List UInt8 := dkwX1_lambda_backspace_12_0 ++ []
theorem dksX1_lambda_backspace_12_0 : cX1_lambda_backspace_12.data.toList.drop 0 = dktX1_lambda_backspace_12_0 := by decide +kernel
theorem dX1_lambda_backspace_12_0 : decode cX1_lambda_backspace_12 0 = .ok (.aload_n 0, 1) := dk_42 (dk_at dksX1_lambda_backspace_12_0 0 rfl rfl)
theorem dX1_lambda_backspace_12_1 : decode cX1_lambda_backspace_12 1 = .ok (.invokevirtual 375, 3) := dk_182 1 119 (dk_at dksX1_lambda_backspace_12_0 1 rfl rfl)
theorem dX1_lambda_backspace_12_4 : decode cX1_lambda_backspace_12 4 = .ok (.bipush (-9), 2) := dk_16 247 (dk_at dksX1_lambda_backspace_12_0 4 rfl rfl)
theorem dX1_lambda_backspace_12_6 : decode cX1_lambda_backspace_12 6 = .ok (.if_icmp .eq 7, 3) := dk_159 0 7 (dk_at dksX1_lambda_backspace_12_0 6 rfl rfl)
theorem dX1_lambda_backspace_12_9 : decode cX1_lambda_backspace_12 9 = .ok (.iconst 1, 1) := dk_4 (dk_at dksX1_lambda_backspace_12_0 9 rfl rfl)
theorem dX1_lambda_backspace_12_10 : decode cX1_lambda_backspace_12 10 = .ok (.goto 4, 3) := dk_167 0 4 (dk_at dksX1_lambda_backspace_12_0 10 rfl rfl)
theorem dX1_lambda_backspace_12_13 : decode cX1_lambda_backspace_12 13 = .ok (.iconst 0, 1) := dk_3 (dk_at dksX1_lambda_backspace_12_0 13 rfl rfl)
theorem dX1_lambda_backspace_12_14 : decode cX1_lambda_backspace_12 14 = .ok (.ireturn, 1) := dk_172 (dk_at dksX1_lambda_backspace_12_0 14 rfl rfl)
abbrev cX1_paste : ByteArray := prog_1_method_35_code
def yX1_paste : MethodName := ⟨RX1, "paste", "()I"⟩
def dkwX1_paste_2 : List UInt8 := [172]
abbrev dktX1_paste_2 : List UInt8 := dkwX1_paste_2 ++ []
def dkwX1_paste_1 : List UInt8 := [180, 0, 181, 76, 42, 43, 186, 1, 96, 0, 0, 182, 1, 88, 42, 180, 0, 177, 180, 0, 254, 182, 0, 253]
abbrev dktX1_paste_1 : List UInt8 := dkwX1_paste_1 ++ dktX1_paste_2
def dkwX1_paste_0 : List UInt8 := [42, 180, 0, 181, 180, 0, 44, 185, 0, 50, 1, 0, 154, 0, 7, 4, 167, 0, 4, 3, 184, 0, 209, 42]
abbrev dktX1_paste_0 : List UInt8 := dkwX1_paste_0 ++ dktX1_paste_1
theorem dksX1_paste_0 : cX1_paste.data.toList.drop 0 = dktX1_paste_0 := by decide +kernel
theorem dksX1_paste_1 : cX1_paste.data.toList.drop 24 = dktX1_paste_1 := dk_seg dksX1_paste_0 24 rfl rfl
theorem dksX1_paste_2 : cX1_paste.data.toList.drop 48 = dktX1_paste_2 := dk_seg dksX1_paste_1 24 rfl rfl
theorem dX1_paste_0 : decode cX1_paste 0 = .ok (.aload_n 0, 1) := dk_42 (dk_at dksX1_paste_0 0 rfl rfl)
theorem dX1_paste_1 : decode cX1_paste 1 = .ok (.getfield 181, 3) := dk_180 0 181 (dk_at dksX1_paste_0 1 rfl rfl)
theorem dX1_paste_4 : decode cX1_paste 4 = .ok (.getfield 44, 3) := dk_180 0 44 (dk_at dksX1_paste_0 4 rfl rfl)
theorem dX1_paste_7 : decode cX1_paste 7 = .ok (.invokeinterface 50 1, 5) := by decide +kernel
theorem dX1_paste_12 : decode cX1_paste 12 = .ok (.ifCond .ne 7, 3) := dk_154 0 7 (dk_at dksX1_paste_0 12 rfl rfl)
theorem dX1_paste_15 : decode cX1_paste 15 = .ok (.iconst 1, 1) := dk_4 (dk_at dksX1_paste_0 15 rfl rfl)
theorem dX1_paste_16 : decode cX1_paste 16 = .ok (.goto 4, 3) := dk_167 0 4 (dk_at dksX1_paste_0 16 rfl rfl)
theorem dX1_paste_19 : decode cX1_paste 19 = .ok (.iconst 0, 1) := dk_3 (dk_at dksX1_paste_0 19 rfl rfl)
theorem dX1_paste_20 : decode cX1_paste 20 = .ok (.invokestatic 209, 3) := dk_184 0 209 (dk_at dksX1_paste_0 20 rfl rfl)
theorem dX1_paste_23 : decode cX1_paste 23 = .ok (.aload_n 0, 1) := dk_42 (dk_at dksX1_paste_0 23 rfl rfl)
theorem dX1_paste_24 : decode cX1_paste 24 = .ok (.getfield 181, 3) := dk_180 0 181 (dk_at dksX1_paste_1 0 rfl rfl)
theorem dX1_paste_27 : decode cX1_paste 27 = .ok (.astore_n 1, 1) := dk_76 (dk_at dksX1_paste_1 3 rfl rfl)
theorem dX1_paste_28 : decode cX1_paste 28 = .ok (.aload_n 0, 1) := dk_42 (dk_at dksX1_paste_1 4 rfl rfl)
theorem dX1_paste_29 : decode cX1_paste 29 = .ok (.aload_n 1, 1) := dk_43 (dk_at dksX1_paste_1 5 rfl rfl)
theorem dX1_paste_30 : decode cX1_paste 30 = .ok (.invokedynamic 352, 5) := by decide +kernel
theorem dX1_paste_35 : decode cX1_paste 35 = .ok (.invokevirtual 344, 3) := dk_182 1 88 (dk_at dksX1_paste_1 11 rfl rfl)
theorem dX1_paste_38 : decode cX1_paste 38 = .ok (.aload_n 0, 1) := dk_42 (dk_at dksX1_paste_1 14 rfl rfl)
theorem dX1_paste_39 : decode cX1_paste 39 = .ok (.getfield 177, 3) := dk_180 0 177 (dk_at dksX1_paste_1 15 rfl rfl)
theorem dX1_paste_42 : decode cX1_paste 42 = .ok (.getfield 254, 3) := dk_180 0 254 (dk_at dksX1_paste_1 18 rfl rfl)
theorem dX1_paste_45 : decode cX1_paste 45 = .ok (.invokevirtual 253, 3) := dk_182 0 253 (dk_at dksX1_paste_1 21 rfl rfl)
theorem dX1_paste_48 : decode cX1_paste 48 = .ok (.ireturn, 1) := dk_172 (dk_at dksX1_paste_2 0 rfl rfl)
abbrev cX1_lambda_paste_13 : ByteArray := prog_1_method_47_code
def yX1_lambda_paste_13 : MethodName := ⟨RX1, "lambda$paste$13", "(LFormulaEditor$Row;LFormulaEditor$Document;)Z"⟩
def dkwX1_lambda_paste_13_0 : List UInt8 := [43, 42, 182, 1, 144, 172]
abbrev dktX1_lambda_paste_13_0 : List UInt8 := dkwX1_lambda_paste_13_0 ++ []
theorem dksX1_lambda_paste_13_0 : cX1_lambda_paste_13.data.toList.drop 0 = dktX1_lambda_paste_13_0 := by decide +kernel
theorem dX1_lambda_paste_13_0 : decode cX1_lambda_paste_13 0 = .ok (.aload_n 1, 1) := dk_43 (dk_at dksX1_lambda_paste_13_0 0 rfl rfl)
theorem dX1_lambda_paste_13_1 : decode cX1_lambda_paste_13 1 = .ok (.aload_n 0, 1) := dk_42 (dk_at dksX1_lambda_paste_13_0 1 rfl rfl)
theorem dX1_lambda_paste_13_2 : decode cX1_lambda_paste_13 2 = .ok (.invokevirtual 400, 3) := dk_182 1 144 (dk_at dksX1_lambda_paste_13_0 2 rfl rfl)
theorem dX1_lambda_paste_13_5 : decode cX1_lambda_paste_13 5 = .ok (.ireturn, 1) := dk_172 (dk_at dksX1_lambda_paste_13_0 5 rfl rfl)
abbrev cX1_replace : ByteArray := prog_1_method_36_code
def yX1_replace : MethodName := ⟨RX1, "replace", "(II)I"⟩
def dkwX1_replace_1 : List UInt8 := [186, 1, 99, 0, 0, 182, 1, 88, 42, 180, 0, 177, 180, 0, 254, 27, 146, 28, 146, 182, 1, 100, 172]
abbrev dktX1_replace_1 : List UInt8 := dkwX1_replace_1 ++ []
def dkwX1_replace_0 : List UInt8 := [27, 184, 1, 82, 153, 0, 14, 28, 184, 1, 82, 153, 0, 7, 4, 167, 0, 4, 3, 184, 0, 226, 42]
abbrev dktX1_replace_0 : List UInt8 := dkwX1_replace_0 ++ dktX1_replace_1
theorem dksX1_replace_0 : cX1_replace.data.toList.drop 0 = dktX1_replace_0 := by decide +kernel
theorem dksX1_replace_1 : cX1_replace.data.toList.drop 23 = dktX1_replace_1 := dk_seg dksX1_replace_0 23 rfl rfl
theorem dX1_replace_0 : decode cX1_replace 0 = .ok (.iload_n 1, 1) := dk_27 (dk_at dksX1_replace_0 0 rfl rfl)
theorem dX1_replace_1 : decode cX1_replace 1 = .ok (.invokestatic 338, 3) := dk_184 1 82 (dk_at dksX1_replace_0 1 rfl rfl)
theorem dX1_replace_4 : decode cX1_replace 4 = .ok (.ifCond .eq 14, 3) := dk_153 0 14 (dk_at dksX1_replace_0 4 rfl rfl)
theorem dX1_replace_7 : decode cX1_replace 7 = .ok (.iload_n 2, 1) := dk_28 (dk_at dksX1_replace_0 7 rfl rfl)
theorem dX1_replace_8 : decode cX1_replace 8 = .ok (.invokestatic 338, 3) := dk_184 1 82 (dk_at dksX1_replace_0 8 rfl rfl)
theorem dX1_replace_11 : decode cX1_replace 11 = .ok (.ifCond .eq 7, 3) := dk_153 0 7 (dk_at dksX1_replace_0 11 rfl rfl)
theorem dX1_replace_14 : decode cX1_replace 14 = .ok (.iconst 1, 1) := dk_4 (dk_at dksX1_replace_0 14 rfl rfl)
theorem dX1_replace_15 : decode cX1_replace 15 = .ok (.goto 4, 3) := dk_167 0 4 (dk_at dksX1_replace_0 15 rfl rfl)
theorem dX1_replace_18 : decode cX1_replace 18 = .ok (.iconst 0, 1) := dk_3 (dk_at dksX1_replace_0 18 rfl rfl)
theorem dX1_replace_19 : decode cX1_replace 19 = .ok (.invokestatic 226, 3) := dk_184 0 226 (dk_at dksX1_replace_0 19 rfl rfl)
theorem dX1_replace_22 : decode cX1_replace 22 = .ok (.aload_n 0, 1) := dk_42 (dk_at dksX1_replace_0 22 rfl rfl)
theorem dX1_replace_23 : decode cX1_replace 23 = .ok (.invokedynamic 355, 5) := by decide +kernel
theorem dX1_replace_28 : decode cX1_replace 28 = .ok (.invokevirtual 344, 3) := dk_182 1 88 (dk_at dksX1_replace_1 5 rfl rfl)
theorem dX1_replace_31 : decode cX1_replace 31 = .ok (.aload_n 0, 1) := dk_42 (dk_at dksX1_replace_1 8 rfl rfl)
theorem dX1_replace_32 : decode cX1_replace 32 = .ok (.getfield 177, 3) := dk_180 0 177 (dk_at dksX1_replace_1 9 rfl rfl)
theorem dX1_replace_35 : decode cX1_replace 35 = .ok (.getfield 254, 3) := dk_180 0 254 (dk_at dksX1_replace_1 12 rfl rfl)
theorem dX1_replace_38 : decode cX1_replace 38 = .ok (.iload_n 1, 1) := dk_27 (dk_at dksX1_replace_1 15 rfl rfl)
theorem dX1_replace_39 : decode cX1_replace 39 = .ok (.i2c, 1) := dk_146 (dk_at dksX1_replace_1 16 rfl rfl)
theorem dX1_replace_40 : decode cX1_replace 40 = .ok (.iload_n 2, 1) := dk_28 (dk_at dksX1_replace_1 17 rfl rfl)
theorem dX1_replace_41 : decode cX1_replace 41 = .ok (.i2c, 1) := dk_146 (dk_at dksX1_replace_1 18 rfl rfl)
theorem dX1_replace_42 : decode cX1_replace 42 = .ok (.invokevirtual 356, 3) := dk_182 1 100 (dk_at dksX1_replace_1 19 rfl rfl)
theorem dX1_replace_45 : decode cX1_replace 45 = .ok (.ireturn, 1) := dk_172 (dk_at dksX1_replace_1 22 rfl rfl)
abbrev cX1_lambda_replace_14 : ByteArray := prog_1_method_46_code
def yX1_lambda_replace_14 : MethodName := ⟨RX1, "lambda$replace$14", "(LFormulaEditor$Document;)Z"⟩
theorem dX1_lambda_replace_14_0 : decode cX1_lambda_replace_14 0 = .ok (.iconst 1, 1) := by decide +kernel
theorem dX1_lambda_replace_14_1 : decode cX1_lambda_replace_14 1 = .ok (.ireturn, 1) := by decide +kernel
abbrev cX1_undo : ByteArray := prog_1_method_37_code
def yX1_undo : MethodName := ⟨RX1, "undo", "()I"⟩
def dkwX1_undo_1 : List UInt8 := [180, 0, 188, 185, 1, 105, 1, 0, 192, 0, 171, 181, 0, 177, 42, 180, 0, 188, 185, 0, 213, 1, 0, 172]
abbrev dktX1_undo_1 : List UInt8 := dkwX1_undo_1 ++ []
def dkwX1_undo_0 : List UInt8 := [42, 180, 0, 188, 185, 1, 104, 1, 0, 154, 0, 7, 4, 167, 0, 4, 3, 184, 0, 209, 42, 42]
abbrev dktX1_undo_0 : List UInt8 := dkwX1_undo_0 ++ dktX1_undo_1
theorem dksX1_undo_0 : cX1_undo.data.toList.drop 0 = dktX1_undo_0 := by decide +kernel
theorem dksX1_undo_1 : cX1_undo.data.toList.drop 22 = dktX1_undo_1 := dk_seg dksX1_undo_0 22 rfl rfl
theorem dX1_undo_0 : decode cX1_undo 0 = .ok (.aload_n 0, 1) := dk_42 (dk_at dksX1_undo_0 0 rfl rfl)
theorem dX1_undo_1 : decode cX1_undo 1 = .ok (.getfield 188, 3) := dk_180 0 188 (dk_at dksX1_undo_0 1 rfl rfl)
theorem dX1_undo_4 : decode cX1_undo 4 = .ok (.invokeinterface 360 1, 5) := by decide +kernel
theorem dX1_undo_9 : decode cX1_undo 9 = .ok (.ifCond .ne 7, 3) := dk_154 0 7 (dk_at dksX1_undo_0 9 rfl rfl)
theorem dX1_undo_12 : decode cX1_undo 12 = .ok (.iconst 1, 1) := dk_4 (dk_at dksX1_undo_0 12 rfl rfl)
theorem dX1_undo_13 : decode cX1_undo 13 = .ok (.goto 4, 3) := dk_167 0 4 (dk_at dksX1_undo_0 13 rfl rfl)
theorem dX1_undo_16 : decode cX1_undo 16 = .ok (.iconst 0, 1) := dk_3 (dk_at dksX1_undo_0 16 rfl rfl)
theorem dX1_undo_17 : decode cX1_undo 17 = .ok (.invokestatic 209, 3) := dk_184 0 209 (dk_at dksX1_undo_0 17 rfl rfl)
theorem dX1_undo_20 : decode cX1_undo 20 = .ok (.aload_n 0, 1) := dk_42 (dk_at dksX1_undo_0 20 rfl rfl)
theorem dX1_undo_21 : decode cX1_undo 21 = .ok (.aload_n 0, 1) := dk_42 (dk_at dksX1_undo_0 21 rfl rfl)
theorem dX1_undo_22 : decode cX1_undo 22 = .ok (.getfield 188, 3) := dk_180 0 188 (dk_at dksX1_undo_1 0 rfl rfl)
theorem dX1_undo_25 : decode cX1_undo 25 = .ok (.invokeinterface 361 1, 5) := by decide +kernel
theorem dX1_undo_30 : decode cX1_undo 30 = .ok (.checkcast 171, 3) := dk_192 0 171 (dk_at dksX1_undo_1 8 rfl rfl)
theorem dX1_undo_33 : decode cX1_undo 33 = .ok (.putfield 177, 3) := dk_181 0 177 (dk_at dksX1_undo_1 11 rfl rfl)
theorem dX1_undo_36 : decode cX1_undo 36 = .ok (.aload_n 0, 1) := dk_42 (dk_at dksX1_undo_1 14 rfl rfl)
theorem dX1_undo_37 : decode cX1_undo 37 = .ok (.getfield 188, 3) := dk_180 0 188 (dk_at dksX1_undo_1 15 rfl rfl)
theorem dX1_undo_40 : decode cX1_undo 40 = .ok (.invokeinterface 213 1, 5) := by decide +kernel
theorem dX1_undo_45 : decode cX1_undo 45 = .ok (.ireturn, 1) := dk_172 (dk_at dksX1_undo_1 23 rfl rfl)
abbrev cX1_drawing : ByteArray := prog_1_method_38_code
def yX1_drawing : MethodName := ⟨RX1, "drawing", "(I)I"⟩
def dkwX1_drawing_2 : List UInt8 := [180, 0, 96, 172]
abbrev dktX1_drawing_2 : List UInt8 := dkwX1_drawing_2 ++ []
def dkwX1_drawing_1 : List UInt8 := [27, 154, 0, 10, 44, 180, 0, 91, 167, 0, 19, 27, 4, 160, 0, 10, 44, 182, 1, 108, 167, 0, 7, 44]
abbrev dktX1_drawing_1 : List UInt8 := dkwX1_drawing_1 ++ dktX1_drawing_2
def dkwX1_drawing_0 : List UInt8 := [27, 133, 9, 20, 1, 41, 184, 0, 19, 184, 0, 226, 42, 42, 180, 0, 177, 180, 0, 254, 182, 0, 70, 77]
abbrev dktX1_drawing_0 : List UInt8 := dkwX1_drawing_0 ++ dktX1_drawing_1
theorem dksX1_drawing_0 : cX1_drawing.data.toList.drop 0 = dktX1_drawing_0 := by decide +kernel
theorem dksX1_drawing_1 : cX1_drawing.data.toList.drop 24 = dktX1_drawing_1 := dk_seg dksX1_drawing_0 24 rfl rfl
theorem dksX1_drawing_2 : cX1_drawing.data.toList.drop 48 = dktX1_drawing_2 := dk_seg dksX1_drawing_1 24 rfl rfl
theorem dX1_drawing_0 : decode cX1_drawing 0 = .ok (.iload_n 1, 1) := dk_27 (dk_at dksX1_drawing_0 0 rfl rfl)
theorem dX1_drawing_1 : decode cX1_drawing 1 = .ok (.i2l, 1) := dk_133 (dk_at dksX1_drawing_0 1 rfl rfl)
theorem dX1_drawing_2 : decode cX1_drawing 2 = .ok (.lconst 0, 1) := dk_9 (dk_at dksX1_drawing_0 2 rfl rfl)
theorem dX1_drawing_3 : decode cX1_drawing 3 = .ok (.ldc2_w 297, 3) := dk_20 1 41 (dk_at dksX1_drawing_0 3 rfl rfl)
theorem dX1_drawing_6 : decode cX1_drawing 6 = .ok (.invokestatic 19, 3) := dk_184 0 19 (dk_at dksX1_drawing_0 6 rfl rfl)
theorem dX1_drawing_9 : decode cX1_drawing 9 = .ok (.invokestatic 226, 3) := dk_184 0 226 (dk_at dksX1_drawing_0 9 rfl rfl)
theorem dX1_drawing_12 : decode cX1_drawing 12 = .ok (.aload_n 0, 1) := dk_42 (dk_at dksX1_drawing_0 12 rfl rfl)
theorem dX1_drawing_13 : decode cX1_drawing 13 = .ok (.aload_n 0, 1) := dk_42 (dk_at dksX1_drawing_0 13 rfl rfl)
theorem dX1_drawing_14 : decode cX1_drawing 14 = .ok (.getfield 177, 3) := dk_180 0 177 (dk_at dksX1_drawing_0 14 rfl rfl)
theorem dX1_drawing_17 : decode cX1_drawing 17 = .ok (.getfield 254, 3) := dk_180 0 254 (dk_at dksX1_drawing_0 17 rfl rfl)
theorem dX1_drawing_20 : decode cX1_drawing 20 = .ok (.invokevirtual 70, 3) := dk_182 0 70 (dk_at dksX1_drawing_0 20 rfl rfl)
theorem dX1_drawing_23 : decode cX1_drawing 23 = .ok (.astore_n 2, 1) := dk_77 (dk_at dksX1_drawing_0 23 rfl rfl)
theorem dX1_drawing_24 : decode cX1_drawing 24 = .ok (.iload_n 1, 1) := dk_27 (dk_at dksX1_drawing_1 0 rfl rfl)
theorem dX1_drawing_25 : decode cX1_drawing 25 = .ok (.ifCond .ne 10, 3) := dk_154 0 10 (dk_at dksX1_drawing_1 1 rfl rfl)
theorem dX1_drawing_28 : decode cX1_drawing 28 = .ok (.aload_n 2, 1) := dk_44 (dk_at dksX1_drawing_1 4 rfl rfl)
theorem dX1_drawing_29 : decode cX1_drawing 29 = .ok (.getfield 91, 3) := dk_180 0 91 (dk_at dksX1_drawing_1 5 rfl rfl)
theorem dX1_drawing_32 : decode cX1_drawing 32 = .ok (.goto 19, 3) := dk_167 0 19 (dk_at dksX1_drawing_1 8 rfl rfl)
theorem dX1_drawing_35 : decode cX1_drawing 35 = .ok (.iload_n 1, 1) := dk_27 (dk_at dksX1_drawing_1 11 rfl rfl)
theorem dX1_drawing_36 : decode cX1_drawing 36 = .ok (.iconst 1, 1) := dk_4 (dk_at dksX1_drawing_1 12 rfl rfl)
theorem dX1_drawing_37 : decode cX1_drawing 37 = .ok (.if_icmp .ne 10, 3) := dk_160 0 10 (dk_at dksX1_drawing_1 13 rfl rfl)
theorem dX1_drawing_40 : decode cX1_drawing 40 = .ok (.aload_n 2, 1) := dk_44 (dk_at dksX1_drawing_1 16 rfl rfl)
theorem dX1_drawing_41 : decode cX1_drawing 41 = .ok (.invokevirtual 364, 3) := dk_182 1 108 (dk_at dksX1_drawing_1 17 rfl rfl)
theorem dX1_drawing_44 : decode cX1_drawing 44 = .ok (.goto 7, 3) := dk_167 0 7 (dk_at dksX1_drawing_1 20 rfl rfl)
theorem dX1_drawing_47 : decode cX1_drawing 47 = .ok (.aload_n 2, 1) := dk_44 (dk_at dksX1_drawing_1 23 rfl rfl)
theorem dX1_drawing_48 : decode cX1_drawing 48 = .ok (.getfield 96, 3) := dk_180 0 96 (dk_at dksX1_drawing_2 0 rfl rfl)
theorem dX1_drawing_51 : decode cX1_drawing 51 = .ok (.ireturn, 1) := dk_172 (dk_at dksX1_drawing_2 3 rfl rfl)
abbrev cX1_measure : ByteArray := prog_1_method_9_code
def yX1_measure : MethodName := ⟨RX1, "measure", "(LFormulaEditor$Row;)LFormulaEditor$Box;"⟩
def dkwX1_measure_8 : List UInt8 := [183, 0, 108, 181, 0, 111, 43, 180, 0, 111, 176]
abbrev dktX1_measure_8 : List UInt8 := dkwX1_measure_8 ++ []
def dkwX1_measure_7 : List UInt8 := [54, 4, 167, 0, 6, 132, 2, 1, 132, 5, 1, 167, 255, 111, 43, 187, 0, 92, 89, 28, 29, 21, 4]
abbrev dktX1_measure_7 : List UInt8 := dkwX1_measure_7 ++ dktX1_measure_8
def dkwX1_measure_6 : List UInt8 := [180, 0, 87, 180, 0, 96, 184, 0, 99, 62, 21, 4, 25, 6, 180, 0, 87, 180, 0, 105, 184, 0, 99]
abbrev dktX1_measure_6 : List UInt8 := dkwX1_measure_6 ++ dktX1_measure_7
def dkwX1_measure_5 : List UInt8 := [185, 0, 82, 2, 0, 181, 0, 87, 28, 25, 6, 180, 0, 87, 180, 0, 91, 96, 61, 29, 25, 6]
abbrev dktX1_measure_5 : List UInt8 := dkwX1_measure_5 ++ dktX1_measure_6
def dkwX1_measure_4 : List UInt8 := [182, 0, 70, 87, 132, 7, 1, 167, 255, 229, 25, 6, 42, 180, 0, 74, 25, 6, 180, 0, 78, 50, 25, 6]
abbrev dktX1_measure_4 : List UInt8 := dkwX1_measure_4 ++ dktX1_measure_5
def dkwX1_measure_3 : List UInt8 := [54, 7, 21, 7, 25, 6, 180, 0, 66, 190, 162, 0, 22, 42, 25, 6, 180, 0, 66, 21, 7, 50]
abbrev dktX1_measure_3 : List UInt8 := dkwX1_measure_3 ++ dktX1_measure_4
def dkwX1_measure_2 : List UInt8 := [185, 0, 60, 2, 0, 58, 7, 25, 7, 193, 0, 64, 153, 0, 107, 25, 7, 192, 0, 64, 58, 6, 3]
abbrev dktX1_measure_2 : List UInt8 := dkwX1_measure_2 ++ dktX1_measure_3
def dkwX1_measure_1 : List UInt8 := [54, 5, 21, 5, 43, 180, 0, 44, 185, 0, 56, 1, 0, 162, 0, 137, 43, 180, 0, 44, 21, 5]
abbrev dktX1_measure_1 : List UInt8 := dkwX1_measure_1 ++ dktX1_measure_2
def dkwX1_measure_0 : List UInt8 := [43, 180, 0, 44, 185, 0, 50, 1, 0, 153, 0, 7, 4, 167, 0, 4, 3, 61, 3, 62, 3, 54, 4, 3]
abbrev dktX1_measure_0 : List UInt8 := dkwX1_measure_0 ++ dktX1_measure_1
theorem dksX1_measure_0 : cX1_measure.data.toList.drop 0 = dktX1_measure_0 := by decide +kernel
theorem dksX1_measure_1 : cX1_measure.data.toList.drop 24 = dktX1_measure_1 := dk_seg dksX1_measure_0 24 rfl rfl
theorem dksX1_measure_2 : cX1_measure.data.toList.drop 46 = dktX1_measure_2 := dk_seg dksX1_measure_1 22 rfl rfl
theorem dksX1_measure_3 : cX1_measure.data.toList.drop 69 = dktX1_measure_3 := dk_seg dksX1_measure_2 23 rfl rfl
theorem dksX1_measure_4 : cX1_measure.data.toList.drop 91 = dktX1_measure_4 := dk_seg dksX1_measure_3 22 rfl rfl
theorem dksX1_measure_5 : cX1_measure.data.toList.drop 115 = dktX1_measure_5 := dk_seg dksX1_measure_4 24 rfl rfl
theorem dksX1_measure_6 : cX1_measure.data.toList.drop 137 = dktX1_measure_6 := dk_seg dksX1_measure_5 22 rfl rfl
theorem dksX1_measure_7 : cX1_measure.data.toList.drop 160 = dktX1_measure_7 := dk_seg dksX1_measure_6 23 rfl rfl
theorem dksX1_measure_8 : cX1_measure.data.toList.drop 183 = dktX1_measure_8 := dk_seg dksX1_measure_7 23 rfl rfl
theorem dX1_measure_0 : decode cX1_measure 0 = .ok (.aload_n 1, 1) := dk_43 (dk_at dksX1_measure_0 0 rfl rfl)
theorem dX1_measure_1 : decode cX1_measure 1 = .ok (.getfield 44, 3) := dk_180 0 44 (dk_at dksX1_measure_0 1 rfl rfl)
theorem dX1_measure_4 : decode cX1_measure 4 = .ok (.invokeinterface 50 1, 5) := by decide +kernel
theorem dX1_measure_9 : decode cX1_measure 9 = .ok (.ifCond .eq 7, 3) := dk_153 0 7 (dk_at dksX1_measure_0 9 rfl rfl)
theorem dX1_measure_12 : decode cX1_measure 12 = .ok (.iconst 1, 1) := dk_4 (dk_at dksX1_measure_0 12 rfl rfl)
theorem dX1_measure_13 : decode cX1_measure 13 = .ok (.goto 4, 3) := dk_167 0 4 (dk_at dksX1_measure_0 13 rfl rfl)
theorem dX1_measure_16 : decode cX1_measure 16 = .ok (.iconst 0, 1) := dk_3 (dk_at dksX1_measure_0 16 rfl rfl)
theorem dX1_measure_17 : decode cX1_measure 17 = .ok (.istore_n 2, 1) := dk_61 (dk_at dksX1_measure_0 17 rfl rfl)
theorem dX1_measure_18 : decode cX1_measure 18 = .ok (.iconst 0, 1) := dk_3 (dk_at dksX1_measure_0 18 rfl rfl)
theorem dX1_measure_19 : decode cX1_measure 19 = .ok (.istore_n 3, 1) := dk_62 (dk_at dksX1_measure_0 19 rfl rfl)
theorem dX1_measure_20 : decode cX1_measure 20 = .ok (.iconst 0, 1) := dk_3 (dk_at dksX1_measure_0 20 rfl rfl)
theorem dX1_measure_21 : decode cX1_measure 21 = .ok (.istore 4, 2) := dk_54 4 (dk_at dksX1_measure_0 21 rfl rfl)
theorem dX1_measure_23 : decode cX1_measure 23 = .ok (.iconst 0, 1) := dk_3 (dk_at dksX1_measure_0 23 rfl rfl)
theorem dX1_measure_24 : decode cX1_measure 24 = .ok (.istore 5, 2) := dk_54 5 (dk_at dksX1_measure_1 0 rfl rfl)
theorem dX1_measure_26 : decode cX1_measure 26 = .ok (.iload 5, 2) := dk_21 5 (dk_at dksX1_measure_1 2 rfl rfl)
theorem dX1_measure_28 : decode cX1_measure 28 = .ok (.aload_n 1, 1) := dk_43 (dk_at dksX1_measure_1 4 rfl rfl)
theorem dX1_measure_29 : decode cX1_measure 29 = .ok (.getfield 44, 3) := dk_180 0 44 (dk_at dksX1_measure_1 5 rfl rfl)
theorem dX1_measure_32 : decode cX1_measure 32 = .ok (.invokeinterface 56 1, 5) := by decide +kernel
theorem dX1_measure_37 : decode cX1_measure 37 = .ok (.if_icmp .ge 137, 3) := dk_162 0 137 (dk_at dksX1_measure_1 13 rfl rfl)
theorem dX1_measure_40 : decode cX1_measure 40 = .ok (.aload_n 1, 1) := dk_43 (dk_at dksX1_measure_1 16 rfl rfl)
theorem dX1_measure_41 : decode cX1_measure 41 = .ok (.getfield 44, 3) := dk_180 0 44 (dk_at dksX1_measure_1 17 rfl rfl)
theorem dX1_measure_44 : decode cX1_measure 44 = .ok (.iload 5, 2) := dk_21 5 (dk_at dksX1_measure_1 20 rfl rfl)
theorem dX1_measure_46 : decode cX1_measure 46 = .ok (.invokeinterface 60 2, 5) := by decide +kernel
theorem dX1_measure_51 : decode cX1_measure 51 = .ok (.astore 7, 2) := dk_58 7 (dk_at dksX1_measure_2 5 rfl rfl)
theorem dX1_measure_53 : decode cX1_measure 53 = .ok (.aload 7, 2) := dk_25 7 (dk_at dksX1_measure_2 7 rfl rfl)
theorem dX1_measure_55 : decode cX1_measure 55 = .ok (.instanceof 64, 3) := dk_193 0 64 (dk_at dksX1_measure_2 9 rfl rfl)
theorem dX1_measure_58 : decode cX1_measure 58 = .ok (.ifCond .eq 107, 3) := dk_153 0 107 (dk_at dksX1_measure_2 12 rfl rfl)
theorem dX1_measure_61 : decode cX1_measure 61 = .ok (.aload 7, 2) := dk_25 7 (dk_at dksX1_measure_2 15 rfl rfl)
theorem dX1_measure_63 : decode cX1_measure 63 = .ok (.checkcast 64, 3) := dk_192 0 64 (dk_at dksX1_measure_2 17 rfl rfl)
theorem dX1_measure_66 : decode cX1_measure 66 = .ok (.astore 6, 2) := dk_58 6 (dk_at dksX1_measure_2 20 rfl rfl)
theorem dX1_measure_68 : decode cX1_measure 68 = .ok (.iconst 0, 1) := dk_3 (dk_at dksX1_measure_2 22 rfl rfl)
theorem dX1_measure_69 : decode cX1_measure 69 = .ok (.istore 7, 2) := dk_54 7 (dk_at dksX1_measure_3 0 rfl rfl)
theorem dX1_measure_71 : decode cX1_measure 71 = .ok (.iload 7, 2) := dk_21 7 (dk_at dksX1_measure_3 2 rfl rfl)
theorem dX1_measure_73 : decode cX1_measure 73 = .ok (.aload 6, 2) := dk_25 6 (dk_at dksX1_measure_3 4 rfl rfl)
theorem dX1_measure_75 : decode cX1_measure 75 = .ok (.getfield 66, 3) := dk_180 0 66 (dk_at dksX1_measure_3 6 rfl rfl)
theorem dX1_measure_78 : decode cX1_measure 78 = .ok (.arraylength, 1) := dk_190 (dk_at dksX1_measure_3 9 rfl rfl)
theorem dX1_measure_79 : decode cX1_measure 79 = .ok (.if_icmp .ge 22, 3) := dk_162 0 22 (dk_at dksX1_measure_3 10 rfl rfl)
theorem dX1_measure_82 : decode cX1_measure 82 = .ok (.aload_n 0, 1) := dk_42 (dk_at dksX1_measure_3 13 rfl rfl)
theorem dX1_measure_83 : decode cX1_measure 83 = .ok (.aload 6, 2) := dk_25 6 (dk_at dksX1_measure_3 14 rfl rfl)
theorem dX1_measure_85 : decode cX1_measure 85 = .ok (.getfield 66, 3) := dk_180 0 66 (dk_at dksX1_measure_3 16 rfl rfl)
theorem dX1_measure_88 : decode cX1_measure 88 = .ok (.iload 7, 2) := dk_21 7 (dk_at dksX1_measure_3 19 rfl rfl)
theorem dX1_measure_90 : decode cX1_measure 90 = .ok (.aaload, 1) := dk_50 (dk_at dksX1_measure_3 21 rfl rfl)
theorem dX1_measure_91 : decode cX1_measure 91 = .ok (.invokevirtual 70, 3) := dk_182 0 70 (dk_at dksX1_measure_4 0 rfl rfl)
theorem dX1_measure_94 : decode cX1_measure 94 = .ok (.pop, 1) := dk_87 (dk_at dksX1_measure_4 3 rfl rfl)
theorem dX1_measure_95 : decode cX1_measure 95 = .ok (.iinc 7 1, 3) := dk_132 7 1 (dk_at dksX1_measure_4 4 rfl rfl)
theorem dX1_measure_98 : decode cX1_measure 98 = .ok (.goto (-27), 3) := dk_167 255 229 (dk_at dksX1_measure_4 7 rfl rfl)
theorem dX1_measure_101 : decode cX1_measure 101 = .ok (.aload 6, 2) := dk_25 6 (dk_at dksX1_measure_4 10 rfl rfl)
theorem dX1_measure_103 : decode cX1_measure 103 = .ok (.aload_n 0, 1) := dk_42 (dk_at dksX1_measure_4 12 rfl rfl)
theorem dX1_measure_104 : decode cX1_measure 104 = .ok (.getfield 74, 3) := dk_180 0 74 (dk_at dksX1_measure_4 13 rfl rfl)
theorem dX1_measure_107 : decode cX1_measure 107 = .ok (.aload 6, 2) := dk_25 6 (dk_at dksX1_measure_4 16 rfl rfl)
theorem dX1_measure_109 : decode cX1_measure 109 = .ok (.getfield 78, 3) := dk_180 0 78 (dk_at dksX1_measure_4 18 rfl rfl)
theorem dX1_measure_112 : decode cX1_measure 112 = .ok (.aaload, 1) := dk_50 (dk_at dksX1_measure_4 21 rfl rfl)
theorem dX1_measure_113 : decode cX1_measure 113 = .ok (.aload 6, 2) := dk_25 6 (dk_at dksX1_measure_4 22 rfl rfl)
theorem dX1_measure_115 : decode cX1_measure 115 = .ok (.invokeinterface 82 2, 5) := by decide +kernel
theorem dX1_measure_120 : decode cX1_measure 120 = .ok (.putfield 87, 3) := dk_181 0 87 (dk_at dksX1_measure_5 5 rfl rfl)
theorem dX1_measure_123 : decode cX1_measure 123 = .ok (.iload_n 2, 1) := dk_28 (dk_at dksX1_measure_5 8 rfl rfl)
theorem dX1_measure_124 : decode cX1_measure 124 = .ok (.aload 6, 2) := dk_25 6 (dk_at dksX1_measure_5 9 rfl rfl)
theorem dX1_measure_126 : decode cX1_measure 126 = .ok (.getfield 87, 3) := dk_180 0 87 (dk_at dksX1_measure_5 11 rfl rfl)
theorem dX1_measure_129 : decode cX1_measure 129 = .ok (.getfield 91, 3) := dk_180 0 91 (dk_at dksX1_measure_5 14 rfl rfl)
theorem dX1_measure_132 : decode cX1_measure 132 = .ok (.iadd, 1) := dk_96 (dk_at dksX1_measure_5 17 rfl rfl)
theorem dX1_measure_133 : decode cX1_measure 133 = .ok (.istore_n 2, 1) := dk_61 (dk_at dksX1_measure_5 18 rfl rfl)
theorem dX1_measure_134 : decode cX1_measure 134 = .ok (.iload_n 3, 1) := dk_29 (dk_at dksX1_measure_5 19 rfl rfl)
theorem dX1_measure_135 : decode cX1_measure 135 = .ok (.aload 6, 2) := dk_25 6 (dk_at dksX1_measure_5 20 rfl rfl)
theorem dX1_measure_137 : decode cX1_measure 137 = .ok (.getfield 87, 3) := dk_180 0 87 (dk_at dksX1_measure_6 0 rfl rfl)
theorem dX1_measure_140 : decode cX1_measure 140 = .ok (.getfield 96, 3) := dk_180 0 96 (dk_at dksX1_measure_6 3 rfl rfl)
theorem dX1_measure_143 : decode cX1_measure 143 = .ok (.invokestatic 99, 3) := dk_184 0 99 (dk_at dksX1_measure_6 6 rfl rfl)
theorem dX1_measure_146 : decode cX1_measure 146 = .ok (.istore_n 3, 1) := dk_62 (dk_at dksX1_measure_6 9 rfl rfl)
theorem dX1_measure_147 : decode cX1_measure 147 = .ok (.iload 4, 2) := dk_21 4 (dk_at dksX1_measure_6 10 rfl rfl)
theorem dX1_measure_149 : decode cX1_measure 149 = .ok (.aload 6, 2) := dk_25 6 (dk_at dksX1_measure_6 12 rfl rfl)
theorem dX1_measure_151 : decode cX1_measure 151 = .ok (.getfield 87, 3) := dk_180 0 87 (dk_at dksX1_measure_6 14 rfl rfl)
theorem dX1_measure_154 : decode cX1_measure 154 = .ok (.getfield 105, 3) := dk_180 0 105 (dk_at dksX1_measure_6 17 rfl rfl)
theorem dX1_measure_157 : decode cX1_measure 157 = .ok (.invokestatic 99, 3) := dk_184 0 99 (dk_at dksX1_measure_6 20 rfl rfl)
theorem dX1_measure_160 : decode cX1_measure 160 = .ok (.istore 4, 2) := dk_54 4 (dk_at dksX1_measure_7 0 rfl rfl)
theorem dX1_measure_162 : decode cX1_measure 162 = .ok (.goto 6, 3) := dk_167 0 6 (dk_at dksX1_measure_7 2 rfl rfl)
theorem dX1_measure_165 : decode cX1_measure 165 = .ok (.iinc 2 1, 3) := dk_132 2 1 (dk_at dksX1_measure_7 5 rfl rfl)
theorem dX1_measure_168 : decode cX1_measure 168 = .ok (.iinc 5 1, 3) := dk_132 5 1 (dk_at dksX1_measure_7 8 rfl rfl)
theorem dX1_measure_171 : decode cX1_measure 171 = .ok (.goto (-145), 3) := dk_167 255 111 (dk_at dksX1_measure_7 11 rfl rfl)
theorem dX1_measure_174 : decode cX1_measure 174 = .ok (.aload_n 1, 1) := dk_43 (dk_at dksX1_measure_7 14 rfl rfl)
theorem dX1_measure_175 : decode cX1_measure 175 = .ok (.new 92, 3) := dk_187 0 92 (dk_at dksX1_measure_7 15 rfl rfl)
theorem dX1_measure_178 : decode cX1_measure 178 = .ok (.dup, 1) := dk_89 (dk_at dksX1_measure_7 18 rfl rfl)
theorem dX1_measure_179 : decode cX1_measure 179 = .ok (.iload_n 2, 1) := dk_28 (dk_at dksX1_measure_7 19 rfl rfl)
theorem dX1_measure_180 : decode cX1_measure 180 = .ok (.iload_n 3, 1) := dk_29 (dk_at dksX1_measure_7 20 rfl rfl)
theorem dX1_measure_181 : decode cX1_measure 181 = .ok (.iload 4, 2) := dk_21 4 (dk_at dksX1_measure_7 21 rfl rfl)
theorem dX1_measure_183 : decode cX1_measure 183 = .ok (.invokespecial 108, 3) := dk_183 0 108 (dk_at dksX1_measure_8 0 rfl rfl)
theorem dX1_measure_186 : decode cX1_measure 186 = .ok (.putfield 111, 3) := dk_181 0 111 (dk_at dksX1_measure_8 3 rfl rfl)
theorem dX1_measure_189 : decode cX1_measure 189 = .ok (.aload_n 1, 1) := dk_43 (dk_at dksX1_measure_8 6 rfl rfl)
theorem dX1_measure_190 : decode cX1_measure 190 = .ok (.getfield 111, 3) := dk_180 0 111 (dk_at dksX1_measure_8 7 rfl rfl)
theorem dX1_measure_193 : decode cX1_measure 193 = .ok (.areturn, 1) := dk_176 (dk_at dksX1_measure_8 10 rfl rfl)
abbrev cX1_drawn : ByteArray := prog_1_method_39_code
def yX1_drawn : MethodName := ⟨RX1, "drawn", "(II)I"⟩
def dkwX1_drawn_4 : List UInt8 := [154, 0, 8, 16, 32, 167, 0, 9, 25, 4, 28, 50, 27, 52, 172]
abbrev dktX1_drawn_4 : List UInt8 := dkwX1_drawn_4 ++ []
def dkwX1_drawn_3 : List UInt8 := [180, 0, 177, 180, 0, 254, 25, 4, 3, 45, 180, 0, 96, 182, 0, 127, 25, 4, 28, 50, 27, 52]
abbrev dktX1_drawn_3 : List UInt8 := dkwX1_drawn_3 ++ dktX1_drawn_4
def dkwX1_drawn_2 : List UInt8 := [167, 0, 4, 3, 184, 1, 13, 45, 182, 1, 108, 45, 180, 0, 91, 197, 1, 111, 2, 58, 4, 42, 42]
abbrev dktX1_drawn_2 : List UInt8 := dkwX1_drawn_2 ++ dktX1_drawn_3
def dkwX1_drawn_1 : List UInt8 := [184, 0, 19, 153, 0, 23, 28, 133, 9, 45, 182, 1, 108, 4, 100, 133, 184, 0, 19, 153, 0, 7, 4]
abbrev dktX1_drawn_1 : List UInt8 := dkwX1_drawn_1 ++ dktX1_drawn_2
def dkwX1_drawn_0 : List UInt8 := [42, 42, 180, 0, 177, 180, 0, 254, 182, 0, 70, 78, 27, 133, 9, 45, 180, 0, 91, 4, 100, 133]
abbrev dktX1_drawn_0 : List UInt8 := dkwX1_drawn_0 ++ dktX1_drawn_1
theorem dksX1_drawn_0 : cX1_drawn.data.toList.drop 0 = dktX1_drawn_0 := by decide +kernel
theorem dksX1_drawn_1 : cX1_drawn.data.toList.drop 22 = dktX1_drawn_1 := dk_seg dksX1_drawn_0 22 rfl rfl
theorem dksX1_drawn_2 : cX1_drawn.data.toList.drop 45 = dktX1_drawn_2 := dk_seg dksX1_drawn_1 23 rfl rfl
theorem dksX1_drawn_3 : cX1_drawn.data.toList.drop 68 = dktX1_drawn_3 := dk_seg dksX1_drawn_2 23 rfl rfl
theorem dksX1_drawn_4 : cX1_drawn.data.toList.drop 90 = dktX1_drawn_4 := dk_seg dksX1_drawn_3 22 rfl rfl
theorem dX1_drawn_0 : decode cX1_drawn 0 = .ok (.aload_n 0, 1) := dk_42 (dk_at dksX1_drawn_0 0 rfl rfl)
theorem dX1_drawn_1 : decode cX1_drawn 1 = .ok (.aload_n 0, 1) := dk_42 (dk_at dksX1_drawn_0 1 rfl rfl)
theorem dX1_drawn_2 : decode cX1_drawn 2 = .ok (.getfield 177, 3) := dk_180 0 177 (dk_at dksX1_drawn_0 2 rfl rfl)
theorem dX1_drawn_5 : decode cX1_drawn 5 = .ok (.getfield 254, 3) := dk_180 0 254 (dk_at dksX1_drawn_0 5 rfl rfl)
theorem dX1_drawn_8 : decode cX1_drawn 8 = .ok (.invokevirtual 70, 3) := dk_182 0 70 (dk_at dksX1_drawn_0 8 rfl rfl)
theorem dX1_drawn_11 : decode cX1_drawn 11 = .ok (.astore_n 3, 1) := dk_78 (dk_at dksX1_drawn_0 11 rfl rfl)
theorem dX1_drawn_12 : decode cX1_drawn 12 = .ok (.iload_n 1, 1) := dk_27 (dk_at dksX1_drawn_0 12 rfl rfl)
theorem dX1_drawn_13 : decode cX1_drawn 13 = .ok (.i2l, 1) := dk_133 (dk_at dksX1_drawn_0 13 rfl rfl)
theorem dX1_drawn_14 : decode cX1_drawn 14 = .ok (.lconst 0, 1) := dk_9 (dk_at dksX1_drawn_0 14 rfl rfl)
theorem dX1_drawn_15 : decode cX1_drawn 15 = .ok (.aload_n 3, 1) := dk_45 (dk_at dksX1_drawn_0 15 rfl rfl)
theorem dX1_drawn_16 : decode cX1_drawn 16 = .ok (.getfield 91, 3) := dk_180 0 91 (dk_at dksX1_drawn_0 16 rfl rfl)
theorem dX1_drawn_19 : decode cX1_drawn 19 = .ok (.iconst 1, 1) := dk_4 (dk_at dksX1_drawn_0 19 rfl rfl)
theorem dX1_drawn_20 : decode cX1_drawn 20 = .ok (.isub, 1) := dk_100 (dk_at dksX1_drawn_0 20 rfl rfl)
theorem dX1_drawn_21 : decode cX1_drawn 21 = .ok (.i2l, 1) := dk_133 (dk_at dksX1_drawn_0 21 rfl rfl)
theorem dX1_drawn_22 : decode cX1_drawn 22 = .ok (.invokestatic 19, 3) := dk_184 0 19 (dk_at dksX1_drawn_1 0 rfl rfl)
theorem dX1_drawn_25 : decode cX1_drawn 25 = .ok (.ifCond .eq 23, 3) := dk_153 0 23 (dk_at dksX1_drawn_1 3 rfl rfl)
theorem dX1_drawn_28 : decode cX1_drawn 28 = .ok (.iload_n 2, 1) := dk_28 (dk_at dksX1_drawn_1 6 rfl rfl)
theorem dX1_drawn_29 : decode cX1_drawn 29 = .ok (.i2l, 1) := dk_133 (dk_at dksX1_drawn_1 7 rfl rfl)
theorem dX1_drawn_30 : decode cX1_drawn 30 = .ok (.lconst 0, 1) := dk_9 (dk_at dksX1_drawn_1 8 rfl rfl)
theorem dX1_drawn_31 : decode cX1_drawn 31 = .ok (.aload_n 3, 1) := dk_45 (dk_at dksX1_drawn_1 9 rfl rfl)
theorem dX1_drawn_32 : decode cX1_drawn 32 = .ok (.invokevirtual 364, 3) := dk_182 1 108 (dk_at dksX1_drawn_1 10 rfl rfl)
theorem dX1_drawn_35 : decode cX1_drawn 35 = .ok (.iconst 1, 1) := dk_4 (dk_at dksX1_drawn_1 13 rfl rfl)
theorem dX1_drawn_36 : decode cX1_drawn 36 = .ok (.isub, 1) := dk_100 (dk_at dksX1_drawn_1 14 rfl rfl)
theorem dX1_drawn_37 : decode cX1_drawn 37 = .ok (.i2l, 1) := dk_133 (dk_at dksX1_drawn_1 15 rfl rfl)
theorem dX1_drawn_38 : decode cX1_drawn 38 = .ok (.invokestatic 19, 3) := dk_184 0 19 (dk_at dksX1_drawn_1 16 rfl rfl)
theorem dX1_drawn_41 : decode cX1_drawn 41 = .ok (.ifCond .eq 7, 3) := dk_153 0 7 (dk_at dksX1_drawn_1 19 rfl rfl)
theorem dX1_drawn_44 : decode cX1_drawn 44 = .ok (.iconst 1, 1) := dk_4 (dk_at dksX1_drawn_1 22 rfl rfl)
theorem dX1_drawn_45 : decode cX1_drawn 45 = .ok (.goto 4, 3) := dk_167 0 4 (dk_at dksX1_drawn_2 0 rfl rfl)
theorem dX1_drawn_48 : decode cX1_drawn 48 = .ok (.iconst 0, 1) := dk_3 (dk_at dksX1_drawn_2 3 rfl rfl)
theorem dX1_drawn_49 : decode cX1_drawn 49 = .ok (.invokestatic 269, 3) := dk_184 1 13 (dk_at dksX1_drawn_2 4 rfl rfl)
theorem dX1_drawn_52 : decode cX1_drawn 52 = .ok (.aload_n 3, 1) := dk_45 (dk_at dksX1_drawn_2 7 rfl rfl)
theorem dX1_drawn_53 : decode cX1_drawn 53 = .ok (.invokevirtual 364, 3) := dk_182 1 108 (dk_at dksX1_drawn_2 8 rfl rfl)
theorem dX1_drawn_56 : decode cX1_drawn 56 = .ok (.aload_n 3, 1) := dk_45 (dk_at dksX1_drawn_2 11 rfl rfl)
theorem dX1_drawn_57 : decode cX1_drawn 57 = .ok (.getfield 91, 3) := dk_180 0 91 (dk_at dksX1_drawn_2 12 rfl rfl)
theorem dX1_drawn_60 : decode cX1_drawn 60 = .ok (.multianewarray 367 2, 4) := by decide +kernel
theorem dX1_drawn_64 : decode cX1_drawn 64 = .ok (.astore 4, 2) := dk_58 4 (dk_at dksX1_drawn_2 19 rfl rfl)
theorem dX1_drawn_66 : decode cX1_drawn 66 = .ok (.aload_n 0, 1) := dk_42 (dk_at dksX1_drawn_2 21 rfl rfl)
theorem dX1_drawn_67 : decode cX1_drawn 67 = .ok (.aload_n 0, 1) := dk_42 (dk_at dksX1_drawn_2 22 rfl rfl)
theorem dX1_drawn_68 : decode cX1_drawn 68 = .ok (.getfield 177, 3) := dk_180 0 177 (dk_at dksX1_drawn_3 0 rfl rfl)
theorem dX1_drawn_71 : decode cX1_drawn 71 = .ok (.getfield 254, 3) := dk_180 0 254 (dk_at dksX1_drawn_3 3 rfl rfl)
theorem dX1_drawn_74 : decode cX1_drawn 74 = .ok (.aload 4, 2) := dk_25 4 (dk_at dksX1_drawn_3 6 rfl rfl)
theorem dX1_drawn_76 : decode cX1_drawn 76 = .ok (.iconst 0, 1) := dk_3 (dk_at dksX1_drawn_3 8 rfl rfl)
theorem dX1_drawn_77 : decode cX1_drawn 77 = .ok (.aload_n 3, 1) := dk_45 (dk_at dksX1_drawn_3 9 rfl rfl)
theorem dX1_drawn_78 : decode cX1_drawn 78 = .ok (.getfield 96, 3) := dk_180 0 96 (dk_at dksX1_drawn_3 10 rfl rfl)
theorem dX1_drawn_81 : decode cX1_drawn 81 = .ok (.invokevirtual 127, 3) := dk_182 0 127 (dk_at dksX1_drawn_3 13 rfl rfl)
theorem dX1_drawn_84 : decode cX1_drawn 84 = .ok (.aload 4, 2) := dk_25 4 (dk_at dksX1_drawn_3 16 rfl rfl)
theorem dX1_drawn_86 : decode cX1_drawn 86 = .ok (.iload_n 2, 1) := dk_28 (dk_at dksX1_drawn_3 18 rfl rfl)
theorem dX1_drawn_87 : decode cX1_drawn 87 = .ok (.aaload, 1) := dk_50 (dk_at dksX1_drawn_3 19 rfl rfl)
theorem dX1_drawn_88 : decode cX1_drawn 88 = .ok (.iload_n 1, 1) := dk_27 (dk_at dksX1_drawn_3 20 rfl rfl)
theorem dX1_drawn_89 : decode cX1_drawn 89 = .ok (.caload, 1) := dk_52 (dk_at dksX1_drawn_3 21 rfl rfl)
theorem dX1_drawn_90 : decode cX1_drawn 90 = .ok (.ifCond .ne 8, 3) := dk_154 0 8 (dk_at dksX1_drawn_4 0 rfl rfl)
theorem dX1_drawn_93 : decode cX1_drawn 93 = .ok (.bipush 32, 2) := dk_16 32 (dk_at dksX1_drawn_4 3 rfl rfl)
theorem dX1_drawn_95 : decode cX1_drawn 95 = .ok (.goto 9, 3) := dk_167 0 9 (dk_at dksX1_drawn_4 5 rfl rfl)
theorem dX1_drawn_98 : decode cX1_drawn 98 = .ok (.aload 4, 2) := dk_25 4 (dk_at dksX1_drawn_4 8 rfl rfl)
theorem dX1_drawn_100 : decode cX1_drawn 100 = .ok (.iload_n 2, 1) := dk_28 (dk_at dksX1_drawn_4 10 rfl rfl)
theorem dX1_drawn_101 : decode cX1_drawn 101 = .ok (.aaload, 1) := dk_50 (dk_at dksX1_drawn_4 11 rfl rfl)
theorem dX1_drawn_102 : decode cX1_drawn 102 = .ok (.iload_n 1, 1) := dk_27 (dk_at dksX1_drawn_4 12 rfl rfl)
theorem dX1_drawn_103 : decode cX1_drawn 103 = .ok (.caload, 1) := dk_52 (dk_at dksX1_drawn_4 13 rfl rfl)
theorem dX1_drawn_104 : decode cX1_drawn 104 = .ok (.ireturn, 1) := dk_172 (dk_at dksX1_drawn_4 14 rfl rfl)
abbrev cX1_runScript : ByteArray := prog_1_method_41_code
def yX1_runScript : MethodName := ⟨RX1, "runScript", "(IJ)I"⟩
def dkwX1_runScript_4 : List UInt8 := [167, 255, 203, 16, 247, 172]
abbrev dktX1_runScript_4 : List UInt8 := dkwX1_runScript_4 ++ []
def dkwX1_runScript_3 : List UInt8 := [21, 6, 17, 3, 232, 108, 21, 6, 17, 3, 232, 112, 182, 1, 130, 154, 0, 6, 21, 5, 172, 132, 5, 1]
abbrev dktX1_runScript_3 : List UInt8 := dkwX1_runScript_3 ++ dktX1_runScript_4
def dkwX1_runScript_2 : List UInt8 := [32, 7, 27, 4, 100, 21, 5, 100, 104, 184, 1, 124, 109, 20, 1, 128, 113, 136, 54, 6, 42, 25, 4]
abbrev dktX1_runScript_2 : List UInt8 := dkwX1_runScript_2 ++ dktX1_runScript_3
def dkwX1_runScript_1 : List UInt8 := [184, 0, 19, 184, 0, 226, 42, 180, 0, 177, 182, 0, 199, 58, 4, 3, 54, 5, 21, 5, 27, 162, 0, 53]
abbrev dktX1_runScript_1 : List UInt8 := dkwX1_runScript_1 ++ dktX1_runScript_2
def dkwX1_runScript_0 : List UInt8 := [27, 133, 10, 20, 1, 122, 184, 0, 19, 184, 0, 226, 32, 9, 7, 27, 104, 184, 1, 124, 10, 101]
abbrev dktX1_runScript_0 : List UInt8 := dkwX1_runScript_0 ++ dktX1_runScript_1
theorem dksX1_runScript_0 : cX1_runScript.data.toList.drop 0 = dktX1_runScript_0 := by decide +kernel
theorem dksX1_runScript_1 : cX1_runScript.data.toList.drop 22 = dktX1_runScript_1 := dk_seg dksX1_runScript_0 22 rfl rfl
theorem dksX1_runScript_2 : cX1_runScript.data.toList.drop 46 = dktX1_runScript_2 := dk_seg dksX1_runScript_1 24 rfl rfl
theorem dksX1_runScript_3 : cX1_runScript.data.toList.drop 69 = dktX1_runScript_3 := dk_seg dksX1_runScript_2 23 rfl rfl
theorem dksX1_runScript_4 : cX1_runScript.data.toList.drop 93 = dktX1_runScript_4 := dk_seg dksX1_runScript_3 24 rfl rfl
theorem dX1_runScript_0 : decode cX1_runScript 0 = .ok (.iload_n 1, 1) := dk_27 (dk_at dksX1_runScript_0 0 rfl rfl)
theorem dX1_runScript_1 : decode cX1_runScript 1 = .ok (.i2l, 1) := dk_133 (dk_at dksX1_runScript_0 1 rfl rfl)
theorem dX1_runScript_2 : decode cX1_runScript 2 = .ok (.lconst 1, 1) := dk_10 (dk_at dksX1_runScript_0 2 rfl rfl)
theorem dX1_runScript_3 : decode cX1_runScript 3 = .ok (.ldc2_w 378, 3) := dk_20 1 122 (dk_at dksX1_runScript_0 3 rfl rfl)
theorem dX1_runScript_6 : decode cX1_runScript 6 = .ok (.invokestatic 19, 3) := dk_184 0 19 (dk_at dksX1_runScript_0 6 rfl rfl)
theorem dX1_runScript_9 : decode cX1_runScript 9 = .ok (.invokestatic 226, 3) := dk_184 0 226 (dk_at dksX1_runScript_0 9 rfl rfl)
theorem dX1_runScript_12 : decode cX1_runScript 12 = .ok (.lload_n 2, 1) := dk_32 (dk_at dksX1_runScript_0 12 rfl rfl)
theorem dX1_runScript_13 : decode cX1_runScript 13 = .ok (.lconst 0, 1) := dk_9 (dk_at dksX1_runScript_0 13 rfl rfl)
theorem dX1_runScript_14 : decode cX1_runScript 14 = .ok (.iconst 4, 1) := dk_7 (dk_at dksX1_runScript_0 14 rfl rfl)
theorem dX1_runScript_15 : decode cX1_runScript 15 = .ok (.iload_n 1, 1) := dk_27 (dk_at dksX1_runScript_0 15 rfl rfl)
theorem dX1_runScript_16 : decode cX1_runScript 16 = .ok (.imul, 1) := dk_104 (dk_at dksX1_runScript_0 16 rfl rfl)
theorem dX1_runScript_17 : decode cX1_runScript 17 = .ok (.invokestatic 380, 3) := dk_184 1 124 (dk_at dksX1_runScript_0 17 rfl rfl)
theorem dX1_runScript_20 : decode cX1_runScript 20 = .ok (.lconst 1, 1) := dk_10 (dk_at dksX1_runScript_0 20 rfl rfl)
theorem dX1_runScript_21 : decode cX1_runScript 21 = .ok (.lsub, 1) := dk_101 (dk_at dksX1_runScript_0 21 rfl rfl)
theorem dX1_runScript_22 : decode cX1_runScript 22 = .ok (.invokestatic 19, 3) := dk_184 0 19 (dk_at dksX1_runScript_1 0 rfl rfl)
theorem dX1_runScript_25 : decode cX1_runScript 25 = .ok (.invokestatic 226, 3) := dk_184 0 226 (dk_at dksX1_runScript_1 3 rfl rfl)
theorem dX1_runScript_28 : decode cX1_runScript 28 = .ok (.aload_n 0, 1) := dk_42 (dk_at dksX1_runScript_1 6 rfl rfl)
theorem dX1_runScript_29 : decode cX1_runScript 29 = .ok (.getfield 177, 3) := dk_180 0 177 (dk_at dksX1_runScript_1 7 rfl rfl)
theorem dX1_runScript_32 : decode cX1_runScript 32 = .ok (.invokevirtual 199, 3) := dk_182 0 199 (dk_at dksX1_runScript_1 10 rfl rfl)
theorem dX1_runScript_35 : decode cX1_runScript 35 = .ok (.astore 4, 2) := dk_58 4 (dk_at dksX1_runScript_1 13 rfl rfl)
theorem dX1_runScript_37 : decode cX1_runScript 37 = .ok (.iconst 0, 1) := dk_3 (dk_at dksX1_runScript_1 15 rfl rfl)
theorem dX1_runScript_38 : decode cX1_runScript 38 = .ok (.istore 5, 2) := dk_54 5 (dk_at dksX1_runScript_1 16 rfl rfl)
theorem dX1_runScript_40 : decode cX1_runScript 40 = .ok (.iload 5, 2) := dk_21 5 (dk_at dksX1_runScript_1 18 rfl rfl)
theorem dX1_runScript_42 : decode cX1_runScript 42 = .ok (.iload_n 1, 1) := dk_27 (dk_at dksX1_runScript_1 20 rfl rfl)
theorem dX1_runScript_43 : decode cX1_runScript 43 = .ok (.if_icmp .ge 53, 3) := dk_162 0 53 (dk_at dksX1_runScript_1 21 rfl rfl)
theorem dX1_runScript_46 : decode cX1_runScript 46 = .ok (.lload_n 2, 1) := dk_32 (dk_at dksX1_runScript_2 0 rfl rfl)
theorem dX1_runScript_47 : decode cX1_runScript 47 = .ok (.iconst 4, 1) := dk_7 (dk_at dksX1_runScript_2 1 rfl rfl)
theorem dX1_runScript_48 : decode cX1_runScript 48 = .ok (.iload_n 1, 1) := dk_27 (dk_at dksX1_runScript_2 2 rfl rfl)
theorem dX1_runScript_49 : decode cX1_runScript 49 = .ok (.iconst 1, 1) := dk_4 (dk_at dksX1_runScript_2 3 rfl rfl)
theorem dX1_runScript_50 : decode cX1_runScript 50 = .ok (.isub, 1) := dk_100 (dk_at dksX1_runScript_2 4 rfl rfl)
theorem dX1_runScript_51 : decode cX1_runScript 51 = .ok (.iload 5, 2) := dk_21 5 (dk_at dksX1_runScript_2 5 rfl rfl)
theorem dX1_runScript_53 : decode cX1_runScript 53 = .ok (.isub, 1) := dk_100 (dk_at dksX1_runScript_2 7 rfl rfl)
theorem dX1_runScript_54 : decode cX1_runScript 54 = .ok (.imul, 1) := dk_104 (dk_at dksX1_runScript_2 8 rfl rfl)
theorem dX1_runScript_55 : decode cX1_runScript 55 = .ok (.invokestatic 380, 3) := dk_184 1 124 (dk_at dksX1_runScript_2 9 rfl rfl)
theorem dX1_runScript_58 : decode cX1_runScript 58 = .ok (.ldiv, 1) := dk_109 (dk_at dksX1_runScript_2 12 rfl rfl)
theorem dX1_runScript_59 : decode cX1_runScript 59 = .ok (.ldc2_w 384, 3) := dk_20 1 128 (dk_at dksX1_runScript_2 13 rfl rfl)
theorem dX1_runScript_62 : decode cX1_runScript 62 = .ok (.lrem, 1) := dk_113 (dk_at dksX1_runScript_2 16 rfl rfl)
theorem dX1_runScript_63 : decode cX1_runScript 63 = .ok (.l2i, 1) := dk_136 (dk_at dksX1_runScript_2 17 rfl rfl)
theorem dX1_runScript_64 : decode cX1_runScript 64 = .ok (.istore 6, 2) := dk_54 6 (dk_at dksX1_runScript_2 18 rfl rfl)
theorem dX1_runScript_66 : decode cX1_runScript 66 = .ok (.aload_n 0, 1) := dk_42 (dk_at dksX1_runScript_2 20 rfl rfl)
theorem dX1_runScript_67 : decode cX1_runScript 67 = .ok (.aload 4, 2) := dk_25 4 (dk_at dksX1_runScript_2 21 rfl rfl)
theorem dX1_runScript_69 : decode cX1_runScript 69 = .ok (.iload 6, 2) := dk_21 6 (dk_at dksX1_runScript_3 0 rfl rfl)
theorem dX1_runScript_71 : decode cX1_runScript 71 = .ok (.sipush 1000, 3) := dk_17 3 232 (dk_at dksX1_runScript_3 2 rfl rfl)
theorem dX1_runScript_74 : decode cX1_runScript 74 = .ok (.idiv, 1) := dk_108 (dk_at dksX1_runScript_3 5 rfl rfl)
theorem dX1_runScript_75 : decode cX1_runScript 75 = .ok (.iload 6, 2) := dk_21 6 (dk_at dksX1_runScript_3 6 rfl rfl)
theorem dX1_runScript_77 : decode cX1_runScript 77 = .ok (.sipush 1000, 3) := dk_17 3 232 (dk_at dksX1_runScript_3 8 rfl rfl)
theorem dX1_runScript_80 : decode cX1_runScript 80 = .ok (.irem, 1) := dk_112 (dk_at dksX1_runScript_3 11 rfl rfl)
theorem dX1_runScript_81 : decode cX1_runScript 81 = .ok (.invokevirtual 386, 3) := dk_182 1 130 (dk_at dksX1_runScript_3 12 rfl rfl)
theorem dX1_runScript_84 : decode cX1_runScript 84 = .ok (.ifCond .ne 6, 3) := dk_154 0 6 (dk_at dksX1_runScript_3 15 rfl rfl)
theorem dX1_runScript_87 : decode cX1_runScript 87 = .ok (.iload 5, 2) := dk_21 5 (dk_at dksX1_runScript_3 18 rfl rfl)
theorem dX1_runScript_89 : decode cX1_runScript 89 = .ok (.ireturn, 1) := dk_172 (dk_at dksX1_runScript_3 20 rfl rfl)
theorem dX1_runScript_90 : decode cX1_runScript 90 = .ok (.iinc 5 1, 3) := dk_132 5 1 (dk_at dksX1_runScript_3 21 rfl rfl)
theorem dX1_runScript_93 : decode cX1_runScript 93 = .ok (.goto (-53), 3) := dk_167 255 203 (dk_at dksX1_runScript_4 0 rfl rfl)
theorem dX1_runScript_96 : decode cX1_runScript 96 = .ok (.bipush (-9), 2) := dk_16 247 (dk_at dksX1_runScript_4 3 rfl rfl)
theorem dX1_runScript_98 : decode cX1_runScript 98 = .ok (.ireturn, 1) := dk_172 (dk_at dksX1_runScript_4 5 rfl rfl)
abbrev cX1_tenTo : ByteArray := prog_1_method_5_code
def yX1_tenTo : MethodName := ⟨RX1, "tenTo", "(I)J"⟩
def dkwX1_tenTo_0 : List UInt8 := [10, 64, 3, 62, 29, 26, 162, 0, 15, 31, 20, 0, 13, 105, 64, 132, 3, 1, 167, 255, 242, 31, 173]
abbrev dktX1_tenTo_0 : List UInt8 := dkwX1_tenTo_0 ++ []
theorem dksX1_tenTo_0 : cX1_tenTo.data.toList.drop 0 = dktX1_tenTo_0 := by decide +kernel
theorem dX1_tenTo_0 : decode cX1_tenTo 0 = .ok (.lconst 1, 1) := dk_10 (dk_at dksX1_tenTo_0 0 rfl rfl)
theorem dX1_tenTo_1 : decode cX1_tenTo 1 = .ok (.lstore_n 1, 1) := dk_64 (dk_at dksX1_tenTo_0 1 rfl rfl)
theorem dX1_tenTo_2 : decode cX1_tenTo 2 = .ok (.iconst 0, 1) := dk_3 (dk_at dksX1_tenTo_0 2 rfl rfl)
theorem dX1_tenTo_3 : decode cX1_tenTo 3 = .ok (.istore_n 3, 1) := dk_62 (dk_at dksX1_tenTo_0 3 rfl rfl)
theorem dX1_tenTo_4 : decode cX1_tenTo 4 = .ok (.iload_n 3, 1) := dk_29 (dk_at dksX1_tenTo_0 4 rfl rfl)
theorem dX1_tenTo_5 : decode cX1_tenTo 5 = .ok (.iload_n 0, 1) := dk_26 (dk_at dksX1_tenTo_0 5 rfl rfl)
theorem dX1_tenTo_6 : decode cX1_tenTo 6 = .ok (.if_icmp .ge 15, 3) := dk_162 0 15 (dk_at dksX1_tenTo_0 6 rfl rfl)
theorem dX1_tenTo_9 : decode cX1_tenTo 9 = .ok (.lload_n 1, 1) := dk_31 (dk_at dksX1_tenTo_0 9 rfl rfl)
theorem dX1_tenTo_10 : decode cX1_tenTo 10 = .ok (.ldc2_w 13, 3) := dk_20 0 13 (dk_at dksX1_tenTo_0 10 rfl rfl)
theorem dX1_tenTo_13 : decode cX1_tenTo 13 = .ok (.lmul, 1) := dk_105 (dk_at dksX1_tenTo_0 13 rfl rfl)
theorem dX1_tenTo_14 : decode cX1_tenTo 14 = .ok (.lstore_n 1, 1) := dk_64 (dk_at dksX1_tenTo_0 14 rfl rfl)
theorem dX1_tenTo_15 : decode cX1_tenTo 15 = .ok (.iinc 3 1, 3) := dk_132 3 1 (dk_at dksX1_tenTo_0 15 rfl rfl)
theorem dX1_tenTo_18 : decode cX1_tenTo 18 = .ok (.goto (-14), 3) := dk_167 255 242 (dk_at dksX1_tenTo_0 18 rfl rfl)
theorem dX1_tenTo_21 : decode cX1_tenTo 21 = .ok (.lload_n 1, 1) := dk_31 (dk_at dksX1_tenTo_0 21 rfl rfl)
theorem dX1_tenTo_22 : decode cX1_tenTo 22 = .ok (.lreturn, 1) := dk_173 (dk_at dksX1_tenTo_0 22 rfl rfl)
abbrev cX1_run : ByteArray := prog_1_method_40_code
def yX1_run : MethodName := ⟨RX1, "run", "(LFormulaEditor$Document;II)Z"⟩
def dkwX1_run_10 : List UInt8 := [3, 172]
abbrev dktX1_run_10 : List UInt8 := dkwX1_run_10 ++ []
def dkwX1_run_9 : List UInt8 := [162, 0, 22, 42, 43, 180, 0, 254, 182, 0, 70, 180, 0, 91, 29, 160, 0, 7, 4, 167, 0, 4, 3, 172]
abbrev dktX1_run_9 : List UInt8 := dkwX1_run_9 ++ dktX1_run_10
def dkwX1_run_8 : List UInt8 := [16, 100, 162, 0, 15, 43, 182, 1, 4, 29, 160, 0, 7, 4, 167, 0, 4, 3, 172, 29, 16, 100]
abbrev dktX1_run_8 : List UInt8 := dkwX1_run_8 ++ dktX1_run_9
def dkwX1_run_7 : List UInt8 := [16, 100, 162, 0, 18, 43, 180, 0, 254, 182, 0, 253, 29, 160, 0, 7, 4, 167, 0, 4, 3, 172, 29]
abbrev dktX1_run_7 : List UInt8 := dkwX1_run_7 ++ dktX1_run_8
def dkwX1_run_6 : List UInt8 := [167, 0, 4, 3, 172, 29, 154, 0, 14, 43, 182, 1, 75, 153, 0, 7, 4, 167, 0, 4, 3, 172, 29]
abbrev dktX1_run_6 : List UInt8 := dkwX1_run_6 ++ dktX1_run_7
def dkwX1_run_5 : List UInt8 := [162, 0, 7, 4, 167, 0, 4, 3, 172, 29, 154, 0, 16, 43, 182, 1, 119, 16, 247, 159, 0, 7, 4]
abbrev dktX1_run_5 : List UInt8 := dkwX1_run_5 ++ dktX1_run_6
def dkwX1_run_4 : List UInt8 := [16, 100, 162, 0, 19, 43, 28, 6, 160, 0, 7, 29, 167, 0, 5, 29, 116, 182, 1, 65, 87, 29, 16, 100]
abbrev dktX1_run_4 : List UInt8 := dkwX1_run_4 ++ dktX1_run_5
def dkwX1_run_3 : List UInt8 := [20, 1, 20, 184, 0, 19, 153, 0, 15, 43, 29, 182, 1, 116, 153, 0, 7, 4, 167, 0, 4, 3, 172, 29]
abbrev dktX1_run_3 : List UInt8 := dkwX1_run_3 ++ dktX1_run_4
def dkwX1_run_2 : List UInt8 := [29, 184, 1, 82, 153, 0, 15, 43, 29, 182, 1, 113, 153, 0, 7, 4, 167, 0, 4, 3, 172, 29, 133, 10]
abbrev dktX1_run_2 : List UInt8 := dkwX1_run_2 ++ dktX1_run_3
def dkwX1_run_1 : List UInt8 := [170, 0, 0, 0, 0, 0, 238, 0, 0, 0, 1, 0, 0, 0, 9, 0, 0, 0, 51, 0, 0, 0, 72, 0, 0, 0, 98, 0, 0, 0, 98, 0, 0, 0, 132, 0, 0, 0, 151, 0, 0, 0, 168, 0, 0, 0, 191, 0, 0, 0, 211]
abbrev dktX1_run_1 : List UInt8 := dkwX1_run_1 ++ dktX1_run_2
def dkwX1_run_0 : List UInt8 := [28]
abbrev dktX1_run_0 : List UInt8 := dkwX1_run_0 ++ dktX1_run_1
theorem dksX1_run_0 : cX1_run.data.toList.drop 0 = dktX1_run_0 := by decide +kernel
theorem dksX1_run_1 : cX1_run.data.toList.drop 1 = dktX1_run_1 := dk_seg dksX1_run_0 1 rfl rfl
theorem dksX1_run_2 : cX1_run.data.toList.drop 52 = dktX1_run_2 := dk_seg dksX1_run_1 51 rfl rfl
theorem dksX1_run_3 : cX1_run.data.toList.drop 76 = dktX1_run_3 := dk_seg dksX1_run_2 24 rfl rfl
theorem dksX1_run_4 : cX1_run.data.toList.drop 100 = dktX1_run_4 := dk_seg dksX1_run_3 24 rfl rfl
theorem dksX1_run_5 : cX1_run.data.toList.drop 124 = dktX1_run_5 := dk_seg dksX1_run_4 24 rfl rfl
theorem dksX1_run_6 : cX1_run.data.toList.drop 147 = dktX1_run_6 := dk_seg dksX1_run_5 23 rfl rfl
theorem dksX1_run_7 : cX1_run.data.toList.drop 170 = dktX1_run_7 := dk_seg dksX1_run_6 23 rfl rfl
theorem dksX1_run_8 : cX1_run.data.toList.drop 193 = dktX1_run_8 := dk_seg dksX1_run_7 23 rfl rfl
theorem dksX1_run_9 : cX1_run.data.toList.drop 215 = dktX1_run_9 := dk_seg dksX1_run_8 22 rfl rfl
theorem dksX1_run_10 : cX1_run.data.toList.drop 239 = dktX1_run_10 := dk_seg dksX1_run_9 24 rfl rfl
theorem dX1_run_0 : decode cX1_run 0 = .ok (.iload_n 2, 1) := dk_28 (dk_at dksX1_run_0 0 rfl rfl)
theorem dX1_run_1 : decode cX1_run 1 = .ok (.tableswitch 238 1 9 #[51, 72, 98, 98, 132, 151, 168, 191, 211], 51) := by decide +kernel
theorem dX1_run_52 : decode cX1_run 52 = .ok (.iload_n 3, 1) := dk_29 (dk_at dksX1_run_2 0 rfl rfl)
theorem dX1_run_53 : decode cX1_run 53 = .ok (.invokestatic 338, 3) := dk_184 1 82 (dk_at dksX1_run_2 1 rfl rfl)
theorem dX1_run_56 : decode cX1_run 56 = .ok (.ifCond .eq 15, 3) := dk_153 0 15 (dk_at dksX1_run_2 4 rfl rfl)
theorem dX1_run_59 : decode cX1_run 59 = .ok (.aload_n 1, 1) := dk_43 (dk_at dksX1_run_2 7 rfl rfl)
theorem dX1_run_60 : decode cX1_run 60 = .ok (.iload_n 3, 1) := dk_29 (dk_at dksX1_run_2 8 rfl rfl)
theorem dX1_run_61 : decode cX1_run 61 = .ok (.invokevirtual 369, 3) := dk_182 1 113 (dk_at dksX1_run_2 9 rfl rfl)
theorem dX1_run_64 : decode cX1_run 64 = .ok (.ifCond .eq 7, 3) := dk_153 0 7 (dk_at dksX1_run_2 12 rfl rfl)
theorem dX1_run_67 : decode cX1_run 67 = .ok (.iconst 1, 1) := dk_4 (dk_at dksX1_run_2 15 rfl rfl)
theorem dX1_run_68 : decode cX1_run 68 = .ok (.goto 4, 3) := dk_167 0 4 (dk_at dksX1_run_2 16 rfl rfl)
theorem dX1_run_71 : decode cX1_run 71 = .ok (.iconst 0, 1) := dk_3 (dk_at dksX1_run_2 19 rfl rfl)
theorem dX1_run_72 : decode cX1_run 72 = .ok (.ireturn, 1) := dk_172 (dk_at dksX1_run_2 20 rfl rfl)
theorem dX1_run_73 : decode cX1_run 73 = .ok (.iload_n 3, 1) := dk_29 (dk_at dksX1_run_2 21 rfl rfl)
theorem dX1_run_74 : decode cX1_run 74 = .ok (.i2l, 1) := dk_133 (dk_at dksX1_run_2 22 rfl rfl)
theorem dX1_run_75 : decode cX1_run 75 = .ok (.lconst 1, 1) := dk_10 (dk_at dksX1_run_2 23 rfl rfl)
theorem dX1_run_76 : decode cX1_run 76 = .ok (.ldc2_w 276, 3) := dk_20 1 20 (dk_at dksX1_run_3 0 rfl rfl)
theorem dX1_run_79 : decode cX1_run 79 = .ok (.invokestatic 19, 3) := dk_184 0 19 (dk_at dksX1_run_3 3 rfl rfl)
theorem dX1_run_82 : decode cX1_run 82 = .ok (.ifCond .eq 15, 3) := dk_153 0 15 (dk_at dksX1_run_3 6 rfl rfl)
theorem dX1_run_85 : decode cX1_run 85 = .ok (.aload_n 1, 1) := dk_43 (dk_at dksX1_run_3 9 rfl rfl)
theorem dX1_run_86 : decode cX1_run 86 = .ok (.iload_n 3, 1) := dk_29 (dk_at dksX1_run_3 10 rfl rfl)
theorem dX1_run_87 : decode cX1_run 87 = .ok (.invokevirtual 372, 3) := dk_182 1 116 (dk_at dksX1_run_3 11 rfl rfl)
theorem dX1_run_90 : decode cX1_run 90 = .ok (.ifCond .eq 7, 3) := dk_153 0 7 (dk_at dksX1_run_3 14 rfl rfl)
theorem dX1_run_93 : decode cX1_run 93 = .ok (.iconst 1, 1) := dk_4 (dk_at dksX1_run_3 17 rfl rfl)
theorem dX1_run_94 : decode cX1_run 94 = .ok (.goto 4, 3) := dk_167 0 4 (dk_at dksX1_run_3 18 rfl rfl)
theorem dX1_run_97 : decode cX1_run 97 = .ok (.iconst 0, 1) := dk_3 (dk_at dksX1_run_3 21 rfl rfl)
theorem dX1_run_98 : decode cX1_run 98 = .ok (.ireturn, 1) := dk_172 (dk_at dksX1_run_3 22 rfl rfl)
theorem dX1_run_99 : decode cX1_run 99 = .ok (.iload_n 3, 1) := dk_29 (dk_at dksX1_run_3 23 rfl rfl)
theorem dX1_run_100 : decode cX1_run 100 = .ok (.bipush 100, 2) := dk_16 100 (dk_at dksX1_run_4 0 rfl rfl)
theorem dX1_run_102 : decode cX1_run 102 = .ok (.if_icmp .ge 19, 3) := dk_162 0 19 (dk_at dksX1_run_4 2 rfl rfl)
theorem dX1_run_105 : decode cX1_run 105 = .ok (.aload_n 1, 1) := dk_43 (dk_at dksX1_run_4 5 rfl rfl)
theorem dX1_run_106 : decode cX1_run 106 = .ok (.iload_n 2, 1) := dk_28 (dk_at dksX1_run_4 6 rfl rfl)
theorem dX1_run_107 : decode cX1_run 107 = .ok (.iconst 3, 1) := dk_6 (dk_at dksX1_run_4 7 rfl rfl)
theorem dX1_run_108 : decode cX1_run 108 = .ok (.if_icmp .ne 7, 3) := dk_160 0 7 (dk_at dksX1_run_4 8 rfl rfl)
theorem dX1_run_111 : decode cX1_run 111 = .ok (.iload_n 3, 1) := dk_29 (dk_at dksX1_run_4 11 rfl rfl)
theorem dX1_run_112 : decode cX1_run 112 = .ok (.goto 5, 3) := dk_167 0 5 (dk_at dksX1_run_4 12 rfl rfl)
theorem dX1_run_115 : decode cX1_run 115 = .ok (.iload_n 3, 1) := dk_29 (dk_at dksX1_run_4 15 rfl rfl)
theorem dX1_run_116 : decode cX1_run 116 = .ok (.ineg, 1) := dk_116 (dk_at dksX1_run_4 16 rfl rfl)
theorem dX1_run_117 : decode cX1_run 117 = .ok (.invokevirtual 321, 3) := dk_182 1 65 (dk_at dksX1_run_4 17 rfl rfl)
theorem dX1_run_120 : decode cX1_run 120 = .ok (.pop, 1) := dk_87 (dk_at dksX1_run_4 20 rfl rfl)
theorem dX1_run_121 : decode cX1_run 121 = .ok (.iload_n 3, 1) := dk_29 (dk_at dksX1_run_4 21 rfl rfl)
theorem dX1_run_122 : decode cX1_run 122 = .ok (.bipush 100, 2) := dk_16 100 (dk_at dksX1_run_4 22 rfl rfl)
theorem dX1_run_124 : decode cX1_run 124 = .ok (.if_icmp .ge 7, 3) := dk_162 0 7 (dk_at dksX1_run_5 0 rfl rfl)
theorem dX1_run_127 : decode cX1_run 127 = .ok (.iconst 1, 1) := dk_4 (dk_at dksX1_run_5 3 rfl rfl)
theorem dX1_run_128 : decode cX1_run 128 = .ok (.goto 4, 3) := dk_167 0 4 (dk_at dksX1_run_5 4 rfl rfl)
theorem dX1_run_131 : decode cX1_run 131 = .ok (.iconst 0, 1) := dk_3 (dk_at dksX1_run_5 7 rfl rfl)
theorem dX1_run_132 : decode cX1_run 132 = .ok (.ireturn, 1) := dk_172 (dk_at dksX1_run_5 8 rfl rfl)
theorem dX1_run_133 : decode cX1_run 133 = .ok (.iload_n 3, 1) := dk_29 (dk_at dksX1_run_5 9 rfl rfl)
theorem dX1_run_134 : decode cX1_run 134 = .ok (.ifCond .ne 16, 3) := dk_154 0 16 (dk_at dksX1_run_5 10 rfl rfl)
theorem dX1_run_137 : decode cX1_run 137 = .ok (.aload_n 1, 1) := dk_43 (dk_at dksX1_run_5 13 rfl rfl)
theorem dX1_run_138 : decode cX1_run 138 = .ok (.invokevirtual 375, 3) := dk_182 1 119 (dk_at dksX1_run_5 14 rfl rfl)
theorem dX1_run_141 : decode cX1_run 141 = .ok (.bipush (-9), 2) := dk_16 247 (dk_at dksX1_run_5 17 rfl rfl)
theorem dX1_run_143 : decode cX1_run 143 = .ok (.if_icmp .eq 7, 3) := dk_159 0 7 (dk_at dksX1_run_5 19 rfl rfl)
theorem dX1_run_146 : decode cX1_run 146 = .ok (.iconst 1, 1) := dk_4 (dk_at dksX1_run_5 22 rfl rfl)
theorem dX1_run_147 : decode cX1_run 147 = .ok (.goto 4, 3) := dk_167 0 4 (dk_at dksX1_run_6 0 rfl rfl)
theorem dX1_run_150 : decode cX1_run 150 = .ok (.iconst 0, 1) := dk_3 (dk_at dksX1_run_6 3 rfl rfl)
theorem dX1_run_151 : decode cX1_run 151 = .ok (.ireturn, 1) := dk_172 (dk_at dksX1_run_6 4 rfl rfl)
theorem dX1_run_152 : decode cX1_run 152 = .ok (.iload_n 3, 1) := dk_29 (dk_at dksX1_run_6 5 rfl rfl)
theorem dX1_run_153 : decode cX1_run 153 = .ok (.ifCond .ne 14, 3) := dk_154 0 14 (dk_at dksX1_run_6 6 rfl rfl)
theorem dX1_run_156 : decode cX1_run 156 = .ok (.aload_n 1, 1) := dk_43 (dk_at dksX1_run_6 9 rfl rfl)
theorem dX1_run_157 : decode cX1_run 157 = .ok (.invokevirtual 331, 3) := dk_182 1 75 (dk_at dksX1_run_6 10 rfl rfl)
theorem dX1_run_160 : decode cX1_run 160 = .ok (.ifCond .eq 7, 3) := dk_153 0 7 (dk_at dksX1_run_6 13 rfl rfl)
theorem dX1_run_163 : decode cX1_run 163 = .ok (.iconst 1, 1) := dk_4 (dk_at dksX1_run_6 16 rfl rfl)
theorem dX1_run_164 : decode cX1_run 164 = .ok (.goto 4, 3) := dk_167 0 4 (dk_at dksX1_run_6 17 rfl rfl)
theorem dX1_run_167 : decode cX1_run 167 = .ok (.iconst 0, 1) := dk_3 (dk_at dksX1_run_6 20 rfl rfl)
theorem dX1_run_168 : decode cX1_run 168 = .ok (.ireturn, 1) := dk_172 (dk_at dksX1_run_6 21 rfl rfl)
theorem dX1_run_169 : decode cX1_run 169 = .ok (.iload_n 3, 1) := dk_29 (dk_at dksX1_run_6 22 rfl rfl)
theorem dX1_run_170 : decode cX1_run 170 = .ok (.bipush 100, 2) := dk_16 100 (dk_at dksX1_run_7 0 rfl rfl)
theorem dX1_run_172 : decode cX1_run 172 = .ok (.if_icmp .ge 18, 3) := dk_162 0 18 (dk_at dksX1_run_7 2 rfl rfl)
theorem dX1_run_175 : decode cX1_run 175 = .ok (.aload_n 1, 1) := dk_43 (dk_at dksX1_run_7 5 rfl rfl)
theorem dX1_run_176 : decode cX1_run 176 = .ok (.getfield 254, 3) := dk_180 0 254 (dk_at dksX1_run_7 6 rfl rfl)
theorem dX1_run_179 : decode cX1_run 179 = .ok (.invokevirtual 253, 3) := dk_182 0 253 (dk_at dksX1_run_7 9 rfl rfl)
theorem dX1_run_182 : decode cX1_run 182 = .ok (.iload_n 3, 1) := dk_29 (dk_at dksX1_run_7 12 rfl rfl)
theorem dX1_run_183 : decode cX1_run 183 = .ok (.if_icmp .ne 7, 3) := dk_160 0 7 (dk_at dksX1_run_7 13 rfl rfl)
theorem dX1_run_186 : decode cX1_run 186 = .ok (.iconst 1, 1) := dk_4 (dk_at dksX1_run_7 16 rfl rfl)
theorem dX1_run_187 : decode cX1_run 187 = .ok (.goto 4, 3) := dk_167 0 4 (dk_at dksX1_run_7 17 rfl rfl)
theorem dX1_run_190 : decode cX1_run 190 = .ok (.iconst 0, 1) := dk_3 (dk_at dksX1_run_7 20 rfl rfl)
theorem dX1_run_191 : decode cX1_run 191 = .ok (.ireturn, 1) := dk_172 (dk_at dksX1_run_7 21 rfl rfl)
theorem dX1_run_192 : decode cX1_run 192 = .ok (.iload_n 3, 1) := dk_29 (dk_at dksX1_run_7 22 rfl rfl)
theorem dX1_run_193 : decode cX1_run 193 = .ok (.bipush 100, 2) := dk_16 100 (dk_at dksX1_run_8 0 rfl rfl)
theorem dX1_run_195 : decode cX1_run 195 = .ok (.if_icmp .ge 15, 3) := dk_162 0 15 (dk_at dksX1_run_8 2 rfl rfl)
theorem dX1_run_198 : decode cX1_run 198 = .ok (.aload_n 1, 1) := dk_43 (dk_at dksX1_run_8 5 rfl rfl)
theorem dX1_run_199 : decode cX1_run 199 = .ok (.invokevirtual 260, 3) := dk_182 1 4 (dk_at dksX1_run_8 6 rfl rfl)
theorem dX1_run_202 : decode cX1_run 202 = .ok (.iload_n 3, 1) := dk_29 (dk_at dksX1_run_8 9 rfl rfl)
theorem dX1_run_203 : decode cX1_run 203 = .ok (.if_icmp .ne 7, 3) := dk_160 0 7 (dk_at dksX1_run_8 10 rfl rfl)
theorem dX1_run_206 : decode cX1_run 206 = .ok (.iconst 1, 1) := dk_4 (dk_at dksX1_run_8 13 rfl rfl)
theorem dX1_run_207 : decode cX1_run 207 = .ok (.goto 4, 3) := dk_167 0 4 (dk_at dksX1_run_8 14 rfl rfl)
theorem dX1_run_210 : decode cX1_run 210 = .ok (.iconst 0, 1) := dk_3 (dk_at dksX1_run_8 17 rfl rfl)
theorem dX1_run_211 : decode cX1_run 211 = .ok (.ireturn, 1) := dk_172 (dk_at dksX1_run_8 18 rfl rfl)
theorem dX1_run_212 : decode cX1_run 212 = .ok (.iload_n 3, 1) := dk_29 (dk_at dksX1_run_8 19 rfl rfl)
theorem dX1_run_213 : decode cX1_run 213 = .ok (.bipush 100, 2) := dk_16 100 (dk_at dksX1_run_8 20 rfl rfl)
theorem dX1_run_215 : decode cX1_run 215 = .ok (.if_icmp .ge 22, 3) := dk_162 0 22 (dk_at dksX1_run_9 0 rfl rfl)
theorem dX1_run_218 : decode cX1_run 218 = .ok (.aload_n 0, 1) := dk_42 (dk_at dksX1_run_9 3 rfl rfl)
theorem dX1_run_219 : decode cX1_run 219 = .ok (.aload_n 1, 1) := dk_43 (dk_at dksX1_run_9 4 rfl rfl)
theorem dX1_run_220 : decode cX1_run 220 = .ok (.getfield 254, 3) := dk_180 0 254 (dk_at dksX1_run_9 5 rfl rfl)
theorem dX1_run_223 : decode cX1_run 223 = .ok (.invokevirtual 70, 3) := dk_182 0 70 (dk_at dksX1_run_9 8 rfl rfl)
theorem dX1_run_226 : decode cX1_run 226 = .ok (.getfield 91, 3) := dk_180 0 91 (dk_at dksX1_run_9 11 rfl rfl)
theorem dX1_run_229 : decode cX1_run 229 = .ok (.iload_n 3, 1) := dk_29 (dk_at dksX1_run_9 14 rfl rfl)
theorem dX1_run_230 : decode cX1_run 230 = .ok (.if_icmp .ne 7, 3) := dk_160 0 7 (dk_at dksX1_run_9 15 rfl rfl)
theorem dX1_run_233 : decode cX1_run 233 = .ok (.iconst 1, 1) := dk_4 (dk_at dksX1_run_9 18 rfl rfl)
theorem dX1_run_234 : decode cX1_run 234 = .ok (.goto 4, 3) := dk_167 0 4 (dk_at dksX1_run_9 19 rfl rfl)
theorem dX1_run_237 : decode cX1_run 237 = .ok (.iconst 0, 1) := dk_3 (dk_at dksX1_run_9 22 rfl rfl)
theorem dX1_run_238 : decode cX1_run 238 = .ok (.ireturn, 1) := dk_172 (dk_at dksX1_run_9 23 rfl rfl)
theorem dX1_run_239 : decode cX1_run 239 = .ok (.iconst 0, 1) := dk_3 (dk_at dksX1_run_10 0 rfl rfl)
theorem dX1_run_240 : decode cX1_run 240 = .ok (.ireturn, 1) := dk_172 (dk_at dksX1_run_10 1 rfl rfl)
abbrev cX1_simulate : ByteArray := prog_1_method_43_code
def yX1_simulate : MethodName := ⟨RX1, "simulate", "(JI)I"⟩
def dkwX1_simulate_3 : List UInt8 := [182, 0, 253, 104, 25, 4, 182, 1, 51, 182, 1, 54, 96, 172]
abbrev dktX1_simulate_3 : List UInt8 := dkwX1_simulate_3 ++ []
def dkwX1_simulate_2 : List UInt8 := [22, 5, 16, 33, 125, 136, 184, 1, 140, 132, 7, 1, 167, 255, 224, 17, 3, 232, 25, 4, 180, 0, 254]
abbrev dktX1_simulate_2 : List UInt8 := dkwX1_simulate_2 ++ dktX1_simulate_3
def dkwX1_simulate_1 : List UInt8 := [3, 54, 7, 21, 7, 29, 162, 0, 32, 22, 5, 20, 1, 136, 105, 20, 1, 138, 97, 55, 5, 25, 4]
abbrev dktX1_simulate_1 : List UInt8 := dkwX1_simulate_1 ++ dktX1_simulate_2
def dkwX1_simulate_0 : List UInt8 := [29, 133, 10, 20, 1, 134, 184, 0, 19, 184, 0, 226, 42, 180, 0, 177, 182, 0, 199, 58, 4, 31, 55, 5]
abbrev dktX1_simulate_0 : List UInt8 := dkwX1_simulate_0 ++ dktX1_simulate_1
theorem dksX1_simulate_0 : cX1_simulate.data.toList.drop 0 = dktX1_simulate_0 := by decide +kernel
theorem dksX1_simulate_1 : cX1_simulate.data.toList.drop 24 = dktX1_simulate_1 := dk_seg dksX1_simulate_0 24 rfl rfl
theorem dksX1_simulate_2 : cX1_simulate.data.toList.drop 47 = dktX1_simulate_2 := dk_seg dksX1_simulate_1 23 rfl rfl
theorem dksX1_simulate_3 : cX1_simulate.data.toList.drop 70 = dktX1_simulate_3 := dk_seg dksX1_simulate_2 23 rfl rfl
theorem dX1_simulate_0 : decode cX1_simulate 0 = .ok (.iload_n 3, 1) := dk_29 (dk_at dksX1_simulate_0 0 rfl rfl)
theorem dX1_simulate_1 : decode cX1_simulate 1 = .ok (.i2l, 1) := dk_133 (dk_at dksX1_simulate_0 1 rfl rfl)
theorem dX1_simulate_2 : decode cX1_simulate 2 = .ok (.lconst 1, 1) := dk_10 (dk_at dksX1_simulate_0 2 rfl rfl)
theorem dX1_simulate_3 : decode cX1_simulate 3 = .ok (.ldc2_w 390, 3) := dk_20 1 134 (dk_at dksX1_simulate_0 3 rfl rfl)
theorem dX1_simulate_6 : decode cX1_simulate 6 = .ok (.invokestatic 19, 3) := dk_184 0 19 (dk_at dksX1_simulate_0 6 rfl rfl)
theorem dX1_simulate_9 : decode cX1_simulate 9 = .ok (.invokestatic 226, 3) := dk_184 0 226 (dk_at dksX1_simulate_0 9 rfl rfl)
theorem dX1_simulate_12 : decode cX1_simulate 12 = .ok (.aload_n 0, 1) := dk_42 (dk_at dksX1_simulate_0 12 rfl rfl)
theorem dX1_simulate_13 : decode cX1_simulate 13 = .ok (.getfield 177, 3) := dk_180 0 177 (dk_at dksX1_simulate_0 13 rfl rfl)
theorem dX1_simulate_16 : decode cX1_simulate 16 = .ok (.invokevirtual 199, 3) := dk_182 0 199 (dk_at dksX1_simulate_0 16 rfl rfl)
theorem dX1_simulate_19 : decode cX1_simulate 19 = .ok (.astore 4, 2) := dk_58 4 (dk_at dksX1_simulate_0 19 rfl rfl)
theorem dX1_simulate_21 : decode cX1_simulate 21 = .ok (.lload_n 1, 1) := dk_31 (dk_at dksX1_simulate_0 21 rfl rfl)
theorem dX1_simulate_22 : decode cX1_simulate 22 = .ok (.lstore 5, 2) := dk_55 5 (dk_at dksX1_simulate_0 22 rfl rfl)
theorem dX1_simulate_24 : decode cX1_simulate 24 = .ok (.iconst 0, 1) := dk_3 (dk_at dksX1_simulate_1 0 rfl rfl)
theorem dX1_simulate_25 : decode cX1_simulate 25 = .ok (.istore 7, 2) := dk_54 7 (dk_at dksX1_simulate_1 1 rfl rfl)
theorem dX1_simulate_27 : decode cX1_simulate 27 = .ok (.iload 7, 2) := dk_21 7 (dk_at dksX1_simulate_1 3 rfl rfl)
theorem dX1_simulate_29 : decode cX1_simulate 29 = .ok (.iload_n 3, 1) := dk_29 (dk_at dksX1_simulate_1 5 rfl rfl)
theorem dX1_simulate_30 : decode cX1_simulate 30 = .ok (.if_icmp .ge 32, 3) := dk_162 0 32 (dk_at dksX1_simulate_1 6 rfl rfl)
theorem dX1_simulate_33 : decode cX1_simulate 33 = .ok (.lload 5, 2) := dk_22 5 (dk_at dksX1_simulate_1 9 rfl rfl)
theorem dX1_simulate_35 : decode cX1_simulate 35 = .ok (.ldc2_w 392, 3) := dk_20 1 136 (dk_at dksX1_simulate_1 11 rfl rfl)
theorem dX1_simulate_38 : decode cX1_simulate 38 = .ok (.lmul, 1) := dk_105 (dk_at dksX1_simulate_1 14 rfl rfl)
theorem dX1_simulate_39 : decode cX1_simulate 39 = .ok (.ldc2_w 394, 3) := dk_20 1 138 (dk_at dksX1_simulate_1 15 rfl rfl)
theorem dX1_simulate_42 : decode cX1_simulate 42 = .ok (.ladd, 1) := dk_97 (dk_at dksX1_simulate_1 18 rfl rfl)
theorem dX1_simulate_43 : decode cX1_simulate 43 = .ok (.lstore 5, 2) := dk_55 5 (dk_at dksX1_simulate_1 19 rfl rfl)
theorem dX1_simulate_45 : decode cX1_simulate 45 = .ok (.aload 4, 2) := dk_25 4 (dk_at dksX1_simulate_1 21 rfl rfl)
theorem dX1_simulate_47 : decode cX1_simulate 47 = .ok (.lload 5, 2) := dk_22 5 (dk_at dksX1_simulate_2 0 rfl rfl)
theorem dX1_simulate_49 : decode cX1_simulate 49 = .ok (.bipush 33, 2) := dk_16 33 (dk_at dksX1_simulate_2 2 rfl rfl)
theorem dX1_simulate_51 : decode cX1_simulate 51 = .ok (.lushr, 1) := dk_125 (dk_at dksX1_simulate_2 4 rfl rfl)
theorem dX1_simulate_52 : decode cX1_simulate 52 = .ok (.l2i, 1) := dk_136 (dk_at dksX1_simulate_2 5 rfl rfl)
theorem dX1_simulate_53 : decode cX1_simulate 53 = .ok (.invokestatic 396, 3) := dk_184 1 140 (dk_at dksX1_simulate_2 6 rfl rfl)
theorem dX1_simulate_56 : decode cX1_simulate 56 = .ok (.iinc 7 1, 3) := dk_132 7 1 (dk_at dksX1_simulate_2 9 rfl rfl)
theorem dX1_simulate_59 : decode cX1_simulate 59 = .ok (.goto (-32), 3) := dk_167 255 224 (dk_at dksX1_simulate_2 12 rfl rfl)
theorem dX1_simulate_62 : decode cX1_simulate 62 = .ok (.sipush 1000, 3) := dk_17 3 232 (dk_at dksX1_simulate_2 15 rfl rfl)
theorem dX1_simulate_65 : decode cX1_simulate 65 = .ok (.aload 4, 2) := dk_25 4 (dk_at dksX1_simulate_2 18 rfl rfl)
theorem dX1_simulate_67 : decode cX1_simulate 67 = .ok (.getfield 254, 3) := dk_180 0 254 (dk_at dksX1_simulate_2 20 rfl rfl)
theorem dX1_simulate_70 : decode cX1_simulate 70 = .ok (.invokevirtual 253, 3) := dk_182 0 253 (dk_at dksX1_simulate_3 0 rfl rfl)
theorem dX1_simulate_73 : decode cX1_simulate 73 = .ok (.imul, 1) := dk_104 (dk_at dksX1_simulate_3 3 rfl rfl)
theorem dX1_simulate_74 : decode cX1_simulate 74 = .ok (.aload 4, 2) := dk_25 4 (dk_at dksX1_simulate_3 4 rfl rfl)
theorem dX1_simulate_76 : decode cX1_simulate 76 = .ok (.invokevirtual 307, 3) := dk_182 1 51 (dk_at dksX1_simulate_3 6 rfl rfl)
theorem dX1_simulate_79 : decode cX1_simulate 79 = .ok (.invokevirtual 310, 3) := dk_182 1 54 (dk_at dksX1_simulate_3 9 rfl rfl)
theorem dX1_simulate_82 : decode cX1_simulate 82 = .ok (.iadd, 1) := dk_96 (dk_at dksX1_simulate_3 12 rfl rfl)
theorem dX1_simulate_83 : decode cX1_simulate 83 = .ok (.ireturn, 1) := dk_172 (dk_at dksX1_simulate_3 13 rfl rfl)
abbrev cX1_round : ByteArray := prog_1_method_42_code
def yX1_round : MethodName := ⟨RX1, "round", "(LFormulaEditor$Document;I)V"⟩
def dkwX1_round_4 : List UInt8 := [42, 182, 1, 75, 87, 177]
abbrev dktX1_round_4 : List UInt8 := dkwX1_round_4 ++ []
def dkwX1_round_3 : List UInt8 := [87, 167, 0, 28, 42, 28, 16, 32, 100, 182, 1, 65, 87, 167, 0, 16, 42, 182, 1, 119, 87, 167, 0, 8]
abbrev dktX1_round_3 : List UInt8 := dkwX1_round_3 ++ dktX1_round_4
def dkwX1_round_2 : List UInt8 := [42, 16, 97, 28, 16, 17, 112, 96, 182, 1, 113, 87, 167, 0, 41, 42, 4, 28, 8, 112, 96, 182, 1, 116]
abbrev dktX1_round_2 : List UInt8 := dkwX1_round_2 ++ dktX1_round_3
def dkwX1_round_1 : List UInt8 := [170, 0, 0, 0, 0, 0, 0, 92, 0, 0, 0, 0, 0, 0, 0, 6, 0, 0, 0, 44, 0, 0, 0, 44, 0, 0, 0, 44, 0, 0, 0, 59, 0, 0, 0, 59, 0, 0, 0, 72, 0, 0, 0, 84]
abbrev dktX1_round_1 : List UInt8 := dkwX1_round_1 ++ dktX1_round_2
def dkwX1_round_0 : List UInt8 := [27, 16, 8, 108, 16, 64, 112, 61, 27, 16, 8, 112]
abbrev dktX1_round_0 : List UInt8 := dkwX1_round_0 ++ dktX1_round_1
theorem dksX1_round_0 : cX1_round.data.toList.drop 0 = dktX1_round_0 := by decide +kernel
theorem dksX1_round_1 : cX1_round.data.toList.drop 12 = dktX1_round_1 := dk_seg dksX1_round_0 12 rfl rfl
theorem dksX1_round_2 : cX1_round.data.toList.drop 56 = dktX1_round_2 := dk_seg dksX1_round_1 44 rfl rfl
theorem dksX1_round_3 : cX1_round.data.toList.drop 80 = dktX1_round_3 := dk_seg dksX1_round_2 24 rfl rfl
theorem dksX1_round_4 : cX1_round.data.toList.drop 104 = dktX1_round_4 := dk_seg dksX1_round_3 24 rfl rfl
theorem dX1_round_0 : decode cX1_round 0 = .ok (.iload_n 1, 1) := dk_27 (dk_at dksX1_round_0 0 rfl rfl)
theorem dX1_round_1 : decode cX1_round 1 = .ok (.bipush 8, 2) := dk_16 8 (dk_at dksX1_round_0 1 rfl rfl)
theorem dX1_round_3 : decode cX1_round 3 = .ok (.idiv, 1) := dk_108 (dk_at dksX1_round_0 3 rfl rfl)
theorem dX1_round_4 : decode cX1_round 4 = .ok (.bipush 64, 2) := dk_16 64 (dk_at dksX1_round_0 4 rfl rfl)
theorem dX1_round_6 : decode cX1_round 6 = .ok (.irem, 1) := dk_112 (dk_at dksX1_round_0 6 rfl rfl)
theorem dX1_round_7 : decode cX1_round 7 = .ok (.istore_n 2, 1) := dk_61 (dk_at dksX1_round_0 7 rfl rfl)
theorem dX1_round_8 : decode cX1_round 8 = .ok (.iload_n 1, 1) := dk_27 (dk_at dksX1_round_0 8 rfl rfl)
theorem dX1_round_9 : decode cX1_round 9 = .ok (.bipush 8, 2) := dk_16 8 (dk_at dksX1_round_0 9 rfl rfl)
theorem dX1_round_11 : decode cX1_round 11 = .ok (.irem, 1) := dk_112 (dk_at dksX1_round_0 11 rfl rfl)
theorem dX1_round_12 : decode cX1_round 12 = .ok (.tableswitch 92 0 6 #[44, 44, 44, 59, 59, 72, 84], 44) := by decide +kernel
theorem dX1_round_56 : decode cX1_round 56 = .ok (.aload_n 0, 1) := dk_42 (dk_at dksX1_round_2 0 rfl rfl)
theorem dX1_round_57 : decode cX1_round 57 = .ok (.bipush 97, 2) := dk_16 97 (dk_at dksX1_round_2 1 rfl rfl)
theorem dX1_round_59 : decode cX1_round 59 = .ok (.iload_n 2, 1) := dk_28 (dk_at dksX1_round_2 3 rfl rfl)
theorem dX1_round_60 : decode cX1_round 60 = .ok (.bipush 17, 2) := dk_16 17 (dk_at dksX1_round_2 4 rfl rfl)
theorem dX1_round_62 : decode cX1_round 62 = .ok (.irem, 1) := dk_112 (dk_at dksX1_round_2 6 rfl rfl)
theorem dX1_round_63 : decode cX1_round 63 = .ok (.iadd, 1) := dk_96 (dk_at dksX1_round_2 7 rfl rfl)
theorem dX1_round_64 : decode cX1_round 64 = .ok (.invokevirtual 369, 3) := dk_182 1 113 (dk_at dksX1_round_2 8 rfl rfl)
theorem dX1_round_67 : decode cX1_round 67 = .ok (.pop, 1) := dk_87 (dk_at dksX1_round_2 11 rfl rfl)
theorem dX1_round_68 : decode cX1_round 68 = .ok (.goto 41, 3) := dk_167 0 41 (dk_at dksX1_round_2 12 rfl rfl)
theorem dX1_round_71 : decode cX1_round 71 = .ok (.aload_n 0, 1) := dk_42 (dk_at dksX1_round_2 15 rfl rfl)
theorem dX1_round_72 : decode cX1_round 72 = .ok (.iconst 1, 1) := dk_4 (dk_at dksX1_round_2 16 rfl rfl)
theorem dX1_round_73 : decode cX1_round 73 = .ok (.iload_n 2, 1) := dk_28 (dk_at dksX1_round_2 17 rfl rfl)
theorem dX1_round_74 : decode cX1_round 74 = .ok (.iconst 5, 1) := dk_8 (dk_at dksX1_round_2 18 rfl rfl)
theorem dX1_round_75 : decode cX1_round 75 = .ok (.irem, 1) := dk_112 (dk_at dksX1_round_2 19 rfl rfl)
theorem dX1_round_76 : decode cX1_round 76 = .ok (.iadd, 1) := dk_96 (dk_at dksX1_round_2 20 rfl rfl)
theorem dX1_round_77 : decode cX1_round 77 = .ok (.invokevirtual 372, 3) := dk_182 1 116 (dk_at dksX1_round_2 21 rfl rfl)
theorem dX1_round_80 : decode cX1_round 80 = .ok (.pop, 1) := dk_87 (dk_at dksX1_round_3 0 rfl rfl)
theorem dX1_round_81 : decode cX1_round 81 = .ok (.goto 28, 3) := dk_167 0 28 (dk_at dksX1_round_3 1 rfl rfl)
theorem dX1_round_84 : decode cX1_round 84 = .ok (.aload_n 0, 1) := dk_42 (dk_at dksX1_round_3 4 rfl rfl)
theorem dX1_round_85 : decode cX1_round 85 = .ok (.iload_n 2, 1) := dk_28 (dk_at dksX1_round_3 5 rfl rfl)
theorem dX1_round_86 : decode cX1_round 86 = .ok (.bipush 32, 2) := dk_16 32 (dk_at dksX1_round_3 6 rfl rfl)
theorem dX1_round_88 : decode cX1_round 88 = .ok (.isub, 1) := dk_100 (dk_at dksX1_round_3 8 rfl rfl)
theorem dX1_round_89 : decode cX1_round 89 = .ok (.invokevirtual 321, 3) := dk_182 1 65 (dk_at dksX1_round_3 9 rfl rfl)
theorem dX1_round_92 : decode cX1_round 92 = .ok (.pop, 1) := dk_87 (dk_at dksX1_round_3 12 rfl rfl)
theorem dX1_round_93 : decode cX1_round 93 = .ok (.goto 16, 3) := dk_167 0 16 (dk_at dksX1_round_3 13 rfl rfl)
theorem dX1_round_96 : decode cX1_round 96 = .ok (.aload_n 0, 1) := dk_42 (dk_at dksX1_round_3 16 rfl rfl)
theorem dX1_round_97 : decode cX1_round 97 = .ok (.invokevirtual 375, 3) := dk_182 1 119 (dk_at dksX1_round_3 17 rfl rfl)
theorem dX1_round_100 : decode cX1_round 100 = .ok (.pop, 1) := dk_87 (dk_at dksX1_round_3 20 rfl rfl)
theorem dX1_round_101 : decode cX1_round 101 = .ok (.goto 8, 3) := dk_167 0 8 (dk_at dksX1_round_3 21 rfl rfl)
theorem dX1_round_104 : decode cX1_round 104 = .ok (.aload_n 0, 1) := dk_42 (dk_at dksX1_round_4 0 rfl rfl)
theorem dX1_round_105 : decode cX1_round 105 = .ok (.invokevirtual 331, 3) := dk_182 1 75 (dk_at dksX1_round_4 1 rfl rfl)
theorem dX1_round_108 : decode cX1_round 108 = .ok (.pop, 1) := dk_87 (dk_at dksX1_round_4 4 rfl rfl)
theorem dX1_round_109 : decode cX1_round 109 = .ok (.return_, 1) := dk_177 (dk_at dksX1_round_4 5 rfl rfl)
abbrev cX1_save : ByteArray := prog_1_method_44_code
def yX1_save : MethodName := ⟨RX1, "save", "(I)I"⟩
def dkwX1_save_1 : List UInt8 := [180, 0, 177, 180, 0, 254, 182, 0, 253, 172]
abbrev dktX1_save_1 : List UInt8 := dkwX1_save_1 ++ []
def dkwX1_save_0 : List UInt8 := [27, 133, 9, 10, 184, 0, 19, 184, 1, 13, 42, 180, 0, 192, 27, 42, 180, 0, 177, 182, 0, 199, 83, 42]
abbrev dktX1_save_0 : List UInt8 := dkwX1_save_0 ++ dktX1_save_1
theorem dksX1_save_0 : cX1_save.data.toList.drop 0 = dktX1_save_0 := by decide +kernel
theorem dksX1_save_1 : cX1_save.data.toList.drop 24 = dktX1_save_1 := dk_seg dksX1_save_0 24 rfl rfl
theorem dX1_save_0 : decode cX1_save 0 = .ok (.iload_n 1, 1) := dk_27 (dk_at dksX1_save_0 0 rfl rfl)
theorem dX1_save_1 : decode cX1_save 1 = .ok (.i2l, 1) := dk_133 (dk_at dksX1_save_0 1 rfl rfl)
theorem dX1_save_2 : decode cX1_save 2 = .ok (.lconst 0, 1) := dk_9 (dk_at dksX1_save_0 2 rfl rfl)
theorem dX1_save_3 : decode cX1_save 3 = .ok (.lconst 1, 1) := dk_10 (dk_at dksX1_save_0 3 rfl rfl)
theorem dX1_save_4 : decode cX1_save 4 = .ok (.invokestatic 19, 3) := dk_184 0 19 (dk_at dksX1_save_0 4 rfl rfl)
theorem dX1_save_7 : decode cX1_save 7 = .ok (.invokestatic 269, 3) := dk_184 1 13 (dk_at dksX1_save_0 7 rfl rfl)
theorem dX1_save_10 : decode cX1_save 10 = .ok (.aload_n 0, 1) := dk_42 (dk_at dksX1_save_0 10 rfl rfl)
theorem dX1_save_11 : decode cX1_save 11 = .ok (.getfield 192, 3) := dk_180 0 192 (dk_at dksX1_save_0 11 rfl rfl)
theorem dX1_save_14 : decode cX1_save 14 = .ok (.iload_n 1, 1) := dk_27 (dk_at dksX1_save_0 14 rfl rfl)
theorem dX1_save_15 : decode cX1_save 15 = .ok (.aload_n 0, 1) := dk_42 (dk_at dksX1_save_0 15 rfl rfl)
theorem dX1_save_16 : decode cX1_save 16 = .ok (.getfield 177, 3) := dk_180 0 177 (dk_at dksX1_save_0 16 rfl rfl)
theorem dX1_save_19 : decode cX1_save 19 = .ok (.invokevirtual 199, 3) := dk_182 0 199 (dk_at dksX1_save_0 19 rfl rfl)
theorem dX1_save_22 : decode cX1_save 22 = .ok (.aastore, 1) := dk_83 (dk_at dksX1_save_0 22 rfl rfl)
theorem dX1_save_23 : decode cX1_save 23 = .ok (.aload_n 0, 1) := dk_42 (dk_at dksX1_save_0 23 rfl rfl)
theorem dX1_save_24 : decode cX1_save 24 = .ok (.getfield 177, 3) := dk_180 0 177 (dk_at dksX1_save_1 0 rfl rfl)
theorem dX1_save_27 : decode cX1_save 27 = .ok (.getfield 254, 3) := dk_180 0 254 (dk_at dksX1_save_1 3 rfl rfl)
theorem dX1_save_30 : decode cX1_save 30 = .ok (.invokevirtual 253, 3) := dk_182 0 253 (dk_at dksX1_save_1 6 rfl rfl)
theorem dX1_save_33 : decode cX1_save 33 = .ok (.ireturn, 1) := dk_172 (dk_at dksX1_save_1 9 rfl rfl)
abbrev cX1_restore : ByteArray := prog_1_method_45_code
def yX1_restore : MethodName := ⟨RX1, "restore", "(I)I"⟩
def dkwX1_restore_2 : List UInt8 := [185, 0, 250, 1, 0, 42, 180, 0, 177, 180, 0, 254, 182, 0, 253, 172]
abbrev dktX1_restore_2 : List UInt8 := dkwX1_restore_2 ++ []
def dkwX1_restore_1 : List UInt8 := [184, 0, 209, 42, 42, 180, 0, 192, 27, 50, 182, 0, 199, 181, 0, 177, 42, 180, 0, 188]
abbrev dktX1_restore_1 : List UInt8 := dkwX1_restore_1 ++ dktX1_restore_2
def dkwX1_restore_0 : List UInt8 := [27, 133, 9, 10, 184, 0, 19, 184, 1, 13, 42, 180, 0, 192, 27, 50, 198, 0, 7, 4, 167, 0, 4, 3]
abbrev dktX1_restore_0 : List UInt8 := dkwX1_restore_0 ++ dktX1_restore_1
theorem dksX1_restore_0 : cX1_restore.data.toList.drop 0 = dktX1_restore_0 := by decide +kernel
theorem dksX1_restore_1 : cX1_restore.data.toList.drop 24 = dktX1_restore_1 := dk_seg dksX1_restore_0 24 rfl rfl
theorem dksX1_restore_2 : cX1_restore.data.toList.drop 44 = dktX1_restore_2 := dk_seg dksX1_restore_1 20 rfl rfl
theorem dX1_restore_0 : decode cX1_restore 0 = .ok (.iload_n 1, 1) := dk_27 (dk_at dksX1_restore_0 0 rfl rfl)
theorem dX1_restore_1 : decode cX1_restore 1 = .ok (.i2l, 1) := dk_133 (dk_at dksX1_restore_0 1 rfl rfl)
theorem dX1_restore_2 : decode cX1_restore 2 = .ok (.lconst 0, 1) := dk_9 (dk_at dksX1_restore_0 2 rfl rfl)
theorem dX1_restore_3 : decode cX1_restore 3 = .ok (.lconst 1, 1) := dk_10 (dk_at dksX1_restore_0 3 rfl rfl)
theorem dX1_restore_4 : decode cX1_restore 4 = .ok (.invokestatic 19, 3) := dk_184 0 19 (dk_at dksX1_restore_0 4 rfl rfl)
theorem dX1_restore_7 : decode cX1_restore 7 = .ok (.invokestatic 269, 3) := dk_184 1 13 (dk_at dksX1_restore_0 7 rfl rfl)
theorem dX1_restore_10 : decode cX1_restore 10 = .ok (.aload_n 0, 1) := dk_42 (dk_at dksX1_restore_0 10 rfl rfl)
theorem dX1_restore_11 : decode cX1_restore 11 = .ok (.getfield 192, 3) := dk_180 0 192 (dk_at dksX1_restore_0 11 rfl rfl)
theorem dX1_restore_14 : decode cX1_restore 14 = .ok (.iload_n 1, 1) := dk_27 (dk_at dksX1_restore_0 14 rfl rfl)
theorem dX1_restore_15 : decode cX1_restore 15 = .ok (.aaload, 1) := dk_50 (dk_at dksX1_restore_0 15 rfl rfl)
theorem dX1_restore_16 : decode cX1_restore 16 = .ok (.ifnull 7, 3) := dk_198 0 7 (dk_at dksX1_restore_0 16 rfl rfl)
theorem dX1_restore_19 : decode cX1_restore 19 = .ok (.iconst 1, 1) := dk_4 (dk_at dksX1_restore_0 19 rfl rfl)
theorem dX1_restore_20 : decode cX1_restore 20 = .ok (.goto 4, 3) := dk_167 0 4 (dk_at dksX1_restore_0 20 rfl rfl)
theorem dX1_restore_23 : decode cX1_restore 23 = .ok (.iconst 0, 1) := dk_3 (dk_at dksX1_restore_0 23 rfl rfl)
theorem dX1_restore_24 : decode cX1_restore 24 = .ok (.invokestatic 209, 3) := dk_184 0 209 (dk_at dksX1_restore_1 0 rfl rfl)
theorem dX1_restore_27 : decode cX1_restore 27 = .ok (.aload_n 0, 1) := dk_42 (dk_at dksX1_restore_1 3 rfl rfl)
theorem dX1_restore_28 : decode cX1_restore 28 = .ok (.aload_n 0, 1) := dk_42 (dk_at dksX1_restore_1 4 rfl rfl)
theorem dX1_restore_29 : decode cX1_restore 29 = .ok (.getfield 192, 3) := dk_180 0 192 (dk_at dksX1_restore_1 5 rfl rfl)
theorem dX1_restore_32 : decode cX1_restore 32 = .ok (.iload_n 1, 1) := dk_27 (dk_at dksX1_restore_1 8 rfl rfl)
theorem dX1_restore_33 : decode cX1_restore 33 = .ok (.aaload, 1) := dk_50 (dk_at dksX1_restore_1 9 rfl rfl)
theorem dX1_restore_34 : decode cX1_restore 34 = .ok (.invokevirtual 199, 3) := dk_182 0 199 (dk_at dksX1_restore_1 10 rfl rfl)
theorem dX1_restore_37 : decode cX1_restore 37 = .ok (.putfield 177, 3) := dk_181 0 177 (dk_at dksX1_restore_1 13 rfl rfl)
theorem dX1_restore_40 : decode cX1_restore 40 = .ok (.aload_n 0, 1) := dk_42 (dk_at dksX1_restore_1 16 rfl rfl)
theorem dX1_restore_41 : decode cX1_restore 41 = .ok (.getfield 188, 3) := dk_180 0 188 (dk_at dksX1_restore_1 17 rfl rfl)
theorem dX1_restore_44 : decode cX1_restore 44 = .ok (.invokeinterface 250 1, 5) := by decide +kernel
theorem dX1_restore_49 : decode cX1_restore 49 = .ok (.aload_n 0, 1) := dk_42 (dk_at dksX1_restore_2 5 rfl rfl)
theorem dX1_restore_50 : decode cX1_restore 50 = .ok (.getfield 177, 3) := dk_180 0 177 (dk_at dksX1_restore_2 6 rfl rfl)
theorem dX1_restore_53 : decode cX1_restore 53 = .ok (.getfield 254, 3) := dk_180 0 254 (dk_at dksX1_restore_2 9 rfl rfl)
theorem dX1_restore_56 : decode cX1_restore 56 = .ok (.invokevirtual 253, 3) := dk_182 0 253 (dk_at dksX1_restore_2 12 rfl rfl)
theorem dX1_restore_59 : decode cX1_restore 59 = .ok (.ireturn, 1) := dk_172 (dk_at dksX1_restore_2 15 rfl rfl)
theorem q58 : (Jvm.Cond.initialized "FormulaEditor") ∈ lw_all := lw_g (lw_at lw_m1 1 rfl) rfl
theorem q105 : (Jvm.Cond.instantiable "FormulaEditor" (9 : Nat)) ∈ lw_all := lw_g (lw_at lw_m1 48 rfl) rfl
theorem q107 : (Jvm.Cond.instanceMethod ({ cls := "FormulaEditor", name := "<init>", desc := "()V" } : Jvm.MethodName)) ∈ lw_all := lw_g (lw_at lw_m1 50 rfl) rfl
theorem q108 : (Jvm.Cond.code ({ cls := "FormulaEditor", name := "<init>", desc := "()V" } : Jvm.MethodName) prog_1_method_14_code (1 : Nat) (Option.none : Option Jvm.ClassFile.FieldType)) ∈ lw_all := lw_g (lw_at lw_m1 51 rfl) rfl
theorem q109 : (Jvm.Cond.methodLink "FormulaEditor" (130 : Nat) ({ cls := "java/lang/Object", name := "<init>", desc := "()V" } : Jvm.MethodName)) ∈ lw_all := lw_g (lw_at lw_m1 52 rfl) rfl
theorem q112 : (Jvm.Cond.classLink "FormulaEditor" (133 : Nat) "java/util/HashMap") ∈ lw_all := lw_g (lw_at lw_m1 55 rfl) rfl
theorem q114 : (Jvm.Cond.methodLink "FormulaEditor" (135 : Nat) ({ cls := "java/util/HashMap", name := "<init>", desc := "()V" } : Jvm.MethodName)) ∈ lw_all := lw_g (lw_at lw_m1 57 rfl) rfl
theorem q144 : (Jvm.Cond.methodLink "FormulaEditor" (140 : Nat) ({ cls := "java/lang/Character", name := "valueOf", desc := "(C)Ljava/lang/Character;" } : Jvm.MethodName)) ∈ lw_all := lw_g (lw_at lw_m1 87 rfl) rfl
theorem q159 : (Jvm.Cond.methodLink "FormulaEditor" (146 : Nat) ({ cls := "java/lang/Integer", name := "valueOf", desc := "(I)Ljava/lang/Integer;" } : Jvm.MethodName)) ∈ lw_all := lw_g (lw_at lw_m1 102 rfl) rfl
theorem q179 : (Jvm.Cond.interfaceEntry "FormulaEditor" (151 : Nat)) ∈ lw_tbl := lw_at lw_m1 122 rfl
theorem q180 : (Jvm.Cond.methodLink "FormulaEditor" (151 : Nat) ({ cls := "java/util/Map", name := "put", desc := "(Ljava/lang/Object;Ljava/lang/Object;)Ljava/lang/Object;" } : Jvm.MethodName)) ∈ lw_all := lw_g (lw_at lw_m1 123 rfl) rfl
theorem q196 : (Jvm.Cond.selects "FormulaEditor" ({ cls := "java/lang/Object", name := "hashCode", desc := "()I" } : Jvm.MethodName) ({ cls := "java/lang/Object", name := "hashCode", desc := "()I" } : Jvm.MethodName)) ∈ lw_all := lw_g (lw_at lw_m1 139 rfl) rfl
theorem q661 : (Jvm.Cond.selects "FormulaEditor" ({ cls := "java/lang/Object", name := "getClass", desc := "()Ljava/lang/Class;" } : Jvm.MethodName) ({ cls := "java/lang/Object", name := "getClass", desc := "()Ljava/lang/Class;" } : Jvm.MethodName)) ∈ lw_all := lw_g (lw_at lw_m3 124 rfl) rfl
theorem q922 : (Jvm.Cond.selects "FormulaEditor" ({ cls := "java/lang/Object", name := "equals", desc := "(Ljava/lang/Object;)Z" } : Jvm.MethodName) ({ cls := "java/lang/Object", name := "equals", desc := "(Ljava/lang/Object;)Z" } : Jvm.MethodName)) ∈ lw_all := lw_g (lw_at lw_m4 145 rfl) rfl
theorem q1027 : (Jvm.Cond.classLink "FormulaEditor" (83 : Nat) "FormulaEditor$Shape") ∈ lw_all := lw_g (lw_at lw_m5 10 rfl) rfl
theorem q1029 : (Jvm.Cond.static ({ cls := "FormulaEditor", name := "lambda$new$0", desc := "(LFormulaEditor$Structure;)LFormulaEditor$Box;" } : Jvm.MethodName)) ∈ lw_all := lw_g (lw_at lw_m5 12 rfl) rfl
theorem q1030 : (Jvm.Cond.code ({ cls := "FormulaEditor", name := "lambda$new$0", desc := "(LFormulaEditor$Structure;)LFormulaEditor$Box;" } : Jvm.MethodName) prog_1_method_60_code (1 : Nat) (Option.some (Jvm.ClassFile.FieldType.object "FormulaEditor$Box"))) ∈ lw_all := lw_g (lw_at lw_m5 13 rfl) rfl
theorem q1031 : (Jvm.Cond.classLink "FormulaEditor" (92 : Nat) "FormulaEditor$Box") ∈ lw_all := lw_g (lw_at lw_m5 14 rfl) rfl
theorem q1033 : (Jvm.Cond.methodLink "FormulaEditor" (404 : Nat) ({ cls := "FormulaEditor$Structure", name := "last", desc := "()LFormulaEditor$Row;" } : Jvm.MethodName)) ∈ lw_all := lw_g (lw_at lw_m5 16 rfl) rfl
theorem q1037 : (Jvm.Cond.methodLink "FormulaEditor" (99 : Nat) ({ cls := "java/lang/Math", name := "max", desc := "(II)I" } : Jvm.MethodName)) ∈ lw_all := lw_g (lw_at lw_m5 20 rfl) rfl
theorem q1038 : (Jvm.Cond.methodLink "FormulaEditor" (364 : Nat) ({ cls := "FormulaEditor$Box", name := "lines", desc := "()I" } : Jvm.MethodName)) ∈ lw_all := lw_g (lw_at lw_m5 21 rfl) rfl
theorem q1042 : (Jvm.Cond.methodLink "FormulaEditor" (108 : Nat) ({ cls := "FormulaEditor$Box", name := "<init>", desc := "(III)V" } : Jvm.MethodName)) ∈ lw_all := lw_g (lw_at lw_m5 25 rfl) rfl
theorem q1047 : (Jvm.Cond.fieldLinkNest "FormulaEditor" (91 : Nat) "FormulaEditor$Box" "width" "I" "FormulaEditor") ∈ lw_tbl := lw_at lw_m5 30 rfl
theorem q1049 : (Jvm.Cond.fieldLinkNest "FormulaEditor" (96 : Nat) "FormulaEditor$Box" "above" "I" "FormulaEditor") ∈ lw_tbl := lw_at lw_m5 32 rfl
theorem q1051 : (Jvm.Cond.fieldLinkNest "FormulaEditor" (105 : Nat) "FormulaEditor$Box" "below" "I" "FormulaEditor") ∈ lw_tbl := lw_at lw_m5 34 rfl
theorem q1059 : (Jvm.Cond.static ({ cls := "FormulaEditor", name := "lambda$new$1", desc := "(LFormulaEditor$Structure;)LFormulaEditor$Box;" } : Jvm.MethodName)) ∈ lw_all := lw_g (lw_at lw_m5 42 rfl) rfl
theorem q1060 : (Jvm.Cond.code ({ cls := "FormulaEditor", name := "lambda$new$1", desc := "(LFormulaEditor$Structure;)LFormulaEditor$Box;" } : Jvm.MethodName) prog_1_method_59_code (1 : Nat) (Option.some (Jvm.ClassFile.FieldType.object "FormulaEditor$Box"))) ∈ lw_all := lw_g (lw_at lw_m5 43 rfl) rfl
theorem q1061 : (Jvm.Cond.static ({ cls := "FormulaEditor", name := "lambda$new$2", desc := "(LFormulaEditor$Structure;)LFormulaEditor$Box;" } : Jvm.MethodName)) ∈ lw_all := lw_g (lw_at lw_m5 44 rfl) rfl
theorem q1062 : (Jvm.Cond.code ({ cls := "FormulaEditor", name := "lambda$new$2", desc := "(LFormulaEditor$Structure;)LFormulaEditor$Box;" } : Jvm.MethodName) prog_1_method_58_code (1 : Nat) (Option.some (Jvm.ClassFile.FieldType.object "FormulaEditor$Box"))) ∈ lw_all := lw_g (lw_at lw_m5 45 rfl) rfl
theorem q1063 : (Jvm.Cond.static ({ cls := "FormulaEditor", name := "lambda$new$3", desc := "(LFormulaEditor$Structure;)LFormulaEditor$Box;" } : Jvm.MethodName)) ∈ lw_all := lw_g (lw_at lw_m5 46 rfl) rfl
theorem q1064 : (Jvm.Cond.code ({ cls := "FormulaEditor", name := "lambda$new$3", desc := "(LFormulaEditor$Structure;)LFormulaEditor$Box;" } : Jvm.MethodName) prog_1_method_57_code (1 : Nat) (Option.some (Jvm.ClassFile.FieldType.object "FormulaEditor$Box"))) ∈ lw_all := lw_g (lw_at lw_m5 47 rfl) rfl
theorem q1065 : (Jvm.Cond.static ({ cls := "FormulaEditor", name := "lambda$new$4", desc := "(LFormulaEditor$Structure;)LFormulaEditor$Box;" } : Jvm.MethodName)) ∈ lw_all := lw_g (lw_at lw_m5 48 rfl) rfl
theorem q1066 : (Jvm.Cond.code ({ cls := "FormulaEditor", name := "lambda$new$4", desc := "(LFormulaEditor$Structure;)LFormulaEditor$Box;" } : Jvm.MethodName) prog_1_method_56_code (1 : Nat) (Option.some (Jvm.ClassFile.FieldType.object "FormulaEditor$Box"))) ∈ lw_all := lw_g (lw_at lw_m5 49 rfl) rfl
theorem q1067 : (Jvm.Cond.classLink "FormulaEditor" (119 : Nat) "FormulaEditor$Brush") ∈ lw_all := lw_g (lw_at lw_m5 50 rfl) rfl
theorem q1069 : (Jvm.Cond.privateMethod ({ cls := "FormulaEditor", name := "lambda$new$5", desc := "(LFormulaEditor$Structure;[[CII)V" } : Jvm.MethodName)) ∈ lw_tbl := lw_at lw_m5 52 rfl
theorem q1070 : (Jvm.Cond.instanceMethod ({ cls := "FormulaEditor", name := "lambda$new$5", desc := "(LFormulaEditor$Structure;[[CII)V" } : Jvm.MethodName)) ∈ lw_all := lw_g (lw_at lw_m5 53 rfl) rfl
theorem q1071 : (Jvm.Cond.code ({ cls := "FormulaEditor", name := "lambda$new$5", desc := "(LFormulaEditor$Structure;[[CII)V" } : Jvm.MethodName) prog_1_method_55_code (5 : Nat) (Option.none : Option Jvm.ClassFile.FieldType)) ∈ lw_all := lw_g (lw_at lw_m5 54 rfl) rfl
theorem q1072 : (Jvm.Cond.methodLink "FormulaEditor" (413 : Nat) ({ cls := "FormulaEditor", name := "drawFraction", desc := "(LFormulaEditor$Structure;[[CII)V" } : Jvm.MethodName)) ∈ lw_all := lw_g (lw_at lw_m5 55 rfl) rfl
theorem q1073 : (Jvm.Cond.privateMethod ({ cls := "FormulaEditor", name := "drawFraction", desc := "(LFormulaEditor$Structure;[[CII)V" } : Jvm.MethodName)) ∈ lw_tbl := lw_at lw_m5 56 rfl
theorem q1074 : (Jvm.Cond.instanceMethod ({ cls := "FormulaEditor", name := "drawFraction", desc := "(LFormulaEditor$Structure;[[CII)V" } : Jvm.MethodName)) ∈ lw_all := lw_g (lw_at lw_m5 57 rfl) rfl
theorem q1075 : (Jvm.Cond.code ({ cls := "FormulaEditor", name := "drawFraction", desc := "(LFormulaEditor$Structure;[[CII)V" } : Jvm.MethodName) prog_1_method_11_code (8 : Nat) (Option.none : Option Jvm.ClassFile.FieldType)) ∈ lw_all := lw_g (lw_at lw_m5 58 rfl) rfl
theorem q1076 : (Jvm.Cond.methodLink "FormulaEditor" (127 : Nat) ({ cls := "FormulaEditor", name := "draw", desc := "(LFormulaEditor$Row;[[CII)V" } : Jvm.MethodName)) ∈ lw_all := lw_g (lw_at lw_m5 59 rfl) rfl
theorem q1077 : (Jvm.Cond.privateMethod ({ cls := "FormulaEditor", name := "draw", desc := "(LFormulaEditor$Row;[[CII)V" } : Jvm.MethodName)) ∈ lw_tbl := lw_at lw_m5 60 rfl
theorem q1078 : (Jvm.Cond.instanceMethod ({ cls := "FormulaEditor", name := "draw", desc := "(LFormulaEditor$Row;[[CII)V" } : Jvm.MethodName)) ∈ lw_all := lw_g (lw_at lw_m5 61 rfl) rfl
theorem q1079 : (Jvm.Cond.code ({ cls := "FormulaEditor", name := "draw", desc := "(LFormulaEditor$Row;[[CII)V" } : Jvm.MethodName) prog_1_method_10_code (9 : Nat) (Option.none : Option Jvm.ClassFile.FieldType)) ∈ lw_all := lw_g (lw_at lw_m5 62 rfl) rfl
theorem q1080 : (Jvm.Cond.interfaceEntry "FormulaEditor" (50 : Nat)) ∈ lw_tbl := lw_at lw_m5 63 rfl
theorem q1081 : (Jvm.Cond.methodLink "FormulaEditor" (50 : Nat) ({ cls := "java/util/List", name := "isEmpty", desc := "()Z" } : Jvm.MethodName)) ∈ lw_all := lw_g (lw_at lw_m5 64 rfl) rfl
theorem q1090 : (Jvm.Cond.interfaceEntry "FormulaEditor" (56 : Nat)) ∈ lw_tbl := lw_at lw_m5 73 rfl
theorem q1091 : (Jvm.Cond.methodLink "FormulaEditor" (56 : Nat) ({ cls := "java/util/List", name := "size", desc := "()I" } : Jvm.MethodName)) ∈ lw_all := lw_g (lw_at lw_m5 74 rfl) rfl
theorem q1099 : (Jvm.Cond.interfaceEntry "FormulaEditor" (60 : Nat)) ∈ lw_tbl := lw_at lw_m5 82 rfl
theorem q1100 : (Jvm.Cond.methodLink "FormulaEditor" (60 : Nat) ({ cls := "java/util/List", name := "get", desc := "(I)Ljava/lang/Object;" } : Jvm.MethodName)) ∈ lw_all := lw_g (lw_at lw_m5 83 rfl) rfl
theorem q1118 : (Jvm.Cond.classLink "FormulaEditor" (112 : Nat) "FormulaEditor$Item") ∈ lw_all := lw_g (lw_at lw_m5 101 rfl) rfl
theorem q1119 : (Jvm.Cond.classLink "FormulaEditor" (64 : Nat) "FormulaEditor$Structure") ∈ lw_all := lw_g (lw_at lw_m5 102 rfl) rfl
theorem q1120 : (Jvm.Cond.interfaceEntry "FormulaEditor" (118 : Nat)) ∈ lw_tbl := lw_at lw_m5 103 rfl
theorem q1121 : (Jvm.Cond.methodLink "FormulaEditor" (118 : Nat) ({ cls := "FormulaEditor$Brush", name := "draw", desc := "(LFormulaEditor$Structure;[[CII)V" } : Jvm.MethodName)) ∈ lw_all := lw_g (lw_at lw_m5 104 rfl) rfl
theorem q1124 : (Jvm.Cond.methodLink "FormulaEditor" (124 : Nat) ({ cls := "FormulaEditor$Item", name := "code", desc := "()I" } : Jvm.MethodName)) ∈ lw_all := lw_g (lw_at lw_m5 107 rfl) rfl
theorem q1133 : (Jvm.Cond.privateMethod ({ cls := "FormulaEditor", name := "lambda$new$6", desc := "(LFormulaEditor$Structure;[[CII)V" } : Jvm.MethodName)) ∈ lw_tbl := lw_at lw_m5 116 rfl
theorem q1134 : (Jvm.Cond.instanceMethod ({ cls := "FormulaEditor", name := "lambda$new$6", desc := "(LFormulaEditor$Structure;[[CII)V" } : Jvm.MethodName)) ∈ lw_all := lw_g (lw_at lw_m5 117 rfl) rfl
theorem q1135 : (Jvm.Cond.code ({ cls := "FormulaEditor", name := "lambda$new$6", desc := "(LFormulaEditor$Structure;[[CII)V" } : Jvm.MethodName) prog_1_method_54_code (5 : Nat) (Option.none : Option Jvm.ClassFile.FieldType)) ∈ lw_all := lw_g (lw_at lw_m5 118 rfl) rfl
theorem q1136 : (Jvm.Cond.privateMethod ({ cls := "FormulaEditor", name := "lambda$new$7", desc := "(LFormulaEditor$Structure;[[CII)V" } : Jvm.MethodName)) ∈ lw_tbl := lw_at lw_m5 119 rfl
theorem q1137 : (Jvm.Cond.instanceMethod ({ cls := "FormulaEditor", name := "lambda$new$7", desc := "(LFormulaEditor$Structure;[[CII)V" } : Jvm.MethodName)) ∈ lw_all := lw_g (lw_at lw_m5 120 rfl) rfl
theorem q1138 : (Jvm.Cond.code ({ cls := "FormulaEditor", name := "lambda$new$7", desc := "(LFormulaEditor$Structure;[[CII)V" } : Jvm.MethodName) prog_1_method_53_code (5 : Nat) (Option.none : Option Jvm.ClassFile.FieldType)) ∈ lw_all := lw_g (lw_at lw_m5 121 rfl) rfl
theorem q1139 : (Jvm.Cond.privateMethod ({ cls := "FormulaEditor", name := "lambda$new$8", desc := "(LFormulaEditor$Structure;[[CII)V" } : Jvm.MethodName)) ∈ lw_tbl := lw_at lw_m5 122 rfl
theorem q1140 : (Jvm.Cond.instanceMethod ({ cls := "FormulaEditor", name := "lambda$new$8", desc := "(LFormulaEditor$Structure;[[CII)V" } : Jvm.MethodName)) ∈ lw_all := lw_g (lw_at lw_m5 123 rfl) rfl
theorem q1141 : (Jvm.Cond.code ({ cls := "FormulaEditor", name := "lambda$new$8", desc := "(LFormulaEditor$Structure;[[CII)V" } : Jvm.MethodName) prog_1_method_52_code (5 : Nat) (Option.none : Option Jvm.ClassFile.FieldType)) ∈ lw_all := lw_g (lw_at lw_m5 124 rfl) rfl
theorem q1142 : (Jvm.Cond.methodLink "FormulaEditor" (410 : Nat) ({ cls := "FormulaEditor", name := "drawRoot", desc := "(LFormulaEditor$Row;[[CII)V" } : Jvm.MethodName)) ∈ lw_all := lw_g (lw_at lw_m5 125 rfl) rfl
theorem q1143 : (Jvm.Cond.privateMethod ({ cls := "FormulaEditor", name := "drawRoot", desc := "(LFormulaEditor$Row;[[CII)V" } : Jvm.MethodName)) ∈ lw_tbl := lw_at lw_m5 126 rfl
theorem q1144 : (Jvm.Cond.instanceMethod ({ cls := "FormulaEditor", name := "drawRoot", desc := "(LFormulaEditor$Row;[[CII)V" } : Jvm.MethodName)) ∈ lw_all := lw_g (lw_at lw_m5 127 rfl) rfl
theorem q1145 : (Jvm.Cond.code ({ cls := "FormulaEditor", name := "drawRoot", desc := "(LFormulaEditor$Row;[[CII)V" } : Jvm.MethodName) prog_1_method_12_code (7 : Nat) (Option.none : Option Jvm.ClassFile.FieldType)) ∈ lw_all := lw_g (lw_at lw_m5 128 rfl) rfl
theorem q1146 : (Jvm.Cond.privateMethod ({ cls := "FormulaEditor", name := "lambda$new$9", desc := "(LFormulaEditor$Structure;[[CII)V" } : Jvm.MethodName)) ∈ lw_tbl := lw_at lw_m5 129 rfl
theorem q1147 : (Jvm.Cond.instanceMethod ({ cls := "FormulaEditor", name := "lambda$new$9", desc := "(LFormulaEditor$Structure;[[CII)V" } : Jvm.MethodName)) ∈ lw_all := lw_g (lw_at lw_m5 130 rfl) rfl
theorem q1148 : (Jvm.Cond.code ({ cls := "FormulaEditor", name := "lambda$new$9", desc := "(LFormulaEditor$Structure;[[CII)V" } : Jvm.MethodName) prog_1_method_51_code (5 : Nat) (Option.none : Option Jvm.ClassFile.FieldType)) ∈ lw_all := lw_g (lw_at lw_m5 131 rfl) rfl
theorem q1149 : (Jvm.Cond.methodLink "FormulaEditor" (407 : Nat) ({ cls := "FormulaEditor", name := "drawParentheses", desc := "(LFormulaEditor$Row;[[CII)V" } : Jvm.MethodName)) ∈ lw_all := lw_g (lw_at lw_m5 132 rfl) rfl
theorem q1150 : (Jvm.Cond.privateMethod ({ cls := "FormulaEditor", name := "drawParentheses", desc := "(LFormulaEditor$Row;[[CII)V" } : Jvm.MethodName)) ∈ lw_tbl := lw_at lw_m5 133 rfl
theorem q1151 : (Jvm.Cond.instanceMethod ({ cls := "FormulaEditor", name := "drawParentheses", desc := "(LFormulaEditor$Row;[[CII)V" } : Jvm.MethodName)) ∈ lw_all := lw_g (lw_at lw_m5 134 rfl) rfl
theorem q1152 : (Jvm.Cond.code ({ cls := "FormulaEditor", name := "drawParentheses", desc := "(LFormulaEditor$Row;[[CII)V" } : Jvm.MethodName) prog_1_method_13_code (7 : Nat) (Option.none : Option Jvm.ClassFile.FieldType)) ∈ lw_all := lw_g (lw_at lw_m5 135 rfl) rfl
theorem q1153 : (Jvm.Cond.classLink "FormulaEditor" (171 : Nat) "FormulaEditor$Document") ∈ lw_all := lw_g (lw_at lw_m5 136 rfl) rfl
theorem q1155 : (Jvm.Cond.classLink "FormulaEditor" (45 : Nat) "FormulaEditor$Row") ∈ lw_all := lw_g (lw_at lw_m5 138 rfl) rfl
theorem q1157 : (Jvm.Cond.methodLinkNest "FormulaEditor" (173 : Nat) ({ cls := "FormulaEditor$Row", name := "<init>", desc := "()V" } : Jvm.MethodName) "FormulaEditor") ∈ lw_tbl := lw_at lw_m5 140 rfl
theorem q1191 : (Jvm.Cond.fieldLinkNest "FormulaEditor" (44 : Nat) "FormulaEditor$Row" "items" "Ljava/util/List;" "FormulaEditor") ∈ lw_tbl := lw_at lw_m5 174 rfl
theorem q1197 : (Jvm.Cond.fieldLinkNest "FormulaEditor" (290 : Nat) "FormulaEditor$Row" "owner" "LFormulaEditor$Structure;" "FormulaEditor") ∈ lw_tbl := lw_at lw_m5 180 rfl
theorem q1201 : (Jvm.Cond.fieldLinkNest "FormulaEditor" (294 : Nat) "FormulaEditor$Row" "slot" "I" "FormulaEditor") ∈ lw_tbl := lw_at lw_m5 184 rfl
theorem q1202 : (Jvm.Cond.fieldLinkNest "FormulaEditor" (111 : Nat) "FormulaEditor$Row" "box" "LFormulaEditor$Box;" "FormulaEditor") ∈ lw_tbl := lw_at lw_m5 185 rfl
theorem q1212 : (Jvm.Cond.methodLink "FormulaEditor" (174 : Nat) ({ cls := "FormulaEditor$Document", name := "<init>", desc := "(LFormulaEditor$Row;)V" } : Jvm.MethodName)) ∈ lw_all := lw_g (lw_at lw_m5 195 rfl) rfl
theorem q1217 : (Jvm.Cond.fieldLinkNest "FormulaEditor" (254 : Nat) "FormulaEditor$Document" "main" "LFormulaEditor$Row;" "FormulaEditor") ∈ lw_tbl := lw_at lw_m5 200 rfl
theorem q1219 : (Jvm.Cond.fieldLinkNest "FormulaEditor" (281 : Nat) "FormulaEditor$Document" "row" "LFormulaEditor$Row;" "FormulaEditor") ∈ lw_tbl := lw_at lw_m5 202 rfl
theorem q1221 : (Jvm.Cond.fieldLinkNest "FormulaEditor" (287 : Nat) "FormulaEditor$Document" "index" "I" "FormulaEditor") ∈ lw_tbl := lw_at lw_m5 204 rfl
theorem q1223 : (Jvm.Cond.fieldLinkNest "FormulaEditor" (299 : Nat) "FormulaEditor$Document" "selected" "I" "FormulaEditor") ∈ lw_tbl := lw_at lw_m5 206 rfl
theorem q1233 : (Jvm.Cond.classLink "FormulaEditor" (185 : Nat) "java/util/ArrayDeque") ∈ lw_all := lw_g (lw_at lw_m5 216 rfl) rfl
theorem q1235 : (Jvm.Cond.methodLink "FormulaEditor" (187 : Nat) ({ cls := "java/util/ArrayDeque", name := "<init>", desc := "()V" } : Jvm.MethodName)) ∈ lw_all := lw_g (lw_at lw_m5 218 rfl) rfl
theorem q1253 : (Jvm.Cond.fieldLink "FormulaEditor" (136 : Nat) "FormulaEditor" "scripts" "Ljava/util/Map;") ∈ lw_all := lw_g (lw_at lw_m5 236 rfl) rfl
theorem q1254 : (Jvm.Cond.fieldLink "FormulaEditor" (74 : Nat) "FormulaEditor" "shapes" "[LFormulaEditor$Shape;") ∈ lw_all := lw_g (lw_at lw_m5 237 rfl) rfl
theorem q1255 : (Jvm.Cond.fieldLink "FormulaEditor" (114 : Nat) "FormulaEditor" "brushes" "[LFormulaEditor$Brush;") ∈ lw_all := lw_g (lw_at lw_m5 238 rfl) rfl
theorem q1256 : (Jvm.Cond.fieldLink "FormulaEditor" (177 : Nat) "FormulaEditor" "now" "LFormulaEditor$Document;") ∈ lw_all := lw_g (lw_at lw_m5 239 rfl) rfl
theorem q1257 : (Jvm.Cond.fieldLink "FormulaEditor" (181 : Nat) "FormulaEditor" "clipboard" "LFormulaEditor$Row;") ∈ lw_all := lw_g (lw_at lw_m6 0 rfl) rfl
theorem q1258 : (Jvm.Cond.fieldLink "FormulaEditor" (188 : Nat) "FormulaEditor" "history" "Ljava/util/Deque;") ∈ lw_all := lw_g (lw_at lw_m6 1 rfl) rfl
theorem q1259 : (Jvm.Cond.fieldLink "FormulaEditor" (192 : Nat) "FormulaEditor" "slots" "[LFormulaEditor$Document;") ∈ lw_all := lw_g (lw_at lw_m6 2 rfl) rfl
theorem q1261 : (Jvm.Cond.fieldLink "FormulaEditor" (195 : Nat) "FormulaEditor" "text" "[C") ∈ lw_all := lw_g (lw_at lw_m6 4 rfl) rfl
theorem q1263 : (Jvm.Cond.fieldLink "FormulaEditor" (229 : Nat) "FormulaEditor" "textLength" "I") ∈ lw_all := lw_g (lw_at lw_m6 6 rfl) rfl
theorem q1264 : (Jvm.Cond.laysFinal "FormulaEditor" "FormulaEditor" "scripts" "Ljava/util/Map;") ∈ lw_all := lw_g (lw_at lw_m6 7 rfl) rfl
theorem q1265 : (Jvm.Cond.soleField "FormulaEditor" "scripts") ∈ lw_all := lw_g (lw_at lw_m6 8 rfl) rfl
theorem q1266 : (Jvm.Cond.laysFinal "FormulaEditor" "FormulaEditor" "shapes" "[LFormulaEditor$Shape;") ∈ lw_all := lw_g (lw_at lw_m6 9 rfl) rfl
theorem q1267 : (Jvm.Cond.soleField "FormulaEditor" "shapes") ∈ lw_all := lw_g (lw_at lw_m6 10 rfl) rfl
theorem q1268 : (Jvm.Cond.laysFinal "FormulaEditor" "FormulaEditor" "brushes" "[LFormulaEditor$Brush;") ∈ lw_all := lw_g (lw_at lw_m6 11 rfl) rfl
theorem q1269 : (Jvm.Cond.soleField "FormulaEditor" "brushes") ∈ lw_all := lw_g (lw_at lw_m6 12 rfl) rfl
theorem q1270 : (Jvm.Cond.lays "FormulaEditor" "FormulaEditor" "now" "LFormulaEditor$Document;") ∈ lw_all := lw_g (lw_at lw_m6 13 rfl) rfl
theorem q1271 : (Jvm.Cond.soleField "FormulaEditor" "now") ∈ lw_all := lw_g (lw_at lw_m6 14 rfl) rfl
theorem q1272 : (Jvm.Cond.lays "FormulaEditor" "FormulaEditor" "clipboard" "LFormulaEditor$Row;") ∈ lw_all := lw_g (lw_at lw_m6 15 rfl) rfl
theorem q1273 : (Jvm.Cond.soleField "FormulaEditor" "clipboard") ∈ lw_all := lw_g (lw_at lw_m6 16 rfl) rfl
theorem q1274 : (Jvm.Cond.laysFinal "FormulaEditor" "FormulaEditor" "history" "Ljava/util/Deque;") ∈ lw_all := lw_g (lw_at lw_m6 17 rfl) rfl
theorem q1275 : (Jvm.Cond.soleField "FormulaEditor" "history") ∈ lw_all := lw_g (lw_at lw_m6 18 rfl) rfl
theorem q1276 : (Jvm.Cond.laysFinal "FormulaEditor" "FormulaEditor" "slots" "[LFormulaEditor$Document;") ∈ lw_all := lw_g (lw_at lw_m6 19 rfl) rfl
theorem q1277 : (Jvm.Cond.soleField "FormulaEditor" "slots") ∈ lw_all := lw_g (lw_at lw_m6 20 rfl) rfl
theorem q1278 : (Jvm.Cond.laysFinal "FormulaEditor" "FormulaEditor" "text" "[C") ∈ lw_all := lw_g (lw_at lw_m6 21 rfl) rfl
theorem q1279 : (Jvm.Cond.soleField "FormulaEditor" "text") ∈ lw_all := lw_g (lw_at lw_m6 22 rfl) rfl
theorem q1280 : (Jvm.Cond.lays "FormulaEditor" "FormulaEditor" "textLength" "I") ∈ lw_all := lw_g (lw_at lw_m6 23 rfl) rfl
theorem q1281 : (Jvm.Cond.soleField "FormulaEditor" "textLength") ∈ lw_all := lw_g (lw_at lw_m6 24 rfl) rfl
theorem q1282 : (Jvm.Cond.superclass "FormulaEditor" "java/lang/Object") ∈ lw_all := lw_g (lw_at lw_m6 25 rfl) rfl
theorem q1285 : (Jvm.Cond.instanceMethod ({ cls := "FormulaEditor", name := "clearText", desc := "()I" } : Jvm.MethodName)) ∈ lw_all := lw_g (lw_at lw_m6 28 rfl) rfl
theorem q1286 : (Jvm.Cond.selects "FormulaEditor" ({ cls := "FormulaEditor", name := "clearText", desc := "()I" } : Jvm.MethodName) ({ cls := "FormulaEditor", name := "clearText", desc := "()I" } : Jvm.MethodName)) ∈ lw_all := lw_g (lw_at lw_m6 29 rfl) rfl
theorem q1287 : (Jvm.Cond.code ({ cls := "FormulaEditor", name := "clearText", desc := "()I" } : Jvm.MethodName) prog_1_method_17_code (2 : Nat) (Option.some Jvm.ClassFile.FieldType.int)) ∈ lw_all := lw_g (lw_at lw_m6 30 rfl) rfl
theorem q1289 : (Jvm.Cond.instanceMethod ({ cls := "FormulaEditor", name := "errorPosition", desc := "()I" } : Jvm.MethodName)) ∈ lw_all := lw_g (lw_at lw_m6 32 rfl) rfl
theorem q1290 : (Jvm.Cond.selects "FormulaEditor" ({ cls := "FormulaEditor", name := "errorPosition", desc := "()I" } : Jvm.MethodName) ({ cls := "FormulaEditor", name := "errorPosition", desc := "()I" } : Jvm.MethodName)) ∈ lw_all := lw_g (lw_at lw_m6 33 rfl) rfl
theorem q1291 : (Jvm.Cond.code ({ cls := "FormulaEditor", name := "errorPosition", desc := "()I" } : Jvm.MethodName) prog_1_method_18_code (2 : Nat) (Option.some Jvm.ClassFile.FieldType.int)) ∈ lw_all := lw_g (lw_at lw_m6 34 rfl) rfl
theorem q1292 : (Jvm.Cond.classLink "FormulaEditor" (232 : Nat) "FormulaEditor$Parser") ∈ lw_all := lw_g (lw_at lw_m6 35 rfl) rfl
theorem q1294 : (Jvm.Cond.methodLinkNest "FormulaEditor" (234 : Nat) ({ cls := "FormulaEditor$Parser", name := "<init>", desc := "(LFormulaEditor;)V" } : Jvm.MethodName) "FormulaEditor") ∈ lw_tbl := lw_at lw_m6 37 rfl
theorem q1383 : (Jvm.Cond.fieldLinkNest "FormulaEditor" (241 : Nat) "FormulaEditor$Parser" "position" "I" "FormulaEditor") ∈ lw_tbl := lw_at lw_m6 126 rfl
theorem q1398 : (Jvm.Cond.methodLink "FormulaEditor" (237 : Nat) ({ cls := "FormulaEditor$Parser", name := "read", desc := "()LFormulaEditor$Row;" } : Jvm.MethodName)) ∈ lw_all := lw_g (lw_at lw_m6 141 rfl) rfl
theorem q1411 : (Jvm.Cond.static ({ cls := "FormulaEditor", name := "isOperand", desc := "(I)Z" } : Jvm.MethodName)) ∈ lw_all := lw_g (lw_at lw_m6 154 rfl) rfl
theorem q1412 : (Jvm.Cond.code ({ cls := "FormulaEditor", name := "isOperand", desc := "(I)Z" } : Jvm.MethodName) prog_1_method_6_code (1 : Nat) (Option.some Jvm.ClassFile.FieldType.boolean)) ∈ lw_all := lw_g (lw_at lw_m6 155 rfl) rfl
theorem q1413 : (Jvm.Cond.constantLong "FormulaEditor" (15 : Nat) (97 : Int64)) ∈ lw_all := lw_g (lw_at lw_m6 156 rfl) rfl
theorem q1414 : (Jvm.Cond.constantLong "FormulaEditor" (17 : Nat) (122 : Int64)) ∈ lw_all := lw_g (lw_at lw_m6 157 rfl) rfl
theorem q1415 : (Jvm.Cond.methodLink "FormulaEditor" (19 : Nat) ({ cls := "FormulaEditor", name := "inRange", desc := "(JJJ)Z" } : Jvm.MethodName)) ∈ lw_all := lw_g (lw_at lw_m6 158 rfl) rfl
theorem q1416 : (Jvm.Cond.static ({ cls := "FormulaEditor", name := "inRange", desc := "(JJJ)Z" } : Jvm.MethodName)) ∈ lw_all := lw_g (lw_at lw_m6 159 rfl) rfl
theorem q1417 : (Jvm.Cond.code ({ cls := "FormulaEditor", name := "inRange", desc := "(JJJ)Z" } : Jvm.MethodName) prog_1_method_1_code (6 : Nat) (Option.some Jvm.ClassFile.FieldType.boolean)) ∈ lw_all := lw_g (lw_at lw_m6 160 rfl) rfl
theorem q1418 : (Jvm.Cond.constantLong "FormulaEditor" (25 : Nat) (48 : Int64)) ∈ lw_all := lw_g (lw_at lw_m6 161 rfl) rfl
theorem q1419 : (Jvm.Cond.constantLong "FormulaEditor" (27 : Nat) (57 : Int64)) ∈ lw_all := lw_g (lw_at lw_m6 162 rfl) rfl
theorem q1562 : (Jvm.Cond.fieldLinkNest "FormulaEditor" (78 : Nat) "FormulaEditor$Structure" "kind" "I" "FormulaEditor") ∈ lw_tbl := lw_at lw_m7 65 rfl
theorem q1567 : (Jvm.Cond.fieldLinkNest "FormulaEditor" (66 : Nat) "FormulaEditor$Structure" "slots" "[LFormulaEditor$Row;" "FormulaEditor") ∈ lw_tbl := lw_at lw_m7 70 rfl
theorem q1573 : (Jvm.Cond.fieldLinkNest "FormulaEditor" (87 : Nat) "FormulaEditor$Structure" "box" "LFormulaEditor$Box;" "FormulaEditor") ∈ lw_tbl := lw_at lw_m7 76 rfl
theorem q1692 : (Jvm.Cond.static ({ cls := "FormulaEditor", name := "isOperator", desc := "(I)Z" } : Jvm.MethodName)) ∈ lw_all := lw_g (lw_at lw_m7 195 rfl) rfl
theorem q1693 : (Jvm.Cond.code ({ cls := "FormulaEditor", name := "isOperator", desc := "(I)Z" } : Jvm.MethodName) prog_1_method_7_code (1 : Nat) (Option.some Jvm.ClassFile.FieldType.boolean)) ∈ lw_all := lw_g (lw_at lw_m7 196 rfl) rfl
theorem q1694 : (Jvm.Cond.stringRef "FormulaEditor" (29 : Nat) "+-*=,.") ∈ lw_tbl := lw_at lw_m7 197 rfl
theorem q1695 : (Jvm.Cond.methodLink "FormulaEditor" (31 : Nat) ({ cls := "java/lang/String", name := "indexOf", desc := "(I)I" } : Jvm.MethodName)) ∈ lw_all := lw_g (lw_at lw_m7 198 rfl) rfl
theorem q1740 : (Jvm.Cond.instanceMethod ({ cls := "FormulaEditor", name := "linearLength", desc := "()I" } : Jvm.MethodName)) ∈ lw_all := lw_g (lw_at lw_m8 3 rfl) rfl
theorem q1741 : (Jvm.Cond.selects "FormulaEditor" ({ cls := "FormulaEditor", name := "linearLength", desc := "()I" } : Jvm.MethodName) ({ cls := "FormulaEditor", name := "linearLength", desc := "()I" } : Jvm.MethodName)) ∈ lw_all := lw_g (lw_at lw_m8 4 rfl) rfl
theorem q1742 : (Jvm.Cond.code ({ cls := "FormulaEditor", name := "linearLength", desc := "()I" } : Jvm.MethodName) prog_1_method_24_code (1 : Nat) (Option.some Jvm.ClassFile.FieldType.int)) ∈ lw_all := lw_g (lw_at lw_m8 5 rfl) rfl
theorem q1743 : (Jvm.Cond.methodLink "FormulaEditor" (307 : Nat) ({ cls := "FormulaEditor$Document", name := "text", desc := "()Ljava/lang/String;" } : Jvm.MethodName)) ∈ lw_all := lw_g (lw_at lw_m8 6 rfl) rfl
theorem q1816 : (Jvm.Cond.methodLink "FormulaEditor" (310 : Nat) ({ cls := "java/lang/String", name := "length", desc := "()I" } : Jvm.MethodName)) ∈ lw_all := lw_g (lw_at lw_m8 79 rfl) rfl
theorem q1818 : (Jvm.Cond.instanceMethod ({ cls := "FormulaEditor", name := "moveVertically", desc := "(Z)I" } : Jvm.MethodName)) ∈ lw_all := lw_g (lw_at lw_m8 81 rfl) rfl
theorem q1819 : (Jvm.Cond.selects "FormulaEditor" ({ cls := "FormulaEditor", name := "moveVertically", desc := "(Z)I" } : Jvm.MethodName) ({ cls := "FormulaEditor", name := "moveVertically", desc := "(Z)I" } : Jvm.MethodName)) ∈ lw_all := lw_g (lw_at lw_m8 82 rfl) rfl
theorem q1820 : (Jvm.Cond.code ({ cls := "FormulaEditor", name := "moveVertically", desc := "(Z)I" } : Jvm.MethodName) prog_1_method_28_code (2 : Nat) (Option.some Jvm.ClassFile.FieldType.int)) ∈ lw_all := lw_g (lw_at lw_m8 83 rfl) rfl
theorem q1821 : (Jvm.Cond.methodLink "FormulaEditor" (324 : Nat) ({ cls := "FormulaEditor$Document", name := "moveVertically", desc := "(Z)Z" } : Jvm.MethodName)) ∈ lw_all := lw_g (lw_at lw_m8 84 rfl) rfl
theorem q1841 : (Jvm.Cond.methodLink "FormulaEditor" (260 : Nat) ({ cls := "FormulaEditor$Document", name := "place", desc := "()I" } : Jvm.MethodName)) ∈ lw_all := lw_g (lw_at lw_m8 104 rfl) rfl
theorem q1864 : (Jvm.Cond.instanceMethod ({ cls := "FormulaEditor", name := "append", desc := "(I)I" } : Jvm.MethodName)) ∈ lw_all := lw_g (lw_at lw_m8 127 rfl) rfl
theorem q1865 : (Jvm.Cond.selects "FormulaEditor" ({ cls := "FormulaEditor", name := "append", desc := "(I)I" } : Jvm.MethodName) ({ cls := "FormulaEditor", name := "append", desc := "(I)I" } : Jvm.MethodName)) ∈ lw_all := lw_g (lw_at lw_m8 128 rfl) rfl
theorem q1866 : (Jvm.Cond.code ({ cls := "FormulaEditor", name := "append", desc := "(I)I" } : Jvm.MethodName) prog_1_method_16_code (2 : Nat) (Option.some Jvm.ClassFile.FieldType.int)) ∈ lw_all := lw_g (lw_at lw_m8 129 rfl) rfl
theorem q1867 : (Jvm.Cond.constantLong "FormulaEditor" (224 : Nat) (255 : Int64)) ∈ lw_all := lw_g (lw_at lw_m8 130 rfl) rfl
theorem q1868 : (Jvm.Cond.methodLink "FormulaEditor" (226 : Nat) ({ cls := "FormulaEditor", name := "demandArgument", desc := "(Z)V" } : Jvm.MethodName)) ∈ lw_all := lw_g (lw_at lw_m8 131 rfl) rfl
theorem q1869 : (Jvm.Cond.static ({ cls := "FormulaEditor", name := "demandArgument", desc := "(Z)V" } : Jvm.MethodName)) ∈ lw_all := lw_g (lw_at lw_m8 132 rfl) rfl
theorem q1870 : (Jvm.Cond.code ({ cls := "FormulaEditor", name := "demandArgument", desc := "(Z)V" } : Jvm.MethodName) prog_1_method_3_code (1 : Nat) (Option.none : Option Jvm.ClassFile.FieldType)) ∈ lw_all := lw_g (lw_at lw_m8 133 rfl) rfl
theorem q1871 : (Jvm.Cond.classLink "FormulaEditor" (7 : Nat) "java/lang/IllegalArgumentException") ∈ lw_all := lw_g (lw_at lw_m8 134 rfl) rfl
theorem q1872 : (Jvm.Cond.methodLink "FormulaEditor" (9 : Nat) ({ cls := "java/lang/IllegalArgumentException", name := "<init>", desc := "()V" } : Jvm.MethodName)) ∈ lw_all := lw_g (lw_at lw_m8 135 rfl) rfl
theorem q1882 : (Jvm.Cond.methodLink "FormulaEditor" (209 : Nat) ({ cls := "FormulaEditor", name := "demandState", desc := "(Z)V" } : Jvm.MethodName)) ∈ lw_all := lw_g (lw_at lw_m8 145 rfl) rfl
theorem q1883 : (Jvm.Cond.static ({ cls := "FormulaEditor", name := "demandState", desc := "(Z)V" } : Jvm.MethodName)) ∈ lw_all := lw_g (lw_at lw_m8 146 rfl) rfl
theorem q1884 : (Jvm.Cond.code ({ cls := "FormulaEditor", name := "demandState", desc := "(Z)V" } : Jvm.MethodName) prog_1_method_4_code (1 : Nat) (Option.none : Option Jvm.ClassFile.FieldType)) ∈ lw_all := lw_g (lw_at lw_m8 147 rfl) rfl
theorem q1885 : (Jvm.Cond.classLink "FormulaEditor" (10 : Nat) "java/lang/IllegalStateException") ∈ lw_all := lw_g (lw_at lw_m8 148 rfl) rfl
theorem q1886 : (Jvm.Cond.methodLink "FormulaEditor" (12 : Nat) ({ cls := "java/lang/IllegalStateException", name := "<init>", desc := "()V" } : Jvm.MethodName)) ∈ lw_all := lw_g (lw_at lw_m8 149 rfl) rfl
theorem q1894 : (Jvm.Cond.instanceMethod ({ cls := "FormulaEditor", name := "load", desc := "()I" } : Jvm.MethodName)) ∈ lw_all := lw_g (lw_at lw_m8 157 rfl) rfl
theorem q1895 : (Jvm.Cond.selects "FormulaEditor" ({ cls := "FormulaEditor", name := "load", desc := "()I" } : Jvm.MethodName) ({ cls := "FormulaEditor", name := "load", desc := "()I" } : Jvm.MethodName)) ∈ lw_all := lw_g (lw_at lw_m8 158 rfl) rfl
theorem q1896 : (Jvm.Cond.code ({ cls := "FormulaEditor", name := "load", desc := "()I" } : Jvm.MethodName) prog_1_method_19_code (2 : Nat) (Option.some Jvm.ClassFile.FieldType.int)) ∈ lw_all := lw_g (lw_at lw_m8 159 rfl) rfl
theorem q1897 : (Jvm.Cond.methodLink "FormulaEditor" (244 : Nat) ({ cls := "FormulaEditor$Row", name := "readSize", desc := "()I" } : Jvm.MethodName)) ∈ lw_all := lw_g (lw_at lw_m8 160 rfl) rfl
theorem q1898 : (Jvm.Cond.methodLink "FormulaEditor" (247 : Nat) ({ cls := "FormulaEditor$Row", name := "readDepth", desc := "()I" } : Jvm.MethodName)) ∈ lw_all := lw_g (lw_at lw_m8 161 rfl) rfl
theorem q1899 : (Jvm.Cond.interfaceEntry "FormulaEditor" (250 : Nat)) ∈ lw_tbl := lw_at lw_m8 162 rfl
theorem q1910 : (Jvm.Cond.methodLink "FormulaEditor" (253 : Nat) ({ cls := "FormulaEditor$Row", name := "size", desc := "()I" } : Jvm.MethodName)) ∈ lw_all := lw_g (lw_at lw_m8 173 rfl) rfl
theorem q1932 : (Jvm.Cond.instanceMethod ({ cls := "FormulaEditor", name := "about", desc := "(I)I" } : Jvm.MethodName)) ∈ lw_all := lw_g (lw_at lw_m8 195 rfl) rfl
theorem q1933 : (Jvm.Cond.selects "FormulaEditor" ({ cls := "FormulaEditor", name := "about", desc := "(I)I" } : Jvm.MethodName) ({ cls := "FormulaEditor", name := "about", desc := "(I)I" } : Jvm.MethodName)) ∈ lw_all := lw_g (lw_at lw_m8 196 rfl) rfl
theorem q1934 : (Jvm.Cond.code ({ cls := "FormulaEditor", name := "about", desc := "(I)I" } : Jvm.MethodName) prog_1_method_20_code (2 : Nat) (Option.some Jvm.ClassFile.FieldType.int)) ∈ lw_all := lw_g (lw_at lw_m8 197 rfl) rfl
theorem q1935 : (Jvm.Cond.methodLink "FormulaEditor" (257 : Nat) ({ cls := "FormulaEditor$Row", name := "places", desc := "()I" } : Jvm.MethodName)) ∈ lw_all := lw_g (lw_at lw_m8 198 rfl) rfl
theorem q1936 : (Jvm.Cond.methodLink "FormulaEditor" (263 : Nat) ({ cls := "FormulaEditor$Row", name := "depth", desc := "()I" } : Jvm.MethodName)) ∈ lw_all := lw_g (lw_at lw_m8 199 rfl) rfl
theorem q1954 : (Jvm.Cond.methodLink "FormulaEditor" (266 : Nat) ({ cls := "FormulaEditor$Row", name := "emptySlots", desc := "()I" } : Jvm.MethodName)) ∈ lw_all := lw_g (lw_at lw_m8 217 rfl) rfl
theorem q1979 : (Jvm.Cond.instanceMethod ({ cls := "FormulaEditor", name := "place", desc := "(II)I" } : Jvm.MethodName)) ∈ lw_all := lw_g (lw_at lw_m9 2 rfl) rfl
theorem q1980 : (Jvm.Cond.selects "FormulaEditor" ({ cls := "FormulaEditor", name := "place", desc := "(II)I" } : Jvm.MethodName) ({ cls := "FormulaEditor", name := "place", desc := "(II)I" } : Jvm.MethodName)) ∈ lw_all := lw_g (lw_at lw_m9 3 rfl) rfl
theorem q1981 : (Jvm.Cond.code ({ cls := "FormulaEditor", name := "place", desc := "(II)I" } : Jvm.MethodName) prog_1_method_22_code (4 : Nat) (Option.some Jvm.ClassFile.FieldType.int)) ∈ lw_all := lw_g (lw_at lw_m9 4 rfl) rfl
theorem q1982 : (Jvm.Cond.methodLink "FormulaEditor" (272 : Nat) ({ cls := "FormulaEditor", name := "demandPlace", desc := "(I)V" } : Jvm.MethodName)) ∈ lw_all := lw_g (lw_at lw_m9 5 rfl) rfl
theorem q1983 : (Jvm.Cond.privateMethod ({ cls := "FormulaEditor", name := "demandPlace", desc := "(I)V" } : Jvm.MethodName)) ∈ lw_tbl := lw_at lw_m9 6 rfl
theorem q1984 : (Jvm.Cond.instanceMethod ({ cls := "FormulaEditor", name := "demandPlace", desc := "(I)V" } : Jvm.MethodName)) ∈ lw_all := lw_g (lw_at lw_m9 7 rfl) rfl
theorem q1985 : (Jvm.Cond.code ({ cls := "FormulaEditor", name := "demandPlace", desc := "(I)V" } : Jvm.MethodName) prog_1_method_21_code (2 : Nat) (Option.none : Option Jvm.ClassFile.FieldType)) ∈ lw_all := lw_g (lw_at lw_m9 8 rfl) rfl
theorem q1986 : (Jvm.Cond.methodLink "FormulaEditor" (269 : Nat) ({ cls := "FormulaEditor", name := "demandIndex", desc := "(Z)V" } : Jvm.MethodName)) ∈ lw_all := lw_g (lw_at lw_m9 9 rfl) rfl
theorem q1987 : (Jvm.Cond.static ({ cls := "FormulaEditor", name := "demandIndex", desc := "(Z)V" } : Jvm.MethodName)) ∈ lw_all := lw_g (lw_at lw_m9 10 rfl) rfl
theorem q1988 : (Jvm.Cond.code ({ cls := "FormulaEditor", name := "demandIndex", desc := "(Z)V" } : Jvm.MethodName) prog_1_method_2_code (1 : Nat) (Option.none : Option Jvm.ClassFile.FieldType)) ∈ lw_all := lw_g (lw_at lw_m9 11 rfl) rfl
theorem q1989 : (Jvm.Cond.classLink "FormulaEditor" (1 : Nat) "java/lang/IndexOutOfBoundsException") ∈ lw_all := lw_g (lw_at lw_m9 12 rfl) rfl
theorem q1990 : (Jvm.Cond.methodLink "FormulaEditor" (3 : Nat) ({ cls := "java/lang/IndexOutOfBoundsException", name := "<init>", desc := "()V" } : Jvm.MethodName)) ∈ lw_all := lw_g (lw_at lw_m9 13 rfl) rfl
theorem q1994 : (Jvm.Cond.constantLong "FormulaEditor" (276 : Nat) (5 : Int64)) ∈ lw_all := lw_g (lw_at lw_m9 17 rfl) rfl
theorem q1995 : (Jvm.Cond.methodLink "FormulaEditor" (278 : Nat) ({ cls := "FormulaEditor$Document", name := "moveTo", desc := "(I)V" } : Jvm.MethodName)) ∈ lw_all := lw_g (lw_at lw_m9 18 rfl) rfl
theorem q2005 : (Jvm.Cond.methodLink "FormulaEditor" (284 : Nat) ({ cls := "FormulaEditor$Row", name := "level", desc := "()I" } : Jvm.MethodName)) ∈ lw_all := lw_g (lw_at lw_m9 28 rfl) rfl
theorem q2014 : (Jvm.Cond.instanceMethod ({ cls := "FormulaEditor", name := "selection", desc := "(I)I" } : Jvm.MethodName)) ∈ lw_all := lw_g (lw_at lw_m9 37 rfl) rfl
theorem q2015 : (Jvm.Cond.selects "FormulaEditor" ({ cls := "FormulaEditor", name := "selection", desc := "(I)I" } : Jvm.MethodName) ({ cls := "FormulaEditor", name := "selection", desc := "(I)I" } : Jvm.MethodName)) ∈ lw_all := lw_g (lw_at lw_m9 38 rfl) rfl
theorem q2016 : (Jvm.Cond.code ({ cls := "FormulaEditor", name := "selection", desc := "(I)I" } : Jvm.MethodName) prog_1_method_23_code (2 : Nat) (Option.some Jvm.ClassFile.FieldType.int)) ∈ lw_all := lw_g (lw_at lw_m9 39 rfl) rfl
theorem q2017 : (Jvm.Cond.constantLong "FormulaEditor" (297 : Nat) (2 : Int64)) ∈ lw_all := lw_g (lw_at lw_m9 40 rfl) rfl
theorem q2018 : (Jvm.Cond.methodLink "FormulaEditor" (302 : Nat) ({ cls := "FormulaEditor$Document", name := "selectedSize", desc := "()I" } : Jvm.MethodName)) ∈ lw_all := lw_g (lw_at lw_m9 41 rfl) rfl
theorem q2023 : (Jvm.Cond.methodLink "FormulaEditor" (305 : Nat) ({ cls := "FormulaEditor$Row", name := "place", desc := "(I)I" } : Jvm.MethodName)) ∈ lw_all := lw_g (lw_at lw_m9 46 rfl) rfl
theorem q2028 : (Jvm.Cond.instanceMethod ({ cls := "FormulaEditor", name := "linearAt", desc := "(I)I" } : Jvm.MethodName)) ∈ lw_all := lw_g (lw_at lw_m9 51 rfl) rfl
theorem q2029 : (Jvm.Cond.selects "FormulaEditor" ({ cls := "FormulaEditor", name := "linearAt", desc := "(I)I" } : Jvm.MethodName) ({ cls := "FormulaEditor", name := "linearAt", desc := "(I)I" } : Jvm.MethodName)) ∈ lw_all := lw_g (lw_at lw_m9 52 rfl) rfl
theorem q2030 : (Jvm.Cond.code ({ cls := "FormulaEditor", name := "linearAt", desc := "(I)I" } : Jvm.MethodName) prog_1_method_25_code (3 : Nat) (Option.some Jvm.ClassFile.FieldType.int)) ∈ lw_all := lw_g (lw_at lw_m9 53 rfl) rfl
theorem q2031 : (Jvm.Cond.methodLink "FormulaEditor" (313 : Nat) ({ cls := "java/lang/String", name := "charAt", desc := "(I)C" } : Jvm.MethodName)) ∈ lw_all := lw_g (lw_at lw_m9 54 rfl) rfl
theorem q2046 : (Jvm.Cond.instanceMethod ({ cls := "FormulaEditor", name := "moveTo", desc := "(I)I" } : Jvm.MethodName)) ∈ lw_all := lw_g (lw_at lw_m9 69 rfl) rfl
theorem q2047 : (Jvm.Cond.selects "FormulaEditor" ({ cls := "FormulaEditor", name := "moveTo", desc := "(I)I" } : Jvm.MethodName) ({ cls := "FormulaEditor", name := "moveTo", desc := "(I)I" } : Jvm.MethodName)) ∈ lw_all := lw_g (lw_at lw_m9 70 rfl) rfl
theorem q2048 : (Jvm.Cond.code ({ cls := "FormulaEditor", name := "moveTo", desc := "(I)I" } : Jvm.MethodName) prog_1_method_26_code (3 : Nat) (Option.some Jvm.ClassFile.FieldType.int)) ∈ lw_all := lw_g (lw_at lw_m9 71 rfl) rfl
theorem q2053 : (Jvm.Cond.instanceMethod ({ cls := "FormulaEditor", name := "moveBy", desc := "(I)I" } : Jvm.MethodName)) ∈ lw_all := lw_g (lw_at lw_m9 76 rfl) rfl
theorem q2054 : (Jvm.Cond.selects "FormulaEditor" ({ cls := "FormulaEditor", name := "moveBy", desc := "(I)I" } : Jvm.MethodName) ({ cls := "FormulaEditor", name := "moveBy", desc := "(I)I" } : Jvm.MethodName)) ∈ lw_all := lw_g (lw_at lw_m9 77 rfl) rfl
theorem q2055 : (Jvm.Cond.code ({ cls := "FormulaEditor", name := "moveBy", desc := "(I)I" } : Jvm.MethodName) prog_1_method_27_code (2 : Nat) (Option.some Jvm.ClassFile.FieldType.int)) ∈ lw_all := lw_g (lw_at lw_m9 78 rfl) rfl
theorem q2056 : (Jvm.Cond.constantLong "FormulaEditor" (317 : Nat) (-200 : Int64)) ∈ lw_all := lw_g (lw_at lw_m9 79 rfl) rfl
theorem q2057 : (Jvm.Cond.constantLong "FormulaEditor" (319 : Nat) (200 : Int64)) ∈ lw_all := lw_g (lw_at lw_m9 80 rfl) rfl
theorem q2058 : (Jvm.Cond.methodLink "FormulaEditor" (321 : Nat) ({ cls := "FormulaEditor$Document", name := "moveBy", desc := "(I)I" } : Jvm.MethodName)) ∈ lw_all := lw_g (lw_at lw_m9 81 rfl) rfl
theorem q2069 : (Jvm.Cond.instanceMethod ({ cls := "FormulaEditor", name := "extend", desc := "(Z)I" } : Jvm.MethodName)) ∈ lw_all := lw_g (lw_at lw_m9 92 rfl) rfl
theorem q2070 : (Jvm.Cond.selects "FormulaEditor" ({ cls := "FormulaEditor", name := "extend", desc := "(Z)I" } : Jvm.MethodName) ({ cls := "FormulaEditor", name := "extend", desc := "(Z)I" } : Jvm.MethodName)) ∈ lw_all := lw_g (lw_at lw_m9 93 rfl) rfl
theorem q2071 : (Jvm.Cond.code ({ cls := "FormulaEditor", name := "extend", desc := "(Z)I" } : Jvm.MethodName) prog_1_method_29_code (2 : Nat) (Option.some Jvm.ClassFile.FieldType.int)) ∈ lw_all := lw_g (lw_at lw_m9 94 rfl) rfl
theorem q2072 : (Jvm.Cond.methodLink "FormulaEditor" (328 : Nat) ({ cls := "FormulaEditor$Document", name := "extend", desc := "(Z)Z" } : Jvm.MethodName)) ∈ lw_all := lw_g (lw_at lw_m9 95 rfl) rfl
theorem q2080 : (Jvm.Cond.instanceMethod ({ cls := "FormulaEditor", name := "grow", desc := "()I" } : Jvm.MethodName)) ∈ lw_all := lw_g (lw_at lw_m9 103 rfl) rfl
theorem q2081 : (Jvm.Cond.selects "FormulaEditor" ({ cls := "FormulaEditor", name := "grow", desc := "()I" } : Jvm.MethodName) ({ cls := "FormulaEditor", name := "grow", desc := "()I" } : Jvm.MethodName)) ∈ lw_all := lw_g (lw_at lw_m9 104 rfl) rfl
theorem q2082 : (Jvm.Cond.code ({ cls := "FormulaEditor", name := "grow", desc := "()I" } : Jvm.MethodName) prog_1_method_30_code (1 : Nat) (Option.some Jvm.ClassFile.FieldType.int)) ∈ lw_all := lw_g (lw_at lw_m9 105 rfl) rfl
theorem q2083 : (Jvm.Cond.methodLink "FormulaEditor" (331 : Nat) ({ cls := "FormulaEditor$Document", name := "grow", desc := "()Z" } : Jvm.MethodName)) ∈ lw_all := lw_g (lw_at lw_m9 106 rfl) rfl
theorem q2091 : (Jvm.Cond.instanceMethod ({ cls := "FormulaEditor", name := "copy", desc := "()I" } : Jvm.MethodName)) ∈ lw_all := lw_g (lw_at lw_m9 114 rfl) rfl
theorem q2092 : (Jvm.Cond.selects "FormulaEditor" ({ cls := "FormulaEditor", name := "copy", desc := "()I" } : Jvm.MethodName) ({ cls := "FormulaEditor", name := "copy", desc := "()I" } : Jvm.MethodName)) ∈ lw_all := lw_g (lw_at lw_m9 115 rfl) rfl
theorem q2093 : (Jvm.Cond.code ({ cls := "FormulaEditor", name := "copy", desc := "()I" } : Jvm.MethodName) prog_1_method_31_code (1 : Nat) (Option.some Jvm.ClassFile.FieldType.int)) ∈ lw_all := lw_g (lw_at lw_m9 116 rfl) rfl
theorem q2094 : (Jvm.Cond.methodLink "FormulaEditor" (334 : Nat) ({ cls := "FormulaEditor$Row", name := "addCopies", desc := "(LFormulaEditor$Row;II)V" } : Jvm.MethodName)) ∈ lw_all := lw_g (lw_at lw_m9 117 rfl) rfl
theorem q2123 : (Jvm.Cond.instanceMethod ({ cls := "FormulaEditor", name := "type", desc := "(I)I" } : Jvm.MethodName)) ∈ lw_all := lw_g (lw_at lw_m9 146 rfl) rfl
theorem q2124 : (Jvm.Cond.selects "FormulaEditor" ({ cls := "FormulaEditor", name := "type", desc := "(I)I" } : Jvm.MethodName) ({ cls := "FormulaEditor", name := "type", desc := "(I)I" } : Jvm.MethodName)) ∈ lw_all := lw_g (lw_at lw_m9 147 rfl) rfl
theorem q2125 : (Jvm.Cond.code ({ cls := "FormulaEditor", name := "type", desc := "(I)I" } : Jvm.MethodName) prog_1_method_32_code (2 : Nat) (Option.some Jvm.ClassFile.FieldType.int)) ∈ lw_all := lw_g (lw_at lw_m9 148 rfl) rfl
theorem q2126 : (Jvm.Cond.methodLink "FormulaEditor" (338 : Nat) ({ cls := "FormulaEditor", name := "isSymbol", desc := "(I)Z" } : Jvm.MethodName)) ∈ lw_all := lw_g (lw_at lw_m9 149 rfl) rfl
theorem q2127 : (Jvm.Cond.static ({ cls := "FormulaEditor", name := "isSymbol", desc := "(I)Z" } : Jvm.MethodName)) ∈ lw_all := lw_g (lw_at lw_m9 150 rfl) rfl
theorem q2128 : (Jvm.Cond.code ({ cls := "FormulaEditor", name := "isSymbol", desc := "(I)Z" } : Jvm.MethodName) prog_1_method_8_code (1 : Nat) (Option.some Jvm.ClassFile.FieldType.boolean)) ∈ lw_all := lw_g (lw_at lw_m9 151 rfl) rfl
theorem q2129 : (Jvm.Cond.methodLink "FormulaEditor" (37 : Nat) ({ cls := "FormulaEditor", name := "isOperand", desc := "(I)Z" } : Jvm.MethodName)) ∈ lw_all := lw_g (lw_at lw_m9 152 rfl) rfl
theorem q2130 : (Jvm.Cond.methodLink "FormulaEditor" (41 : Nat) ({ cls := "FormulaEditor", name := "isOperator", desc := "(I)Z" } : Jvm.MethodName)) ∈ lw_all := lw_g (lw_at lw_m9 153 rfl) rfl
theorem q2131 : (Jvm.Cond.static ({ cls := "FormulaEditor", name := "lambda$type$10", desc := "(ILFormulaEditor$Document;)Z" } : Jvm.MethodName)) ∈ lw_all := lw_g (lw_at lw_m9 154 rfl) rfl
theorem q2132 : (Jvm.Cond.code ({ cls := "FormulaEditor", name := "lambda$type$10", desc := "(ILFormulaEditor$Document;)Z" } : Jvm.MethodName) prog_1_method_50_code (2 : Nat) (Option.some Jvm.ClassFile.FieldType.boolean)) ∈ lw_all := lw_g (lw_at lw_m9 155 rfl) rfl
theorem q2133 : (Jvm.Cond.methodLink "FormulaEditor" (369 : Nat) ({ cls := "FormulaEditor$Document", name := "type", desc := "(I)Z" } : Jvm.MethodName)) ∈ lw_all := lw_g (lw_at lw_m9 156 rfl) rfl
theorem q2147 : (Jvm.Cond.methodLink "FormulaEditor" (344 : Nat) ({ cls := "FormulaEditor", name := "act", desc := "(LFormulaEditor$Change;)V" } : Jvm.MethodName)) ∈ lw_all := lw_g (lw_at lw_m9 170 rfl) rfl
theorem q2148 : (Jvm.Cond.privateMethod ({ cls := "FormulaEditor", name := "act", desc := "(LFormulaEditor$Change;)V" } : Jvm.MethodName)) ∈ lw_tbl := lw_at lw_m9 171 rfl
theorem q2149 : (Jvm.Cond.instanceMethod ({ cls := "FormulaEditor", name := "act", desc := "(LFormulaEditor$Change;)V" } : Jvm.MethodName)) ∈ lw_all := lw_g (lw_at lw_m9 172 rfl) rfl
theorem q2150 : (Jvm.Cond.code ({ cls := "FormulaEditor", name := "act", desc := "(LFormulaEditor$Change;)V" } : Jvm.MethodName) prog_1_method_15_code (3 : Nat) (Option.none : Option Jvm.ClassFile.FieldType)) ∈ lw_all := lw_g (lw_at lw_m9 173 rfl) rfl
theorem q2151 : (Jvm.Cond.methodLink "FormulaEditor" (199 : Nat) ({ cls := "FormulaEditor$Document", name := "copy", desc := "()LFormulaEditor$Document;" } : Jvm.MethodName)) ∈ lw_all := lw_g (lw_at lw_m9 174 rfl) rfl
theorem q2160 : (Jvm.Cond.interfaceEntry "FormulaEditor" (203 : Nat)) ∈ lw_tbl := lw_at lw_m9 183 rfl
theorem q2161 : (Jvm.Cond.methodLink "FormulaEditor" (203 : Nat) ({ cls := "FormulaEditor$Change", name := "make", desc := "(LFormulaEditor$Document;)Z" } : Jvm.MethodName)) ∈ lw_all := lw_g (lw_at lw_m9 184 rfl) rfl
theorem q2164 : (Jvm.Cond.interfaceEntry "FormulaEditor" (213 : Nat)) ∈ lw_tbl := lw_at lw_m9 187 rfl
theorem q2165 : (Jvm.Cond.methodLink "FormulaEditor" (213 : Nat) ({ cls := "java/util/Deque", name := "size", desc := "()I" } : Jvm.MethodName)) ∈ lw_all := lw_g (lw_at lw_m9 188 rfl) rfl
theorem q2166 : (Jvm.Cond.interfaceEntry "FormulaEditor" (216 : Nat)) ∈ lw_tbl := lw_at lw_m9 189 rfl
theorem q2167 : (Jvm.Cond.methodLink "FormulaEditor" (216 : Nat) ({ cls := "java/util/Deque", name := "removeFirst", desc := "()Ljava/lang/Object;" } : Jvm.MethodName)) ∈ lw_all := lw_g (lw_at lw_m9 190 rfl) rfl
theorem q2179 : (Jvm.Cond.interfaceEntry "FormulaEditor" (220 : Nat)) ∈ lw_tbl := lw_at lw_m9 202 rfl
theorem q2180 : (Jvm.Cond.methodLink "FormulaEditor" (220 : Nat) ({ cls := "java/util/Deque", name := "addLast", desc := "(Ljava/lang/Object;)V" } : Jvm.MethodName)) ∈ lw_all := lw_g (lw_at lw_m9 203 rfl) rfl
theorem q2185 : (Jvm.Cond.instanceMethod ({ cls := "FormulaEditor", name := "wrap", desc := "(I)I" } : Jvm.MethodName)) ∈ lw_all := lw_g (lw_at lw_m9 208 rfl) rfl
theorem q2186 : (Jvm.Cond.selects "FormulaEditor" ({ cls := "FormulaEditor", name := "wrap", desc := "(I)I" } : Jvm.MethodName) ({ cls := "FormulaEditor", name := "wrap", desc := "(I)I" } : Jvm.MethodName)) ∈ lw_all := lw_g (lw_at lw_m9 209 rfl) rfl
theorem q2187 : (Jvm.Cond.code ({ cls := "FormulaEditor", name := "wrap", desc := "(I)I" } : Jvm.MethodName) prog_1_method_33_code (2 : Nat) (Option.some Jvm.ClassFile.FieldType.int)) ∈ lw_all := lw_g (lw_at lw_m9 210 rfl) rfl
theorem q2188 : (Jvm.Cond.static ({ cls := "FormulaEditor", name := "lambda$wrap$11", desc := "(ILFormulaEditor$Document;)Z" } : Jvm.MethodName)) ∈ lw_all := lw_g (lw_at lw_m9 211 rfl) rfl
theorem q2189 : (Jvm.Cond.code ({ cls := "FormulaEditor", name := "lambda$wrap$11", desc := "(ILFormulaEditor$Document;)Z" } : Jvm.MethodName) prog_1_method_49_code (2 : Nat) (Option.some Jvm.ClassFile.FieldType.boolean)) ∈ lw_all := lw_g (lw_at lw_m9 212 rfl) rfl
theorem q2190 : (Jvm.Cond.methodLink "FormulaEditor" (372 : Nat) ({ cls := "FormulaEditor$Document", name := "wrap", desc := "(I)Z" } : Jvm.MethodName)) ∈ lw_all := lw_g (lw_at lw_m9 213 rfl) rfl
theorem q2223 : (Jvm.Cond.instanceMethod ({ cls := "FormulaEditor", name := "backspace", desc := "()I" } : Jvm.MethodName)) ∈ lw_all := lw_g (lw_at lw_m10 6 rfl) rfl
theorem q2224 : (Jvm.Cond.selects "FormulaEditor" ({ cls := "FormulaEditor", name := "backspace", desc := "()I" } : Jvm.MethodName) ({ cls := "FormulaEditor", name := "backspace", desc := "()I" } : Jvm.MethodName)) ∈ lw_all := lw_g (lw_at lw_m10 7 rfl) rfl
theorem q2225 : (Jvm.Cond.code ({ cls := "FormulaEditor", name := "backspace", desc := "()I" } : Jvm.MethodName) prog_1_method_34_code (2 : Nat) (Option.some Jvm.ClassFile.FieldType.int)) ∈ lw_all := lw_g (lw_at lw_m10 8 rfl) rfl
theorem q2226 : (Jvm.Cond.static ({ cls := "FormulaEditor", name := "lambda$backspace$12", desc := "(LFormulaEditor$Document;)Z" } : Jvm.MethodName)) ∈ lw_all := lw_g (lw_at lw_m10 9 rfl) rfl
theorem q2227 : (Jvm.Cond.code ({ cls := "FormulaEditor", name := "lambda$backspace$12", desc := "(LFormulaEditor$Document;)Z" } : Jvm.MethodName) prog_1_method_48_code (1 : Nat) (Option.some Jvm.ClassFile.FieldType.boolean)) ∈ lw_all := lw_g (lw_at lw_m10 10 rfl) rfl
theorem q2228 : (Jvm.Cond.methodLink "FormulaEditor" (375 : Nat) ({ cls := "FormulaEditor$Document", name := "backspace", desc := "()I" } : Jvm.MethodName)) ∈ lw_all := lw_g (lw_at lw_m10 11 rfl) rfl
theorem q2242 : (Jvm.Cond.instanceMethod ({ cls := "FormulaEditor", name := "paste", desc := "()I" } : Jvm.MethodName)) ∈ lw_all := lw_g (lw_at lw_m10 25 rfl) rfl
theorem q2243 : (Jvm.Cond.selects "FormulaEditor" ({ cls := "FormulaEditor", name := "paste", desc := "()I" } : Jvm.MethodName) ({ cls := "FormulaEditor", name := "paste", desc := "()I" } : Jvm.MethodName)) ∈ lw_all := lw_g (lw_at lw_m10 26 rfl) rfl
theorem q2244 : (Jvm.Cond.code ({ cls := "FormulaEditor", name := "paste", desc := "()I" } : Jvm.MethodName) prog_1_method_35_code (2 : Nat) (Option.some Jvm.ClassFile.FieldType.int)) ∈ lw_all := lw_g (lw_at lw_m10 27 rfl) rfl
theorem q2245 : (Jvm.Cond.static ({ cls := "FormulaEditor", name := "lambda$paste$13", desc := "(LFormulaEditor$Row;LFormulaEditor$Document;)Z" } : Jvm.MethodName)) ∈ lw_all := lw_g (lw_at lw_m10 28 rfl) rfl
theorem q2246 : (Jvm.Cond.code ({ cls := "FormulaEditor", name := "lambda$paste$13", desc := "(LFormulaEditor$Row;LFormulaEditor$Document;)Z" } : Jvm.MethodName) prog_1_method_47_code (2 : Nat) (Option.some Jvm.ClassFile.FieldType.boolean)) ∈ lw_all := lw_g (lw_at lw_m10 29 rfl) rfl
theorem q2247 : (Jvm.Cond.methodLink "FormulaEditor" (400 : Nat) ({ cls := "FormulaEditor$Document", name := "paste", desc := "(LFormulaEditor$Row;)Z" } : Jvm.MethodName)) ∈ lw_all := lw_g (lw_at lw_m10 30 rfl) rfl
theorem q2256 : (Jvm.Cond.instanceMethod ({ cls := "FormulaEditor", name := "replace", desc := "(II)I" } : Jvm.MethodName)) ∈ lw_all := lw_g (lw_at lw_m10 39 rfl) rfl
theorem q2257 : (Jvm.Cond.selects "FormulaEditor" ({ cls := "FormulaEditor", name := "replace", desc := "(II)I" } : Jvm.MethodName) ({ cls := "FormulaEditor", name := "replace", desc := "(II)I" } : Jvm.MethodName)) ∈ lw_all := lw_g (lw_at lw_m10 40 rfl) rfl
theorem q2258 : (Jvm.Cond.code ({ cls := "FormulaEditor", name := "replace", desc := "(II)I" } : Jvm.MethodName) prog_1_method_36_code (3 : Nat) (Option.some Jvm.ClassFile.FieldType.int)) ∈ lw_all := lw_g (lw_at lw_m10 41 rfl) rfl
theorem q2259 : (Jvm.Cond.static ({ cls := "FormulaEditor", name := "lambda$replace$14", desc := "(LFormulaEditor$Document;)Z" } : Jvm.MethodName)) ∈ lw_all := lw_g (lw_at lw_m10 42 rfl) rfl
theorem q2260 : (Jvm.Cond.code ({ cls := "FormulaEditor", name := "lambda$replace$14", desc := "(LFormulaEditor$Document;)Z" } : Jvm.MethodName) prog_1_method_46_code (1 : Nat) (Option.some Jvm.ClassFile.FieldType.boolean)) ∈ lw_all := lw_g (lw_at lw_m10 43 rfl) rfl
theorem q2261 : (Jvm.Cond.methodLink "FormulaEditor" (356 : Nat) ({ cls := "FormulaEditor$Row", name := "replace", desc := "(CC)I" } : Jvm.MethodName)) ∈ lw_all := lw_g (lw_at lw_m10 44 rfl) rfl
theorem q2271 : (Jvm.Cond.instanceMethod ({ cls := "FormulaEditor", name := "undo", desc := "()I" } : Jvm.MethodName)) ∈ lw_all := lw_g (lw_at lw_m10 54 rfl) rfl
theorem q2272 : (Jvm.Cond.selects "FormulaEditor" ({ cls := "FormulaEditor", name := "undo", desc := "()I" } : Jvm.MethodName) ({ cls := "FormulaEditor", name := "undo", desc := "()I" } : Jvm.MethodName)) ∈ lw_all := lw_g (lw_at lw_m10 55 rfl) rfl
theorem q2273 : (Jvm.Cond.code ({ cls := "FormulaEditor", name := "undo", desc := "()I" } : Jvm.MethodName) prog_1_method_37_code (1 : Nat) (Option.some Jvm.ClassFile.FieldType.int)) ∈ lw_all := lw_g (lw_at lw_m10 56 rfl) rfl
theorem q2274 : (Jvm.Cond.interfaceEntry "FormulaEditor" (360 : Nat)) ∈ lw_tbl := lw_at lw_m10 57 rfl
theorem q2282 : (Jvm.Cond.interfaceEntry "FormulaEditor" (361 : Nat)) ∈ lw_tbl := lw_at lw_m10 65 rfl
theorem q2283 : (Jvm.Cond.methodLink "FormulaEditor" (361 : Nat) ({ cls := "java/util/Deque", name := "removeLast", desc := "()Ljava/lang/Object;" } : Jvm.MethodName)) ∈ lw_all := lw_g (lw_at lw_m10 66 rfl) rfl
theorem q2288 : (Jvm.Cond.instanceMethod ({ cls := "FormulaEditor", name := "drawing", desc := "(I)I" } : Jvm.MethodName)) ∈ lw_all := lw_g (lw_at lw_m10 71 rfl) rfl
theorem q2289 : (Jvm.Cond.selects "FormulaEditor" ({ cls := "FormulaEditor", name := "drawing", desc := "(I)I" } : Jvm.MethodName) ({ cls := "FormulaEditor", name := "drawing", desc := "(I)I" } : Jvm.MethodName)) ∈ lw_all := lw_g (lw_at lw_m10 72 rfl) rfl
theorem q2290 : (Jvm.Cond.code ({ cls := "FormulaEditor", name := "drawing", desc := "(I)I" } : Jvm.MethodName) prog_1_method_38_code (3 : Nat) (Option.some Jvm.ClassFile.FieldType.int)) ∈ lw_all := lw_g (lw_at lw_m10 73 rfl) rfl
theorem q2291 : (Jvm.Cond.methodLink "FormulaEditor" (70 : Nat) ({ cls := "FormulaEditor", name := "measure", desc := "(LFormulaEditor$Row;)LFormulaEditor$Box;" } : Jvm.MethodName)) ∈ lw_all := lw_g (lw_at lw_m10 74 rfl) rfl
theorem q2292 : (Jvm.Cond.privateMethod ({ cls := "FormulaEditor", name := "measure", desc := "(LFormulaEditor$Row;)LFormulaEditor$Box;" } : Jvm.MethodName)) ∈ lw_tbl := lw_at lw_m10 75 rfl
theorem q2293 : (Jvm.Cond.instanceMethod ({ cls := "FormulaEditor", name := "measure", desc := "(LFormulaEditor$Row;)LFormulaEditor$Box;" } : Jvm.MethodName)) ∈ lw_all := lw_g (lw_at lw_m10 76 rfl) rfl
theorem q2294 : (Jvm.Cond.code ({ cls := "FormulaEditor", name := "measure", desc := "(LFormulaEditor$Row;)LFormulaEditor$Box;" } : Jvm.MethodName) prog_1_method_9_code (8 : Nat) (Option.some (Jvm.ClassFile.FieldType.object "FormulaEditor$Box"))) ∈ lw_all := lw_g (lw_at lw_m10 77 rfl) rfl
theorem q2295 : (Jvm.Cond.interfaceEntry "FormulaEditor" (82 : Nat)) ∈ lw_tbl := lw_at lw_m10 78 rfl
theorem q2296 : (Jvm.Cond.methodLink "FormulaEditor" (82 : Nat) ({ cls := "FormulaEditor$Shape", name := "measure", desc := "(LFormulaEditor$Structure;)LFormulaEditor$Box;" } : Jvm.MethodName)) ∈ lw_all := lw_g (lw_at lw_m10 79 rfl) rfl
theorem q2303 : (Jvm.Cond.instanceMethod ({ cls := "FormulaEditor", name := "drawn", desc := "(II)I" } : Jvm.MethodName)) ∈ lw_all := lw_g (lw_at lw_m10 86 rfl) rfl
theorem q2304 : (Jvm.Cond.selects "FormulaEditor" ({ cls := "FormulaEditor", name := "drawn", desc := "(II)I" } : Jvm.MethodName) ({ cls := "FormulaEditor", name := "drawn", desc := "(II)I" } : Jvm.MethodName)) ∈ lw_all := lw_g (lw_at lw_m10 87 rfl) rfl
theorem q2305 : (Jvm.Cond.code ({ cls := "FormulaEditor", name := "drawn", desc := "(II)I" } : Jvm.MethodName) prog_1_method_39_code (5 : Nat) (Option.some Jvm.ClassFile.FieldType.int)) ∈ lw_all := lw_g (lw_at lw_m10 88 rfl) rfl
theorem q2306 : (Jvm.Cond.classLink "FormulaEditor" (367 : Nat) "[[C") ∈ lw_all := lw_g (lw_at lw_m10 89 rfl) rfl
theorem q2312 : (Jvm.Cond.instanceMethod ({ cls := "FormulaEditor", name := "runScript", desc := "(IJ)I" } : Jvm.MethodName)) ∈ lw_all := lw_g (lw_at lw_m10 95 rfl) rfl
theorem q2313 : (Jvm.Cond.selects "FormulaEditor" ({ cls := "FormulaEditor", name := "runScript", desc := "(IJ)I" } : Jvm.MethodName) ({ cls := "FormulaEditor", name := "runScript", desc := "(IJ)I" } : Jvm.MethodName)) ∈ lw_all := lw_g (lw_at lw_m10 96 rfl) rfl
theorem q2314 : (Jvm.Cond.code ({ cls := "FormulaEditor", name := "runScript", desc := "(IJ)I" } : Jvm.MethodName) prog_1_method_41_code (7 : Nat) (Option.some Jvm.ClassFile.FieldType.int)) ∈ lw_all := lw_g (lw_at lw_m10 97 rfl) rfl
theorem q2315 : (Jvm.Cond.constantLong "FormulaEditor" (378 : Nat) (4 : Int64)) ∈ lw_all := lw_g (lw_at lw_m10 98 rfl) rfl
theorem q2316 : (Jvm.Cond.methodLink "FormulaEditor" (380 : Nat) ({ cls := "FormulaEditor", name := "tenTo", desc := "(I)J" } : Jvm.MethodName)) ∈ lw_all := lw_g (lw_at lw_m10 99 rfl) rfl
theorem q2317 : (Jvm.Cond.static ({ cls := "FormulaEditor", name := "tenTo", desc := "(I)J" } : Jvm.MethodName)) ∈ lw_all := lw_g (lw_at lw_m10 100 rfl) rfl
theorem q2318 : (Jvm.Cond.code ({ cls := "FormulaEditor", name := "tenTo", desc := "(I)J" } : Jvm.MethodName) prog_1_method_5_code (4 : Nat) (Option.some Jvm.ClassFile.FieldType.long)) ∈ lw_all := lw_g (lw_at lw_m10 101 rfl) rfl
theorem q2319 : (Jvm.Cond.constantLong "FormulaEditor" (13 : Nat) (10 : Int64)) ∈ lw_all := lw_g (lw_at lw_m10 102 rfl) rfl
theorem q2320 : (Jvm.Cond.constantLong "FormulaEditor" (384 : Nat) (10000 : Int64)) ∈ lw_all := lw_g (lw_at lw_m10 103 rfl) rfl
theorem q2321 : (Jvm.Cond.methodLink "FormulaEditor" (386 : Nat) ({ cls := "FormulaEditor", name := "run", desc := "(LFormulaEditor$Document;II)Z" } : Jvm.MethodName)) ∈ lw_all := lw_g (lw_at lw_m10 104 rfl) rfl
theorem q2322 : (Jvm.Cond.privateMethod ({ cls := "FormulaEditor", name := "run", desc := "(LFormulaEditor$Document;II)Z" } : Jvm.MethodName)) ∈ lw_tbl := lw_at lw_m10 105 rfl
theorem q2323 : (Jvm.Cond.instanceMethod ({ cls := "FormulaEditor", name := "run", desc := "(LFormulaEditor$Document;II)Z" } : Jvm.MethodName)) ∈ lw_all := lw_g (lw_at lw_m10 106 rfl) rfl
theorem q2324 : (Jvm.Cond.code ({ cls := "FormulaEditor", name := "run", desc := "(LFormulaEditor$Document;II)Z" } : Jvm.MethodName) prog_1_method_40_code (4 : Nat) (Option.some Jvm.ClassFile.FieldType.boolean)) ∈ lw_all := lw_g (lw_at lw_m10 107 rfl) rfl
theorem q2329 : (Jvm.Cond.instanceMethod ({ cls := "FormulaEditor", name := "simulate", desc := "(JI)I" } : Jvm.MethodName)) ∈ lw_all := lw_g (lw_at lw_m10 112 rfl) rfl
theorem q2330 : (Jvm.Cond.selects "FormulaEditor" ({ cls := "FormulaEditor", name := "simulate", desc := "(JI)I" } : Jvm.MethodName) ({ cls := "FormulaEditor", name := "simulate", desc := "(JI)I" } : Jvm.MethodName)) ∈ lw_all := lw_g (lw_at lw_m10 113 rfl) rfl
theorem q2331 : (Jvm.Cond.code ({ cls := "FormulaEditor", name := "simulate", desc := "(JI)I" } : Jvm.MethodName) prog_1_method_43_code (8 : Nat) (Option.some Jvm.ClassFile.FieldType.int)) ∈ lw_all := lw_g (lw_at lw_m10 114 rfl) rfl
theorem q2332 : (Jvm.Cond.constantLong "FormulaEditor" (390 : Nat) (60 : Int64)) ∈ lw_all := lw_g (lw_at lw_m10 115 rfl) rfl
theorem q2333 : (Jvm.Cond.constantLong "FormulaEditor" (392 : Nat) (6364136223846793005 : Int64)) ∈ lw_all := lw_g (lw_at lw_m10 116 rfl) rfl
theorem q2334 : (Jvm.Cond.constantLong "FormulaEditor" (394 : Nat) (1442695040888963407 : Int64)) ∈ lw_all := lw_g (lw_at lw_m10 117 rfl) rfl
theorem q2335 : (Jvm.Cond.methodLink "FormulaEditor" (396 : Nat) ({ cls := "FormulaEditor", name := "round", desc := "(LFormulaEditor$Document;I)V" } : Jvm.MethodName)) ∈ lw_all := lw_g (lw_at lw_m10 118 rfl) rfl
theorem q2336 : (Jvm.Cond.static ({ cls := "FormulaEditor", name := "round", desc := "(LFormulaEditor$Document;I)V" } : Jvm.MethodName)) ∈ lw_all := lw_g (lw_at lw_m10 119 rfl) rfl
theorem q2337 : (Jvm.Cond.code ({ cls := "FormulaEditor", name := "round", desc := "(LFormulaEditor$Document;I)V" } : Jvm.MethodName) prog_1_method_42_code (3 : Nat) (Option.none : Option Jvm.ClassFile.FieldType)) ∈ lw_all := lw_g (lw_at lw_m10 120 rfl) rfl
theorem q2342 : (Jvm.Cond.instanceMethod ({ cls := "FormulaEditor", name := "save", desc := "(I)I" } : Jvm.MethodName)) ∈ lw_all := lw_g (lw_at lw_m10 125 rfl) rfl
theorem q2343 : (Jvm.Cond.selects "FormulaEditor" ({ cls := "FormulaEditor", name := "save", desc := "(I)I" } : Jvm.MethodName) ({ cls := "FormulaEditor", name := "save", desc := "(I)I" } : Jvm.MethodName)) ∈ lw_all := lw_g (lw_at lw_m10 126 rfl) rfl
theorem q2344 : (Jvm.Cond.code ({ cls := "FormulaEditor", name := "save", desc := "(I)I" } : Jvm.MethodName) prog_1_method_44_code (2 : Nat) (Option.some Jvm.ClassFile.FieldType.int)) ∈ lw_all := lw_g (lw_at lw_m10 127 rfl) rfl
theorem q2349 : (Jvm.Cond.instanceMethod ({ cls := "FormulaEditor", name := "restore", desc := "(I)I" } : Jvm.MethodName)) ∈ lw_all := lw_g (lw_at lw_m10 132 rfl) rfl
theorem q2350 : (Jvm.Cond.selects "FormulaEditor" ({ cls := "FormulaEditor", name := "restore", desc := "(I)I" } : Jvm.MethodName) ({ cls := "FormulaEditor", name := "restore", desc := "(I)I" } : Jvm.MethodName)) ∈ lw_all := lw_g (lw_at lw_m10 133 rfl) rfl
theorem q2351 : (Jvm.Cond.code ({ cls := "FormulaEditor", name := "restore", desc := "(I)I" } : Jvm.MethodName) prog_1_method_45_code (2 : Nat) (Option.some Jvm.ClassFile.FieldType.int)) ∈ lw_all := lw_g (lw_at lw_m10 134 rfl) rfl
theorem q2745 : (Jvm.Cond.castable "FormulaEditor" "java/lang/Object") ∈ lw_tbl := lw_at lw_m12 48 rfl
