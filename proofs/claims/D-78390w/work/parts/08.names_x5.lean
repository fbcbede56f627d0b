set_option maxRecDepth 100000
abbrev cX5_init : ByteArray := prog_15_method_1_code
def yX5_init : MethodName := ⟨RX5, "<init>", "()V"⟩
def dkwX5_init_8 : List UInt8 := [17, 0, 182, 16, 247, 79, 42, 180, 0, 29, 17, 0, 182, 16, 247, 79, 177]
abbrev dktX5_init_8 : List UInt8 := dkwX5_init_8 ++ []
def dkwX5_init_7 : List UInt8 := [181, 0, 62, 42, 17, 2, 0, 188, 10, 181, 0, 65, 42, 16, 64, 188, 10, 181, 0, 68, 42, 180, 0, 13]
abbrev dktX5_init_7 : List UInt8 := dkwX5_init_7 ++ dktX5_init_8
def dkwX5_init_6 : List UInt8 := [17, 2, 0, 188, 10, 181, 0, 56, 42, 17, 2, 0, 188, 10, 181, 0, 59, 42, 17, 2, 0, 188, 10]
abbrev dktX5_init_6 : List UInt8 := dkwX5_init_6 ++ dktX5_init_7
def dkwX5_init_5 : List UInt8 := [181, 0, 47, 42, 17, 0, 128, 188, 4, 181, 0, 50, 42, 17, 0, 128, 188, 4, 181, 0, 53, 42]
abbrev dktX5_init_5 : List UInt8 := dkwX5_init_5 ++ dktX5_init_6
def dkwX5_init_4 : List UInt8 := [17, 0, 128, 188, 10, 181, 0, 41, 42, 17, 0, 128, 188, 10, 181, 0, 44, 42, 17, 0, 128, 188, 4]
abbrev dktX5_init_4 : List UInt8 := dkwX5_init_4 ++ dktX5_init_5
def dkwX5_init_3 : List UInt8 := [188, 10, 181, 0, 32, 42, 17, 2, 0, 188, 10, 181, 0, 35, 42, 17, 0, 128, 188, 10, 181, 0, 38, 42]
abbrev dktX5_init_3 : List UInt8 := dkwX5_init_3 ++ dktX5_init_4
def dkwX5_init_2 : List UInt8 := [181, 0, 22, 42, 5, 188, 4, 181, 0, 25, 42, 17, 0, 184, 188, 10, 181, 0, 29, 42, 17, 4, 0]
abbrev dktX5_init_2 : List UInt8 := dkwX5_init_2 ++ dktX5_init_3
def dkwX5_init_1 : List UInt8 := [17, 0, 184, 188, 10, 181, 0, 16, 42, 17, 10, 16, 188, 10, 181, 0, 19, 42, 17, 1, 112, 188, 10]
abbrev dktX5_init_1 : List UInt8 := dkwX5_init_1 ++ dktX5_init_2
def dkwX5_init_0 : List UInt8 := [42, 183, 0, 1, 42, 16, 120, 188, 10, 181, 0, 7, 42, 17, 0, 184, 188, 10, 181, 0, 13, 42]
abbrev dktX5_init_0 : List UInt8 := dkwX5_init_0 ++ dktX5_init_1
theorem dksX5_init_0 : cX5_init.data.toList.drop 0 = dktX5_init_0 := by decide +kernel
theorem dksX5_init_1 : cX5_init.data.toList.drop 22 = dktX5_init_1 := dk_seg dksX5_init_0 22 rfl rfl
theorem dksX5_init_2 : cX5_init.data.toList.drop 45 = dktX5_init_2 := dk_seg dksX5_init_1 23 rfl rfl
theorem dksX5_init_3 : cX5_init.data.toList.drop 68 = dktX5_init_3 := dk_seg dksX5_init_2 23 rfl rfl
theorem dksX5_init_4 : cX5_init.data.toList.drop 92 = dktX5_init_4 := dk_seg dksX5_init_3 24 rfl rfl
theorem dksX5_init_5 : cX5_init.data.toList.drop 115 = dktX5_init_5 := dk_seg dksX5_init_4 23 rfl rfl
theorem dksX5_init_6 : cX5_init.data.toList.drop 137 = dktX5_init_6 := dk_seg dksX5_init_5 22 rfl rfl
theorem dksX5_init_7 : cX5_init.data.toList.drop 160 = dktX5_init_7 := dk_seg dksX5_init_6 23 rfl rfl
theorem dksX5_init_8 : cX5_init.data.toList.drop 184 = dktX5_init_8 := dk_seg dksX5_init_7 24 rfl rfl
theorem dX5_init_0 : decode cX5_init 0 = .ok (.aload_n 0, 1) := dk_42 (dk_at dksX5_init_0 0 rfl rfl)
theorem dX5_init_1 : decode cX5_init 1 = .ok (.invokespecial 1, 3) := dk_183 0 1 (dk_at dksX5_init_0 1 rfl rfl)
theorem dX5_init_4 : decode cX5_init 4 = .ok (.aload_n 0, 1) := dk_42 (dk_at dksX5_init_0 4 rfl rfl)
theorem dX5_init_5 : decode cX5_init 5 = .ok (.bipush 120, 2) := dk_16 120 (dk_at dksX5_init_0 5 rfl rfl)
theorem dX5_init_7 : decode cX5_init 7 = .ok (.newarray .int, 2) := dk_188_10 (dk_at dksX5_init_0 7 rfl rfl)
theorem dX5_init_9 : decode cX5_init 9 = .ok (.putfield 7, 3) := dk_181 0 7 (dk_at dksX5_init_0 9 rfl rfl)
theorem dX5_init_12 : decode cX5_init 12 = .ok (.aload_n 0, 1) := dk_42 (dk_at dksX5_init_0 12 rfl rfl)
theorem dX5_init_13 : decode cX5_init 13 = .ok (.sipush 184, 3) := dk_17 0 184 (dk_at dksX5_init_0 13 rfl rfl)
theorem dX5_init_16 : decode cX5_init 16 = .ok (.newarray .int, 2) := dk_188_10 (dk_at dksX5_init_0 16 rfl rfl)
theorem dX5_init_18 : decode cX5_init 18 = .ok (.putfield 13, 3) := dk_181 0 13 (dk_at dksX5_init_0 18 rfl rfl)
theorem dX5_init_21 : decode cX5_init 21 = .ok (.aload_n 0, 1) := dk_42 (dk_at dksX5_init_0 21 rfl rfl)
theorem dX5_init_22 : decode cX5_init 22 = .ok (.sipush 184, 3) := dk_17 0 184 (dk_at dksX5_init_1 0 rfl rfl)
theorem dX5_init_25 : decode cX5_init 25 = .ok (.newarray .int, 2) := dk_188_10 (dk_at dksX5_init_1 3 rfl rfl)
theorem dX5_init_27 : decode cX5_init 27 = .ok (.putfield 16, 3) := dk_181 0 16 (dk_at dksX5_init_1 5 rfl rfl)
theorem dX5_init_30 : decode cX5_init 30 = .ok (.aload_n 0, 1) := dk_42 (dk_at dksX5_init_1 8 rfl rfl)
theorem dX5_init_31 : decode cX5_init 31 = .ok (.sipush 2576, 3) := dk_17 10 16 (dk_at dksX5_init_1 9 rfl rfl)
theorem dX5_init_34 : decode cX5_init 34 = .ok (.newarray .int, 2) := dk_188_10 (dk_at dksX5_init_1 12 rfl rfl)
theorem dX5_init_36 : decode cX5_init 36 = .ok (.putfield 19, 3) := dk_181 0 19 (dk_at dksX5_init_1 14 rfl rfl)
theorem dX5_init_39 : decode cX5_init 39 = .ok (.aload_n 0, 1) := dk_42 (dk_at dksX5_init_1 17 rfl rfl)
theorem dX5_init_40 : decode cX5_init 40 = .ok (.sipush 368, 3) := dk_17 1 112 (dk_at dksX5_init_1 18 rfl rfl)
theorem dX5_init_43 : decode cX5_init 43 = .ok (.newarray .int, 2) := dk_188_10 (dk_at dksX5_init_1 21 rfl rfl)
theorem dX5_init_45 : decode cX5_init 45 = .ok (.putfield 22, 3) := dk_181 0 22 (dk_at dksX5_init_2 0 rfl rfl)
theorem dX5_init_48 : decode cX5_init 48 = .ok (.aload_n 0, 1) := dk_42 (dk_at dksX5_init_2 3 rfl rfl)
theorem dX5_init_49 : decode cX5_init 49 = .ok (.iconst 2, 1) := dk_5 (dk_at dksX5_init_2 4 rfl rfl)
theorem dX5_init_50 : decode cX5_init 50 = .ok (.newarray .boolean, 2) := dk_188_4 (dk_at dksX5_init_2 5 rfl rfl)
theorem dX5_init_52 : decode cX5_init 52 = .ok (.putfield 25, 3) := dk_181 0 25 (dk_at dksX5_init_2 7 rfl rfl)
theorem dX5_init_55 : decode cX5_init 55 = .ok (.aload_n 0, 1) := dk_42 (dk_at dksX5_init_2 10 rfl rfl)
theorem dX5_init_56 : decode cX5_init 56 = .ok (.sipush 184, 3) := dk_17 0 184 (dk_at dksX5_init_2 11 rfl rfl)
theorem dX5_init_59 : decode cX5_init 59 = .ok (.newarray .int, 2) := dk_188_10 (dk_at dksX5_init_2 14 rfl rfl)
theorem dX5_init_61 : decode cX5_init 61 = .ok (.putfield 29, 3) := dk_181 0 29 (dk_at dksX5_init_2 16 rfl rfl)
theorem dX5_init_64 : decode cX5_init 64 = .ok (.aload_n 0, 1) := dk_42 (dk_at dksX5_init_2 19 rfl rfl)
theorem dX5_init_65 : decode cX5_init 65 = .ok (.sipush 1024, 3) := dk_17 4 0 (dk_at dksX5_init_2 20 rfl rfl)
theorem dX5_init_68 : decode cX5_init 68 = .ok (.newarray .int, 2) := dk_188_10 (dk_at dksX5_init_3 0 rfl rfl)
theorem dX5_init_70 : decode cX5_init 70 = .ok (.putfield 32, 3) := dk_181 0 32 (dk_at dksX5_init_3 2 rfl rfl)
theorem dX5_init_73 : decode cX5_init 73 = .ok (.aload_n 0, 1) := dk_42 (dk_at dksX5_init_3 5 rfl rfl)
theorem dX5_init_74 : decode cX5_init 74 = .ok (.sipush 512, 3) := dk_17 2 0 (dk_at dksX5_init_3 6 rfl rfl)
theorem dX5_init_77 : decode cX5_init 77 = .ok (.newarray .int, 2) := dk_188_10 (dk_at dksX5_init_3 9 rfl rfl)
theorem dX5_init_79 : decode cX5_init 79 = .ok (.putfield 35, 3) := dk_181 0 35 (dk_at dksX5_init_3 11 rfl rfl)
theorem dX5_init_82 : decode cX5_init 82 = .ok (.aload_n 0, 1) := dk_42 (dk_at dksX5_init_3 14 rfl rfl)
theorem dX5_init_83 : decode cX5_init 83 = .ok (.sipush 128, 3) := dk_17 0 128 (dk_at dksX5_init_3 15 rfl rfl)
theorem dX5_init_86 : decode cX5_init 86 = .ok (.newarray .int, 2) := dk_188_10 (dk_at dksX5_init_3 18 rfl rfl)
theorem dX5_init_88 : decode cX5_init 88 = .ok (.putfield 38, 3) := dk_181 0 38 (dk_at dksX5_init_3 20 rfl rfl)
theorem dX5_init_91 : decode cX5_init 91 = .ok (.aload_n 0, 1) := dk_42 (dk_at dksX5_init_3 23 rfl rfl)
theorem dX5_init_92 : decode cX5_init 92 = .ok (.sipush 128, 3) := dk_17 0 128 (dk_at dksX5_init_4 0 rfl rfl)
theorem dX5_init_95 : decode cX5_init 95 = .ok (.newarray .int, 2) := dk_188_10 (dk_at dksX5_init_4 3 rfl rfl)
theorem dX5_init_97 : decode cX5_init 97 = .ok (.putfield 41, 3) := dk_181 0 41 (dk_at dksX5_init_4 5 rfl rfl)
theorem dX5_init_100 : decode cX5_init 100 = .ok (.aload_n 0, 1) := dk_42 (dk_at dksX5_init_4 8 rfl rfl)
theorem dX5_init_101 : decode cX5_init 101 = .ok (.sipush 128, 3) := dk_17 0 128 (dk_at dksX5_init_4 9 rfl rfl)
theorem dX5_init_104 : decode cX5_init 104 = .ok (.newarray .int, 2) := dk_188_10 (dk_at dksX5_init_4 12 rfl rfl)
theorem dX5_init_106 : decode cX5_init 106 = .ok (.putfield 44, 3) := dk_181 0 44 (dk_at dksX5_init_4 14 rfl rfl)
theorem dX5_init_109 : decode cX5_init 109 = .ok (.aload_n 0, 1) := dk_42 (dk_at dksX5_init_4 17 rfl rfl)
theorem dX5_init_110 : decode cX5_init 110 = .ok (.sipush 128, 3) := dk_17 0 128 (dk_at dksX5_init_4 18 rfl rfl)
theorem dX5_init_113 : decode cX5_init 113 = .ok (.newarray .boolean, 2) := dk_188_4 (dk_at dksX5_init_4 21 rfl rfl)
theorem dX5_init_115 : decode cX5_init 115 = .ok (.putfield 47, 3) := dk_181 0 47 (dk_at dksX5_init_5 0 rfl rfl)
theorem dX5_init_118 : decode cX5_init 118 = .ok (.aload_n 0, 1) := dk_42 (dk_at dksX5_init_5 3 rfl rfl)
theorem dX5_init_119 : decode cX5_init 119 = .ok (.sipush 128, 3) := dk_17 0 128 (dk_at dksX5_init_5 4 rfl rfl)
theorem dX5_init_122 : decode cX5_init 122 = .ok (.newarray .boolean, 2) := dk_188_4 (dk_at dksX5_init_5 7 rfl rfl)
theorem dX5_init_124 : decode cX5_init 124 = .ok (.putfield 50, 3) := dk_181 0 50 (dk_at dksX5_init_5 9 rfl rfl)
theorem dX5_init_127 : decode cX5_init 127 = .ok (.aload_n 0, 1) := dk_42 (dk_at dksX5_init_5 12 rfl rfl)
theorem dX5_init_128 : decode cX5_init 128 = .ok (.sipush 128, 3) := dk_17 0 128 (dk_at dksX5_init_5 13 rfl rfl)
theorem dX5_init_131 : decode cX5_init 131 = .ok (.newarray .boolean, 2) := dk_188_4 (dk_at dksX5_init_5 16 rfl rfl)
theorem dX5_init_133 : decode cX5_init 133 = .ok (.putfield 53, 3) := dk_181 0 53 (dk_at dksX5_init_5 18 rfl rfl)
theorem dX5_init_136 : decode cX5_init 136 = .ok (.aload_n 0, 1) := dk_42 (dk_at dksX5_init_5 21 rfl rfl)
theorem dX5_init_137 : decode cX5_init 137 = .ok (.sipush 512, 3) := dk_17 2 0 (dk_at dksX5_init_6 0 rfl rfl)
theorem dX5_init_140 : decode cX5_init 140 = .ok (.newarray .int, 2) := dk_188_10 (dk_at dksX5_init_6 3 rfl rfl)
theorem dX5_init_142 : decode cX5_init 142 = .ok (.putfield 56, 3) := dk_181 0 56 (dk_at dksX5_init_6 5 rfl rfl)
theorem dX5_init_145 : decode cX5_init 145 = .ok (.aload_n 0, 1) := dk_42 (dk_at dksX5_init_6 8 rfl rfl)
theorem dX5_init_146 : decode cX5_init 146 = .ok (.sipush 512, 3) := dk_17 2 0 (dk_at dksX5_init_6 9 rfl rfl)
theorem dX5_init_149 : decode cX5_init 149 = .ok (.newarray .int, 2) := dk_188_10 (dk_at dksX5_init_6 12 rfl rfl)
theorem dX5_init_151 : decode cX5_init 151 = .ok (.putfield 59, 3) := dk_181 0 59 (dk_at dksX5_init_6 14 rfl rfl)
theorem dX5_init_154 : decode cX5_init 154 = .ok (.aload_n 0, 1) := dk_42 (dk_at dksX5_init_6 17 rfl rfl)
theorem dX5_init_155 : decode cX5_init 155 = .ok (.sipush 512, 3) := dk_17 2 0 (dk_at dksX5_init_6 18 rfl rfl)
theorem dX5_init_158 : decode cX5_init 158 = .ok (.newarray .int, 2) := dk_188_10 (dk_at dksX5_init_6 21 rfl rfl)
theorem dX5_init_160 : decode cX5_init 160 = .ok (.putfield 62, 3) := dk_181 0 62 (dk_at dksX5_init_7 0 rfl rfl)
theorem dX5_init_163 : decode cX5_init 163 = .ok (.aload_n 0, 1) := dk_42 (dk_at dksX5_init_7 3 rfl rfl)
theorem dX5_init_164 : decode cX5_init 164 = .ok (.sipush 512, 3) := dk_17 2 0 (dk_at dksX5_init_7 4 rfl rfl)
theorem dX5_init_167 : decode cX5_init 167 = .ok (.newarray .int, 2) := dk_188_10 (dk_at dksX5_init_7 7 rfl rfl)
theorem dX5_init_169 : decode cX5_init 169 = .ok (.putfield 65, 3) := dk_181 0 65 (dk_at dksX5_init_7 9 rfl rfl)
theorem dX5_init_172 : decode cX5_init 172 = .ok (.aload_n 0, 1) := dk_42 (dk_at dksX5_init_7 12 rfl rfl)
theorem dX5_init_173 : decode cX5_init 173 = .ok (.bipush 64, 2) := dk_16 64 (dk_at dksX5_init_7 13 rfl rfl)
theorem dX5_init_175 : decode cX5_init 175 = .ok (.newarray .int, 2) := dk_188_10 (dk_at dksX5_init_7 15 rfl rfl)
theorem dX5_init_177 : decode cX5_init 177 = .ok (.putfield 68, 3) := dk_181 0 68 (dk_at dksX5_init_7 17 rfl rfl)
theorem dX5_init_180 : decode cX5_init 180 = .ok (.aload_n 0, 1) := dk_42 (dk_at dksX5_init_7 20 rfl rfl)
theorem dX5_init_181 : decode cX5_init 181 = .ok (.getfield 13, 3) := dk_180 0 13 (dk_at dksX5_init_7 21 rfl rfl)
theorem dX5_init_184 : decode cX5_init 184 = .ok (.sipush 182, 3) := dk_17 0 182 (dk_at dksX5_init_8 0 rfl rfl)
theorem dX5_init_187 : decode cX5_init 187 = .ok (.bipush (-9), 2) := dk_16 247 (dk_at dksX5_init_8 3 rfl rfl)
theorem dX5_init_189 : decode cX5_init 189 = .ok (.iastore, 1) := dk_79 (dk_at dksX5_init_8 5 rfl rfl)
theorem dX5_init_190 : decode cX5_init 190 = .ok (.aload_n 0, 1) := dk_42 (dk_at dksX5_init_8 6 rfl rfl)
theorem dX5_init_191 : decode cX5_init 191 = .ok (.getfield 29, 3) := dk_180 0 29 (dk_at dksX5_init_8 7 rfl rfl)
theorem dX5_init_194 : decode cX5_init 194 = .ok (.sipush 182, 3) := dk_17 0 182 (dk_at dksX5_init_8 10 rfl rfl)
theorem dX5_init_197 : decode cX5_init 197 = .ok (.bipush (-9), 2) := dk_16 247 (dk_at dksX5_init_8 13 rfl rfl)
theorem dX5_init_199 : decode cX5_init 199 = .ok (.iastore, 1) := dk_79 (dk_at dksX5_init_8 15 rfl rfl)
theorem dX5_init_200 : decode cX5_init 200 = .ok (.return_, 1) := dk_177 (dk_at dksX5_init_8 16 rfl rfl)
abbrev cX5_thrown : ByteArray := prog_15_method_2_code
def yX5_thrown : MethodName := ⟨RX5, "thrown", "()I"⟩
theorem dX5_thrown_0 : decode cX5_thrown 0 = .ok (.aload_n 0, 1) := by decide +kernel
theorem dX5_thrown_1 : decode cX5_thrown 1 = .ok (.getfield 71, 3) := by decide +kernel
theorem dX5_thrown_4 : decode cX5_thrown 4 = .ok (.ireturn, 1) := by decide +kernel
abbrev cX5_append : ByteArray := prog_15_method_29_code
def yX5_append : MethodName := ⟨RX5, "append", "(I)I"⟩
def dkwX5_append_2 : List UInt8 := [27, 79, 42, 89, 180, 0, 147, 4, 96, 181, 0, 147, 42, 180, 0, 147, 172]
abbrev dktX5_append_2 : List UInt8 := dkwX5_append_2 ++ []
def dkwX5_append_1 : List UInt8 := [160, 0, 7, 5, 167, 0, 4, 3, 182, 0, 150, 153, 0, 5, 3, 172, 42, 180, 0, 7, 42, 180, 0, 147]
abbrev dktX5_append_1 : List UInt8 := dkwX5_append_1 ++ dktX5_append_2
def dkwX5_append_0 : List UInt8 := [42, 27, 133, 9, 20, 0, 145, 184, 0, 79, 154, 0, 7, 4, 167, 0, 17, 42, 180, 0, 147, 16, 120]
abbrev dktX5_append_0 : List UInt8 := dkwX5_append_0 ++ dktX5_append_1
theorem dksX5_append_0 : cX5_append.data.toList.drop 0 = dktX5_append_0 := by decide +kernel
theorem dksX5_append_1 : cX5_append.data.toList.drop 23 = dktX5_append_1 := dk_seg dksX5_append_0 23 rfl rfl
theorem dksX5_append_2 : cX5_append.data.toList.drop 47 = dktX5_append_2 := dk_seg dksX5_append_1 24 rfl rfl
theorem dX5_append_0 : decode cX5_append 0 = .ok (.aload_n 0, 1) := dk_42 (dk_at dksX5_append_0 0 rfl rfl)
theorem dX5_append_1 : decode cX5_append 1 = .ok (.iload_n 1, 1) := dk_27 (dk_at dksX5_append_0 1 rfl rfl)
theorem dX5_append_2 : decode cX5_append 2 = .ok (.i2l, 1) := dk_133 (dk_at dksX5_append_0 2 rfl rfl)
theorem dX5_append_3 : decode cX5_append 3 = .ok (.lconst 0, 1) := dk_9 (dk_at dksX5_append_0 3 rfl rfl)
theorem dX5_append_4 : decode cX5_append 4 = .ok (.ldc2_w 145, 3) := dk_20 0 145 (dk_at dksX5_append_0 4 rfl rfl)
theorem dX5_append_7 : decode cX5_append 7 = .ok (.invokestatic 79, 3) := dk_184 0 79 (dk_at dksX5_append_0 7 rfl rfl)
theorem dX5_append_10 : decode cX5_append 10 = .ok (.ifCond .ne 7, 3) := dk_154 0 7 (dk_at dksX5_append_0 10 rfl rfl)
theorem dX5_append_13 : decode cX5_append 13 = .ok (.iconst 1, 1) := dk_4 (dk_at dksX5_append_0 13 rfl rfl)
theorem dX5_append_14 : decode cX5_append 14 = .ok (.goto 17, 3) := dk_167 0 17 (dk_at dksX5_append_0 14 rfl rfl)
theorem dX5_append_17 : decode cX5_append 17 = .ok (.aload_n 0, 1) := dk_42 (dk_at dksX5_append_0 17 rfl rfl)
theorem dX5_append_18 : decode cX5_append 18 = .ok (.getfield 147, 3) := dk_180 0 147 (dk_at dksX5_append_0 18 rfl rfl)
theorem dX5_append_21 : decode cX5_append 21 = .ok (.bipush 120, 2) := dk_16 120 (dk_at dksX5_append_0 21 rfl rfl)
theorem dX5_append_23 : decode cX5_append 23 = .ok (.if_icmp .ne 7, 3) := dk_160 0 7 (dk_at dksX5_append_1 0 rfl rfl)
theorem dX5_append_26 : decode cX5_append 26 = .ok (.iconst 2, 1) := dk_5 (dk_at dksX5_append_1 3 rfl rfl)
theorem dX5_append_27 : decode cX5_append 27 = .ok (.goto 4, 3) := dk_167 0 4 (dk_at dksX5_append_1 4 rfl rfl)
theorem dX5_append_30 : decode cX5_append 30 = .ok (.iconst 0, 1) := dk_3 (dk_at dksX5_append_1 7 rfl rfl)
theorem dX5_append_31 : decode cX5_append 31 = .ok (.invokevirtual 150, 3) := dk_182 0 150 (dk_at dksX5_append_1 8 rfl rfl)
theorem dX5_append_34 : decode cX5_append 34 = .ok (.ifCond .eq 5, 3) := dk_153 0 5 (dk_at dksX5_append_1 11 rfl rfl)
theorem dX5_append_37 : decode cX5_append 37 = .ok (.iconst 0, 1) := dk_3 (dk_at dksX5_append_1 14 rfl rfl)
theorem dX5_append_38 : decode cX5_append 38 = .ok (.ireturn, 1) := dk_172 (dk_at dksX5_append_1 15 rfl rfl)
theorem dX5_append_39 : decode cX5_append 39 = .ok (.aload_n 0, 1) := dk_42 (dk_at dksX5_append_1 16 rfl rfl)
theorem dX5_append_40 : decode cX5_append 40 = .ok (.getfield 7, 3) := dk_180 0 7 (dk_at dksX5_append_1 17 rfl rfl)
theorem dX5_append_43 : decode cX5_append 43 = .ok (.aload_n 0, 1) := dk_42 (dk_at dksX5_append_1 20 rfl rfl)
theorem dX5_append_44 : decode cX5_append 44 = .ok (.getfield 147, 3) := dk_180 0 147 (dk_at dksX5_append_1 21 rfl rfl)
theorem dX5_append_47 : decode cX5_append 47 = .ok (.iload_n 1, 1) := dk_27 (dk_at dksX5_append_2 0 rfl rfl)
theorem dX5_append_48 : decode cX5_append 48 = .ok (.iastore, 1) := dk_79 (dk_at dksX5_append_2 1 rfl rfl)
theorem dX5_append_49 : decode cX5_append 49 = .ok (.aload_n 0, 1) := dk_42 (dk_at dksX5_append_2 2 rfl rfl)
theorem dX5_append_50 : decode cX5_append 50 = .ok (.dup, 1) := dk_89 (dk_at dksX5_append_2 3 rfl rfl)
theorem dX5_append_51 : decode cX5_append 51 = .ok (.getfield 147, 3) := dk_180 0 147 (dk_at dksX5_append_2 4 rfl rfl)
theorem dX5_append_54 : decode cX5_append 54 = .ok (.iconst 1, 1) := dk_4 (dk_at dksX5_append_2 7 rfl rfl)
theorem dX5_append_55 : decode cX5_append 55 = .ok (.iadd, 1) := dk_96 (dk_at dksX5_append_2 8 rfl rfl)
theorem dX5_append_56 : decode cX5_append 56 = .ok (.putfield 147, 3) := dk_181 0 147 (dk_at dksX5_append_2 9 rfl rfl)
theorem dX5_append_59 : decode cX5_append 59 = .ok (.aload_n 0, 1) := dk_42 (dk_at dksX5_append_2 12 rfl rfl)
theorem dX5_append_60 : decode cX5_append 60 = .ok (.getfield 147, 3) := dk_180 0 147 (dk_at dksX5_append_2 13 rfl rfl)
theorem dX5_append_63 : decode cX5_append 63 = .ok (.ireturn, 1) := dk_172 (dk_at dksX5_append_2 16 rfl rfl)
abbrev cX5_in : ByteArray := prog_15_method_4_code
def yX5_in : MethodName := ⟨RX5, "in", "(JJJ)Z"⟩
def dkwX5_in_0 : List UInt8 := [30, 32, 148, 155, 0, 14, 30, 22, 4, 148, 157, 0, 7, 4, 167, 0, 4, 3, 172]
abbrev dktX5_in_0 : List UInt8 := dkwX5_in_0 ++ []
theorem dksX5_in_0 : cX5_in.data.toList.drop 0 = dktX5_in_0 := by decide +kernel
theorem dX5_in_0 : decode cX5_in 0 = .ok (.lload_n 0, 1) := dk_30 (dk_at dksX5_in_0 0 rfl rfl)
theorem dX5_in_1 : decode cX5_in 1 = .ok (.lload_n 2, 1) := dk_32 (dk_at dksX5_in_0 1 rfl rfl)
theorem dX5_in_2 : decode cX5_in 2 = .ok (.lcmp, 1) := dk_148 (dk_at dksX5_in_0 2 rfl rfl)
theorem dX5_in_3 : decode cX5_in 3 = .ok (.ifCond .lt 14, 3) := dk_155 0 14 (dk_at dksX5_in_0 3 rfl rfl)
theorem dX5_in_6 : decode cX5_in 6 = .ok (.lload_n 0, 1) := dk_30 (dk_at dksX5_in_0 6 rfl rfl)
theorem dX5_in_7 : decode cX5_in 7 = .ok (.lload 4, 2) := dk_22 4 (dk_at dksX5_in_0 7 rfl rfl)
theorem dX5_in_9 : decode cX5_in 9 = .ok (.lcmp, 1) := dk_148 (dk_at dksX5_in_0 9 rfl rfl)
theorem dX5_in_10 : decode cX5_in 10 = .ok (.ifCond .gt 7, 3) := dk_157 0 7 (dk_at dksX5_in_0 10 rfl rfl)
theorem dX5_in_13 : decode cX5_in 13 = .ok (.iconst 1, 1) := dk_4 (dk_at dksX5_in_0 13 rfl rfl)
theorem dX5_in_14 : decode cX5_in 14 = .ok (.goto 4, 3) := dk_167 0 4 (dk_at dksX5_in_0 14 rfl rfl)
theorem dX5_in_17 : decode cX5_in 17 = .ok (.iconst 0, 1) := dk_3 (dk_at dksX5_in_0 17 rfl rfl)
theorem dX5_in_18 : decode cX5_in 18 = .ok (.ireturn, 1) := dk_172 (dk_at dksX5_in_0 18 rfl rfl)
abbrev cX5_refused : ByteArray := prog_15_method_3_code
def yX5_refused : MethodName := ⟨RX5, "refused", "(I)Z"⟩
def dkwX5_refused_0 : List UInt8 := [42, 27, 181, 0, 71, 27, 158, 0, 7, 4, 167, 0, 4, 3, 172]
abbrev dktX5_refused_0 : List UInt8 := dkwX5_refused_0 ++ []
theorem dksX5_refused_0 : cX5_refused.data.toList.drop 0 = dktX5_refused_0 := by decide +kernel
theorem dX5_refused_0 : decode cX5_refused 0 = .ok (.aload_n 0, 1) := dk_42 (dk_at dksX5_refused_0 0 rfl rfl)
theorem dX5_refused_1 : decode cX5_refused 1 = .ok (.iload_n 1, 1) := dk_27 (dk_at dksX5_refused_0 1 rfl rfl)
theorem dX5_refused_2 : decode cX5_refused 2 = .ok (.putfield 71, 3) := dk_181 0 71 (dk_at dksX5_refused_0 2 rfl rfl)
theorem dX5_refused_5 : decode cX5_refused 5 = .ok (.iload_n 1, 1) := dk_27 (dk_at dksX5_refused_0 5 rfl rfl)
theorem dX5_refused_6 : decode cX5_refused 6 = .ok (.ifCond .le 7, 3) := dk_158 0 7 (dk_at dksX5_refused_0 6 rfl rfl)
theorem dX5_refused_9 : decode cX5_refused 9 = .ok (.iconst 1, 1) := dk_4 (dk_at dksX5_refused_0 9 rfl rfl)
theorem dX5_refused_10 : decode cX5_refused 10 = .ok (.goto 4, 3) := dk_167 0 4 (dk_at dksX5_refused_0 10 rfl rfl)
theorem dX5_refused_13 : decode cX5_refused 13 = .ok (.iconst 0, 1) := dk_3 (dk_at dksX5_refused_0 13 rfl rfl)
theorem dX5_refused_14 : decode cX5_refused 14 = .ok (.ireturn, 1) := dk_172 (dk_at dksX5_refused_0 14 rfl rfl)
abbrev cX5_clearText : ByteArray := prog_15_method_30_code
def yX5_clearText : MethodName := ⟨RX5, "clearText", "()I"⟩
def dkwX5_clearText_0 : List UInt8 := [42, 3, 181, 0, 71, 42, 180, 0, 147, 60, 42, 3, 181, 0, 147, 27, 172]
abbrev dktX5_clearText_0 : List UInt8 := dkwX5_clearText_0 ++ []
theorem dksX5_clearText_0 : cX5_clearText.data.toList.drop 0 = dktX5_clearText_0 := by decide +kernel
theorem dX5_clearText_0 : decode cX5_clearText 0 = .ok (.aload_n 0, 1) := dk_42 (dk_at dksX5_clearText_0 0 rfl rfl)
theorem dX5_clearText_1 : decode cX5_clearText 1 = .ok (.iconst 0, 1) := dk_3 (dk_at dksX5_clearText_0 1 rfl rfl)
theorem dX5_clearText_2 : decode cX5_clearText 2 = .ok (.putfield 71, 3) := dk_181 0 71 (dk_at dksX5_clearText_0 2 rfl rfl)
theorem dX5_clearText_5 : decode cX5_clearText 5 = .ok (.aload_n 0, 1) := dk_42 (dk_at dksX5_clearText_0 5 rfl rfl)
theorem dX5_clearText_6 : decode cX5_clearText 6 = .ok (.getfield 147, 3) := dk_180 0 147 (dk_at dksX5_clearText_0 6 rfl rfl)
theorem dX5_clearText_9 : decode cX5_clearText 9 = .ok (.istore_n 1, 1) := dk_60 (dk_at dksX5_clearText_0 9 rfl rfl)
theorem dX5_clearText_10 : decode cX5_clearText 10 = .ok (.aload_n 0, 1) := dk_42 (dk_at dksX5_clearText_0 10 rfl rfl)
theorem dX5_clearText_11 : decode cX5_clearText 11 = .ok (.iconst 0, 1) := dk_3 (dk_at dksX5_clearText_0 11 rfl rfl)
theorem dX5_clearText_12 : decode cX5_clearText 12 = .ok (.putfield 147, 3) := dk_181 0 147 (dk_at dksX5_clearText_0 12 rfl rfl)
theorem dX5_clearText_15 : decode cX5_clearText 15 = .ok (.iload_n 1, 1) := dk_27 (dk_at dksX5_clearText_0 15 rfl rfl)
theorem dX5_clearText_16 : decode cX5_clearText 16 = .ok (.ireturn, 1) := dk_172 (dk_at dksX5_clearText_0 16 rfl rfl)
abbrev cX5_errorPosition : ByteArray := prog_15_method_38_code
def yX5_errorPosition : MethodName := ⟨RX5, "errorPosition", "()I"⟩
def dkwX5_errorPosition_0 : List UInt8 := [42, 3, 181, 0, 71, 42, 182, 0, 178, 172]
abbrev dktX5_errorPosition_0 : List UInt8 := dkwX5_errorPosition_0 ++ []
theorem dksX5_errorPosition_0 : cX5_errorPosition.data.toList.drop 0 = dktX5_errorPosition_0 := by decide +kernel
theorem dX5_errorPosition_0 : decode cX5_errorPosition 0 = .ok (.aload_n 0, 1) := dk_42 (dk_at dksX5_errorPosition_0 0 rfl rfl)
theorem dX5_errorPosition_1 : decode cX5_errorPosition 1 = .ok (.iconst 0, 1) := dk_3 (dk_at dksX5_errorPosition_0 1 rfl rfl)
theorem dX5_errorPosition_2 : decode cX5_errorPosition 2 = .ok (.putfield 71, 3) := dk_181 0 71 (dk_at dksX5_errorPosition_0 2 rfl rfl)
theorem dX5_errorPosition_5 : decode cX5_errorPosition 5 = .ok (.aload_n 0, 1) := dk_42 (dk_at dksX5_errorPosition_0 5 rfl rfl)
theorem dX5_errorPosition_6 : decode cX5_errorPosition 6 = .ok (.invokevirtual 178, 3) := dk_182 0 178 (dk_at dksX5_errorPosition_0 6 rfl rfl)
theorem dX5_errorPosition_9 : decode cX5_errorPosition 9 = .ok (.ireturn, 1) := dk_172 (dk_at dksX5_errorPosition_0 9 rfl rfl)
abbrev cX5_readText : ByteArray := prog_15_method_37_code
def yX5_readText : MethodName := ⟨RX5, "readText", "()I"⟩
def dkwX5_readText_24 : List UInt8 := [4, 163, 0, 10, 42, 180, 0, 156, 158, 0, 8, 42, 180, 0, 147, 172, 42, 182, 0, 173, 16, 247, 172]
abbrev dktX5_readText_24 : List UInt8 := dkwX5_readText_24 ++ []
def dkwX5_readText_23 : List UInt8 := [42, 182, 0, 173, 29, 16, 32, 159, 0, 8, 42, 29, 182, 0, 162, 3, 60, 132, 2, 1, 167, 253, 228, 27]
abbrev dktX5_readText_23 : List UInt8 := dkwX5_readText_23 ++ dktX5_readText_24
def dkwX5_readText_22 : List UInt8 := [161, 0, 15, 42, 180, 0, 53, 42, 180, 0, 156, 51, 153, 0, 7, 4, 167, 0, 4, 3, 60, 167, 0, 20]
abbrev dktX5_readText_22 : List UInt8 := dkwX5_readText_22 ++ dktX5_readText_23
def dkwX5_readText_21 : List UInt8 := [180, 0, 47, 42, 180, 0, 156, 21, 6, 4, 160, 0, 7, 4, 167, 0, 4, 3, 84, 21, 6, 6]
abbrev dktX5_readText_21 : List UInt8 := dkwX5_readText_21 ++ dktX5_readText_22
def dkwX5_readText_20 : List UInt8 := [181, 0, 156, 42, 16, 245, 182, 0, 162, 21, 6, 7, 160, 0, 9, 42, 16, 245, 182, 0, 162, 42]
abbrev dktX5_readText_20 : List UInt8 := dkwX5_readText_20 ++ dktX5_readText_21
def dkwX5_readText_19 : List UInt8 := [42, 182, 0, 173, 42, 180, 0, 38, 42, 180, 0, 156, 46, 54, 6, 42, 89, 180, 0, 156, 4, 100]
abbrev dktX5_readText_19 : List UInt8 := dkwX5_readText_19 ++ dktX5_readText_20
def dkwX5_readText_18 : List UInt8 := [167, 0, 131, 29, 16, 47, 160, 0, 12, 42, 182, 0, 176, 5, 60, 167, 0, 116, 29, 16, 41, 160, 0, 93]
abbrev dktX5_readText_18 : List UInt8 := dkwX5_readText_18 ++ dktX5_readText_19
def dkwX5_readText_17 : List UInt8 := [180, 0, 156, 3, 84, 42, 29, 16, 94, 160, 0, 8, 16, 254, 167, 0, 5, 16, 253, 182, 0, 162, 6, 60]
abbrev dktX5_readText_17 : List UInt8 := dkwX5_readText_17 ++ dktX5_readText_18
def dkwX5_readText_16 : List UInt8 := [84, 42, 180, 0, 53, 42, 180, 0, 156, 51, 154, 0, 7, 42, 182, 0, 173, 42, 180, 0, 47, 42]
abbrev dktX5_readText_16 : List UInt8 := dkwX5_readText_16 ++ dktX5_readText_17
def dkwX5_readText_15 : List UInt8 := [29, 16, 95, 160, 0, 70, 42, 180, 0, 53, 42, 180, 0, 156, 27, 4, 160, 0, 7, 4, 167, 0, 4, 3]
abbrev dktX5_readText_15 : List UInt8 := dkwX5_readText_15 ++ dktX5_readText_16
def dkwX5_readText_14 : List UInt8 := [167, 0, 4, 3, 60, 42, 180, 0, 47, 42, 180, 0, 156, 3, 84, 167, 0, 210, 29, 16, 94, 159, 0, 9]
abbrev dktX5_readText_14 : List UInt8 := dkwX5_readText_14 ++ dktX5_readText_15
def dkwX5_readText_13 : List UInt8 := [21, 6, 153, 0, 27, 42, 16, 245, 182, 0, 162, 42, 180, 0, 53, 42, 180, 0, 156, 51, 153, 0, 7, 4]
abbrev dktX5_readText_13 : List UInt8 := dkwX5_readText_13 ++ dktX5_readText_14
def dkwX5_readText_12 : List UInt8 := [153, 0, 7, 6, 167, 0, 4, 4, 182, 0, 170, 3, 60, 167, 0, 49, 42, 29, 182, 0, 162, 4, 60]
abbrev dktX5_readText_12 : List UInt8 := dkwX5_readText_12 ++ dktX5_readText_13
def dkwX5_readText_11 : List UInt8 := [167, 0, 85, 29, 16, 40, 160, 0, 33, 21, 6, 154, 0, 9, 42, 16, 251, 182, 0, 162, 42, 21, 6]
abbrev dktX5_readText_11 : List UInt8 := dkwX5_readText_11 ++ dktX5_readText_12
def dkwX5_readText_10 : List UInt8 := [16, 252, 182, 0, 162, 42, 21, 6, 153, 0, 7, 7, 167, 0, 4, 5, 182, 0, 170, 132, 2, 1, 3, 60]
abbrev dktX5_readText_10 : List UInt8 := dkwX5_readText_10 ++ dktX5_readText_11
def dkwX5_readText_9 : List UInt8 := [180, 0, 153, 79, 27, 6, 160, 0, 7, 4, 167, 0, 4, 3, 54, 6, 29, 16, 114, 160, 0, 31, 42]
abbrev dktX5_readText_9 : List UInt8 := dkwX5_readText_9 ++ dktX5_readText_10
def dkwX5_readText_8 : List UInt8 := [42, 180, 0, 41, 42, 180, 0, 156, 42, 180, 0, 153, 79, 42, 180, 0, 44, 42, 180, 0, 156, 42]
abbrev dktX5_readText_8 : List UInt8 := dkwX5_readText_8 ++ dktX5_readText_9
def dkwX5_readText_7 : List UInt8 := [46, 16, 40, 159, 0, 7, 28, 4, 96, 172, 21, 4, 153, 0, 169, 27, 5, 162, 0, 33, 42, 182, 0, 173]
abbrev dktX5_readText_7 : List UInt8 := dkwX5_readText_7 ++ dktX5_readText_8
def dkwX5_readText_6 : List UInt8 := [172, 29, 16, 114, 160, 0, 30, 28, 4, 96, 42, 180, 0, 147, 159, 0, 16, 42, 180, 0, 7, 28, 4, 96]
abbrev dktX5_readText_6 : List UInt8 := dkwX5_readText_6 ++ dktX5_readText_7
def dkwX5_readText_5 : List UInt8 := [29, 16, 47, 160, 0, 12, 27, 4, 160, 0, 7, 4, 167, 0, 4, 3, 54, 5, 21, 5, 154, 0, 5, 28]
abbrev dktX5_readText_5 : List UInt8 := dkwX5_readText_5 ++ dktX5_readText_6
def dkwX5_readText_4 : List UInt8 := [16, 94, 159, 0, 33, 29, 16, 95, 159, 0, 27, 29, 16, 41, 160, 0, 10, 42, 180, 0, 156, 157, 0, 14]
abbrev dktX5_readText_4 : List UInt8 := dkwX5_readText_4 ++ dktX5_readText_5
def dkwX5_readText_3 : List UInt8 := [21, 4, 167, 0, 62, 21, 4, 154, 0, 52, 29, 16, 32, 159, 0, 46, 29, 184, 0, 94, 154, 0, 39, 29]
abbrev dktX5_readText_3 : List UInt8 := dkwX5_readText_3 ++ dktX5_readText_4
def dkwX5_readText_2 : List UInt8 := [29, 16, 40, 159, 0, 9, 29, 16, 114, 160, 0, 7, 4, 167, 0, 4, 3, 54, 4, 27, 4, 164, 0, 8]
abbrev dktX5_readText_2 : List UInt8 := dkwX5_readText_2 ++ dktX5_readText_3
def dkwX5_readText_1 : List UInt8 := [162, 2, 26, 42, 180, 0, 7, 28, 46, 62, 29, 184, 0, 87, 154, 0, 22, 29, 184, 0, 91, 154, 0, 15]
abbrev dktX5_readText_1 : List UInt8 := dkwX5_readText_1 ++ dktX5_readText_2
def dkwX5_readText_0 : List UInt8 := [42, 3, 181, 0, 153, 42, 2, 181, 0, 156, 42, 3, 182, 0, 170, 3, 60, 3, 61, 28, 42, 180, 0, 147]
abbrev dktX5_readText_0 : List UInt8 := dkwX5_readText_0 ++ dktX5_readText_1
theorem dksX5_readText_0 : cX5_readText.data.toList.drop 0 = dktX5_readText_0 := by decide +kernel
theorem dksX5_readText_1 : cX5_readText.data.toList.drop 24 = dktX5_readText_1 := dk_seg dksX5_readText_0 24 rfl rfl
theorem dksX5_readText_2 : cX5_readText.data.toList.drop 48 = dktX5_readText_2 := dk_seg dksX5_readText_1 24 rfl rfl
theorem dksX5_readText_3 : cX5_readText.data.toList.drop 72 = dktX5_readText_3 := dk_seg dksX5_readText_2 24 rfl rfl
theorem dksX5_readText_4 : cX5_readText.data.toList.drop 96 = dktX5_readText_4 := dk_seg dksX5_readText_3 24 rfl rfl
theorem dksX5_readText_5 : cX5_readText.data.toList.drop 120 = dktX5_readText_5 := dk_seg dksX5_readText_4 24 rfl rfl
theorem dksX5_readText_6 : cX5_readText.data.toList.drop 144 = dktX5_readText_6 := dk_seg dksX5_readText_5 24 rfl rfl
theorem dksX5_readText_7 : cX5_readText.data.toList.drop 168 = dktX5_readText_7 := dk_seg dksX5_readText_6 24 rfl rfl
theorem dksX5_readText_8 : cX5_readText.data.toList.drop 192 = dktX5_readText_8 := dk_seg dksX5_readText_7 24 rfl rfl
theorem dksX5_readText_9 : cX5_readText.data.toList.drop 214 = dktX5_readText_9 := dk_seg dksX5_readText_8 22 rfl rfl
theorem dksX5_readText_10 : cX5_readText.data.toList.drop 237 = dktX5_readText_10 := dk_seg dksX5_readText_9 23 rfl rfl
theorem dksX5_readText_11 : cX5_readText.data.toList.drop 261 = dktX5_readText_11 := dk_seg dksX5_readText_10 24 rfl rfl
theorem dksX5_readText_12 : cX5_readText.data.toList.drop 284 = dktX5_readText_12 := dk_seg dksX5_readText_11 23 rfl rfl
theorem dksX5_readText_13 : cX5_readText.data.toList.drop 307 = dktX5_readText_13 := dk_seg dksX5_readText_12 23 rfl rfl
theorem dksX5_readText_14 : cX5_readText.data.toList.drop 331 = dktX5_readText_14 := dk_seg dksX5_readText_13 24 rfl rfl
theorem dksX5_readText_15 : cX5_readText.data.toList.drop 355 = dktX5_readText_15 := dk_seg dksX5_readText_14 24 rfl rfl
theorem dksX5_readText_16 : cX5_readText.data.toList.drop 379 = dktX5_readText_16 := dk_seg dksX5_readText_15 24 rfl rfl
theorem dksX5_readText_17 : cX5_readText.data.toList.drop 401 = dktX5_readText_17 := dk_seg dksX5_readText_16 22 rfl rfl
theorem dksX5_readText_18 : cX5_readText.data.toList.drop 425 = dktX5_readText_18 := dk_seg dksX5_readText_17 24 rfl rfl
theorem dksX5_readText_19 : cX5_readText.data.toList.drop 449 = dktX5_readText_19 := dk_seg dksX5_readText_18 24 rfl rfl
theorem dksX5_readText_20 : cX5_readText.data.toList.drop 471 = dktX5_readText_20 := dk_seg dksX5_readText_19 22 rfl rfl
theorem dksX5_readText_21 : cX5_readText.data.toList.drop 493 = dktX5_readText_21 := dk_seg dksX5_readText_20 22 rfl rfl
theorem dksX5_readText_22 : cX5_readText.data.toList.drop 515 = dktX5_readText_22 := dk_seg dksX5_readText_21 22 rfl rfl
theorem dksX5_readText_23 : cX5_readText.data.toList.drop 539 = dktX5_readText_23 := dk_seg dksX5_readText_22 24 rfl rfl
theorem dksX5_readText_24 : cX5_readText.data.toList.drop 563 = dktX5_readText_24 := dk_seg dksX5_readText_23 24 rfl rfl
theorem dX5_readText_0 : decode cX5_readText 0 = .ok (.aload_n 0, 1) := dk_42 (dk_at dksX5_readText_0 0 rfl rfl)
theorem dX5_readText_1 : decode cX5_readText 1 = .ok (.iconst 0, 1) := dk_3 (dk_at dksX5_readText_0 1 rfl rfl)
theorem dX5_readText_2 : decode cX5_readText 2 = .ok (.putfield 153, 3) := dk_181 0 153 (dk_at dksX5_readText_0 2 rfl rfl)
theorem dX5_readText_5 : decode cX5_readText 5 = .ok (.aload_n 0, 1) := dk_42 (dk_at dksX5_readText_0 5 rfl rfl)
theorem dX5_readText_6 : decode cX5_readText 6 = .ok (.iconst (-1), 1) := dk_2 (dk_at dksX5_readText_0 6 rfl rfl)
theorem dX5_readText_7 : decode cX5_readText 7 = .ok (.putfield 156, 3) := dk_181 0 156 (dk_at dksX5_readText_0 7 rfl rfl)
theorem dX5_readText_10 : decode cX5_readText 10 = .ok (.aload_n 0, 1) := dk_42 (dk_at dksX5_readText_0 10 rfl rfl)
theorem dX5_readText_11 : decode cX5_readText 11 = .ok (.iconst 0, 1) := dk_3 (dk_at dksX5_readText_0 11 rfl rfl)
theorem dX5_readText_12 : decode cX5_readText 12 = .ok (.invokevirtual 170, 3) := dk_182 0 170 (dk_at dksX5_readText_0 12 rfl rfl)
theorem dX5_readText_15 : decode cX5_readText 15 = .ok (.iconst 0, 1) := dk_3 (dk_at dksX5_readText_0 15 rfl rfl)
theorem dX5_readText_16 : decode cX5_readText 16 = .ok (.istore_n 1, 1) := dk_60 (dk_at dksX5_readText_0 16 rfl rfl)
theorem dX5_readText_17 : decode cX5_readText 17 = .ok (.iconst 0, 1) := dk_3 (dk_at dksX5_readText_0 17 rfl rfl)
theorem dX5_readText_18 : decode cX5_readText 18 = .ok (.istore_n 2, 1) := dk_61 (dk_at dksX5_readText_0 18 rfl rfl)
theorem dX5_readText_19 : decode cX5_readText 19 = .ok (.iload_n 2, 1) := dk_28 (dk_at dksX5_readText_0 19 rfl rfl)
theorem dX5_readText_20 : decode cX5_readText 20 = .ok (.aload_n 0, 1) := dk_42 (dk_at dksX5_readText_0 20 rfl rfl)
theorem dX5_readText_21 : decode cX5_readText 21 = .ok (.getfield 147, 3) := dk_180 0 147 (dk_at dksX5_readText_0 21 rfl rfl)
theorem dX5_readText_24 : decode cX5_readText 24 = .ok (.if_icmp .ge 538, 3) := dk_162 2 26 (dk_at dksX5_readText_1 0 rfl rfl)
theorem dX5_readText_27 : decode cX5_readText 27 = .ok (.aload_n 0, 1) := dk_42 (dk_at dksX5_readText_1 3 rfl rfl)
theorem dX5_readText_28 : decode cX5_readText 28 = .ok (.getfield 7, 3) := dk_180 0 7 (dk_at dksX5_readText_1 4 rfl rfl)
theorem dX5_readText_31 : decode cX5_readText 31 = .ok (.iload_n 2, 1) := dk_28 (dk_at dksX5_readText_1 7 rfl rfl)
theorem dX5_readText_32 : decode cX5_readText 32 = .ok (.iaload, 1) := dk_46 (dk_at dksX5_readText_1 8 rfl rfl)
theorem dX5_readText_33 : decode cX5_readText 33 = .ok (.istore_n 3, 1) := dk_62 (dk_at dksX5_readText_1 9 rfl rfl)
theorem dX5_readText_34 : decode cX5_readText 34 = .ok (.iload_n 3, 1) := dk_29 (dk_at dksX5_readText_1 10 rfl rfl)
theorem dX5_readText_35 : decode cX5_readText 35 = .ok (.invokestatic 87, 3) := dk_184 0 87 (dk_at dksX5_readText_1 11 rfl rfl)
theorem dX5_readText_38 : decode cX5_readText 38 = .ok (.ifCond .ne 22, 3) := dk_154 0 22 (dk_at dksX5_readText_1 14 rfl rfl)
theorem dX5_readText_41 : decode cX5_readText 41 = .ok (.iload_n 3, 1) := dk_29 (dk_at dksX5_readText_1 17 rfl rfl)
theorem dX5_readText_42 : decode cX5_readText 42 = .ok (.invokestatic 91, 3) := dk_184 0 91 (dk_at dksX5_readText_1 18 rfl rfl)
theorem dX5_readText_45 : decode cX5_readText 45 = .ok (.ifCond .ne 15, 3) := dk_154 0 15 (dk_at dksX5_readText_1 21 rfl rfl)
theorem dX5_readText_48 : decode cX5_readText 48 = .ok (.iload_n 3, 1) := dk_29 (dk_at dksX5_readText_2 0 rfl rfl)
theorem dX5_readText_49 : decode cX5_readText 49 = .ok (.bipush 40, 2) := dk_16 40 (dk_at dksX5_readText_2 1 rfl rfl)
theorem dX5_readText_51 : decode cX5_readText 51 = .ok (.if_icmp .eq 9, 3) := dk_159 0 9 (dk_at dksX5_readText_2 3 rfl rfl)
theorem dX5_readText_54 : decode cX5_readText 54 = .ok (.iload_n 3, 1) := dk_29 (dk_at dksX5_readText_2 6 rfl rfl)
theorem dX5_readText_55 : decode cX5_readText 55 = .ok (.bipush 114, 2) := dk_16 114 (dk_at dksX5_readText_2 7 rfl rfl)
theorem dX5_readText_57 : decode cX5_readText 57 = .ok (.if_icmp .ne 7, 3) := dk_160 0 7 (dk_at dksX5_readText_2 9 rfl rfl)
theorem dX5_readText_60 : decode cX5_readText 60 = .ok (.iconst 1, 1) := dk_4 (dk_at dksX5_readText_2 12 rfl rfl)
theorem dX5_readText_61 : decode cX5_readText 61 = .ok (.goto 4, 3) := dk_167 0 4 (dk_at dksX5_readText_2 13 rfl rfl)
theorem dX5_readText_64 : decode cX5_readText 64 = .ok (.iconst 0, 1) := dk_3 (dk_at dksX5_readText_2 16 rfl rfl)
theorem dX5_readText_65 : decode cX5_readText 65 = .ok (.istore 4, 2) := dk_54 4 (dk_at dksX5_readText_2 17 rfl rfl)
theorem dX5_readText_67 : decode cX5_readText 67 = .ok (.iload_n 1, 1) := dk_27 (dk_at dksX5_readText_2 19 rfl rfl)
theorem dX5_readText_68 : decode cX5_readText 68 = .ok (.iconst 1, 1) := dk_4 (dk_at dksX5_readText_2 20 rfl rfl)
theorem dX5_readText_69 : decode cX5_readText 69 = .ok (.if_icmp .le 8, 3) := dk_164 0 8 (dk_at dksX5_readText_2 21 rfl rfl)
theorem dX5_readText_72 : decode cX5_readText 72 = .ok (.iload 4, 2) := dk_21 4 (dk_at dksX5_readText_3 0 rfl rfl)
theorem dX5_readText_74 : decode cX5_readText 74 = .ok (.goto 62, 3) := dk_167 0 62 (dk_at dksX5_readText_3 2 rfl rfl)
theorem dX5_readText_77 : decode cX5_readText 77 = .ok (.iload 4, 2) := dk_21 4 (dk_at dksX5_readText_3 5 rfl rfl)
theorem dX5_readText_79 : decode cX5_readText 79 = .ok (.ifCond .ne 52, 3) := dk_154 0 52 (dk_at dksX5_readText_3 7 rfl rfl)
theorem dX5_readText_82 : decode cX5_readText 82 = .ok (.iload_n 3, 1) := dk_29 (dk_at dksX5_readText_3 10 rfl rfl)
theorem dX5_readText_83 : decode cX5_readText 83 = .ok (.bipush 32, 2) := dk_16 32 (dk_at dksX5_readText_3 11 rfl rfl)
theorem dX5_readText_85 : decode cX5_readText 85 = .ok (.if_icmp .eq 46, 3) := dk_159 0 46 (dk_at dksX5_readText_3 13 rfl rfl)
theorem dX5_readText_88 : decode cX5_readText 88 = .ok (.iload_n 3, 1) := dk_29 (dk_at dksX5_readText_3 16 rfl rfl)
theorem dX5_readText_89 : decode cX5_readText 89 = .ok (.invokestatic 94, 3) := dk_184 0 94 (dk_at dksX5_readText_3 17 rfl rfl)
theorem dX5_readText_92 : decode cX5_readText 92 = .ok (.ifCond .ne 39, 3) := dk_154 0 39 (dk_at dksX5_readText_3 20 rfl rfl)
theorem dX5_readText_95 : decode cX5_readText 95 = .ok (.iload_n 3, 1) := dk_29 (dk_at dksX5_readText_3 23 rfl rfl)
theorem dX5_readText_96 : decode cX5_readText 96 = .ok (.bipush 94, 2) := dk_16 94 (dk_at dksX5_readText_4 0 rfl rfl)
theorem dX5_readText_98 : decode cX5_readText 98 = .ok (.if_icmp .eq 33, 3) := dk_159 0 33 (dk_at dksX5_readText_4 2 rfl rfl)
theorem dX5_readText_101 : decode cX5_readText 101 = .ok (.iload_n 3, 1) := dk_29 (dk_at dksX5_readText_4 5 rfl rfl)
theorem dX5_readText_102 : decode cX5_readText 102 = .ok (.bipush 95, 2) := dk_16 95 (dk_at dksX5_readText_4 6 rfl rfl)
theorem dX5_readText_104 : decode cX5_readText 104 = .ok (.if_icmp .eq 27, 3) := dk_159 0 27 (dk_at dksX5_readText_4 8 rfl rfl)
theorem dX5_readText_107 : decode cX5_readText 107 = .ok (.iload_n 3, 1) := dk_29 (dk_at dksX5_readText_4 11 rfl rfl)
theorem dX5_readText_108 : decode cX5_readText 108 = .ok (.bipush 41, 2) := dk_16 41 (dk_at dksX5_readText_4 12 rfl rfl)
theorem dX5_readText_110 : decode cX5_readText 110 = .ok (.if_icmp .ne 10, 3) := dk_160 0 10 (dk_at dksX5_readText_4 14 rfl rfl)
theorem dX5_readText_113 : decode cX5_readText 113 = .ok (.aload_n 0, 1) := dk_42 (dk_at dksX5_readText_4 17 rfl rfl)
theorem dX5_readText_114 : decode cX5_readText 114 = .ok (.getfield 156, 3) := dk_180 0 156 (dk_at dksX5_readText_4 18 rfl rfl)
theorem dX5_readText_117 : decode cX5_readText 117 = .ok (.ifCond .gt 14, 3) := dk_157 0 14 (dk_at dksX5_readText_4 21 rfl rfl)
theorem dX5_readText_120 : decode cX5_readText 120 = .ok (.iload_n 3, 1) := dk_29 (dk_at dksX5_readText_5 0 rfl rfl)
theorem dX5_readText_121 : decode cX5_readText 121 = .ok (.bipush 47, 2) := dk_16 47 (dk_at dksX5_readText_5 1 rfl rfl)
theorem dX5_readText_123 : decode cX5_readText 123 = .ok (.if_icmp .ne 12, 3) := dk_160 0 12 (dk_at dksX5_readText_5 3 rfl rfl)
theorem dX5_readText_126 : decode cX5_readText 126 = .ok (.iload_n 1, 1) := dk_27 (dk_at dksX5_readText_5 6 rfl rfl)
theorem dX5_readText_127 : decode cX5_readText 127 = .ok (.iconst 1, 1) := dk_4 (dk_at dksX5_readText_5 7 rfl rfl)
theorem dX5_readText_128 : decode cX5_readText 128 = .ok (.if_icmp .ne 7, 3) := dk_160 0 7 (dk_at dksX5_readText_5 8 rfl rfl)
theorem dX5_readText_131 : decode cX5_readText 131 = .ok (.iconst 1, 1) := dk_4 (dk_at dksX5_readText_5 11 rfl rfl)
theorem dX5_readText_132 : decode cX5_readText 132 = .ok (.goto 4, 3) := dk_167 0 4 (dk_at dksX5_readText_5 12 rfl rfl)
theorem dX5_readText_135 : decode cX5_readText 135 = .ok (.iconst 0, 1) := dk_3 (dk_at dksX5_readText_5 15 rfl rfl)
theorem dX5_readText_136 : decode cX5_readText 136 = .ok (.istore 5, 2) := dk_54 5 (dk_at dksX5_readText_5 16 rfl rfl)
theorem dX5_readText_138 : decode cX5_readText 138 = .ok (.iload 5, 2) := dk_21 5 (dk_at dksX5_readText_5 18 rfl rfl)
theorem dX5_readText_140 : decode cX5_readText 140 = .ok (.ifCond .ne 5, 3) := dk_154 0 5 (dk_at dksX5_readText_5 20 rfl rfl)
theorem dX5_readText_143 : decode cX5_readText 143 = .ok (.iload_n 2, 1) := dk_28 (dk_at dksX5_readText_5 23 rfl rfl)
theorem dX5_readText_144 : decode cX5_readText 144 = .ok (.ireturn, 1) := dk_172 (dk_at dksX5_readText_6 0 rfl rfl)
theorem dX5_readText_145 : decode cX5_readText 145 = .ok (.iload_n 3, 1) := dk_29 (dk_at dksX5_readText_6 1 rfl rfl)
theorem dX5_readText_146 : decode cX5_readText 146 = .ok (.bipush 114, 2) := dk_16 114 (dk_at dksX5_readText_6 2 rfl rfl)
theorem dX5_readText_148 : decode cX5_readText 148 = .ok (.if_icmp .ne 30, 3) := dk_160 0 30 (dk_at dksX5_readText_6 4 rfl rfl)
theorem dX5_readText_151 : decode cX5_readText 151 = .ok (.iload_n 2, 1) := dk_28 (dk_at dksX5_readText_6 7 rfl rfl)
theorem dX5_readText_152 : decode cX5_readText 152 = .ok (.iconst 1, 1) := dk_4 (dk_at dksX5_readText_6 8 rfl rfl)
theorem dX5_readText_153 : decode cX5_readText 153 = .ok (.iadd, 1) := dk_96 (dk_at dksX5_readText_6 9 rfl rfl)
theorem dX5_readText_154 : decode cX5_readText 154 = .ok (.aload_n 0, 1) := dk_42 (dk_at dksX5_readText_6 10 rfl rfl)
theorem dX5_readText_155 : decode cX5_readText 155 = .ok (.getfield 147, 3) := dk_180 0 147 (dk_at dksX5_readText_6 11 rfl rfl)
theorem dX5_readText_158 : decode cX5_readText 158 = .ok (.if_icmp .eq 16, 3) := dk_159 0 16 (dk_at dksX5_readText_6 14 rfl rfl)
theorem dX5_readText_161 : decode cX5_readText 161 = .ok (.aload_n 0, 1) := dk_42 (dk_at dksX5_readText_6 17 rfl rfl)
theorem dX5_readText_162 : decode cX5_readText 162 = .ok (.getfield 7, 3) := dk_180 0 7 (dk_at dksX5_readText_6 18 rfl rfl)
theorem dX5_readText_165 : decode cX5_readText 165 = .ok (.iload_n 2, 1) := dk_28 (dk_at dksX5_readText_6 21 rfl rfl)
theorem dX5_readText_166 : decode cX5_readText 166 = .ok (.iconst 1, 1) := dk_4 (dk_at dksX5_readText_6 22 rfl rfl)
theorem dX5_readText_167 : decode cX5_readText 167 = .ok (.iadd, 1) := dk_96 (dk_at dksX5_readText_6 23 rfl rfl)
theorem dX5_readText_168 : decode cX5_readText 168 = .ok (.iaload, 1) := dk_46 (dk_at dksX5_readText_7 0 rfl rfl)
theorem dX5_readText_169 : decode cX5_readText 169 = .ok (.bipush 40, 2) := dk_16 40 (dk_at dksX5_readText_7 1 rfl rfl)
theorem dX5_readText_171 : decode cX5_readText 171 = .ok (.if_icmp .eq 7, 3) := dk_159 0 7 (dk_at dksX5_readText_7 3 rfl rfl)
theorem dX5_readText_174 : decode cX5_readText 174 = .ok (.iload_n 2, 1) := dk_28 (dk_at dksX5_readText_7 6 rfl rfl)
theorem dX5_readText_175 : decode cX5_readText 175 = .ok (.iconst 1, 1) := dk_4 (dk_at dksX5_readText_7 7 rfl rfl)
theorem dX5_readText_176 : decode cX5_readText 176 = .ok (.iadd, 1) := dk_96 (dk_at dksX5_readText_7 8 rfl rfl)
theorem dX5_readText_177 : decode cX5_readText 177 = .ok (.ireturn, 1) := dk_172 (dk_at dksX5_readText_7 9 rfl rfl)
theorem dX5_readText_178 : decode cX5_readText 178 = .ok (.iload 4, 2) := dk_21 4 (dk_at dksX5_readText_7 10 rfl rfl)
theorem dX5_readText_180 : decode cX5_readText 180 = .ok (.ifCond .eq 169, 3) := dk_153 0 169 (dk_at dksX5_readText_7 12 rfl rfl)
theorem dX5_readText_183 : decode cX5_readText 183 = .ok (.iload_n 1, 1) := dk_27 (dk_at dksX5_readText_7 15 rfl rfl)
theorem dX5_readText_184 : decode cX5_readText 184 = .ok (.iconst 2, 1) := dk_5 (dk_at dksX5_readText_7 16 rfl rfl)
theorem dX5_readText_185 : decode cX5_readText 185 = .ok (.if_icmp .ge 33, 3) := dk_162 0 33 (dk_at dksX5_readText_7 17 rfl rfl)
theorem dX5_readText_188 : decode cX5_readText 188 = .ok (.aload_n 0, 1) := dk_42 (dk_at dksX5_readText_7 20 rfl rfl)
theorem dX5_readText_189 : decode cX5_readText 189 = .ok (.invokevirtual 173, 3) := dk_182 0 173 (dk_at dksX5_readText_7 21 rfl rfl)
theorem dX5_readText_192 : decode cX5_readText 192 = .ok (.aload_n 0, 1) := dk_42 (dk_at dksX5_readText_8 0 rfl rfl)
theorem dX5_readText_193 : decode cX5_readText 193 = .ok (.getfield 41, 3) := dk_180 0 41 (dk_at dksX5_readText_8 1 rfl rfl)
theorem dX5_readText_196 : decode cX5_readText 196 = .ok (.aload_n 0, 1) := dk_42 (dk_at dksX5_readText_8 4 rfl rfl)
theorem dX5_readText_197 : decode cX5_readText 197 = .ok (.getfield 156, 3) := dk_180 0 156 (dk_at dksX5_readText_8 5 rfl rfl)
theorem dX5_readText_200 : decode cX5_readText 200 = .ok (.aload_n 0, 1) := dk_42 (dk_at dksX5_readText_8 8 rfl rfl)
theorem dX5_readText_201 : decode cX5_readText 201 = .ok (.getfield 153, 3) := dk_180 0 153 (dk_at dksX5_readText_8 9 rfl rfl)
theorem dX5_readText_204 : decode cX5_readText 204 = .ok (.iastore, 1) := dk_79 (dk_at dksX5_readText_8 12 rfl rfl)
theorem dX5_readText_205 : decode cX5_readText 205 = .ok (.aload_n 0, 1) := dk_42 (dk_at dksX5_readText_8 13 rfl rfl)
theorem dX5_readText_206 : decode cX5_readText 206 = .ok (.getfield 44, 3) := dk_180 0 44 (dk_at dksX5_readText_8 14 rfl rfl)
theorem dX5_readText_209 : decode cX5_readText 209 = .ok (.aload_n 0, 1) := dk_42 (dk_at dksX5_readText_8 17 rfl rfl)
theorem dX5_readText_210 : decode cX5_readText 210 = .ok (.getfield 156, 3) := dk_180 0 156 (dk_at dksX5_readText_8 18 rfl rfl)
theorem dX5_readText_213 : decode cX5_readText 213 = .ok (.aload_n 0, 1) := dk_42 (dk_at dksX5_readText_8 21 rfl rfl)
theorem dX5_readText_214 : decode cX5_readText 214 = .ok (.getfield 153, 3) := dk_180 0 153 (dk_at dksX5_readText_9 0 rfl rfl)
theorem dX5_readText_217 : decode cX5_readText 217 = .ok (.iastore, 1) := dk_79 (dk_at dksX5_readText_9 3 rfl rfl)
theorem dX5_readText_218 : decode cX5_readText 218 = .ok (.iload_n 1, 1) := dk_27 (dk_at dksX5_readText_9 4 rfl rfl)
theorem dX5_readText_219 : decode cX5_readText 219 = .ok (.iconst 3, 1) := dk_6 (dk_at dksX5_readText_9 5 rfl rfl)
theorem dX5_readText_220 : decode cX5_readText 220 = .ok (.if_icmp .ne 7, 3) := dk_160 0 7 (dk_at dksX5_readText_9 6 rfl rfl)
theorem dX5_readText_223 : decode cX5_readText 223 = .ok (.iconst 1, 1) := dk_4 (dk_at dksX5_readText_9 9 rfl rfl)
theorem dX5_readText_224 : decode cX5_readText 224 = .ok (.goto 4, 3) := dk_167 0 4 (dk_at dksX5_readText_9 10 rfl rfl)
theorem dX5_readText_227 : decode cX5_readText 227 = .ok (.iconst 0, 1) := dk_3 (dk_at dksX5_readText_9 13 rfl rfl)
theorem dX5_readText_228 : decode cX5_readText 228 = .ok (.istore 6, 2) := dk_54 6 (dk_at dksX5_readText_9 14 rfl rfl)
theorem dX5_readText_230 : decode cX5_readText 230 = .ok (.iload_n 3, 1) := dk_29 (dk_at dksX5_readText_9 16 rfl rfl)
theorem dX5_readText_231 : decode cX5_readText 231 = .ok (.bipush 114, 2) := dk_16 114 (dk_at dksX5_readText_9 17 rfl rfl)
theorem dX5_readText_233 : decode cX5_readText 233 = .ok (.if_icmp .ne 31, 3) := dk_160 0 31 (dk_at dksX5_readText_9 19 rfl rfl)
theorem dX5_readText_236 : decode cX5_readText 236 = .ok (.aload_n 0, 1) := dk_42 (dk_at dksX5_readText_9 22 rfl rfl)
theorem dX5_readText_237 : decode cX5_readText 237 = .ok (.bipush (-4), 2) := dk_16 252 (dk_at dksX5_readText_10 0 rfl rfl)
theorem dX5_readText_239 : decode cX5_readText 239 = .ok (.invokevirtual 162, 3) := dk_182 0 162 (dk_at dksX5_readText_10 2 rfl rfl)
theorem dX5_readText_242 : decode cX5_readText 242 = .ok (.aload_n 0, 1) := dk_42 (dk_at dksX5_readText_10 5 rfl rfl)
theorem dX5_readText_243 : decode cX5_readText 243 = .ok (.iload 6, 2) := dk_21 6 (dk_at dksX5_readText_10 6 rfl rfl)
theorem dX5_readText_245 : decode cX5_readText 245 = .ok (.ifCond .eq 7, 3) := dk_153 0 7 (dk_at dksX5_readText_10 8 rfl rfl)
theorem dX5_readText_248 : decode cX5_readText 248 = .ok (.iconst 4, 1) := dk_7 (dk_at dksX5_readText_10 11 rfl rfl)
theorem dX5_readText_249 : decode cX5_readText 249 = .ok (.goto 4, 3) := dk_167 0 4 (dk_at dksX5_readText_10 12 rfl rfl)
theorem dX5_readText_252 : decode cX5_readText 252 = .ok (.iconst 2, 1) := dk_5 (dk_at dksX5_readText_10 15 rfl rfl)
theorem dX5_readText_253 : decode cX5_readText 253 = .ok (.invokevirtual 170, 3) := dk_182 0 170 (dk_at dksX5_readText_10 16 rfl rfl)
theorem dX5_readText_256 : decode cX5_readText 256 = .ok (.iinc 2 1, 3) := dk_132 2 1 (dk_at dksX5_readText_10 19 rfl rfl)
theorem dX5_readText_259 : decode cX5_readText 259 = .ok (.iconst 0, 1) := dk_3 (dk_at dksX5_readText_10 22 rfl rfl)
theorem dX5_readText_260 : decode cX5_readText 260 = .ok (.istore_n 1, 1) := dk_60 (dk_at dksX5_readText_10 23 rfl rfl)
theorem dX5_readText_261 : decode cX5_readText 261 = .ok (.goto 85, 3) := dk_167 0 85 (dk_at dksX5_readText_11 0 rfl rfl)
theorem dX5_readText_264 : decode cX5_readText 264 = .ok (.iload_n 3, 1) := dk_29 (dk_at dksX5_readText_11 3 rfl rfl)
theorem dX5_readText_265 : decode cX5_readText 265 = .ok (.bipush 40, 2) := dk_16 40 (dk_at dksX5_readText_11 4 rfl rfl)
theorem dX5_readText_267 : decode cX5_readText 267 = .ok (.if_icmp .ne 33, 3) := dk_160 0 33 (dk_at dksX5_readText_11 6 rfl rfl)
theorem dX5_readText_270 : decode cX5_readText 270 = .ok (.iload 6, 2) := dk_21 6 (dk_at dksX5_readText_11 9 rfl rfl)
theorem dX5_readText_272 : decode cX5_readText 272 = .ok (.ifCond .ne 9, 3) := dk_154 0 9 (dk_at dksX5_readText_11 11 rfl rfl)
theorem dX5_readText_275 : decode cX5_readText 275 = .ok (.aload_n 0, 1) := dk_42 (dk_at dksX5_readText_11 14 rfl rfl)
theorem dX5_readText_276 : decode cX5_readText 276 = .ok (.bipush (-5), 2) := dk_16 251 (dk_at dksX5_readText_11 15 rfl rfl)
theorem dX5_readText_278 : decode cX5_readText 278 = .ok (.invokevirtual 162, 3) := dk_182 0 162 (dk_at dksX5_readText_11 17 rfl rfl)
theorem dX5_readText_281 : decode cX5_readText 281 = .ok (.aload_n 0, 1) := dk_42 (dk_at dksX5_readText_11 20 rfl rfl)
theorem dX5_readText_282 : decode cX5_readText 282 = .ok (.iload 6, 2) := dk_21 6 (dk_at dksX5_readText_11 21 rfl rfl)
theorem dX5_readText_284 : decode cX5_readText 284 = .ok (.ifCond .eq 7, 3) := dk_153 0 7 (dk_at dksX5_readText_12 0 rfl rfl)
theorem dX5_readText_287 : decode cX5_readText 287 = .ok (.iconst 3, 1) := dk_6 (dk_at dksX5_readText_12 3 rfl rfl)
theorem dX5_readText_288 : decode cX5_readText 288 = .ok (.goto 4, 3) := dk_167 0 4 (dk_at dksX5_readText_12 4 rfl rfl)
theorem dX5_readText_291 : decode cX5_readText 291 = .ok (.iconst 1, 1) := dk_4 (dk_at dksX5_readText_12 7 rfl rfl)
theorem dX5_readText_292 : decode cX5_readText 292 = .ok (.invokevirtual 170, 3) := dk_182 0 170 (dk_at dksX5_readText_12 8 rfl rfl)
theorem dX5_readText_295 : decode cX5_readText 295 = .ok (.iconst 0, 1) := dk_3 (dk_at dksX5_readText_12 11 rfl rfl)
theorem dX5_readText_296 : decode cX5_readText 296 = .ok (.istore_n 1, 1) := dk_60 (dk_at dksX5_readText_12 12 rfl rfl)
theorem dX5_readText_297 : decode cX5_readText 297 = .ok (.goto 49, 3) := dk_167 0 49 (dk_at dksX5_readText_12 13 rfl rfl)
theorem dX5_readText_300 : decode cX5_readText 300 = .ok (.aload_n 0, 1) := dk_42 (dk_at dksX5_readText_12 16 rfl rfl)
theorem dX5_readText_301 : decode cX5_readText 301 = .ok (.iload_n 3, 1) := dk_29 (dk_at dksX5_readText_12 17 rfl rfl)
theorem dX5_readText_302 : decode cX5_readText 302 = .ok (.invokevirtual 162, 3) := dk_182 0 162 (dk_at dksX5_readText_12 18 rfl rfl)
theorem dX5_readText_305 : decode cX5_readText 305 = .ok (.iconst 1, 1) := dk_4 (dk_at dksX5_readText_12 21 rfl rfl)
theorem dX5_readText_306 : decode cX5_readText 306 = .ok (.istore_n 1, 1) := dk_60 (dk_at dksX5_readText_12 22 rfl rfl)
theorem dX5_readText_307 : decode cX5_readText 307 = .ok (.iload 6, 2) := dk_21 6 (dk_at dksX5_readText_13 0 rfl rfl)
theorem dX5_readText_309 : decode cX5_readText 309 = .ok (.ifCond .eq 27, 3) := dk_153 0 27 (dk_at dksX5_readText_13 2 rfl rfl)
theorem dX5_readText_312 : decode cX5_readText 312 = .ok (.aload_n 0, 1) := dk_42 (dk_at dksX5_readText_13 5 rfl rfl)
theorem dX5_readText_313 : decode cX5_readText 313 = .ok (.bipush (-11), 2) := dk_16 245 (dk_at dksX5_readText_13 6 rfl rfl)
theorem dX5_readText_315 : decode cX5_readText 315 = .ok (.invokevirtual 162, 3) := dk_182 0 162 (dk_at dksX5_readText_13 8 rfl rfl)
theorem dX5_readText_318 : decode cX5_readText 318 = .ok (.aload_n 0, 1) := dk_42 (dk_at dksX5_readText_13 11 rfl rfl)
theorem dX5_readText_319 : decode cX5_readText 319 = .ok (.getfield 53, 3) := dk_180 0 53 (dk_at dksX5_readText_13 12 rfl rfl)
theorem dX5_readText_322 : decode cX5_readText 322 = .ok (.aload_n 0, 1) := dk_42 (dk_at dksX5_readText_13 15 rfl rfl)
theorem dX5_readText_323 : decode cX5_readText 323 = .ok (.getfield 156, 3) := dk_180 0 156 (dk_at dksX5_readText_13 16 rfl rfl)
theorem dX5_readText_326 : decode cX5_readText 326 = .ok (.baload, 1) := dk_51 (dk_at dksX5_readText_13 19 rfl rfl)
theorem dX5_readText_327 : decode cX5_readText 327 = .ok (.ifCond .eq 7, 3) := dk_153 0 7 (dk_at dksX5_readText_13 20 rfl rfl)
theorem dX5_readText_330 : decode cX5_readText 330 = .ok (.iconst 1, 1) := dk_4 (dk_at dksX5_readText_13 23 rfl rfl)
theorem dX5_readText_331 : decode cX5_readText 331 = .ok (.goto 4, 3) := dk_167 0 4 (dk_at dksX5_readText_14 0 rfl rfl)
theorem dX5_readText_334 : decode cX5_readText 334 = .ok (.iconst 0, 1) := dk_3 (dk_at dksX5_readText_14 3 rfl rfl)
theorem dX5_readText_335 : decode cX5_readText 335 = .ok (.istore_n 1, 1) := dk_60 (dk_at dksX5_readText_14 4 rfl rfl)
theorem dX5_readText_336 : decode cX5_readText 336 = .ok (.aload_n 0, 1) := dk_42 (dk_at dksX5_readText_14 5 rfl rfl)
theorem dX5_readText_337 : decode cX5_readText 337 = .ok (.getfield 47, 3) := dk_180 0 47 (dk_at dksX5_readText_14 6 rfl rfl)
theorem dX5_readText_340 : decode cX5_readText 340 = .ok (.aload_n 0, 1) := dk_42 (dk_at dksX5_readText_14 9 rfl rfl)
theorem dX5_readText_341 : decode cX5_readText 341 = .ok (.getfield 156, 3) := dk_180 0 156 (dk_at dksX5_readText_14 10 rfl rfl)
theorem dX5_readText_344 : decode cX5_readText 344 = .ok (.iconst 0, 1) := dk_3 (dk_at dksX5_readText_14 13 rfl rfl)
theorem dX5_readText_345 : decode cX5_readText 345 = .ok (.bastore, 1) := dk_84 (dk_at dksX5_readText_14 14 rfl rfl)
theorem dX5_readText_346 : decode cX5_readText 346 = .ok (.goto 210, 3) := dk_167 0 210 (dk_at dksX5_readText_14 15 rfl rfl)
theorem dX5_readText_349 : decode cX5_readText 349 = .ok (.iload_n 3, 1) := dk_29 (dk_at dksX5_readText_14 18 rfl rfl)
theorem dX5_readText_350 : decode cX5_readText 350 = .ok (.bipush 94, 2) := dk_16 94 (dk_at dksX5_readText_14 19 rfl rfl)
theorem dX5_readText_352 : decode cX5_readText 352 = .ok (.if_icmp .eq 9, 3) := dk_159 0 9 (dk_at dksX5_readText_14 21 rfl rfl)
theorem dX5_readText_355 : decode cX5_readText 355 = .ok (.iload_n 3, 1) := dk_29 (dk_at dksX5_readText_15 0 rfl rfl)
theorem dX5_readText_356 : decode cX5_readText 356 = .ok (.bipush 95, 2) := dk_16 95 (dk_at dksX5_readText_15 1 rfl rfl)
theorem dX5_readText_358 : decode cX5_readText 358 = .ok (.if_icmp .ne 70, 3) := dk_160 0 70 (dk_at dksX5_readText_15 3 rfl rfl)
theorem dX5_readText_361 : decode cX5_readText 361 = .ok (.aload_n 0, 1) := dk_42 (dk_at dksX5_readText_15 6 rfl rfl)
theorem dX5_readText_362 : decode cX5_readText 362 = .ok (.getfield 53, 3) := dk_180 0 53 (dk_at dksX5_readText_15 7 rfl rfl)
theorem dX5_readText_365 : decode cX5_readText 365 = .ok (.aload_n 0, 1) := dk_42 (dk_at dksX5_readText_15 10 rfl rfl)
theorem dX5_readText_366 : decode cX5_readText 366 = .ok (.getfield 156, 3) := dk_180 0 156 (dk_at dksX5_readText_15 11 rfl rfl)
theorem dX5_readText_369 : decode cX5_readText 369 = .ok (.iload_n 1, 1) := dk_27 (dk_at dksX5_readText_15 14 rfl rfl)
theorem dX5_readText_370 : decode cX5_readText 370 = .ok (.iconst 1, 1) := dk_4 (dk_at dksX5_readText_15 15 rfl rfl)
theorem dX5_readText_371 : decode cX5_readText 371 = .ok (.if_icmp .ne 7, 3) := dk_160 0 7 (dk_at dksX5_readText_15 16 rfl rfl)
theorem dX5_readText_374 : decode cX5_readText 374 = .ok (.iconst 1, 1) := dk_4 (dk_at dksX5_readText_15 19 rfl rfl)
theorem dX5_readText_375 : decode cX5_readText 375 = .ok (.goto 4, 3) := dk_167 0 4 (dk_at dksX5_readText_15 20 rfl rfl)
theorem dX5_readText_378 : decode cX5_readText 378 = .ok (.iconst 0, 1) := dk_3 (dk_at dksX5_readText_15 23 rfl rfl)
theorem dX5_readText_379 : decode cX5_readText 379 = .ok (.bastore, 1) := dk_84 (dk_at dksX5_readText_16 0 rfl rfl)
theorem dX5_readText_380 : decode cX5_readText 380 = .ok (.aload_n 0, 1) := dk_42 (dk_at dksX5_readText_16 1 rfl rfl)
theorem dX5_readText_381 : decode cX5_readText 381 = .ok (.getfield 53, 3) := dk_180 0 53 (dk_at dksX5_readText_16 2 rfl rfl)
theorem dX5_readText_384 : decode cX5_readText 384 = .ok (.aload_n 0, 1) := dk_42 (dk_at dksX5_readText_16 5 rfl rfl)
theorem dX5_readText_385 : decode cX5_readText 385 = .ok (.getfield 156, 3) := dk_180 0 156 (dk_at dksX5_readText_16 6 rfl rfl)
theorem dX5_readText_388 : decode cX5_readText 388 = .ok (.baload, 1) := dk_51 (dk_at dksX5_readText_16 9 rfl rfl)
theorem dX5_readText_389 : decode cX5_readText 389 = .ok (.ifCond .ne 7, 3) := dk_154 0 7 (dk_at dksX5_readText_16 10 rfl rfl)
theorem dX5_readText_392 : decode cX5_readText 392 = .ok (.aload_n 0, 1) := dk_42 (dk_at dksX5_readText_16 13 rfl rfl)
theorem dX5_readText_393 : decode cX5_readText 393 = .ok (.invokevirtual 173, 3) := dk_182 0 173 (dk_at dksX5_readText_16 14 rfl rfl)
theorem dX5_readText_396 : decode cX5_readText 396 = .ok (.aload_n 0, 1) := dk_42 (dk_at dksX5_readText_16 17 rfl rfl)
theorem dX5_readText_397 : decode cX5_readText 397 = .ok (.getfield 47, 3) := dk_180 0 47 (dk_at dksX5_readText_16 18 rfl rfl)
theorem dX5_readText_400 : decode cX5_readText 400 = .ok (.aload_n 0, 1) := dk_42 (dk_at dksX5_readText_16 21 rfl rfl)
theorem dX5_readText_401 : decode cX5_readText 401 = .ok (.getfield 156, 3) := dk_180 0 156 (dk_at dksX5_readText_17 0 rfl rfl)
theorem dX5_readText_404 : decode cX5_readText 404 = .ok (.iconst 0, 1) := dk_3 (dk_at dksX5_readText_17 3 rfl rfl)
theorem dX5_readText_405 : decode cX5_readText 405 = .ok (.bastore, 1) := dk_84 (dk_at dksX5_readText_17 4 rfl rfl)
theorem dX5_readText_406 : decode cX5_readText 406 = .ok (.aload_n 0, 1) := dk_42 (dk_at dksX5_readText_17 5 rfl rfl)
theorem dX5_readText_407 : decode cX5_readText 407 = .ok (.iload_n 3, 1) := dk_29 (dk_at dksX5_readText_17 6 rfl rfl)
theorem dX5_readText_408 : decode cX5_readText 408 = .ok (.bipush 94, 2) := dk_16 94 (dk_at dksX5_readText_17 7 rfl rfl)
theorem dX5_readText_410 : decode cX5_readText 410 = .ok (.if_icmp .ne 8, 3) := dk_160 0 8 (dk_at dksX5_readText_17 9 rfl rfl)
theorem dX5_readText_413 : decode cX5_readText 413 = .ok (.bipush (-2), 2) := dk_16 254 (dk_at dksX5_readText_17 12 rfl rfl)
theorem dX5_readText_415 : decode cX5_readText 415 = .ok (.goto 5, 3) := dk_167 0 5 (dk_at dksX5_readText_17 14 rfl rfl)
theorem dX5_readText_418 : decode cX5_readText 418 = .ok (.bipush (-3), 2) := dk_16 253 (dk_at dksX5_readText_17 17 rfl rfl)
theorem dX5_readText_420 : decode cX5_readText 420 = .ok (.invokevirtual 162, 3) := dk_182 0 162 (dk_at dksX5_readText_17 19 rfl rfl)
theorem dX5_readText_423 : decode cX5_readText 423 = .ok (.iconst 3, 1) := dk_6 (dk_at dksX5_readText_17 22 rfl rfl)
theorem dX5_readText_424 : decode cX5_readText 424 = .ok (.istore_n 1, 1) := dk_60 (dk_at dksX5_readText_17 23 rfl rfl)
theorem dX5_readText_425 : decode cX5_readText 425 = .ok (.goto 131, 3) := dk_167 0 131 (dk_at dksX5_readText_18 0 rfl rfl)
theorem dX5_readText_428 : decode cX5_readText 428 = .ok (.iload_n 3, 1) := dk_29 (dk_at dksX5_readText_18 3 rfl rfl)
theorem dX5_readText_429 : decode cX5_readText 429 = .ok (.bipush 47, 2) := dk_16 47 (dk_at dksX5_readText_18 4 rfl rfl)
theorem dX5_readText_431 : decode cX5_readText 431 = .ok (.if_icmp .ne 12, 3) := dk_160 0 12 (dk_at dksX5_readText_18 6 rfl rfl)
theorem dX5_readText_434 : decode cX5_readText 434 = .ok (.aload_n 0, 1) := dk_42 (dk_at dksX5_readText_18 9 rfl rfl)
theorem dX5_readText_435 : decode cX5_readText 435 = .ok (.invokevirtual 176, 3) := dk_182 0 176 (dk_at dksX5_readText_18 10 rfl rfl)
theorem dX5_readText_438 : decode cX5_readText 438 = .ok (.iconst 2, 1) := dk_5 (dk_at dksX5_readText_18 13 rfl rfl)
theorem dX5_readText_439 : decode cX5_readText 439 = .ok (.istore_n 1, 1) := dk_60 (dk_at dksX5_readText_18 14 rfl rfl)
theorem dX5_readText_440 : decode cX5_readText 440 = .ok (.goto 116, 3) := dk_167 0 116 (dk_at dksX5_readText_18 15 rfl rfl)
theorem dX5_readText_443 : decode cX5_readText 443 = .ok (.iload_n 3, 1) := dk_29 (dk_at dksX5_readText_18 18 rfl rfl)
theorem dX5_readText_444 : decode cX5_readText 444 = .ok (.bipush 41, 2) := dk_16 41 (dk_at dksX5_readText_18 19 rfl rfl)
theorem dX5_readText_446 : decode cX5_readText 446 = .ok (.if_icmp .ne 93, 3) := dk_160 0 93 (dk_at dksX5_readText_18 21 rfl rfl)
theorem dX5_readText_449 : decode cX5_readText 449 = .ok (.aload_n 0, 1) := dk_42 (dk_at dksX5_readText_19 0 rfl rfl)
theorem dX5_readText_450 : decode cX5_readText 450 = .ok (.invokevirtual 173, 3) := dk_182 0 173 (dk_at dksX5_readText_19 1 rfl rfl)
theorem dX5_readText_453 : decode cX5_readText 453 = .ok (.aload_n 0, 1) := dk_42 (dk_at dksX5_readText_19 4 rfl rfl)
theorem dX5_readText_454 : decode cX5_readText 454 = .ok (.getfield 38, 3) := dk_180 0 38 (dk_at dksX5_readText_19 5 rfl rfl)
theorem dX5_readText_457 : decode cX5_readText 457 = .ok (.aload_n 0, 1) := dk_42 (dk_at dksX5_readText_19 8 rfl rfl)
theorem dX5_readText_458 : decode cX5_readText 458 = .ok (.getfield 156, 3) := dk_180 0 156 (dk_at dksX5_readText_19 9 rfl rfl)
theorem dX5_readText_461 : decode cX5_readText 461 = .ok (.iaload, 1) := dk_46 (dk_at dksX5_readText_19 12 rfl rfl)
theorem dX5_readText_462 : decode cX5_readText 462 = .ok (.istore 6, 2) := dk_54 6 (dk_at dksX5_readText_19 13 rfl rfl)
theorem dX5_readText_464 : decode cX5_readText 464 = .ok (.aload_n 0, 1) := dk_42 (dk_at dksX5_readText_19 15 rfl rfl)
theorem dX5_readText_465 : decode cX5_readText 465 = .ok (.dup, 1) := dk_89 (dk_at dksX5_readText_19 16 rfl rfl)
theorem dX5_readText_466 : decode cX5_readText 466 = .ok (.getfield 156, 3) := dk_180 0 156 (dk_at dksX5_readText_19 17 rfl rfl)
theorem dX5_readText_469 : decode cX5_readText 469 = .ok (.iconst 1, 1) := dk_4 (dk_at dksX5_readText_19 20 rfl rfl)
theorem dX5_readText_470 : decode cX5_readText 470 = .ok (.isub, 1) := dk_100 (dk_at dksX5_readText_19 21 rfl rfl)
theorem dX5_readText_471 : decode cX5_readText 471 = .ok (.putfield 156, 3) := dk_181 0 156 (dk_at dksX5_readText_20 0 rfl rfl)
theorem dX5_readText_474 : decode cX5_readText 474 = .ok (.aload_n 0, 1) := dk_42 (dk_at dksX5_readText_20 3 rfl rfl)
theorem dX5_readText_475 : decode cX5_readText 475 = .ok (.bipush (-11), 2) := dk_16 245 (dk_at dksX5_readText_20 4 rfl rfl)
theorem dX5_readText_477 : decode cX5_readText 477 = .ok (.invokevirtual 162, 3) := dk_182 0 162 (dk_at dksX5_readText_20 6 rfl rfl)
theorem dX5_readText_480 : decode cX5_readText 480 = .ok (.iload 6, 2) := dk_21 6 (dk_at dksX5_readText_20 9 rfl rfl)
theorem dX5_readText_482 : decode cX5_readText 482 = .ok (.iconst 4, 1) := dk_7 (dk_at dksX5_readText_20 11 rfl rfl)
theorem dX5_readText_483 : decode cX5_readText 483 = .ok (.if_icmp .ne 9, 3) := dk_160 0 9 (dk_at dksX5_readText_20 12 rfl rfl)
theorem dX5_readText_486 : decode cX5_readText 486 = .ok (.aload_n 0, 1) := dk_42 (dk_at dksX5_readText_20 15 rfl rfl)
theorem dX5_readText_487 : decode cX5_readText 487 = .ok (.bipush (-11), 2) := dk_16 245 (dk_at dksX5_readText_20 16 rfl rfl)
theorem dX5_readText_489 : decode cX5_readText 489 = .ok (.invokevirtual 162, 3) := dk_182 0 162 (dk_at dksX5_readText_20 18 rfl rfl)
theorem dX5_readText_492 : decode cX5_readText 492 = .ok (.aload_n 0, 1) := dk_42 (dk_at dksX5_readText_20 21 rfl rfl)
theorem dX5_readText_493 : decode cX5_readText 493 = .ok (.getfield 47, 3) := dk_180 0 47 (dk_at dksX5_readText_21 0 rfl rfl)
theorem dX5_readText_496 : decode cX5_readText 496 = .ok (.aload_n 0, 1) := dk_42 (dk_at dksX5_readText_21 3 rfl rfl)
theorem dX5_readText_497 : decode cX5_readText 497 = .ok (.getfield 156, 3) := dk_180 0 156 (dk_at dksX5_readText_21 4 rfl rfl)
theorem dX5_readText_500 : decode cX5_readText 500 = .ok (.iload 6, 2) := dk_21 6 (dk_at dksX5_readText_21 7 rfl rfl)
theorem dX5_readText_502 : decode cX5_readText 502 = .ok (.iconst 1, 1) := dk_4 (dk_at dksX5_readText_21 9 rfl rfl)
theorem dX5_readText_503 : decode cX5_readText 503 = .ok (.if_icmp .ne 7, 3) := dk_160 0 7 (dk_at dksX5_readText_21 10 rfl rfl)
theorem dX5_readText_506 : decode cX5_readText 506 = .ok (.iconst 1, 1) := dk_4 (dk_at dksX5_readText_21 13 rfl rfl)
theorem dX5_readText_507 : decode cX5_readText 507 = .ok (.goto 4, 3) := dk_167 0 4 (dk_at dksX5_readText_21 14 rfl rfl)
theorem dX5_readText_510 : decode cX5_readText 510 = .ok (.iconst 0, 1) := dk_3 (dk_at dksX5_readText_21 17 rfl rfl)
theorem dX5_readText_511 : decode cX5_readText 511 = .ok (.bastore, 1) := dk_84 (dk_at dksX5_readText_21 18 rfl rfl)
theorem dX5_readText_512 : decode cX5_readText 512 = .ok (.iload 6, 2) := dk_21 6 (dk_at dksX5_readText_21 19 rfl rfl)
theorem dX5_readText_514 : decode cX5_readText 514 = .ok (.iconst 3, 1) := dk_6 (dk_at dksX5_readText_21 21 rfl rfl)
theorem dX5_readText_515 : decode cX5_readText 515 = .ok (.if_icmp .lt 15, 3) := dk_161 0 15 (dk_at dksX5_readText_22 0 rfl rfl)
theorem dX5_readText_518 : decode cX5_readText 518 = .ok (.aload_n 0, 1) := dk_42 (dk_at dksX5_readText_22 3 rfl rfl)
theorem dX5_readText_519 : decode cX5_readText 519 = .ok (.getfield 53, 3) := dk_180 0 53 (dk_at dksX5_readText_22 4 rfl rfl)
theorem dX5_readText_522 : decode cX5_readText 522 = .ok (.aload_n 0, 1) := dk_42 (dk_at dksX5_readText_22 7 rfl rfl)
theorem dX5_readText_523 : decode cX5_readText 523 = .ok (.getfield 156, 3) := dk_180 0 156 (dk_at dksX5_readText_22 8 rfl rfl)
theorem dX5_readText_526 : decode cX5_readText 526 = .ok (.baload, 1) := dk_51 (dk_at dksX5_readText_22 11 rfl rfl)
theorem dX5_readText_527 : decode cX5_readText 527 = .ok (.ifCond .eq 7, 3) := dk_153 0 7 (dk_at dksX5_readText_22 12 rfl rfl)
theorem dX5_readText_530 : decode cX5_readText 530 = .ok (.iconst 1, 1) := dk_4 (dk_at dksX5_readText_22 15 rfl rfl)
theorem dX5_readText_531 : decode cX5_readText 531 = .ok (.goto 4, 3) := dk_167 0 4 (dk_at dksX5_readText_22 16 rfl rfl)
theorem dX5_readText_534 : decode cX5_readText 534 = .ok (.iconst 0, 1) := dk_3 (dk_at dksX5_readText_22 19 rfl rfl)
theorem dX5_readText_535 : decode cX5_readText 535 = .ok (.istore_n 1, 1) := dk_60 (dk_at dksX5_readText_22 20 rfl rfl)
theorem dX5_readText_536 : decode cX5_readText 536 = .ok (.goto 20, 3) := dk_167 0 20 (dk_at dksX5_readText_22 21 rfl rfl)
theorem dX5_readText_539 : decode cX5_readText 539 = .ok (.aload_n 0, 1) := dk_42 (dk_at dksX5_readText_23 0 rfl rfl)
theorem dX5_readText_540 : decode cX5_readText 540 = .ok (.invokevirtual 173, 3) := dk_182 0 173 (dk_at dksX5_readText_23 1 rfl rfl)
theorem dX5_readText_543 : decode cX5_readText 543 = .ok (.iload_n 3, 1) := dk_29 (dk_at dksX5_readText_23 4 rfl rfl)
theorem dX5_readText_544 : decode cX5_readText 544 = .ok (.bipush 32, 2) := dk_16 32 (dk_at dksX5_readText_23 5 rfl rfl)
theorem dX5_readText_546 : decode cX5_readText 546 = .ok (.if_icmp .eq 8, 3) := dk_159 0 8 (dk_at dksX5_readText_23 7 rfl rfl)
theorem dX5_readText_549 : decode cX5_readText 549 = .ok (.aload_n 0, 1) := dk_42 (dk_at dksX5_readText_23 10 rfl rfl)
theorem dX5_readText_550 : decode cX5_readText 550 = .ok (.iload_n 3, 1) := dk_29 (dk_at dksX5_readText_23 11 rfl rfl)
theorem dX5_readText_551 : decode cX5_readText 551 = .ok (.invokevirtual 162, 3) := dk_182 0 162 (dk_at dksX5_readText_23 12 rfl rfl)
theorem dX5_readText_554 : decode cX5_readText 554 = .ok (.iconst 0, 1) := dk_3 (dk_at dksX5_readText_23 15 rfl rfl)
theorem dX5_readText_555 : decode cX5_readText 555 = .ok (.istore_n 1, 1) := dk_60 (dk_at dksX5_readText_23 16 rfl rfl)
theorem dX5_readText_556 : decode cX5_readText 556 = .ok (.iinc 2 1, 3) := dk_132 2 1 (dk_at dksX5_readText_23 17 rfl rfl)
theorem dX5_readText_559 : decode cX5_readText 559 = .ok (.goto (-540), 3) := dk_167 253 228 (dk_at dksX5_readText_23 20 rfl rfl)
theorem dX5_readText_562 : decode cX5_readText 562 = .ok (.iload_n 1, 1) := dk_27 (dk_at dksX5_readText_23 23 rfl rfl)
theorem dX5_readText_563 : decode cX5_readText 563 = .ok (.iconst 1, 1) := dk_4 (dk_at dksX5_readText_24 0 rfl rfl)
theorem dX5_readText_564 : decode cX5_readText 564 = .ok (.if_icmp .gt 10, 3) := dk_163 0 10 (dk_at dksX5_readText_24 1 rfl rfl)
theorem dX5_readText_567 : decode cX5_readText 567 = .ok (.aload_n 0, 1) := dk_42 (dk_at dksX5_readText_24 4 rfl rfl)
theorem dX5_readText_568 : decode cX5_readText 568 = .ok (.getfield 156, 3) := dk_180 0 156 (dk_at dksX5_readText_24 5 rfl rfl)
theorem dX5_readText_571 : decode cX5_readText 571 = .ok (.ifCond .le 8, 3) := dk_158 0 8 (dk_at dksX5_readText_24 8 rfl rfl)
theorem dX5_readText_574 : decode cX5_readText 574 = .ok (.aload_n 0, 1) := dk_42 (dk_at dksX5_readText_24 11 rfl rfl)
theorem dX5_readText_575 : decode cX5_readText 575 = .ok (.getfield 147, 3) := dk_180 0 147 (dk_at dksX5_readText_24 12 rfl rfl)
theorem dX5_readText_578 : decode cX5_readText 578 = .ok (.ireturn, 1) := dk_172 (dk_at dksX5_readText_24 15 rfl rfl)
theorem dX5_readText_579 : decode cX5_readText 579 = .ok (.aload_n 0, 1) := dk_42 (dk_at dksX5_readText_24 16 rfl rfl)
theorem dX5_readText_580 : decode cX5_readText 580 = .ok (.invokevirtual 173, 3) := dk_182 0 173 (dk_at dksX5_readText_24 17 rfl rfl)
theorem dX5_readText_583 : decode cX5_readText 583 = .ok (.bipush (-9), 2) := dk_16 247 (dk_at dksX5_readText_24 20 rfl rfl)
theorem dX5_readText_585 : decode cX5_readText 585 = .ok (.ireturn, 1) := dk_172 (dk_at dksX5_readText_24 22 rfl rfl)
abbrev cX5_openRow : ByteArray := prog_15_method_35_code
def yX5_openRow : MethodName := ⟨RX5, "openRow", "(I)V"⟩
def dkwX5_openRow_2 : List UInt8 := [180, 0, 156, 3, 84, 42, 180, 0, 53, 42, 180, 0, 156, 3, 84, 177]
abbrev dktX5_openRow_2 : List UInt8 := dkwX5_openRow_2 ++ []
def dkwX5_openRow_1 : List UInt8 := [42, 180, 0, 156, 16, 247, 79, 42, 180, 0, 47, 42, 180, 0, 156, 3, 84, 42, 180, 0, 50, 42]
abbrev dktX5_openRow_1 : List UInt8 := dkwX5_openRow_1 ++ dktX5_openRow_2
def dkwX5_openRow_0 : List UInt8 := [42, 89, 180, 0, 156, 4, 96, 181, 0, 156, 42, 180, 0, 38, 42, 180, 0, 156, 27, 79, 42, 180, 0, 41]
abbrev dktX5_openRow_0 : List UInt8 := dkwX5_openRow_0 ++ dktX5_openRow_1
theorem dksX5_openRow_0 : cX5_openRow.data.toList.drop 0 = dktX5_openRow_0 := by decide +kernel
theorem dksX5_openRow_1 : cX5_openRow.data.toList.drop 24 = dktX5_openRow_1 := dk_seg dksX5_openRow_0 24 rfl rfl
theorem dksX5_openRow_2 : cX5_openRow.data.toList.drop 46 = dktX5_openRow_2 := dk_seg dksX5_openRow_1 22 rfl rfl
theorem dX5_openRow_0 : decode cX5_openRow 0 = .ok (.aload_n 0, 1) := dk_42 (dk_at dksX5_openRow_0 0 rfl rfl)
theorem dX5_openRow_1 : decode cX5_openRow 1 = .ok (.dup, 1) := dk_89 (dk_at dksX5_openRow_0 1 rfl rfl)
theorem dX5_openRow_2 : decode cX5_openRow 2 = .ok (.getfield 156, 3) := dk_180 0 156 (dk_at dksX5_openRow_0 2 rfl rfl)
theorem dX5_openRow_5 : decode cX5_openRow 5 = .ok (.iconst 1, 1) := dk_4 (dk_at dksX5_openRow_0 5 rfl rfl)
theorem dX5_openRow_6 : decode cX5_openRow 6 = .ok (.iadd, 1) := dk_96 (dk_at dksX5_openRow_0 6 rfl rfl)
theorem dX5_openRow_7 : decode cX5_openRow 7 = .ok (.putfield 156, 3) := dk_181 0 156 (dk_at dksX5_openRow_0 7 rfl rfl)
theorem dX5_openRow_10 : decode cX5_openRow 10 = .ok (.aload_n 0, 1) := dk_42 (dk_at dksX5_openRow_0 10 rfl rfl)
theorem dX5_openRow_11 : decode cX5_openRow 11 = .ok (.getfield 38, 3) := dk_180 0 38 (dk_at dksX5_openRow_0 11 rfl rfl)
theorem dX5_openRow_14 : decode cX5_openRow 14 = .ok (.aload_n 0, 1) := dk_42 (dk_at dksX5_openRow_0 14 rfl rfl)
theorem dX5_openRow_15 : decode cX5_openRow 15 = .ok (.getfield 156, 3) := dk_180 0 156 (dk_at dksX5_openRow_0 15 rfl rfl)
theorem dX5_openRow_18 : decode cX5_openRow 18 = .ok (.iload_n 1, 1) := dk_27 (dk_at dksX5_openRow_0 18 rfl rfl)
theorem dX5_openRow_19 : decode cX5_openRow 19 = .ok (.iastore, 1) := dk_79 (dk_at dksX5_openRow_0 19 rfl rfl)
theorem dX5_openRow_20 : decode cX5_openRow 20 = .ok (.aload_n 0, 1) := dk_42 (dk_at dksX5_openRow_0 20 rfl rfl)
theorem dX5_openRow_21 : decode cX5_openRow 21 = .ok (.getfield 41, 3) := dk_180 0 41 (dk_at dksX5_openRow_0 21 rfl rfl)
theorem dX5_openRow_24 : decode cX5_openRow 24 = .ok (.aload_n 0, 1) := dk_42 (dk_at dksX5_openRow_1 0 rfl rfl)
theorem dX5_openRow_25 : decode cX5_openRow 25 = .ok (.getfield 156, 3) := dk_180 0 156 (dk_at dksX5_openRow_1 1 rfl rfl)
theorem dX5_openRow_28 : decode cX5_openRow 28 = .ok (.bipush (-9), 2) := dk_16 247 (dk_at dksX5_openRow_1 4 rfl rfl)
theorem dX5_openRow_30 : decode cX5_openRow 30 = .ok (.iastore, 1) := dk_79 (dk_at dksX5_openRow_1 6 rfl rfl)
theorem dX5_openRow_31 : decode cX5_openRow 31 = .ok (.aload_n 0, 1) := dk_42 (dk_at dksX5_openRow_1 7 rfl rfl)
theorem dX5_openRow_32 : decode cX5_openRow 32 = .ok (.getfield 47, 3) := dk_180 0 47 (dk_at dksX5_openRow_1 8 rfl rfl)
theorem dX5_openRow_35 : decode cX5_openRow 35 = .ok (.aload_n 0, 1) := dk_42 (dk_at dksX5_openRow_1 11 rfl rfl)
theorem dX5_openRow_36 : decode cX5_openRow 36 = .ok (.getfield 156, 3) := dk_180 0 156 (dk_at dksX5_openRow_1 12 rfl rfl)
theorem dX5_openRow_39 : decode cX5_openRow 39 = .ok (.iconst 0, 1) := dk_3 (dk_at dksX5_openRow_1 15 rfl rfl)
theorem dX5_openRow_40 : decode cX5_openRow 40 = .ok (.bastore, 1) := dk_84 (dk_at dksX5_openRow_1 16 rfl rfl)
theorem dX5_openRow_41 : decode cX5_openRow 41 = .ok (.aload_n 0, 1) := dk_42 (dk_at dksX5_openRow_1 17 rfl rfl)
theorem dX5_openRow_42 : decode cX5_openRow 42 = .ok (.getfield 50, 3) := dk_180 0 50 (dk_at dksX5_openRow_1 18 rfl rfl)
theorem dX5_openRow_45 : decode cX5_openRow 45 = .ok (.aload_n 0, 1) := dk_42 (dk_at dksX5_openRow_1 21 rfl rfl)
theorem dX5_openRow_46 : decode cX5_openRow 46 = .ok (.getfield 156, 3) := dk_180 0 156 (dk_at dksX5_openRow_2 0 rfl rfl)
theorem dX5_openRow_49 : decode cX5_openRow 49 = .ok (.iconst 0, 1) := dk_3 (dk_at dksX5_openRow_2 3 rfl rfl)
theorem dX5_openRow_50 : decode cX5_openRow 50 = .ok (.bastore, 1) := dk_84 (dk_at dksX5_openRow_2 4 rfl rfl)
theorem dX5_openRow_51 : decode cX5_openRow 51 = .ok (.aload_n 0, 1) := dk_42 (dk_at dksX5_openRow_2 5 rfl rfl)
theorem dX5_openRow_52 : decode cX5_openRow 52 = .ok (.getfield 53, 3) := dk_180 0 53 (dk_at dksX5_openRow_2 6 rfl rfl)
theorem dX5_openRow_55 : decode cX5_openRow 55 = .ok (.aload_n 0, 1) := dk_42 (dk_at dksX5_openRow_2 9 rfl rfl)
theorem dX5_openRow_56 : decode cX5_openRow 56 = .ok (.getfield 156, 3) := dk_180 0 156 (dk_at dksX5_openRow_2 10 rfl rfl)
theorem dX5_openRow_59 : decode cX5_openRow 59 = .ok (.iconst 0, 1) := dk_3 (dk_at dksX5_openRow_2 13 rfl rfl)
theorem dX5_openRow_60 : decode cX5_openRow 60 = .ok (.bastore, 1) := dk_84 (dk_at dksX5_openRow_2 14 rfl rfl)
theorem dX5_openRow_61 : decode cX5_openRow 61 = .ok (.return_, 1) := dk_177 (dk_at dksX5_openRow_2 15 rfl rfl)
abbrev cX5_isLetter : ByteArray := prog_15_method_6_code
def yX5_isLetter : MethodName := ⟨RX5, "isLetter", "(I)Z"⟩
def dkwX5_isLetter_1 : List UInt8 := [3, 172]
abbrev dktX5_isLetter_1 : List UInt8 := dkwX5_isLetter_1 ++ []
def dkwX5_isLetter_0 : List UInt8 := [26, 133, 20, 0, 75, 20, 0, 77, 184, 0, 79, 153, 0, 13, 26, 16, 114, 159, 0, 7, 4, 167, 0, 4]
abbrev dktX5_isLetter_0 : List UInt8 := dkwX5_isLetter_0 ++ dktX5_isLetter_1
theorem dksX5_isLetter_0 : cX5_isLetter.data.toList.drop 0 = dktX5_isLetter_0 := by decide +kernel
theorem dksX5_isLetter_1 : cX5_isLetter.data.toList.drop 24 = dktX5_isLetter_1 := dk_seg dksX5_isLetter_0 24 rfl rfl
theorem dX5_isLetter_0 : decode cX5_isLetter 0 = .ok (.iload_n 0, 1) := dk_26 (dk_at dksX5_isLetter_0 0 rfl rfl)
theorem dX5_isLetter_1 : decode cX5_isLetter 1 = .ok (.i2l, 1) := dk_133 (dk_at dksX5_isLetter_0 1 rfl rfl)
theorem dX5_isLetter_2 : decode cX5_isLetter 2 = .ok (.ldc2_w 75, 3) := dk_20 0 75 (dk_at dksX5_isLetter_0 2 rfl rfl)
theorem dX5_isLetter_5 : decode cX5_isLetter 5 = .ok (.ldc2_w 77, 3) := dk_20 0 77 (dk_at dksX5_isLetter_0 5 rfl rfl)
theorem dX5_isLetter_8 : decode cX5_isLetter 8 = .ok (.invokestatic 79, 3) := dk_184 0 79 (dk_at dksX5_isLetter_0 8 rfl rfl)
theorem dX5_isLetter_11 : decode cX5_isLetter 11 = .ok (.ifCond .eq 13, 3) := dk_153 0 13 (dk_at dksX5_isLetter_0 11 rfl rfl)
theorem dX5_isLetter_14 : decode cX5_isLetter 14 = .ok (.iload_n 0, 1) := dk_26 (dk_at dksX5_isLetter_0 14 rfl rfl)
theorem dX5_isLetter_15 : decode cX5_isLetter 15 = .ok (.bipush 114, 2) := dk_16 114 (dk_at dksX5_isLetter_0 15 rfl rfl)
theorem dX5_isLetter_17 : decode cX5_isLetter 17 = .ok (.if_icmp .eq 7, 3) := dk_159 0 7 (dk_at dksX5_isLetter_0 17 rfl rfl)
theorem dX5_isLetter_20 : decode cX5_isLetter 20 = .ok (.iconst 1, 1) := dk_4 (dk_at dksX5_isLetter_0 20 rfl rfl)
theorem dX5_isLetter_21 : decode cX5_isLetter 21 = .ok (.goto 4, 3) := dk_167 0 4 (dk_at dksX5_isLetter_0 21 rfl rfl)
theorem dX5_isLetter_24 : decode cX5_isLetter 24 = .ok (.iconst 0, 1) := dk_3 (dk_at dksX5_isLetter_1 0 rfl rfl)
theorem dX5_isLetter_25 : decode cX5_isLetter 25 = .ok (.ireturn, 1) := dk_172 (dk_at dksX5_isLetter_1 1 rfl rfl)
abbrev cX5_isDigit : ByteArray := prog_15_method_7_code
def yX5_isDigit : MethodName := ⟨RX5, "isDigit", "(I)Z"⟩
def dkwX5_isDigit_0 : List UInt8 := [26, 133, 20, 0, 83, 20, 0, 85, 184, 0, 79, 172]
abbrev dktX5_isDigit_0 : List UInt8 := dkwX5_isDigit_0 ++ []
theorem dksX5_isDigit_0 : cX5_isDigit.data.toList.drop 0 = dktX5_isDigit_0 := by decide +kernel
theorem dX5_isDigit_0 : decode cX5_isDigit 0 = .ok (.iload_n 0, 1) := dk_26 (dk_at dksX5_isDigit_0 0 rfl rfl)
theorem dX5_isDigit_1 : decode cX5_isDigit 1 = .ok (.i2l, 1) := dk_133 (dk_at dksX5_isDigit_0 1 rfl rfl)
theorem dX5_isDigit_2 : decode cX5_isDigit 2 = .ok (.ldc2_w 83, 3) := dk_20 0 83 (dk_at dksX5_isDigit_0 2 rfl rfl)
theorem dX5_isDigit_5 : decode cX5_isDigit 5 = .ok (.ldc2_w 85, 3) := dk_20 0 85 (dk_at dksX5_isDigit_0 5 rfl rfl)
theorem dX5_isDigit_8 : decode cX5_isDigit 8 = .ok (.invokestatic 79, 3) := dk_184 0 79 (dk_at dksX5_isDigit_0 8 rfl rfl)
theorem dX5_isDigit_11 : decode cX5_isDigit 11 = .ok (.ireturn, 1) := dk_172 (dk_at dksX5_isDigit_0 11 rfl rfl)
abbrev cX5_isMark : ByteArray := prog_15_method_8_code
def yX5_isMark : MethodName := ⟨RX5, "isMark", "(I)Z"⟩
def dkwX5_isMark_1 : List UInt8 := [26, 16, 44, 159, 0, 9, 26, 16, 46, 160, 0, 7, 4, 167, 0, 4, 3, 172]
abbrev dktX5_isMark_1 : List UInt8 := dkwX5_isMark_1 ++ []
def dkwX5_isMark_0 : List UInt8 := [26, 16, 43, 159, 0, 33, 26, 16, 45, 159, 0, 27, 26, 16, 42, 159, 0, 21, 26, 16, 61, 159, 0, 15]
abbrev dktX5_isMark_0 : List UInt8 := dkwX5_isMark_0 ++ dktX5_isMark_1
theorem dksX5_isMark_0 : cX5_isMark.data.toList.drop 0 = dktX5_isMark_0 := by decide +kernel
theorem dksX5_isMark_1 : cX5_isMark.data.toList.drop 24 = dktX5_isMark_1 := dk_seg dksX5_isMark_0 24 rfl rfl
theorem dX5_isMark_0 : decode cX5_isMark 0 = .ok (.iload_n 0, 1) := dk_26 (dk_at dksX5_isMark_0 0 rfl rfl)
theorem dX5_isMark_1 : decode cX5_isMark 1 = .ok (.bipush 43, 2) := dk_16 43 (dk_at dksX5_isMark_0 1 rfl rfl)
theorem dX5_isMark_3 : decode cX5_isMark 3 = .ok (.if_icmp .eq 33, 3) := dk_159 0 33 (dk_at dksX5_isMark_0 3 rfl rfl)
theorem dX5_isMark_6 : decode cX5_isMark 6 = .ok (.iload_n 0, 1) := dk_26 (dk_at dksX5_isMark_0 6 rfl rfl)
theorem dX5_isMark_7 : decode cX5_isMark 7 = .ok (.bipush 45, 2) := dk_16 45 (dk_at dksX5_isMark_0 7 rfl rfl)
theorem dX5_isMark_9 : decode cX5_isMark 9 = .ok (.if_icmp .eq 27, 3) := dk_159 0 27 (dk_at dksX5_isMark_0 9 rfl rfl)
theorem dX5_isMark_12 : decode cX5_isMark 12 = .ok (.iload_n 0, 1) := dk_26 (dk_at dksX5_isMark_0 12 rfl rfl)
theorem dX5_isMark_13 : decode cX5_isMark 13 = .ok (.bipush 42, 2) := dk_16 42 (dk_at dksX5_isMark_0 13 rfl rfl)
theorem dX5_isMark_15 : decode cX5_isMark 15 = .ok (.if_icmp .eq 21, 3) := dk_159 0 21 (dk_at dksX5_isMark_0 15 rfl rfl)
theorem dX5_isMark_18 : decode cX5_isMark 18 = .ok (.iload_n 0, 1) := dk_26 (dk_at dksX5_isMark_0 18 rfl rfl)
theorem dX5_isMark_19 : decode cX5_isMark 19 = .ok (.bipush 61, 2) := dk_16 61 (dk_at dksX5_isMark_0 19 rfl rfl)
theorem dX5_isMark_21 : decode cX5_isMark 21 = .ok (.if_icmp .eq 15, 3) := dk_159 0 15 (dk_at dksX5_isMark_0 21 rfl rfl)
theorem dX5_isMark_24 : decode cX5_isMark 24 = .ok (.iload_n 0, 1) := dk_26 (dk_at dksX5_isMark_1 0 rfl rfl)
theorem dX5_isMark_25 : decode cX5_isMark 25 = .ok (.bipush 44, 2) := dk_16 44 (dk_at dksX5_isMark_1 1 rfl rfl)
theorem dX5_isMark_27 : decode cX5_isMark 27 = .ok (.if_icmp .eq 9, 3) := dk_159 0 9 (dk_at dksX5_isMark_1 3 rfl rfl)
theorem dX5_isMark_30 : decode cX5_isMark 30 = .ok (.iload_n 0, 1) := dk_26 (dk_at dksX5_isMark_1 6 rfl rfl)
theorem dX5_isMark_31 : decode cX5_isMark 31 = .ok (.bipush 46, 2) := dk_16 46 (dk_at dksX5_isMark_1 7 rfl rfl)
theorem dX5_isMark_33 : decode cX5_isMark 33 = .ok (.if_icmp .ne 7, 3) := dk_160 0 7 (dk_at dksX5_isMark_1 9 rfl rfl)
theorem dX5_isMark_36 : decode cX5_isMark 36 = .ok (.iconst 1, 1) := dk_4 (dk_at dksX5_isMark_1 12 rfl rfl)
theorem dX5_isMark_37 : decode cX5_isMark 37 = .ok (.goto 4, 3) := dk_167 0 4 (dk_at dksX5_isMark_1 13 rfl rfl)
theorem dX5_isMark_40 : decode cX5_isMark 40 = .ok (.iconst 0, 1) := dk_3 (dk_at dksX5_isMark_1 16 rfl rfl)
theorem dX5_isMark_41 : decode cX5_isMark 41 = .ok (.ireturn, 1) := dk_172 (dk_at dksX5_isMark_1 17 rfl rfl)
abbrev cX5_closeChain : ByteArray := prog_15_method_34_code
def yX5_closeChain : MethodName := ⟨RX5, "closeChain", "()V"⟩
def dkwX5_closeChain_2 : List UInt8 := [180, 0, 156, 16, 247, 79, 177]
abbrev dktX5_closeChain_2 : List UInt8 := dkwX5_closeChain_2 ++ []
def dkwX5_closeChain_1 : List UInt8 := [180, 0, 50, 42, 180, 0, 156, 3, 84, 42, 180, 0, 47, 42, 180, 0, 156, 3, 84, 42, 180, 0, 41, 42]
abbrev dktX5_closeChain_1 : List UInt8 := dkwX5_closeChain_1 ++ dktX5_closeChain_2
def dkwX5_closeChain_0 : List UInt8 := [42, 180, 0, 50, 42, 180, 0, 156, 51, 153, 0, 13, 42, 182, 0, 159, 42, 16, 245, 182, 0, 162, 42]
abbrev dktX5_closeChain_0 : List UInt8 := dkwX5_closeChain_0 ++ dktX5_closeChain_1
theorem dksX5_closeChain_0 : cX5_closeChain.data.toList.drop 0 = dktX5_closeChain_0 := by decide +kernel
theorem dksX5_closeChain_1 : cX5_closeChain.data.toList.drop 23 = dktX5_closeChain_1 := dk_seg dksX5_closeChain_0 23 rfl rfl
theorem dksX5_closeChain_2 : cX5_closeChain.data.toList.drop 47 = dktX5_closeChain_2 := dk_seg dksX5_closeChain_1 24 rfl rfl
theorem dX5_closeChain_0 : decode cX5_closeChain 0 = .ok (.aload_n 0, 1) := dk_42 (dk_at dksX5_closeChain_0 0 rfl rfl)
theorem dX5_closeChain_1 : decode cX5_closeChain 1 = .ok (.getfield 50, 3) := dk_180 0 50 (dk_at dksX5_closeChain_0 1 rfl rfl)
theorem dX5_closeChain_4 : decode cX5_closeChain 4 = .ok (.aload_n 0, 1) := dk_42 (dk_at dksX5_closeChain_0 4 rfl rfl)
theorem dX5_closeChain_5 : decode cX5_closeChain 5 = .ok (.getfield 156, 3) := dk_180 0 156 (dk_at dksX5_closeChain_0 5 rfl rfl)
theorem dX5_closeChain_8 : decode cX5_closeChain 8 = .ok (.baload, 1) := dk_51 (dk_at dksX5_closeChain_0 8 rfl rfl)
theorem dX5_closeChain_9 : decode cX5_closeChain 9 = .ok (.ifCond .eq 13, 3) := dk_153 0 13 (dk_at dksX5_closeChain_0 9 rfl rfl)
theorem dX5_closeChain_12 : decode cX5_closeChain 12 = .ok (.aload_n 0, 1) := dk_42 (dk_at dksX5_closeChain_0 12 rfl rfl)
theorem dX5_closeChain_13 : decode cX5_closeChain 13 = .ok (.invokevirtual 159, 3) := dk_182 0 159 (dk_at dksX5_closeChain_0 13 rfl rfl)
theorem dX5_closeChain_16 : decode cX5_closeChain 16 = .ok (.aload_n 0, 1) := dk_42 (dk_at dksX5_closeChain_0 16 rfl rfl)
theorem dX5_closeChain_17 : decode cX5_closeChain 17 = .ok (.bipush (-11), 2) := dk_16 245 (dk_at dksX5_closeChain_0 17 rfl rfl)
theorem dX5_closeChain_19 : decode cX5_closeChain 19 = .ok (.invokevirtual 162, 3) := dk_182 0 162 (dk_at dksX5_closeChain_0 19 rfl rfl)
theorem dX5_closeChain_22 : decode cX5_closeChain 22 = .ok (.aload_n 0, 1) := dk_42 (dk_at dksX5_closeChain_0 22 rfl rfl)
theorem dX5_closeChain_23 : decode cX5_closeChain 23 = .ok (.getfield 50, 3) := dk_180 0 50 (dk_at dksX5_closeChain_1 0 rfl rfl)
theorem dX5_closeChain_26 : decode cX5_closeChain 26 = .ok (.aload_n 0, 1) := dk_42 (dk_at dksX5_closeChain_1 3 rfl rfl)
theorem dX5_closeChain_27 : decode cX5_closeChain 27 = .ok (.getfield 156, 3) := dk_180 0 156 (dk_at dksX5_closeChain_1 4 rfl rfl)
theorem dX5_closeChain_30 : decode cX5_closeChain 30 = .ok (.iconst 0, 1) := dk_3 (dk_at dksX5_closeChain_1 7 rfl rfl)
theorem dX5_closeChain_31 : decode cX5_closeChain 31 = .ok (.bastore, 1) := dk_84 (dk_at dksX5_closeChain_1 8 rfl rfl)
theorem dX5_closeChain_32 : decode cX5_closeChain 32 = .ok (.aload_n 0, 1) := dk_42 (dk_at dksX5_closeChain_1 9 rfl rfl)
theorem dX5_closeChain_33 : decode cX5_closeChain 33 = .ok (.getfield 47, 3) := dk_180 0 47 (dk_at dksX5_closeChain_1 10 rfl rfl)
theorem dX5_closeChain_36 : decode cX5_closeChain 36 = .ok (.aload_n 0, 1) := dk_42 (dk_at dksX5_closeChain_1 13 rfl rfl)
theorem dX5_closeChain_37 : decode cX5_closeChain 37 = .ok (.getfield 156, 3) := dk_180 0 156 (dk_at dksX5_closeChain_1 14 rfl rfl)
theorem dX5_closeChain_40 : decode cX5_closeChain 40 = .ok (.iconst 0, 1) := dk_3 (dk_at dksX5_closeChain_1 17 rfl rfl)
theorem dX5_closeChain_41 : decode cX5_closeChain 41 = .ok (.bastore, 1) := dk_84 (dk_at dksX5_closeChain_1 18 rfl rfl)
theorem dX5_closeChain_42 : decode cX5_closeChain 42 = .ok (.aload_n 0, 1) := dk_42 (dk_at dksX5_closeChain_1 19 rfl rfl)
theorem dX5_closeChain_43 : decode cX5_closeChain 43 = .ok (.getfield 41, 3) := dk_180 0 41 (dk_at dksX5_closeChain_1 20 rfl rfl)
theorem dX5_closeChain_46 : decode cX5_closeChain 46 = .ok (.aload_n 0, 1) := dk_42 (dk_at dksX5_closeChain_1 23 rfl rfl)
theorem dX5_closeChain_47 : decode cX5_closeChain 47 = .ok (.getfield 156, 3) := dk_180 0 156 (dk_at dksX5_closeChain_2 0 rfl rfl)
theorem dX5_closeChain_50 : decode cX5_closeChain 50 = .ok (.bipush (-9), 2) := dk_16 247 (dk_at dksX5_closeChain_2 3 rfl rfl)
theorem dX5_closeChain_52 : decode cX5_closeChain 52 = .ok (.iastore, 1) := dk_79 (dk_at dksX5_closeChain_2 5 rfl rfl)
theorem dX5_closeChain_53 : decode cX5_closeChain 53 = .ok (.return_, 1) := dk_177 (dk_at dksX5_closeChain_2 6 rfl rfl)
abbrev cX5_unwrap : ByteArray := prog_15_method_33_code
def yX5_unwrap : MethodName := ⟨RX5, "unwrap", "()V"⟩
def dkwX5_unwrap_3 : List UInt8 := [181, 0, 153, 42, 180, 0, 47, 42, 180, 0, 156, 3, 84, 177]
abbrev dktX5_unwrap_3 : List UInt8 := dkwX5_unwrap_3 ++ []
def dkwX5_unwrap_2 : List UInt8 := [42, 180, 0, 35, 27, 4, 96, 46, 79, 132, 1, 1, 167, 255, 229, 42, 89, 180, 0, 153, 4, 100]
abbrev dktX5_unwrap_2 : List UInt8 := dkwX5_unwrap_2 ++ dktX5_unwrap_3
def dkwX5_unwrap_1 : List UInt8 := [180, 0, 44, 42, 180, 0, 156, 46, 60, 27, 4, 96, 42, 180, 0, 153, 162, 0, 23, 42, 180, 0, 35, 27]
abbrev dktX5_unwrap_1 : List UInt8 := dkwX5_unwrap_1 ++ dktX5_unwrap_2
def dkwX5_unwrap_0 : List UInt8 := [42, 180, 0, 47, 42, 180, 0, 156, 51, 153, 0, 63, 42, 89, 180, 0, 153, 4, 100, 181, 0, 153, 42]
abbrev dktX5_unwrap_0 : List UInt8 := dkwX5_unwrap_0 ++ dktX5_unwrap_1
theorem dksX5_unwrap_0 : cX5_unwrap.data.toList.drop 0 = dktX5_unwrap_0 := by decide +kernel
theorem dksX5_unwrap_1 : cX5_unwrap.data.toList.drop 23 = dktX5_unwrap_1 := dk_seg dksX5_unwrap_0 23 rfl rfl
theorem dksX5_unwrap_2 : cX5_unwrap.data.toList.drop 47 = dktX5_unwrap_2 := dk_seg dksX5_unwrap_1 24 rfl rfl
theorem dksX5_unwrap_3 : cX5_unwrap.data.toList.drop 69 = dktX5_unwrap_3 := dk_seg dksX5_unwrap_2 22 rfl rfl
theorem dX5_unwrap_0 : decode cX5_unwrap 0 = .ok (.aload_n 0, 1) := dk_42 (dk_at dksX5_unwrap_0 0 rfl rfl)
theorem dX5_unwrap_1 : decode cX5_unwrap 1 = .ok (.getfield 47, 3) := dk_180 0 47 (dk_at dksX5_unwrap_0 1 rfl rfl)
theorem dX5_unwrap_4 : decode cX5_unwrap 4 = .ok (.aload_n 0, 1) := dk_42 (dk_at dksX5_unwrap_0 4 rfl rfl)
theorem dX5_unwrap_5 : decode cX5_unwrap 5 = .ok (.getfield 156, 3) := dk_180 0 156 (dk_at dksX5_unwrap_0 5 rfl rfl)
theorem dX5_unwrap_8 : decode cX5_unwrap 8 = .ok (.baload, 1) := dk_51 (dk_at dksX5_unwrap_0 8 rfl rfl)
theorem dX5_unwrap_9 : decode cX5_unwrap 9 = .ok (.ifCond .eq 63, 3) := dk_153 0 63 (dk_at dksX5_unwrap_0 9 rfl rfl)
theorem dX5_unwrap_12 : decode cX5_unwrap 12 = .ok (.aload_n 0, 1) := dk_42 (dk_at dksX5_unwrap_0 12 rfl rfl)
theorem dX5_unwrap_13 : decode cX5_unwrap 13 = .ok (.dup, 1) := dk_89 (dk_at dksX5_unwrap_0 13 rfl rfl)
theorem dX5_unwrap_14 : decode cX5_unwrap 14 = .ok (.getfield 153, 3) := dk_180 0 153 (dk_at dksX5_unwrap_0 14 rfl rfl)
theorem dX5_unwrap_17 : decode cX5_unwrap 17 = .ok (.iconst 1, 1) := dk_4 (dk_at dksX5_unwrap_0 17 rfl rfl)
theorem dX5_unwrap_18 : decode cX5_unwrap 18 = .ok (.isub, 1) := dk_100 (dk_at dksX5_unwrap_0 18 rfl rfl)
theorem dX5_unwrap_19 : decode cX5_unwrap 19 = .ok (.putfield 153, 3) := dk_181 0 153 (dk_at dksX5_unwrap_0 19 rfl rfl)
theorem dX5_unwrap_22 : decode cX5_unwrap 22 = .ok (.aload_n 0, 1) := dk_42 (dk_at dksX5_unwrap_0 22 rfl rfl)
theorem dX5_unwrap_23 : decode cX5_unwrap 23 = .ok (.getfield 44, 3) := dk_180 0 44 (dk_at dksX5_unwrap_1 0 rfl rfl)
theorem dX5_unwrap_26 : decode cX5_unwrap 26 = .ok (.aload_n 0, 1) := dk_42 (dk_at dksX5_unwrap_1 3 rfl rfl)
theorem dX5_unwrap_27 : decode cX5_unwrap 27 = .ok (.getfield 156, 3) := dk_180 0 156 (dk_at dksX5_unwrap_1 4 rfl rfl)
theorem dX5_unwrap_30 : decode cX5_unwrap 30 = .ok (.iaload, 1) := dk_46 (dk_at dksX5_unwrap_1 7 rfl rfl)
theorem dX5_unwrap_31 : decode cX5_unwrap 31 = .ok (.istore_n 1, 1) := dk_60 (dk_at dksX5_unwrap_1 8 rfl rfl)
theorem dX5_unwrap_32 : decode cX5_unwrap 32 = .ok (.iload_n 1, 1) := dk_27 (dk_at dksX5_unwrap_1 9 rfl rfl)
theorem dX5_unwrap_33 : decode cX5_unwrap 33 = .ok (.iconst 1, 1) := dk_4 (dk_at dksX5_unwrap_1 10 rfl rfl)
theorem dX5_unwrap_34 : decode cX5_unwrap 34 = .ok (.iadd, 1) := dk_96 (dk_at dksX5_unwrap_1 11 rfl rfl)
theorem dX5_unwrap_35 : decode cX5_unwrap 35 = .ok (.aload_n 0, 1) := dk_42 (dk_at dksX5_unwrap_1 12 rfl rfl)
theorem dX5_unwrap_36 : decode cX5_unwrap 36 = .ok (.getfield 153, 3) := dk_180 0 153 (dk_at dksX5_unwrap_1 13 rfl rfl)
theorem dX5_unwrap_39 : decode cX5_unwrap 39 = .ok (.if_icmp .ge 23, 3) := dk_162 0 23 (dk_at dksX5_unwrap_1 16 rfl rfl)
theorem dX5_unwrap_42 : decode cX5_unwrap 42 = .ok (.aload_n 0, 1) := dk_42 (dk_at dksX5_unwrap_1 19 rfl rfl)
theorem dX5_unwrap_43 : decode cX5_unwrap 43 = .ok (.getfield 35, 3) := dk_180 0 35 (dk_at dksX5_unwrap_1 20 rfl rfl)
theorem dX5_unwrap_46 : decode cX5_unwrap 46 = .ok (.iload_n 1, 1) := dk_27 (dk_at dksX5_unwrap_1 23 rfl rfl)
theorem dX5_unwrap_47 : decode cX5_unwrap 47 = .ok (.aload_n 0, 1) := dk_42 (dk_at dksX5_unwrap_2 0 rfl rfl)
theorem dX5_unwrap_48 : decode cX5_unwrap 48 = .ok (.getfield 35, 3) := dk_180 0 35 (dk_at dksX5_unwrap_2 1 rfl rfl)
theorem dX5_unwrap_51 : decode cX5_unwrap 51 = .ok (.iload_n 1, 1) := dk_27 (dk_at dksX5_unwrap_2 4 rfl rfl)
theorem dX5_unwrap_52 : decode cX5_unwrap 52 = .ok (.iconst 1, 1) := dk_4 (dk_at dksX5_unwrap_2 5 rfl rfl)
theorem dX5_unwrap_53 : decode cX5_unwrap 53 = .ok (.iadd, 1) := dk_96 (dk_at dksX5_unwrap_2 6 rfl rfl)
theorem dX5_unwrap_54 : decode cX5_unwrap 54 = .ok (.iaload, 1) := dk_46 (dk_at dksX5_unwrap_2 7 rfl rfl)
theorem dX5_unwrap_55 : decode cX5_unwrap 55 = .ok (.iastore, 1) := dk_79 (dk_at dksX5_unwrap_2 8 rfl rfl)
theorem dX5_unwrap_56 : decode cX5_unwrap 56 = .ok (.iinc 1 1, 3) := dk_132 1 1 (dk_at dksX5_unwrap_2 9 rfl rfl)
theorem dX5_unwrap_59 : decode cX5_unwrap 59 = .ok (.goto (-27), 3) := dk_167 255 229 (dk_at dksX5_unwrap_2 12 rfl rfl)
theorem dX5_unwrap_62 : decode cX5_unwrap 62 = .ok (.aload_n 0, 1) := dk_42 (dk_at dksX5_unwrap_2 15 rfl rfl)
theorem dX5_unwrap_63 : decode cX5_unwrap 63 = .ok (.dup, 1) := dk_89 (dk_at dksX5_unwrap_2 16 rfl rfl)
theorem dX5_unwrap_64 : decode cX5_unwrap 64 = .ok (.getfield 153, 3) := dk_180 0 153 (dk_at dksX5_unwrap_2 17 rfl rfl)
theorem dX5_unwrap_67 : decode cX5_unwrap 67 = .ok (.iconst 1, 1) := dk_4 (dk_at dksX5_unwrap_2 20 rfl rfl)
theorem dX5_unwrap_68 : decode cX5_unwrap 68 = .ok (.isub, 1) := dk_100 (dk_at dksX5_unwrap_2 21 rfl rfl)
theorem dX5_unwrap_69 : decode cX5_unwrap 69 = .ok (.putfield 153, 3) := dk_181 0 153 (dk_at dksX5_unwrap_3 0 rfl rfl)
theorem dX5_unwrap_72 : decode cX5_unwrap 72 = .ok (.aload_n 0, 1) := dk_42 (dk_at dksX5_unwrap_3 3 rfl rfl)
theorem dX5_unwrap_73 : decode cX5_unwrap 73 = .ok (.getfield 47, 3) := dk_180 0 47 (dk_at dksX5_unwrap_3 4 rfl rfl)
theorem dX5_unwrap_76 : decode cX5_unwrap 76 = .ok (.aload_n 0, 1) := dk_42 (dk_at dksX5_unwrap_3 7 rfl rfl)
theorem dX5_unwrap_77 : decode cX5_unwrap 77 = .ok (.getfield 156, 3) := dk_180 0 156 (dk_at dksX5_unwrap_3 8 rfl rfl)
theorem dX5_unwrap_80 : decode cX5_unwrap 80 = .ok (.iconst 0, 1) := dk_3 (dk_at dksX5_unwrap_3 11 rfl rfl)
theorem dX5_unwrap_81 : decode cX5_unwrap 81 = .ok (.bastore, 1) := dk_84 (dk_at dksX5_unwrap_3 12 rfl rfl)
theorem dX5_unwrap_82 : decode cX5_unwrap 82 = .ok (.return_, 1) := dk_177 (dk_at dksX5_unwrap_3 13 rfl rfl)
abbrev cX5_add : ByteArray := prog_15_method_31_code
def yX5_add : MethodName := ⟨RX5, "add", "(I)V"⟩
def dkwX5_add_0 : List UInt8 := [42, 180, 0, 35, 42, 180, 0, 153, 27, 79, 42, 89, 180, 0, 153, 4, 96, 181, 0, 153, 177]
abbrev dktX5_add_0 : List UInt8 := dkwX5_add_0 ++ []
theorem dksX5_add_0 : cX5_add.data.toList.drop 0 = dktX5_add_0 := by decide +kernel
theorem dX5_add_0 : decode cX5_add 0 = .ok (.aload_n 0, 1) := dk_42 (dk_at dksX5_add_0 0 rfl rfl)
theorem dX5_add_1 : decode cX5_add 1 = .ok (.getfield 35, 3) := dk_180 0 35 (dk_at dksX5_add_0 1 rfl rfl)
theorem dX5_add_4 : decode cX5_add 4 = .ok (.aload_n 0, 1) := dk_42 (dk_at dksX5_add_0 4 rfl rfl)
theorem dX5_add_5 : decode cX5_add 5 = .ok (.getfield 153, 3) := dk_180 0 153 (dk_at dksX5_add_0 5 rfl rfl)
theorem dX5_add_8 : decode cX5_add 8 = .ok (.iload_n 1, 1) := dk_27 (dk_at dksX5_add_0 8 rfl rfl)
theorem dX5_add_9 : decode cX5_add 9 = .ok (.iastore, 1) := dk_79 (dk_at dksX5_add_0 9 rfl rfl)
theorem dX5_add_10 : decode cX5_add 10 = .ok (.aload_n 0, 1) := dk_42 (dk_at dksX5_add_0 10 rfl rfl)
theorem dX5_add_11 : decode cX5_add 11 = .ok (.dup, 1) := dk_89 (dk_at dksX5_add_0 11 rfl rfl)
theorem dX5_add_12 : decode cX5_add 12 = .ok (.getfield 153, 3) := dk_180 0 153 (dk_at dksX5_add_0 12 rfl rfl)
theorem dX5_add_15 : decode cX5_add 15 = .ok (.iconst 1, 1) := dk_4 (dk_at dksX5_add_0 15 rfl rfl)
theorem dX5_add_16 : decode cX5_add 16 = .ok (.iadd, 1) := dk_96 (dk_at dksX5_add_0 16 rfl rfl)
theorem dX5_add_17 : decode cX5_add 17 = .ok (.putfield 153, 3) := dk_181 0 153 (dk_at dksX5_add_0 17 rfl rfl)
theorem dX5_add_20 : decode cX5_add 20 = .ok (.return_, 1) := dk_177 (dk_at dksX5_add_0 20 rfl rfl)
abbrev cX5_line : ByteArray := prog_15_method_36_code
def yX5_line : MethodName := ⟨RX5, "line", "()V"⟩
def dkwX5_line_3 : List UInt8 := [180, 0, 153, 79, 177]
abbrev dktX5_line_3 : List UInt8 := dkwX5_line_3 ++ []
def dkwX5_line_2 : List UInt8 := [182, 0, 162, 42, 180, 0, 50, 42, 180, 0, 156, 4, 84, 42, 180, 0, 44, 42, 180, 0, 156, 42]
abbrev dktX5_line_2 : List UInt8 := dkwX5_line_2 ++ dktX5_line_3
def dkwX5_line_1 : List UInt8 := [167, 0, 7, 42, 182, 0, 159, 42, 42, 180, 0, 41, 42, 180, 0, 156, 46, 2, 182, 0, 166, 42, 16, 246]
abbrev dktX5_line_1 : List UInt8 := dkwX5_line_1 ++ dktX5_line_2
def dkwX5_line_0 : List UInt8 := [42, 180, 0, 50, 42, 180, 0, 156, 51, 153, 0, 16, 42, 182, 0, 159, 42, 16, 245, 182, 0, 162]
abbrev dktX5_line_0 : List UInt8 := dkwX5_line_0 ++ dktX5_line_1
theorem dksX5_line_0 : cX5_line.data.toList.drop 0 = dktX5_line_0 := by decide +kernel
theorem dksX5_line_1 : cX5_line.data.toList.drop 22 = dktX5_line_1 := dk_seg dksX5_line_0 22 rfl rfl
theorem dksX5_line_2 : cX5_line.data.toList.drop 46 = dktX5_line_2 := dk_seg dksX5_line_1 24 rfl rfl
theorem dksX5_line_3 : cX5_line.data.toList.drop 68 = dktX5_line_3 := dk_seg dksX5_line_2 22 rfl rfl
theorem dX5_line_0 : decode cX5_line 0 = .ok (.aload_n 0, 1) := dk_42 (dk_at dksX5_line_0 0 rfl rfl)
theorem dX5_line_1 : decode cX5_line 1 = .ok (.getfield 50, 3) := dk_180 0 50 (dk_at dksX5_line_0 1 rfl rfl)
theorem dX5_line_4 : decode cX5_line 4 = .ok (.aload_n 0, 1) := dk_42 (dk_at dksX5_line_0 4 rfl rfl)
theorem dX5_line_5 : decode cX5_line 5 = .ok (.getfield 156, 3) := dk_180 0 156 (dk_at dksX5_line_0 5 rfl rfl)
theorem dX5_line_8 : decode cX5_line 8 = .ok (.baload, 1) := dk_51 (dk_at dksX5_line_0 8 rfl rfl)
theorem dX5_line_9 : decode cX5_line 9 = .ok (.ifCond .eq 16, 3) := dk_153 0 16 (dk_at dksX5_line_0 9 rfl rfl)
theorem dX5_line_12 : decode cX5_line 12 = .ok (.aload_n 0, 1) := dk_42 (dk_at dksX5_line_0 12 rfl rfl)
theorem dX5_line_13 : decode cX5_line 13 = .ok (.invokevirtual 159, 3) := dk_182 0 159 (dk_at dksX5_line_0 13 rfl rfl)
theorem dX5_line_16 : decode cX5_line 16 = .ok (.aload_n 0, 1) := dk_42 (dk_at dksX5_line_0 16 rfl rfl)
theorem dX5_line_17 : decode cX5_line 17 = .ok (.bipush (-11), 2) := dk_16 245 (dk_at dksX5_line_0 17 rfl rfl)
theorem dX5_line_19 : decode cX5_line 19 = .ok (.invokevirtual 162, 3) := dk_182 0 162 (dk_at dksX5_line_0 19 rfl rfl)
theorem dX5_line_22 : decode cX5_line 22 = .ok (.goto 7, 3) := dk_167 0 7 (dk_at dksX5_line_1 0 rfl rfl)
theorem dX5_line_25 : decode cX5_line 25 = .ok (.aload_n 0, 1) := dk_42 (dk_at dksX5_line_1 3 rfl rfl)
theorem dX5_line_26 : decode cX5_line 26 = .ok (.invokevirtual 159, 3) := dk_182 0 159 (dk_at dksX5_line_1 4 rfl rfl)
theorem dX5_line_29 : decode cX5_line 29 = .ok (.aload_n 0, 1) := dk_42 (dk_at dksX5_line_1 7 rfl rfl)
theorem dX5_line_30 : decode cX5_line 30 = .ok (.aload_n 0, 1) := dk_42 (dk_at dksX5_line_1 8 rfl rfl)
theorem dX5_line_31 : decode cX5_line 31 = .ok (.getfield 41, 3) := dk_180 0 41 (dk_at dksX5_line_1 9 rfl rfl)
theorem dX5_line_34 : decode cX5_line 34 = .ok (.aload_n 0, 1) := dk_42 (dk_at dksX5_line_1 12 rfl rfl)
theorem dX5_line_35 : decode cX5_line 35 = .ok (.getfield 156, 3) := dk_180 0 156 (dk_at dksX5_line_1 13 rfl rfl)
theorem dX5_line_38 : decode cX5_line 38 = .ok (.iaload, 1) := dk_46 (dk_at dksX5_line_1 16 rfl rfl)
theorem dX5_line_39 : decode cX5_line 39 = .ok (.iconst (-1), 1) := dk_2 (dk_at dksX5_line_1 17 rfl rfl)
theorem dX5_line_40 : decode cX5_line 40 = .ok (.invokevirtual 166, 3) := dk_182 0 166 (dk_at dksX5_line_1 18 rfl rfl)
theorem dX5_line_43 : decode cX5_line 43 = .ok (.aload_n 0, 1) := dk_42 (dk_at dksX5_line_1 21 rfl rfl)
theorem dX5_line_44 : decode cX5_line 44 = .ok (.bipush (-10), 2) := dk_16 246 (dk_at dksX5_line_1 22 rfl rfl)
theorem dX5_line_46 : decode cX5_line 46 = .ok (.invokevirtual 162, 3) := dk_182 0 162 (dk_at dksX5_line_2 0 rfl rfl)
theorem dX5_line_49 : decode cX5_line 49 = .ok (.aload_n 0, 1) := dk_42 (dk_at dksX5_line_2 3 rfl rfl)
theorem dX5_line_50 : decode cX5_line 50 = .ok (.getfield 50, 3) := dk_180 0 50 (dk_at dksX5_line_2 4 rfl rfl)
theorem dX5_line_53 : decode cX5_line 53 = .ok (.aload_n 0, 1) := dk_42 (dk_at dksX5_line_2 7 rfl rfl)
theorem dX5_line_54 : decode cX5_line 54 = .ok (.getfield 156, 3) := dk_180 0 156 (dk_at dksX5_line_2 8 rfl rfl)
theorem dX5_line_57 : decode cX5_line 57 = .ok (.iconst 1, 1) := dk_4 (dk_at dksX5_line_2 11 rfl rfl)
theorem dX5_line_58 : decode cX5_line 58 = .ok (.bastore, 1) := dk_84 (dk_at dksX5_line_2 12 rfl rfl)
theorem dX5_line_59 : decode cX5_line 59 = .ok (.aload_n 0, 1) := dk_42 (dk_at dksX5_line_2 13 rfl rfl)
theorem dX5_line_60 : decode cX5_line 60 = .ok (.getfield 44, 3) := dk_180 0 44 (dk_at dksX5_line_2 14 rfl rfl)
theorem dX5_line_63 : decode cX5_line 63 = .ok (.aload_n 0, 1) := dk_42 (dk_at dksX5_line_2 17 rfl rfl)
theorem dX5_line_64 : decode cX5_line 64 = .ok (.getfield 156, 3) := dk_180 0 156 (dk_at dksX5_line_2 18 rfl rfl)
theorem dX5_line_67 : decode cX5_line 67 = .ok (.aload_n 0, 1) := dk_42 (dk_at dksX5_line_2 21 rfl rfl)
theorem dX5_line_68 : decode cX5_line 68 = .ok (.getfield 153, 3) := dk_180 0 153 (dk_at dksX5_line_3 0 rfl rfl)
theorem dX5_line_71 : decode cX5_line 71 = .ok (.iastore, 1) := dk_79 (dk_at dksX5_line_3 3 rfl rfl)
theorem dX5_line_72 : decode cX5_line 72 = .ok (.return_, 1) := dk_177 (dk_at dksX5_line_3 4 rfl rfl)
abbrev cX5_insert : ByteArray := prog_15_method_32_code
def yX5_insert : MethodName := ⟨RX5, "insert", "(II)V"⟩
def dkwX5_insert_1 : List UInt8 := [132, 3, 255, 167, 255, 234, 42, 180, 0, 35, 27, 28, 79, 42, 89, 180, 0, 153, 4, 96, 181, 0, 153, 177]
abbrev dktX5_insert_1 : List UInt8 := dkwX5_insert_1 ++ []
def dkwX5_insert_0 : List UInt8 := [42, 180, 0, 153, 62, 29, 27, 164, 0, 23, 42, 180, 0, 35, 29, 42, 180, 0, 35, 29, 4, 100, 46, 79]
abbrev dktX5_insert_0 : List UInt8 := dkwX5_insert_0 ++ dktX5_insert_1
theorem dksX5_insert_0 : cX5_insert.data.toList.drop 0 = dktX5_insert_0 := by decide +kernel
theorem dksX5_insert_1 : cX5_insert.data.toList.drop 24 = dktX5_insert_1 := dk_seg dksX5_insert_0 24 rfl rfl
theorem dX5_insert_0 : decode cX5_insert 0 = .ok (.aload_n 0, 1) := dk_42 (dk_at dksX5_insert_0 0 rfl rfl)
theorem dX5_insert_1 : decode cX5_insert 1 = .ok (.getfield 153, 3) := dk_180 0 153 (dk_at dksX5_insert_0 1 rfl rfl)
theorem dX5_insert_4 : decode cX5_insert 4 = .ok (.istore_n 3, 1) := dk_62 (dk_at dksX5_insert_0 4 rfl rfl)
theorem dX5_insert_5 : decode cX5_insert 5 = .ok (.iload_n 3, 1) := dk_29 (dk_at dksX5_insert_0 5 rfl rfl)
theorem dX5_insert_6 : decode cX5_insert 6 = .ok (.iload_n 1, 1) := dk_27 (dk_at dksX5_insert_0 6 rfl rfl)
theorem dX5_insert_7 : decode cX5_insert 7 = .ok (.if_icmp .le 23, 3) := dk_164 0 23 (dk_at dksX5_insert_0 7 rfl rfl)
theorem dX5_insert_10 : decode cX5_insert 10 = .ok (.aload_n 0, 1) := dk_42 (dk_at dksX5_insert_0 10 rfl rfl)
theorem dX5_insert_11 : decode cX5_insert 11 = .ok (.getfield 35, 3) := dk_180 0 35 (dk_at dksX5_insert_0 11 rfl rfl)
theorem dX5_insert_14 : decode cX5_insert 14 = .ok (.iload_n 3, 1) := dk_29 (dk_at dksX5_insert_0 14 rfl rfl)
theorem dX5_insert_15 : decode cX5_insert 15 = .ok (.aload_n 0, 1) := dk_42 (dk_at dksX5_insert_0 15 rfl rfl)
theorem dX5_insert_16 : decode cX5_insert 16 = .ok (.getfield 35, 3) := dk_180 0 35 (dk_at dksX5_insert_0 16 rfl rfl)
theorem dX5_insert_19 : decode cX5_insert 19 = .ok (.iload_n 3, 1) := dk_29 (dk_at dksX5_insert_0 19 rfl rfl)
theorem dX5_insert_20 : decode cX5_insert 20 = .ok (.iconst 1, 1) := dk_4 (dk_at dksX5_insert_0 20 rfl rfl)
theorem dX5_insert_21 : decode cX5_insert 21 = .ok (.isub, 1) := dk_100 (dk_at dksX5_insert_0 21 rfl rfl)
theorem dX5_insert_22 : decode cX5_insert 22 = .ok (.iaload, 1) := dk_46 (dk_at dksX5_insert_0 22 rfl rfl)
theorem dX5_insert_23 : decode cX5_insert 23 = .ok (.iastore, 1) := dk_79 (dk_at dksX5_insert_0 23 rfl rfl)
theorem dX5_insert_24 : decode cX5_insert 24 = .ok (.iinc 3 (-1), 3) := dk_132 3 255 (dk_at dksX5_insert_1 0 rfl rfl)
theorem dX5_insert_27 : decode cX5_insert 27 = .ok (.goto (-22), 3) := dk_167 255 234 (dk_at dksX5_insert_1 3 rfl rfl)
theorem dX5_insert_30 : decode cX5_insert 30 = .ok (.aload_n 0, 1) := dk_42 (dk_at dksX5_insert_1 6 rfl rfl)
theorem dX5_insert_31 : decode cX5_insert 31 = .ok (.getfield 35, 3) := dk_180 0 35 (dk_at dksX5_insert_1 7 rfl rfl)
theorem dX5_insert_34 : decode cX5_insert 34 = .ok (.iload_n 1, 1) := dk_27 (dk_at dksX5_insert_1 10 rfl rfl)
theorem dX5_insert_35 : decode cX5_insert 35 = .ok (.iload_n 2, 1) := dk_28 (dk_at dksX5_insert_1 11 rfl rfl)
theorem dX5_insert_36 : decode cX5_insert 36 = .ok (.iastore, 1) := dk_79 (dk_at dksX5_insert_1 12 rfl rfl)
theorem dX5_insert_37 : decode cX5_insert 37 = .ok (.aload_n 0, 1) := dk_42 (dk_at dksX5_insert_1 13 rfl rfl)
theorem dX5_insert_38 : decode cX5_insert 38 = .ok (.dup, 1) := dk_89 (dk_at dksX5_insert_1 14 rfl rfl)
theorem dX5_insert_39 : decode cX5_insert 39 = .ok (.getfield 153, 3) := dk_180 0 153 (dk_at dksX5_insert_1 15 rfl rfl)
theorem dX5_insert_42 : decode cX5_insert 42 = .ok (.iconst 1, 1) := dk_4 (dk_at dksX5_insert_1 18 rfl rfl)
theorem dX5_insert_43 : decode cX5_insert 43 = .ok (.iadd, 1) := dk_96 (dk_at dksX5_insert_1 19 rfl rfl)
theorem dX5_insert_44 : decode cX5_insert 44 = .ok (.putfield 153, 3) := dk_181 0 153 (dk_at dksX5_insert_1 20 rfl rfl)
theorem dX5_insert_47 : decode cX5_insert 47 = .ok (.return_, 1) := dk_177 (dk_at dksX5_insert_1 23 rfl rfl)
abbrev cX5_load : ByteArray := prog_15_method_39_code
def yX5_load : MethodName := ⟨RX5, "load", "()I"⟩
def dkwX5_load_6 : List UInt8 := [184, 0, 114, 172]
abbrev dktX5_load_6 : List UInt8 := dkwX5_load_6 ++ []
def dkwX5_load_5 : List UInt8 := [42, 180, 0, 25, 3, 3, 84, 42, 180, 0, 25, 4, 3, 84, 42, 180, 0, 13, 3, 42, 180, 0, 153]
abbrev dktX5_load_5 : List UInt8 := dkwX5_load_5 ++ dktX5_load_6
def dkwX5_load_4 : List UInt8 := [42, 180, 0, 13, 17, 0, 181, 3, 79, 42, 180, 0, 13, 17, 0, 182, 16, 247, 79, 42, 3, 181, 0, 182]
abbrev dktX5_load_4 : List UInt8 := dkwX5_load_4 ++ dktX5_load_5
def dkwX5_load_3 : List UInt8 := [180, 0, 35, 27, 46, 79, 132, 1, 1, 167, 255, 233, 42, 180, 0, 13, 17, 0, 180, 42, 180, 0, 153, 79]
abbrev dktX5_load_3 : List UInt8 := dkwX5_load_3 ++ dktX5_load_4
def dkwX5_load_2 : List UInt8 := [182, 0, 150, 153, 0, 5, 3, 172, 3, 60, 27, 42, 180, 0, 153, 162, 0, 21, 42, 180, 0, 13, 27, 42]
abbrev dktX5_load_2 : List UInt8 := dkwX5_load_2 ++ dktX5_load_3
def dkwX5_load_1 : List UInt8 := [163, 0, 19, 42, 180, 0, 35, 3, 42, 180, 0, 153, 184, 0, 133, 8, 164, 0, 7, 4, 167, 0, 4, 3]
abbrev dktX5_load_1 : List UInt8 := dkwX5_load_1 ++ dktX5_load_2
def dkwX5_load_0 : List UInt8 := [42, 42, 182, 0, 178, 16, 247, 160, 0, 36, 42, 180, 0, 35, 3, 42, 180, 0, 153, 184, 0, 114, 16, 60]
abbrev dktX5_load_0 : List UInt8 := dkwX5_load_0 ++ dktX5_load_1
theorem dksX5_load_0 : cX5_load.data.toList.drop 0 = dktX5_load_0 := by decide +kernel
theorem dksX5_load_1 : cX5_load.data.toList.drop 24 = dktX5_load_1 := dk_seg dksX5_load_0 24 rfl rfl
theorem dksX5_load_2 : cX5_load.data.toList.drop 48 = dktX5_load_2 := dk_seg dksX5_load_1 24 rfl rfl
theorem dksX5_load_3 : cX5_load.data.toList.drop 72 = dktX5_load_3 := dk_seg dksX5_load_2 24 rfl rfl
theorem dksX5_load_4 : cX5_load.data.toList.drop 96 = dktX5_load_4 := dk_seg dksX5_load_3 24 rfl rfl
theorem dksX5_load_5 : cX5_load.data.toList.drop 120 = dktX5_load_5 := dk_seg dksX5_load_4 24 rfl rfl
theorem dksX5_load_6 : cX5_load.data.toList.drop 143 = dktX5_load_6 := dk_seg dksX5_load_5 23 rfl rfl
theorem dX5_load_0 : decode cX5_load 0 = .ok (.aload_n 0, 1) := dk_42 (dk_at dksX5_load_0 0 rfl rfl)
theorem dX5_load_1 : decode cX5_load 1 = .ok (.aload_n 0, 1) := dk_42 (dk_at dksX5_load_0 1 rfl rfl)
theorem dX5_load_2 : decode cX5_load 2 = .ok (.invokevirtual 178, 3) := dk_182 0 178 (dk_at dksX5_load_0 2 rfl rfl)
theorem dX5_load_5 : decode cX5_load 5 = .ok (.bipush (-9), 2) := dk_16 247 (dk_at dksX5_load_0 5 rfl rfl)
theorem dX5_load_7 : decode cX5_load 7 = .ok (.if_icmp .ne 36, 3) := dk_160 0 36 (dk_at dksX5_load_0 7 rfl rfl)
theorem dX5_load_10 : decode cX5_load 10 = .ok (.aload_n 0, 1) := dk_42 (dk_at dksX5_load_0 10 rfl rfl)
theorem dX5_load_11 : decode cX5_load 11 = .ok (.getfield 35, 3) := dk_180 0 35 (dk_at dksX5_load_0 11 rfl rfl)
theorem dX5_load_14 : decode cX5_load 14 = .ok (.iconst 0, 1) := dk_3 (dk_at dksX5_load_0 14 rfl rfl)
theorem dX5_load_15 : decode cX5_load 15 = .ok (.aload_n 0, 1) := dk_42 (dk_at dksX5_load_0 15 rfl rfl)
theorem dX5_load_16 : decode cX5_load 16 = .ok (.getfield 153, 3) := dk_180 0 153 (dk_at dksX5_load_0 16 rfl rfl)
theorem dX5_load_19 : decode cX5_load 19 = .ok (.invokestatic 114, 3) := dk_184 0 114 (dk_at dksX5_load_0 19 rfl rfl)
theorem dX5_load_22 : decode cX5_load 22 = .ok (.bipush 60, 2) := dk_16 60 (dk_at dksX5_load_0 22 rfl rfl)
theorem dX5_load_24 : decode cX5_load 24 = .ok (.if_icmp .gt 19, 3) := dk_163 0 19 (dk_at dksX5_load_1 0 rfl rfl)
theorem dX5_load_27 : decode cX5_load 27 = .ok (.aload_n 0, 1) := dk_42 (dk_at dksX5_load_1 3 rfl rfl)
theorem dX5_load_28 : decode cX5_load 28 = .ok (.getfield 35, 3) := dk_180 0 35 (dk_at dksX5_load_1 4 rfl rfl)
theorem dX5_load_31 : decode cX5_load 31 = .ok (.iconst 0, 1) := dk_3 (dk_at dksX5_load_1 7 rfl rfl)
theorem dX5_load_32 : decode cX5_load 32 = .ok (.aload_n 0, 1) := dk_42 (dk_at dksX5_load_1 8 rfl rfl)
theorem dX5_load_33 : decode cX5_load 33 = .ok (.getfield 153, 3) := dk_180 0 153 (dk_at dksX5_load_1 9 rfl rfl)
theorem dX5_load_36 : decode cX5_load 36 = .ok (.invokestatic 133, 3) := dk_184 0 133 (dk_at dksX5_load_1 12 rfl rfl)
theorem dX5_load_39 : decode cX5_load 39 = .ok (.iconst 5, 1) := dk_8 (dk_at dksX5_load_1 15 rfl rfl)
theorem dX5_load_40 : decode cX5_load 40 = .ok (.if_icmp .le 7, 3) := dk_164 0 7 (dk_at dksX5_load_1 16 rfl rfl)
theorem dX5_load_43 : decode cX5_load 43 = .ok (.iconst 1, 1) := dk_4 (dk_at dksX5_load_1 19 rfl rfl)
theorem dX5_load_44 : decode cX5_load 44 = .ok (.goto 4, 3) := dk_167 0 4 (dk_at dksX5_load_1 20 rfl rfl)
theorem dX5_load_47 : decode cX5_load 47 = .ok (.iconst 0, 1) := dk_3 (dk_at dksX5_load_1 23 rfl rfl)
theorem dX5_load_48 : decode cX5_load 48 = .ok (.invokevirtual 150, 3) := dk_182 0 150 (dk_at dksX5_load_2 0 rfl rfl)
theorem dX5_load_51 : decode cX5_load 51 = .ok (.ifCond .eq 5, 3) := dk_153 0 5 (dk_at dksX5_load_2 3 rfl rfl)
theorem dX5_load_54 : decode cX5_load 54 = .ok (.iconst 0, 1) := dk_3 (dk_at dksX5_load_2 6 rfl rfl)
theorem dX5_load_55 : decode cX5_load 55 = .ok (.ireturn, 1) := dk_172 (dk_at dksX5_load_2 7 rfl rfl)
theorem dX5_load_56 : decode cX5_load 56 = .ok (.iconst 0, 1) := dk_3 (dk_at dksX5_load_2 8 rfl rfl)
theorem dX5_load_57 : decode cX5_load 57 = .ok (.istore_n 1, 1) := dk_60 (dk_at dksX5_load_2 9 rfl rfl)
theorem dX5_load_58 : decode cX5_load 58 = .ok (.iload_n 1, 1) := dk_27 (dk_at dksX5_load_2 10 rfl rfl)
theorem dX5_load_59 : decode cX5_load 59 = .ok (.aload_n 0, 1) := dk_42 (dk_at dksX5_load_2 11 rfl rfl)
theorem dX5_load_60 : decode cX5_load 60 = .ok (.getfield 153, 3) := dk_180 0 153 (dk_at dksX5_load_2 12 rfl rfl)
theorem dX5_load_63 : decode cX5_load 63 = .ok (.if_icmp .ge 21, 3) := dk_162 0 21 (dk_at dksX5_load_2 15 rfl rfl)
theorem dX5_load_66 : decode cX5_load 66 = .ok (.aload_n 0, 1) := dk_42 (dk_at dksX5_load_2 18 rfl rfl)
theorem dX5_load_67 : decode cX5_load 67 = .ok (.getfield 13, 3) := dk_180 0 13 (dk_at dksX5_load_2 19 rfl rfl)
theorem dX5_load_70 : decode cX5_load 70 = .ok (.iload_n 1, 1) := dk_27 (dk_at dksX5_load_2 22 rfl rfl)
theorem dX5_load_71 : decode cX5_load 71 = .ok (.aload_n 0, 1) := dk_42 (dk_at dksX5_load_2 23 rfl rfl)
theorem dX5_load_72 : decode cX5_load 72 = .ok (.getfield 35, 3) := dk_180 0 35 (dk_at dksX5_load_3 0 rfl rfl)
theorem dX5_load_75 : decode cX5_load 75 = .ok (.iload_n 1, 1) := dk_27 (dk_at dksX5_load_3 3 rfl rfl)
theorem dX5_load_76 : decode cX5_load 76 = .ok (.iaload, 1) := dk_46 (dk_at dksX5_load_3 4 rfl rfl)
theorem dX5_load_77 : decode cX5_load 77 = .ok (.iastore, 1) := dk_79 (dk_at dksX5_load_3 5 rfl rfl)
theorem dX5_load_78 : decode cX5_load 78 = .ok (.iinc 1 1, 3) := dk_132 1 1 (dk_at dksX5_load_3 6 rfl rfl)
theorem dX5_load_81 : decode cX5_load 81 = .ok (.goto (-23), 3) := dk_167 255 233 (dk_at dksX5_load_3 9 rfl rfl)
theorem dX5_load_84 : decode cX5_load 84 = .ok (.aload_n 0, 1) := dk_42 (dk_at dksX5_load_3 12 rfl rfl)
theorem dX5_load_85 : decode cX5_load 85 = .ok (.getfield 13, 3) := dk_180 0 13 (dk_at dksX5_load_3 13 rfl rfl)
theorem dX5_load_88 : decode cX5_load 88 = .ok (.sipush 180, 3) := dk_17 0 180 (dk_at dksX5_load_3 16 rfl rfl)
theorem dX5_load_91 : decode cX5_load 91 = .ok (.aload_n 0, 1) := dk_42 (dk_at dksX5_load_3 19 rfl rfl)
theorem dX5_load_92 : decode cX5_load 92 = .ok (.getfield 153, 3) := dk_180 0 153 (dk_at dksX5_load_3 20 rfl rfl)
theorem dX5_load_95 : decode cX5_load 95 = .ok (.iastore, 1) := dk_79 (dk_at dksX5_load_3 23 rfl rfl)
theorem dX5_load_96 : decode cX5_load 96 = .ok (.aload_n 0, 1) := dk_42 (dk_at dksX5_load_4 0 rfl rfl)
theorem dX5_load_97 : decode cX5_load 97 = .ok (.getfield 13, 3) := dk_180 0 13 (dk_at dksX5_load_4 1 rfl rfl)
theorem dX5_load_100 : decode cX5_load 100 = .ok (.sipush 181, 3) := dk_17 0 181 (dk_at dksX5_load_4 4 rfl rfl)
theorem dX5_load_103 : decode cX5_load 103 = .ok (.iconst 0, 1) := dk_3 (dk_at dksX5_load_4 7 rfl rfl)
theorem dX5_load_104 : decode cX5_load 104 = .ok (.iastore, 1) := dk_79 (dk_at dksX5_load_4 8 rfl rfl)
theorem dX5_load_105 : decode cX5_load 105 = .ok (.aload_n 0, 1) := dk_42 (dk_at dksX5_load_4 9 rfl rfl)
theorem dX5_load_106 : decode cX5_load 106 = .ok (.getfield 13, 3) := dk_180 0 13 (dk_at dksX5_load_4 10 rfl rfl)
theorem dX5_load_109 : decode cX5_load 109 = .ok (.sipush 182, 3) := dk_17 0 182 (dk_at dksX5_load_4 13 rfl rfl)
theorem dX5_load_112 : decode cX5_load 112 = .ok (.bipush (-9), 2) := dk_16 247 (dk_at dksX5_load_4 16 rfl rfl)
theorem dX5_load_114 : decode cX5_load 114 = .ok (.iastore, 1) := dk_79 (dk_at dksX5_load_4 18 rfl rfl)
theorem dX5_load_115 : decode cX5_load 115 = .ok (.aload_n 0, 1) := dk_42 (dk_at dksX5_load_4 19 rfl rfl)
theorem dX5_load_116 : decode cX5_load 116 = .ok (.iconst 0, 1) := dk_3 (dk_at dksX5_load_4 20 rfl rfl)
theorem dX5_load_117 : decode cX5_load 117 = .ok (.putfield 182, 3) := dk_181 0 182 (dk_at dksX5_load_4 21 rfl rfl)
theorem dX5_load_120 : decode cX5_load 120 = .ok (.aload_n 0, 1) := dk_42 (dk_at dksX5_load_5 0 rfl rfl)
theorem dX5_load_121 : decode cX5_load 121 = .ok (.getfield 25, 3) := dk_180 0 25 (dk_at dksX5_load_5 1 rfl rfl)
theorem dX5_load_124 : decode cX5_load 124 = .ok (.iconst 0, 1) := dk_3 (dk_at dksX5_load_5 4 rfl rfl)
theorem dX5_load_125 : decode cX5_load 125 = .ok (.iconst 0, 1) := dk_3 (dk_at dksX5_load_5 5 rfl rfl)
theorem dX5_load_126 : decode cX5_load 126 = .ok (.bastore, 1) := dk_84 (dk_at dksX5_load_5 6 rfl rfl)
theorem dX5_load_127 : decode cX5_load 127 = .ok (.aload_n 0, 1) := dk_42 (dk_at dksX5_load_5 7 rfl rfl)
theorem dX5_load_128 : decode cX5_load 128 = .ok (.getfield 25, 3) := dk_180 0 25 (dk_at dksX5_load_5 8 rfl rfl)
theorem dX5_load_131 : decode cX5_load 131 = .ok (.iconst 1, 1) := dk_4 (dk_at dksX5_load_5 11 rfl rfl)
theorem dX5_load_132 : decode cX5_load 132 = .ok (.iconst 0, 1) := dk_3 (dk_at dksX5_load_5 12 rfl rfl)
theorem dX5_load_133 : decode cX5_load 133 = .ok (.bastore, 1) := dk_84 (dk_at dksX5_load_5 13 rfl rfl)
theorem dX5_load_134 : decode cX5_load 134 = .ok (.aload_n 0, 1) := dk_42 (dk_at dksX5_load_5 14 rfl rfl)
theorem dX5_load_135 : decode cX5_load 135 = .ok (.getfield 13, 3) := dk_180 0 13 (dk_at dksX5_load_5 15 rfl rfl)
theorem dX5_load_138 : decode cX5_load 138 = .ok (.iconst 0, 1) := dk_3 (dk_at dksX5_load_5 18 rfl rfl)
theorem dX5_load_139 : decode cX5_load 139 = .ok (.aload_n 0, 1) := dk_42 (dk_at dksX5_load_5 19 rfl rfl)
theorem dX5_load_140 : decode cX5_load 140 = .ok (.getfield 153, 3) := dk_180 0 153 (dk_at dksX5_load_5 20 rfl rfl)
theorem dX5_load_143 : decode cX5_load 143 = .ok (.invokestatic 114, 3) := dk_184 0 114 (dk_at dksX5_load_6 0 rfl rfl)
theorem dX5_load_146 : decode cX5_load 146 = .ok (.ireturn, 1) := dk_172 (dk_at dksX5_load_6 3 rfl rfl)
abbrev cX5_allIn : ByteArray := prog_15_method_18_code
def yX5_allIn : MethodName := ⟨RX5, "allIn", "([III)I"⟩
def dkwX5_allIn_1 : List UInt8 := [184, 0, 97, 153, 0, 7, 4, 167, 0, 4, 3, 96, 62, 132, 4, 1, 167, 255, 222, 29, 172]
abbrev dktX5_allIn_1 : List UInt8 := dkwX5_allIn_1 ++ []
def dkwX5_allIn_0 : List UInt8 := [3, 62, 27, 54, 4, 21, 4, 28, 162, 0, 34, 29, 42, 21, 4, 46, 157, 0, 13, 42, 21, 4, 46]
abbrev dktX5_allIn_0 : List UInt8 := dkwX5_allIn_0 ++ dktX5_allIn_1
theorem dksX5_allIn_0 : cX5_allIn.data.toList.drop 0 = dktX5_allIn_0 := by decide +kernel
theorem dksX5_allIn_1 : cX5_allIn.data.toList.drop 23 = dktX5_allIn_1 := dk_seg dksX5_allIn_0 23 rfl rfl
theorem dX5_allIn_0 : decode cX5_allIn 0 = .ok (.iconst 0, 1) := dk_3 (dk_at dksX5_allIn_0 0 rfl rfl)
theorem dX5_allIn_1 : decode cX5_allIn 1 = .ok (.istore_n 3, 1) := dk_62 (dk_at dksX5_allIn_0 1 rfl rfl)
theorem dX5_allIn_2 : decode cX5_allIn 2 = .ok (.iload_n 1, 1) := dk_27 (dk_at dksX5_allIn_0 2 rfl rfl)
theorem dX5_allIn_3 : decode cX5_allIn 3 = .ok (.istore 4, 2) := dk_54 4 (dk_at dksX5_allIn_0 3 rfl rfl)
theorem dX5_allIn_5 : decode cX5_allIn 5 = .ok (.iload 4, 2) := dk_21 4 (dk_at dksX5_allIn_0 5 rfl rfl)
theorem dX5_allIn_7 : decode cX5_allIn 7 = .ok (.iload_n 2, 1) := dk_28 (dk_at dksX5_allIn_0 7 rfl rfl)
theorem dX5_allIn_8 : decode cX5_allIn 8 = .ok (.if_icmp .ge 34, 3) := dk_162 0 34 (dk_at dksX5_allIn_0 8 rfl rfl)
theorem dX5_allIn_11 : decode cX5_allIn 11 = .ok (.iload_n 3, 1) := dk_29 (dk_at dksX5_allIn_0 11 rfl rfl)
theorem dX5_allIn_12 : decode cX5_allIn 12 = .ok (.aload_n 0, 1) := dk_42 (dk_at dksX5_allIn_0 12 rfl rfl)
theorem dX5_allIn_13 : decode cX5_allIn 13 = .ok (.iload 4, 2) := dk_21 4 (dk_at dksX5_allIn_0 13 rfl rfl)
theorem dX5_allIn_15 : decode cX5_allIn 15 = .ok (.iaload, 1) := dk_46 (dk_at dksX5_allIn_0 15 rfl rfl)
theorem dX5_allIn_16 : decode cX5_allIn 16 = .ok (.ifCond .gt 13, 3) := dk_157 0 13 (dk_at dksX5_allIn_0 16 rfl rfl)
theorem dX5_allIn_19 : decode cX5_allIn 19 = .ok (.aload_n 0, 1) := dk_42 (dk_at dksX5_allIn_0 19 rfl rfl)
theorem dX5_allIn_20 : decode cX5_allIn 20 = .ok (.iload 4, 2) := dk_21 4 (dk_at dksX5_allIn_0 20 rfl rfl)
theorem dX5_allIn_22 : decode cX5_allIn 22 = .ok (.iaload, 1) := dk_46 (dk_at dksX5_allIn_0 22 rfl rfl)
theorem dX5_allIn_23 : decode cX5_allIn 23 = .ok (.invokestatic 97, 3) := dk_184 0 97 (dk_at dksX5_allIn_1 0 rfl rfl)
theorem dX5_allIn_26 : decode cX5_allIn 26 = .ok (.ifCond .eq 7, 3) := dk_153 0 7 (dk_at dksX5_allIn_1 3 rfl rfl)
theorem dX5_allIn_29 : decode cX5_allIn 29 = .ok (.iconst 1, 1) := dk_4 (dk_at dksX5_allIn_1 6 rfl rfl)
theorem dX5_allIn_30 : decode cX5_allIn 30 = .ok (.goto 4, 3) := dk_167 0 4 (dk_at dksX5_allIn_1 7 rfl rfl)
theorem dX5_allIn_33 : decode cX5_allIn 33 = .ok (.iconst 0, 1) := dk_3 (dk_at dksX5_allIn_1 10 rfl rfl)
theorem dX5_allIn_34 : decode cX5_allIn 34 = .ok (.iadd, 1) := dk_96 (dk_at dksX5_allIn_1 11 rfl rfl)
theorem dX5_allIn_35 : decode cX5_allIn 35 = .ok (.istore_n 3, 1) := dk_62 (dk_at dksX5_allIn_1 12 rfl rfl)
theorem dX5_allIn_36 : decode cX5_allIn 36 = .ok (.iinc 4 1, 3) := dk_132 4 1 (dk_at dksX5_allIn_1 13 rfl rfl)
theorem dX5_allIn_39 : decode cX5_allIn 39 = .ok (.goto (-34), 3) := dk_167 255 222 (dk_at dksX5_allIn_1 16 rfl rfl)
theorem dX5_allIn_42 : decode cX5_allIn 42 = .ok (.iload_n 3, 1) := dk_29 (dk_at dksX5_allIn_1 19 rfl rfl)
theorem dX5_allIn_43 : decode cX5_allIn 43 = .ok (.ireturn, 1) := dk_172 (dk_at dksX5_allIn_1 20 rfl rfl)
abbrev cX5_isBegin : ByteArray := prog_15_method_10_code
def yX5_isBegin : MethodName := ⟨RX5, "isBegin", "(I)Z"⟩
def dkwX5_isBegin_0 : List UInt8 := [26, 156, 0, 13, 26, 16, 246, 164, 0, 7, 4, 167, 0, 4, 3, 172]
abbrev dktX5_isBegin_0 : List UInt8 := dkwX5_isBegin_0 ++ []
theorem dksX5_isBegin_0 : cX5_isBegin.data.toList.drop 0 = dktX5_isBegin_0 := by decide +kernel
theorem dX5_isBegin_0 : decode cX5_isBegin 0 = .ok (.iload_n 0, 1) := dk_26 (dk_at dksX5_isBegin_0 0 rfl rfl)
theorem dX5_isBegin_1 : decode cX5_isBegin 1 = .ok (.ifCond .ge 13, 3) := dk_156 0 13 (dk_at dksX5_isBegin_0 1 rfl rfl)
theorem dX5_isBegin_4 : decode cX5_isBegin 4 = .ok (.iload_n 0, 1) := dk_26 (dk_at dksX5_isBegin_0 4 rfl rfl)
theorem dX5_isBegin_5 : decode cX5_isBegin 5 = .ok (.bipush (-10), 2) := dk_16 246 (dk_at dksX5_isBegin_0 5 rfl rfl)
theorem dX5_isBegin_7 : decode cX5_isBegin 7 = .ok (.if_icmp .le 7, 3) := dk_164 0 7 (dk_at dksX5_isBegin_0 7 rfl rfl)
theorem dX5_isBegin_10 : decode cX5_isBegin 10 = .ok (.iconst 1, 1) := dk_4 (dk_at dksX5_isBegin_0 10 rfl rfl)
theorem dX5_isBegin_11 : decode cX5_isBegin 11 = .ok (.goto 4, 3) := dk_167 0 4 (dk_at dksX5_isBegin_0 11 rfl rfl)
theorem dX5_isBegin_14 : decode cX5_isBegin 14 = .ok (.iconst 0, 1) := dk_3 (dk_at dksX5_isBegin_0 14 rfl rfl)
theorem dX5_isBegin_15 : decode cX5_isBegin 15 = .ok (.ireturn, 1) := dk_172 (dk_at dksX5_isBegin_0 15 rfl rfl)
abbrev cX5_deepest : ByteArray := prog_15_method_20_code
def yX5_deepest : MethodName := ⟨RX5, "deepest", "([III)I"⟩
def dkwX5_deepest_2 : List UInt8 := [21, 4, 164, 0, 7, 29, 167, 0, 5, 21, 4, 54, 4, 132, 5, 1, 167, 255, 202, 21, 4, 172]
abbrev dktX5_deepest_2 : List UInt8 := dkwX5_deepest_2 ++ []
def dkwX5_deepest_1 : List UInt8 := [153, 0, 7, 4, 167, 0, 17, 42, 21, 5, 46, 16, 245, 160, 0, 7, 2, 167, 0, 4, 3, 96, 62, 29]
abbrev dktX5_deepest_1 : List UInt8 := dkwX5_deepest_1 ++ dktX5_deepest_2
def dkwX5_deepest_0 : List UInt8 := [3, 62, 3, 54, 4, 27, 54, 5, 21, 5, 28, 162, 0, 54, 29, 42, 21, 5, 46, 184, 0, 97]
abbrev dktX5_deepest_0 : List UInt8 := dkwX5_deepest_0 ++ dktX5_deepest_1
theorem dksX5_deepest_0 : cX5_deepest.data.toList.drop 0 = dktX5_deepest_0 := by decide +kernel
theorem dksX5_deepest_1 : cX5_deepest.data.toList.drop 22 = dktX5_deepest_1 := dk_seg dksX5_deepest_0 22 rfl rfl
theorem dksX5_deepest_2 : cX5_deepest.data.toList.drop 46 = dktX5_deepest_2 := dk_seg dksX5_deepest_1 24 rfl rfl
theorem dX5_deepest_0 : decode cX5_deepest 0 = .ok (.iconst 0, 1) := dk_3 (dk_at dksX5_deepest_0 0 rfl rfl)
theorem dX5_deepest_1 : decode cX5_deepest 1 = .ok (.istore_n 3, 1) := dk_62 (dk_at dksX5_deepest_0 1 rfl rfl)
theorem dX5_deepest_2 : decode cX5_deepest 2 = .ok (.iconst 0, 1) := dk_3 (dk_at dksX5_deepest_0 2 rfl rfl)
theorem dX5_deepest_3 : decode cX5_deepest 3 = .ok (.istore 4, 2) := dk_54 4 (dk_at dksX5_deepest_0 3 rfl rfl)
theorem dX5_deepest_5 : decode cX5_deepest 5 = .ok (.iload_n 1, 1) := dk_27 (dk_at dksX5_deepest_0 5 rfl rfl)
theorem dX5_deepest_6 : decode cX5_deepest 6 = .ok (.istore 5, 2) := dk_54 5 (dk_at dksX5_deepest_0 6 rfl rfl)
theorem dX5_deepest_8 : decode cX5_deepest 8 = .ok (.iload 5, 2) := dk_21 5 (dk_at dksX5_deepest_0 8 rfl rfl)
theorem dX5_deepest_10 : decode cX5_deepest 10 = .ok (.iload_n 2, 1) := dk_28 (dk_at dksX5_deepest_0 10 rfl rfl)
theorem dX5_deepest_11 : decode cX5_deepest 11 = .ok (.if_icmp .ge 54, 3) := dk_162 0 54 (dk_at dksX5_deepest_0 11 rfl rfl)
theorem dX5_deepest_14 : decode cX5_deepest 14 = .ok (.iload_n 3, 1) := dk_29 (dk_at dksX5_deepest_0 14 rfl rfl)
theorem dX5_deepest_15 : decode cX5_deepest 15 = .ok (.aload_n 0, 1) := dk_42 (dk_at dksX5_deepest_0 15 rfl rfl)
theorem dX5_deepest_16 : decode cX5_deepest 16 = .ok (.iload 5, 2) := dk_21 5 (dk_at dksX5_deepest_0 16 rfl rfl)
theorem dX5_deepest_18 : decode cX5_deepest 18 = .ok (.iaload, 1) := dk_46 (dk_at dksX5_deepest_0 18 rfl rfl)
theorem dX5_deepest_19 : decode cX5_deepest 19 = .ok (.invokestatic 97, 3) := dk_184 0 97 (dk_at dksX5_deepest_0 19 rfl rfl)
theorem dX5_deepest_22 : decode cX5_deepest 22 = .ok (.ifCond .eq 7, 3) := dk_153 0 7 (dk_at dksX5_deepest_1 0 rfl rfl)
theorem dX5_deepest_25 : decode cX5_deepest 25 = .ok (.iconst 1, 1) := dk_4 (dk_at dksX5_deepest_1 3 rfl rfl)
theorem dX5_deepest_26 : decode cX5_deepest 26 = .ok (.goto 17, 3) := dk_167 0 17 (dk_at dksX5_deepest_1 4 rfl rfl)
theorem dX5_deepest_29 : decode cX5_deepest 29 = .ok (.aload_n 0, 1) := dk_42 (dk_at dksX5_deepest_1 7 rfl rfl)
theorem dX5_deepest_30 : decode cX5_deepest 30 = .ok (.iload 5, 2) := dk_21 5 (dk_at dksX5_deepest_1 8 rfl rfl)
theorem dX5_deepest_32 : decode cX5_deepest 32 = .ok (.iaload, 1) := dk_46 (dk_at dksX5_deepest_1 10 rfl rfl)
theorem dX5_deepest_33 : decode cX5_deepest 33 = .ok (.bipush (-11), 2) := dk_16 245 (dk_at dksX5_deepest_1 11 rfl rfl)
theorem dX5_deepest_35 : decode cX5_deepest 35 = .ok (.if_icmp .ne 7, 3) := dk_160 0 7 (dk_at dksX5_deepest_1 13 rfl rfl)
theorem dX5_deepest_38 : decode cX5_deepest 38 = .ok (.iconst (-1), 1) := dk_2 (dk_at dksX5_deepest_1 16 rfl rfl)
theorem dX5_deepest_39 : decode cX5_deepest 39 = .ok (.goto 4, 3) := dk_167 0 4 (dk_at dksX5_deepest_1 17 rfl rfl)
theorem dX5_deepest_42 : decode cX5_deepest 42 = .ok (.iconst 0, 1) := dk_3 (dk_at dksX5_deepest_1 20 rfl rfl)
theorem dX5_deepest_43 : decode cX5_deepest 43 = .ok (.iadd, 1) := dk_96 (dk_at dksX5_deepest_1 21 rfl rfl)
theorem dX5_deepest_44 : decode cX5_deepest 44 = .ok (.istore_n 3, 1) := dk_62 (dk_at dksX5_deepest_1 22 rfl rfl)
theorem dX5_deepest_45 : decode cX5_deepest 45 = .ok (.iload_n 3, 1) := dk_29 (dk_at dksX5_deepest_1 23 rfl rfl)
theorem dX5_deepest_46 : decode cX5_deepest 46 = .ok (.iload 4, 2) := dk_21 4 (dk_at dksX5_deepest_2 0 rfl rfl)
theorem dX5_deepest_48 : decode cX5_deepest 48 = .ok (.if_icmp .le 7, 3) := dk_164 0 7 (dk_at dksX5_deepest_2 2 rfl rfl)
theorem dX5_deepest_51 : decode cX5_deepest 51 = .ok (.iload_n 3, 1) := dk_29 (dk_at dksX5_deepest_2 5 rfl rfl)
theorem dX5_deepest_52 : decode cX5_deepest 52 = .ok (.goto 5, 3) := dk_167 0 5 (dk_at dksX5_deepest_2 6 rfl rfl)
theorem dX5_deepest_55 : decode cX5_deepest 55 = .ok (.iload 4, 2) := dk_21 4 (dk_at dksX5_deepest_2 9 rfl rfl)
theorem dX5_deepest_57 : decode cX5_deepest 57 = .ok (.istore 4, 2) := dk_54 4 (dk_at dksX5_deepest_2 11 rfl rfl)
theorem dX5_deepest_59 : decode cX5_deepest 59 = .ok (.iinc 5 1, 3) := dk_132 5 1 (dk_at dksX5_deepest_2 13 rfl rfl)
theorem dX5_deepest_62 : decode cX5_deepest 62 = .ok (.goto (-54), 3) := dk_167 255 202 (dk_at dksX5_deepest_2 16 rfl rfl)
theorem dX5_deepest_65 : decode cX5_deepest 65 = .ok (.iload 4, 2) := dk_21 4 (dk_at dksX5_deepest_2 19 rfl rfl)
theorem dX5_deepest_67 : decode cX5_deepest 67 = .ok (.ireturn, 1) := dk_172 (dk_at dksX5_deepest_2 21 rfl rfl)
abbrev cX5_about : ByteArray := prog_15_method_40_code
def yX5_about : MethodName := ⟨RX5, "about", "(I)I"⟩
def dkwX5_about_10 : List UInt8 := [184, 0, 114, 172]
abbrev dktX5_about_10 : List UInt8 := dkwX5_about_10 ++ []
def dkwX5_about_9 : List UInt8 := [61, 132, 3, 1, 167, 255, 170, 28, 172, 42, 180, 0, 29, 3, 42, 180, 0, 29, 17, 0, 180, 46]
abbrev dktX5_about_9 : List UInt8 := dkwX5_about_9 ++ dktX5_about_10
def dkwX5_about_8 : List UInt8 := [16, 246, 159, 0, 16, 42, 180, 0, 13, 29, 4, 96, 46, 16, 245, 160, 0, 7, 4, 167, 0, 4, 3, 96]
abbrev dktX5_about_8 : List UInt8 := dkwX5_about_8 ++ dktX5_about_9
def dkwX5_about_7 : List UInt8 := [160, 0, 7, 4, 167, 0, 4, 3, 54, 4, 28, 21, 4, 153, 0, 33, 42, 180, 0, 13, 29, 4, 96, 46]
abbrev dktX5_about_7 : List UInt8 := dkwX5_about_7 ++ dktX5_about_8
def dkwX5_about_6 : List UInt8 := [162, 0, 78, 42, 180, 0, 13, 29, 46, 184, 0, 97, 154, 0, 14, 42, 180, 0, 13, 29, 46, 16, 246]
abbrev dktX5_about_6 : List UInt8 := dkwX5_about_6 ++ dktX5_about_7
def dkwX5_about_5 : List UInt8 := [17, 0, 180, 46, 184, 0, 133, 172, 3, 61, 3, 62, 29, 4, 96, 42, 180, 0, 13, 17, 0, 180, 46]
abbrev dktX5_about_5 : List UInt8 := dkwX5_about_5 ++ dktX5_about_6
def dkwX5_about_4 : List UInt8 := [46, 4, 96, 172, 42, 180, 0, 13, 17, 0, 181, 46, 172, 42, 180, 0, 13, 3, 42, 180, 0, 13]
abbrev dktX5_about_4 : List UInt8 := dkwX5_about_4 ++ dktX5_about_5
def dkwX5_about_3 : List UInt8 := [42, 180, 0, 13, 3, 42, 180, 0, 13, 17, 0, 180, 46, 184, 0, 114, 172, 42, 180, 0, 13, 17, 0, 180]
abbrev dktX5_about_3 : List UInt8 := dkwX5_about_3 ++ dktX5_about_4
def dkwX5_about_2 : List UInt8 := [170, 0, 0, 0, 182, 0, 0, 0, 0, 0, 0, 0, 4, 0, 0, 0, 33, 0, 0, 0, 50, 0, 0, 0, 61, 0, 0, 0, 70, 0, 0, 0, 87]
abbrev dktX5_about_2 : List UInt8 := dkwX5_about_2 ++ dktX5_about_3
def dkwX5_about_1 : List UInt8 := [3, 172, 27]
abbrev dktX5_about_1 : List UInt8 := dkwX5_about_1 ++ dktX5_about_2
def dkwX5_about_0 : List UInt8 := [42, 27, 133, 9, 20, 0, 128, 184, 0, 79, 153, 0, 7, 3, 167, 0, 4, 4, 182, 0, 150, 153, 0, 5]
abbrev dktX5_about_0 : List UInt8 := dkwX5_about_0 ++ dktX5_about_1
theorem dksX5_about_0 : cX5_about.data.toList.drop 0 = dktX5_about_0 := by decide +kernel
theorem dksX5_about_1 : cX5_about.data.toList.drop 24 = dktX5_about_1 := dk_seg dksX5_about_0 24 rfl rfl
theorem dksX5_about_2 : cX5_about.data.toList.drop 27 = dktX5_about_2 := dk_seg dksX5_about_1 3 rfl rfl
theorem dksX5_about_3 : cX5_about.data.toList.drop 60 = dktX5_about_3 := dk_seg dksX5_about_2 33 rfl rfl
theorem dksX5_about_4 : cX5_about.data.toList.drop 84 = dktX5_about_4 := dk_seg dksX5_about_3 24 rfl rfl
theorem dksX5_about_5 : cX5_about.data.toList.drop 106 = dktX5_about_5 := dk_seg dksX5_about_4 22 rfl rfl
theorem dksX5_about_6 : cX5_about.data.toList.drop 129 = dktX5_about_6 := dk_seg dksX5_about_5 23 rfl rfl
theorem dksX5_about_7 : cX5_about.data.toList.drop 152 = dktX5_about_7 := dk_seg dksX5_about_6 23 rfl rfl
theorem dksX5_about_8 : cX5_about.data.toList.drop 176 = dktX5_about_8 := dk_seg dksX5_about_7 24 rfl rfl
theorem dksX5_about_9 : cX5_about.data.toList.drop 200 = dktX5_about_9 := dk_seg dksX5_about_8 24 rfl rfl
theorem dksX5_about_10 : cX5_about.data.toList.drop 222 = dktX5_about_10 := dk_seg dksX5_about_9 22 rfl rfl
theorem dX5_about_0 : decode cX5_about 0 = .ok (.aload_n 0, 1) := dk_42 (dk_at dksX5_about_0 0 rfl rfl)
theorem dX5_about_1 : decode cX5_about 1 = .ok (.iload_n 1, 1) := dk_27 (dk_at dksX5_about_0 1 rfl rfl)
theorem dX5_about_2 : decode cX5_about 2 = .ok (.i2l, 1) := dk_133 (dk_at dksX5_about_0 2 rfl rfl)
theorem dX5_about_3 : decode cX5_about 3 = .ok (.lconst 0, 1) := dk_9 (dk_at dksX5_about_0 3 rfl rfl)
theorem dX5_about_4 : decode cX5_about 4 = .ok (.ldc2_w 128, 3) := dk_20 0 128 (dk_at dksX5_about_0 4 rfl rfl)
theorem dX5_about_7 : decode cX5_about 7 = .ok (.invokestatic 79, 3) := dk_184 0 79 (dk_at dksX5_about_0 7 rfl rfl)
theorem dX5_about_10 : decode cX5_about 10 = .ok (.ifCond .eq 7, 3) := dk_153 0 7 (dk_at dksX5_about_0 10 rfl rfl)
theorem dX5_about_13 : decode cX5_about 13 = .ok (.iconst 0, 1) := dk_3 (dk_at dksX5_about_0 13 rfl rfl)
theorem dX5_about_14 : decode cX5_about 14 = .ok (.goto 4, 3) := dk_167 0 4 (dk_at dksX5_about_0 14 rfl rfl)
theorem dX5_about_17 : decode cX5_about 17 = .ok (.iconst 1, 1) := dk_4 (dk_at dksX5_about_0 17 rfl rfl)
theorem dX5_about_18 : decode cX5_about 18 = .ok (.invokevirtual 150, 3) := dk_182 0 150 (dk_at dksX5_about_0 18 rfl rfl)
theorem dX5_about_21 : decode cX5_about 21 = .ok (.ifCond .eq 5, 3) := dk_153 0 5 (dk_at dksX5_about_0 21 rfl rfl)
theorem dX5_about_24 : decode cX5_about 24 = .ok (.iconst 0, 1) := dk_3 (dk_at dksX5_about_1 0 rfl rfl)
theorem dX5_about_25 : decode cX5_about 25 = .ok (.ireturn, 1) := dk_172 (dk_at dksX5_about_1 1 rfl rfl)
theorem dX5_about_26 : decode cX5_about 26 = .ok (.iload_n 1, 1) := dk_27 (dk_at dksX5_about_1 2 rfl rfl)
theorem dX5_about_27 : decode cX5_about 27 = .ok (.tableswitch 182 0 4 #[33, 50, 61, 70, 87], 33) := by decide +kernel
theorem dX5_about_60 : decode cX5_about 60 = .ok (.aload_n 0, 1) := dk_42 (dk_at dksX5_about_3 0 rfl rfl)
theorem dX5_about_61 : decode cX5_about 61 = .ok (.getfield 13, 3) := dk_180 0 13 (dk_at dksX5_about_3 1 rfl rfl)
theorem dX5_about_64 : decode cX5_about 64 = .ok (.iconst 0, 1) := dk_3 (dk_at dksX5_about_3 4 rfl rfl)
theorem dX5_about_65 : decode cX5_about 65 = .ok (.aload_n 0, 1) := dk_42 (dk_at dksX5_about_3 5 rfl rfl)
theorem dX5_about_66 : decode cX5_about 66 = .ok (.getfield 13, 3) := dk_180 0 13 (dk_at dksX5_about_3 6 rfl rfl)
theorem dX5_about_69 : decode cX5_about 69 = .ok (.sipush 180, 3) := dk_17 0 180 (dk_at dksX5_about_3 9 rfl rfl)
theorem dX5_about_72 : decode cX5_about 72 = .ok (.iaload, 1) := dk_46 (dk_at dksX5_about_3 12 rfl rfl)
theorem dX5_about_73 : decode cX5_about 73 = .ok (.invokestatic 114, 3) := dk_184 0 114 (dk_at dksX5_about_3 13 rfl rfl)
theorem dX5_about_76 : decode cX5_about 76 = .ok (.ireturn, 1) := dk_172 (dk_at dksX5_about_3 16 rfl rfl)
theorem dX5_about_77 : decode cX5_about 77 = .ok (.aload_n 0, 1) := dk_42 (dk_at dksX5_about_3 17 rfl rfl)
theorem dX5_about_78 : decode cX5_about 78 = .ok (.getfield 13, 3) := dk_180 0 13 (dk_at dksX5_about_3 18 rfl rfl)
theorem dX5_about_81 : decode cX5_about 81 = .ok (.sipush 180, 3) := dk_17 0 180 (dk_at dksX5_about_3 21 rfl rfl)
theorem dX5_about_84 : decode cX5_about 84 = .ok (.iaload, 1) := dk_46 (dk_at dksX5_about_4 0 rfl rfl)
theorem dX5_about_85 : decode cX5_about 85 = .ok (.iconst 1, 1) := dk_4 (dk_at dksX5_about_4 1 rfl rfl)
theorem dX5_about_86 : decode cX5_about 86 = .ok (.iadd, 1) := dk_96 (dk_at dksX5_about_4 2 rfl rfl)
theorem dX5_about_87 : decode cX5_about 87 = .ok (.ireturn, 1) := dk_172 (dk_at dksX5_about_4 3 rfl rfl)
theorem dX5_about_88 : decode cX5_about 88 = .ok (.aload_n 0, 1) := dk_42 (dk_at dksX5_about_4 4 rfl rfl)
theorem dX5_about_89 : decode cX5_about 89 = .ok (.getfield 13, 3) := dk_180 0 13 (dk_at dksX5_about_4 5 rfl rfl)
theorem dX5_about_92 : decode cX5_about 92 = .ok (.sipush 181, 3) := dk_17 0 181 (dk_at dksX5_about_4 8 rfl rfl)
theorem dX5_about_95 : decode cX5_about 95 = .ok (.iaload, 1) := dk_46 (dk_at dksX5_about_4 11 rfl rfl)
theorem dX5_about_96 : decode cX5_about 96 = .ok (.ireturn, 1) := dk_172 (dk_at dksX5_about_4 12 rfl rfl)
theorem dX5_about_97 : decode cX5_about 97 = .ok (.aload_n 0, 1) := dk_42 (dk_at dksX5_about_4 13 rfl rfl)
theorem dX5_about_98 : decode cX5_about 98 = .ok (.getfield 13, 3) := dk_180 0 13 (dk_at dksX5_about_4 14 rfl rfl)
theorem dX5_about_101 : decode cX5_about 101 = .ok (.iconst 0, 1) := dk_3 (dk_at dksX5_about_4 17 rfl rfl)
theorem dX5_about_102 : decode cX5_about 102 = .ok (.aload_n 0, 1) := dk_42 (dk_at dksX5_about_4 18 rfl rfl)
theorem dX5_about_103 : decode cX5_about 103 = .ok (.getfield 13, 3) := dk_180 0 13 (dk_at dksX5_about_4 19 rfl rfl)
theorem dX5_about_106 : decode cX5_about 106 = .ok (.sipush 180, 3) := dk_17 0 180 (dk_at dksX5_about_5 0 rfl rfl)
theorem dX5_about_109 : decode cX5_about 109 = .ok (.iaload, 1) := dk_46 (dk_at dksX5_about_5 3 rfl rfl)
theorem dX5_about_110 : decode cX5_about 110 = .ok (.invokestatic 133, 3) := dk_184 0 133 (dk_at dksX5_about_5 4 rfl rfl)
theorem dX5_about_113 : decode cX5_about 113 = .ok (.ireturn, 1) := dk_172 (dk_at dksX5_about_5 7 rfl rfl)
theorem dX5_about_114 : decode cX5_about 114 = .ok (.iconst 0, 1) := dk_3 (dk_at dksX5_about_5 8 rfl rfl)
theorem dX5_about_115 : decode cX5_about 115 = .ok (.istore_n 2, 1) := dk_61 (dk_at dksX5_about_5 9 rfl rfl)
theorem dX5_about_116 : decode cX5_about 116 = .ok (.iconst 0, 1) := dk_3 (dk_at dksX5_about_5 10 rfl rfl)
theorem dX5_about_117 : decode cX5_about 117 = .ok (.istore_n 3, 1) := dk_62 (dk_at dksX5_about_5 11 rfl rfl)
theorem dX5_about_118 : decode cX5_about 118 = .ok (.iload_n 3, 1) := dk_29 (dk_at dksX5_about_5 12 rfl rfl)
theorem dX5_about_119 : decode cX5_about 119 = .ok (.iconst 1, 1) := dk_4 (dk_at dksX5_about_5 13 rfl rfl)
theorem dX5_about_120 : decode cX5_about 120 = .ok (.iadd, 1) := dk_96 (dk_at dksX5_about_5 14 rfl rfl)
theorem dX5_about_121 : decode cX5_about 121 = .ok (.aload_n 0, 1) := dk_42 (dk_at dksX5_about_5 15 rfl rfl)
theorem dX5_about_122 : decode cX5_about 122 = .ok (.getfield 13, 3) := dk_180 0 13 (dk_at dksX5_about_5 16 rfl rfl)
theorem dX5_about_125 : decode cX5_about 125 = .ok (.sipush 180, 3) := dk_17 0 180 (dk_at dksX5_about_5 19 rfl rfl)
theorem dX5_about_128 : decode cX5_about 128 = .ok (.iaload, 1) := dk_46 (dk_at dksX5_about_5 22 rfl rfl)
theorem dX5_about_129 : decode cX5_about 129 = .ok (.if_icmp .ge 78, 3) := dk_162 0 78 (dk_at dksX5_about_6 0 rfl rfl)
theorem dX5_about_132 : decode cX5_about 132 = .ok (.aload_n 0, 1) := dk_42 (dk_at dksX5_about_6 3 rfl rfl)
theorem dX5_about_133 : decode cX5_about 133 = .ok (.getfield 13, 3) := dk_180 0 13 (dk_at dksX5_about_6 4 rfl rfl)
theorem dX5_about_136 : decode cX5_about 136 = .ok (.iload_n 3, 1) := dk_29 (dk_at dksX5_about_6 7 rfl rfl)
theorem dX5_about_137 : decode cX5_about 137 = .ok (.iaload, 1) := dk_46 (dk_at dksX5_about_6 8 rfl rfl)
theorem dX5_about_138 : decode cX5_about 138 = .ok (.invokestatic 97, 3) := dk_184 0 97 (dk_at dksX5_about_6 9 rfl rfl)
theorem dX5_about_141 : decode cX5_about 141 = .ok (.ifCond .ne 14, 3) := dk_154 0 14 (dk_at dksX5_about_6 12 rfl rfl)
theorem dX5_about_144 : decode cX5_about 144 = .ok (.aload_n 0, 1) := dk_42 (dk_at dksX5_about_6 15 rfl rfl)
theorem dX5_about_145 : decode cX5_about 145 = .ok (.getfield 13, 3) := dk_180 0 13 (dk_at dksX5_about_6 16 rfl rfl)
theorem dX5_about_148 : decode cX5_about 148 = .ok (.iload_n 3, 1) := dk_29 (dk_at dksX5_about_6 19 rfl rfl)
theorem dX5_about_149 : decode cX5_about 149 = .ok (.iaload, 1) := dk_46 (dk_at dksX5_about_6 20 rfl rfl)
theorem dX5_about_150 : decode cX5_about 150 = .ok (.bipush (-10), 2) := dk_16 246 (dk_at dksX5_about_6 21 rfl rfl)
theorem dX5_about_152 : decode cX5_about 152 = .ok (.if_icmp .ne 7, 3) := dk_160 0 7 (dk_at dksX5_about_7 0 rfl rfl)
theorem dX5_about_155 : decode cX5_about 155 = .ok (.iconst 1, 1) := dk_4 (dk_at dksX5_about_7 3 rfl rfl)
theorem dX5_about_156 : decode cX5_about 156 = .ok (.goto 4, 3) := dk_167 0 4 (dk_at dksX5_about_7 4 rfl rfl)
theorem dX5_about_159 : decode cX5_about 159 = .ok (.iconst 0, 1) := dk_3 (dk_at dksX5_about_7 7 rfl rfl)
theorem dX5_about_160 : decode cX5_about 160 = .ok (.istore 4, 2) := dk_54 4 (dk_at dksX5_about_7 8 rfl rfl)
theorem dX5_about_162 : decode cX5_about 162 = .ok (.iload_n 2, 1) := dk_28 (dk_at dksX5_about_7 10 rfl rfl)
theorem dX5_about_163 : decode cX5_about 163 = .ok (.iload 4, 2) := dk_21 4 (dk_at dksX5_about_7 11 rfl rfl)
theorem dX5_about_165 : decode cX5_about 165 = .ok (.ifCond .eq 33, 3) := dk_153 0 33 (dk_at dksX5_about_7 13 rfl rfl)
theorem dX5_about_168 : decode cX5_about 168 = .ok (.aload_n 0, 1) := dk_42 (dk_at dksX5_about_7 16 rfl rfl)
theorem dX5_about_169 : decode cX5_about 169 = .ok (.getfield 13, 3) := dk_180 0 13 (dk_at dksX5_about_7 17 rfl rfl)
theorem dX5_about_172 : decode cX5_about 172 = .ok (.iload_n 3, 1) := dk_29 (dk_at dksX5_about_7 20 rfl rfl)
theorem dX5_about_173 : decode cX5_about 173 = .ok (.iconst 1, 1) := dk_4 (dk_at dksX5_about_7 21 rfl rfl)
theorem dX5_about_174 : decode cX5_about 174 = .ok (.iadd, 1) := dk_96 (dk_at dksX5_about_7 22 rfl rfl)
theorem dX5_about_175 : decode cX5_about 175 = .ok (.iaload, 1) := dk_46 (dk_at dksX5_about_7 23 rfl rfl)
theorem dX5_about_176 : decode cX5_about 176 = .ok (.bipush (-10), 2) := dk_16 246 (dk_at dksX5_about_8 0 rfl rfl)
theorem dX5_about_178 : decode cX5_about 178 = .ok (.if_icmp .eq 16, 3) := dk_159 0 16 (dk_at dksX5_about_8 2 rfl rfl)
theorem dX5_about_181 : decode cX5_about 181 = .ok (.aload_n 0, 1) := dk_42 (dk_at dksX5_about_8 5 rfl rfl)
theorem dX5_about_182 : decode cX5_about 182 = .ok (.getfield 13, 3) := dk_180 0 13 (dk_at dksX5_about_8 6 rfl rfl)
theorem dX5_about_185 : decode cX5_about 185 = .ok (.iload_n 3, 1) := dk_29 (dk_at dksX5_about_8 9 rfl rfl)
theorem dX5_about_186 : decode cX5_about 186 = .ok (.iconst 1, 1) := dk_4 (dk_at dksX5_about_8 10 rfl rfl)
theorem dX5_about_187 : decode cX5_about 187 = .ok (.iadd, 1) := dk_96 (dk_at dksX5_about_8 11 rfl rfl)
theorem dX5_about_188 : decode cX5_about 188 = .ok (.iaload, 1) := dk_46 (dk_at dksX5_about_8 12 rfl rfl)
theorem dX5_about_189 : decode cX5_about 189 = .ok (.bipush (-11), 2) := dk_16 245 (dk_at dksX5_about_8 13 rfl rfl)
theorem dX5_about_191 : decode cX5_about 191 = .ok (.if_icmp .ne 7, 3) := dk_160 0 7 (dk_at dksX5_about_8 15 rfl rfl)
theorem dX5_about_194 : decode cX5_about 194 = .ok (.iconst 1, 1) := dk_4 (dk_at dksX5_about_8 18 rfl rfl)
theorem dX5_about_195 : decode cX5_about 195 = .ok (.goto 4, 3) := dk_167 0 4 (dk_at dksX5_about_8 19 rfl rfl)
theorem dX5_about_198 : decode cX5_about 198 = .ok (.iconst 0, 1) := dk_3 (dk_at dksX5_about_8 22 rfl rfl)
theorem dX5_about_199 : decode cX5_about 199 = .ok (.iadd, 1) := dk_96 (dk_at dksX5_about_8 23 rfl rfl)
theorem dX5_about_200 : decode cX5_about 200 = .ok (.istore_n 2, 1) := dk_61 (dk_at dksX5_about_9 0 rfl rfl)
theorem dX5_about_201 : decode cX5_about 201 = .ok (.iinc 3 1, 3) := dk_132 3 1 (dk_at dksX5_about_9 1 rfl rfl)
theorem dX5_about_204 : decode cX5_about 204 = .ok (.goto (-86), 3) := dk_167 255 170 (dk_at dksX5_about_9 4 rfl rfl)
theorem dX5_about_207 : decode cX5_about 207 = .ok (.iload_n 2, 1) := dk_28 (dk_at dksX5_about_9 7 rfl rfl)
theorem dX5_about_208 : decode cX5_about 208 = .ok (.ireturn, 1) := dk_172 (dk_at dksX5_about_9 8 rfl rfl)
theorem dX5_about_209 : decode cX5_about 209 = .ok (.aload_n 0, 1) := dk_42 (dk_at dksX5_about_9 9 rfl rfl)
theorem dX5_about_210 : decode cX5_about 210 = .ok (.getfield 29, 3) := dk_180 0 29 (dk_at dksX5_about_9 10 rfl rfl)
theorem dX5_about_213 : decode cX5_about 213 = .ok (.iconst 0, 1) := dk_3 (dk_at dksX5_about_9 13 rfl rfl)
theorem dX5_about_214 : decode cX5_about 214 = .ok (.aload_n 0, 1) := dk_42 (dk_at dksX5_about_9 14 rfl rfl)
theorem dX5_about_215 : decode cX5_about 215 = .ok (.getfield 29, 3) := dk_180 0 29 (dk_at dksX5_about_9 15 rfl rfl)
theorem dX5_about_218 : decode cX5_about 218 = .ok (.sipush 180, 3) := dk_17 0 180 (dk_at dksX5_about_9 18 rfl rfl)
theorem dX5_about_221 : decode cX5_about 221 = .ok (.iaload, 1) := dk_46 (dk_at dksX5_about_9 21 rfl rfl)
theorem dX5_about_222 : decode cX5_about 222 = .ok (.invokestatic 114, 3) := dk_184 0 114 (dk_at dksX5_about_10 0 rfl rfl)
theorem dX5_about_225 : decode cX5_about 225 = .ok (.ireturn, 1) := dk_172 (dk_at dksX5_about_10 3 rfl rfl)
abbrev cX5_place : ByteArray := prog_15_method_42_code
def yX5_place : MethodName := ⟨RX5, "place", "(II)I"⟩
def dkwX5_place_9 : List UInt8 := [167, 0, 10, 42, 180, 0, 13, 27, 46, 116, 172]
abbrev dktX5_place_9 : List UInt8 := dkwX5_place_9 ++ []
def dkwX5_place_8 : List UInt8 := [160, 0, 8, 16, 247, 167, 0, 28, 42, 180, 0, 13, 27, 46, 158, 0, 12, 42, 180, 0, 13, 27, 46]
abbrev dktX5_place_8 : List UInt8 := dkwX5_place_8 ++ dktX5_place_9
def dkwX5_place_7 : List UInt8 := [180, 0, 13, 29, 4, 100, 46, 116, 172, 21, 5, 153, 0, 7, 4, 167, 0, 4, 3, 172, 27, 21, 4]
abbrev dktX5_place_7 : List UInt8 := dkwX5_place_7 ++ dktX5_place_8
def dkwX5_place_6 : List UInt8 := [21, 4, 184, 0, 188, 172, 29, 154, 0, 7, 3, 167, 0, 21, 21, 5, 153, 0, 7, 4, 167, 0, 12, 42]
abbrev dktX5_place_6 : List UInt8 := dkwX5_place_6 ++ dktX5_place_7
def dkwX5_place_5 : List UInt8 := [42, 180, 0, 13, 27, 184, 0, 130, 172, 42, 180, 0, 13, 29, 27, 184, 0, 188, 172, 42, 180, 0, 13, 29]
abbrev dktX5_place_5 : List UInt8 := dkwX5_place_5 ++ dktX5_place_6
def dkwX5_place_4 : List UInt8 := [170, 0, 0, 0, 0, 102, 0, 0, 0, 0, 0, 0, 0, 4, 0, 0, 0, 34, 0, 0, 0, 43, 0, 0, 0, 53, 0, 0, 0, 64, 0, 0, 0, 91]
abbrev dktX5_place_4 : List UInt8 := dkwX5_place_4 ++ dktX5_place_5
def dkwX5_place_3 : List UInt8 := [16, 246, 160, 0, 7, 4, 167, 0, 4, 3, 54, 5, 28]
abbrev dktX5_place_3 : List UInt8 := dkwX5_place_3 ++ dktX5_place_4
def dkwX5_place_2 : List UInt8 := [62, 42, 180, 0, 13, 27, 184, 0, 142, 54, 4, 29, 158, 0, 20, 42, 180, 0, 13, 29, 4, 100, 46]
abbrev dktX5_place_2 : List UInt8 := dkwX5_place_2 ++ dktX5_place_3
def dkwX5_place_1 : List UInt8 := [154, 0, 7, 5, 167, 0, 4, 3, 182, 0, 150, 153, 0, 5, 3, 172, 42, 180, 0, 13, 27, 184, 0, 136]
abbrev dktX5_place_1 : List UInt8 := dkwX5_place_1 ++ dktX5_place_2
def dkwX5_place_0 : List UInt8 := [42, 42, 27, 182, 0, 185, 154, 0, 7, 4, 167, 0, 20, 28, 133, 9, 20, 0, 128, 184, 0, 79]
abbrev dktX5_place_0 : List UInt8 := dkwX5_place_0 ++ dktX5_place_1
theorem dksX5_place_0 : cX5_place.data.toList.drop 0 = dktX5_place_0 := by decide +kernel
theorem dksX5_place_1 : cX5_place.data.toList.drop 22 = dktX5_place_1 := dk_seg dksX5_place_0 22 rfl rfl
theorem dksX5_place_2 : cX5_place.data.toList.drop 46 = dktX5_place_2 := dk_seg dksX5_place_1 24 rfl rfl
theorem dksX5_place_3 : cX5_place.data.toList.drop 69 = dktX5_place_3 := dk_seg dksX5_place_2 23 rfl rfl
theorem dksX5_place_4 : cX5_place.data.toList.drop 82 = dktX5_place_4 := dk_seg dksX5_place_3 13 rfl rfl
theorem dksX5_place_5 : cX5_place.data.toList.drop 116 = dktX5_place_5 := dk_seg dksX5_place_4 34 rfl rfl
theorem dksX5_place_6 : cX5_place.data.toList.drop 140 = dktX5_place_6 := dk_seg dksX5_place_5 24 rfl rfl
theorem dksX5_place_7 : cX5_place.data.toList.drop 164 = dktX5_place_7 := dk_seg dksX5_place_6 24 rfl rfl
theorem dksX5_place_8 : cX5_place.data.toList.drop 187 = dktX5_place_8 := dk_seg dksX5_place_7 23 rfl rfl
theorem dksX5_place_9 : cX5_place.data.toList.drop 210 = dktX5_place_9 := dk_seg dksX5_place_8 23 rfl rfl
theorem dX5_place_0 : decode cX5_place 0 = .ok (.aload_n 0, 1) := dk_42 (dk_at dksX5_place_0 0 rfl rfl)
theorem dX5_place_1 : decode cX5_place 1 = .ok (.aload_n 0, 1) := dk_42 (dk_at dksX5_place_0 1 rfl rfl)
theorem dX5_place_2 : decode cX5_place 2 = .ok (.iload_n 1, 1) := dk_27 (dk_at dksX5_place_0 2 rfl rfl)
theorem dX5_place_3 : decode cX5_place 3 = .ok (.invokevirtual 185, 3) := dk_182 0 185 (dk_at dksX5_place_0 3 rfl rfl)
theorem dX5_place_6 : decode cX5_place 6 = .ok (.ifCond .ne 7, 3) := dk_154 0 7 (dk_at dksX5_place_0 6 rfl rfl)
theorem dX5_place_9 : decode cX5_place 9 = .ok (.iconst 1, 1) := dk_4 (dk_at dksX5_place_0 9 rfl rfl)
theorem dX5_place_10 : decode cX5_place 10 = .ok (.goto 20, 3) := dk_167 0 20 (dk_at dksX5_place_0 10 rfl rfl)
theorem dX5_place_13 : decode cX5_place 13 = .ok (.iload_n 2, 1) := dk_28 (dk_at dksX5_place_0 13 rfl rfl)
theorem dX5_place_14 : decode cX5_place 14 = .ok (.i2l, 1) := dk_133 (dk_at dksX5_place_0 14 rfl rfl)
theorem dX5_place_15 : decode cX5_place 15 = .ok (.lconst 0, 1) := dk_9 (dk_at dksX5_place_0 15 rfl rfl)
theorem dX5_place_16 : decode cX5_place 16 = .ok (.ldc2_w 128, 3) := dk_20 0 128 (dk_at dksX5_place_0 16 rfl rfl)
theorem dX5_place_19 : decode cX5_place 19 = .ok (.invokestatic 79, 3) := dk_184 0 79 (dk_at dksX5_place_0 19 rfl rfl)
theorem dX5_place_22 : decode cX5_place 22 = .ok (.ifCond .ne 7, 3) := dk_154 0 7 (dk_at dksX5_place_1 0 rfl rfl)
theorem dX5_place_25 : decode cX5_place 25 = .ok (.iconst 2, 1) := dk_5 (dk_at dksX5_place_1 3 rfl rfl)
theorem dX5_place_26 : decode cX5_place 26 = .ok (.goto 4, 3) := dk_167 0 4 (dk_at dksX5_place_1 4 rfl rfl)
theorem dX5_place_29 : decode cX5_place 29 = .ok (.iconst 0, 1) := dk_3 (dk_at dksX5_place_1 7 rfl rfl)
theorem dX5_place_30 : decode cX5_place 30 = .ok (.invokevirtual 150, 3) := dk_182 0 150 (dk_at dksX5_place_1 8 rfl rfl)
theorem dX5_place_33 : decode cX5_place 33 = .ok (.ifCond .eq 5, 3) := dk_153 0 5 (dk_at dksX5_place_1 11 rfl rfl)
theorem dX5_place_36 : decode cX5_place 36 = .ok (.iconst 0, 1) := dk_3 (dk_at dksX5_place_1 14 rfl rfl)
theorem dX5_place_37 : decode cX5_place 37 = .ok (.ireturn, 1) := dk_172 (dk_at dksX5_place_1 15 rfl rfl)
theorem dX5_place_38 : decode cX5_place 38 = .ok (.aload_n 0, 1) := dk_42 (dk_at dksX5_place_1 16 rfl rfl)
theorem dX5_place_39 : decode cX5_place 39 = .ok (.getfield 13, 3) := dk_180 0 13 (dk_at dksX5_place_1 17 rfl rfl)
theorem dX5_place_42 : decode cX5_place 42 = .ok (.iload_n 1, 1) := dk_27 (dk_at dksX5_place_1 20 rfl rfl)
theorem dX5_place_43 : decode cX5_place 43 = .ok (.invokestatic 136, 3) := dk_184 0 136 (dk_at dksX5_place_1 21 rfl rfl)
theorem dX5_place_46 : decode cX5_place 46 = .ok (.istore_n 3, 1) := dk_62 (dk_at dksX5_place_2 0 rfl rfl)
theorem dX5_place_47 : decode cX5_place 47 = .ok (.aload_n 0, 1) := dk_42 (dk_at dksX5_place_2 1 rfl rfl)
theorem dX5_place_48 : decode cX5_place 48 = .ok (.getfield 13, 3) := dk_180 0 13 (dk_at dksX5_place_2 2 rfl rfl)
theorem dX5_place_51 : decode cX5_place 51 = .ok (.iload_n 1, 1) := dk_27 (dk_at dksX5_place_2 5 rfl rfl)
theorem dX5_place_52 : decode cX5_place 52 = .ok (.invokestatic 142, 3) := dk_184 0 142 (dk_at dksX5_place_2 6 rfl rfl)
theorem dX5_place_55 : decode cX5_place 55 = .ok (.istore 4, 2) := dk_54 4 (dk_at dksX5_place_2 9 rfl rfl)
theorem dX5_place_57 : decode cX5_place 57 = .ok (.iload_n 3, 1) := dk_29 (dk_at dksX5_place_2 11 rfl rfl)
theorem dX5_place_58 : decode cX5_place 58 = .ok (.ifCond .le 20, 3) := dk_158 0 20 (dk_at dksX5_place_2 12 rfl rfl)
theorem dX5_place_61 : decode cX5_place 61 = .ok (.aload_n 0, 1) := dk_42 (dk_at dksX5_place_2 15 rfl rfl)
theorem dX5_place_62 : decode cX5_place 62 = .ok (.getfield 13, 3) := dk_180 0 13 (dk_at dksX5_place_2 16 rfl rfl)
theorem dX5_place_65 : decode cX5_place 65 = .ok (.iload_n 3, 1) := dk_29 (dk_at dksX5_place_2 19 rfl rfl)
theorem dX5_place_66 : decode cX5_place 66 = .ok (.iconst 1, 1) := dk_4 (dk_at dksX5_place_2 20 rfl rfl)
theorem dX5_place_67 : decode cX5_place 67 = .ok (.isub, 1) := dk_100 (dk_at dksX5_place_2 21 rfl rfl)
theorem dX5_place_68 : decode cX5_place 68 = .ok (.iaload, 1) := dk_46 (dk_at dksX5_place_2 22 rfl rfl)
theorem dX5_place_69 : decode cX5_place 69 = .ok (.bipush (-10), 2) := dk_16 246 (dk_at dksX5_place_3 0 rfl rfl)
theorem dX5_place_71 : decode cX5_place 71 = .ok (.if_icmp .ne 7, 3) := dk_160 0 7 (dk_at dksX5_place_3 2 rfl rfl)
theorem dX5_place_74 : decode cX5_place 74 = .ok (.iconst 1, 1) := dk_4 (dk_at dksX5_place_3 5 rfl rfl)
theorem dX5_place_75 : decode cX5_place 75 = .ok (.goto 4, 3) := dk_167 0 4 (dk_at dksX5_place_3 6 rfl rfl)
theorem dX5_place_78 : decode cX5_place 78 = .ok (.iconst 0, 1) := dk_3 (dk_at dksX5_place_3 9 rfl rfl)
theorem dX5_place_79 : decode cX5_place 79 = .ok (.istore 5, 2) := dk_54 5 (dk_at dksX5_place_3 10 rfl rfl)
theorem dX5_place_81 : decode cX5_place 81 = .ok (.iload_n 2, 1) := dk_28 (dk_at dksX5_place_3 12 rfl rfl)
theorem dX5_place_82 : decode cX5_place 82 = .ok (.tableswitch 102 0 4 #[34, 43, 53, 64, 91], 34) := by decide +kernel
theorem dX5_place_116 : decode cX5_place 116 = .ok (.aload_n 0, 1) := dk_42 (dk_at dksX5_place_5 0 rfl rfl)
theorem dX5_place_117 : decode cX5_place 117 = .ok (.getfield 13, 3) := dk_180 0 13 (dk_at dksX5_place_5 1 rfl rfl)
theorem dX5_place_120 : decode cX5_place 120 = .ok (.iload_n 1, 1) := dk_27 (dk_at dksX5_place_5 4 rfl rfl)
theorem dX5_place_121 : decode cX5_place 121 = .ok (.invokestatic 130, 3) := dk_184 0 130 (dk_at dksX5_place_5 5 rfl rfl)
theorem dX5_place_124 : decode cX5_place 124 = .ok (.ireturn, 1) := dk_172 (dk_at dksX5_place_5 8 rfl rfl)
theorem dX5_place_125 : decode cX5_place 125 = .ok (.aload_n 0, 1) := dk_42 (dk_at dksX5_place_5 9 rfl rfl)
theorem dX5_place_126 : decode cX5_place 126 = .ok (.getfield 13, 3) := dk_180 0 13 (dk_at dksX5_place_5 10 rfl rfl)
theorem dX5_place_129 : decode cX5_place 129 = .ok (.iload_n 3, 1) := dk_29 (dk_at dksX5_place_5 13 rfl rfl)
theorem dX5_place_130 : decode cX5_place 130 = .ok (.iload_n 1, 1) := dk_27 (dk_at dksX5_place_5 14 rfl rfl)
theorem dX5_place_131 : decode cX5_place 131 = .ok (.invokestatic 188, 3) := dk_184 0 188 (dk_at dksX5_place_5 15 rfl rfl)
theorem dX5_place_134 : decode cX5_place 134 = .ok (.ireturn, 1) := dk_172 (dk_at dksX5_place_5 18 rfl rfl)
theorem dX5_place_135 : decode cX5_place 135 = .ok (.aload_n 0, 1) := dk_42 (dk_at dksX5_place_5 19 rfl rfl)
theorem dX5_place_136 : decode cX5_place 136 = .ok (.getfield 13, 3) := dk_180 0 13 (dk_at dksX5_place_5 20 rfl rfl)
theorem dX5_place_139 : decode cX5_place 139 = .ok (.iload_n 3, 1) := dk_29 (dk_at dksX5_place_5 23 rfl rfl)
theorem dX5_place_140 : decode cX5_place 140 = .ok (.iload 4, 2) := dk_21 4 (dk_at dksX5_place_6 0 rfl rfl)
theorem dX5_place_142 : decode cX5_place 142 = .ok (.invokestatic 188, 3) := dk_184 0 188 (dk_at dksX5_place_6 2 rfl rfl)
theorem dX5_place_145 : decode cX5_place 145 = .ok (.ireturn, 1) := dk_172 (dk_at dksX5_place_6 5 rfl rfl)
theorem dX5_place_146 : decode cX5_place 146 = .ok (.iload_n 3, 1) := dk_29 (dk_at dksX5_place_6 6 rfl rfl)
theorem dX5_place_147 : decode cX5_place 147 = .ok (.ifCond .ne 7, 3) := dk_154 0 7 (dk_at dksX5_place_6 7 rfl rfl)
theorem dX5_place_150 : decode cX5_place 150 = .ok (.iconst 0, 1) := dk_3 (dk_at dksX5_place_6 10 rfl rfl)
theorem dX5_place_151 : decode cX5_place 151 = .ok (.goto 21, 3) := dk_167 0 21 (dk_at dksX5_place_6 11 rfl rfl)
theorem dX5_place_154 : decode cX5_place 154 = .ok (.iload 5, 2) := dk_21 5 (dk_at dksX5_place_6 14 rfl rfl)
theorem dX5_place_156 : decode cX5_place 156 = .ok (.ifCond .eq 7, 3) := dk_153 0 7 (dk_at dksX5_place_6 16 rfl rfl)
theorem dX5_place_159 : decode cX5_place 159 = .ok (.iconst 1, 1) := dk_4 (dk_at dksX5_place_6 19 rfl rfl)
theorem dX5_place_160 : decode cX5_place 160 = .ok (.goto 12, 3) := dk_167 0 12 (dk_at dksX5_place_6 20 rfl rfl)
theorem dX5_place_163 : decode cX5_place 163 = .ok (.aload_n 0, 1) := dk_42 (dk_at dksX5_place_6 23 rfl rfl)
theorem dX5_place_164 : decode cX5_place 164 = .ok (.getfield 13, 3) := dk_180 0 13 (dk_at dksX5_place_7 0 rfl rfl)
theorem dX5_place_167 : decode cX5_place 167 = .ok (.iload_n 3, 1) := dk_29 (dk_at dksX5_place_7 3 rfl rfl)
theorem dX5_place_168 : decode cX5_place 168 = .ok (.iconst 1, 1) := dk_4 (dk_at dksX5_place_7 4 rfl rfl)
theorem dX5_place_169 : decode cX5_place 169 = .ok (.isub, 1) := dk_100 (dk_at dksX5_place_7 5 rfl rfl)
theorem dX5_place_170 : decode cX5_place 170 = .ok (.iaload, 1) := dk_46 (dk_at dksX5_place_7 6 rfl rfl)
theorem dX5_place_171 : decode cX5_place 171 = .ok (.ineg, 1) := dk_116 (dk_at dksX5_place_7 7 rfl rfl)
theorem dX5_place_172 : decode cX5_place 172 = .ok (.ireturn, 1) := dk_172 (dk_at dksX5_place_7 8 rfl rfl)
theorem dX5_place_173 : decode cX5_place 173 = .ok (.iload 5, 2) := dk_21 5 (dk_at dksX5_place_7 9 rfl rfl)
theorem dX5_place_175 : decode cX5_place 175 = .ok (.ifCond .eq 7, 3) := dk_153 0 7 (dk_at dksX5_place_7 11 rfl rfl)
theorem dX5_place_178 : decode cX5_place 178 = .ok (.iconst 1, 1) := dk_4 (dk_at dksX5_place_7 14 rfl rfl)
theorem dX5_place_179 : decode cX5_place 179 = .ok (.goto 4, 3) := dk_167 0 4 (dk_at dksX5_place_7 15 rfl rfl)
theorem dX5_place_182 : decode cX5_place 182 = .ok (.iconst 0, 1) := dk_3 (dk_at dksX5_place_7 18 rfl rfl)
theorem dX5_place_183 : decode cX5_place 183 = .ok (.ireturn, 1) := dk_172 (dk_at dksX5_place_7 19 rfl rfl)
theorem dX5_place_184 : decode cX5_place 184 = .ok (.iload_n 1, 1) := dk_27 (dk_at dksX5_place_7 20 rfl rfl)
theorem dX5_place_185 : decode cX5_place 185 = .ok (.iload 4, 2) := dk_21 4 (dk_at dksX5_place_7 21 rfl rfl)
theorem dX5_place_187 : decode cX5_place 187 = .ok (.if_icmp .ne 8, 3) := dk_160 0 8 (dk_at dksX5_place_8 0 rfl rfl)
theorem dX5_place_190 : decode cX5_place 190 = .ok (.bipush (-9), 2) := dk_16 247 (dk_at dksX5_place_8 3 rfl rfl)
theorem dX5_place_192 : decode cX5_place 192 = .ok (.goto 28, 3) := dk_167 0 28 (dk_at dksX5_place_8 5 rfl rfl)
theorem dX5_place_195 : decode cX5_place 195 = .ok (.aload_n 0, 1) := dk_42 (dk_at dksX5_place_8 8 rfl rfl)
theorem dX5_place_196 : decode cX5_place 196 = .ok (.getfield 13, 3) := dk_180 0 13 (dk_at dksX5_place_8 9 rfl rfl)
theorem dX5_place_199 : decode cX5_place 199 = .ok (.iload_n 1, 1) := dk_27 (dk_at dksX5_place_8 12 rfl rfl)
theorem dX5_place_200 : decode cX5_place 200 = .ok (.iaload, 1) := dk_46 (dk_at dksX5_place_8 13 rfl rfl)
theorem dX5_place_201 : decode cX5_place 201 = .ok (.ifCond .le 12, 3) := dk_158 0 12 (dk_at dksX5_place_8 14 rfl rfl)
theorem dX5_place_204 : decode cX5_place 204 = .ok (.aload_n 0, 1) := dk_42 (dk_at dksX5_place_8 17 rfl rfl)
theorem dX5_place_205 : decode cX5_place 205 = .ok (.getfield 13, 3) := dk_180 0 13 (dk_at dksX5_place_8 18 rfl rfl)
theorem dX5_place_208 : decode cX5_place 208 = .ok (.iload_n 1, 1) := dk_27 (dk_at dksX5_place_8 21 rfl rfl)
theorem dX5_place_209 : decode cX5_place 209 = .ok (.iaload, 1) := dk_46 (dk_at dksX5_place_8 22 rfl rfl)
theorem dX5_place_210 : decode cX5_place 210 = .ok (.goto 10, 3) := dk_167 0 10 (dk_at dksX5_place_9 0 rfl rfl)
theorem dX5_place_213 : decode cX5_place 213 = .ok (.aload_n 0, 1) := dk_42 (dk_at dksX5_place_9 3 rfl rfl)
theorem dX5_place_214 : decode cX5_place 214 = .ok (.getfield 13, 3) := dk_180 0 13 (dk_at dksX5_place_9 4 rfl rfl)
theorem dX5_place_217 : decode cX5_place 217 = .ok (.iload_n 1, 1) := dk_27 (dk_at dksX5_place_9 7 rfl rfl)
theorem dX5_place_218 : decode cX5_place 218 = .ok (.iaload, 1) := dk_46 (dk_at dksX5_place_9 8 rfl rfl)
theorem dX5_place_219 : decode cX5_place 219 = .ok (.ineg, 1) := dk_116 (dk_at dksX5_place_9 9 rfl rfl)
theorem dX5_place_220 : decode cX5_place 220 = .ok (.ireturn, 1) := dk_172 (dk_at dksX5_place_9 10 rfl rfl)
abbrev cX5_isPlace : ByteArray := prog_15_method_41_code
def yX5_isPlace : MethodName := ⟨RX5, "isPlace", "(I)Z"⟩
def dkwX5_isPlace_0 : List UInt8 := [27, 133, 9, 42, 180, 0, 13, 17, 0, 180, 46, 133, 184, 0, 79, 172]
abbrev dktX5_isPlace_0 : List UInt8 := dkwX5_isPlace_0 ++ []
theorem dksX5_isPlace_0 : cX5_isPlace.data.toList.drop 0 = dktX5_isPlace_0 := by decide +kernel
theorem dX5_isPlace_0 : decode cX5_isPlace 0 = .ok (.iload_n 1, 1) := dk_27 (dk_at dksX5_isPlace_0 0 rfl rfl)
theorem dX5_isPlace_1 : decode cX5_isPlace 1 = .ok (.i2l, 1) := dk_133 (dk_at dksX5_isPlace_0 1 rfl rfl)
theorem dX5_isPlace_2 : decode cX5_isPlace 2 = .ok (.lconst 0, 1) := dk_9 (dk_at dksX5_isPlace_0 2 rfl rfl)
theorem dX5_isPlace_3 : decode cX5_isPlace 3 = .ok (.aload_n 0, 1) := dk_42 (dk_at dksX5_isPlace_0 3 rfl rfl)
theorem dX5_isPlace_4 : decode cX5_isPlace 4 = .ok (.getfield 13, 3) := dk_180 0 13 (dk_at dksX5_isPlace_0 4 rfl rfl)
theorem dX5_isPlace_7 : decode cX5_isPlace 7 = .ok (.sipush 180, 3) := dk_17 0 180 (dk_at dksX5_isPlace_0 7 rfl rfl)
theorem dX5_isPlace_10 : decode cX5_isPlace 10 = .ok (.iaload, 1) := dk_46 (dk_at dksX5_isPlace_0 10 rfl rfl)
theorem dX5_isPlace_11 : decode cX5_isPlace 11 = .ok (.i2l, 1) := dk_133 (dk_at dksX5_isPlace_0 11 rfl rfl)
theorem dX5_isPlace_12 : decode cX5_isPlace 12 = .ok (.invokestatic 79, 3) := dk_184 0 79 (dk_at dksX5_isPlace_0 12 rfl rfl)
theorem dX5_isPlace_15 : decode cX5_isPlace 15 = .ok (.ireturn, 1) := dk_172 (dk_at dksX5_isPlace_0 15 rfl rfl)
abbrev cX5_rowStart : ByteArray := prog_15_method_13_code
def yX5_rowStart : MethodName := ⟨RX5, "rowStart", "([II)I"⟩
def dkwX5_rowStart_2 : List UInt8 := [184, 0, 97, 153, 0, 7, 2, 167, 0, 4, 3, 96, 61, 132, 3, 255, 167, 255, 199, 29, 4, 96, 172]
abbrev dktX5_rowStart_2 : List UInt8 := dkwX5_rowStart_2 ++ []
def dkwX5_rowStart_1 : List UInt8 := [29, 46, 16, 246, 159, 0, 38, 28, 42, 29, 46, 16, 245, 160, 0, 7, 4, 167, 0, 17, 42, 29, 46]
abbrev dktX5_rowStart_1 : List UInt8 := dkwX5_rowStart_1 ++ dktX5_rowStart_2
def dkwX5_rowStart_0 : List UInt8 := [3, 61, 27, 4, 100, 62, 29, 155, 0, 59, 28, 157, 0, 20, 42, 29, 46, 184, 0, 97, 154, 0, 46, 42]
abbrev dktX5_rowStart_0 : List UInt8 := dkwX5_rowStart_0 ++ dktX5_rowStart_1
theorem dksX5_rowStart_0 : cX5_rowStart.data.toList.drop 0 = dktX5_rowStart_0 := by decide +kernel
theorem dksX5_rowStart_1 : cX5_rowStart.data.toList.drop 24 = dktX5_rowStart_1 := dk_seg dksX5_rowStart_0 24 rfl rfl
theorem dksX5_rowStart_2 : cX5_rowStart.data.toList.drop 47 = dktX5_rowStart_2 := dk_seg dksX5_rowStart_1 23 rfl rfl
theorem dX5_rowStart_0 : decode cX5_rowStart 0 = .ok (.iconst 0, 1) := dk_3 (dk_at dksX5_rowStart_0 0 rfl rfl)
theorem dX5_rowStart_1 : decode cX5_rowStart 1 = .ok (.istore_n 2, 1) := dk_61 (dk_at dksX5_rowStart_0 1 rfl rfl)
theorem dX5_rowStart_2 : decode cX5_rowStart 2 = .ok (.iload_n 1, 1) := dk_27 (dk_at dksX5_rowStart_0 2 rfl rfl)
theorem dX5_rowStart_3 : decode cX5_rowStart 3 = .ok (.iconst 1, 1) := dk_4 (dk_at dksX5_rowStart_0 3 rfl rfl)
theorem dX5_rowStart_4 : decode cX5_rowStart 4 = .ok (.isub, 1) := dk_100 (dk_at dksX5_rowStart_0 4 rfl rfl)
theorem dX5_rowStart_5 : decode cX5_rowStart 5 = .ok (.istore_n 3, 1) := dk_62 (dk_at dksX5_rowStart_0 5 rfl rfl)
theorem dX5_rowStart_6 : decode cX5_rowStart 6 = .ok (.iload_n 3, 1) := dk_29 (dk_at dksX5_rowStart_0 6 rfl rfl)
theorem dX5_rowStart_7 : decode cX5_rowStart 7 = .ok (.ifCond .lt 59, 3) := dk_155 0 59 (dk_at dksX5_rowStart_0 7 rfl rfl)
theorem dX5_rowStart_10 : decode cX5_rowStart 10 = .ok (.iload_n 2, 1) := dk_28 (dk_at dksX5_rowStart_0 10 rfl rfl)
theorem dX5_rowStart_11 : decode cX5_rowStart 11 = .ok (.ifCond .gt 20, 3) := dk_157 0 20 (dk_at dksX5_rowStart_0 11 rfl rfl)
theorem dX5_rowStart_14 : decode cX5_rowStart 14 = .ok (.aload_n 0, 1) := dk_42 (dk_at dksX5_rowStart_0 14 rfl rfl)
theorem dX5_rowStart_15 : decode cX5_rowStart 15 = .ok (.iload_n 3, 1) := dk_29 (dk_at dksX5_rowStart_0 15 rfl rfl)
theorem dX5_rowStart_16 : decode cX5_rowStart 16 = .ok (.iaload, 1) := dk_46 (dk_at dksX5_rowStart_0 16 rfl rfl)
theorem dX5_rowStart_17 : decode cX5_rowStart 17 = .ok (.invokestatic 97, 3) := dk_184 0 97 (dk_at dksX5_rowStart_0 17 rfl rfl)
theorem dX5_rowStart_20 : decode cX5_rowStart 20 = .ok (.ifCond .ne 46, 3) := dk_154 0 46 (dk_at dksX5_rowStart_0 20 rfl rfl)
theorem dX5_rowStart_23 : decode cX5_rowStart 23 = .ok (.aload_n 0, 1) := dk_42 (dk_at dksX5_rowStart_0 23 rfl rfl)
theorem dX5_rowStart_24 : decode cX5_rowStart 24 = .ok (.iload_n 3, 1) := dk_29 (dk_at dksX5_rowStart_1 0 rfl rfl)
theorem dX5_rowStart_25 : decode cX5_rowStart 25 = .ok (.iaload, 1) := dk_46 (dk_at dksX5_rowStart_1 1 rfl rfl)
theorem dX5_rowStart_26 : decode cX5_rowStart 26 = .ok (.bipush (-10), 2) := dk_16 246 (dk_at dksX5_rowStart_1 2 rfl rfl)
theorem dX5_rowStart_28 : decode cX5_rowStart 28 = .ok (.if_icmp .eq 38, 3) := dk_159 0 38 (dk_at dksX5_rowStart_1 4 rfl rfl)
theorem dX5_rowStart_31 : decode cX5_rowStart 31 = .ok (.iload_n 2, 1) := dk_28 (dk_at dksX5_rowStart_1 7 rfl rfl)
theorem dX5_rowStart_32 : decode cX5_rowStart 32 = .ok (.aload_n 0, 1) := dk_42 (dk_at dksX5_rowStart_1 8 rfl rfl)
theorem dX5_rowStart_33 : decode cX5_rowStart 33 = .ok (.iload_n 3, 1) := dk_29 (dk_at dksX5_rowStart_1 9 rfl rfl)
theorem dX5_rowStart_34 : decode cX5_rowStart 34 = .ok (.iaload, 1) := dk_46 (dk_at dksX5_rowStart_1 10 rfl rfl)
theorem dX5_rowStart_35 : decode cX5_rowStart 35 = .ok (.bipush (-11), 2) := dk_16 245 (dk_at dksX5_rowStart_1 11 rfl rfl)
theorem dX5_rowStart_37 : decode cX5_rowStart 37 = .ok (.if_icmp .ne 7, 3) := dk_160 0 7 (dk_at dksX5_rowStart_1 13 rfl rfl)
theorem dX5_rowStart_40 : decode cX5_rowStart 40 = .ok (.iconst 1, 1) := dk_4 (dk_at dksX5_rowStart_1 16 rfl rfl)
theorem dX5_rowStart_41 : decode cX5_rowStart 41 = .ok (.goto 17, 3) := dk_167 0 17 (dk_at dksX5_rowStart_1 17 rfl rfl)
theorem dX5_rowStart_44 : decode cX5_rowStart 44 = .ok (.aload_n 0, 1) := dk_42 (dk_at dksX5_rowStart_1 20 rfl rfl)
theorem dX5_rowStart_45 : decode cX5_rowStart 45 = .ok (.iload_n 3, 1) := dk_29 (dk_at dksX5_rowStart_1 21 rfl rfl)
theorem dX5_rowStart_46 : decode cX5_rowStart 46 = .ok (.iaload, 1) := dk_46 (dk_at dksX5_rowStart_1 22 rfl rfl)
theorem dX5_rowStart_47 : decode cX5_rowStart 47 = .ok (.invokestatic 97, 3) := dk_184 0 97 (dk_at dksX5_rowStart_2 0 rfl rfl)
theorem dX5_rowStart_50 : decode cX5_rowStart 50 = .ok (.ifCond .eq 7, 3) := dk_153 0 7 (dk_at dksX5_rowStart_2 3 rfl rfl)
theorem dX5_rowStart_53 : decode cX5_rowStart 53 = .ok (.iconst (-1), 1) := dk_2 (dk_at dksX5_rowStart_2 6 rfl rfl)
theorem dX5_rowStart_54 : decode cX5_rowStart 54 = .ok (.goto 4, 3) := dk_167 0 4 (dk_at dksX5_rowStart_2 7 rfl rfl)
theorem dX5_rowStart_57 : decode cX5_rowStart 57 = .ok (.iconst 0, 1) := dk_3 (dk_at dksX5_rowStart_2 10 rfl rfl)
theorem dX5_rowStart_58 : decode cX5_rowStart 58 = .ok (.iadd, 1) := dk_96 (dk_at dksX5_rowStart_2 11 rfl rfl)
theorem dX5_rowStart_59 : decode cX5_rowStart 59 = .ok (.istore_n 2, 1) := dk_61 (dk_at dksX5_rowStart_2 12 rfl rfl)
theorem dX5_rowStart_60 : decode cX5_rowStart 60 = .ok (.iinc 3 (-1), 3) := dk_132 3 255 (dk_at dksX5_rowStart_2 13 rfl rfl)
theorem dX5_rowStart_63 : decode cX5_rowStart 63 = .ok (.goto (-57), 3) := dk_167 255 199 (dk_at dksX5_rowStart_2 16 rfl rfl)
theorem dX5_rowStart_66 : decode cX5_rowStart 66 = .ok (.iload_n 3, 1) := dk_29 (dk_at dksX5_rowStart_2 19 rfl rfl)
theorem dX5_rowStart_67 : decode cX5_rowStart 67 = .ok (.iconst 1, 1) := dk_4 (dk_at dksX5_rowStart_2 20 rfl rfl)
theorem dX5_rowStart_68 : decode cX5_rowStart 68 = .ok (.iadd, 1) := dk_96 (dk_at dksX5_rowStart_2 21 rfl rfl)
theorem dX5_rowStart_69 : decode cX5_rowStart 69 = .ok (.ireturn, 1) := dk_172 (dk_at dksX5_rowStart_2 22 rfl rfl)
abbrev cX5_rowEnd : ByteArray := prog_15_method_14_code
def yX5_rowEnd : MethodName := ⟨RX5, "rowEnd", "([II)I"⟩
def dkwX5_rowEnd_3 : List UInt8 := [29, 172]
abbrev dktX5_rowEnd_3 : List UInt8 := dkwX5_rowEnd_3 ++ []
def dkwX5_rowEnd_2 : List UInt8 := [167, 0, 16, 42, 29, 46, 16, 245, 160, 0, 7, 2, 167, 0, 4, 3, 96, 61, 132, 3, 1, 167, 255, 195]
abbrev dktX5_rowEnd_2 : List UInt8 := dkwX5_rowEnd_2 ++ dktX5_rowEnd_3
def dkwX5_rowEnd_1 : List UInt8 := [159, 0, 46, 42, 29, 46, 16, 246, 159, 0, 38, 28, 42, 29, 46, 184, 0, 97, 153, 0, 7, 4]
abbrev dktX5_rowEnd_1 : List UInt8 := dkwX5_rowEnd_1 ++ dktX5_rowEnd_2
def dkwX5_rowEnd_0 : List UInt8 := [3, 61, 27, 62, 29, 42, 17, 0, 180, 46, 162, 0, 58, 28, 157, 0, 19, 42, 29, 46, 16, 245]
abbrev dktX5_rowEnd_0 : List UInt8 := dkwX5_rowEnd_0 ++ dktX5_rowEnd_1
theorem dksX5_rowEnd_0 : cX5_rowEnd.data.toList.drop 0 = dktX5_rowEnd_0 := by decide +kernel
theorem dksX5_rowEnd_1 : cX5_rowEnd.data.toList.drop 22 = dktX5_rowEnd_1 := dk_seg dksX5_rowEnd_0 22 rfl rfl
theorem dksX5_rowEnd_2 : cX5_rowEnd.data.toList.drop 44 = dktX5_rowEnd_2 := dk_seg dksX5_rowEnd_1 22 rfl rfl
theorem dksX5_rowEnd_3 : cX5_rowEnd.data.toList.drop 68 = dktX5_rowEnd_3 := dk_seg dksX5_rowEnd_2 24 rfl rfl
theorem dX5_rowEnd_0 : decode cX5_rowEnd 0 = .ok (.iconst 0, 1) := dk_3 (dk_at dksX5_rowEnd_0 0 rfl rfl)
theorem dX5_rowEnd_1 : decode cX5_rowEnd 1 = .ok (.istore_n 2, 1) := dk_61 (dk_at dksX5_rowEnd_0 1 rfl rfl)
theorem dX5_rowEnd_2 : decode cX5_rowEnd 2 = .ok (.iload_n 1, 1) := dk_27 (dk_at dksX5_rowEnd_0 2 rfl rfl)
theorem dX5_rowEnd_3 : decode cX5_rowEnd 3 = .ok (.istore_n 3, 1) := dk_62 (dk_at dksX5_rowEnd_0 3 rfl rfl)
theorem dX5_rowEnd_4 : decode cX5_rowEnd 4 = .ok (.iload_n 3, 1) := dk_29 (dk_at dksX5_rowEnd_0 4 rfl rfl)
theorem dX5_rowEnd_5 : decode cX5_rowEnd 5 = .ok (.aload_n 0, 1) := dk_42 (dk_at dksX5_rowEnd_0 5 rfl rfl)
theorem dX5_rowEnd_6 : decode cX5_rowEnd 6 = .ok (.sipush 180, 3) := dk_17 0 180 (dk_at dksX5_rowEnd_0 6 rfl rfl)
theorem dX5_rowEnd_9 : decode cX5_rowEnd 9 = .ok (.iaload, 1) := dk_46 (dk_at dksX5_rowEnd_0 9 rfl rfl)
theorem dX5_rowEnd_10 : decode cX5_rowEnd 10 = .ok (.if_icmp .ge 58, 3) := dk_162 0 58 (dk_at dksX5_rowEnd_0 10 rfl rfl)
theorem dX5_rowEnd_13 : decode cX5_rowEnd 13 = .ok (.iload_n 2, 1) := dk_28 (dk_at dksX5_rowEnd_0 13 rfl rfl)
theorem dX5_rowEnd_14 : decode cX5_rowEnd 14 = .ok (.ifCond .gt 19, 3) := dk_157 0 19 (dk_at dksX5_rowEnd_0 14 rfl rfl)
theorem dX5_rowEnd_17 : decode cX5_rowEnd 17 = .ok (.aload_n 0, 1) := dk_42 (dk_at dksX5_rowEnd_0 17 rfl rfl)
theorem dX5_rowEnd_18 : decode cX5_rowEnd 18 = .ok (.iload_n 3, 1) := dk_29 (dk_at dksX5_rowEnd_0 18 rfl rfl)
theorem dX5_rowEnd_19 : decode cX5_rowEnd 19 = .ok (.iaload, 1) := dk_46 (dk_at dksX5_rowEnd_0 19 rfl rfl)
theorem dX5_rowEnd_20 : decode cX5_rowEnd 20 = .ok (.bipush (-11), 2) := dk_16 245 (dk_at dksX5_rowEnd_0 20 rfl rfl)
theorem dX5_rowEnd_22 : decode cX5_rowEnd 22 = .ok (.if_icmp .eq 46, 3) := dk_159 0 46 (dk_at dksX5_rowEnd_1 0 rfl rfl)
theorem dX5_rowEnd_25 : decode cX5_rowEnd 25 = .ok (.aload_n 0, 1) := dk_42 (dk_at dksX5_rowEnd_1 3 rfl rfl)
theorem dX5_rowEnd_26 : decode cX5_rowEnd 26 = .ok (.iload_n 3, 1) := dk_29 (dk_at dksX5_rowEnd_1 4 rfl rfl)
theorem dX5_rowEnd_27 : decode cX5_rowEnd 27 = .ok (.iaload, 1) := dk_46 (dk_at dksX5_rowEnd_1 5 rfl rfl)
theorem dX5_rowEnd_28 : decode cX5_rowEnd 28 = .ok (.bipush (-10), 2) := dk_16 246 (dk_at dksX5_rowEnd_1 6 rfl rfl)
theorem dX5_rowEnd_30 : decode cX5_rowEnd 30 = .ok (.if_icmp .eq 38, 3) := dk_159 0 38 (dk_at dksX5_rowEnd_1 8 rfl rfl)
theorem dX5_rowEnd_33 : decode cX5_rowEnd 33 = .ok (.iload_n 2, 1) := dk_28 (dk_at dksX5_rowEnd_1 11 rfl rfl)
theorem dX5_rowEnd_34 : decode cX5_rowEnd 34 = .ok (.aload_n 0, 1) := dk_42 (dk_at dksX5_rowEnd_1 12 rfl rfl)
theorem dX5_rowEnd_35 : decode cX5_rowEnd 35 = .ok (.iload_n 3, 1) := dk_29 (dk_at dksX5_rowEnd_1 13 rfl rfl)
theorem dX5_rowEnd_36 : decode cX5_rowEnd 36 = .ok (.iaload, 1) := dk_46 (dk_at dksX5_rowEnd_1 14 rfl rfl)
theorem dX5_rowEnd_37 : decode cX5_rowEnd 37 = .ok (.invokestatic 97, 3) := dk_184 0 97 (dk_at dksX5_rowEnd_1 15 rfl rfl)
theorem dX5_rowEnd_40 : decode cX5_rowEnd 40 = .ok (.ifCond .eq 7, 3) := dk_153 0 7 (dk_at dksX5_rowEnd_1 18 rfl rfl)
theorem dX5_rowEnd_43 : decode cX5_rowEnd 43 = .ok (.iconst 1, 1) := dk_4 (dk_at dksX5_rowEnd_1 21 rfl rfl)
theorem dX5_rowEnd_44 : decode cX5_rowEnd 44 = .ok (.goto 16, 3) := dk_167 0 16 (dk_at dksX5_rowEnd_2 0 rfl rfl)
theorem dX5_rowEnd_47 : decode cX5_rowEnd 47 = .ok (.aload_n 0, 1) := dk_42 (dk_at dksX5_rowEnd_2 3 rfl rfl)
theorem dX5_rowEnd_48 : decode cX5_rowEnd 48 = .ok (.iload_n 3, 1) := dk_29 (dk_at dksX5_rowEnd_2 4 rfl rfl)
theorem dX5_rowEnd_49 : decode cX5_rowEnd 49 = .ok (.iaload, 1) := dk_46 (dk_at dksX5_rowEnd_2 5 rfl rfl)
theorem dX5_rowEnd_50 : decode cX5_rowEnd 50 = .ok (.bipush (-11), 2) := dk_16 245 (dk_at dksX5_rowEnd_2 6 rfl rfl)
theorem dX5_rowEnd_52 : decode cX5_rowEnd 52 = .ok (.if_icmp .ne 7, 3) := dk_160 0 7 (dk_at dksX5_rowEnd_2 8 rfl rfl)
theorem dX5_rowEnd_55 : decode cX5_rowEnd 55 = .ok (.iconst (-1), 1) := dk_2 (dk_at dksX5_rowEnd_2 11 rfl rfl)
theorem dX5_rowEnd_56 : decode cX5_rowEnd 56 = .ok (.goto 4, 3) := dk_167 0 4 (dk_at dksX5_rowEnd_2 12 rfl rfl)
theorem dX5_rowEnd_59 : decode cX5_rowEnd 59 = .ok (.iconst 0, 1) := dk_3 (dk_at dksX5_rowEnd_2 15 rfl rfl)
theorem dX5_rowEnd_60 : decode cX5_rowEnd 60 = .ok (.iadd, 1) := dk_96 (dk_at dksX5_rowEnd_2 16 rfl rfl)
theorem dX5_rowEnd_61 : decode cX5_rowEnd 61 = .ok (.istore_n 2, 1) := dk_61 (dk_at dksX5_rowEnd_2 17 rfl rfl)
theorem dX5_rowEnd_62 : decode cX5_rowEnd 62 = .ok (.iinc 3 1, 3) := dk_132 3 1 (dk_at dksX5_rowEnd_2 18 rfl rfl)
theorem dX5_rowEnd_65 : decode cX5_rowEnd 65 = .ok (.goto (-61), 3) := dk_167 255 195 (dk_at dksX5_rowEnd_2 21 rfl rfl)
theorem dX5_rowEnd_68 : decode cX5_rowEnd 68 = .ok (.iload_n 3, 1) := dk_29 (dk_at dksX5_rowEnd_3 0 rfl rfl)
theorem dX5_rowEnd_69 : decode cX5_rowEnd 69 = .ok (.ireturn, 1) := dk_172 (dk_at dksX5_rowEnd_3 1 rfl rfl)
abbrev cX5_levelAt : ByteArray := prog_15_method_19_code
def yX5_levelAt : MethodName := ⟨RX5, "levelAt", "([II)I"⟩
def dkwX5_levelAt_1 : List UInt8 := [29, 46, 16, 245, 160, 0, 7, 2, 167, 0, 4, 3, 96, 61, 132, 3, 1, 167, 255, 219, 28, 172]
abbrev dktX5_levelAt_1 : List UInt8 := dkwX5_levelAt_1 ++ []
def dkwX5_levelAt_0 : List UInt8 := [3, 61, 3, 62, 29, 27, 162, 0, 38, 28, 42, 29, 46, 184, 0, 97, 153, 0, 7, 4, 167, 0, 16, 42]
abbrev dktX5_levelAt_0 : List UInt8 := dkwX5_levelAt_0 ++ dktX5_levelAt_1
theorem dksX5_levelAt_0 : cX5_levelAt.data.toList.drop 0 = dktX5_levelAt_0 := by decide +kernel
theorem dksX5_levelAt_1 : cX5_levelAt.data.toList.drop 24 = dktX5_levelAt_1 := dk_seg dksX5_levelAt_0 24 rfl rfl
theorem dX5_levelAt_0 : decode cX5_levelAt 0 = .ok (.iconst 0, 1) := dk_3 (dk_at dksX5_levelAt_0 0 rfl rfl)
theorem dX5_levelAt_1 : decode cX5_levelAt 1 = .ok (.istore_n 2, 1) := dk_61 (dk_at dksX5_levelAt_0 1 rfl rfl)
theorem dX5_levelAt_2 : decode cX5_levelAt 2 = .ok (.iconst 0, 1) := dk_3 (dk_at dksX5_levelAt_0 2 rfl rfl)
theorem dX5_levelAt_3 : decode cX5_levelAt 3 = .ok (.istore_n 3, 1) := dk_62 (dk_at dksX5_levelAt_0 3 rfl rfl)
theorem dX5_levelAt_4 : decode cX5_levelAt 4 = .ok (.iload_n 3, 1) := dk_29 (dk_at dksX5_levelAt_0 4 rfl rfl)
theorem dX5_levelAt_5 : decode cX5_levelAt 5 = .ok (.iload_n 1, 1) := dk_27 (dk_at dksX5_levelAt_0 5 rfl rfl)
theorem dX5_levelAt_6 : decode cX5_levelAt 6 = .ok (.if_icmp .ge 38, 3) := dk_162 0 38 (dk_at dksX5_levelAt_0 6 rfl rfl)
theorem dX5_levelAt_9 : decode cX5_levelAt 9 = .ok (.iload_n 2, 1) := dk_28 (dk_at dksX5_levelAt_0 9 rfl rfl)
theorem dX5_levelAt_10 : decode cX5_levelAt 10 = .ok (.aload_n 0, 1) := dk_42 (dk_at dksX5_levelAt_0 10 rfl rfl)
theorem dX5_levelAt_11 : decode cX5_levelAt 11 = .ok (.iload_n 3, 1) := dk_29 (dk_at dksX5_levelAt_0 11 rfl rfl)
theorem dX5_levelAt_12 : decode cX5_levelAt 12 = .ok (.iaload, 1) := dk_46 (dk_at dksX5_levelAt_0 12 rfl rfl)
theorem dX5_levelAt_13 : decode cX5_levelAt 13 = .ok (.invokestatic 97, 3) := dk_184 0 97 (dk_at dksX5_levelAt_0 13 rfl rfl)
theorem dX5_levelAt_16 : decode cX5_levelAt 16 = .ok (.ifCond .eq 7, 3) := dk_153 0 7 (dk_at dksX5_levelAt_0 16 rfl rfl)
theorem dX5_levelAt_19 : decode cX5_levelAt 19 = .ok (.iconst 1, 1) := dk_4 (dk_at dksX5_levelAt_0 19 rfl rfl)
theorem dX5_levelAt_20 : decode cX5_levelAt 20 = .ok (.goto 16, 3) := dk_167 0 16 (dk_at dksX5_levelAt_0 20 rfl rfl)
theorem dX5_levelAt_23 : decode cX5_levelAt 23 = .ok (.aload_n 0, 1) := dk_42 (dk_at dksX5_levelAt_0 23 rfl rfl)
theorem dX5_levelAt_24 : decode cX5_levelAt 24 = .ok (.iload_n 3, 1) := dk_29 (dk_at dksX5_levelAt_1 0 rfl rfl)
theorem dX5_levelAt_25 : decode cX5_levelAt 25 = .ok (.iaload, 1) := dk_46 (dk_at dksX5_levelAt_1 1 rfl rfl)
theorem dX5_levelAt_26 : decode cX5_levelAt 26 = .ok (.bipush (-11), 2) := dk_16 245 (dk_at dksX5_levelAt_1 2 rfl rfl)
theorem dX5_levelAt_28 : decode cX5_levelAt 28 = .ok (.if_icmp .ne 7, 3) := dk_160 0 7 (dk_at dksX5_levelAt_1 4 rfl rfl)
theorem dX5_levelAt_31 : decode cX5_levelAt 31 = .ok (.iconst (-1), 1) := dk_2 (dk_at dksX5_levelAt_1 7 rfl rfl)
theorem dX5_levelAt_32 : decode cX5_levelAt 32 = .ok (.goto 4, 3) := dk_167 0 4 (dk_at dksX5_levelAt_1 8 rfl rfl)
theorem dX5_levelAt_35 : decode cX5_levelAt 35 = .ok (.iconst 0, 1) := dk_3 (dk_at dksX5_levelAt_1 11 rfl rfl)
theorem dX5_levelAt_36 : decode cX5_levelAt 36 = .ok (.iadd, 1) := dk_96 (dk_at dksX5_levelAt_1 12 rfl rfl)
theorem dX5_levelAt_37 : decode cX5_levelAt 37 = .ok (.istore_n 2, 1) := dk_61 (dk_at dksX5_levelAt_1 13 rfl rfl)
theorem dX5_levelAt_38 : decode cX5_levelAt 38 = .ok (.iinc 3 1, 3) := dk_132 3 1 (dk_at dksX5_levelAt_1 14 rfl rfl)
theorem dX5_levelAt_41 : decode cX5_levelAt 41 = .ok (.goto (-37), 3) := dk_167 255 219 (dk_at dksX5_levelAt_1 17 rfl rfl)
theorem dX5_levelAt_44 : decode cX5_levelAt 44 = .ok (.iload_n 2, 1) := dk_28 (dk_at dksX5_levelAt_1 20 rfl rfl)
theorem dX5_levelAt_45 : decode cX5_levelAt 45 = .ok (.ireturn, 1) := dk_172 (dk_at dksX5_levelAt_1 21 rfl rfl)
abbrev cX5_itemsIn : ByteArray := prog_15_method_17_code
def yX5_itemsIn : MethodName := ⟨RX5, "itemsIn", "([III)I"⟩
def dkwX5_itemsIn_1 : List UInt8 := [167, 255, 239, 29, 172]
abbrev dktX5_itemsIn_1 : List UInt8 := dkwX5_itemsIn_1 ++ []
def dkwX5_itemsIn_0 : List UInt8 := [3, 62, 27, 54, 4, 21, 4, 28, 162, 0, 17, 132, 3, 1, 42, 21, 4, 184, 0, 107, 54, 4]
abbrev dktX5_itemsIn_0 : List UInt8 := dkwX5_itemsIn_0 ++ dktX5_itemsIn_1
theorem dksX5_itemsIn_0 : cX5_itemsIn.data.toList.drop 0 = dktX5_itemsIn_0 := by decide +kernel
theorem dksX5_itemsIn_1 : cX5_itemsIn.data.toList.drop 22 = dktX5_itemsIn_1 := dk_seg dksX5_itemsIn_0 22 rfl rfl
theorem dX5_itemsIn_0 : decode cX5_itemsIn 0 = .ok (.iconst 0, 1) := dk_3 (dk_at dksX5_itemsIn_0 0 rfl rfl)
theorem dX5_itemsIn_1 : decode cX5_itemsIn 1 = .ok (.istore_n 3, 1) := dk_62 (dk_at dksX5_itemsIn_0 1 rfl rfl)
theorem dX5_itemsIn_2 : decode cX5_itemsIn 2 = .ok (.iload_n 1, 1) := dk_27 (dk_at dksX5_itemsIn_0 2 rfl rfl)
theorem dX5_itemsIn_3 : decode cX5_itemsIn 3 = .ok (.istore 4, 2) := dk_54 4 (dk_at dksX5_itemsIn_0 3 rfl rfl)
theorem dX5_itemsIn_5 : decode cX5_itemsIn 5 = .ok (.iload 4, 2) := dk_21 4 (dk_at dksX5_itemsIn_0 5 rfl rfl)
theorem dX5_itemsIn_7 : decode cX5_itemsIn 7 = .ok (.iload_n 2, 1) := dk_28 (dk_at dksX5_itemsIn_0 7 rfl rfl)
theorem dX5_itemsIn_8 : decode cX5_itemsIn 8 = .ok (.if_icmp .ge 17, 3) := dk_162 0 17 (dk_at dksX5_itemsIn_0 8 rfl rfl)
theorem dX5_itemsIn_11 : decode cX5_itemsIn 11 = .ok (.iinc 3 1, 3) := dk_132 3 1 (dk_at dksX5_itemsIn_0 11 rfl rfl)
theorem dX5_itemsIn_14 : decode cX5_itemsIn 14 = .ok (.aload_n 0, 1) := dk_42 (dk_at dksX5_itemsIn_0 14 rfl rfl)
theorem dX5_itemsIn_15 : decode cX5_itemsIn 15 = .ok (.iload 4, 2) := dk_21 4 (dk_at dksX5_itemsIn_0 15 rfl rfl)
theorem dX5_itemsIn_17 : decode cX5_itemsIn 17 = .ok (.invokestatic 107, 3) := dk_184 0 107 (dk_at dksX5_itemsIn_0 17 rfl rfl)
theorem dX5_itemsIn_20 : decode cX5_itemsIn 20 = .ok (.istore 4, 2) := dk_54 4 (dk_at dksX5_itemsIn_0 20 rfl rfl)
theorem dX5_itemsIn_22 : decode cX5_itemsIn 22 = .ok (.goto (-17), 3) := dk_167 255 239 (dk_at dksX5_itemsIn_1 0 rfl rfl)
theorem dX5_itemsIn_25 : decode cX5_itemsIn 25 = .ok (.iload_n 3, 1) := dk_29 (dk_at dksX5_itemsIn_1 3 rfl rfl)
theorem dX5_itemsIn_26 : decode cX5_itemsIn 26 = .ok (.ireturn, 1) := dk_172 (dk_at dksX5_itemsIn_1 4 rfl rfl)
abbrev cX5_itemEnd : ByteArray := prog_15_method_16_code
def yX5_itemEnd : MethodName := ⟨RX5, "itemEnd", "([II)I"⟩
def dkwX5_itemEnd_1 : List UInt8 := [172]
abbrev dktX5_itemEnd_1 : List UInt8 := dkwX5_itemEnd_1 ++ []
def dkwX5_itemEnd_0 : List UInt8 := [42, 27, 46, 184, 0, 97, 153, 0, 15, 42, 27, 4, 96, 184, 0, 104, 4, 96, 167, 0, 6, 27, 4, 96]
abbrev dktX5_itemEnd_0 : List UInt8 := dkwX5_itemEnd_0 ++ dktX5_itemEnd_1
theorem dksX5_itemEnd_0 : cX5_itemEnd.data.toList.drop 0 = dktX5_itemEnd_0 := by decide +kernel
theorem dksX5_itemEnd_1 : cX5_itemEnd.data.toList.drop 24 = dktX5_itemEnd_1 := dk_seg dksX5_itemEnd_0 24 rfl rfl
theorem dX5_itemEnd_0 : decode cX5_itemEnd 0 = .ok (.aload_n 0, 1) := dk_42 (dk_at dksX5_itemEnd_0 0 rfl rfl)
theorem dX5_itemEnd_1 : decode cX5_itemEnd 1 = .ok (.iload_n 1, 1) := dk_27 (dk_at dksX5_itemEnd_0 1 rfl rfl)
theorem dX5_itemEnd_2 : decode cX5_itemEnd 2 = .ok (.iaload, 1) := dk_46 (dk_at dksX5_itemEnd_0 2 rfl rfl)
theorem dX5_itemEnd_3 : decode cX5_itemEnd 3 = .ok (.invokestatic 97, 3) := dk_184 0 97 (dk_at dksX5_itemEnd_0 3 rfl rfl)
theorem dX5_itemEnd_6 : decode cX5_itemEnd 6 = .ok (.ifCond .eq 15, 3) := dk_153 0 15 (dk_at dksX5_itemEnd_0 6 rfl rfl)
theorem dX5_itemEnd_9 : decode cX5_itemEnd 9 = .ok (.aload_n 0, 1) := dk_42 (dk_at dksX5_itemEnd_0 9 rfl rfl)
theorem dX5_itemEnd_10 : decode cX5_itemEnd 10 = .ok (.iload_n 1, 1) := dk_27 (dk_at dksX5_itemEnd_0 10 rfl rfl)
theorem dX5_itemEnd_11 : decode cX5_itemEnd 11 = .ok (.iconst 1, 1) := dk_4 (dk_at dksX5_itemEnd_0 11 rfl rfl)
theorem dX5_itemEnd_12 : decode cX5_itemEnd 12 = .ok (.iadd, 1) := dk_96 (dk_at dksX5_itemEnd_0 12 rfl rfl)
theorem dX5_itemEnd_13 : decode cX5_itemEnd 13 = .ok (.invokestatic 104, 3) := dk_184 0 104 (dk_at dksX5_itemEnd_0 13 rfl rfl)
theorem dX5_itemEnd_16 : decode cX5_itemEnd 16 = .ok (.iconst 1, 1) := dk_4 (dk_at dksX5_itemEnd_0 16 rfl rfl)
theorem dX5_itemEnd_17 : decode cX5_itemEnd 17 = .ok (.iadd, 1) := dk_96 (dk_at dksX5_itemEnd_0 17 rfl rfl)
theorem dX5_itemEnd_18 : decode cX5_itemEnd 18 = .ok (.goto 6, 3) := dk_167 0 6 (dk_at dksX5_itemEnd_0 18 rfl rfl)
theorem dX5_itemEnd_21 : decode cX5_itemEnd 21 = .ok (.iload_n 1, 1) := dk_27 (dk_at dksX5_itemEnd_0 21 rfl rfl)
theorem dX5_itemEnd_22 : decode cX5_itemEnd 22 = .ok (.iconst 1, 1) := dk_4 (dk_at dksX5_itemEnd_0 22 rfl rfl)
theorem dX5_itemEnd_23 : decode cX5_itemEnd 23 = .ok (.iadd, 1) := dk_96 (dk_at dksX5_itemEnd_0 23 rfl rfl)
theorem dX5_itemEnd_24 : decode cX5_itemEnd 24 = .ok (.ireturn, 1) := dk_172 (dk_at dksX5_itemEnd_1 0 rfl rfl)
abbrev cX5_endOf : ByteArray := prog_15_method_12_code
def yX5_endOf : MethodName := ⟨RX5, "endOf", "([II)I"⟩
def dkwX5_endOf_2 : List UInt8 := [132, 3, 1, 167, 255, 212, 29, 172]
abbrev dktX5_endOf_2 : List UInt8 := dkwX5_endOf_2 ++ []
def dkwX5_endOf_1 : List UInt8 := [153, 0, 7, 4, 167, 0, 16, 42, 29, 46, 16, 245, 160, 0, 7, 2, 167, 0, 4, 3, 96, 61]
abbrev dktX5_endOf_1 : List UInt8 := dkwX5_endOf_1 ++ dktX5_endOf_2
def dkwX5_endOf_0 : List UInt8 := [3, 61, 27, 62, 28, 157, 0, 11, 42, 29, 46, 16, 245, 159, 0, 38, 28, 42, 29, 46, 184, 0, 97]
abbrev dktX5_endOf_0 : List UInt8 := dkwX5_endOf_0 ++ dktX5_endOf_1
theorem dksX5_endOf_0 : cX5_endOf.data.toList.drop 0 = dktX5_endOf_0 := by decide +kernel
theorem dksX5_endOf_1 : cX5_endOf.data.toList.drop 23 = dktX5_endOf_1 := dk_seg dksX5_endOf_0 23 rfl rfl
theorem dksX5_endOf_2 : cX5_endOf.data.toList.drop 45 = dktX5_endOf_2 := dk_seg dksX5_endOf_1 22 rfl rfl
theorem dX5_endOf_0 : decode cX5_endOf 0 = .ok (.iconst 0, 1) := dk_3 (dk_at dksX5_endOf_0 0 rfl rfl)
theorem dX5_endOf_1 : decode cX5_endOf 1 = .ok (.istore_n 2, 1) := dk_61 (dk_at dksX5_endOf_0 1 rfl rfl)
theorem dX5_endOf_2 : decode cX5_endOf 2 = .ok (.iload_n 1, 1) := dk_27 (dk_at dksX5_endOf_0 2 rfl rfl)
theorem dX5_endOf_3 : decode cX5_endOf 3 = .ok (.istore_n 3, 1) := dk_62 (dk_at dksX5_endOf_0 3 rfl rfl)
theorem dX5_endOf_4 : decode cX5_endOf 4 = .ok (.iload_n 2, 1) := dk_28 (dk_at dksX5_endOf_0 4 rfl rfl)
theorem dX5_endOf_5 : decode cX5_endOf 5 = .ok (.ifCond .gt 11, 3) := dk_157 0 11 (dk_at dksX5_endOf_0 5 rfl rfl)
theorem dX5_endOf_8 : decode cX5_endOf 8 = .ok (.aload_n 0, 1) := dk_42 (dk_at dksX5_endOf_0 8 rfl rfl)
theorem dX5_endOf_9 : decode cX5_endOf 9 = .ok (.iload_n 3, 1) := dk_29 (dk_at dksX5_endOf_0 9 rfl rfl)
theorem dX5_endOf_10 : decode cX5_endOf 10 = .ok (.iaload, 1) := dk_46 (dk_at dksX5_endOf_0 10 rfl rfl)
theorem dX5_endOf_11 : decode cX5_endOf 11 = .ok (.bipush (-11), 2) := dk_16 245 (dk_at dksX5_endOf_0 11 rfl rfl)
theorem dX5_endOf_13 : decode cX5_endOf 13 = .ok (.if_icmp .eq 38, 3) := dk_159 0 38 (dk_at dksX5_endOf_0 13 rfl rfl)
theorem dX5_endOf_16 : decode cX5_endOf 16 = .ok (.iload_n 2, 1) := dk_28 (dk_at dksX5_endOf_0 16 rfl rfl)
theorem dX5_endOf_17 : decode cX5_endOf 17 = .ok (.aload_n 0, 1) := dk_42 (dk_at dksX5_endOf_0 17 rfl rfl)
theorem dX5_endOf_18 : decode cX5_endOf 18 = .ok (.iload_n 3, 1) := dk_29 (dk_at dksX5_endOf_0 18 rfl rfl)
theorem dX5_endOf_19 : decode cX5_endOf 19 = .ok (.iaload, 1) := dk_46 (dk_at dksX5_endOf_0 19 rfl rfl)
theorem dX5_endOf_20 : decode cX5_endOf 20 = .ok (.invokestatic 97, 3) := dk_184 0 97 (dk_at dksX5_endOf_0 20 rfl rfl)
theorem dX5_endOf_23 : decode cX5_endOf 23 = .ok (.ifCond .eq 7, 3) := dk_153 0 7 (dk_at dksX5_endOf_1 0 rfl rfl)
theorem dX5_endOf_26 : decode cX5_endOf 26 = .ok (.iconst 1, 1) := dk_4 (dk_at dksX5_endOf_1 3 rfl rfl)
theorem dX5_endOf_27 : decode cX5_endOf 27 = .ok (.goto 16, 3) := dk_167 0 16 (dk_at dksX5_endOf_1 4 rfl rfl)
theorem dX5_endOf_30 : decode cX5_endOf 30 = .ok (.aload_n 0, 1) := dk_42 (dk_at dksX5_endOf_1 7 rfl rfl)
theorem dX5_endOf_31 : decode cX5_endOf 31 = .ok (.iload_n 3, 1) := dk_29 (dk_at dksX5_endOf_1 8 rfl rfl)
theorem dX5_endOf_32 : decode cX5_endOf 32 = .ok (.iaload, 1) := dk_46 (dk_at dksX5_endOf_1 9 rfl rfl)
theorem dX5_endOf_33 : decode cX5_endOf 33 = .ok (.bipush (-11), 2) := dk_16 245 (dk_at dksX5_endOf_1 10 rfl rfl)
theorem dX5_endOf_35 : decode cX5_endOf 35 = .ok (.if_icmp .ne 7, 3) := dk_160 0 7 (dk_at dksX5_endOf_1 12 rfl rfl)
theorem dX5_endOf_38 : decode cX5_endOf 38 = .ok (.iconst (-1), 1) := dk_2 (dk_at dksX5_endOf_1 15 rfl rfl)
theorem dX5_endOf_39 : decode cX5_endOf 39 = .ok (.goto 4, 3) := dk_167 0 4 (dk_at dksX5_endOf_1 16 rfl rfl)
theorem dX5_endOf_42 : decode cX5_endOf 42 = .ok (.iconst 0, 1) := dk_3 (dk_at dksX5_endOf_1 19 rfl rfl)
theorem dX5_endOf_43 : decode cX5_endOf 43 = .ok (.iadd, 1) := dk_96 (dk_at dksX5_endOf_1 20 rfl rfl)
theorem dX5_endOf_44 : decode cX5_endOf 44 = .ok (.istore_n 2, 1) := dk_61 (dk_at dksX5_endOf_1 21 rfl rfl)
theorem dX5_endOf_45 : decode cX5_endOf 45 = .ok (.iinc 3 1, 3) := dk_132 3 1 (dk_at dksX5_endOf_2 0 rfl rfl)
theorem dX5_endOf_48 : decode cX5_endOf 48 = .ok (.goto (-44), 3) := dk_167 255 212 (dk_at dksX5_endOf_2 3 rfl rfl)
theorem dX5_endOf_51 : decode cX5_endOf 51 = .ok (.iload_n 3, 1) := dk_29 (dk_at dksX5_endOf_2 6 rfl rfl)
theorem dX5_endOf_52 : decode cX5_endOf 52 = .ok (.ireturn, 1) := dk_172 (dk_at dksX5_endOf_2 7 rfl rfl)
abbrev cX5_selection : ByteArray := prog_15_method_43_code
def yX5_selection : MethodName := ⟨RX5, "selection", "(I)I"⟩
def dkwX5_selection_4 : List UInt8 := [180, 0, 13, 17, 0, 181, 46, 184, 0, 114, 167, 0, 4, 28, 172]
abbrev dktX5_selection_4 : List UInt8 := dkwX5_selection_4 ++ []
def dkwX5_selection_3 : List UInt8 := [180, 0, 13, 17, 0, 181, 46, 184, 0, 188, 167, 0, 28, 27, 4, 160, 0, 22, 42, 180, 0, 13, 28, 42]
abbrev dktX5_selection_3 : List UInt8 := dkwX5_selection_3 ++ dktX5_selection_4
def dkwX5_selection_2 : List UInt8 := [167, 0, 11, 42, 180, 0, 13, 17, 0, 182, 46, 61, 27, 154, 0, 22, 42, 180, 0, 13, 28, 42]
abbrev dktX5_selection_2 : List UInt8 := dkwX5_selection_2 ++ dktX5_selection_3
def dkwX5_selection_1 : List UInt8 := [3, 172, 42, 180, 0, 13, 17, 0, 182, 46, 16, 247, 160, 0, 14, 42, 180, 0, 13, 17, 0, 181, 46]
abbrev dktX5_selection_1 : List UInt8 := dkwX5_selection_1 ++ dktX5_selection_2
def dkwX5_selection_0 : List UInt8 := [42, 27, 133, 9, 20, 0, 191, 184, 0, 79, 153, 0, 7, 3, 167, 0, 4, 4, 182, 0, 150, 153, 0, 5]
abbrev dktX5_selection_0 : List UInt8 := dkwX5_selection_0 ++ dktX5_selection_1
theorem dksX5_selection_0 : cX5_selection.data.toList.drop 0 = dktX5_selection_0 := by decide +kernel
theorem dksX5_selection_1 : cX5_selection.data.toList.drop 24 = dktX5_selection_1 := dk_seg dksX5_selection_0 24 rfl rfl
theorem dksX5_selection_2 : cX5_selection.data.toList.drop 47 = dktX5_selection_2 := dk_seg dksX5_selection_1 23 rfl rfl
theorem dksX5_selection_3 : cX5_selection.data.toList.drop 69 = dktX5_selection_3 := dk_seg dksX5_selection_2 22 rfl rfl
theorem dksX5_selection_4 : cX5_selection.data.toList.drop 93 = dktX5_selection_4 := dk_seg dksX5_selection_3 24 rfl rfl
theorem dX5_selection_0 : decode cX5_selection 0 = .ok (.aload_n 0, 1) := dk_42 (dk_at dksX5_selection_0 0 rfl rfl)
theorem dX5_selection_1 : decode cX5_selection 1 = .ok (.iload_n 1, 1) := dk_27 (dk_at dksX5_selection_0 1 rfl rfl)
theorem dX5_selection_2 : decode cX5_selection 2 = .ok (.i2l, 1) := dk_133 (dk_at dksX5_selection_0 2 rfl rfl)
theorem dX5_selection_3 : decode cX5_selection 3 = .ok (.lconst 0, 1) := dk_9 (dk_at dksX5_selection_0 3 rfl rfl)
theorem dX5_selection_4 : decode cX5_selection 4 = .ok (.ldc2_w 191, 3) := dk_20 0 191 (dk_at dksX5_selection_0 4 rfl rfl)
theorem dX5_selection_7 : decode cX5_selection 7 = .ok (.invokestatic 79, 3) := dk_184 0 79 (dk_at dksX5_selection_0 7 rfl rfl)
theorem dX5_selection_10 : decode cX5_selection 10 = .ok (.ifCond .eq 7, 3) := dk_153 0 7 (dk_at dksX5_selection_0 10 rfl rfl)
theorem dX5_selection_13 : decode cX5_selection 13 = .ok (.iconst 0, 1) := dk_3 (dk_at dksX5_selection_0 13 rfl rfl)
theorem dX5_selection_14 : decode cX5_selection 14 = .ok (.goto 4, 3) := dk_167 0 4 (dk_at dksX5_selection_0 14 rfl rfl)
theorem dX5_selection_17 : decode cX5_selection 17 = .ok (.iconst 1, 1) := dk_4 (dk_at dksX5_selection_0 17 rfl rfl)
theorem dX5_selection_18 : decode cX5_selection 18 = .ok (.invokevirtual 150, 3) := dk_182 0 150 (dk_at dksX5_selection_0 18 rfl rfl)
theorem dX5_selection_21 : decode cX5_selection 21 = .ok (.ifCond .eq 5, 3) := dk_153 0 5 (dk_at dksX5_selection_0 21 rfl rfl)
theorem dX5_selection_24 : decode cX5_selection 24 = .ok (.iconst 0, 1) := dk_3 (dk_at dksX5_selection_1 0 rfl rfl)
theorem dX5_selection_25 : decode cX5_selection 25 = .ok (.ireturn, 1) := dk_172 (dk_at dksX5_selection_1 1 rfl rfl)
theorem dX5_selection_26 : decode cX5_selection 26 = .ok (.aload_n 0, 1) := dk_42 (dk_at dksX5_selection_1 2 rfl rfl)
theorem dX5_selection_27 : decode cX5_selection 27 = .ok (.getfield 13, 3) := dk_180 0 13 (dk_at dksX5_selection_1 3 rfl rfl)
theorem dX5_selection_30 : decode cX5_selection 30 = .ok (.sipush 182, 3) := dk_17 0 182 (dk_at dksX5_selection_1 6 rfl rfl)
theorem dX5_selection_33 : decode cX5_selection 33 = .ok (.iaload, 1) := dk_46 (dk_at dksX5_selection_1 9 rfl rfl)
theorem dX5_selection_34 : decode cX5_selection 34 = .ok (.bipush (-9), 2) := dk_16 247 (dk_at dksX5_selection_1 10 rfl rfl)
theorem dX5_selection_36 : decode cX5_selection 36 = .ok (.if_icmp .ne 14, 3) := dk_160 0 14 (dk_at dksX5_selection_1 12 rfl rfl)
theorem dX5_selection_39 : decode cX5_selection 39 = .ok (.aload_n 0, 1) := dk_42 (dk_at dksX5_selection_1 15 rfl rfl)
theorem dX5_selection_40 : decode cX5_selection 40 = .ok (.getfield 13, 3) := dk_180 0 13 (dk_at dksX5_selection_1 16 rfl rfl)
theorem dX5_selection_43 : decode cX5_selection 43 = .ok (.sipush 181, 3) := dk_17 0 181 (dk_at dksX5_selection_1 19 rfl rfl)
theorem dX5_selection_46 : decode cX5_selection 46 = .ok (.iaload, 1) := dk_46 (dk_at dksX5_selection_1 22 rfl rfl)
theorem dX5_selection_47 : decode cX5_selection 47 = .ok (.goto 11, 3) := dk_167 0 11 (dk_at dksX5_selection_2 0 rfl rfl)
theorem dX5_selection_50 : decode cX5_selection 50 = .ok (.aload_n 0, 1) := dk_42 (dk_at dksX5_selection_2 3 rfl rfl)
theorem dX5_selection_51 : decode cX5_selection 51 = .ok (.getfield 13, 3) := dk_180 0 13 (dk_at dksX5_selection_2 4 rfl rfl)
theorem dX5_selection_54 : decode cX5_selection 54 = .ok (.sipush 182, 3) := dk_17 0 182 (dk_at dksX5_selection_2 7 rfl rfl)
theorem dX5_selection_57 : decode cX5_selection 57 = .ok (.iaload, 1) := dk_46 (dk_at dksX5_selection_2 10 rfl rfl)
theorem dX5_selection_58 : decode cX5_selection 58 = .ok (.istore_n 2, 1) := dk_61 (dk_at dksX5_selection_2 11 rfl rfl)
theorem dX5_selection_59 : decode cX5_selection 59 = .ok (.iload_n 1, 1) := dk_27 (dk_at dksX5_selection_2 12 rfl rfl)
theorem dX5_selection_60 : decode cX5_selection 60 = .ok (.ifCond .ne 22, 3) := dk_154 0 22 (dk_at dksX5_selection_2 13 rfl rfl)
theorem dX5_selection_63 : decode cX5_selection 63 = .ok (.aload_n 0, 1) := dk_42 (dk_at dksX5_selection_2 16 rfl rfl)
theorem dX5_selection_64 : decode cX5_selection 64 = .ok (.getfield 13, 3) := dk_180 0 13 (dk_at dksX5_selection_2 17 rfl rfl)
theorem dX5_selection_67 : decode cX5_selection 67 = .ok (.iload_n 2, 1) := dk_28 (dk_at dksX5_selection_2 20 rfl rfl)
theorem dX5_selection_68 : decode cX5_selection 68 = .ok (.aload_n 0, 1) := dk_42 (dk_at dksX5_selection_2 21 rfl rfl)
theorem dX5_selection_69 : decode cX5_selection 69 = .ok (.getfield 13, 3) := dk_180 0 13 (dk_at dksX5_selection_3 0 rfl rfl)
theorem dX5_selection_72 : decode cX5_selection 72 = .ok (.sipush 181, 3) := dk_17 0 181 (dk_at dksX5_selection_3 3 rfl rfl)
theorem dX5_selection_75 : decode cX5_selection 75 = .ok (.iaload, 1) := dk_46 (dk_at dksX5_selection_3 6 rfl rfl)
theorem dX5_selection_76 : decode cX5_selection 76 = .ok (.invokestatic 188, 3) := dk_184 0 188 (dk_at dksX5_selection_3 7 rfl rfl)
theorem dX5_selection_79 : decode cX5_selection 79 = .ok (.goto 28, 3) := dk_167 0 28 (dk_at dksX5_selection_3 10 rfl rfl)
theorem dX5_selection_82 : decode cX5_selection 82 = .ok (.iload_n 1, 1) := dk_27 (dk_at dksX5_selection_3 13 rfl rfl)
theorem dX5_selection_83 : decode cX5_selection 83 = .ok (.iconst 1, 1) := dk_4 (dk_at dksX5_selection_3 14 rfl rfl)
theorem dX5_selection_84 : decode cX5_selection 84 = .ok (.if_icmp .ne 22, 3) := dk_160 0 22 (dk_at dksX5_selection_3 15 rfl rfl)
theorem dX5_selection_87 : decode cX5_selection 87 = .ok (.aload_n 0, 1) := dk_42 (dk_at dksX5_selection_3 18 rfl rfl)
theorem dX5_selection_88 : decode cX5_selection 88 = .ok (.getfield 13, 3) := dk_180 0 13 (dk_at dksX5_selection_3 19 rfl rfl)
theorem dX5_selection_91 : decode cX5_selection 91 = .ok (.iload_n 2, 1) := dk_28 (dk_at dksX5_selection_3 22 rfl rfl)
theorem dX5_selection_92 : decode cX5_selection 92 = .ok (.aload_n 0, 1) := dk_42 (dk_at dksX5_selection_3 23 rfl rfl)
theorem dX5_selection_93 : decode cX5_selection 93 = .ok (.getfield 13, 3) := dk_180 0 13 (dk_at dksX5_selection_4 0 rfl rfl)
theorem dX5_selection_96 : decode cX5_selection 96 = .ok (.sipush 181, 3) := dk_17 0 181 (dk_at dksX5_selection_4 3 rfl rfl)
theorem dX5_selection_99 : decode cX5_selection 99 = .ok (.iaload, 1) := dk_46 (dk_at dksX5_selection_4 6 rfl rfl)
theorem dX5_selection_100 : decode cX5_selection 100 = .ok (.invokestatic 114, 3) := dk_184 0 114 (dk_at dksX5_selection_4 7 rfl rfl)
theorem dX5_selection_103 : decode cX5_selection 103 = .ok (.goto 4, 3) := dk_167 0 4 (dk_at dksX5_selection_4 10 rfl rfl)
theorem dX5_selection_106 : decode cX5_selection 106 = .ok (.iload_n 2, 1) := dk_28 (dk_at dksX5_selection_4 13 rfl rfl)
theorem dX5_selection_107 : decode cX5_selection 107 = .ok (.ireturn, 1) := dk_172 (dk_at dksX5_selection_4 14 rfl rfl)
abbrev cX5_linearLength : ByteArray := prog_15_method_48_code
def yX5_linearLength : MethodName := ⟨RX5, "linearLength", "()I"⟩
def dkwX5_linearLength_0 : List UInt8 := [42, 3, 181, 0, 71, 42, 42, 180, 0, 13, 182, 0, 207, 42, 180, 0, 193, 172]
abbrev dktX5_linearLength_0 : List UInt8 := dkwX5_linearLength_0 ++ []
theorem dksX5_linearLength_0 : cX5_linearLength.data.toList.drop 0 = dktX5_linearLength_0 := by decide +kernel
theorem dX5_linearLength_0 : decode cX5_linearLength 0 = .ok (.aload_n 0, 1) := dk_42 (dk_at dksX5_linearLength_0 0 rfl rfl)
theorem dX5_linearLength_1 : decode cX5_linearLength 1 = .ok (.iconst 0, 1) := dk_3 (dk_at dksX5_linearLength_0 1 rfl rfl)
theorem dX5_linearLength_2 : decode cX5_linearLength 2 = .ok (.putfield 71, 3) := dk_181 0 71 (dk_at dksX5_linearLength_0 2 rfl rfl)
theorem dX5_linearLength_5 : decode cX5_linearLength 5 = .ok (.aload_n 0, 1) := dk_42 (dk_at dksX5_linearLength_0 5 rfl rfl)
theorem dX5_linearLength_6 : decode cX5_linearLength 6 = .ok (.aload_n 0, 1) := dk_42 (dk_at dksX5_linearLength_0 6 rfl rfl)
theorem dX5_linearLength_7 : decode cX5_linearLength 7 = .ok (.getfield 13, 3) := dk_180 0 13 (dk_at dksX5_linearLength_0 7 rfl rfl)
theorem dX5_linearLength_10 : decode cX5_linearLength 10 = .ok (.invokevirtual 207, 3) := dk_182 0 207 (dk_at dksX5_linearLength_0 10 rfl rfl)
theorem dX5_linearLength_13 : decode cX5_linearLength 13 = .ok (.aload_n 0, 1) := dk_42 (dk_at dksX5_linearLength_0 13 rfl rfl)
theorem dX5_linearLength_14 : decode cX5_linearLength 14 = .ok (.getfield 193, 3) := dk_180 0 193 (dk_at dksX5_linearLength_0 14 rfl rfl)
theorem dX5_linearLength_17 : decode cX5_linearLength 17 = .ok (.ireturn, 1) := dk_172 (dk_at dksX5_linearLength_0 17 rfl rfl)
abbrev cX5_layLine : ByteArray := prog_15_method_47_code
def yX5_layLine : MethodName := ⟨RX5, "layLine", "([I)V"⟩
def dkwX5_layLine_13 : List UInt8 := [167, 0, 4, 3, 54, 6, 42, 21, 6, 16, 41, 182, 0, 203, 132, 3, 1, 167, 254, 200, 177]
abbrev dktX5_layLine_13 : List UInt8 := dkwX5_layLine_13 ++ []
def dkwX5_layLine_12 : List UInt8 := [21, 5, 16, 253, 160, 0, 23, 43, 42, 180, 0, 68, 28, 46, 4, 96, 3, 184, 0, 199, 153, 0, 7, 4]
abbrev dktX5_layLine_12 : List UInt8 := dkwX5_layLine_12 ++ dktX5_layLine_13
def dkwX5_layLine_11 : List UInt8 := [160, 0, 16, 43, 43, 29, 184, 0, 136, 4, 184, 0, 199, 167, 0, 38, 21, 5, 16, 254, 159, 0, 10]
abbrev dktX5_layLine_11 : List UInt8 := dkwX5_layLine_11 ++ dktX5_layLine_12
def dkwX5_layLine_10 : List UInt8 := [16, 40, 182, 0, 203, 167, 0, 80, 132, 2, 255, 43, 42, 180, 0, 68, 28, 46, 46, 54, 5, 21, 5, 2]
abbrev dktX5_layLine_10 : List UInt8 := dkwX5_layLine_10 ++ dktX5_layLine_11
def dkwX5_layLine_9 : List UInt8 := [184, 0, 199, 16, 41, 182, 0, 203, 42, 16, 47, 182, 0, 196, 42, 43, 29, 4, 96, 4, 184, 0, 199]
abbrev dktX5_layLine_9 : List UInt8 := dkwX5_layLine_9 ++ dktX5_layLine_10
def dkwX5_layLine_8 : List UInt8 := [167, 0, 131, 21, 4, 16, 246, 160, 0, 47, 42, 43, 42, 180, 0, 68, 28, 4, 100, 46, 4, 96, 4]
abbrev dktX5_layLine_8 : List UInt8 := dkwX5_layLine_8 ++ dktX5_layLine_9
def dkwX5_layLine_7 : List UInt8 := [21, 4, 16, 251, 160, 0, 7, 4, 167, 0, 4, 3, 16, 114, 182, 0, 203, 42, 16, 40, 182, 0, 196]
abbrev dktX5_layLine_7 : List UInt8 := dkwX5_layLine_7 ++ dktX5_layLine_8
def dkwX5_layLine_6 : List UInt8 := [16, 95, 182, 0, 196, 42, 43, 29, 4, 96, 3, 184, 0, 199, 16, 40, 182, 0, 203, 167, 0, 158, 42]
abbrev dktX5_layLine_6 : List UInt8 := dkwX5_layLine_6 ++ dktX5_layLine_7
def dkwX5_layLine_5 : List UInt8 := [4, 167, 0, 4, 3, 16, 32, 182, 0, 203, 42, 21, 4, 16, 254, 160, 0, 8, 16, 94, 167, 0, 5]
abbrev dktX5_layLine_5 : List UInt8 := dkwX5_layLine_5 ++ dktX5_layLine_6
def dkwX5_layLine_4 : List UInt8 := [43, 43, 29, 184, 0, 139, 46, 2, 160, 0, 7, 4, 167, 0, 4, 3, 54, 5, 42, 21, 5, 154, 0, 7]
abbrev dktX5_layLine_4 : List UInt8 := dkwX5_layLine_4 ++ dktX5_layLine_5
def dkwX5_layLine_3 : List UInt8 := [16, 40, 182, 0, 203, 167, 0, 243, 21, 4, 16, 252, 164, 0, 81, 29, 43, 29, 184, 0, 136, 164, 0, 18]
abbrev dktX5_layLine_3 : List UInt8 := dkwX5_layLine_3 ++ dktX5_layLine_4
def dkwX5_layLine_2 : List UInt8 := [180, 0, 68, 28, 29, 79, 132, 2, 1, 21, 4, 2, 160, 0, 20, 42, 43, 29, 4, 96, 4, 184, 0, 199]
abbrev dktX5_layLine_2 : List UInt8 := dkwX5_layLine_2 ++ dktX5_layLine_3
def dkwX5_layLine_1 : List UInt8 := [21, 4, 158, 0, 12, 42, 21, 4, 182, 0, 196, 167, 1, 28, 21, 4, 184, 0, 97, 153, 0, 148, 42]
abbrev dktX5_layLine_1 : List UInt8 := dkwX5_layLine_1 ++ dktX5_layLine_2
def dkwX5_layLine_0 : List UInt8 := [42, 3, 181, 0, 193, 3, 61, 3, 62, 29, 43, 17, 0, 180, 46, 162, 1, 53, 43, 29, 46, 54, 4]
abbrev dktX5_layLine_0 : List UInt8 := dkwX5_layLine_0 ++ dktX5_layLine_1
theorem dksX5_layLine_0 : cX5_layLine.data.toList.drop 0 = dktX5_layLine_0 := by decide +kernel
theorem dksX5_layLine_1 : cX5_layLine.data.toList.drop 23 = dktX5_layLine_1 := dk_seg dksX5_layLine_0 23 rfl rfl
theorem dksX5_layLine_2 : cX5_layLine.data.toList.drop 46 = dktX5_layLine_2 := dk_seg dksX5_layLine_1 23 rfl rfl
theorem dksX5_layLine_3 : cX5_layLine.data.toList.drop 70 = dktX5_layLine_3 := dk_seg dksX5_layLine_2 24 rfl rfl
theorem dksX5_layLine_4 : cX5_layLine.data.toList.drop 94 = dktX5_layLine_4 := dk_seg dksX5_layLine_3 24 rfl rfl
theorem dksX5_layLine_5 : cX5_layLine.data.toList.drop 118 = dktX5_layLine_5 := dk_seg dksX5_layLine_4 24 rfl rfl
theorem dksX5_layLine_6 : cX5_layLine.data.toList.drop 141 = dktX5_layLine_6 := dk_seg dksX5_layLine_5 23 rfl rfl
theorem dksX5_layLine_7 : cX5_layLine.data.toList.drop 164 = dktX5_layLine_7 := dk_seg dksX5_layLine_6 23 rfl rfl
theorem dksX5_layLine_8 : cX5_layLine.data.toList.drop 187 = dktX5_layLine_8 := dk_seg dksX5_layLine_7 23 rfl rfl
theorem dksX5_layLine_9 : cX5_layLine.data.toList.drop 210 = dktX5_layLine_9 := dk_seg dksX5_layLine_8 23 rfl rfl
theorem dksX5_layLine_10 : cX5_layLine.data.toList.drop 233 = dktX5_layLine_10 := dk_seg dksX5_layLine_9 23 rfl rfl
theorem dksX5_layLine_11 : cX5_layLine.data.toList.drop 257 = dktX5_layLine_11 := dk_seg dksX5_layLine_10 24 rfl rfl
theorem dksX5_layLine_12 : cX5_layLine.data.toList.drop 280 = dktX5_layLine_12 := dk_seg dksX5_layLine_11 23 rfl rfl
theorem dksX5_layLine_13 : cX5_layLine.data.toList.drop 304 = dktX5_layLine_13 := dk_seg dksX5_layLine_12 24 rfl rfl
theorem dX5_layLine_0 : decode cX5_layLine 0 = .ok (.aload_n 0, 1) := dk_42 (dk_at dksX5_layLine_0 0 rfl rfl)
theorem dX5_layLine_1 : decode cX5_layLine 1 = .ok (.iconst 0, 1) := dk_3 (dk_at dksX5_layLine_0 1 rfl rfl)
theorem dX5_layLine_2 : decode cX5_layLine 2 = .ok (.putfield 193, 3) := dk_181 0 193 (dk_at dksX5_layLine_0 2 rfl rfl)
theorem dX5_layLine_5 : decode cX5_layLine 5 = .ok (.iconst 0, 1) := dk_3 (dk_at dksX5_layLine_0 5 rfl rfl)
theorem dX5_layLine_6 : decode cX5_layLine 6 = .ok (.istore_n 2, 1) := dk_61 (dk_at dksX5_layLine_0 6 rfl rfl)
theorem dX5_layLine_7 : decode cX5_layLine 7 = .ok (.iconst 0, 1) := dk_3 (dk_at dksX5_layLine_0 7 rfl rfl)
theorem dX5_layLine_8 : decode cX5_layLine 8 = .ok (.istore_n 3, 1) := dk_62 (dk_at dksX5_layLine_0 8 rfl rfl)
theorem dX5_layLine_9 : decode cX5_layLine 9 = .ok (.iload_n 3, 1) := dk_29 (dk_at dksX5_layLine_0 9 rfl rfl)
theorem dX5_layLine_10 : decode cX5_layLine 10 = .ok (.aload_n 1, 1) := dk_43 (dk_at dksX5_layLine_0 10 rfl rfl)
theorem dX5_layLine_11 : decode cX5_layLine 11 = .ok (.sipush 180, 3) := dk_17 0 180 (dk_at dksX5_layLine_0 11 rfl rfl)
theorem dX5_layLine_14 : decode cX5_layLine 14 = .ok (.iaload, 1) := dk_46 (dk_at dksX5_layLine_0 14 rfl rfl)
theorem dX5_layLine_15 : decode cX5_layLine 15 = .ok (.if_icmp .ge 309, 3) := dk_162 1 53 (dk_at dksX5_layLine_0 15 rfl rfl)
theorem dX5_layLine_18 : decode cX5_layLine 18 = .ok (.aload_n 1, 1) := dk_43 (dk_at dksX5_layLine_0 18 rfl rfl)
theorem dX5_layLine_19 : decode cX5_layLine 19 = .ok (.iload_n 3, 1) := dk_29 (dk_at dksX5_layLine_0 19 rfl rfl)
theorem dX5_layLine_20 : decode cX5_layLine 20 = .ok (.iaload, 1) := dk_46 (dk_at dksX5_layLine_0 20 rfl rfl)
theorem dX5_layLine_21 : decode cX5_layLine 21 = .ok (.istore 4, 2) := dk_54 4 (dk_at dksX5_layLine_0 21 rfl rfl)
theorem dX5_layLine_23 : decode cX5_layLine 23 = .ok (.iload 4, 2) := dk_21 4 (dk_at dksX5_layLine_1 0 rfl rfl)
theorem dX5_layLine_25 : decode cX5_layLine 25 = .ok (.ifCond .le 12, 3) := dk_158 0 12 (dk_at dksX5_layLine_1 2 rfl rfl)
theorem dX5_layLine_28 : decode cX5_layLine 28 = .ok (.aload_n 0, 1) := dk_42 (dk_at dksX5_layLine_1 5 rfl rfl)
theorem dX5_layLine_29 : decode cX5_layLine 29 = .ok (.iload 4, 2) := dk_21 4 (dk_at dksX5_layLine_1 6 rfl rfl)
theorem dX5_layLine_31 : decode cX5_layLine 31 = .ok (.invokevirtual 196, 3) := dk_182 0 196 (dk_at dksX5_layLine_1 8 rfl rfl)
theorem dX5_layLine_34 : decode cX5_layLine 34 = .ok (.goto 284, 3) := dk_167 1 28 (dk_at dksX5_layLine_1 11 rfl rfl)
theorem dX5_layLine_37 : decode cX5_layLine 37 = .ok (.iload 4, 2) := dk_21 4 (dk_at dksX5_layLine_1 14 rfl rfl)
theorem dX5_layLine_39 : decode cX5_layLine 39 = .ok (.invokestatic 97, 3) := dk_184 0 97 (dk_at dksX5_layLine_1 16 rfl rfl)
theorem dX5_layLine_42 : decode cX5_layLine 42 = .ok (.ifCond .eq 148, 3) := dk_153 0 148 (dk_at dksX5_layLine_1 19 rfl rfl)
theorem dX5_layLine_45 : decode cX5_layLine 45 = .ok (.aload_n 0, 1) := dk_42 (dk_at dksX5_layLine_1 22 rfl rfl)
theorem dX5_layLine_46 : decode cX5_layLine 46 = .ok (.getfield 68, 3) := dk_180 0 68 (dk_at dksX5_layLine_2 0 rfl rfl)
theorem dX5_layLine_49 : decode cX5_layLine 49 = .ok (.iload_n 2, 1) := dk_28 (dk_at dksX5_layLine_2 3 rfl rfl)
theorem dX5_layLine_50 : decode cX5_layLine 50 = .ok (.iload_n 3, 1) := dk_29 (dk_at dksX5_layLine_2 4 rfl rfl)
theorem dX5_layLine_51 : decode cX5_layLine 51 = .ok (.iastore, 1) := dk_79 (dk_at dksX5_layLine_2 5 rfl rfl)
theorem dX5_layLine_52 : decode cX5_layLine 52 = .ok (.iinc 2 1, 3) := dk_132 2 1 (dk_at dksX5_layLine_2 6 rfl rfl)
theorem dX5_layLine_55 : decode cX5_layLine 55 = .ok (.iload 4, 2) := dk_21 4 (dk_at dksX5_layLine_2 9 rfl rfl)
theorem dX5_layLine_57 : decode cX5_layLine 57 = .ok (.iconst (-1), 1) := dk_2 (dk_at dksX5_layLine_2 11 rfl rfl)
theorem dX5_layLine_58 : decode cX5_layLine 58 = .ok (.if_icmp .ne 20, 3) := dk_160 0 20 (dk_at dksX5_layLine_2 12 rfl rfl)
theorem dX5_layLine_61 : decode cX5_layLine 61 = .ok (.aload_n 0, 1) := dk_42 (dk_at dksX5_layLine_2 15 rfl rfl)
theorem dX5_layLine_62 : decode cX5_layLine 62 = .ok (.aload_n 1, 1) := dk_43 (dk_at dksX5_layLine_2 16 rfl rfl)
theorem dX5_layLine_63 : decode cX5_layLine 63 = .ok (.iload_n 3, 1) := dk_29 (dk_at dksX5_layLine_2 17 rfl rfl)
theorem dX5_layLine_64 : decode cX5_layLine 64 = .ok (.iconst 1, 1) := dk_4 (dk_at dksX5_layLine_2 18 rfl rfl)
theorem dX5_layLine_65 : decode cX5_layLine 65 = .ok (.iadd, 1) := dk_96 (dk_at dksX5_layLine_2 19 rfl rfl)
theorem dX5_layLine_66 : decode cX5_layLine 66 = .ok (.iconst 1, 1) := dk_4 (dk_at dksX5_layLine_2 20 rfl rfl)
theorem dX5_layLine_67 : decode cX5_layLine 67 = .ok (.invokestatic 199, 3) := dk_184 0 199 (dk_at dksX5_layLine_2 21 rfl rfl)
theorem dX5_layLine_70 : decode cX5_layLine 70 = .ok (.bipush 40, 2) := dk_16 40 (dk_at dksX5_layLine_3 0 rfl rfl)
theorem dX5_layLine_72 : decode cX5_layLine 72 = .ok (.invokevirtual 203, 3) := dk_182 0 203 (dk_at dksX5_layLine_3 2 rfl rfl)
theorem dX5_layLine_75 : decode cX5_layLine 75 = .ok (.goto 243, 3) := dk_167 0 243 (dk_at dksX5_layLine_3 5 rfl rfl)
theorem dX5_layLine_78 : decode cX5_layLine 78 = .ok (.iload 4, 2) := dk_21 4 (dk_at dksX5_layLine_3 8 rfl rfl)
theorem dX5_layLine_80 : decode cX5_layLine 80 = .ok (.bipush (-4), 2) := dk_16 252 (dk_at dksX5_layLine_3 10 rfl rfl)
theorem dX5_layLine_82 : decode cX5_layLine 82 = .ok (.if_icmp .le 81, 3) := dk_164 0 81 (dk_at dksX5_layLine_3 12 rfl rfl)
theorem dX5_layLine_85 : decode cX5_layLine 85 = .ok (.iload_n 3, 1) := dk_29 (dk_at dksX5_layLine_3 15 rfl rfl)
theorem dX5_layLine_86 : decode cX5_layLine 86 = .ok (.aload_n 1, 1) := dk_43 (dk_at dksX5_layLine_3 16 rfl rfl)
theorem dX5_layLine_87 : decode cX5_layLine 87 = .ok (.iload_n 3, 1) := dk_29 (dk_at dksX5_layLine_3 17 rfl rfl)
theorem dX5_layLine_88 : decode cX5_layLine 88 = .ok (.invokestatic 136, 3) := dk_184 0 136 (dk_at dksX5_layLine_3 18 rfl rfl)
theorem dX5_layLine_91 : decode cX5_layLine 91 = .ok (.if_icmp .le 18, 3) := dk_164 0 18 (dk_at dksX5_layLine_3 21 rfl rfl)
theorem dX5_layLine_94 : decode cX5_layLine 94 = .ok (.aload_n 1, 1) := dk_43 (dk_at dksX5_layLine_4 0 rfl rfl)
theorem dX5_layLine_95 : decode cX5_layLine 95 = .ok (.aload_n 1, 1) := dk_43 (dk_at dksX5_layLine_4 1 rfl rfl)
theorem dX5_layLine_96 : decode cX5_layLine 96 = .ok (.iload_n 3, 1) := dk_29 (dk_at dksX5_layLine_4 2 rfl rfl)
theorem dX5_layLine_97 : decode cX5_layLine 97 = .ok (.invokestatic 139, 3) := dk_184 0 139 (dk_at dksX5_layLine_4 3 rfl rfl)
theorem dX5_layLine_100 : decode cX5_layLine 100 = .ok (.iaload, 1) := dk_46 (dk_at dksX5_layLine_4 6 rfl rfl)
theorem dX5_layLine_101 : decode cX5_layLine 101 = .ok (.iconst (-1), 1) := dk_2 (dk_at dksX5_layLine_4 7 rfl rfl)
theorem dX5_layLine_102 : decode cX5_layLine 102 = .ok (.if_icmp .ne 7, 3) := dk_160 0 7 (dk_at dksX5_layLine_4 8 rfl rfl)
theorem dX5_layLine_105 : decode cX5_layLine 105 = .ok (.iconst 1, 1) := dk_4 (dk_at dksX5_layLine_4 11 rfl rfl)
theorem dX5_layLine_106 : decode cX5_layLine 106 = .ok (.goto 4, 3) := dk_167 0 4 (dk_at dksX5_layLine_4 12 rfl rfl)
theorem dX5_layLine_109 : decode cX5_layLine 109 = .ok (.iconst 0, 1) := dk_3 (dk_at dksX5_layLine_4 15 rfl rfl)
theorem dX5_layLine_110 : decode cX5_layLine 110 = .ok (.istore 5, 2) := dk_54 5 (dk_at dksX5_layLine_4 16 rfl rfl)
theorem dX5_layLine_112 : decode cX5_layLine 112 = .ok (.aload_n 0, 1) := dk_42 (dk_at dksX5_layLine_4 18 rfl rfl)
theorem dX5_layLine_113 : decode cX5_layLine 113 = .ok (.iload 5, 2) := dk_21 5 (dk_at dksX5_layLine_4 19 rfl rfl)
theorem dX5_layLine_115 : decode cX5_layLine 115 = .ok (.ifCond .ne 7, 3) := dk_154 0 7 (dk_at dksX5_layLine_4 21 rfl rfl)
theorem dX5_layLine_118 : decode cX5_layLine 118 = .ok (.iconst 1, 1) := dk_4 (dk_at dksX5_layLine_5 0 rfl rfl)
theorem dX5_layLine_119 : decode cX5_layLine 119 = .ok (.goto 4, 3) := dk_167 0 4 (dk_at dksX5_layLine_5 1 rfl rfl)
theorem dX5_layLine_122 : decode cX5_layLine 122 = .ok (.iconst 0, 1) := dk_3 (dk_at dksX5_layLine_5 4 rfl rfl)
theorem dX5_layLine_123 : decode cX5_layLine 123 = .ok (.bipush 32, 2) := dk_16 32 (dk_at dksX5_layLine_5 5 rfl rfl)
theorem dX5_layLine_125 : decode cX5_layLine 125 = .ok (.invokevirtual 203, 3) := dk_182 0 203 (dk_at dksX5_layLine_5 7 rfl rfl)
theorem dX5_layLine_128 : decode cX5_layLine 128 = .ok (.aload_n 0, 1) := dk_42 (dk_at dksX5_layLine_5 10 rfl rfl)
theorem dX5_layLine_129 : decode cX5_layLine 129 = .ok (.iload 4, 2) := dk_21 4 (dk_at dksX5_layLine_5 11 rfl rfl)
theorem dX5_layLine_131 : decode cX5_layLine 131 = .ok (.bipush (-2), 2) := dk_16 254 (dk_at dksX5_layLine_5 13 rfl rfl)
theorem dX5_layLine_133 : decode cX5_layLine 133 = .ok (.if_icmp .ne 8, 3) := dk_160 0 8 (dk_at dksX5_layLine_5 15 rfl rfl)
theorem dX5_layLine_136 : decode cX5_layLine 136 = .ok (.bipush 94, 2) := dk_16 94 (dk_at dksX5_layLine_5 18 rfl rfl)
theorem dX5_layLine_138 : decode cX5_layLine 138 = .ok (.goto 5, 3) := dk_167 0 5 (dk_at dksX5_layLine_5 20 rfl rfl)
theorem dX5_layLine_141 : decode cX5_layLine 141 = .ok (.bipush 95, 2) := dk_16 95 (dk_at dksX5_layLine_6 0 rfl rfl)
theorem dX5_layLine_143 : decode cX5_layLine 143 = .ok (.invokevirtual 196, 3) := dk_182 0 196 (dk_at dksX5_layLine_6 2 rfl rfl)
theorem dX5_layLine_146 : decode cX5_layLine 146 = .ok (.aload_n 0, 1) := dk_42 (dk_at dksX5_layLine_6 5 rfl rfl)
theorem dX5_layLine_147 : decode cX5_layLine 147 = .ok (.aload_n 1, 1) := dk_43 (dk_at dksX5_layLine_6 6 rfl rfl)
theorem dX5_layLine_148 : decode cX5_layLine 148 = .ok (.iload_n 3, 1) := dk_29 (dk_at dksX5_layLine_6 7 rfl rfl)
theorem dX5_layLine_149 : decode cX5_layLine 149 = .ok (.iconst 1, 1) := dk_4 (dk_at dksX5_layLine_6 8 rfl rfl)
theorem dX5_layLine_150 : decode cX5_layLine 150 = .ok (.iadd, 1) := dk_96 (dk_at dksX5_layLine_6 9 rfl rfl)
theorem dX5_layLine_151 : decode cX5_layLine 151 = .ok (.iconst 0, 1) := dk_3 (dk_at dksX5_layLine_6 10 rfl rfl)
theorem dX5_layLine_152 : decode cX5_layLine 152 = .ok (.invokestatic 199, 3) := dk_184 0 199 (dk_at dksX5_layLine_6 11 rfl rfl)
theorem dX5_layLine_155 : decode cX5_layLine 155 = .ok (.bipush 40, 2) := dk_16 40 (dk_at dksX5_layLine_6 14 rfl rfl)
theorem dX5_layLine_157 : decode cX5_layLine 157 = .ok (.invokevirtual 203, 3) := dk_182 0 203 (dk_at dksX5_layLine_6 16 rfl rfl)
theorem dX5_layLine_160 : decode cX5_layLine 160 = .ok (.goto 158, 3) := dk_167 0 158 (dk_at dksX5_layLine_6 19 rfl rfl)
theorem dX5_layLine_163 : decode cX5_layLine 163 = .ok (.aload_n 0, 1) := dk_42 (dk_at dksX5_layLine_6 22 rfl rfl)
theorem dX5_layLine_164 : decode cX5_layLine 164 = .ok (.iload 4, 2) := dk_21 4 (dk_at dksX5_layLine_7 0 rfl rfl)
theorem dX5_layLine_166 : decode cX5_layLine 166 = .ok (.bipush (-5), 2) := dk_16 251 (dk_at dksX5_layLine_7 2 rfl rfl)
theorem dX5_layLine_168 : decode cX5_layLine 168 = .ok (.if_icmp .ne 7, 3) := dk_160 0 7 (dk_at dksX5_layLine_7 4 rfl rfl)
theorem dX5_layLine_171 : decode cX5_layLine 171 = .ok (.iconst 1, 1) := dk_4 (dk_at dksX5_layLine_7 7 rfl rfl)
theorem dX5_layLine_172 : decode cX5_layLine 172 = .ok (.goto 4, 3) := dk_167 0 4 (dk_at dksX5_layLine_7 8 rfl rfl)
theorem dX5_layLine_175 : decode cX5_layLine 175 = .ok (.iconst 0, 1) := dk_3 (dk_at dksX5_layLine_7 11 rfl rfl)
theorem dX5_layLine_176 : decode cX5_layLine 176 = .ok (.bipush 114, 2) := dk_16 114 (dk_at dksX5_layLine_7 12 rfl rfl)
theorem dX5_layLine_178 : decode cX5_layLine 178 = .ok (.invokevirtual 203, 3) := dk_182 0 203 (dk_at dksX5_layLine_7 14 rfl rfl)
theorem dX5_layLine_181 : decode cX5_layLine 181 = .ok (.aload_n 0, 1) := dk_42 (dk_at dksX5_layLine_7 17 rfl rfl)
theorem dX5_layLine_182 : decode cX5_layLine 182 = .ok (.bipush 40, 2) := dk_16 40 (dk_at dksX5_layLine_7 18 rfl rfl)
theorem dX5_layLine_184 : decode cX5_layLine 184 = .ok (.invokevirtual 196, 3) := dk_182 0 196 (dk_at dksX5_layLine_7 20 rfl rfl)
theorem dX5_layLine_187 : decode cX5_layLine 187 = .ok (.goto 131, 3) := dk_167 0 131 (dk_at dksX5_layLine_8 0 rfl rfl)
theorem dX5_layLine_190 : decode cX5_layLine 190 = .ok (.iload 4, 2) := dk_21 4 (dk_at dksX5_layLine_8 3 rfl rfl)
theorem dX5_layLine_192 : decode cX5_layLine 192 = .ok (.bipush (-10), 2) := dk_16 246 (dk_at dksX5_layLine_8 5 rfl rfl)
theorem dX5_layLine_194 : decode cX5_layLine 194 = .ok (.if_icmp .ne 47, 3) := dk_160 0 47 (dk_at dksX5_layLine_8 7 rfl rfl)
theorem dX5_layLine_197 : decode cX5_layLine 197 = .ok (.aload_n 0, 1) := dk_42 (dk_at dksX5_layLine_8 10 rfl rfl)
theorem dX5_layLine_198 : decode cX5_layLine 198 = .ok (.aload_n 1, 1) := dk_43 (dk_at dksX5_layLine_8 11 rfl rfl)
theorem dX5_layLine_199 : decode cX5_layLine 199 = .ok (.aload_n 0, 1) := dk_42 (dk_at dksX5_layLine_8 12 rfl rfl)
theorem dX5_layLine_200 : decode cX5_layLine 200 = .ok (.getfield 68, 3) := dk_180 0 68 (dk_at dksX5_layLine_8 13 rfl rfl)
theorem dX5_layLine_203 : decode cX5_layLine 203 = .ok (.iload_n 2, 1) := dk_28 (dk_at dksX5_layLine_8 16 rfl rfl)
theorem dX5_layLine_204 : decode cX5_layLine 204 = .ok (.iconst 1, 1) := dk_4 (dk_at dksX5_layLine_8 17 rfl rfl)
theorem dX5_layLine_205 : decode cX5_layLine 205 = .ok (.isub, 1) := dk_100 (dk_at dksX5_layLine_8 18 rfl rfl)
theorem dX5_layLine_206 : decode cX5_layLine 206 = .ok (.iaload, 1) := dk_46 (dk_at dksX5_layLine_8 19 rfl rfl)
theorem dX5_layLine_207 : decode cX5_layLine 207 = .ok (.iconst 1, 1) := dk_4 (dk_at dksX5_layLine_8 20 rfl rfl)
theorem dX5_layLine_208 : decode cX5_layLine 208 = .ok (.iadd, 1) := dk_96 (dk_at dksX5_layLine_8 21 rfl rfl)
theorem dX5_layLine_209 : decode cX5_layLine 209 = .ok (.iconst 1, 1) := dk_4 (dk_at dksX5_layLine_8 22 rfl rfl)
theorem dX5_layLine_210 : decode cX5_layLine 210 = .ok (.invokestatic 199, 3) := dk_184 0 199 (dk_at dksX5_layLine_9 0 rfl rfl)
theorem dX5_layLine_213 : decode cX5_layLine 213 = .ok (.bipush 41, 2) := dk_16 41 (dk_at dksX5_layLine_9 3 rfl rfl)
theorem dX5_layLine_215 : decode cX5_layLine 215 = .ok (.invokevirtual 203, 3) := dk_182 0 203 (dk_at dksX5_layLine_9 5 rfl rfl)
theorem dX5_layLine_218 : decode cX5_layLine 218 = .ok (.aload_n 0, 1) := dk_42 (dk_at dksX5_layLine_9 8 rfl rfl)
theorem dX5_layLine_219 : decode cX5_layLine 219 = .ok (.bipush 47, 2) := dk_16 47 (dk_at dksX5_layLine_9 9 rfl rfl)
theorem dX5_layLine_221 : decode cX5_layLine 221 = .ok (.invokevirtual 196, 3) := dk_182 0 196 (dk_at dksX5_layLine_9 11 rfl rfl)
theorem dX5_layLine_224 : decode cX5_layLine 224 = .ok (.aload_n 0, 1) := dk_42 (dk_at dksX5_layLine_9 14 rfl rfl)
theorem dX5_layLine_225 : decode cX5_layLine 225 = .ok (.aload_n 1, 1) := dk_43 (dk_at dksX5_layLine_9 15 rfl rfl)
theorem dX5_layLine_226 : decode cX5_layLine 226 = .ok (.iload_n 3, 1) := dk_29 (dk_at dksX5_layLine_9 16 rfl rfl)
theorem dX5_layLine_227 : decode cX5_layLine 227 = .ok (.iconst 1, 1) := dk_4 (dk_at dksX5_layLine_9 17 rfl rfl)
theorem dX5_layLine_228 : decode cX5_layLine 228 = .ok (.iadd, 1) := dk_96 (dk_at dksX5_layLine_9 18 rfl rfl)
theorem dX5_layLine_229 : decode cX5_layLine 229 = .ok (.iconst 1, 1) := dk_4 (dk_at dksX5_layLine_9 19 rfl rfl)
theorem dX5_layLine_230 : decode cX5_layLine 230 = .ok (.invokestatic 199, 3) := dk_184 0 199 (dk_at dksX5_layLine_9 20 rfl rfl)
theorem dX5_layLine_233 : decode cX5_layLine 233 = .ok (.bipush 40, 2) := dk_16 40 (dk_at dksX5_layLine_10 0 rfl rfl)
theorem dX5_layLine_235 : decode cX5_layLine 235 = .ok (.invokevirtual 203, 3) := dk_182 0 203 (dk_at dksX5_layLine_10 2 rfl rfl)
theorem dX5_layLine_238 : decode cX5_layLine 238 = .ok (.goto 80, 3) := dk_167 0 80 (dk_at dksX5_layLine_10 5 rfl rfl)
theorem dX5_layLine_241 : decode cX5_layLine 241 = .ok (.iinc 2 (-1), 3) := dk_132 2 255 (dk_at dksX5_layLine_10 8 rfl rfl)
theorem dX5_layLine_244 : decode cX5_layLine 244 = .ok (.aload_n 1, 1) := dk_43 (dk_at dksX5_layLine_10 11 rfl rfl)
theorem dX5_layLine_245 : decode cX5_layLine 245 = .ok (.aload_n 0, 1) := dk_42 (dk_at dksX5_layLine_10 12 rfl rfl)
theorem dX5_layLine_246 : decode cX5_layLine 246 = .ok (.getfield 68, 3) := dk_180 0 68 (dk_at dksX5_layLine_10 13 rfl rfl)
theorem dX5_layLine_249 : decode cX5_layLine 249 = .ok (.iload_n 2, 1) := dk_28 (dk_at dksX5_layLine_10 16 rfl rfl)
theorem dX5_layLine_250 : decode cX5_layLine 250 = .ok (.iaload, 1) := dk_46 (dk_at dksX5_layLine_10 17 rfl rfl)
theorem dX5_layLine_251 : decode cX5_layLine 251 = .ok (.iaload, 1) := dk_46 (dk_at dksX5_layLine_10 18 rfl rfl)
theorem dX5_layLine_252 : decode cX5_layLine 252 = .ok (.istore 5, 2) := dk_54 5 (dk_at dksX5_layLine_10 19 rfl rfl)
theorem dX5_layLine_254 : decode cX5_layLine 254 = .ok (.iload 5, 2) := dk_21 5 (dk_at dksX5_layLine_10 21 rfl rfl)
theorem dX5_layLine_256 : decode cX5_layLine 256 = .ok (.iconst (-1), 1) := dk_2 (dk_at dksX5_layLine_10 23 rfl rfl)
theorem dX5_layLine_257 : decode cX5_layLine 257 = .ok (.if_icmp .ne 16, 3) := dk_160 0 16 (dk_at dksX5_layLine_11 0 rfl rfl)
theorem dX5_layLine_260 : decode cX5_layLine 260 = .ok (.aload_n 1, 1) := dk_43 (dk_at dksX5_layLine_11 3 rfl rfl)
theorem dX5_layLine_261 : decode cX5_layLine 261 = .ok (.aload_n 1, 1) := dk_43 (dk_at dksX5_layLine_11 4 rfl rfl)
theorem dX5_layLine_262 : decode cX5_layLine 262 = .ok (.iload_n 3, 1) := dk_29 (dk_at dksX5_layLine_11 5 rfl rfl)
theorem dX5_layLine_263 : decode cX5_layLine 263 = .ok (.invokestatic 136, 3) := dk_184 0 136 (dk_at dksX5_layLine_11 6 rfl rfl)
theorem dX5_layLine_266 : decode cX5_layLine 266 = .ok (.iconst 1, 1) := dk_4 (dk_at dksX5_layLine_11 9 rfl rfl)
theorem dX5_layLine_267 : decode cX5_layLine 267 = .ok (.invokestatic 199, 3) := dk_184 0 199 (dk_at dksX5_layLine_11 10 rfl rfl)
theorem dX5_layLine_270 : decode cX5_layLine 270 = .ok (.goto 38, 3) := dk_167 0 38 (dk_at dksX5_layLine_11 13 rfl rfl)
theorem dX5_layLine_273 : decode cX5_layLine 273 = .ok (.iload 5, 2) := dk_21 5 (dk_at dksX5_layLine_11 16 rfl rfl)
theorem dX5_layLine_275 : decode cX5_layLine 275 = .ok (.bipush (-2), 2) := dk_16 254 (dk_at dksX5_layLine_11 18 rfl rfl)
theorem dX5_layLine_277 : decode cX5_layLine 277 = .ok (.if_icmp .eq 10, 3) := dk_159 0 10 (dk_at dksX5_layLine_11 20 rfl rfl)
theorem dX5_layLine_280 : decode cX5_layLine 280 = .ok (.iload 5, 2) := dk_21 5 (dk_at dksX5_layLine_12 0 rfl rfl)
theorem dX5_layLine_282 : decode cX5_layLine 282 = .ok (.bipush (-3), 2) := dk_16 253 (dk_at dksX5_layLine_12 2 rfl rfl)
theorem dX5_layLine_284 : decode cX5_layLine 284 = .ok (.if_icmp .ne 23, 3) := dk_160 0 23 (dk_at dksX5_layLine_12 4 rfl rfl)
theorem dX5_layLine_287 : decode cX5_layLine 287 = .ok (.aload_n 1, 1) := dk_43 (dk_at dksX5_layLine_12 7 rfl rfl)
theorem dX5_layLine_288 : decode cX5_layLine 288 = .ok (.aload_n 0, 1) := dk_42 (dk_at dksX5_layLine_12 8 rfl rfl)
theorem dX5_layLine_289 : decode cX5_layLine 289 = .ok (.getfield 68, 3) := dk_180 0 68 (dk_at dksX5_layLine_12 9 rfl rfl)
theorem dX5_layLine_292 : decode cX5_layLine 292 = .ok (.iload_n 2, 1) := dk_28 (dk_at dksX5_layLine_12 12 rfl rfl)
theorem dX5_layLine_293 : decode cX5_layLine 293 = .ok (.iaload, 1) := dk_46 (dk_at dksX5_layLine_12 13 rfl rfl)
theorem dX5_layLine_294 : decode cX5_layLine 294 = .ok (.iconst 1, 1) := dk_4 (dk_at dksX5_layLine_12 14 rfl rfl)
theorem dX5_layLine_295 : decode cX5_layLine 295 = .ok (.iadd, 1) := dk_96 (dk_at dksX5_layLine_12 15 rfl rfl)
theorem dX5_layLine_296 : decode cX5_layLine 296 = .ok (.iconst 0, 1) := dk_3 (dk_at dksX5_layLine_12 16 rfl rfl)
theorem dX5_layLine_297 : decode cX5_layLine 297 = .ok (.invokestatic 199, 3) := dk_184 0 199 (dk_at dksX5_layLine_12 17 rfl rfl)
theorem dX5_layLine_300 : decode cX5_layLine 300 = .ok (.ifCond .eq 7, 3) := dk_153 0 7 (dk_at dksX5_layLine_12 20 rfl rfl)
theorem dX5_layLine_303 : decode cX5_layLine 303 = .ok (.iconst 1, 1) := dk_4 (dk_at dksX5_layLine_12 23 rfl rfl)
theorem dX5_layLine_304 : decode cX5_layLine 304 = .ok (.goto 4, 3) := dk_167 0 4 (dk_at dksX5_layLine_13 0 rfl rfl)
theorem dX5_layLine_307 : decode cX5_layLine 307 = .ok (.iconst 0, 1) := dk_3 (dk_at dksX5_layLine_13 3 rfl rfl)
theorem dX5_layLine_308 : decode cX5_layLine 308 = .ok (.istore 6, 2) := dk_54 6 (dk_at dksX5_layLine_13 4 rfl rfl)
theorem dX5_layLine_310 : decode cX5_layLine 310 = .ok (.aload_n 0, 1) := dk_42 (dk_at dksX5_layLine_13 6 rfl rfl)
theorem dX5_layLine_311 : decode cX5_layLine 311 = .ok (.iload 6, 2) := dk_21 6 (dk_at dksX5_layLine_13 7 rfl rfl)
theorem dX5_layLine_313 : decode cX5_layLine 313 = .ok (.bipush 41, 2) := dk_16 41 (dk_at dksX5_layLine_13 9 rfl rfl)
theorem dX5_layLine_315 : decode cX5_layLine 315 = .ok (.invokevirtual 203, 3) := dk_182 0 203 (dk_at dksX5_layLine_13 11 rfl rfl)
theorem dX5_layLine_318 : decode cX5_layLine 318 = .ok (.iinc 3 1, 3) := dk_132 3 1 (dk_at dksX5_layLine_13 14 rfl rfl)
theorem dX5_layLine_321 : decode cX5_layLine 321 = .ok (.goto (-312), 3) := dk_167 254 200 (dk_at dksX5_layLine_13 17 rfl rfl)
theorem dX5_layLine_324 : decode cX5_layLine 324 = .ok (.return_, 1) := dk_177 (dk_at dksX5_layLine_13 20 rfl rfl)
abbrev cX5_say : ByteArray := prog_15_method_45_code
def yX5_say : MethodName := ⟨RX5, "say", "(I)V"⟩
def dkwX5_say_0 : List UInt8 := [42, 180, 0, 32, 42, 180, 0, 193, 27, 79, 42, 89, 180, 0, 193, 4, 96, 181, 0, 193, 177]
abbrev dktX5_say_0 : List UInt8 := dkwX5_say_0 ++ []
theorem dksX5_say_0 : cX5_say.data.toList.drop 0 = dktX5_say_0 := by decide +kernel
theorem dX5_say_0 : decode cX5_say 0 = .ok (.aload_n 0, 1) := dk_42 (dk_at dksX5_say_0 0 rfl rfl)
theorem dX5_say_1 : decode cX5_say 1 = .ok (.getfield 32, 3) := dk_180 0 32 (dk_at dksX5_say_0 1 rfl rfl)
theorem dX5_say_4 : decode cX5_say 4 = .ok (.aload_n 0, 1) := dk_42 (dk_at dksX5_say_0 4 rfl rfl)
theorem dX5_say_5 : decode cX5_say 5 = .ok (.getfield 193, 3) := dk_180 0 193 (dk_at dksX5_say_0 5 rfl rfl)
theorem dX5_say_8 : decode cX5_say 8 = .ok (.iload_n 1, 1) := dk_27 (dk_at dksX5_say_0 8 rfl rfl)
theorem dX5_say_9 : decode cX5_say 9 = .ok (.iastore, 1) := dk_79 (dk_at dksX5_say_0 9 rfl rfl)
theorem dX5_say_10 : decode cX5_say 10 = .ok (.aload_n 0, 1) := dk_42 (dk_at dksX5_say_0 10 rfl rfl)
theorem dX5_say_11 : decode cX5_say 11 = .ok (.dup, 1) := dk_89 (dk_at dksX5_say_0 11 rfl rfl)
theorem dX5_say_12 : decode cX5_say 12 = .ok (.getfield 193, 3) := dk_180 0 193 (dk_at dksX5_say_0 12 rfl rfl)
theorem dX5_say_15 : decode cX5_say 15 = .ok (.iconst 1, 1) := dk_4 (dk_at dksX5_say_0 15 rfl rfl)
theorem dX5_say_16 : decode cX5_say 16 = .ok (.iadd, 1) := dk_96 (dk_at dksX5_say_0 16 rfl rfl)
theorem dX5_say_17 : decode cX5_say 17 = .ok (.putfield 193, 3) := dk_181 0 193 (dk_at dksX5_say_0 17 rfl rfl)
theorem dX5_say_20 : decode cX5_say 20 = .ok (.return_, 1) := dk_177 (dk_at dksX5_say_0 20 rfl rfl)
abbrev cX5_isShort : ByteArray := prog_15_method_44_code
def yX5_isShort : MethodName := ⟨RX5, "isShort", "([IIZ)Z"⟩
def dkwX5_isShort_6 : List UInt8 := [21, 5, 184, 0, 107, 54, 5, 167, 255, 212, 21, 7, 172]
abbrev dktX5_isShort_6 : List UInt8 := dkwX5_isShort_6 ++ []
def dkwX5_isShort_5 : List UInt8 := [46, 16, 254, 159, 0, 12, 42, 21, 5, 46, 16, 253, 160, 0, 7, 4, 167, 0, 4, 3, 54, 7, 42]
abbrev dktX5_isShort_5 : List UInt8 := dkwX5_isShort_5 ++ dktX5_isShort_6
def dkwX5_isShort_4 : List UInt8 := [160, 0, 7, 4, 167, 0, 4, 3, 54, 7, 21, 5, 29, 162, 0, 44, 21, 7, 153, 0, 25, 42, 21, 5]
abbrev dktX5_isShort_4 : List UInt8 := dkwX5_isShort_4 ++ dktX5_isShort_5
def dkwX5_isShort_3 : List UInt8 := [153, 0, 13, 21, 5, 29, 160, 0, 7, 4, 167, 0, 4, 3, 172, 21, 6, 154, 0, 10, 21, 4, 16, 251]
abbrev dktX5_isShort_3 : List UInt8 := dkwX5_isShort_3 ++ dktX5_isShort_4
def dkwX5_isShort_2 : List UInt8 := [160, 0, 7, 4, 167, 0, 4, 3, 54, 6, 28, 153, 0, 9, 21, 5, 29, 160, 0, 20, 21, 6]
abbrev dktX5_isShort_2 : List UInt8 := dkwX5_isShort_2 ++ dktX5_isShort_3
def dkwX5_isShort_1 : List UInt8 := [54, 5, 21, 4, 184, 0, 87, 154, 0, 18, 21, 4, 184, 0, 91, 154, 0, 10, 21, 4, 16, 252]
abbrev dktX5_isShort_1 : List UInt8 := dkwX5_isShort_1 ++ dktX5_isShort_2
def dkwX5_isShort_0 : List UInt8 := [42, 27, 184, 0, 142, 62, 27, 29, 160, 0, 5, 3, 172, 42, 27, 46, 54, 4, 42, 27, 184, 0, 107]
abbrev dktX5_isShort_0 : List UInt8 := dkwX5_isShort_0 ++ dktX5_isShort_1
theorem dksX5_isShort_0 : cX5_isShort.data.toList.drop 0 = dktX5_isShort_0 := by decide +kernel
theorem dksX5_isShort_1 : cX5_isShort.data.toList.drop 23 = dktX5_isShort_1 := dk_seg dksX5_isShort_0 23 rfl rfl
theorem dksX5_isShort_2 : cX5_isShort.data.toList.drop 45 = dktX5_isShort_2 := dk_seg dksX5_isShort_1 22 rfl rfl
theorem dksX5_isShort_3 : cX5_isShort.data.toList.drop 67 = dktX5_isShort_3 := dk_seg dksX5_isShort_2 22 rfl rfl
theorem dksX5_isShort_4 : cX5_isShort.data.toList.drop 91 = dktX5_isShort_4 := dk_seg dksX5_isShort_3 24 rfl rfl
theorem dksX5_isShort_5 : cX5_isShort.data.toList.drop 115 = dktX5_isShort_5 := dk_seg dksX5_isShort_4 24 rfl rfl
theorem dksX5_isShort_6 : cX5_isShort.data.toList.drop 138 = dktX5_isShort_6 := dk_seg dksX5_isShort_5 23 rfl rfl
theorem dX5_isShort_0 : decode cX5_isShort 0 = .ok (.aload_n 0, 1) := dk_42 (dk_at dksX5_isShort_0 0 rfl rfl)
theorem dX5_isShort_1 : decode cX5_isShort 1 = .ok (.iload_n 1, 1) := dk_27 (dk_at dksX5_isShort_0 1 rfl rfl)
theorem dX5_isShort_2 : decode cX5_isShort 2 = .ok (.invokestatic 142, 3) := dk_184 0 142 (dk_at dksX5_isShort_0 2 rfl rfl)
theorem dX5_isShort_5 : decode cX5_isShort 5 = .ok (.istore_n 3, 1) := dk_62 (dk_at dksX5_isShort_0 5 rfl rfl)
theorem dX5_isShort_6 : decode cX5_isShort 6 = .ok (.iload_n 1, 1) := dk_27 (dk_at dksX5_isShort_0 6 rfl rfl)
theorem dX5_isShort_7 : decode cX5_isShort 7 = .ok (.iload_n 3, 1) := dk_29 (dk_at dksX5_isShort_0 7 rfl rfl)
theorem dX5_isShort_8 : decode cX5_isShort 8 = .ok (.if_icmp .ne 5, 3) := dk_160 0 5 (dk_at dksX5_isShort_0 8 rfl rfl)
theorem dX5_isShort_11 : decode cX5_isShort 11 = .ok (.iconst 0, 1) := dk_3 (dk_at dksX5_isShort_0 11 rfl rfl)
theorem dX5_isShort_12 : decode cX5_isShort 12 = .ok (.ireturn, 1) := dk_172 (dk_at dksX5_isShort_0 12 rfl rfl)
theorem dX5_isShort_13 : decode cX5_isShort 13 = .ok (.aload_n 0, 1) := dk_42 (dk_at dksX5_isShort_0 13 rfl rfl)
theorem dX5_isShort_14 : decode cX5_isShort 14 = .ok (.iload_n 1, 1) := dk_27 (dk_at dksX5_isShort_0 14 rfl rfl)
theorem dX5_isShort_15 : decode cX5_isShort 15 = .ok (.iaload, 1) := dk_46 (dk_at dksX5_isShort_0 15 rfl rfl)
theorem dX5_isShort_16 : decode cX5_isShort 16 = .ok (.istore 4, 2) := dk_54 4 (dk_at dksX5_isShort_0 16 rfl rfl)
theorem dX5_isShort_18 : decode cX5_isShort 18 = .ok (.aload_n 0, 1) := dk_42 (dk_at dksX5_isShort_0 18 rfl rfl)
theorem dX5_isShort_19 : decode cX5_isShort 19 = .ok (.iload_n 1, 1) := dk_27 (dk_at dksX5_isShort_0 19 rfl rfl)
theorem dX5_isShort_20 : decode cX5_isShort 20 = .ok (.invokestatic 107, 3) := dk_184 0 107 (dk_at dksX5_isShort_0 20 rfl rfl)
theorem dX5_isShort_23 : decode cX5_isShort 23 = .ok (.istore 5, 2) := dk_54 5 (dk_at dksX5_isShort_1 0 rfl rfl)
theorem dX5_isShort_25 : decode cX5_isShort 25 = .ok (.iload 4, 2) := dk_21 4 (dk_at dksX5_isShort_1 2 rfl rfl)
theorem dX5_isShort_27 : decode cX5_isShort 27 = .ok (.invokestatic 87, 3) := dk_184 0 87 (dk_at dksX5_isShort_1 4 rfl rfl)
theorem dX5_isShort_30 : decode cX5_isShort 30 = .ok (.ifCond .ne 18, 3) := dk_154 0 18 (dk_at dksX5_isShort_1 7 rfl rfl)
theorem dX5_isShort_33 : decode cX5_isShort 33 = .ok (.iload 4, 2) := dk_21 4 (dk_at dksX5_isShort_1 10 rfl rfl)
theorem dX5_isShort_35 : decode cX5_isShort 35 = .ok (.invokestatic 91, 3) := dk_184 0 91 (dk_at dksX5_isShort_1 12 rfl rfl)
theorem dX5_isShort_38 : decode cX5_isShort 38 = .ok (.ifCond .ne 10, 3) := dk_154 0 10 (dk_at dksX5_isShort_1 15 rfl rfl)
theorem dX5_isShort_41 : decode cX5_isShort 41 = .ok (.iload 4, 2) := dk_21 4 (dk_at dksX5_isShort_1 18 rfl rfl)
theorem dX5_isShort_43 : decode cX5_isShort 43 = .ok (.bipush (-4), 2) := dk_16 252 (dk_at dksX5_isShort_1 20 rfl rfl)
theorem dX5_isShort_45 : decode cX5_isShort 45 = .ok (.if_icmp .ne 7, 3) := dk_160 0 7 (dk_at dksX5_isShort_2 0 rfl rfl)
theorem dX5_isShort_48 : decode cX5_isShort 48 = .ok (.iconst 1, 1) := dk_4 (dk_at dksX5_isShort_2 3 rfl rfl)
theorem dX5_isShort_49 : decode cX5_isShort 49 = .ok (.goto 4, 3) := dk_167 0 4 (dk_at dksX5_isShort_2 4 rfl rfl)
theorem dX5_isShort_52 : decode cX5_isShort 52 = .ok (.iconst 0, 1) := dk_3 (dk_at dksX5_isShort_2 7 rfl rfl)
theorem dX5_isShort_53 : decode cX5_isShort 53 = .ok (.istore 6, 2) := dk_54 6 (dk_at dksX5_isShort_2 8 rfl rfl)
theorem dX5_isShort_55 : decode cX5_isShort 55 = .ok (.iload_n 2, 1) := dk_28 (dk_at dksX5_isShort_2 10 rfl rfl)
theorem dX5_isShort_56 : decode cX5_isShort 56 = .ok (.ifCond .eq 9, 3) := dk_153 0 9 (dk_at dksX5_isShort_2 11 rfl rfl)
theorem dX5_isShort_59 : decode cX5_isShort 59 = .ok (.iload 5, 2) := dk_21 5 (dk_at dksX5_isShort_2 14 rfl rfl)
theorem dX5_isShort_61 : decode cX5_isShort 61 = .ok (.iload_n 3, 1) := dk_29 (dk_at dksX5_isShort_2 16 rfl rfl)
theorem dX5_isShort_62 : decode cX5_isShort 62 = .ok (.if_icmp .ne 20, 3) := dk_160 0 20 (dk_at dksX5_isShort_2 17 rfl rfl)
theorem dX5_isShort_65 : decode cX5_isShort 65 = .ok (.iload 6, 2) := dk_21 6 (dk_at dksX5_isShort_2 20 rfl rfl)
theorem dX5_isShort_67 : decode cX5_isShort 67 = .ok (.ifCond .eq 13, 3) := dk_153 0 13 (dk_at dksX5_isShort_3 0 rfl rfl)
theorem dX5_isShort_70 : decode cX5_isShort 70 = .ok (.iload 5, 2) := dk_21 5 (dk_at dksX5_isShort_3 3 rfl rfl)
theorem dX5_isShort_72 : decode cX5_isShort 72 = .ok (.iload_n 3, 1) := dk_29 (dk_at dksX5_isShort_3 5 rfl rfl)
theorem dX5_isShort_73 : decode cX5_isShort 73 = .ok (.if_icmp .ne 7, 3) := dk_160 0 7 (dk_at dksX5_isShort_3 6 rfl rfl)
theorem dX5_isShort_76 : decode cX5_isShort 76 = .ok (.iconst 1, 1) := dk_4 (dk_at dksX5_isShort_3 9 rfl rfl)
theorem dX5_isShort_77 : decode cX5_isShort 77 = .ok (.goto 4, 3) := dk_167 0 4 (dk_at dksX5_isShort_3 10 rfl rfl)
theorem dX5_isShort_80 : decode cX5_isShort 80 = .ok (.iconst 0, 1) := dk_3 (dk_at dksX5_isShort_3 13 rfl rfl)
theorem dX5_isShort_81 : decode cX5_isShort 81 = .ok (.ireturn, 1) := dk_172 (dk_at dksX5_isShort_3 14 rfl rfl)
theorem dX5_isShort_82 : decode cX5_isShort 82 = .ok (.iload 6, 2) := dk_21 6 (dk_at dksX5_isShort_3 15 rfl rfl)
theorem dX5_isShort_84 : decode cX5_isShort 84 = .ok (.ifCond .ne 10, 3) := dk_154 0 10 (dk_at dksX5_isShort_3 17 rfl rfl)
theorem dX5_isShort_87 : decode cX5_isShort 87 = .ok (.iload 4, 2) := dk_21 4 (dk_at dksX5_isShort_3 20 rfl rfl)
theorem dX5_isShort_89 : decode cX5_isShort 89 = .ok (.bipush (-5), 2) := dk_16 251 (dk_at dksX5_isShort_3 22 rfl rfl)
theorem dX5_isShort_91 : decode cX5_isShort 91 = .ok (.if_icmp .ne 7, 3) := dk_160 0 7 (dk_at dksX5_isShort_4 0 rfl rfl)
theorem dX5_isShort_94 : decode cX5_isShort 94 = .ok (.iconst 1, 1) := dk_4 (dk_at dksX5_isShort_4 3 rfl rfl)
theorem dX5_isShort_95 : decode cX5_isShort 95 = .ok (.goto 4, 3) := dk_167 0 4 (dk_at dksX5_isShort_4 4 rfl rfl)
theorem dX5_isShort_98 : decode cX5_isShort 98 = .ok (.iconst 0, 1) := dk_3 (dk_at dksX5_isShort_4 7 rfl rfl)
theorem dX5_isShort_99 : decode cX5_isShort 99 = .ok (.istore 7, 2) := dk_54 7 (dk_at dksX5_isShort_4 8 rfl rfl)
theorem dX5_isShort_101 : decode cX5_isShort 101 = .ok (.iload 5, 2) := dk_21 5 (dk_at dksX5_isShort_4 10 rfl rfl)
theorem dX5_isShort_103 : decode cX5_isShort 103 = .ok (.iload_n 3, 1) := dk_29 (dk_at dksX5_isShort_4 12 rfl rfl)
theorem dX5_isShort_104 : decode cX5_isShort 104 = .ok (.if_icmp .ge 44, 3) := dk_162 0 44 (dk_at dksX5_isShort_4 13 rfl rfl)
theorem dX5_isShort_107 : decode cX5_isShort 107 = .ok (.iload 7, 2) := dk_21 7 (dk_at dksX5_isShort_4 16 rfl rfl)
theorem dX5_isShort_109 : decode cX5_isShort 109 = .ok (.ifCond .eq 25, 3) := dk_153 0 25 (dk_at dksX5_isShort_4 18 rfl rfl)
theorem dX5_isShort_112 : decode cX5_isShort 112 = .ok (.aload_n 0, 1) := dk_42 (dk_at dksX5_isShort_4 21 rfl rfl)
theorem dX5_isShort_113 : decode cX5_isShort 113 = .ok (.iload 5, 2) := dk_21 5 (dk_at dksX5_isShort_4 22 rfl rfl)
theorem dX5_isShort_115 : decode cX5_isShort 115 = .ok (.iaload, 1) := dk_46 (dk_at dksX5_isShort_5 0 rfl rfl)
theorem dX5_isShort_116 : decode cX5_isShort 116 = .ok (.bipush (-2), 2) := dk_16 254 (dk_at dksX5_isShort_5 1 rfl rfl)
theorem dX5_isShort_118 : decode cX5_isShort 118 = .ok (.if_icmp .eq 12, 3) := dk_159 0 12 (dk_at dksX5_isShort_5 3 rfl rfl)
theorem dX5_isShort_121 : decode cX5_isShort 121 = .ok (.aload_n 0, 1) := dk_42 (dk_at dksX5_isShort_5 6 rfl rfl)
theorem dX5_isShort_122 : decode cX5_isShort 122 = .ok (.iload 5, 2) := dk_21 5 (dk_at dksX5_isShort_5 7 rfl rfl)
theorem dX5_isShort_124 : decode cX5_isShort 124 = .ok (.iaload, 1) := dk_46 (dk_at dksX5_isShort_5 9 rfl rfl)
theorem dX5_isShort_125 : decode cX5_isShort 125 = .ok (.bipush (-3), 2) := dk_16 253 (dk_at dksX5_isShort_5 10 rfl rfl)
theorem dX5_isShort_127 : decode cX5_isShort 127 = .ok (.if_icmp .ne 7, 3) := dk_160 0 7 (dk_at dksX5_isShort_5 12 rfl rfl)
theorem dX5_isShort_130 : decode cX5_isShort 130 = .ok (.iconst 1, 1) := dk_4 (dk_at dksX5_isShort_5 15 rfl rfl)
theorem dX5_isShort_131 : decode cX5_isShort 131 = .ok (.goto 4, 3) := dk_167 0 4 (dk_at dksX5_isShort_5 16 rfl rfl)
theorem dX5_isShort_134 : decode cX5_isShort 134 = .ok (.iconst 0, 1) := dk_3 (dk_at dksX5_isShort_5 19 rfl rfl)
theorem dX5_isShort_135 : decode cX5_isShort 135 = .ok (.istore 7, 2) := dk_54 7 (dk_at dksX5_isShort_5 20 rfl rfl)
theorem dX5_isShort_137 : decode cX5_isShort 137 = .ok (.aload_n 0, 1) := dk_42 (dk_at dksX5_isShort_5 22 rfl rfl)
theorem dX5_isShort_138 : decode cX5_isShort 138 = .ok (.iload 5, 2) := dk_21 5 (dk_at dksX5_isShort_6 0 rfl rfl)
theorem dX5_isShort_140 : decode cX5_isShort 140 = .ok (.invokestatic 107, 3) := dk_184 0 107 (dk_at dksX5_isShort_6 2 rfl rfl)
theorem dX5_isShort_143 : decode cX5_isShort 143 = .ok (.istore 5, 2) := dk_54 5 (dk_at dksX5_isShort_6 5 rfl rfl)
theorem dX5_isShort_145 : decode cX5_isShort 145 = .ok (.goto (-44), 3) := dk_167 255 212 (dk_at dksX5_isShort_6 7 rfl rfl)
theorem dX5_isShort_148 : decode cX5_isShort 148 = .ok (.iload 7, 2) := dk_21 7 (dk_at dksX5_isShort_6 10 rfl rfl)
theorem dX5_isShort_150 : decode cX5_isShort 150 = .ok (.ireturn, 1) := dk_172 (dk_at dksX5_isShort_6 12 rfl rfl)
abbrev cX5_sayUnless : ByteArray := prog_15_method_46_code
def yX5_sayUnless : MethodName := ⟨RX5, "sayUnless", "(ZI)V"⟩
def dkwX5_sayUnless_0 : List UInt8 := [27, 154, 0, 8, 42, 28, 182, 0, 196, 177]
abbrev dktX5_sayUnless_0 : List UInt8 := dkwX5_sayUnless_0 ++ []
theorem dksX5_sayUnless_0 : cX5_sayUnless.data.toList.drop 0 = dktX5_sayUnless_0 := by decide +kernel
theorem dX5_sayUnless_0 : decode cX5_sayUnless 0 = .ok (.iload_n 1, 1) := dk_27 (dk_at dksX5_sayUnless_0 0 rfl rfl)
theorem dX5_sayUnless_1 : decode cX5_sayUnless 1 = .ok (.ifCond .ne 8, 3) := dk_154 0 8 (dk_at dksX5_sayUnless_0 1 rfl rfl)
theorem dX5_sayUnless_4 : decode cX5_sayUnless 4 = .ok (.aload_n 0, 1) := dk_42 (dk_at dksX5_sayUnless_0 4 rfl rfl)
theorem dX5_sayUnless_5 : decode cX5_sayUnless 5 = .ok (.iload_n 2, 1) := dk_28 (dk_at dksX5_sayUnless_0 5 rfl rfl)
theorem dX5_sayUnless_6 : decode cX5_sayUnless 6 = .ok (.invokevirtual 196, 3) := dk_182 0 196 (dk_at dksX5_sayUnless_0 6 rfl rfl)
theorem dX5_sayUnless_9 : decode cX5_sayUnless 9 = .ok (.return_, 1) := dk_177 (dk_at dksX5_sayUnless_0 9 rfl rfl)
abbrev cX5_itemStart : ByteArray := prog_15_method_15_code
def yX5_itemStart : MethodName := ⟨RX5, "itemStart", "([II)I"⟩
def dkwX5_itemStart_0 : List UInt8 := [42, 27, 4, 100, 46, 16, 245, 160, 0, 13, 42, 27, 4, 100, 184, 0, 100, 167, 0, 6, 27, 4, 100, 172]
abbrev dktX5_itemStart_0 : List UInt8 := dkwX5_itemStart_0 ++ []
theorem dksX5_itemStart_0 : cX5_itemStart.data.toList.drop 0 = dktX5_itemStart_0 := by decide +kernel
theorem dX5_itemStart_0 : decode cX5_itemStart 0 = .ok (.aload_n 0, 1) := dk_42 (dk_at dksX5_itemStart_0 0 rfl rfl)
theorem dX5_itemStart_1 : decode cX5_itemStart 1 = .ok (.iload_n 1, 1) := dk_27 (dk_at dksX5_itemStart_0 1 rfl rfl)
theorem dX5_itemStart_2 : decode cX5_itemStart 2 = .ok (.iconst 1, 1) := dk_4 (dk_at dksX5_itemStart_0 2 rfl rfl)
theorem dX5_itemStart_3 : decode cX5_itemStart 3 = .ok (.isub, 1) := dk_100 (dk_at dksX5_itemStart_0 3 rfl rfl)
theorem dX5_itemStart_4 : decode cX5_itemStart 4 = .ok (.iaload, 1) := dk_46 (dk_at dksX5_itemStart_0 4 rfl rfl)
theorem dX5_itemStart_5 : decode cX5_itemStart 5 = .ok (.bipush (-11), 2) := dk_16 245 (dk_at dksX5_itemStart_0 5 rfl rfl)
theorem dX5_itemStart_7 : decode cX5_itemStart 7 = .ok (.if_icmp .ne 13, 3) := dk_160 0 13 (dk_at dksX5_itemStart_0 7 rfl rfl)
theorem dX5_itemStart_10 : decode cX5_itemStart 10 = .ok (.aload_n 0, 1) := dk_42 (dk_at dksX5_itemStart_0 10 rfl rfl)
theorem dX5_itemStart_11 : decode cX5_itemStart 11 = .ok (.iload_n 1, 1) := dk_27 (dk_at dksX5_itemStart_0 11 rfl rfl)
theorem dX5_itemStart_12 : decode cX5_itemStart 12 = .ok (.iconst 1, 1) := dk_4 (dk_at dksX5_itemStart_0 12 rfl rfl)
theorem dX5_itemStart_13 : decode cX5_itemStart 13 = .ok (.isub, 1) := dk_100 (dk_at dksX5_itemStart_0 13 rfl rfl)
theorem dX5_itemStart_14 : decode cX5_itemStart 14 = .ok (.invokestatic 100, 3) := dk_184 0 100 (dk_at dksX5_itemStart_0 14 rfl rfl)
theorem dX5_itemStart_17 : decode cX5_itemStart 17 = .ok (.goto 6, 3) := dk_167 0 6 (dk_at dksX5_itemStart_0 17 rfl rfl)
theorem dX5_itemStart_20 : decode cX5_itemStart 20 = .ok (.iload_n 1, 1) := dk_27 (dk_at dksX5_itemStart_0 20 rfl rfl)
theorem dX5_itemStart_21 : decode cX5_itemStart 21 = .ok (.iconst 1, 1) := dk_4 (dk_at dksX5_itemStart_0 21 rfl rfl)
theorem dX5_itemStart_22 : decode cX5_itemStart 22 = .ok (.isub, 1) := dk_100 (dk_at dksX5_itemStart_0 22 rfl rfl)
theorem dX5_itemStart_23 : decode cX5_itemStart 23 = .ok (.ireturn, 1) := dk_172 (dk_at dksX5_itemStart_0 23 rfl rfl)
abbrev cX5_beginOf : ByteArray := prog_15_method_11_code
def yX5_beginOf : MethodName := ⟨RX5, "beginOf", "([II)I"⟩
def dkwX5_beginOf_2 : List UInt8 := [61, 132, 3, 255, 167, 255, 211, 29, 172]
abbrev dktX5_beginOf_2 : List UInt8 := dkwX5_beginOf_2 ++ []
def dkwX5_beginOf_1 : List UInt8 := [16, 245, 160, 0, 7, 4, 167, 0, 17, 42, 29, 46, 184, 0, 97, 153, 0, 7, 2, 167, 0, 4, 3, 96]
abbrev dktX5_beginOf_1 : List UInt8 := dkwX5_beginOf_1 ++ dktX5_beginOf_2
def dkwX5_beginOf_0 : List UInt8 := [3, 61, 27, 4, 100, 62, 28, 157, 0, 12, 42, 29, 46, 184, 0, 97, 154, 0, 38, 28, 42, 29, 46]
abbrev dktX5_beginOf_0 : List UInt8 := dkwX5_beginOf_0 ++ dktX5_beginOf_1
theorem dksX5_beginOf_0 : cX5_beginOf.data.toList.drop 0 = dktX5_beginOf_0 := by decide +kernel
theorem dksX5_beginOf_1 : cX5_beginOf.data.toList.drop 23 = dktX5_beginOf_1 := dk_seg dksX5_beginOf_0 23 rfl rfl
theorem dksX5_beginOf_2 : cX5_beginOf.data.toList.drop 47 = dktX5_beginOf_2 := dk_seg dksX5_beginOf_1 24 rfl rfl
theorem dX5_beginOf_0 : decode cX5_beginOf 0 = .ok (.iconst 0, 1) := dk_3 (dk_at dksX5_beginOf_0 0 rfl rfl)
theorem dX5_beginOf_1 : decode cX5_beginOf 1 = .ok (.istore_n 2, 1) := dk_61 (dk_at dksX5_beginOf_0 1 rfl rfl)
theorem dX5_beginOf_2 : decode cX5_beginOf 2 = .ok (.iload_n 1, 1) := dk_27 (dk_at dksX5_beginOf_0 2 rfl rfl)
theorem dX5_beginOf_3 : decode cX5_beginOf 3 = .ok (.iconst 1, 1) := dk_4 (dk_at dksX5_beginOf_0 3 rfl rfl)
theorem dX5_beginOf_4 : decode cX5_beginOf 4 = .ok (.isub, 1) := dk_100 (dk_at dksX5_beginOf_0 4 rfl rfl)
theorem dX5_beginOf_5 : decode cX5_beginOf 5 = .ok (.istore_n 3, 1) := dk_62 (dk_at dksX5_beginOf_0 5 rfl rfl)
theorem dX5_beginOf_6 : decode cX5_beginOf 6 = .ok (.iload_n 2, 1) := dk_28 (dk_at dksX5_beginOf_0 6 rfl rfl)
theorem dX5_beginOf_7 : decode cX5_beginOf 7 = .ok (.ifCond .gt 12, 3) := dk_157 0 12 (dk_at dksX5_beginOf_0 7 rfl rfl)
theorem dX5_beginOf_10 : decode cX5_beginOf 10 = .ok (.aload_n 0, 1) := dk_42 (dk_at dksX5_beginOf_0 10 rfl rfl)
theorem dX5_beginOf_11 : decode cX5_beginOf 11 = .ok (.iload_n 3, 1) := dk_29 (dk_at dksX5_beginOf_0 11 rfl rfl)
theorem dX5_beginOf_12 : decode cX5_beginOf 12 = .ok (.iaload, 1) := dk_46 (dk_at dksX5_beginOf_0 12 rfl rfl)
theorem dX5_beginOf_13 : decode cX5_beginOf 13 = .ok (.invokestatic 97, 3) := dk_184 0 97 (dk_at dksX5_beginOf_0 13 rfl rfl)
theorem dX5_beginOf_16 : decode cX5_beginOf 16 = .ok (.ifCond .ne 38, 3) := dk_154 0 38 (dk_at dksX5_beginOf_0 16 rfl rfl)
theorem dX5_beginOf_19 : decode cX5_beginOf 19 = .ok (.iload_n 2, 1) := dk_28 (dk_at dksX5_beginOf_0 19 rfl rfl)
theorem dX5_beginOf_20 : decode cX5_beginOf 20 = .ok (.aload_n 0, 1) := dk_42 (dk_at dksX5_beginOf_0 20 rfl rfl)
theorem dX5_beginOf_21 : decode cX5_beginOf 21 = .ok (.iload_n 3, 1) := dk_29 (dk_at dksX5_beginOf_0 21 rfl rfl)
theorem dX5_beginOf_22 : decode cX5_beginOf 22 = .ok (.iaload, 1) := dk_46 (dk_at dksX5_beginOf_0 22 rfl rfl)
theorem dX5_beginOf_23 : decode cX5_beginOf 23 = .ok (.bipush (-11), 2) := dk_16 245 (dk_at dksX5_beginOf_1 0 rfl rfl)
theorem dX5_beginOf_25 : decode cX5_beginOf 25 = .ok (.if_icmp .ne 7, 3) := dk_160 0 7 (dk_at dksX5_beginOf_1 2 rfl rfl)
theorem dX5_beginOf_28 : decode cX5_beginOf 28 = .ok (.iconst 1, 1) := dk_4 (dk_at dksX5_beginOf_1 5 rfl rfl)
theorem dX5_beginOf_29 : decode cX5_beginOf 29 = .ok (.goto 17, 3) := dk_167 0 17 (dk_at dksX5_beginOf_1 6 rfl rfl)
theorem dX5_beginOf_32 : decode cX5_beginOf 32 = .ok (.aload_n 0, 1) := dk_42 (dk_at dksX5_beginOf_1 9 rfl rfl)
theorem dX5_beginOf_33 : decode cX5_beginOf 33 = .ok (.iload_n 3, 1) := dk_29 (dk_at dksX5_beginOf_1 10 rfl rfl)
theorem dX5_beginOf_34 : decode cX5_beginOf 34 = .ok (.iaload, 1) := dk_46 (dk_at dksX5_beginOf_1 11 rfl rfl)
theorem dX5_beginOf_35 : decode cX5_beginOf 35 = .ok (.invokestatic 97, 3) := dk_184 0 97 (dk_at dksX5_beginOf_1 12 rfl rfl)
theorem dX5_beginOf_38 : decode cX5_beginOf 38 = .ok (.ifCond .eq 7, 3) := dk_153 0 7 (dk_at dksX5_beginOf_1 15 rfl rfl)
theorem dX5_beginOf_41 : decode cX5_beginOf 41 = .ok (.iconst (-1), 1) := dk_2 (dk_at dksX5_beginOf_1 18 rfl rfl)
theorem dX5_beginOf_42 : decode cX5_beginOf 42 = .ok (.goto 4, 3) := dk_167 0 4 (dk_at dksX5_beginOf_1 19 rfl rfl)
theorem dX5_beginOf_45 : decode cX5_beginOf 45 = .ok (.iconst 0, 1) := dk_3 (dk_at dksX5_beginOf_1 22 rfl rfl)
theorem dX5_beginOf_46 : decode cX5_beginOf 46 = .ok (.iadd, 1) := dk_96 (dk_at dksX5_beginOf_1 23 rfl rfl)
theorem dX5_beginOf_47 : decode cX5_beginOf 47 = .ok (.istore_n 2, 1) := dk_61 (dk_at dksX5_beginOf_2 0 rfl rfl)
theorem dX5_beginOf_48 : decode cX5_beginOf 48 = .ok (.iinc 3 (-1), 3) := dk_132 3 255 (dk_at dksX5_beginOf_2 1 rfl rfl)
theorem dX5_beginOf_51 : decode cX5_beginOf 51 = .ok (.goto (-45), 3) := dk_167 255 211 (dk_at dksX5_beginOf_2 4 rfl rfl)
theorem dX5_beginOf_54 : decode cX5_beginOf 54 = .ok (.iload_n 3, 1) := dk_29 (dk_at dksX5_beginOf_2 7 rfl rfl)
theorem dX5_beginOf_55 : decode cX5_beginOf 55 = .ok (.ireturn, 1) := dk_172 (dk_at dksX5_beginOf_2 8 rfl rfl)
abbrev cX5_linearAt : ByteArray := prog_15_method_49_code
def yX5_linearAt : MethodName := ⟨RX5, "linearAt", "(I)I"⟩
def dkwX5_linearAt_2 : List UInt8 := [172]
abbrev dktX5_linearAt_2 : List UInt8 := dkwX5_linearAt_2 ++ []
def dkwX5_linearAt_1 : List UInt8 := [153, 0, 7, 3, 167, 0, 4, 4, 182, 0, 150, 153, 0, 7, 3, 167, 0, 9, 42, 180, 0, 32, 27, 46]
abbrev dktX5_linearAt_1 : List UInt8 := dkwX5_linearAt_1 ++ dktX5_linearAt_2
def dkwX5_linearAt_0 : List UInt8 := [42, 42, 180, 0, 13, 182, 0, 207, 42, 27, 133, 9, 42, 180, 0, 193, 4, 100, 133, 184, 0, 79]
abbrev dktX5_linearAt_0 : List UInt8 := dkwX5_linearAt_0 ++ dktX5_linearAt_1
theorem dksX5_linearAt_0 : cX5_linearAt.data.toList.drop 0 = dktX5_linearAt_0 := by decide +kernel
theorem dksX5_linearAt_1 : cX5_linearAt.data.toList.drop 22 = dktX5_linearAt_1 := dk_seg dksX5_linearAt_0 22 rfl rfl
theorem dksX5_linearAt_2 : cX5_linearAt.data.toList.drop 46 = dktX5_linearAt_2 := dk_seg dksX5_linearAt_1 24 rfl rfl
theorem dX5_linearAt_0 : decode cX5_linearAt 0 = .ok (.aload_n 0, 1) := dk_42 (dk_at dksX5_linearAt_0 0 rfl rfl)
theorem dX5_linearAt_1 : decode cX5_linearAt 1 = .ok (.aload_n 0, 1) := dk_42 (dk_at dksX5_linearAt_0 1 rfl rfl)
theorem dX5_linearAt_2 : decode cX5_linearAt 2 = .ok (.getfield 13, 3) := dk_180 0 13 (dk_at dksX5_linearAt_0 2 rfl rfl)
theorem dX5_linearAt_5 : decode cX5_linearAt 5 = .ok (.invokevirtual 207, 3) := dk_182 0 207 (dk_at dksX5_linearAt_0 5 rfl rfl)
theorem dX5_linearAt_8 : decode cX5_linearAt 8 = .ok (.aload_n 0, 1) := dk_42 (dk_at dksX5_linearAt_0 8 rfl rfl)
theorem dX5_linearAt_9 : decode cX5_linearAt 9 = .ok (.iload_n 1, 1) := dk_27 (dk_at dksX5_linearAt_0 9 rfl rfl)
theorem dX5_linearAt_10 : decode cX5_linearAt 10 = .ok (.i2l, 1) := dk_133 (dk_at dksX5_linearAt_0 10 rfl rfl)
theorem dX5_linearAt_11 : decode cX5_linearAt 11 = .ok (.lconst 0, 1) := dk_9 (dk_at dksX5_linearAt_0 11 rfl rfl)
theorem dX5_linearAt_12 : decode cX5_linearAt 12 = .ok (.aload_n 0, 1) := dk_42 (dk_at dksX5_linearAt_0 12 rfl rfl)
theorem dX5_linearAt_13 : decode cX5_linearAt 13 = .ok (.getfield 193, 3) := dk_180 0 193 (dk_at dksX5_linearAt_0 13 rfl rfl)
theorem dX5_linearAt_16 : decode cX5_linearAt 16 = .ok (.iconst 1, 1) := dk_4 (dk_at dksX5_linearAt_0 16 rfl rfl)
theorem dX5_linearAt_17 : decode cX5_linearAt 17 = .ok (.isub, 1) := dk_100 (dk_at dksX5_linearAt_0 17 rfl rfl)
theorem dX5_linearAt_18 : decode cX5_linearAt 18 = .ok (.i2l, 1) := dk_133 (dk_at dksX5_linearAt_0 18 rfl rfl)
theorem dX5_linearAt_19 : decode cX5_linearAt 19 = .ok (.invokestatic 79, 3) := dk_184 0 79 (dk_at dksX5_linearAt_0 19 rfl rfl)
theorem dX5_linearAt_22 : decode cX5_linearAt 22 = .ok (.ifCond .eq 7, 3) := dk_153 0 7 (dk_at dksX5_linearAt_1 0 rfl rfl)
theorem dX5_linearAt_25 : decode cX5_linearAt 25 = .ok (.iconst 0, 1) := dk_3 (dk_at dksX5_linearAt_1 3 rfl rfl)
theorem dX5_linearAt_26 : decode cX5_linearAt 26 = .ok (.goto 4, 3) := dk_167 0 4 (dk_at dksX5_linearAt_1 4 rfl rfl)
theorem dX5_linearAt_29 : decode cX5_linearAt 29 = .ok (.iconst 1, 1) := dk_4 (dk_at dksX5_linearAt_1 7 rfl rfl)
theorem dX5_linearAt_30 : decode cX5_linearAt 30 = .ok (.invokevirtual 150, 3) := dk_182 0 150 (dk_at dksX5_linearAt_1 8 rfl rfl)
theorem dX5_linearAt_33 : decode cX5_linearAt 33 = .ok (.ifCond .eq 7, 3) := dk_153 0 7 (dk_at dksX5_linearAt_1 11 rfl rfl)
theorem dX5_linearAt_36 : decode cX5_linearAt 36 = .ok (.iconst 0, 1) := dk_3 (dk_at dksX5_linearAt_1 14 rfl rfl)
theorem dX5_linearAt_37 : decode cX5_linearAt 37 = .ok (.goto 9, 3) := dk_167 0 9 (dk_at dksX5_linearAt_1 15 rfl rfl)
theorem dX5_linearAt_40 : decode cX5_linearAt 40 = .ok (.aload_n 0, 1) := dk_42 (dk_at dksX5_linearAt_1 18 rfl rfl)
theorem dX5_linearAt_41 : decode cX5_linearAt 41 = .ok (.getfield 32, 3) := dk_180 0 32 (dk_at dksX5_linearAt_1 19 rfl rfl)
theorem dX5_linearAt_44 : decode cX5_linearAt 44 = .ok (.iload_n 1, 1) := dk_27 (dk_at dksX5_linearAt_1 22 rfl rfl)
theorem dX5_linearAt_45 : decode cX5_linearAt 45 = .ok (.iaload, 1) := dk_46 (dk_at dksX5_linearAt_1 23 rfl rfl)
theorem dX5_linearAt_46 : decode cX5_linearAt 46 = .ok (.ireturn, 1) := dk_172 (dk_at dksX5_linearAt_2 0 rfl rfl)
abbrev cX5_moveTo : ByteArray := prog_15_method_50_code
def yX5_moveTo : MethodName := ⟨RX5, "moveTo", "(I)I"⟩
def dkwX5_moveTo_2 : List UInt8 := [16, 247, 79, 28, 172]
abbrev dktX5_moveTo_2 : List UInt8 := dkwX5_moveTo_2 ++ []
def dkwX5_moveTo_1 : List UInt8 := [180, 0, 13, 17, 0, 181, 46, 61, 42, 180, 0, 13, 17, 0, 181, 27, 79, 42, 180, 0, 13, 17, 0, 182]
abbrev dktX5_moveTo_1 : List UInt8 := dkwX5_moveTo_1 ++ dktX5_moveTo_2
def dkwX5_moveTo_0 : List UInt8 := [42, 42, 27, 182, 0, 185, 153, 0, 7, 3, 167, 0, 4, 4, 182, 0, 150, 153, 0, 5, 3, 172, 42]
abbrev dktX5_moveTo_0 : List UInt8 := dkwX5_moveTo_0 ++ dktX5_moveTo_1
theorem dksX5_moveTo_0 : cX5_moveTo.data.toList.drop 0 = dktX5_moveTo_0 := by decide +kernel
theorem dksX5_moveTo_1 : cX5_moveTo.data.toList.drop 23 = dktX5_moveTo_1 := dk_seg dksX5_moveTo_0 23 rfl rfl
theorem dksX5_moveTo_2 : cX5_moveTo.data.toList.drop 47 = dktX5_moveTo_2 := dk_seg dksX5_moveTo_1 24 rfl rfl
theorem dX5_moveTo_0 : decode cX5_moveTo 0 = .ok (.aload_n 0, 1) := dk_42 (dk_at dksX5_moveTo_0 0 rfl rfl)
theorem dX5_moveTo_1 : decode cX5_moveTo 1 = .ok (.aload_n 0, 1) := dk_42 (dk_at dksX5_moveTo_0 1 rfl rfl)
theorem dX5_moveTo_2 : decode cX5_moveTo 2 = .ok (.iload_n 1, 1) := dk_27 (dk_at dksX5_moveTo_0 2 rfl rfl)
theorem dX5_moveTo_3 : decode cX5_moveTo 3 = .ok (.invokevirtual 185, 3) := dk_182 0 185 (dk_at dksX5_moveTo_0 3 rfl rfl)
theorem dX5_moveTo_6 : decode cX5_moveTo 6 = .ok (.ifCond .eq 7, 3) := dk_153 0 7 (dk_at dksX5_moveTo_0 6 rfl rfl)
theorem dX5_moveTo_9 : decode cX5_moveTo 9 = .ok (.iconst 0, 1) := dk_3 (dk_at dksX5_moveTo_0 9 rfl rfl)
theorem dX5_moveTo_10 : decode cX5_moveTo 10 = .ok (.goto 4, 3) := dk_167 0 4 (dk_at dksX5_moveTo_0 10 rfl rfl)
theorem dX5_moveTo_13 : decode cX5_moveTo 13 = .ok (.iconst 1, 1) := dk_4 (dk_at dksX5_moveTo_0 13 rfl rfl)
theorem dX5_moveTo_14 : decode cX5_moveTo 14 = .ok (.invokevirtual 150, 3) := dk_182 0 150 (dk_at dksX5_moveTo_0 14 rfl rfl)
theorem dX5_moveTo_17 : decode cX5_moveTo 17 = .ok (.ifCond .eq 5, 3) := dk_153 0 5 (dk_at dksX5_moveTo_0 17 rfl rfl)
theorem dX5_moveTo_20 : decode cX5_moveTo 20 = .ok (.iconst 0, 1) := dk_3 (dk_at dksX5_moveTo_0 20 rfl rfl)
theorem dX5_moveTo_21 : decode cX5_moveTo 21 = .ok (.ireturn, 1) := dk_172 (dk_at dksX5_moveTo_0 21 rfl rfl)
theorem dX5_moveTo_22 : decode cX5_moveTo 22 = .ok (.aload_n 0, 1) := dk_42 (dk_at dksX5_moveTo_0 22 rfl rfl)
theorem dX5_moveTo_23 : decode cX5_moveTo 23 = .ok (.getfield 13, 3) := dk_180 0 13 (dk_at dksX5_moveTo_1 0 rfl rfl)
theorem dX5_moveTo_26 : decode cX5_moveTo 26 = .ok (.sipush 181, 3) := dk_17 0 181 (dk_at dksX5_moveTo_1 3 rfl rfl)
theorem dX5_moveTo_29 : decode cX5_moveTo 29 = .ok (.iaload, 1) := dk_46 (dk_at dksX5_moveTo_1 6 rfl rfl)
theorem dX5_moveTo_30 : decode cX5_moveTo 30 = .ok (.istore_n 2, 1) := dk_61 (dk_at dksX5_moveTo_1 7 rfl rfl)
theorem dX5_moveTo_31 : decode cX5_moveTo 31 = .ok (.aload_n 0, 1) := dk_42 (dk_at dksX5_moveTo_1 8 rfl rfl)
theorem dX5_moveTo_32 : decode cX5_moveTo 32 = .ok (.getfield 13, 3) := dk_180 0 13 (dk_at dksX5_moveTo_1 9 rfl rfl)
theorem dX5_moveTo_35 : decode cX5_moveTo 35 = .ok (.sipush 181, 3) := dk_17 0 181 (dk_at dksX5_moveTo_1 12 rfl rfl)
theorem dX5_moveTo_38 : decode cX5_moveTo 38 = .ok (.iload_n 1, 1) := dk_27 (dk_at dksX5_moveTo_1 15 rfl rfl)
theorem dX5_moveTo_39 : decode cX5_moveTo 39 = .ok (.iastore, 1) := dk_79 (dk_at dksX5_moveTo_1 16 rfl rfl)
theorem dX5_moveTo_40 : decode cX5_moveTo 40 = .ok (.aload_n 0, 1) := dk_42 (dk_at dksX5_moveTo_1 17 rfl rfl)
theorem dX5_moveTo_41 : decode cX5_moveTo 41 = .ok (.getfield 13, 3) := dk_180 0 13 (dk_at dksX5_moveTo_1 18 rfl rfl)
theorem dX5_moveTo_44 : decode cX5_moveTo 44 = .ok (.sipush 182, 3) := dk_17 0 182 (dk_at dksX5_moveTo_1 21 rfl rfl)
theorem dX5_moveTo_47 : decode cX5_moveTo 47 = .ok (.bipush (-9), 2) := dk_16 247 (dk_at dksX5_moveTo_2 0 rfl rfl)
theorem dX5_moveTo_49 : decode cX5_moveTo 49 = .ok (.iastore, 1) := dk_79 (dk_at dksX5_moveTo_2 2 rfl rfl)
theorem dX5_moveTo_50 : decode cX5_moveTo 50 = .ok (.iload_n 2, 1) := dk_28 (dk_at dksX5_moveTo_2 3 rfl rfl)
theorem dX5_moveTo_51 : decode cX5_moveTo 51 = .ok (.ireturn, 1) := dk_172 (dk_at dksX5_moveTo_2 4 rfl rfl)
abbrev cX5_moveBy : ByteArray := prog_15_method_51_code
def yX5_moveBy : MethodName := ⟨RX5, "moveBy", "(I)I"⟩
def dkwX5_moveBy_1 : List UInt8 := [153, 0, 5, 3, 172, 42, 180, 0, 13, 27, 184, 0, 214, 42, 180, 0, 13, 17, 0, 181, 46, 172]
abbrev dktX5_moveBy_1 : List UInt8 := dkwX5_moveBy_1 ++ []
def dkwX5_moveBy_0 : List UInt8 := [42, 27, 133, 20, 0, 210, 20, 0, 212, 184, 0, 79, 153, 0, 7, 3, 167, 0, 4, 4, 182, 0, 150]
abbrev dktX5_moveBy_0 : List UInt8 := dkwX5_moveBy_0 ++ dktX5_moveBy_1
theorem dksX5_moveBy_0 : cX5_moveBy.data.toList.drop 0 = dktX5_moveBy_0 := by decide +kernel
theorem dksX5_moveBy_1 : cX5_moveBy.data.toList.drop 23 = dktX5_moveBy_1 := dk_seg dksX5_moveBy_0 23 rfl rfl
theorem dX5_moveBy_0 : decode cX5_moveBy 0 = .ok (.aload_n 0, 1) := dk_42 (dk_at dksX5_moveBy_0 0 rfl rfl)
theorem dX5_moveBy_1 : decode cX5_moveBy 1 = .ok (.iload_n 1, 1) := dk_27 (dk_at dksX5_moveBy_0 1 rfl rfl)
theorem dX5_moveBy_2 : decode cX5_moveBy 2 = .ok (.i2l, 1) := dk_133 (dk_at dksX5_moveBy_0 2 rfl rfl)
theorem dX5_moveBy_3 : decode cX5_moveBy 3 = .ok (.ldc2_w 210, 3) := dk_20 0 210 (dk_at dksX5_moveBy_0 3 rfl rfl)
theorem dX5_moveBy_6 : decode cX5_moveBy 6 = .ok (.ldc2_w 212, 3) := dk_20 0 212 (dk_at dksX5_moveBy_0 6 rfl rfl)
theorem dX5_moveBy_9 : decode cX5_moveBy 9 = .ok (.invokestatic 79, 3) := dk_184 0 79 (dk_at dksX5_moveBy_0 9 rfl rfl)
theorem dX5_moveBy_12 : decode cX5_moveBy 12 = .ok (.ifCond .eq 7, 3) := dk_153 0 7 (dk_at dksX5_moveBy_0 12 rfl rfl)
theorem dX5_moveBy_15 : decode cX5_moveBy 15 = .ok (.iconst 0, 1) := dk_3 (dk_at dksX5_moveBy_0 15 rfl rfl)
theorem dX5_moveBy_16 : decode cX5_moveBy 16 = .ok (.goto 4, 3) := dk_167 0 4 (dk_at dksX5_moveBy_0 16 rfl rfl)
theorem dX5_moveBy_19 : decode cX5_moveBy 19 = .ok (.iconst 1, 1) := dk_4 (dk_at dksX5_moveBy_0 19 rfl rfl)
theorem dX5_moveBy_20 : decode cX5_moveBy 20 = .ok (.invokevirtual 150, 3) := dk_182 0 150 (dk_at dksX5_moveBy_0 20 rfl rfl)
theorem dX5_moveBy_23 : decode cX5_moveBy 23 = .ok (.ifCond .eq 5, 3) := dk_153 0 5 (dk_at dksX5_moveBy_1 0 rfl rfl)
theorem dX5_moveBy_26 : decode cX5_moveBy 26 = .ok (.iconst 0, 1) := dk_3 (dk_at dksX5_moveBy_1 3 rfl rfl)
theorem dX5_moveBy_27 : decode cX5_moveBy 27 = .ok (.ireturn, 1) := dk_172 (dk_at dksX5_moveBy_1 4 rfl rfl)
theorem dX5_moveBy_28 : decode cX5_moveBy 28 = .ok (.aload_n 0, 1) := dk_42 (dk_at dksX5_moveBy_1 5 rfl rfl)
theorem dX5_moveBy_29 : decode cX5_moveBy 29 = .ok (.getfield 13, 3) := dk_180 0 13 (dk_at dksX5_moveBy_1 6 rfl rfl)
theorem dX5_moveBy_32 : decode cX5_moveBy 32 = .ok (.iload_n 1, 1) := dk_27 (dk_at dksX5_moveBy_1 9 rfl rfl)
theorem dX5_moveBy_33 : decode cX5_moveBy 33 = .ok (.invokestatic 214, 3) := dk_184 0 214 (dk_at dksX5_moveBy_1 10 rfl rfl)
theorem dX5_moveBy_36 : decode cX5_moveBy 36 = .ok (.aload_n 0, 1) := dk_42 (dk_at dksX5_moveBy_1 13 rfl rfl)
theorem dX5_moveBy_37 : decode cX5_moveBy 37 = .ok (.getfield 13, 3) := dk_180 0 13 (dk_at dksX5_moveBy_1 14 rfl rfl)
theorem dX5_moveBy_40 : decode cX5_moveBy 40 = .ok (.sipush 181, 3) := dk_17 0 181 (dk_at dksX5_moveBy_1 17 rfl rfl)
theorem dX5_moveBy_43 : decode cX5_moveBy 43 = .ok (.iaload, 1) := dk_46 (dk_at dksX5_moveBy_1 20 rfl rfl)
theorem dX5_moveBy_44 : decode cX5_moveBy 44 = .ok (.ireturn, 1) := dk_172 (dk_at dksX5_moveBy_1 21 rfl rfl)
abbrev cX5_moves : ByteArray := prog_15_method_28_code
def yX5_moves : MethodName := ⟨RX5, "moves", "([II)V"⟩
def dkwX5_moves_2 : List UInt8 := [177]
abbrev dktX5_moves_2 : List UInt8 := dkwX5_moves_2 ++ []
def dkwX5_moves_1 : List UInt8 := [17, 0, 180, 46, 164, 0, 11, 42, 17, 0, 180, 46, 167, 0, 4, 28, 79, 42, 17, 0, 182, 16, 247, 79]
abbrev dktX5_moves_1 : List UInt8 := dkwX5_moves_1 ++ dktX5_moves_2
def dkwX5_moves_0 : List UInt8 := [42, 17, 0, 181, 46, 27, 96, 61, 42, 17, 0, 181, 28, 156, 0, 7, 3, 167, 0, 21, 28, 42]
abbrev dktX5_moves_0 : List UInt8 := dkwX5_moves_0 ++ dktX5_moves_1
theorem dksX5_moves_0 : cX5_moves.data.toList.drop 0 = dktX5_moves_0 := by decide +kernel
theorem dksX5_moves_1 : cX5_moves.data.toList.drop 22 = dktX5_moves_1 := dk_seg dksX5_moves_0 22 rfl rfl
theorem dksX5_moves_2 : cX5_moves.data.toList.drop 46 = dktX5_moves_2 := dk_seg dksX5_moves_1 24 rfl rfl
theorem dX5_moves_0 : decode cX5_moves 0 = .ok (.aload_n 0, 1) := dk_42 (dk_at dksX5_moves_0 0 rfl rfl)
theorem dX5_moves_1 : decode cX5_moves 1 = .ok (.sipush 181, 3) := dk_17 0 181 (dk_at dksX5_moves_0 1 rfl rfl)
theorem dX5_moves_4 : decode cX5_moves 4 = .ok (.iaload, 1) := dk_46 (dk_at dksX5_moves_0 4 rfl rfl)
theorem dX5_moves_5 : decode cX5_moves 5 = .ok (.iload_n 1, 1) := dk_27 (dk_at dksX5_moves_0 5 rfl rfl)
theorem dX5_moves_6 : decode cX5_moves 6 = .ok (.iadd, 1) := dk_96 (dk_at dksX5_moves_0 6 rfl rfl)
theorem dX5_moves_7 : decode cX5_moves 7 = .ok (.istore_n 2, 1) := dk_61 (dk_at dksX5_moves_0 7 rfl rfl)
theorem dX5_moves_8 : decode cX5_moves 8 = .ok (.aload_n 0, 1) := dk_42 (dk_at dksX5_moves_0 8 rfl rfl)
theorem dX5_moves_9 : decode cX5_moves 9 = .ok (.sipush 181, 3) := dk_17 0 181 (dk_at dksX5_moves_0 9 rfl rfl)
theorem dX5_moves_12 : decode cX5_moves 12 = .ok (.iload_n 2, 1) := dk_28 (dk_at dksX5_moves_0 12 rfl rfl)
theorem dX5_moves_13 : decode cX5_moves 13 = .ok (.ifCond .ge 7, 3) := dk_156 0 7 (dk_at dksX5_moves_0 13 rfl rfl)
theorem dX5_moves_16 : decode cX5_moves 16 = .ok (.iconst 0, 1) := dk_3 (dk_at dksX5_moves_0 16 rfl rfl)
theorem dX5_moves_17 : decode cX5_moves 17 = .ok (.goto 21, 3) := dk_167 0 21 (dk_at dksX5_moves_0 17 rfl rfl)
theorem dX5_moves_20 : decode cX5_moves 20 = .ok (.iload_n 2, 1) := dk_28 (dk_at dksX5_moves_0 20 rfl rfl)
theorem dX5_moves_21 : decode cX5_moves 21 = .ok (.aload_n 0, 1) := dk_42 (dk_at dksX5_moves_0 21 rfl rfl)
theorem dX5_moves_22 : decode cX5_moves 22 = .ok (.sipush 180, 3) := dk_17 0 180 (dk_at dksX5_moves_1 0 rfl rfl)
theorem dX5_moves_25 : decode cX5_moves 25 = .ok (.iaload, 1) := dk_46 (dk_at dksX5_moves_1 3 rfl rfl)
theorem dX5_moves_26 : decode cX5_moves 26 = .ok (.if_icmp .le 11, 3) := dk_164 0 11 (dk_at dksX5_moves_1 4 rfl rfl)
theorem dX5_moves_29 : decode cX5_moves 29 = .ok (.aload_n 0, 1) := dk_42 (dk_at dksX5_moves_1 7 rfl rfl)
theorem dX5_moves_30 : decode cX5_moves 30 = .ok (.sipush 180, 3) := dk_17 0 180 (dk_at dksX5_moves_1 8 rfl rfl)
theorem dX5_moves_33 : decode cX5_moves 33 = .ok (.iaload, 1) := dk_46 (dk_at dksX5_moves_1 11 rfl rfl)
theorem dX5_moves_34 : decode cX5_moves 34 = .ok (.goto 4, 3) := dk_167 0 4 (dk_at dksX5_moves_1 12 rfl rfl)
theorem dX5_moves_37 : decode cX5_moves 37 = .ok (.iload_n 2, 1) := dk_28 (dk_at dksX5_moves_1 15 rfl rfl)
theorem dX5_moves_38 : decode cX5_moves 38 = .ok (.iastore, 1) := dk_79 (dk_at dksX5_moves_1 16 rfl rfl)
theorem dX5_moves_39 : decode cX5_moves 39 = .ok (.aload_n 0, 1) := dk_42 (dk_at dksX5_moves_1 17 rfl rfl)
theorem dX5_moves_40 : decode cX5_moves 40 = .ok (.sipush 182, 3) := dk_17 0 182 (dk_at dksX5_moves_1 18 rfl rfl)
theorem dX5_moves_43 : decode cX5_moves 43 = .ok (.bipush (-9), 2) := dk_16 247 (dk_at dksX5_moves_1 21 rfl rfl)
theorem dX5_moves_45 : decode cX5_moves 45 = .ok (.iastore, 1) := dk_79 (dk_at dksX5_moves_1 23 rfl rfl)
theorem dX5_moves_46 : decode cX5_moves 46 = .ok (.return_, 1) := dk_177 (dk_at dksX5_moves_2 0 rfl rfl)
abbrev cX5_moveVertically : ByteArray := prog_15_method_53_code
def yX5_moveVertically : MethodName := ⟨RX5, "moveVertically", "(Z)I"⟩
def dkwX5_moveVertically_13 : List UInt8 := [16, 247, 172]
abbrev dktX5_moveVertically_13 : List UInt8 := dkwX5_moveVertically_13 ++ []
def dkwX5_moveVertically_12 : List UInt8 := [167, 0, 5, 16, 254, 160, 0, 18, 42, 42, 180, 0, 13, 28, 184, 0, 142, 4, 96, 182, 0, 218, 172]
abbrev dktX5_moveVertically_12 : List UInt8 := dkwX5_moveVertically_12 ++ dktX5_moveVertically_13
def dkwX5_moveVertically_11 : List UInt8 := [54, 4, 21, 4, 158, 0, 41, 42, 180, 0, 13, 21, 4, 4, 100, 46, 27, 153, 0, 8, 16, 253]
abbrev dktX5_moveVertically_11 : List UInt8 := dkwX5_moveVertically_11 ++ dktX5_moveVertically_12
def dkwX5_moveVertically_10 : List UInt8 := [167, 0, 5, 16, 253, 160, 0, 11, 42, 28, 4, 96, 182, 0, 218, 172, 42, 180, 0, 13, 28, 184, 0, 136]
abbrev dktX5_moveVertically_10 : List UInt8 := dkwX5_moveVertically_10 ++ dktX5_moveVertically_11
def dkwX5_moveVertically_9 : List UInt8 := [180, 0, 13, 17, 0, 180, 46, 162, 0, 31, 42, 180, 0, 13, 28, 46, 27, 153, 0, 8, 16, 254]
abbrev dktX5_moveVertically_9 : List UInt8 := dkwX5_moveVertically_9 ++ dktX5_moveVertically_10
def dkwX5_moveVertically_8 : List UInt8 := [21, 8, 182, 0, 218, 172, 21, 6, 62, 42, 180, 0, 13, 29, 184, 0, 136, 54, 4, 167, 255, 79, 28, 42]
abbrev dktX5_moveVertically_8 : List UInt8 := dkwX5_moveVertically_8 ++ dktX5_moveVertically_9
def dkwX5_moveVertically_7 : List UInt8 := [21, 9, 162, 0, 20, 42, 180, 0, 13, 21, 8, 184, 0, 107, 54, 8, 132, 10, 1, 167, 255, 228, 42]
abbrev dktX5_moveVertically_7 : List UInt8 := dkwX5_moveVertically_7 ++ dktX5_moveVertically_8
def dkwX5_moveVertically_6 : List UInt8 := [42, 180, 0, 13, 21, 8, 184, 0, 142, 54, 9, 3, 54, 10, 21, 10, 21, 7, 162, 0, 27, 21, 8]
abbrev dktX5_moveVertically_6 : List UInt8 := dkwX5_moveVertically_6 ++ dktX5_moveVertically_7
def dkwX5_moveVertically_5 : List UInt8 := [27, 153, 0, 10, 21, 6, 4, 96, 167, 0, 14, 42, 180, 0, 13, 21, 4, 184, 0, 142, 4, 96, 54, 8]
abbrev dktX5_moveVertically_5 : List UInt8 := dkwX5_moveVertically_5 ++ dktX5_moveVertically_6
def dkwX5_moveVertically_4 : List UInt8 := [180, 0, 13, 21, 4, 4, 100, 46, 2, 160, 0, 91, 42, 180, 0, 13, 21, 4, 29, 184, 0, 188, 54, 7]
abbrev dktX5_moveVertically_4 : List UInt8 := dkwX5_moveVertically_4 ++ dktX5_moveVertically_5
def dkwX5_moveVertically_3 : List UInt8 := [167, 0, 7, 21, 4, 4, 100, 54, 6, 27, 153, 0, 11, 21, 5, 153, 0, 107, 167, 0, 16, 42]
abbrev dktX5_moveVertically_3 : List UInt8 := dkwX5_moveVertically_3 ++ dktX5_moveVertically_4
def dkwX5_moveVertically_2 : List UInt8 := [167, 0, 4, 3, 54, 5, 21, 5, 153, 0, 17, 42, 180, 0, 13, 21, 4, 4, 100, 184, 0, 100]
abbrev dktX5_moveVertically_2 : List UInt8 := dkwX5_moveVertically_2 ++ dktX5_moveVertically_3
def dkwX5_moveVertically_1 : List UInt8 := [54, 4, 21, 4, 158, 0, 178, 42, 180, 0, 13, 21, 4, 4, 100, 46, 16, 246, 160, 0, 7, 4]
abbrev dktX5_moveVertically_1 : List UInt8 := dkwX5_moveVertically_1 ++ dktX5_moveVertically_2
def dkwX5_moveVertically_0 : List UInt8 := [42, 3, 181, 0, 71, 42, 180, 0, 13, 17, 0, 181, 46, 61, 28, 62, 42, 180, 0, 13, 29, 184, 0, 136]
abbrev dktX5_moveVertically_0 : List UInt8 := dkwX5_moveVertically_0 ++ dktX5_moveVertically_1
theorem dksX5_moveVertically_0 : cX5_moveVertically.data.toList.drop 0 = dktX5_moveVertically_0 := by decide +kernel
theorem dksX5_moveVertically_1 : cX5_moveVertically.data.toList.drop 24 = dktX5_moveVertically_1 := dk_seg dksX5_moveVertically_0 24 rfl rfl
theorem dksX5_moveVertically_2 : cX5_moveVertically.data.toList.drop 46 = dktX5_moveVertically_2 := dk_seg dksX5_moveVertically_1 22 rfl rfl
theorem dksX5_moveVertically_3 : cX5_moveVertically.data.toList.drop 68 = dktX5_moveVertically_3 := dk_seg dksX5_moveVertically_2 22 rfl rfl
theorem dksX5_moveVertically_4 : cX5_moveVertically.data.toList.drop 90 = dktX5_moveVertically_4 := dk_seg dksX5_moveVertically_3 22 rfl rfl
theorem dksX5_moveVertically_5 : cX5_moveVertically.data.toList.drop 114 = dktX5_moveVertically_5 := dk_seg dksX5_moveVertically_4 24 rfl rfl
theorem dksX5_moveVertically_6 : cX5_moveVertically.data.toList.drop 138 = dktX5_moveVertically_6 := dk_seg dksX5_moveVertically_5 24 rfl rfl
theorem dksX5_moveVertically_7 : cX5_moveVertically.data.toList.drop 161 = dktX5_moveVertically_7 := dk_seg dksX5_moveVertically_6 23 rfl rfl
theorem dksX5_moveVertically_8 : cX5_moveVertically.data.toList.drop 184 = dktX5_moveVertically_8 := dk_seg dksX5_moveVertically_7 23 rfl rfl
theorem dksX5_moveVertically_9 : cX5_moveVertically.data.toList.drop 208 = dktX5_moveVertically_9 := dk_seg dksX5_moveVertically_8 24 rfl rfl
theorem dksX5_moveVertically_10 : cX5_moveVertically.data.toList.drop 230 = dktX5_moveVertically_10 := dk_seg dksX5_moveVertically_9 22 rfl rfl
theorem dksX5_moveVertically_11 : cX5_moveVertically.data.toList.drop 254 = dktX5_moveVertically_11 := dk_seg dksX5_moveVertically_10 24 rfl rfl
theorem dksX5_moveVertically_12 : cX5_moveVertically.data.toList.drop 276 = dktX5_moveVertically_12 := dk_seg dksX5_moveVertically_11 22 rfl rfl
theorem dksX5_moveVertically_13 : cX5_moveVertically.data.toList.drop 299 = dktX5_moveVertically_13 := dk_seg dksX5_moveVertically_12 23 rfl rfl
theorem dX5_moveVertically_0 : decode cX5_moveVertically 0 = .ok (.aload_n 0, 1) := dk_42 (dk_at dksX5_moveVertically_0 0 rfl rfl)
theorem dX5_moveVertically_1 : decode cX5_moveVertically 1 = .ok (.iconst 0, 1) := dk_3 (dk_at dksX5_moveVertically_0 1 rfl rfl)
theorem dX5_moveVertically_2 : decode cX5_moveVertically 2 = .ok (.putfield 71, 3) := dk_181 0 71 (dk_at dksX5_moveVertically_0 2 rfl rfl)
theorem dX5_moveVertically_5 : decode cX5_moveVertically 5 = .ok (.aload_n 0, 1) := dk_42 (dk_at dksX5_moveVertically_0 5 rfl rfl)
theorem dX5_moveVertically_6 : decode cX5_moveVertically 6 = .ok (.getfield 13, 3) := dk_180 0 13 (dk_at dksX5_moveVertically_0 6 rfl rfl)
theorem dX5_moveVertically_9 : decode cX5_moveVertically 9 = .ok (.sipush 181, 3) := dk_17 0 181 (dk_at dksX5_moveVertically_0 9 rfl rfl)
theorem dX5_moveVertically_12 : decode cX5_moveVertically 12 = .ok (.iaload, 1) := dk_46 (dk_at dksX5_moveVertically_0 12 rfl rfl)
theorem dX5_moveVertically_13 : decode cX5_moveVertically 13 = .ok (.istore_n 2, 1) := dk_61 (dk_at dksX5_moveVertically_0 13 rfl rfl)
theorem dX5_moveVertically_14 : decode cX5_moveVertically 14 = .ok (.iload_n 2, 1) := dk_28 (dk_at dksX5_moveVertically_0 14 rfl rfl)
theorem dX5_moveVertically_15 : decode cX5_moveVertically 15 = .ok (.istore_n 3, 1) := dk_62 (dk_at dksX5_moveVertically_0 15 rfl rfl)
theorem dX5_moveVertically_16 : decode cX5_moveVertically 16 = .ok (.aload_n 0, 1) := dk_42 (dk_at dksX5_moveVertically_0 16 rfl rfl)
theorem dX5_moveVertically_17 : decode cX5_moveVertically 17 = .ok (.getfield 13, 3) := dk_180 0 13 (dk_at dksX5_moveVertically_0 17 rfl rfl)
theorem dX5_moveVertically_20 : decode cX5_moveVertically 20 = .ok (.iload_n 3, 1) := dk_29 (dk_at dksX5_moveVertically_0 20 rfl rfl)
theorem dX5_moveVertically_21 : decode cX5_moveVertically 21 = .ok (.invokestatic 136, 3) := dk_184 0 136 (dk_at dksX5_moveVertically_0 21 rfl rfl)
theorem dX5_moveVertically_24 : decode cX5_moveVertically 24 = .ok (.istore 4, 2) := dk_54 4 (dk_at dksX5_moveVertically_1 0 rfl rfl)
theorem dX5_moveVertically_26 : decode cX5_moveVertically 26 = .ok (.iload 4, 2) := dk_21 4 (dk_at dksX5_moveVertically_1 2 rfl rfl)
theorem dX5_moveVertically_28 : decode cX5_moveVertically 28 = .ok (.ifCond .le 178, 3) := dk_158 0 178 (dk_at dksX5_moveVertically_1 4 rfl rfl)
theorem dX5_moveVertically_31 : decode cX5_moveVertically 31 = .ok (.aload_n 0, 1) := dk_42 (dk_at dksX5_moveVertically_1 7 rfl rfl)
theorem dX5_moveVertically_32 : decode cX5_moveVertically 32 = .ok (.getfield 13, 3) := dk_180 0 13 (dk_at dksX5_moveVertically_1 8 rfl rfl)
theorem dX5_moveVertically_35 : decode cX5_moveVertically 35 = .ok (.iload 4, 2) := dk_21 4 (dk_at dksX5_moveVertically_1 11 rfl rfl)
theorem dX5_moveVertically_37 : decode cX5_moveVertically 37 = .ok (.iconst 1, 1) := dk_4 (dk_at dksX5_moveVertically_1 13 rfl rfl)
theorem dX5_moveVertically_38 : decode cX5_moveVertically 38 = .ok (.isub, 1) := dk_100 (dk_at dksX5_moveVertically_1 14 rfl rfl)
theorem dX5_moveVertically_39 : decode cX5_moveVertically 39 = .ok (.iaload, 1) := dk_46 (dk_at dksX5_moveVertically_1 15 rfl rfl)
theorem dX5_moveVertically_40 : decode cX5_moveVertically 40 = .ok (.bipush (-10), 2) := dk_16 246 (dk_at dksX5_moveVertically_1 16 rfl rfl)
theorem dX5_moveVertically_42 : decode cX5_moveVertically 42 = .ok (.if_icmp .ne 7, 3) := dk_160 0 7 (dk_at dksX5_moveVertically_1 18 rfl rfl)
theorem dX5_moveVertically_45 : decode cX5_moveVertically 45 = .ok (.iconst 1, 1) := dk_4 (dk_at dksX5_moveVertically_1 21 rfl rfl)
theorem dX5_moveVertically_46 : decode cX5_moveVertically 46 = .ok (.goto 4, 3) := dk_167 0 4 (dk_at dksX5_moveVertically_2 0 rfl rfl)
theorem dX5_moveVertically_49 : decode cX5_moveVertically 49 = .ok (.iconst 0, 1) := dk_3 (dk_at dksX5_moveVertically_2 3 rfl rfl)
theorem dX5_moveVertically_50 : decode cX5_moveVertically 50 = .ok (.istore 5, 2) := dk_54 5 (dk_at dksX5_moveVertically_2 4 rfl rfl)
theorem dX5_moveVertically_52 : decode cX5_moveVertically 52 = .ok (.iload 5, 2) := dk_21 5 (dk_at dksX5_moveVertically_2 6 rfl rfl)
theorem dX5_moveVertically_54 : decode cX5_moveVertically 54 = .ok (.ifCond .eq 17, 3) := dk_153 0 17 (dk_at dksX5_moveVertically_2 8 rfl rfl)
theorem dX5_moveVertically_57 : decode cX5_moveVertically 57 = .ok (.aload_n 0, 1) := dk_42 (dk_at dksX5_moveVertically_2 11 rfl rfl)
theorem dX5_moveVertically_58 : decode cX5_moveVertically 58 = .ok (.getfield 13, 3) := dk_180 0 13 (dk_at dksX5_moveVertically_2 12 rfl rfl)
theorem dX5_moveVertically_61 : decode cX5_moveVertically 61 = .ok (.iload 4, 2) := dk_21 4 (dk_at dksX5_moveVertically_2 15 rfl rfl)
theorem dX5_moveVertically_63 : decode cX5_moveVertically 63 = .ok (.iconst 1, 1) := dk_4 (dk_at dksX5_moveVertically_2 17 rfl rfl)
theorem dX5_moveVertically_64 : decode cX5_moveVertically 64 = .ok (.isub, 1) := dk_100 (dk_at dksX5_moveVertically_2 18 rfl rfl)
theorem dX5_moveVertically_65 : decode cX5_moveVertically 65 = .ok (.invokestatic 100, 3) := dk_184 0 100 (dk_at dksX5_moveVertically_2 19 rfl rfl)
theorem dX5_moveVertically_68 : decode cX5_moveVertically 68 = .ok (.goto 7, 3) := dk_167 0 7 (dk_at dksX5_moveVertically_3 0 rfl rfl)
theorem dX5_moveVertically_71 : decode cX5_moveVertically 71 = .ok (.iload 4, 2) := dk_21 4 (dk_at dksX5_moveVertically_3 3 rfl rfl)
theorem dX5_moveVertically_73 : decode cX5_moveVertically 73 = .ok (.iconst 1, 1) := dk_4 (dk_at dksX5_moveVertically_3 5 rfl rfl)
theorem dX5_moveVertically_74 : decode cX5_moveVertically 74 = .ok (.isub, 1) := dk_100 (dk_at dksX5_moveVertically_3 6 rfl rfl)
theorem dX5_moveVertically_75 : decode cX5_moveVertically 75 = .ok (.istore 6, 2) := dk_54 6 (dk_at dksX5_moveVertically_3 7 rfl rfl)
theorem dX5_moveVertically_77 : decode cX5_moveVertically 77 = .ok (.iload_n 1, 1) := dk_27 (dk_at dksX5_moveVertically_3 9 rfl rfl)
theorem dX5_moveVertically_78 : decode cX5_moveVertically 78 = .ok (.ifCond .eq 11, 3) := dk_153 0 11 (dk_at dksX5_moveVertically_3 10 rfl rfl)
theorem dX5_moveVertically_81 : decode cX5_moveVertically 81 = .ok (.iload 5, 2) := dk_21 5 (dk_at dksX5_moveVertically_3 13 rfl rfl)
theorem dX5_moveVertically_83 : decode cX5_moveVertically 83 = .ok (.ifCond .eq 107, 3) := dk_153 0 107 (dk_at dksX5_moveVertically_3 15 rfl rfl)
theorem dX5_moveVertically_86 : decode cX5_moveVertically 86 = .ok (.goto 16, 3) := dk_167 0 16 (dk_at dksX5_moveVertically_3 18 rfl rfl)
theorem dX5_moveVertically_89 : decode cX5_moveVertically 89 = .ok (.aload_n 0, 1) := dk_42 (dk_at dksX5_moveVertically_3 21 rfl rfl)
theorem dX5_moveVertically_90 : decode cX5_moveVertically 90 = .ok (.getfield 13, 3) := dk_180 0 13 (dk_at dksX5_moveVertically_4 0 rfl rfl)
theorem dX5_moveVertically_93 : decode cX5_moveVertically 93 = .ok (.iload 4, 2) := dk_21 4 (dk_at dksX5_moveVertically_4 3 rfl rfl)
theorem dX5_moveVertically_95 : decode cX5_moveVertically 95 = .ok (.iconst 1, 1) := dk_4 (dk_at dksX5_moveVertically_4 5 rfl rfl)
theorem dX5_moveVertically_96 : decode cX5_moveVertically 96 = .ok (.isub, 1) := dk_100 (dk_at dksX5_moveVertically_4 6 rfl rfl)
theorem dX5_moveVertically_97 : decode cX5_moveVertically 97 = .ok (.iaload, 1) := dk_46 (dk_at dksX5_moveVertically_4 7 rfl rfl)
theorem dX5_moveVertically_98 : decode cX5_moveVertically 98 = .ok (.iconst (-1), 1) := dk_2 (dk_at dksX5_moveVertically_4 8 rfl rfl)
theorem dX5_moveVertically_99 : decode cX5_moveVertically 99 = .ok (.if_icmp .ne 91, 3) := dk_160 0 91 (dk_at dksX5_moveVertically_4 9 rfl rfl)
theorem dX5_moveVertically_102 : decode cX5_moveVertically 102 = .ok (.aload_n 0, 1) := dk_42 (dk_at dksX5_moveVertically_4 12 rfl rfl)
theorem dX5_moveVertically_103 : decode cX5_moveVertically 103 = .ok (.getfield 13, 3) := dk_180 0 13 (dk_at dksX5_moveVertically_4 13 rfl rfl)
theorem dX5_moveVertically_106 : decode cX5_moveVertically 106 = .ok (.iload 4, 2) := dk_21 4 (dk_at dksX5_moveVertically_4 16 rfl rfl)
theorem dX5_moveVertically_108 : decode cX5_moveVertically 108 = .ok (.iload_n 3, 1) := dk_29 (dk_at dksX5_moveVertically_4 18 rfl rfl)
theorem dX5_moveVertically_109 : decode cX5_moveVertically 109 = .ok (.invokestatic 188, 3) := dk_184 0 188 (dk_at dksX5_moveVertically_4 19 rfl rfl)
theorem dX5_moveVertically_112 : decode cX5_moveVertically 112 = .ok (.istore 7, 2) := dk_54 7 (dk_at dksX5_moveVertically_4 22 rfl rfl)
theorem dX5_moveVertically_114 : decode cX5_moveVertically 114 = .ok (.iload_n 1, 1) := dk_27 (dk_at dksX5_moveVertically_5 0 rfl rfl)
theorem dX5_moveVertically_115 : decode cX5_moveVertically 115 = .ok (.ifCond .eq 10, 3) := dk_153 0 10 (dk_at dksX5_moveVertically_5 1 rfl rfl)
theorem dX5_moveVertically_118 : decode cX5_moveVertically 118 = .ok (.iload 6, 2) := dk_21 6 (dk_at dksX5_moveVertically_5 4 rfl rfl)
theorem dX5_moveVertically_120 : decode cX5_moveVertically 120 = .ok (.iconst 1, 1) := dk_4 (dk_at dksX5_moveVertically_5 6 rfl rfl)
theorem dX5_moveVertically_121 : decode cX5_moveVertically 121 = .ok (.iadd, 1) := dk_96 (dk_at dksX5_moveVertically_5 7 rfl rfl)
theorem dX5_moveVertically_122 : decode cX5_moveVertically 122 = .ok (.goto 14, 3) := dk_167 0 14 (dk_at dksX5_moveVertically_5 8 rfl rfl)
theorem dX5_moveVertically_125 : decode cX5_moveVertically 125 = .ok (.aload_n 0, 1) := dk_42 (dk_at dksX5_moveVertically_5 11 rfl rfl)
theorem dX5_moveVertically_126 : decode cX5_moveVertically 126 = .ok (.getfield 13, 3) := dk_180 0 13 (dk_at dksX5_moveVertically_5 12 rfl rfl)
theorem dX5_moveVertically_129 : decode cX5_moveVertically 129 = .ok (.iload 4, 2) := dk_21 4 (dk_at dksX5_moveVertically_5 15 rfl rfl)
theorem dX5_moveVertically_131 : decode cX5_moveVertically 131 = .ok (.invokestatic 142, 3) := dk_184 0 142 (dk_at dksX5_moveVertically_5 17 rfl rfl)
theorem dX5_moveVertically_134 : decode cX5_moveVertically 134 = .ok (.iconst 1, 1) := dk_4 (dk_at dksX5_moveVertically_5 20 rfl rfl)
theorem dX5_moveVertically_135 : decode cX5_moveVertically 135 = .ok (.iadd, 1) := dk_96 (dk_at dksX5_moveVertically_5 21 rfl rfl)
theorem dX5_moveVertically_136 : decode cX5_moveVertically 136 = .ok (.istore 8, 2) := dk_54 8 (dk_at dksX5_moveVertically_5 22 rfl rfl)
theorem dX5_moveVertically_138 : decode cX5_moveVertically 138 = .ok (.aload_n 0, 1) := dk_42 (dk_at dksX5_moveVertically_6 0 rfl rfl)
theorem dX5_moveVertically_139 : decode cX5_moveVertically 139 = .ok (.getfield 13, 3) := dk_180 0 13 (dk_at dksX5_moveVertically_6 1 rfl rfl)
theorem dX5_moveVertically_142 : decode cX5_moveVertically 142 = .ok (.iload 8, 2) := dk_21 8 (dk_at dksX5_moveVertically_6 4 rfl rfl)
theorem dX5_moveVertically_144 : decode cX5_moveVertically 144 = .ok (.invokestatic 142, 3) := dk_184 0 142 (dk_at dksX5_moveVertically_6 6 rfl rfl)
theorem dX5_moveVertically_147 : decode cX5_moveVertically 147 = .ok (.istore 9, 2) := dk_54 9 (dk_at dksX5_moveVertically_6 9 rfl rfl)
theorem dX5_moveVertically_149 : decode cX5_moveVertically 149 = .ok (.iconst 0, 1) := dk_3 (dk_at dksX5_moveVertically_6 11 rfl rfl)
theorem dX5_moveVertically_150 : decode cX5_moveVertically 150 = .ok (.istore 10, 2) := dk_54 10 (dk_at dksX5_moveVertically_6 12 rfl rfl)
theorem dX5_moveVertically_152 : decode cX5_moveVertically 152 = .ok (.iload 10, 2) := dk_21 10 (dk_at dksX5_moveVertically_6 14 rfl rfl)
theorem dX5_moveVertically_154 : decode cX5_moveVertically 154 = .ok (.iload 7, 2) := dk_21 7 (dk_at dksX5_moveVertically_6 16 rfl rfl)
theorem dX5_moveVertically_156 : decode cX5_moveVertically 156 = .ok (.if_icmp .ge 27, 3) := dk_162 0 27 (dk_at dksX5_moveVertically_6 18 rfl rfl)
theorem dX5_moveVertically_159 : decode cX5_moveVertically 159 = .ok (.iload 8, 2) := dk_21 8 (dk_at dksX5_moveVertically_6 21 rfl rfl)
theorem dX5_moveVertically_161 : decode cX5_moveVertically 161 = .ok (.iload 9, 2) := dk_21 9 (dk_at dksX5_moveVertically_7 0 rfl rfl)
theorem dX5_moveVertically_163 : decode cX5_moveVertically 163 = .ok (.if_icmp .ge 20, 3) := dk_162 0 20 (dk_at dksX5_moveVertically_7 2 rfl rfl)
theorem dX5_moveVertically_166 : decode cX5_moveVertically 166 = .ok (.aload_n 0, 1) := dk_42 (dk_at dksX5_moveVertically_7 5 rfl rfl)
theorem dX5_moveVertically_167 : decode cX5_moveVertically 167 = .ok (.getfield 13, 3) := dk_180 0 13 (dk_at dksX5_moveVertically_7 6 rfl rfl)
theorem dX5_moveVertically_170 : decode cX5_moveVertically 170 = .ok (.iload 8, 2) := dk_21 8 (dk_at dksX5_moveVertically_7 9 rfl rfl)
theorem dX5_moveVertically_172 : decode cX5_moveVertically 172 = .ok (.invokestatic 107, 3) := dk_184 0 107 (dk_at dksX5_moveVertically_7 11 rfl rfl)
theorem dX5_moveVertically_175 : decode cX5_moveVertically 175 = .ok (.istore 8, 2) := dk_54 8 (dk_at dksX5_moveVertically_7 14 rfl rfl)
theorem dX5_moveVertically_177 : decode cX5_moveVertically 177 = .ok (.iinc 10 1, 3) := dk_132 10 1 (dk_at dksX5_moveVertically_7 16 rfl rfl)
theorem dX5_moveVertically_180 : decode cX5_moveVertically 180 = .ok (.goto (-28), 3) := dk_167 255 228 (dk_at dksX5_moveVertically_7 19 rfl rfl)
theorem dX5_moveVertically_183 : decode cX5_moveVertically 183 = .ok (.aload_n 0, 1) := dk_42 (dk_at dksX5_moveVertically_7 22 rfl rfl)
theorem dX5_moveVertically_184 : decode cX5_moveVertically 184 = .ok (.iload 8, 2) := dk_21 8 (dk_at dksX5_moveVertically_8 0 rfl rfl)
theorem dX5_moveVertically_186 : decode cX5_moveVertically 186 = .ok (.invokevirtual 218, 3) := dk_182 0 218 (dk_at dksX5_moveVertically_8 2 rfl rfl)
theorem dX5_moveVertically_189 : decode cX5_moveVertically 189 = .ok (.ireturn, 1) := dk_172 (dk_at dksX5_moveVertically_8 5 rfl rfl)
theorem dX5_moveVertically_190 : decode cX5_moveVertically 190 = .ok (.iload 6, 2) := dk_21 6 (dk_at dksX5_moveVertically_8 6 rfl rfl)
theorem dX5_moveVertically_192 : decode cX5_moveVertically 192 = .ok (.istore_n 3, 1) := dk_62 (dk_at dksX5_moveVertically_8 8 rfl rfl)
theorem dX5_moveVertically_193 : decode cX5_moveVertically 193 = .ok (.aload_n 0, 1) := dk_42 (dk_at dksX5_moveVertically_8 9 rfl rfl)
theorem dX5_moveVertically_194 : decode cX5_moveVertically 194 = .ok (.getfield 13, 3) := dk_180 0 13 (dk_at dksX5_moveVertically_8 10 rfl rfl)
theorem dX5_moveVertically_197 : decode cX5_moveVertically 197 = .ok (.iload_n 3, 1) := dk_29 (dk_at dksX5_moveVertically_8 13 rfl rfl)
theorem dX5_moveVertically_198 : decode cX5_moveVertically 198 = .ok (.invokestatic 136, 3) := dk_184 0 136 (dk_at dksX5_moveVertically_8 14 rfl rfl)
theorem dX5_moveVertically_201 : decode cX5_moveVertically 201 = .ok (.istore 4, 2) := dk_54 4 (dk_at dksX5_moveVertically_8 17 rfl rfl)
theorem dX5_moveVertically_203 : decode cX5_moveVertically 203 = .ok (.goto (-177), 3) := dk_167 255 79 (dk_at dksX5_moveVertically_8 19 rfl rfl)
theorem dX5_moveVertically_206 : decode cX5_moveVertically 206 = .ok (.iload_n 2, 1) := dk_28 (dk_at dksX5_moveVertically_8 22 rfl rfl)
theorem dX5_moveVertically_207 : decode cX5_moveVertically 207 = .ok (.aload_n 0, 1) := dk_42 (dk_at dksX5_moveVertically_8 23 rfl rfl)
theorem dX5_moveVertically_208 : decode cX5_moveVertically 208 = .ok (.getfield 13, 3) := dk_180 0 13 (dk_at dksX5_moveVertically_9 0 rfl rfl)
theorem dX5_moveVertically_211 : decode cX5_moveVertically 211 = .ok (.sipush 180, 3) := dk_17 0 180 (dk_at dksX5_moveVertically_9 3 rfl rfl)
theorem dX5_moveVertically_214 : decode cX5_moveVertically 214 = .ok (.iaload, 1) := dk_46 (dk_at dksX5_moveVertically_9 6 rfl rfl)
theorem dX5_moveVertically_215 : decode cX5_moveVertically 215 = .ok (.if_icmp .ge 31, 3) := dk_162 0 31 (dk_at dksX5_moveVertically_9 7 rfl rfl)
theorem dX5_moveVertically_218 : decode cX5_moveVertically 218 = .ok (.aload_n 0, 1) := dk_42 (dk_at dksX5_moveVertically_9 10 rfl rfl)
theorem dX5_moveVertically_219 : decode cX5_moveVertically 219 = .ok (.getfield 13, 3) := dk_180 0 13 (dk_at dksX5_moveVertically_9 11 rfl rfl)
theorem dX5_moveVertically_222 : decode cX5_moveVertically 222 = .ok (.iload_n 2, 1) := dk_28 (dk_at dksX5_moveVertically_9 14 rfl rfl)
theorem dX5_moveVertically_223 : decode cX5_moveVertically 223 = .ok (.iaload, 1) := dk_46 (dk_at dksX5_moveVertically_9 15 rfl rfl)
theorem dX5_moveVertically_224 : decode cX5_moveVertically 224 = .ok (.iload_n 1, 1) := dk_27 (dk_at dksX5_moveVertically_9 16 rfl rfl)
theorem dX5_moveVertically_225 : decode cX5_moveVertically 225 = .ok (.ifCond .eq 8, 3) := dk_153 0 8 (dk_at dksX5_moveVertically_9 17 rfl rfl)
theorem dX5_moveVertically_228 : decode cX5_moveVertically 228 = .ok (.bipush (-2), 2) := dk_16 254 (dk_at dksX5_moveVertically_9 20 rfl rfl)
theorem dX5_moveVertically_230 : decode cX5_moveVertically 230 = .ok (.goto 5, 3) := dk_167 0 5 (dk_at dksX5_moveVertically_10 0 rfl rfl)
theorem dX5_moveVertically_233 : decode cX5_moveVertically 233 = .ok (.bipush (-3), 2) := dk_16 253 (dk_at dksX5_moveVertically_10 3 rfl rfl)
theorem dX5_moveVertically_235 : decode cX5_moveVertically 235 = .ok (.if_icmp .ne 11, 3) := dk_160 0 11 (dk_at dksX5_moveVertically_10 5 rfl rfl)
theorem dX5_moveVertically_238 : decode cX5_moveVertically 238 = .ok (.aload_n 0, 1) := dk_42 (dk_at dksX5_moveVertically_10 8 rfl rfl)
theorem dX5_moveVertically_239 : decode cX5_moveVertically 239 = .ok (.iload_n 2, 1) := dk_28 (dk_at dksX5_moveVertically_10 9 rfl rfl)
theorem dX5_moveVertically_240 : decode cX5_moveVertically 240 = .ok (.iconst 1, 1) := dk_4 (dk_at dksX5_moveVertically_10 10 rfl rfl)
theorem dX5_moveVertically_241 : decode cX5_moveVertically 241 = .ok (.iadd, 1) := dk_96 (dk_at dksX5_moveVertically_10 11 rfl rfl)
theorem dX5_moveVertically_242 : decode cX5_moveVertically 242 = .ok (.invokevirtual 218, 3) := dk_182 0 218 (dk_at dksX5_moveVertically_10 12 rfl rfl)
theorem dX5_moveVertically_245 : decode cX5_moveVertically 245 = .ok (.ireturn, 1) := dk_172 (dk_at dksX5_moveVertically_10 15 rfl rfl)
theorem dX5_moveVertically_246 : decode cX5_moveVertically 246 = .ok (.aload_n 0, 1) := dk_42 (dk_at dksX5_moveVertically_10 16 rfl rfl)
theorem dX5_moveVertically_247 : decode cX5_moveVertically 247 = .ok (.getfield 13, 3) := dk_180 0 13 (dk_at dksX5_moveVertically_10 17 rfl rfl)
theorem dX5_moveVertically_250 : decode cX5_moveVertically 250 = .ok (.iload_n 2, 1) := dk_28 (dk_at dksX5_moveVertically_10 20 rfl rfl)
theorem dX5_moveVertically_251 : decode cX5_moveVertically 251 = .ok (.invokestatic 136, 3) := dk_184 0 136 (dk_at dksX5_moveVertically_10 21 rfl rfl)
theorem dX5_moveVertically_254 : decode cX5_moveVertically 254 = .ok (.istore 4, 2) := dk_54 4 (dk_at dksX5_moveVertically_11 0 rfl rfl)
theorem dX5_moveVertically_256 : decode cX5_moveVertically 256 = .ok (.iload 4, 2) := dk_21 4 (dk_at dksX5_moveVertically_11 2 rfl rfl)
theorem dX5_moveVertically_258 : decode cX5_moveVertically 258 = .ok (.ifCond .le 41, 3) := dk_158 0 41 (dk_at dksX5_moveVertically_11 4 rfl rfl)
theorem dX5_moveVertically_261 : decode cX5_moveVertically 261 = .ok (.aload_n 0, 1) := dk_42 (dk_at dksX5_moveVertically_11 7 rfl rfl)
theorem dX5_moveVertically_262 : decode cX5_moveVertically 262 = .ok (.getfield 13, 3) := dk_180 0 13 (dk_at dksX5_moveVertically_11 8 rfl rfl)
theorem dX5_moveVertically_265 : decode cX5_moveVertically 265 = .ok (.iload 4, 2) := dk_21 4 (dk_at dksX5_moveVertically_11 11 rfl rfl)
theorem dX5_moveVertically_267 : decode cX5_moveVertically 267 = .ok (.iconst 1, 1) := dk_4 (dk_at dksX5_moveVertically_11 13 rfl rfl)
theorem dX5_moveVertically_268 : decode cX5_moveVertically 268 = .ok (.isub, 1) := dk_100 (dk_at dksX5_moveVertically_11 14 rfl rfl)
theorem dX5_moveVertically_269 : decode cX5_moveVertically 269 = .ok (.iaload, 1) := dk_46 (dk_at dksX5_moveVertically_11 15 rfl rfl)
theorem dX5_moveVertically_270 : decode cX5_moveVertically 270 = .ok (.iload_n 1, 1) := dk_27 (dk_at dksX5_moveVertically_11 16 rfl rfl)
theorem dX5_moveVertically_271 : decode cX5_moveVertically 271 = .ok (.ifCond .eq 8, 3) := dk_153 0 8 (dk_at dksX5_moveVertically_11 17 rfl rfl)
theorem dX5_moveVertically_274 : decode cX5_moveVertically 274 = .ok (.bipush (-3), 2) := dk_16 253 (dk_at dksX5_moveVertically_11 20 rfl rfl)
theorem dX5_moveVertically_276 : decode cX5_moveVertically 276 = .ok (.goto 5, 3) := dk_167 0 5 (dk_at dksX5_moveVertically_12 0 rfl rfl)
theorem dX5_moveVertically_279 : decode cX5_moveVertically 279 = .ok (.bipush (-2), 2) := dk_16 254 (dk_at dksX5_moveVertically_12 3 rfl rfl)
theorem dX5_moveVertically_281 : decode cX5_moveVertically 281 = .ok (.if_icmp .ne 18, 3) := dk_160 0 18 (dk_at dksX5_moveVertically_12 5 rfl rfl)
theorem dX5_moveVertically_284 : decode cX5_moveVertically 284 = .ok (.aload_n 0, 1) := dk_42 (dk_at dksX5_moveVertically_12 8 rfl rfl)
theorem dX5_moveVertically_285 : decode cX5_moveVertically 285 = .ok (.aload_n 0, 1) := dk_42 (dk_at dksX5_moveVertically_12 9 rfl rfl)
theorem dX5_moveVertically_286 : decode cX5_moveVertically 286 = .ok (.getfield 13, 3) := dk_180 0 13 (dk_at dksX5_moveVertically_12 10 rfl rfl)
theorem dX5_moveVertically_289 : decode cX5_moveVertically 289 = .ok (.iload_n 2, 1) := dk_28 (dk_at dksX5_moveVertically_12 13 rfl rfl)
theorem dX5_moveVertically_290 : decode cX5_moveVertically 290 = .ok (.invokestatic 142, 3) := dk_184 0 142 (dk_at dksX5_moveVertically_12 14 rfl rfl)
theorem dX5_moveVertically_293 : decode cX5_moveVertically 293 = .ok (.iconst 1, 1) := dk_4 (dk_at dksX5_moveVertically_12 17 rfl rfl)
theorem dX5_moveVertically_294 : decode cX5_moveVertically 294 = .ok (.iadd, 1) := dk_96 (dk_at dksX5_moveVertically_12 18 rfl rfl)
theorem dX5_moveVertically_295 : decode cX5_moveVertically 295 = .ok (.invokevirtual 218, 3) := dk_182 0 218 (dk_at dksX5_moveVertically_12 19 rfl rfl)
theorem dX5_moveVertically_298 : decode cX5_moveVertically 298 = .ok (.ireturn, 1) := dk_172 (dk_at dksX5_moveVertically_12 22 rfl rfl)
theorem dX5_moveVertically_299 : decode cX5_moveVertically 299 = .ok (.bipush (-9), 2) := dk_16 247 (dk_at dksX5_moveVertically_13 0 rfl rfl)
theorem dX5_moveVertically_301 : decode cX5_moveVertically 301 = .ok (.ireturn, 1) := dk_172 (dk_at dksX5_moveVertically_13 2 rfl rfl)
abbrev cX5_goTo : ByteArray := prog_15_method_52_code
def yX5_goTo : MethodName := ⟨RX5, "goTo", "(I)I"⟩
def dkwX5_goTo_0 : List UInt8 := [42, 180, 0, 13, 17, 0, 181, 27, 79, 42, 180, 0, 13, 17, 0, 182, 16, 247, 79, 27, 172]
abbrev dktX5_goTo_0 : List UInt8 := dkwX5_goTo_0 ++ []
theorem dksX5_goTo_0 : cX5_goTo.data.toList.drop 0 = dktX5_goTo_0 := by decide +kernel
theorem dX5_goTo_0 : decode cX5_goTo 0 = .ok (.aload_n 0, 1) := dk_42 (dk_at dksX5_goTo_0 0 rfl rfl)
theorem dX5_goTo_1 : decode cX5_goTo 1 = .ok (.getfield 13, 3) := dk_180 0 13 (dk_at dksX5_goTo_0 1 rfl rfl)
theorem dX5_goTo_4 : decode cX5_goTo 4 = .ok (.sipush 181, 3) := dk_17 0 181 (dk_at dksX5_goTo_0 4 rfl rfl)
theorem dX5_goTo_7 : decode cX5_goTo 7 = .ok (.iload_n 1, 1) := dk_27 (dk_at dksX5_goTo_0 7 rfl rfl)
theorem dX5_goTo_8 : decode cX5_goTo 8 = .ok (.iastore, 1) := dk_79 (dk_at dksX5_goTo_0 8 rfl rfl)
theorem dX5_goTo_9 : decode cX5_goTo 9 = .ok (.aload_n 0, 1) := dk_42 (dk_at dksX5_goTo_0 9 rfl rfl)
theorem dX5_goTo_10 : decode cX5_goTo 10 = .ok (.getfield 13, 3) := dk_180 0 13 (dk_at dksX5_goTo_0 10 rfl rfl)
theorem dX5_goTo_13 : decode cX5_goTo 13 = .ok (.sipush 182, 3) := dk_17 0 182 (dk_at dksX5_goTo_0 13 rfl rfl)
theorem dX5_goTo_16 : decode cX5_goTo 16 = .ok (.bipush (-9), 2) := dk_16 247 (dk_at dksX5_goTo_0 16 rfl rfl)
theorem dX5_goTo_18 : decode cX5_goTo 18 = .ok (.iastore, 1) := dk_79 (dk_at dksX5_goTo_0 18 rfl rfl)
theorem dX5_goTo_19 : decode cX5_goTo 19 = .ok (.iload_n 1, 1) := dk_27 (dk_at dksX5_goTo_0 19 rfl rfl)
theorem dX5_goTo_20 : decode cX5_goTo 20 = .ok (.ireturn, 1) := dk_172 (dk_at dksX5_goTo_0 20 rfl rfl)
abbrev cX5_extend : ByteArray := prog_15_method_54_code
def yX5_extend : MethodName := ⟨RX5, "extend", "(Z)I"⟩
def dkwX5_extend_6 : List UInt8 := [17, 0, 182, 46, 42, 180, 0, 13, 17, 0, 181, 46, 184, 0, 188, 172]
abbrev dktX5_extend_6 : List UInt8 := dkwX5_extend_6 ++ []
def dkwX5_extend_5 : List UInt8 := [153, 0, 14, 42, 180, 0, 13, 28, 184, 0, 107, 167, 0, 4, 28, 79, 42, 180, 0, 13, 42, 180, 0, 13]
abbrev dktX5_extend_5 : List UInt8 := dkwX5_extend_5 ++ dktX5_extend_6
def dkwX5_extend_4 : List UInt8 := [153, 0, 7, 29, 167, 0, 11, 42, 180, 0, 13, 29, 184, 0, 139, 79, 42, 180, 0, 13, 17, 0, 181, 27]
abbrev dktX5_extend_4 : List UInt8 := dkwX5_extend_4 ++ dktX5_extend_5
def dkwX5_extend_3 : List UInt8 := [164, 0, 7, 3, 167, 0, 4, 4, 182, 0, 150, 153, 0, 5, 3, 172, 42, 180, 0, 13, 17, 0, 182, 27]
abbrev dktX5_extend_3 : List UInt8 := dkwX5_extend_3 ++ dktX5_extend_4
def dkwX5_extend_2 : List UInt8 := [184, 0, 142, 162, 0, 7, 3, 167, 0, 24, 4, 167, 0, 20, 29, 42, 180, 0, 13, 29, 184, 0, 136]
abbrev dktX5_extend_2 : List UInt8 := dkwX5_extend_2 ++ dktX5_extend_3
def dkwX5_extend_1 : List UInt8 := [167, 0, 11, 42, 180, 0, 13, 17, 0, 182, 46, 62, 42, 27, 153, 0, 23, 28, 42, 180, 0, 13, 28]
abbrev dktX5_extend_1 : List UInt8 := dkwX5_extend_1 ++ dktX5_extend_2
def dkwX5_extend_0 : List UInt8 := [42, 180, 0, 13, 17, 0, 181, 46, 61, 42, 180, 0, 13, 17, 0, 182, 46, 16, 247, 160, 0, 7, 28]
abbrev dktX5_extend_0 : List UInt8 := dkwX5_extend_0 ++ dktX5_extend_1
theorem dksX5_extend_0 : cX5_extend.data.toList.drop 0 = dktX5_extend_0 := by decide +kernel
theorem dksX5_extend_1 : cX5_extend.data.toList.drop 23 = dktX5_extend_1 := dk_seg dksX5_extend_0 23 rfl rfl
theorem dksX5_extend_2 : cX5_extend.data.toList.drop 46 = dktX5_extend_2 := dk_seg dksX5_extend_1 23 rfl rfl
theorem dksX5_extend_3 : cX5_extend.data.toList.drop 69 = dktX5_extend_3 := dk_seg dksX5_extend_2 23 rfl rfl
theorem dksX5_extend_4 : cX5_extend.data.toList.drop 93 = dktX5_extend_4 := dk_seg dksX5_extend_3 24 rfl rfl
theorem dksX5_extend_5 : cX5_extend.data.toList.drop 117 = dktX5_extend_5 := dk_seg dksX5_extend_4 24 rfl rfl
theorem dksX5_extend_6 : cX5_extend.data.toList.drop 141 = dktX5_extend_6 := dk_seg dksX5_extend_5 24 rfl rfl
theorem dX5_extend_0 : decode cX5_extend 0 = .ok (.aload_n 0, 1) := dk_42 (dk_at dksX5_extend_0 0 rfl rfl)
theorem dX5_extend_1 : decode cX5_extend 1 = .ok (.getfield 13, 3) := dk_180 0 13 (dk_at dksX5_extend_0 1 rfl rfl)
theorem dX5_extend_4 : decode cX5_extend 4 = .ok (.sipush 181, 3) := dk_17 0 181 (dk_at dksX5_extend_0 4 rfl rfl)
theorem dX5_extend_7 : decode cX5_extend 7 = .ok (.iaload, 1) := dk_46 (dk_at dksX5_extend_0 7 rfl rfl)
theorem dX5_extend_8 : decode cX5_extend 8 = .ok (.istore_n 2, 1) := dk_61 (dk_at dksX5_extend_0 8 rfl rfl)
theorem dX5_extend_9 : decode cX5_extend 9 = .ok (.aload_n 0, 1) := dk_42 (dk_at dksX5_extend_0 9 rfl rfl)
theorem dX5_extend_10 : decode cX5_extend 10 = .ok (.getfield 13, 3) := dk_180 0 13 (dk_at dksX5_extend_0 10 rfl rfl)
theorem dX5_extend_13 : decode cX5_extend 13 = .ok (.sipush 182, 3) := dk_17 0 182 (dk_at dksX5_extend_0 13 rfl rfl)
theorem dX5_extend_16 : decode cX5_extend 16 = .ok (.iaload, 1) := dk_46 (dk_at dksX5_extend_0 16 rfl rfl)
theorem dX5_extend_17 : decode cX5_extend 17 = .ok (.bipush (-9), 2) := dk_16 247 (dk_at dksX5_extend_0 17 rfl rfl)
theorem dX5_extend_19 : decode cX5_extend 19 = .ok (.if_icmp .ne 7, 3) := dk_160 0 7 (dk_at dksX5_extend_0 19 rfl rfl)
theorem dX5_extend_22 : decode cX5_extend 22 = .ok (.iload_n 2, 1) := dk_28 (dk_at dksX5_extend_0 22 rfl rfl)
theorem dX5_extend_23 : decode cX5_extend 23 = .ok (.goto 11, 3) := dk_167 0 11 (dk_at dksX5_extend_1 0 rfl rfl)
theorem dX5_extend_26 : decode cX5_extend 26 = .ok (.aload_n 0, 1) := dk_42 (dk_at dksX5_extend_1 3 rfl rfl)
theorem dX5_extend_27 : decode cX5_extend 27 = .ok (.getfield 13, 3) := dk_180 0 13 (dk_at dksX5_extend_1 4 rfl rfl)
theorem dX5_extend_30 : decode cX5_extend 30 = .ok (.sipush 182, 3) := dk_17 0 182 (dk_at dksX5_extend_1 7 rfl rfl)
theorem dX5_extend_33 : decode cX5_extend 33 = .ok (.iaload, 1) := dk_46 (dk_at dksX5_extend_1 10 rfl rfl)
theorem dX5_extend_34 : decode cX5_extend 34 = .ok (.istore_n 3, 1) := dk_62 (dk_at dksX5_extend_1 11 rfl rfl)
theorem dX5_extend_35 : decode cX5_extend 35 = .ok (.aload_n 0, 1) := dk_42 (dk_at dksX5_extend_1 12 rfl rfl)
theorem dX5_extend_36 : decode cX5_extend 36 = .ok (.iload_n 1, 1) := dk_27 (dk_at dksX5_extend_1 13 rfl rfl)
theorem dX5_extend_37 : decode cX5_extend 37 = .ok (.ifCond .eq 23, 3) := dk_153 0 23 (dk_at dksX5_extend_1 14 rfl rfl)
theorem dX5_extend_40 : decode cX5_extend 40 = .ok (.iload_n 2, 1) := dk_28 (dk_at dksX5_extend_1 17 rfl rfl)
theorem dX5_extend_41 : decode cX5_extend 41 = .ok (.aload_n 0, 1) := dk_42 (dk_at dksX5_extend_1 18 rfl rfl)
theorem dX5_extend_42 : decode cX5_extend 42 = .ok (.getfield 13, 3) := dk_180 0 13 (dk_at dksX5_extend_1 19 rfl rfl)
theorem dX5_extend_45 : decode cX5_extend 45 = .ok (.iload_n 2, 1) := dk_28 (dk_at dksX5_extend_1 22 rfl rfl)
theorem dX5_extend_46 : decode cX5_extend 46 = .ok (.invokestatic 142, 3) := dk_184 0 142 (dk_at dksX5_extend_2 0 rfl rfl)
theorem dX5_extend_49 : decode cX5_extend 49 = .ok (.if_icmp .ge 7, 3) := dk_162 0 7 (dk_at dksX5_extend_2 3 rfl rfl)
theorem dX5_extend_52 : decode cX5_extend 52 = .ok (.iconst 0, 1) := dk_3 (dk_at dksX5_extend_2 6 rfl rfl)
theorem dX5_extend_53 : decode cX5_extend 53 = .ok (.goto 24, 3) := dk_167 0 24 (dk_at dksX5_extend_2 7 rfl rfl)
theorem dX5_extend_56 : decode cX5_extend 56 = .ok (.iconst 1, 1) := dk_4 (dk_at dksX5_extend_2 10 rfl rfl)
theorem dX5_extend_57 : decode cX5_extend 57 = .ok (.goto 20, 3) := dk_167 0 20 (dk_at dksX5_extend_2 11 rfl rfl)
theorem dX5_extend_60 : decode cX5_extend 60 = .ok (.iload_n 3, 1) := dk_29 (dk_at dksX5_extend_2 14 rfl rfl)
theorem dX5_extend_61 : decode cX5_extend 61 = .ok (.aload_n 0, 1) := dk_42 (dk_at dksX5_extend_2 15 rfl rfl)
theorem dX5_extend_62 : decode cX5_extend 62 = .ok (.getfield 13, 3) := dk_180 0 13 (dk_at dksX5_extend_2 16 rfl rfl)
theorem dX5_extend_65 : decode cX5_extend 65 = .ok (.iload_n 3, 1) := dk_29 (dk_at dksX5_extend_2 19 rfl rfl)
theorem dX5_extend_66 : decode cX5_extend 66 = .ok (.invokestatic 136, 3) := dk_184 0 136 (dk_at dksX5_extend_2 20 rfl rfl)
theorem dX5_extend_69 : decode cX5_extend 69 = .ok (.if_icmp .le 7, 3) := dk_164 0 7 (dk_at dksX5_extend_3 0 rfl rfl)
theorem dX5_extend_72 : decode cX5_extend 72 = .ok (.iconst 0, 1) := dk_3 (dk_at dksX5_extend_3 3 rfl rfl)
theorem dX5_extend_73 : decode cX5_extend 73 = .ok (.goto 4, 3) := dk_167 0 4 (dk_at dksX5_extend_3 4 rfl rfl)
theorem dX5_extend_76 : decode cX5_extend 76 = .ok (.iconst 1, 1) := dk_4 (dk_at dksX5_extend_3 7 rfl rfl)
theorem dX5_extend_77 : decode cX5_extend 77 = .ok (.invokevirtual 150, 3) := dk_182 0 150 (dk_at dksX5_extend_3 8 rfl rfl)
theorem dX5_extend_80 : decode cX5_extend 80 = .ok (.ifCond .eq 5, 3) := dk_153 0 5 (dk_at dksX5_extend_3 11 rfl rfl)
theorem dX5_extend_83 : decode cX5_extend 83 = .ok (.iconst 0, 1) := dk_3 (dk_at dksX5_extend_3 14 rfl rfl)
theorem dX5_extend_84 : decode cX5_extend 84 = .ok (.ireturn, 1) := dk_172 (dk_at dksX5_extend_3 15 rfl rfl)
theorem dX5_extend_85 : decode cX5_extend 85 = .ok (.aload_n 0, 1) := dk_42 (dk_at dksX5_extend_3 16 rfl rfl)
theorem dX5_extend_86 : decode cX5_extend 86 = .ok (.getfield 13, 3) := dk_180 0 13 (dk_at dksX5_extend_3 17 rfl rfl)
theorem dX5_extend_89 : decode cX5_extend 89 = .ok (.sipush 182, 3) := dk_17 0 182 (dk_at dksX5_extend_3 20 rfl rfl)
theorem dX5_extend_92 : decode cX5_extend 92 = .ok (.iload_n 1, 1) := dk_27 (dk_at dksX5_extend_3 23 rfl rfl)
theorem dX5_extend_93 : decode cX5_extend 93 = .ok (.ifCond .eq 7, 3) := dk_153 0 7 (dk_at dksX5_extend_4 0 rfl rfl)
theorem dX5_extend_96 : decode cX5_extend 96 = .ok (.iload_n 3, 1) := dk_29 (dk_at dksX5_extend_4 3 rfl rfl)
theorem dX5_extend_97 : decode cX5_extend 97 = .ok (.goto 11, 3) := dk_167 0 11 (dk_at dksX5_extend_4 4 rfl rfl)
theorem dX5_extend_100 : decode cX5_extend 100 = .ok (.aload_n 0, 1) := dk_42 (dk_at dksX5_extend_4 7 rfl rfl)
theorem dX5_extend_101 : decode cX5_extend 101 = .ok (.getfield 13, 3) := dk_180 0 13 (dk_at dksX5_extend_4 8 rfl rfl)
theorem dX5_extend_104 : decode cX5_extend 104 = .ok (.iload_n 3, 1) := dk_29 (dk_at dksX5_extend_4 11 rfl rfl)
theorem dX5_extend_105 : decode cX5_extend 105 = .ok (.invokestatic 139, 3) := dk_184 0 139 (dk_at dksX5_extend_4 12 rfl rfl)
theorem dX5_extend_108 : decode cX5_extend 108 = .ok (.iastore, 1) := dk_79 (dk_at dksX5_extend_4 15 rfl rfl)
theorem dX5_extend_109 : decode cX5_extend 109 = .ok (.aload_n 0, 1) := dk_42 (dk_at dksX5_extend_4 16 rfl rfl)
theorem dX5_extend_110 : decode cX5_extend 110 = .ok (.getfield 13, 3) := dk_180 0 13 (dk_at dksX5_extend_4 17 rfl rfl)
theorem dX5_extend_113 : decode cX5_extend 113 = .ok (.sipush 181, 3) := dk_17 0 181 (dk_at dksX5_extend_4 20 rfl rfl)
theorem dX5_extend_116 : decode cX5_extend 116 = .ok (.iload_n 1, 1) := dk_27 (dk_at dksX5_extend_4 23 rfl rfl)
theorem dX5_extend_117 : decode cX5_extend 117 = .ok (.ifCond .eq 14, 3) := dk_153 0 14 (dk_at dksX5_extend_5 0 rfl rfl)
theorem dX5_extend_120 : decode cX5_extend 120 = .ok (.aload_n 0, 1) := dk_42 (dk_at dksX5_extend_5 3 rfl rfl)
theorem dX5_extend_121 : decode cX5_extend 121 = .ok (.getfield 13, 3) := dk_180 0 13 (dk_at dksX5_extend_5 4 rfl rfl)
theorem dX5_extend_124 : decode cX5_extend 124 = .ok (.iload_n 2, 1) := dk_28 (dk_at dksX5_extend_5 7 rfl rfl)
theorem dX5_extend_125 : decode cX5_extend 125 = .ok (.invokestatic 107, 3) := dk_184 0 107 (dk_at dksX5_extend_5 8 rfl rfl)
theorem dX5_extend_128 : decode cX5_extend 128 = .ok (.goto 4, 3) := dk_167 0 4 (dk_at dksX5_extend_5 11 rfl rfl)
theorem dX5_extend_131 : decode cX5_extend 131 = .ok (.iload_n 2, 1) := dk_28 (dk_at dksX5_extend_5 14 rfl rfl)
theorem dX5_extend_132 : decode cX5_extend 132 = .ok (.iastore, 1) := dk_79 (dk_at dksX5_extend_5 15 rfl rfl)
theorem dX5_extend_133 : decode cX5_extend 133 = .ok (.aload_n 0, 1) := dk_42 (dk_at dksX5_extend_5 16 rfl rfl)
theorem dX5_extend_134 : decode cX5_extend 134 = .ok (.getfield 13, 3) := dk_180 0 13 (dk_at dksX5_extend_5 17 rfl rfl)
theorem dX5_extend_137 : decode cX5_extend 137 = .ok (.aload_n 0, 1) := dk_42 (dk_at dksX5_extend_5 20 rfl rfl)
theorem dX5_extend_138 : decode cX5_extend 138 = .ok (.getfield 13, 3) := dk_180 0 13 (dk_at dksX5_extend_5 21 rfl rfl)
theorem dX5_extend_141 : decode cX5_extend 141 = .ok (.sipush 182, 3) := dk_17 0 182 (dk_at dksX5_extend_6 0 rfl rfl)
theorem dX5_extend_144 : decode cX5_extend 144 = .ok (.iaload, 1) := dk_46 (dk_at dksX5_extend_6 3 rfl rfl)
theorem dX5_extend_145 : decode cX5_extend 145 = .ok (.aload_n 0, 1) := dk_42 (dk_at dksX5_extend_6 4 rfl rfl)
theorem dX5_extend_146 : decode cX5_extend 146 = .ok (.getfield 13, 3) := dk_180 0 13 (dk_at dksX5_extend_6 5 rfl rfl)
theorem dX5_extend_149 : decode cX5_extend 149 = .ok (.sipush 181, 3) := dk_17 0 181 (dk_at dksX5_extend_6 8 rfl rfl)
theorem dX5_extend_152 : decode cX5_extend 152 = .ok (.iaload, 1) := dk_46 (dk_at dksX5_extend_6 11 rfl rfl)
theorem dX5_extend_153 : decode cX5_extend 153 = .ok (.invokestatic 188, 3) := dk_184 0 188 (dk_at dksX5_extend_6 12 rfl rfl)
theorem dX5_extend_156 : decode cX5_extend 156 = .ok (.ireturn, 1) := dk_172 (dk_at dksX5_extend_6 15 rfl rfl)
abbrev cX5_grow : ByteArray := prog_15_method_55_code
def yX5_grow : MethodName := ⟨RX5, "grow", "()I"⟩
def dkwX5_grow_2 : List UInt8 := [184, 0, 188, 172]
abbrev dktX5_grow_2 : List UInt8 := dkwX5_grow_2 ++ []
def dkwX5_grow_1 : List UInt8 := [167, 0, 26, 42, 180, 0, 13, 42, 180, 0, 13, 17, 0, 182, 46, 42, 180, 0, 13, 17, 0, 181, 46]
abbrev dktX5_grow_1 : List UInt8 := dkwX5_grow_1 ++ dktX5_grow_2
def dkwX5_grow_0 : List UInt8 := [42, 42, 180, 0, 13, 184, 0, 222, 153, 0, 7, 3, 167, 0, 4, 4, 182, 0, 150, 153, 0, 7, 3]
abbrev dktX5_grow_0 : List UInt8 := dkwX5_grow_0 ++ dktX5_grow_1
theorem dksX5_grow_0 : cX5_grow.data.toList.drop 0 = dktX5_grow_0 := by decide +kernel
theorem dksX5_grow_1 : cX5_grow.data.toList.drop 23 = dktX5_grow_1 := dk_seg dksX5_grow_0 23 rfl rfl
theorem dksX5_grow_2 : cX5_grow.data.toList.drop 46 = dktX5_grow_2 := dk_seg dksX5_grow_1 23 rfl rfl
theorem dX5_grow_0 : decode cX5_grow 0 = .ok (.aload_n 0, 1) := dk_42 (dk_at dksX5_grow_0 0 rfl rfl)
theorem dX5_grow_1 : decode cX5_grow 1 = .ok (.aload_n 0, 1) := dk_42 (dk_at dksX5_grow_0 1 rfl rfl)
theorem dX5_grow_2 : decode cX5_grow 2 = .ok (.getfield 13, 3) := dk_180 0 13 (dk_at dksX5_grow_0 2 rfl rfl)
theorem dX5_grow_5 : decode cX5_grow 5 = .ok (.invokestatic 222, 3) := dk_184 0 222 (dk_at dksX5_grow_0 5 rfl rfl)
theorem dX5_grow_8 : decode cX5_grow 8 = .ok (.ifCond .eq 7, 3) := dk_153 0 7 (dk_at dksX5_grow_0 8 rfl rfl)
theorem dX5_grow_11 : decode cX5_grow 11 = .ok (.iconst 0, 1) := dk_3 (dk_at dksX5_grow_0 11 rfl rfl)
theorem dX5_grow_12 : decode cX5_grow 12 = .ok (.goto 4, 3) := dk_167 0 4 (dk_at dksX5_grow_0 12 rfl rfl)
theorem dX5_grow_15 : decode cX5_grow 15 = .ok (.iconst 1, 1) := dk_4 (dk_at dksX5_grow_0 15 rfl rfl)
theorem dX5_grow_16 : decode cX5_grow 16 = .ok (.invokevirtual 150, 3) := dk_182 0 150 (dk_at dksX5_grow_0 16 rfl rfl)
theorem dX5_grow_19 : decode cX5_grow 19 = .ok (.ifCond .eq 7, 3) := dk_153 0 7 (dk_at dksX5_grow_0 19 rfl rfl)
theorem dX5_grow_22 : decode cX5_grow 22 = .ok (.iconst 0, 1) := dk_3 (dk_at dksX5_grow_0 22 rfl rfl)
theorem dX5_grow_23 : decode cX5_grow 23 = .ok (.goto 26, 3) := dk_167 0 26 (dk_at dksX5_grow_1 0 rfl rfl)
theorem dX5_grow_26 : decode cX5_grow 26 = .ok (.aload_n 0, 1) := dk_42 (dk_at dksX5_grow_1 3 rfl rfl)
theorem dX5_grow_27 : decode cX5_grow 27 = .ok (.getfield 13, 3) := dk_180 0 13 (dk_at dksX5_grow_1 4 rfl rfl)
theorem dX5_grow_30 : decode cX5_grow 30 = .ok (.aload_n 0, 1) := dk_42 (dk_at dksX5_grow_1 7 rfl rfl)
theorem dX5_grow_31 : decode cX5_grow 31 = .ok (.getfield 13, 3) := dk_180 0 13 (dk_at dksX5_grow_1 8 rfl rfl)
theorem dX5_grow_34 : decode cX5_grow 34 = .ok (.sipush 182, 3) := dk_17 0 182 (dk_at dksX5_grow_1 11 rfl rfl)
theorem dX5_grow_37 : decode cX5_grow 37 = .ok (.iaload, 1) := dk_46 (dk_at dksX5_grow_1 14 rfl rfl)
theorem dX5_grow_38 : decode cX5_grow 38 = .ok (.aload_n 0, 1) := dk_42 (dk_at dksX5_grow_1 15 rfl rfl)
theorem dX5_grow_39 : decode cX5_grow 39 = .ok (.getfield 13, 3) := dk_180 0 13 (dk_at dksX5_grow_1 16 rfl rfl)
theorem dX5_grow_42 : decode cX5_grow 42 = .ok (.sipush 181, 3) := dk_17 0 181 (dk_at dksX5_grow_1 19 rfl rfl)
theorem dX5_grow_45 : decode cX5_grow 45 = .ok (.iaload, 1) := dk_46 (dk_at dksX5_grow_1 22 rfl rfl)
theorem dX5_grow_46 : decode cX5_grow 46 = .ok (.invokestatic 188, 3) := dk_184 0 188 (dk_at dksX5_grow_2 0 rfl rfl)
theorem dX5_grow_49 : decode cX5_grow 49 = .ok (.ireturn, 1) := dk_172 (dk_at dksX5_grow_2 3 rfl rfl)
abbrev cX5_grows : ByteArray := prog_15_method_27_code
def yX5_grows : MethodName := ⟨RX5, "grows", "([I)Z"⟩
def dkwX5_grows_5 : List UInt8 := [96, 79, 4, 172]
abbrev dktX5_grows_5 : List UInt8 := dkwX5_grows_5 ++ []
def dkwX5_grows_4 : List UInt8 := [29, 184, 0, 104, 54, 4, 42, 17, 0, 182, 42, 21, 4, 184, 0, 100, 79, 42, 17, 0, 181, 21, 4, 4]
abbrev dktX5_grows_4 : List UInt8 := dkwX5_grows_4 ++ dktX5_grows_5
def dkwX5_grows_3 : List UInt8 := [162, 0, 17, 42, 17, 0, 182, 28, 79, 42, 17, 0, 181, 29, 79, 4, 172, 28, 154, 0, 5, 3, 172, 42]
abbrev dktX5_grows_3 : List UInt8 := dkwX5_grows_3 ++ dktX5_grows_4
def dkwX5_grows_2 : List UInt8 := [162, 0, 41, 42, 17, 0, 182, 46, 16, 247, 159, 0, 17, 42, 17, 0, 182, 46, 28, 163, 0, 8, 27, 29]
abbrev dktX5_grows_2 : List UInt8 := dkwX5_grows_2 ++ dktX5_grows_3
def dkwX5_grows_1 : List UInt8 := [16, 247, 160, 0, 20, 27, 28, 164, 0, 15, 42, 17, 0, 182, 42, 27, 184, 0, 139, 79, 4, 172, 28, 29]
abbrev dktX5_grows_1 : List UInt8 := dkwX5_grows_1 ++ dktX5_grows_2
def dkwX5_grows_0 : List UInt8 := [42, 17, 0, 181, 46, 60, 42, 27, 184, 0, 136, 61, 42, 27, 184, 0, 142, 62, 42, 17, 0, 182, 46]
abbrev dktX5_grows_0 : List UInt8 := dkwX5_grows_0 ++ dktX5_grows_1
theorem dksX5_grows_0 : cX5_grows.data.toList.drop 0 = dktX5_grows_0 := by decide +kernel
theorem dksX5_grows_1 : cX5_grows.data.toList.drop 23 = dktX5_grows_1 := dk_seg dksX5_grows_0 23 rfl rfl
theorem dksX5_grows_2 : cX5_grows.data.toList.drop 47 = dktX5_grows_2 := dk_seg dksX5_grows_1 24 rfl rfl
theorem dksX5_grows_3 : cX5_grows.data.toList.drop 71 = dktX5_grows_3 := dk_seg dksX5_grows_2 24 rfl rfl
theorem dksX5_grows_4 : cX5_grows.data.toList.drop 95 = dktX5_grows_4 := dk_seg dksX5_grows_3 24 rfl rfl
theorem dksX5_grows_5 : cX5_grows.data.toList.drop 119 = dktX5_grows_5 := dk_seg dksX5_grows_4 24 rfl rfl
theorem dX5_grows_0 : decode cX5_grows 0 = .ok (.aload_n 0, 1) := dk_42 (dk_at dksX5_grows_0 0 rfl rfl)
theorem dX5_grows_1 : decode cX5_grows 1 = .ok (.sipush 181, 3) := dk_17 0 181 (dk_at dksX5_grows_0 1 rfl rfl)
theorem dX5_grows_4 : decode cX5_grows 4 = .ok (.iaload, 1) := dk_46 (dk_at dksX5_grows_0 4 rfl rfl)
theorem dX5_grows_5 : decode cX5_grows 5 = .ok (.istore_n 1, 1) := dk_60 (dk_at dksX5_grows_0 5 rfl rfl)
theorem dX5_grows_6 : decode cX5_grows 6 = .ok (.aload_n 0, 1) := dk_42 (dk_at dksX5_grows_0 6 rfl rfl)
theorem dX5_grows_7 : decode cX5_grows 7 = .ok (.iload_n 1, 1) := dk_27 (dk_at dksX5_grows_0 7 rfl rfl)
theorem dX5_grows_8 : decode cX5_grows 8 = .ok (.invokestatic 136, 3) := dk_184 0 136 (dk_at dksX5_grows_0 8 rfl rfl)
theorem dX5_grows_11 : decode cX5_grows 11 = .ok (.istore_n 2, 1) := dk_61 (dk_at dksX5_grows_0 11 rfl rfl)
theorem dX5_grows_12 : decode cX5_grows 12 = .ok (.aload_n 0, 1) := dk_42 (dk_at dksX5_grows_0 12 rfl rfl)
theorem dX5_grows_13 : decode cX5_grows 13 = .ok (.iload_n 1, 1) := dk_27 (dk_at dksX5_grows_0 13 rfl rfl)
theorem dX5_grows_14 : decode cX5_grows 14 = .ok (.invokestatic 142, 3) := dk_184 0 142 (dk_at dksX5_grows_0 14 rfl rfl)
theorem dX5_grows_17 : decode cX5_grows 17 = .ok (.istore_n 3, 1) := dk_62 (dk_at dksX5_grows_0 17 rfl rfl)
theorem dX5_grows_18 : decode cX5_grows 18 = .ok (.aload_n 0, 1) := dk_42 (dk_at dksX5_grows_0 18 rfl rfl)
theorem dX5_grows_19 : decode cX5_grows 19 = .ok (.sipush 182, 3) := dk_17 0 182 (dk_at dksX5_grows_0 19 rfl rfl)
theorem dX5_grows_22 : decode cX5_grows 22 = .ok (.iaload, 1) := dk_46 (dk_at dksX5_grows_0 22 rfl rfl)
theorem dX5_grows_23 : decode cX5_grows 23 = .ok (.bipush (-9), 2) := dk_16 247 (dk_at dksX5_grows_1 0 rfl rfl)
theorem dX5_grows_25 : decode cX5_grows 25 = .ok (.if_icmp .ne 20, 3) := dk_160 0 20 (dk_at dksX5_grows_1 2 rfl rfl)
theorem dX5_grows_28 : decode cX5_grows 28 = .ok (.iload_n 1, 1) := dk_27 (dk_at dksX5_grows_1 5 rfl rfl)
theorem dX5_grows_29 : decode cX5_grows 29 = .ok (.iload_n 2, 1) := dk_28 (dk_at dksX5_grows_1 6 rfl rfl)
theorem dX5_grows_30 : decode cX5_grows 30 = .ok (.if_icmp .le 15, 3) := dk_164 0 15 (dk_at dksX5_grows_1 7 rfl rfl)
theorem dX5_grows_33 : decode cX5_grows 33 = .ok (.aload_n 0, 1) := dk_42 (dk_at dksX5_grows_1 10 rfl rfl)
theorem dX5_grows_34 : decode cX5_grows 34 = .ok (.sipush 182, 3) := dk_17 0 182 (dk_at dksX5_grows_1 11 rfl rfl)
theorem dX5_grows_37 : decode cX5_grows 37 = .ok (.aload_n 0, 1) := dk_42 (dk_at dksX5_grows_1 14 rfl rfl)
theorem dX5_grows_38 : decode cX5_grows 38 = .ok (.iload_n 1, 1) := dk_27 (dk_at dksX5_grows_1 15 rfl rfl)
theorem dX5_grows_39 : decode cX5_grows 39 = .ok (.invokestatic 139, 3) := dk_184 0 139 (dk_at dksX5_grows_1 16 rfl rfl)
theorem dX5_grows_42 : decode cX5_grows 42 = .ok (.iastore, 1) := dk_79 (dk_at dksX5_grows_1 19 rfl rfl)
theorem dX5_grows_43 : decode cX5_grows 43 = .ok (.iconst 1, 1) := dk_4 (dk_at dksX5_grows_1 20 rfl rfl)
theorem dX5_grows_44 : decode cX5_grows 44 = .ok (.ireturn, 1) := dk_172 (dk_at dksX5_grows_1 21 rfl rfl)
theorem dX5_grows_45 : decode cX5_grows 45 = .ok (.iload_n 2, 1) := dk_28 (dk_at dksX5_grows_1 22 rfl rfl)
theorem dX5_grows_46 : decode cX5_grows 46 = .ok (.iload_n 3, 1) := dk_29 (dk_at dksX5_grows_1 23 rfl rfl)
theorem dX5_grows_47 : decode cX5_grows 47 = .ok (.if_icmp .ge 41, 3) := dk_162 0 41 (dk_at dksX5_grows_2 0 rfl rfl)
theorem dX5_grows_50 : decode cX5_grows 50 = .ok (.aload_n 0, 1) := dk_42 (dk_at dksX5_grows_2 3 rfl rfl)
theorem dX5_grows_51 : decode cX5_grows 51 = .ok (.sipush 182, 3) := dk_17 0 182 (dk_at dksX5_grows_2 4 rfl rfl)
theorem dX5_grows_54 : decode cX5_grows 54 = .ok (.iaload, 1) := dk_46 (dk_at dksX5_grows_2 7 rfl rfl)
theorem dX5_grows_55 : decode cX5_grows 55 = .ok (.bipush (-9), 2) := dk_16 247 (dk_at dksX5_grows_2 8 rfl rfl)
theorem dX5_grows_57 : decode cX5_grows 57 = .ok (.if_icmp .eq 17, 3) := dk_159 0 17 (dk_at dksX5_grows_2 10 rfl rfl)
theorem dX5_grows_60 : decode cX5_grows 60 = .ok (.aload_n 0, 1) := dk_42 (dk_at dksX5_grows_2 13 rfl rfl)
theorem dX5_grows_61 : decode cX5_grows 61 = .ok (.sipush 182, 3) := dk_17 0 182 (dk_at dksX5_grows_2 14 rfl rfl)
theorem dX5_grows_64 : decode cX5_grows 64 = .ok (.iaload, 1) := dk_46 (dk_at dksX5_grows_2 17 rfl rfl)
theorem dX5_grows_65 : decode cX5_grows 65 = .ok (.iload_n 2, 1) := dk_28 (dk_at dksX5_grows_2 18 rfl rfl)
theorem dX5_grows_66 : decode cX5_grows 66 = .ok (.if_icmp .gt 8, 3) := dk_163 0 8 (dk_at dksX5_grows_2 19 rfl rfl)
theorem dX5_grows_69 : decode cX5_grows 69 = .ok (.iload_n 1, 1) := dk_27 (dk_at dksX5_grows_2 22 rfl rfl)
theorem dX5_grows_70 : decode cX5_grows 70 = .ok (.iload_n 3, 1) := dk_29 (dk_at dksX5_grows_2 23 rfl rfl)
theorem dX5_grows_71 : decode cX5_grows 71 = .ok (.if_icmp .ge 17, 3) := dk_162 0 17 (dk_at dksX5_grows_3 0 rfl rfl)
theorem dX5_grows_74 : decode cX5_grows 74 = .ok (.aload_n 0, 1) := dk_42 (dk_at dksX5_grows_3 3 rfl rfl)
theorem dX5_grows_75 : decode cX5_grows 75 = .ok (.sipush 182, 3) := dk_17 0 182 (dk_at dksX5_grows_3 4 rfl rfl)
theorem dX5_grows_78 : decode cX5_grows 78 = .ok (.iload_n 2, 1) := dk_28 (dk_at dksX5_grows_3 7 rfl rfl)
theorem dX5_grows_79 : decode cX5_grows 79 = .ok (.iastore, 1) := dk_79 (dk_at dksX5_grows_3 8 rfl rfl)
theorem dX5_grows_80 : decode cX5_grows 80 = .ok (.aload_n 0, 1) := dk_42 (dk_at dksX5_grows_3 9 rfl rfl)
theorem dX5_grows_81 : decode cX5_grows 81 = .ok (.sipush 181, 3) := dk_17 0 181 (dk_at dksX5_grows_3 10 rfl rfl)
theorem dX5_grows_84 : decode cX5_grows 84 = .ok (.iload_n 3, 1) := dk_29 (dk_at dksX5_grows_3 13 rfl rfl)
theorem dX5_grows_85 : decode cX5_grows 85 = .ok (.iastore, 1) := dk_79 (dk_at dksX5_grows_3 14 rfl rfl)
theorem dX5_grows_86 : decode cX5_grows 86 = .ok (.iconst 1, 1) := dk_4 (dk_at dksX5_grows_3 15 rfl rfl)
theorem dX5_grows_87 : decode cX5_grows 87 = .ok (.ireturn, 1) := dk_172 (dk_at dksX5_grows_3 16 rfl rfl)
theorem dX5_grows_88 : decode cX5_grows 88 = .ok (.iload_n 2, 1) := dk_28 (dk_at dksX5_grows_3 17 rfl rfl)
theorem dX5_grows_89 : decode cX5_grows 89 = .ok (.ifCond .ne 5, 3) := dk_154 0 5 (dk_at dksX5_grows_3 18 rfl rfl)
theorem dX5_grows_92 : decode cX5_grows 92 = .ok (.iconst 0, 1) := dk_3 (dk_at dksX5_grows_3 21 rfl rfl)
theorem dX5_grows_93 : decode cX5_grows 93 = .ok (.ireturn, 1) := dk_172 (dk_at dksX5_grows_3 22 rfl rfl)
theorem dX5_grows_94 : decode cX5_grows 94 = .ok (.aload_n 0, 1) := dk_42 (dk_at dksX5_grows_3 23 rfl rfl)
theorem dX5_grows_95 : decode cX5_grows 95 = .ok (.iload_n 3, 1) := dk_29 (dk_at dksX5_grows_4 0 rfl rfl)
theorem dX5_grows_96 : decode cX5_grows 96 = .ok (.invokestatic 104, 3) := dk_184 0 104 (dk_at dksX5_grows_4 1 rfl rfl)
theorem dX5_grows_99 : decode cX5_grows 99 = .ok (.istore 4, 2) := dk_54 4 (dk_at dksX5_grows_4 4 rfl rfl)
theorem dX5_grows_101 : decode cX5_grows 101 = .ok (.aload_n 0, 1) := dk_42 (dk_at dksX5_grows_4 6 rfl rfl)
theorem dX5_grows_102 : decode cX5_grows 102 = .ok (.sipush 182, 3) := dk_17 0 182 (dk_at dksX5_grows_4 7 rfl rfl)
theorem dX5_grows_105 : decode cX5_grows 105 = .ok (.aload_n 0, 1) := dk_42 (dk_at dksX5_grows_4 10 rfl rfl)
theorem dX5_grows_106 : decode cX5_grows 106 = .ok (.iload 4, 2) := dk_21 4 (dk_at dksX5_grows_4 11 rfl rfl)
theorem dX5_grows_108 : decode cX5_grows 108 = .ok (.invokestatic 100, 3) := dk_184 0 100 (dk_at dksX5_grows_4 13 rfl rfl)
theorem dX5_grows_111 : decode cX5_grows 111 = .ok (.iastore, 1) := dk_79 (dk_at dksX5_grows_4 16 rfl rfl)
theorem dX5_grows_112 : decode cX5_grows 112 = .ok (.aload_n 0, 1) := dk_42 (dk_at dksX5_grows_4 17 rfl rfl)
theorem dX5_grows_113 : decode cX5_grows 113 = .ok (.sipush 181, 3) := dk_17 0 181 (dk_at dksX5_grows_4 18 rfl rfl)
theorem dX5_grows_116 : decode cX5_grows 116 = .ok (.iload 4, 2) := dk_21 4 (dk_at dksX5_grows_4 21 rfl rfl)
theorem dX5_grows_118 : decode cX5_grows 118 = .ok (.iconst 1, 1) := dk_4 (dk_at dksX5_grows_4 23 rfl rfl)
theorem dX5_grows_119 : decode cX5_grows 119 = .ok (.iadd, 1) := dk_96 (dk_at dksX5_grows_5 0 rfl rfl)
theorem dX5_grows_120 : decode cX5_grows 120 = .ok (.iastore, 1) := dk_79 (dk_at dksX5_grows_5 1 rfl rfl)
theorem dX5_grows_121 : decode cX5_grows 121 = .ok (.iconst 1, 1) := dk_4 (dk_at dksX5_grows_5 2 rfl rfl)
theorem dX5_grows_122 : decode cX5_grows 122 = .ok (.ireturn, 1) := dk_172 (dk_at dksX5_grows_5 3 rfl rfl)
abbrev cX5_copy : ByteArray := prog_15_method_56_code
def yX5_copy : MethodName := ⟨RX5, "copy", "()I"⟩
def dkwX5_copy_4 : List UInt8 := [180, 0, 29, 3, 42, 180, 0, 29, 17, 0, 180, 46, 184, 0, 114, 172]
abbrev dktX5_copy_4 : List UInt8 := dkwX5_copy_4 ++ []
def dkwX5_copy_3 : List UInt8 := [27, 42, 180, 0, 13, 42, 180, 0, 13, 17, 0, 182, 46, 27, 96, 46, 79, 132, 1, 1, 167, 255, 220, 42]
abbrev dktX5_copy_3 : List UInt8 := dkwX5_copy_3 ++ dktX5_copy_4
def dkwX5_copy_2 : List UInt8 := [17, 0, 182, 46, 100, 79, 3, 60, 27, 42, 180, 0, 29, 17, 0, 180, 46, 162, 0, 30, 42, 180, 0, 29]
abbrev dktX5_copy_2 : List UInt8 := dkwX5_copy_2 ++ dktX5_copy_3
def dkwX5_copy_1 : List UInt8 := [153, 0, 5, 3, 172, 42, 180, 0, 29, 17, 0, 180, 42, 180, 0, 13, 17, 0, 181, 46, 42, 180, 0, 13]
abbrev dktX5_copy_1 : List UInt8 := dkwX5_copy_1 ++ dktX5_copy_2
def dkwX5_copy_0 : List UInt8 := [42, 42, 180, 0, 13, 17, 0, 182, 46, 16, 247, 160, 0, 7, 4, 167, 0, 4, 3, 182, 0, 150]
abbrev dktX5_copy_0 : List UInt8 := dkwX5_copy_0 ++ dktX5_copy_1
theorem dksX5_copy_0 : cX5_copy.data.toList.drop 0 = dktX5_copy_0 := by decide +kernel
theorem dksX5_copy_1 : cX5_copy.data.toList.drop 22 = dktX5_copy_1 := dk_seg dksX5_copy_0 22 rfl rfl
theorem dksX5_copy_2 : cX5_copy.data.toList.drop 46 = dktX5_copy_2 := dk_seg dksX5_copy_1 24 rfl rfl
theorem dksX5_copy_3 : cX5_copy.data.toList.drop 70 = dktX5_copy_3 := dk_seg dksX5_copy_2 24 rfl rfl
theorem dksX5_copy_4 : cX5_copy.data.toList.drop 94 = dktX5_copy_4 := dk_seg dksX5_copy_3 24 rfl rfl
theorem dX5_copy_0 : decode cX5_copy 0 = .ok (.aload_n 0, 1) := dk_42 (dk_at dksX5_copy_0 0 rfl rfl)
theorem dX5_copy_1 : decode cX5_copy 1 = .ok (.aload_n 0, 1) := dk_42 (dk_at dksX5_copy_0 1 rfl rfl)
theorem dX5_copy_2 : decode cX5_copy 2 = .ok (.getfield 13, 3) := dk_180 0 13 (dk_at dksX5_copy_0 2 rfl rfl)
theorem dX5_copy_5 : decode cX5_copy 5 = .ok (.sipush 182, 3) := dk_17 0 182 (dk_at dksX5_copy_0 5 rfl rfl)
theorem dX5_copy_8 : decode cX5_copy 8 = .ok (.iaload, 1) := dk_46 (dk_at dksX5_copy_0 8 rfl rfl)
theorem dX5_copy_9 : decode cX5_copy 9 = .ok (.bipush (-9), 2) := dk_16 247 (dk_at dksX5_copy_0 9 rfl rfl)
theorem dX5_copy_11 : decode cX5_copy 11 = .ok (.if_icmp .ne 7, 3) := dk_160 0 7 (dk_at dksX5_copy_0 11 rfl rfl)
theorem dX5_copy_14 : decode cX5_copy 14 = .ok (.iconst 1, 1) := dk_4 (dk_at dksX5_copy_0 14 rfl rfl)
theorem dX5_copy_15 : decode cX5_copy 15 = .ok (.goto 4, 3) := dk_167 0 4 (dk_at dksX5_copy_0 15 rfl rfl)
theorem dX5_copy_18 : decode cX5_copy 18 = .ok (.iconst 0, 1) := dk_3 (dk_at dksX5_copy_0 18 rfl rfl)
theorem dX5_copy_19 : decode cX5_copy 19 = .ok (.invokevirtual 150, 3) := dk_182 0 150 (dk_at dksX5_copy_0 19 rfl rfl)
theorem dX5_copy_22 : decode cX5_copy 22 = .ok (.ifCond .eq 5, 3) := dk_153 0 5 (dk_at dksX5_copy_1 0 rfl rfl)
theorem dX5_copy_25 : decode cX5_copy 25 = .ok (.iconst 0, 1) := dk_3 (dk_at dksX5_copy_1 3 rfl rfl)
theorem dX5_copy_26 : decode cX5_copy 26 = .ok (.ireturn, 1) := dk_172 (dk_at dksX5_copy_1 4 rfl rfl)
theorem dX5_copy_27 : decode cX5_copy 27 = .ok (.aload_n 0, 1) := dk_42 (dk_at dksX5_copy_1 5 rfl rfl)
theorem dX5_copy_28 : decode cX5_copy 28 = .ok (.getfield 29, 3) := dk_180 0 29 (dk_at dksX5_copy_1 6 rfl rfl)
theorem dX5_copy_31 : decode cX5_copy 31 = .ok (.sipush 180, 3) := dk_17 0 180 (dk_at dksX5_copy_1 9 rfl rfl)
theorem dX5_copy_34 : decode cX5_copy 34 = .ok (.aload_n 0, 1) := dk_42 (dk_at dksX5_copy_1 12 rfl rfl)
theorem dX5_copy_35 : decode cX5_copy 35 = .ok (.getfield 13, 3) := dk_180 0 13 (dk_at dksX5_copy_1 13 rfl rfl)
theorem dX5_copy_38 : decode cX5_copy 38 = .ok (.sipush 181, 3) := dk_17 0 181 (dk_at dksX5_copy_1 16 rfl rfl)
theorem dX5_copy_41 : decode cX5_copy 41 = .ok (.iaload, 1) := dk_46 (dk_at dksX5_copy_1 19 rfl rfl)
theorem dX5_copy_42 : decode cX5_copy 42 = .ok (.aload_n 0, 1) := dk_42 (dk_at dksX5_copy_1 20 rfl rfl)
theorem dX5_copy_43 : decode cX5_copy 43 = .ok (.getfield 13, 3) := dk_180 0 13 (dk_at dksX5_copy_1 21 rfl rfl)
theorem dX5_copy_46 : decode cX5_copy 46 = .ok (.sipush 182, 3) := dk_17 0 182 (dk_at dksX5_copy_2 0 rfl rfl)
theorem dX5_copy_49 : decode cX5_copy 49 = .ok (.iaload, 1) := dk_46 (dk_at dksX5_copy_2 3 rfl rfl)
theorem dX5_copy_50 : decode cX5_copy 50 = .ok (.isub, 1) := dk_100 (dk_at dksX5_copy_2 4 rfl rfl)
theorem dX5_copy_51 : decode cX5_copy 51 = .ok (.iastore, 1) := dk_79 (dk_at dksX5_copy_2 5 rfl rfl)
theorem dX5_copy_52 : decode cX5_copy 52 = .ok (.iconst 0, 1) := dk_3 (dk_at dksX5_copy_2 6 rfl rfl)
theorem dX5_copy_53 : decode cX5_copy 53 = .ok (.istore_n 1, 1) := dk_60 (dk_at dksX5_copy_2 7 rfl rfl)
theorem dX5_copy_54 : decode cX5_copy 54 = .ok (.iload_n 1, 1) := dk_27 (dk_at dksX5_copy_2 8 rfl rfl)
theorem dX5_copy_55 : decode cX5_copy 55 = .ok (.aload_n 0, 1) := dk_42 (dk_at dksX5_copy_2 9 rfl rfl)
theorem dX5_copy_56 : decode cX5_copy 56 = .ok (.getfield 29, 3) := dk_180 0 29 (dk_at dksX5_copy_2 10 rfl rfl)
theorem dX5_copy_59 : decode cX5_copy 59 = .ok (.sipush 180, 3) := dk_17 0 180 (dk_at dksX5_copy_2 13 rfl rfl)
theorem dX5_copy_62 : decode cX5_copy 62 = .ok (.iaload, 1) := dk_46 (dk_at dksX5_copy_2 16 rfl rfl)
theorem dX5_copy_63 : decode cX5_copy 63 = .ok (.if_icmp .ge 30, 3) := dk_162 0 30 (dk_at dksX5_copy_2 17 rfl rfl)
theorem dX5_copy_66 : decode cX5_copy 66 = .ok (.aload_n 0, 1) := dk_42 (dk_at dksX5_copy_2 20 rfl rfl)
theorem dX5_copy_67 : decode cX5_copy 67 = .ok (.getfield 29, 3) := dk_180 0 29 (dk_at dksX5_copy_2 21 rfl rfl)
theorem dX5_copy_70 : decode cX5_copy 70 = .ok (.iload_n 1, 1) := dk_27 (dk_at dksX5_copy_3 0 rfl rfl)
theorem dX5_copy_71 : decode cX5_copy 71 = .ok (.aload_n 0, 1) := dk_42 (dk_at dksX5_copy_3 1 rfl rfl)
theorem dX5_copy_72 : decode cX5_copy 72 = .ok (.getfield 13, 3) := dk_180 0 13 (dk_at dksX5_copy_3 2 rfl rfl)
theorem dX5_copy_75 : decode cX5_copy 75 = .ok (.aload_n 0, 1) := dk_42 (dk_at dksX5_copy_3 5 rfl rfl)
theorem dX5_copy_76 : decode cX5_copy 76 = .ok (.getfield 13, 3) := dk_180 0 13 (dk_at dksX5_copy_3 6 rfl rfl)
theorem dX5_copy_79 : decode cX5_copy 79 = .ok (.sipush 182, 3) := dk_17 0 182 (dk_at dksX5_copy_3 9 rfl rfl)
theorem dX5_copy_82 : decode cX5_copy 82 = .ok (.iaload, 1) := dk_46 (dk_at dksX5_copy_3 12 rfl rfl)
theorem dX5_copy_83 : decode cX5_copy 83 = .ok (.iload_n 1, 1) := dk_27 (dk_at dksX5_copy_3 13 rfl rfl)
theorem dX5_copy_84 : decode cX5_copy 84 = .ok (.iadd, 1) := dk_96 (dk_at dksX5_copy_3 14 rfl rfl)
theorem dX5_copy_85 : decode cX5_copy 85 = .ok (.iaload, 1) := dk_46 (dk_at dksX5_copy_3 15 rfl rfl)
theorem dX5_copy_86 : decode cX5_copy 86 = .ok (.iastore, 1) := dk_79 (dk_at dksX5_copy_3 16 rfl rfl)
theorem dX5_copy_87 : decode cX5_copy 87 = .ok (.iinc 1 1, 3) := dk_132 1 1 (dk_at dksX5_copy_3 17 rfl rfl)
theorem dX5_copy_90 : decode cX5_copy 90 = .ok (.goto (-36), 3) := dk_167 255 220 (dk_at dksX5_copy_3 20 rfl rfl)
theorem dX5_copy_93 : decode cX5_copy 93 = .ok (.aload_n 0, 1) := dk_42 (dk_at dksX5_copy_3 23 rfl rfl)
theorem dX5_copy_94 : decode cX5_copy 94 = .ok (.getfield 29, 3) := dk_180 0 29 (dk_at dksX5_copy_4 0 rfl rfl)
theorem dX5_copy_97 : decode cX5_copy 97 = .ok (.iconst 0, 1) := dk_3 (dk_at dksX5_copy_4 3 rfl rfl)
theorem dX5_copy_98 : decode cX5_copy 98 = .ok (.aload_n 0, 1) := dk_42 (dk_at dksX5_copy_4 4 rfl rfl)
theorem dX5_copy_99 : decode cX5_copy 99 = .ok (.getfield 29, 3) := dk_180 0 29 (dk_at dksX5_copy_4 5 rfl rfl)
theorem dX5_copy_102 : decode cX5_copy 102 = .ok (.sipush 180, 3) := dk_17 0 180 (dk_at dksX5_copy_4 8 rfl rfl)
theorem dX5_copy_105 : decode cX5_copy 105 = .ok (.iaload, 1) := dk_46 (dk_at dksX5_copy_4 11 rfl rfl)
theorem dX5_copy_106 : decode cX5_copy 106 = .ok (.invokestatic 114, 3) := dk_184 0 114 (dk_at dksX5_copy_4 12 rfl rfl)
theorem dX5_copy_109 : decode cX5_copy 109 = .ok (.ireturn, 1) := dk_172 (dk_at dksX5_copy_4 15 rfl rfl)
abbrev cX5_type : ByteArray := prog_15_method_59_code
def yX5_type : MethodName := ⟨RX5, "type", "(I)I"⟩
def dkwX5_type_3 : List UInt8 := [184, 0, 114, 172]
abbrev dktX5_type_3 : List UInt8 := dkwX5_type_3 ++ []
def dkwX5_type_2 : List UInt8 := [153, 0, 5, 3, 172, 42, 182, 0, 237, 42, 180, 0, 13, 3, 42, 180, 0, 13, 17, 0, 180, 46]
abbrev dktX5_type_2 : List UInt8 := dkwX5_type_2 ++ dktX5_type_3
def dkwX5_type_1 : List UInt8 := [167, 0, 19, 42, 180, 0, 16, 27, 184, 0, 233, 153, 0, 7, 3, 167, 0, 4, 5, 182, 0, 150]
abbrev dktX5_type_1 : List UInt8 := dkwX5_type_1 ++ dktX5_type_2
def dkwX5_type_0 : List UInt8 := [42, 180, 0, 13, 3, 42, 180, 0, 16, 3, 184, 0, 226, 42, 27, 184, 0, 118, 154, 0, 7, 4]
abbrev dktX5_type_0 : List UInt8 := dkwX5_type_0 ++ dktX5_type_1
theorem dksX5_type_0 : cX5_type.data.toList.drop 0 = dktX5_type_0 := by decide +kernel
theorem dksX5_type_1 : cX5_type.data.toList.drop 22 = dktX5_type_1 := dk_seg dksX5_type_0 22 rfl rfl
theorem dksX5_type_2 : cX5_type.data.toList.drop 44 = dktX5_type_2 := dk_seg dksX5_type_1 22 rfl rfl
theorem dksX5_type_3 : cX5_type.data.toList.drop 66 = dktX5_type_3 := dk_seg dksX5_type_2 22 rfl rfl
theorem dX5_type_0 : decode cX5_type 0 = .ok (.aload_n 0, 1) := dk_42 (dk_at dksX5_type_0 0 rfl rfl)
theorem dX5_type_1 : decode cX5_type 1 = .ok (.getfield 13, 3) := dk_180 0 13 (dk_at dksX5_type_0 1 rfl rfl)
theorem dX5_type_4 : decode cX5_type 4 = .ok (.iconst 0, 1) := dk_3 (dk_at dksX5_type_0 4 rfl rfl)
theorem dX5_type_5 : decode cX5_type 5 = .ok (.aload_n 0, 1) := dk_42 (dk_at dksX5_type_0 5 rfl rfl)
theorem dX5_type_6 : decode cX5_type 6 = .ok (.getfield 16, 3) := dk_180 0 16 (dk_at dksX5_type_0 6 rfl rfl)
theorem dX5_type_9 : decode cX5_type 9 = .ok (.iconst 0, 1) := dk_3 (dk_at dksX5_type_0 9 rfl rfl)
theorem dX5_type_10 : decode cX5_type 10 = .ok (.invokestatic 226, 3) := dk_184 0 226 (dk_at dksX5_type_0 10 rfl rfl)
theorem dX5_type_13 : decode cX5_type 13 = .ok (.aload_n 0, 1) := dk_42 (dk_at dksX5_type_0 13 rfl rfl)
theorem dX5_type_14 : decode cX5_type 14 = .ok (.iload_n 1, 1) := dk_27 (dk_at dksX5_type_0 14 rfl rfl)
theorem dX5_type_15 : decode cX5_type 15 = .ok (.invokestatic 118, 3) := dk_184 0 118 (dk_at dksX5_type_0 15 rfl rfl)
theorem dX5_type_18 : decode cX5_type 18 = .ok (.ifCond .ne 7, 3) := dk_154 0 7 (dk_at dksX5_type_0 18 rfl rfl)
theorem dX5_type_21 : decode cX5_type 21 = .ok (.iconst 1, 1) := dk_4 (dk_at dksX5_type_0 21 rfl rfl)
theorem dX5_type_22 : decode cX5_type 22 = .ok (.goto 19, 3) := dk_167 0 19 (dk_at dksX5_type_1 0 rfl rfl)
theorem dX5_type_25 : decode cX5_type 25 = .ok (.aload_n 0, 1) := dk_42 (dk_at dksX5_type_1 3 rfl rfl)
theorem dX5_type_26 : decode cX5_type 26 = .ok (.getfield 16, 3) := dk_180 0 16 (dk_at dksX5_type_1 4 rfl rfl)
theorem dX5_type_29 : decode cX5_type 29 = .ok (.iload_n 1, 1) := dk_27 (dk_at dksX5_type_1 7 rfl rfl)
theorem dX5_type_30 : decode cX5_type 30 = .ok (.invokestatic 233, 3) := dk_184 0 233 (dk_at dksX5_type_1 8 rfl rfl)
theorem dX5_type_33 : decode cX5_type 33 = .ok (.ifCond .eq 7, 3) := dk_153 0 7 (dk_at dksX5_type_1 11 rfl rfl)
theorem dX5_type_36 : decode cX5_type 36 = .ok (.iconst 0, 1) := dk_3 (dk_at dksX5_type_1 14 rfl rfl)
theorem dX5_type_37 : decode cX5_type 37 = .ok (.goto 4, 3) := dk_167 0 4 (dk_at dksX5_type_1 15 rfl rfl)
theorem dX5_type_40 : decode cX5_type 40 = .ok (.iconst 2, 1) := dk_5 (dk_at dksX5_type_1 18 rfl rfl)
theorem dX5_type_41 : decode cX5_type 41 = .ok (.invokevirtual 150, 3) := dk_182 0 150 (dk_at dksX5_type_1 19 rfl rfl)
theorem dX5_type_44 : decode cX5_type 44 = .ok (.ifCond .eq 5, 3) := dk_153 0 5 (dk_at dksX5_type_2 0 rfl rfl)
theorem dX5_type_47 : decode cX5_type 47 = .ok (.iconst 0, 1) := dk_3 (dk_at dksX5_type_2 3 rfl rfl)
theorem dX5_type_48 : decode cX5_type 48 = .ok (.ireturn, 1) := dk_172 (dk_at dksX5_type_2 4 rfl rfl)
theorem dX5_type_49 : decode cX5_type 49 = .ok (.aload_n 0, 1) := dk_42 (dk_at dksX5_type_2 5 rfl rfl)
theorem dX5_type_50 : decode cX5_type 50 = .ok (.invokevirtual 237, 3) := dk_182 0 237 (dk_at dksX5_type_2 6 rfl rfl)
theorem dX5_type_53 : decode cX5_type 53 = .ok (.aload_n 0, 1) := dk_42 (dk_at dksX5_type_2 9 rfl rfl)
theorem dX5_type_54 : decode cX5_type 54 = .ok (.getfield 13, 3) := dk_180 0 13 (dk_at dksX5_type_2 10 rfl rfl)
theorem dX5_type_57 : decode cX5_type 57 = .ok (.iconst 0, 1) := dk_3 (dk_at dksX5_type_2 13 rfl rfl)
theorem dX5_type_58 : decode cX5_type 58 = .ok (.aload_n 0, 1) := dk_42 (dk_at dksX5_type_2 14 rfl rfl)
theorem dX5_type_59 : decode cX5_type 59 = .ok (.getfield 13, 3) := dk_180 0 13 (dk_at dksX5_type_2 15 rfl rfl)
theorem dX5_type_62 : decode cX5_type 62 = .ok (.sipush 180, 3) := dk_17 0 180 (dk_at dksX5_type_2 18 rfl rfl)
theorem dX5_type_65 : decode cX5_type 65 = .ok (.iaload, 1) := dk_46 (dk_at dksX5_type_2 21 rfl rfl)
theorem dX5_type_66 : decode cX5_type 66 = .ok (.invokestatic 114, 3) := dk_184 0 114 (dk_at dksX5_type_3 0 rfl rfl)
theorem dX5_type_69 : decode cX5_type 69 = .ok (.ireturn, 1) := dk_172 (dk_at dksX5_type_3 3 rfl rfl)
abbrev cX5_copyPage : ByteArray := prog_15_method_5_code
def yX5_copyPage : MethodName := ⟨RX5, "copyPage", "([II[II)V"⟩
def dkwX5_copyPage_1 : List UInt8 := [132, 4, 1, 167, 255, 233, 177]
abbrev dktX5_copyPage_1 : List UInt8 := dkwX5_copyPage_1 ++ []
def dkwX5_copyPage_0 : List UInt8 := [3, 54, 4, 21, 4, 17, 0, 184, 162, 0, 21, 44, 29, 21, 4, 96, 42, 27, 21, 4, 96, 46, 79]
abbrev dktX5_copyPage_0 : List UInt8 := dkwX5_copyPage_0 ++ dktX5_copyPage_1
theorem dksX5_copyPage_0 : cX5_copyPage.data.toList.drop 0 = dktX5_copyPage_0 := by decide +kernel
theorem dksX5_copyPage_1 : cX5_copyPage.data.toList.drop 23 = dktX5_copyPage_1 := dk_seg dksX5_copyPage_0 23 rfl rfl
theorem dX5_copyPage_0 : decode cX5_copyPage 0 = .ok (.iconst 0, 1) := dk_3 (dk_at dksX5_copyPage_0 0 rfl rfl)
theorem dX5_copyPage_1 : decode cX5_copyPage 1 = .ok (.istore 4, 2) := dk_54 4 (dk_at dksX5_copyPage_0 1 rfl rfl)
theorem dX5_copyPage_3 : decode cX5_copyPage 3 = .ok (.iload 4, 2) := dk_21 4 (dk_at dksX5_copyPage_0 3 rfl rfl)
theorem dX5_copyPage_5 : decode cX5_copyPage 5 = .ok (.sipush 184, 3) := dk_17 0 184 (dk_at dksX5_copyPage_0 5 rfl rfl)
theorem dX5_copyPage_8 : decode cX5_copyPage 8 = .ok (.if_icmp .ge 21, 3) := dk_162 0 21 (dk_at dksX5_copyPage_0 8 rfl rfl)
theorem dX5_copyPage_11 : decode cX5_copyPage 11 = .ok (.aload_n 2, 1) := dk_44 (dk_at dksX5_copyPage_0 11 rfl rfl)
theorem dX5_copyPage_12 : decode cX5_copyPage 12 = .ok (.iload_n 3, 1) := dk_29 (dk_at dksX5_copyPage_0 12 rfl rfl)
theorem dX5_copyPage_13 : decode cX5_copyPage 13 = .ok (.iload 4, 2) := dk_21 4 (dk_at dksX5_copyPage_0 13 rfl rfl)
theorem dX5_copyPage_15 : decode cX5_copyPage 15 = .ok (.iadd, 1) := dk_96 (dk_at dksX5_copyPage_0 15 rfl rfl)
theorem dX5_copyPage_16 : decode cX5_copyPage 16 = .ok (.aload_n 0, 1) := dk_42 (dk_at dksX5_copyPage_0 16 rfl rfl)
theorem dX5_copyPage_17 : decode cX5_copyPage 17 = .ok (.iload_n 1, 1) := dk_27 (dk_at dksX5_copyPage_0 17 rfl rfl)
theorem dX5_copyPage_18 : decode cX5_copyPage 18 = .ok (.iload 4, 2) := dk_21 4 (dk_at dksX5_copyPage_0 18 rfl rfl)
theorem dX5_copyPage_20 : decode cX5_copyPage 20 = .ok (.iadd, 1) := dk_96 (dk_at dksX5_copyPage_0 20 rfl rfl)
theorem dX5_copyPage_21 : decode cX5_copyPage 21 = .ok (.iaload, 1) := dk_46 (dk_at dksX5_copyPage_0 21 rfl rfl)
theorem dX5_copyPage_22 : decode cX5_copyPage 22 = .ok (.iastore, 1) := dk_79 (dk_at dksX5_copyPage_0 22 rfl rfl)
theorem dX5_copyPage_23 : decode cX5_copyPage 23 = .ok (.iinc 4 1, 3) := dk_132 4 1 (dk_at dksX5_copyPage_1 0 rfl rfl)
theorem dX5_copyPage_26 : decode cX5_copyPage 26 = .ok (.goto (-23), 3) := dk_167 255 233 (dk_at dksX5_copyPage_1 3 rfl rfl)
theorem dX5_copyPage_29 : decode cX5_copyPage 29 = .ok (.return_, 1) := dk_177 (dk_at dksX5_copyPage_1 6 rfl rfl)
abbrev cX5_isSymbol : ByteArray := prog_15_method_9_code
def yX5_isSymbol : MethodName := ⟨RX5, "isSymbol", "(I)Z"⟩
def dkwX5_isSymbol_1 : List UInt8 := [167, 0, 4, 3, 172]
abbrev dktX5_isSymbol_1 : List UInt8 := dkwX5_isSymbol_1 ++ []
def dkwX5_isSymbol_0 : List UInt8 := [26, 184, 0, 87, 154, 0, 17, 26, 184, 0, 91, 154, 0, 10, 26, 184, 0, 94, 153, 0, 7, 4]
abbrev dktX5_isSymbol_0 : List UInt8 := dkwX5_isSymbol_0 ++ dktX5_isSymbol_1
theorem dksX5_isSymbol_0 : cX5_isSymbol.data.toList.drop 0 = dktX5_isSymbol_0 := by decide +kernel
theorem dksX5_isSymbol_1 : cX5_isSymbol.data.toList.drop 22 = dktX5_isSymbol_1 := dk_seg dksX5_isSymbol_0 22 rfl rfl
theorem dX5_isSymbol_0 : decode cX5_isSymbol 0 = .ok (.iload_n 0, 1) := dk_26 (dk_at dksX5_isSymbol_0 0 rfl rfl)
theorem dX5_isSymbol_1 : decode cX5_isSymbol 1 = .ok (.invokestatic 87, 3) := dk_184 0 87 (dk_at dksX5_isSymbol_0 1 rfl rfl)
theorem dX5_isSymbol_4 : decode cX5_isSymbol 4 = .ok (.ifCond .ne 17, 3) := dk_154 0 17 (dk_at dksX5_isSymbol_0 4 rfl rfl)
theorem dX5_isSymbol_7 : decode cX5_isSymbol 7 = .ok (.iload_n 0, 1) := dk_26 (dk_at dksX5_isSymbol_0 7 rfl rfl)
theorem dX5_isSymbol_8 : decode cX5_isSymbol 8 = .ok (.invokestatic 91, 3) := dk_184 0 91 (dk_at dksX5_isSymbol_0 8 rfl rfl)
theorem dX5_isSymbol_11 : decode cX5_isSymbol 11 = .ok (.ifCond .ne 10, 3) := dk_154 0 10 (dk_at dksX5_isSymbol_0 11 rfl rfl)
theorem dX5_isSymbol_14 : decode cX5_isSymbol 14 = .ok (.iload_n 0, 1) := dk_26 (dk_at dksX5_isSymbol_0 14 rfl rfl)
theorem dX5_isSymbol_15 : decode cX5_isSymbol 15 = .ok (.invokestatic 94, 3) := dk_184 0 94 (dk_at dksX5_isSymbol_0 15 rfl rfl)
theorem dX5_isSymbol_18 : decode cX5_isSymbol 18 = .ok (.ifCond .eq 7, 3) := dk_153 0 7 (dk_at dksX5_isSymbol_0 18 rfl rfl)
theorem dX5_isSymbol_21 : decode cX5_isSymbol 21 = .ok (.iconst 1, 1) := dk_4 (dk_at dksX5_isSymbol_0 21 rfl rfl)
theorem dX5_isSymbol_22 : decode cX5_isSymbol 22 = .ok (.goto 4, 3) := dk_167 0 4 (dk_at dksX5_isSymbol_1 0 rfl rfl)
theorem dX5_isSymbol_25 : decode cX5_isSymbol 25 = .ok (.iconst 0, 1) := dk_3 (dk_at dksX5_isSymbol_1 3 rfl rfl)
theorem dX5_isSymbol_26 : decode cX5_isSymbol 26 = .ok (.ireturn, 1) := dk_172 (dk_at dksX5_isSymbol_1 4 rfl rfl)
abbrev cX5_types : ByteArray := prog_15_method_24_code
def yX5_types : MethodName := ⟨RX5, "types", "([II)Z"⟩
def dkwX5_types_3 : List UInt8 := [17, 0, 181, 92, 46, 4, 96, 79, 4, 172]
abbrev dktX5_types_3 : List UInt8 := dkwX5_types_3 ++ []
def dkwX5_types_2 : List UInt8 := [16, 60, 160, 0, 5, 3, 172, 42, 184, 0, 121, 42, 42, 17, 0, 181, 46, 27, 184, 0, 125, 42]
abbrev dktX5_types_2 : List UInt8 := dkwX5_types_2 ++ dktX5_types_3
def dkwX5_types_1 : List UInt8 := [46, 184, 0, 114, 61, 27, 184, 0, 118, 153, 0, 20, 42, 3, 42, 17, 0, 180, 46, 184, 0, 114, 28, 100]
abbrev dktX5_types_1 : List UInt8 := dkwX5_types_1 ++ dktX5_types_2
def dkwX5_types_0 : List UInt8 := [42, 17, 0, 182, 46, 16, 247, 160, 0, 7, 3, 167, 0, 17, 42, 42, 17, 0, 182, 46, 42, 17, 0, 181]
abbrev dktX5_types_0 : List UInt8 := dkwX5_types_0 ++ dktX5_types_1
theorem dksX5_types_0 : cX5_types.data.toList.drop 0 = dktX5_types_0 := by decide +kernel
theorem dksX5_types_1 : cX5_types.data.toList.drop 24 = dktX5_types_1 := dk_seg dksX5_types_0 24 rfl rfl
theorem dksX5_types_2 : cX5_types.data.toList.drop 48 = dktX5_types_2 := dk_seg dksX5_types_1 24 rfl rfl
theorem dksX5_types_3 : cX5_types.data.toList.drop 70 = dktX5_types_3 := dk_seg dksX5_types_2 22 rfl rfl
theorem dX5_types_0 : decode cX5_types 0 = .ok (.aload_n 0, 1) := dk_42 (dk_at dksX5_types_0 0 rfl rfl)
theorem dX5_types_1 : decode cX5_types 1 = .ok (.sipush 182, 3) := dk_17 0 182 (dk_at dksX5_types_0 1 rfl rfl)
theorem dX5_types_4 : decode cX5_types 4 = .ok (.iaload, 1) := dk_46 (dk_at dksX5_types_0 4 rfl rfl)
theorem dX5_types_5 : decode cX5_types 5 = .ok (.bipush (-9), 2) := dk_16 247 (dk_at dksX5_types_0 5 rfl rfl)
theorem dX5_types_7 : decode cX5_types 7 = .ok (.if_icmp .ne 7, 3) := dk_160 0 7 (dk_at dksX5_types_0 7 rfl rfl)
theorem dX5_types_10 : decode cX5_types 10 = .ok (.iconst 0, 1) := dk_3 (dk_at dksX5_types_0 10 rfl rfl)
theorem dX5_types_11 : decode cX5_types 11 = .ok (.goto 17, 3) := dk_167 0 17 (dk_at dksX5_types_0 11 rfl rfl)
theorem dX5_types_14 : decode cX5_types 14 = .ok (.aload_n 0, 1) := dk_42 (dk_at dksX5_types_0 14 rfl rfl)
theorem dX5_types_15 : decode cX5_types 15 = .ok (.aload_n 0, 1) := dk_42 (dk_at dksX5_types_0 15 rfl rfl)
theorem dX5_types_16 : decode cX5_types 16 = .ok (.sipush 182, 3) := dk_17 0 182 (dk_at dksX5_types_0 16 rfl rfl)
theorem dX5_types_19 : decode cX5_types 19 = .ok (.iaload, 1) := dk_46 (dk_at dksX5_types_0 19 rfl rfl)
theorem dX5_types_20 : decode cX5_types 20 = .ok (.aload_n 0, 1) := dk_42 (dk_at dksX5_types_0 20 rfl rfl)
theorem dX5_types_21 : decode cX5_types 21 = .ok (.sipush 181, 3) := dk_17 0 181 (dk_at dksX5_types_0 21 rfl rfl)
theorem dX5_types_24 : decode cX5_types 24 = .ok (.iaload, 1) := dk_46 (dk_at dksX5_types_1 0 rfl rfl)
theorem dX5_types_25 : decode cX5_types 25 = .ok (.invokestatic 114, 3) := dk_184 0 114 (dk_at dksX5_types_1 1 rfl rfl)
theorem dX5_types_28 : decode cX5_types 28 = .ok (.istore_n 2, 1) := dk_61 (dk_at dksX5_types_1 4 rfl rfl)
theorem dX5_types_29 : decode cX5_types 29 = .ok (.iload_n 1, 1) := dk_27 (dk_at dksX5_types_1 5 rfl rfl)
theorem dX5_types_30 : decode cX5_types 30 = .ok (.invokestatic 118, 3) := dk_184 0 118 (dk_at dksX5_types_1 6 rfl rfl)
theorem dX5_types_33 : decode cX5_types 33 = .ok (.ifCond .eq 20, 3) := dk_153 0 20 (dk_at dksX5_types_1 9 rfl rfl)
theorem dX5_types_36 : decode cX5_types 36 = .ok (.aload_n 0, 1) := dk_42 (dk_at dksX5_types_1 12 rfl rfl)
theorem dX5_types_37 : decode cX5_types 37 = .ok (.iconst 0, 1) := dk_3 (dk_at dksX5_types_1 13 rfl rfl)
theorem dX5_types_38 : decode cX5_types 38 = .ok (.aload_n 0, 1) := dk_42 (dk_at dksX5_types_1 14 rfl rfl)
theorem dX5_types_39 : decode cX5_types 39 = .ok (.sipush 180, 3) := dk_17 0 180 (dk_at dksX5_types_1 15 rfl rfl)
theorem dX5_types_42 : decode cX5_types 42 = .ok (.iaload, 1) := dk_46 (dk_at dksX5_types_1 18 rfl rfl)
theorem dX5_types_43 : decode cX5_types 43 = .ok (.invokestatic 114, 3) := dk_184 0 114 (dk_at dksX5_types_1 19 rfl rfl)
theorem dX5_types_46 : decode cX5_types 46 = .ok (.iload_n 2, 1) := dk_28 (dk_at dksX5_types_1 22 rfl rfl)
theorem dX5_types_47 : decode cX5_types 47 = .ok (.isub, 1) := dk_100 (dk_at dksX5_types_1 23 rfl rfl)
theorem dX5_types_48 : decode cX5_types 48 = .ok (.bipush 60, 2) := dk_16 60 (dk_at dksX5_types_2 0 rfl rfl)
theorem dX5_types_50 : decode cX5_types 50 = .ok (.if_icmp .ne 5, 3) := dk_160 0 5 (dk_at dksX5_types_2 2 rfl rfl)
theorem dX5_types_53 : decode cX5_types 53 = .ok (.iconst 0, 1) := dk_3 (dk_at dksX5_types_2 5 rfl rfl)
theorem dX5_types_54 : decode cX5_types 54 = .ok (.ireturn, 1) := dk_172 (dk_at dksX5_types_2 6 rfl rfl)
theorem dX5_types_55 : decode cX5_types 55 = .ok (.aload_n 0, 1) := dk_42 (dk_at dksX5_types_2 7 rfl rfl)
theorem dX5_types_56 : decode cX5_types 56 = .ok (.invokestatic 121, 3) := dk_184 0 121 (dk_at dksX5_types_2 8 rfl rfl)
theorem dX5_types_59 : decode cX5_types 59 = .ok (.aload_n 0, 1) := dk_42 (dk_at dksX5_types_2 11 rfl rfl)
theorem dX5_types_60 : decode cX5_types 60 = .ok (.aload_n 0, 1) := dk_42 (dk_at dksX5_types_2 12 rfl rfl)
theorem dX5_types_61 : decode cX5_types 61 = .ok (.sipush 181, 3) := dk_17 0 181 (dk_at dksX5_types_2 13 rfl rfl)
theorem dX5_types_64 : decode cX5_types 64 = .ok (.iaload, 1) := dk_46 (dk_at dksX5_types_2 16 rfl rfl)
theorem dX5_types_65 : decode cX5_types 65 = .ok (.iload_n 1, 1) := dk_27 (dk_at dksX5_types_2 17 rfl rfl)
theorem dX5_types_66 : decode cX5_types 66 = .ok (.invokestatic 125, 3) := dk_184 0 125 (dk_at dksX5_types_2 18 rfl rfl)
theorem dX5_types_69 : decode cX5_types 69 = .ok (.aload_n 0, 1) := dk_42 (dk_at dksX5_types_2 21 rfl rfl)
theorem dX5_types_70 : decode cX5_types 70 = .ok (.sipush 181, 3) := dk_17 0 181 (dk_at dksX5_types_3 0 rfl rfl)
theorem dX5_types_73 : decode cX5_types 73 = .ok (.dup2, 1) := dk_92 (dk_at dksX5_types_3 3 rfl rfl)
theorem dX5_types_74 : decode cX5_types 74 = .ok (.iaload, 1) := dk_46 (dk_at dksX5_types_3 4 rfl rfl)
theorem dX5_types_75 : decode cX5_types 75 = .ok (.iconst 1, 1) := dk_4 (dk_at dksX5_types_3 5 rfl rfl)
theorem dX5_types_76 : decode cX5_types 76 = .ok (.iadd, 1) := dk_96 (dk_at dksX5_types_3 6 rfl rfl)
theorem dX5_types_77 : decode cX5_types 77 = .ok (.iastore, 1) := dk_79 (dk_at dksX5_types_3 7 rfl rfl)
theorem dX5_types_78 : decode cX5_types 78 = .ok (.iconst 1, 1) := dk_4 (dk_at dksX5_types_3 8 rfl rfl)
theorem dX5_types_79 : decode cX5_types 79 = .ok (.ireturn, 1) := dk_172 (dk_at dksX5_types_3 9 rfl rfl)
abbrev cX5_clear : ByteArray := prog_15_method_23_code
def yX5_clear : MethodName := ⟨RX5, "clear", "([I)V"⟩
def dkwX5_clear_1 : List UInt8 := [42, 17, 0, 181, 42, 17, 0, 182, 46, 79, 42, 17, 0, 182, 16, 247, 79, 177]
abbrev dktX5_clear_1 : List UInt8 := dkwX5_clear_1 ++ []
def dkwX5_clear_0 : List UInt8 := [42, 17, 0, 182, 46, 16, 247, 159, 0, 34, 42, 42, 17, 0, 182, 46, 42, 17, 0, 181, 46, 184, 0, 110]
abbrev dktX5_clear_0 : List UInt8 := dkwX5_clear_0 ++ dktX5_clear_1
theorem dksX5_clear_0 : cX5_clear.data.toList.drop 0 = dktX5_clear_0 := by decide +kernel
theorem dksX5_clear_1 : cX5_clear.data.toList.drop 24 = dktX5_clear_1 := dk_seg dksX5_clear_0 24 rfl rfl
theorem dX5_clear_0 : decode cX5_clear 0 = .ok (.aload_n 0, 1) := dk_42 (dk_at dksX5_clear_0 0 rfl rfl)
theorem dX5_clear_1 : decode cX5_clear 1 = .ok (.sipush 182, 3) := dk_17 0 182 (dk_at dksX5_clear_0 1 rfl rfl)
theorem dX5_clear_4 : decode cX5_clear 4 = .ok (.iaload, 1) := dk_46 (dk_at dksX5_clear_0 4 rfl rfl)
theorem dX5_clear_5 : decode cX5_clear 5 = .ok (.bipush (-9), 2) := dk_16 247 (dk_at dksX5_clear_0 5 rfl rfl)
theorem dX5_clear_7 : decode cX5_clear 7 = .ok (.if_icmp .eq 34, 3) := dk_159 0 34 (dk_at dksX5_clear_0 7 rfl rfl)
theorem dX5_clear_10 : decode cX5_clear 10 = .ok (.aload_n 0, 1) := dk_42 (dk_at dksX5_clear_0 10 rfl rfl)
theorem dX5_clear_11 : decode cX5_clear 11 = .ok (.aload_n 0, 1) := dk_42 (dk_at dksX5_clear_0 11 rfl rfl)
theorem dX5_clear_12 : decode cX5_clear 12 = .ok (.sipush 182, 3) := dk_17 0 182 (dk_at dksX5_clear_0 12 rfl rfl)
theorem dX5_clear_15 : decode cX5_clear 15 = .ok (.iaload, 1) := dk_46 (dk_at dksX5_clear_0 15 rfl rfl)
theorem dX5_clear_16 : decode cX5_clear 16 = .ok (.aload_n 0, 1) := dk_42 (dk_at dksX5_clear_0 16 rfl rfl)
theorem dX5_clear_17 : decode cX5_clear 17 = .ok (.sipush 181, 3) := dk_17 0 181 (dk_at dksX5_clear_0 17 rfl rfl)
theorem dX5_clear_20 : decode cX5_clear 20 = .ok (.iaload, 1) := dk_46 (dk_at dksX5_clear_0 20 rfl rfl)
theorem dX5_clear_21 : decode cX5_clear 21 = .ok (.invokestatic 110, 3) := dk_184 0 110 (dk_at dksX5_clear_0 21 rfl rfl)
theorem dX5_clear_24 : decode cX5_clear 24 = .ok (.aload_n 0, 1) := dk_42 (dk_at dksX5_clear_1 0 rfl rfl)
theorem dX5_clear_25 : decode cX5_clear 25 = .ok (.sipush 181, 3) := dk_17 0 181 (dk_at dksX5_clear_1 1 rfl rfl)
theorem dX5_clear_28 : decode cX5_clear 28 = .ok (.aload_n 0, 1) := dk_42 (dk_at dksX5_clear_1 4 rfl rfl)
theorem dX5_clear_29 : decode cX5_clear 29 = .ok (.sipush 182, 3) := dk_17 0 182 (dk_at dksX5_clear_1 5 rfl rfl)
theorem dX5_clear_32 : decode cX5_clear 32 = .ok (.iaload, 1) := dk_46 (dk_at dksX5_clear_1 8 rfl rfl)
theorem dX5_clear_33 : decode cX5_clear 33 = .ok (.iastore, 1) := dk_79 (dk_at dksX5_clear_1 9 rfl rfl)
theorem dX5_clear_34 : decode cX5_clear 34 = .ok (.aload_n 0, 1) := dk_42 (dk_at dksX5_clear_1 10 rfl rfl)
theorem dX5_clear_35 : decode cX5_clear 35 = .ok (.sipush 182, 3) := dk_17 0 182 (dk_at dksX5_clear_1 11 rfl rfl)
theorem dX5_clear_38 : decode cX5_clear 38 = .ok (.bipush (-9), 2) := dk_16 247 (dk_at dksX5_clear_1 14 rfl rfl)
theorem dX5_clear_40 : decode cX5_clear 40 = .ok (.iastore, 1) := dk_79 (dk_at dksX5_clear_1 16 rfl rfl)
theorem dX5_clear_41 : decode cX5_clear 41 = .ok (.return_, 1) := dk_177 (dk_at dksX5_clear_1 17 rfl rfl)
abbrev cX5_remove : ByteArray := prog_15_method_21_code
def yX5_remove : MethodName := ⟨RX5, "remove", "([III)V"⟩
def dkwX5_remove_1 : List UInt8 := [167, 255, 234, 42, 17, 0, 180, 92, 46, 28, 27, 100, 100, 79, 177]
abbrev dktX5_remove_1 : List UInt8 := dkwX5_remove_1 ++ []
def dkwX5_remove_0 : List UInt8 := [28, 62, 29, 42, 17, 0, 180, 46, 162, 0, 19, 42, 27, 29, 96, 28, 100, 42, 29, 46, 79, 132, 3, 1]
abbrev dktX5_remove_0 : List UInt8 := dkwX5_remove_0 ++ dktX5_remove_1
theorem dksX5_remove_0 : cX5_remove.data.toList.drop 0 = dktX5_remove_0 := by decide +kernel
theorem dksX5_remove_1 : cX5_remove.data.toList.drop 24 = dktX5_remove_1 := dk_seg dksX5_remove_0 24 rfl rfl
theorem dX5_remove_0 : decode cX5_remove 0 = .ok (.iload_n 2, 1) := dk_28 (dk_at dksX5_remove_0 0 rfl rfl)
theorem dX5_remove_1 : decode cX5_remove 1 = .ok (.istore_n 3, 1) := dk_62 (dk_at dksX5_remove_0 1 rfl rfl)
theorem dX5_remove_2 : decode cX5_remove 2 = .ok (.iload_n 3, 1) := dk_29 (dk_at dksX5_remove_0 2 rfl rfl)
theorem dX5_remove_3 : decode cX5_remove 3 = .ok (.aload_n 0, 1) := dk_42 (dk_at dksX5_remove_0 3 rfl rfl)
theorem dX5_remove_4 : decode cX5_remove 4 = .ok (.sipush 180, 3) := dk_17 0 180 (dk_at dksX5_remove_0 4 rfl rfl)
theorem dX5_remove_7 : decode cX5_remove 7 = .ok (.iaload, 1) := dk_46 (dk_at dksX5_remove_0 7 rfl rfl)
theorem dX5_remove_8 : decode cX5_remove 8 = .ok (.if_icmp .ge 19, 3) := dk_162 0 19 (dk_at dksX5_remove_0 8 rfl rfl)
theorem dX5_remove_11 : decode cX5_remove 11 = .ok (.aload_n 0, 1) := dk_42 (dk_at dksX5_remove_0 11 rfl rfl)
theorem dX5_remove_12 : decode cX5_remove 12 = .ok (.iload_n 1, 1) := dk_27 (dk_at dksX5_remove_0 12 rfl rfl)
theorem dX5_remove_13 : decode cX5_remove 13 = .ok (.iload_n 3, 1) := dk_29 (dk_at dksX5_remove_0 13 rfl rfl)
theorem dX5_remove_14 : decode cX5_remove 14 = .ok (.iadd, 1) := dk_96 (dk_at dksX5_remove_0 14 rfl rfl)
theorem dX5_remove_15 : decode cX5_remove 15 = .ok (.iload_n 2, 1) := dk_28 (dk_at dksX5_remove_0 15 rfl rfl)
theorem dX5_remove_16 : decode cX5_remove 16 = .ok (.isub, 1) := dk_100 (dk_at dksX5_remove_0 16 rfl rfl)
theorem dX5_remove_17 : decode cX5_remove 17 = .ok (.aload_n 0, 1) := dk_42 (dk_at dksX5_remove_0 17 rfl rfl)
theorem dX5_remove_18 : decode cX5_remove 18 = .ok (.iload_n 3, 1) := dk_29 (dk_at dksX5_remove_0 18 rfl rfl)
theorem dX5_remove_19 : decode cX5_remove 19 = .ok (.iaload, 1) := dk_46 (dk_at dksX5_remove_0 19 rfl rfl)
theorem dX5_remove_20 : decode cX5_remove 20 = .ok (.iastore, 1) := dk_79 (dk_at dksX5_remove_0 20 rfl rfl)
theorem dX5_remove_21 : decode cX5_remove 21 = .ok (.iinc 3 1, 3) := dk_132 3 1 (dk_at dksX5_remove_0 21 rfl rfl)
theorem dX5_remove_24 : decode cX5_remove 24 = .ok (.goto (-22), 3) := dk_167 255 234 (dk_at dksX5_remove_1 0 rfl rfl)
theorem dX5_remove_27 : decode cX5_remove 27 = .ok (.aload_n 0, 1) := dk_42 (dk_at dksX5_remove_1 3 rfl rfl)
theorem dX5_remove_28 : decode cX5_remove 28 = .ok (.sipush 180, 3) := dk_17 0 180 (dk_at dksX5_remove_1 4 rfl rfl)
theorem dX5_remove_31 : decode cX5_remove 31 = .ok (.dup2, 1) := dk_92 (dk_at dksX5_remove_1 7 rfl rfl)
theorem dX5_remove_32 : decode cX5_remove 32 = .ok (.iaload, 1) := dk_46 (dk_at dksX5_remove_1 8 rfl rfl)
theorem dX5_remove_33 : decode cX5_remove 33 = .ok (.iload_n 2, 1) := dk_28 (dk_at dksX5_remove_1 9 rfl rfl)
theorem dX5_remove_34 : decode cX5_remove 34 = .ok (.iload_n 1, 1) := dk_27 (dk_at dksX5_remove_1 10 rfl rfl)
theorem dX5_remove_35 : decode cX5_remove 35 = .ok (.isub, 1) := dk_100 (dk_at dksX5_remove_1 11 rfl rfl)
theorem dX5_remove_36 : decode cX5_remove 36 = .ok (.isub, 1) := dk_100 (dk_at dksX5_remove_1 12 rfl rfl)
theorem dX5_remove_37 : decode cX5_remove 37 = .ok (.iastore, 1) := dk_79 (dk_at dksX5_remove_1 13 rfl rfl)
theorem dX5_remove_38 : decode cX5_remove 38 = .ok (.return_, 1) := dk_177 (dk_at dksX5_remove_1 14 rfl rfl)
abbrev cX5_put : ByteArray := prog_15_method_22_code
def yX5_put : MethodName := ⟨RX5, "put", "([III)V"⟩
def dkwX5_put_1 : List UInt8 := [167, 255, 240, 42, 27, 28, 79, 42, 17, 0, 180, 92, 46, 4, 96, 79, 177]
abbrev dktX5_put_1 : List UInt8 := dkwX5_put_1 ++ []
def dkwX5_put_0 : List UInt8 := [42, 17, 0, 180, 46, 62, 29, 27, 164, 0, 17, 42, 29, 42, 29, 4, 100, 46, 79, 132, 3, 255]
abbrev dktX5_put_0 : List UInt8 := dkwX5_put_0 ++ dktX5_put_1
theorem dksX5_put_0 : cX5_put.data.toList.drop 0 = dktX5_put_0 := by decide +kernel
theorem dksX5_put_1 : cX5_put.data.toList.drop 22 = dktX5_put_1 := dk_seg dksX5_put_0 22 rfl rfl
theorem dX5_put_0 : decode cX5_put 0 = .ok (.aload_n 0, 1) := dk_42 (dk_at dksX5_put_0 0 rfl rfl)
theorem dX5_put_1 : decode cX5_put 1 = .ok (.sipush 180, 3) := dk_17 0 180 (dk_at dksX5_put_0 1 rfl rfl)
theorem dX5_put_4 : decode cX5_put 4 = .ok (.iaload, 1) := dk_46 (dk_at dksX5_put_0 4 rfl rfl)
theorem dX5_put_5 : decode cX5_put 5 = .ok (.istore_n 3, 1) := dk_62 (dk_at dksX5_put_0 5 rfl rfl)
theorem dX5_put_6 : decode cX5_put 6 = .ok (.iload_n 3, 1) := dk_29 (dk_at dksX5_put_0 6 rfl rfl)
theorem dX5_put_7 : decode cX5_put 7 = .ok (.iload_n 1, 1) := dk_27 (dk_at dksX5_put_0 7 rfl rfl)
theorem dX5_put_8 : decode cX5_put 8 = .ok (.if_icmp .le 17, 3) := dk_164 0 17 (dk_at dksX5_put_0 8 rfl rfl)
theorem dX5_put_11 : decode cX5_put 11 = .ok (.aload_n 0, 1) := dk_42 (dk_at dksX5_put_0 11 rfl rfl)
theorem dX5_put_12 : decode cX5_put 12 = .ok (.iload_n 3, 1) := dk_29 (dk_at dksX5_put_0 12 rfl rfl)
theorem dX5_put_13 : decode cX5_put 13 = .ok (.aload_n 0, 1) := dk_42 (dk_at dksX5_put_0 13 rfl rfl)
theorem dX5_put_14 : decode cX5_put 14 = .ok (.iload_n 3, 1) := dk_29 (dk_at dksX5_put_0 14 rfl rfl)
theorem dX5_put_15 : decode cX5_put 15 = .ok (.iconst 1, 1) := dk_4 (dk_at dksX5_put_0 15 rfl rfl)
theorem dX5_put_16 : decode cX5_put 16 = .ok (.isub, 1) := dk_100 (dk_at dksX5_put_0 16 rfl rfl)
theorem dX5_put_17 : decode cX5_put 17 = .ok (.iaload, 1) := dk_46 (dk_at dksX5_put_0 17 rfl rfl)
theorem dX5_put_18 : decode cX5_put 18 = .ok (.iastore, 1) := dk_79 (dk_at dksX5_put_0 18 rfl rfl)
theorem dX5_put_19 : decode cX5_put 19 = .ok (.iinc 3 (-1), 3) := dk_132 3 255 (dk_at dksX5_put_0 19 rfl rfl)
theorem dX5_put_22 : decode cX5_put 22 = .ok (.goto (-16), 3) := dk_167 255 240 (dk_at dksX5_put_1 0 rfl rfl)
theorem dX5_put_25 : decode cX5_put 25 = .ok (.aload_n 0, 1) := dk_42 (dk_at dksX5_put_1 3 rfl rfl)
theorem dX5_put_26 : decode cX5_put 26 = .ok (.iload_n 1, 1) := dk_27 (dk_at dksX5_put_1 4 rfl rfl)
theorem dX5_put_27 : decode cX5_put 27 = .ok (.iload_n 2, 1) := dk_28 (dk_at dksX5_put_1 5 rfl rfl)
theorem dX5_put_28 : decode cX5_put 28 = .ok (.iastore, 1) := dk_79 (dk_at dksX5_put_1 6 rfl rfl)
theorem dX5_put_29 : decode cX5_put 29 = .ok (.aload_n 0, 1) := dk_42 (dk_at dksX5_put_1 7 rfl rfl)
theorem dX5_put_30 : decode cX5_put 30 = .ok (.sipush 180, 3) := dk_17 0 180 (dk_at dksX5_put_1 8 rfl rfl)
theorem dX5_put_33 : decode cX5_put 33 = .ok (.dup2, 1) := dk_92 (dk_at dksX5_put_1 11 rfl rfl)
theorem dX5_put_34 : decode cX5_put 34 = .ok (.iaload, 1) := dk_46 (dk_at dksX5_put_1 12 rfl rfl)
theorem dX5_put_35 : decode cX5_put 35 = .ok (.iconst 1, 1) := dk_4 (dk_at dksX5_put_1 13 rfl rfl)
theorem dX5_put_36 : decode cX5_put 36 = .ok (.iadd, 1) := dk_96 (dk_at dksX5_put_1 14 rfl rfl)
theorem dX5_put_37 : decode cX5_put 37 = .ok (.iastore, 1) := dk_79 (dk_at dksX5_put_1 15 rfl rfl)
theorem dX5_put_38 : decode cX5_put 38 = .ok (.return_, 1) := dk_177 (dk_at dksX5_put_1 16 rfl rfl)
abbrev cX5_take : ByteArray := prog_15_method_58_code
def yX5_take : MethodName := ⟨RX5, "take", "()V"⟩
def dkwX5_take_0 : List UInt8 := [42, 182, 0, 230, 42, 180, 0, 16, 3, 42, 180, 0, 13, 3, 184, 0, 226, 177]
abbrev dktX5_take_0 : List UInt8 := dkwX5_take_0 ++ []
theorem dksX5_take_0 : cX5_take.data.toList.drop 0 = dktX5_take_0 := by decide +kernel
theorem dX5_take_0 : decode cX5_take 0 = .ok (.aload_n 0, 1) := dk_42 (dk_at dksX5_take_0 0 rfl rfl)
theorem dX5_take_1 : decode cX5_take 1 = .ok (.invokevirtual 230, 3) := dk_182 0 230 (dk_at dksX5_take_0 1 rfl rfl)
theorem dX5_take_4 : decode cX5_take 4 = .ok (.aload_n 0, 1) := dk_42 (dk_at dksX5_take_0 4 rfl rfl)
theorem dX5_take_5 : decode cX5_take 5 = .ok (.getfield 16, 3) := dk_180 0 16 (dk_at dksX5_take_0 5 rfl rfl)
theorem dX5_take_8 : decode cX5_take 8 = .ok (.iconst 0, 1) := dk_3 (dk_at dksX5_take_0 8 rfl rfl)
theorem dX5_take_9 : decode cX5_take 9 = .ok (.aload_n 0, 1) := dk_42 (dk_at dksX5_take_0 9 rfl rfl)
theorem dX5_take_10 : decode cX5_take 10 = .ok (.getfield 13, 3) := dk_180 0 13 (dk_at dksX5_take_0 10 rfl rfl)
theorem dX5_take_13 : decode cX5_take 13 = .ok (.iconst 0, 1) := dk_3 (dk_at dksX5_take_0 13 rfl rfl)
theorem dX5_take_14 : decode cX5_take 14 = .ok (.invokestatic 226, 3) := dk_184 0 226 (dk_at dksX5_take_0 14 rfl rfl)
theorem dX5_take_17 : decode cX5_take 17 = .ok (.return_, 1) := dk_177 (dk_at dksX5_take_0 17 rfl rfl)
abbrev cX5_note : ByteArray := prog_15_method_57_code
def yX5_note : MethodName := ⟨RX5, "note", "()V"⟩
def dkwX5_note_3 : List UInt8 := [89, 180, 0, 182, 4, 96, 181, 0, 182, 177]
abbrev dktX5_note_3 : List UInt8 := dkwX5_note_3 ++ []
def dkwX5_note_2 : List UInt8 := [181, 0, 182, 42, 180, 0, 13, 3, 42, 180, 0, 19, 17, 0, 184, 42, 180, 0, 182, 104, 184, 0, 226, 42]
abbrev dktX5_note_2 : List UInt8 := dkwX5_note_2 ++ dktX5_note_3
def dkwX5_note_1 : List UInt8 := [180, 0, 19, 27, 17, 0, 184, 96, 46, 79, 132, 1, 1, 167, 255, 230, 42, 89, 180, 0, 182, 4, 100]
abbrev dktX5_note_1 : List UInt8 := dkwX5_note_1 ++ dktX5_note_2
def dkwX5_note_0 : List UInt8 := [42, 180, 0, 182, 16, 14, 160, 0, 44, 3, 60, 27, 17, 9, 88, 162, 0, 25, 42, 180, 0, 19, 27, 42]
abbrev dktX5_note_0 : List UInt8 := dkwX5_note_0 ++ dktX5_note_1
theorem dksX5_note_0 : cX5_note.data.toList.drop 0 = dktX5_note_0 := by decide +kernel
theorem dksX5_note_1 : cX5_note.data.toList.drop 24 = dktX5_note_1 := dk_seg dksX5_note_0 24 rfl rfl
theorem dksX5_note_2 : cX5_note.data.toList.drop 47 = dktX5_note_2 := dk_seg dksX5_note_1 23 rfl rfl
theorem dksX5_note_3 : cX5_note.data.toList.drop 71 = dktX5_note_3 := dk_seg dksX5_note_2 24 rfl rfl
theorem dX5_note_0 : decode cX5_note 0 = .ok (.aload_n 0, 1) := dk_42 (dk_at dksX5_note_0 0 rfl rfl)
theorem dX5_note_1 : decode cX5_note 1 = .ok (.getfield 182, 3) := dk_180 0 182 (dk_at dksX5_note_0 1 rfl rfl)
theorem dX5_note_4 : decode cX5_note 4 = .ok (.bipush 14, 2) := dk_16 14 (dk_at dksX5_note_0 4 rfl rfl)
theorem dX5_note_6 : decode cX5_note 6 = .ok (.if_icmp .ne 44, 3) := dk_160 0 44 (dk_at dksX5_note_0 6 rfl rfl)
theorem dX5_note_9 : decode cX5_note 9 = .ok (.iconst 0, 1) := dk_3 (dk_at dksX5_note_0 9 rfl rfl)
theorem dX5_note_10 : decode cX5_note 10 = .ok (.istore_n 1, 1) := dk_60 (dk_at dksX5_note_0 10 rfl rfl)
theorem dX5_note_11 : decode cX5_note 11 = .ok (.iload_n 1, 1) := dk_27 (dk_at dksX5_note_0 11 rfl rfl)
theorem dX5_note_12 : decode cX5_note 12 = .ok (.sipush 2392, 3) := dk_17 9 88 (dk_at dksX5_note_0 12 rfl rfl)
theorem dX5_note_15 : decode cX5_note 15 = .ok (.if_icmp .ge 25, 3) := dk_162 0 25 (dk_at dksX5_note_0 15 rfl rfl)
theorem dX5_note_18 : decode cX5_note 18 = .ok (.aload_n 0, 1) := dk_42 (dk_at dksX5_note_0 18 rfl rfl)
theorem dX5_note_19 : decode cX5_note 19 = .ok (.getfield 19, 3) := dk_180 0 19 (dk_at dksX5_note_0 19 rfl rfl)
theorem dX5_note_22 : decode cX5_note 22 = .ok (.iload_n 1, 1) := dk_27 (dk_at dksX5_note_0 22 rfl rfl)
theorem dX5_note_23 : decode cX5_note 23 = .ok (.aload_n 0, 1) := dk_42 (dk_at dksX5_note_0 23 rfl rfl)
theorem dX5_note_24 : decode cX5_note 24 = .ok (.getfield 19, 3) := dk_180 0 19 (dk_at dksX5_note_1 0 rfl rfl)
theorem dX5_note_27 : decode cX5_note 27 = .ok (.iload_n 1, 1) := dk_27 (dk_at dksX5_note_1 3 rfl rfl)
theorem dX5_note_28 : decode cX5_note 28 = .ok (.sipush 184, 3) := dk_17 0 184 (dk_at dksX5_note_1 4 rfl rfl)
theorem dX5_note_31 : decode cX5_note 31 = .ok (.iadd, 1) := dk_96 (dk_at dksX5_note_1 7 rfl rfl)
theorem dX5_note_32 : decode cX5_note 32 = .ok (.iaload, 1) := dk_46 (dk_at dksX5_note_1 8 rfl rfl)
theorem dX5_note_33 : decode cX5_note 33 = .ok (.iastore, 1) := dk_79 (dk_at dksX5_note_1 9 rfl rfl)
theorem dX5_note_34 : decode cX5_note 34 = .ok (.iinc 1 1, 3) := dk_132 1 1 (dk_at dksX5_note_1 10 rfl rfl)
theorem dX5_note_37 : decode cX5_note 37 = .ok (.goto (-26), 3) := dk_167 255 230 (dk_at dksX5_note_1 13 rfl rfl)
theorem dX5_note_40 : decode cX5_note 40 = .ok (.aload_n 0, 1) := dk_42 (dk_at dksX5_note_1 16 rfl rfl)
theorem dX5_note_41 : decode cX5_note 41 = .ok (.dup, 1) := dk_89 (dk_at dksX5_note_1 17 rfl rfl)
theorem dX5_note_42 : decode cX5_note 42 = .ok (.getfield 182, 3) := dk_180 0 182 (dk_at dksX5_note_1 18 rfl rfl)
theorem dX5_note_45 : decode cX5_note 45 = .ok (.iconst 1, 1) := dk_4 (dk_at dksX5_note_1 21 rfl rfl)
theorem dX5_note_46 : decode cX5_note 46 = .ok (.isub, 1) := dk_100 (dk_at dksX5_note_1 22 rfl rfl)
theorem dX5_note_47 : decode cX5_note 47 = .ok (.putfield 182, 3) := dk_181 0 182 (dk_at dksX5_note_2 0 rfl rfl)
theorem dX5_note_50 : decode cX5_note 50 = .ok (.aload_n 0, 1) := dk_42 (dk_at dksX5_note_2 3 rfl rfl)
theorem dX5_note_51 : decode cX5_note 51 = .ok (.getfield 13, 3) := dk_180 0 13 (dk_at dksX5_note_2 4 rfl rfl)
theorem dX5_note_54 : decode cX5_note 54 = .ok (.iconst 0, 1) := dk_3 (dk_at dksX5_note_2 7 rfl rfl)
theorem dX5_note_55 : decode cX5_note 55 = .ok (.aload_n 0, 1) := dk_42 (dk_at dksX5_note_2 8 rfl rfl)
theorem dX5_note_56 : decode cX5_note 56 = .ok (.getfield 19, 3) := dk_180 0 19 (dk_at dksX5_note_2 9 rfl rfl)
theorem dX5_note_59 : decode cX5_note 59 = .ok (.sipush 184, 3) := dk_17 0 184 (dk_at dksX5_note_2 12 rfl rfl)
theorem dX5_note_62 : decode cX5_note 62 = .ok (.aload_n 0, 1) := dk_42 (dk_at dksX5_note_2 15 rfl rfl)
theorem dX5_note_63 : decode cX5_note 63 = .ok (.getfield 182, 3) := dk_180 0 182 (dk_at dksX5_note_2 16 rfl rfl)
theorem dX5_note_66 : decode cX5_note 66 = .ok (.imul, 1) := dk_104 (dk_at dksX5_note_2 19 rfl rfl)
theorem dX5_note_67 : decode cX5_note 67 = .ok (.invokestatic 226, 3) := dk_184 0 226 (dk_at dksX5_note_2 20 rfl rfl)
theorem dX5_note_70 : decode cX5_note 70 = .ok (.aload_n 0, 1) := dk_42 (dk_at dksX5_note_2 23 rfl rfl)
theorem dX5_note_71 : decode cX5_note 71 = .ok (.dup, 1) := dk_89 (dk_at dksX5_note_3 0 rfl rfl)
theorem dX5_note_72 : decode cX5_note 72 = .ok (.getfield 182, 3) := dk_180 0 182 (dk_at dksX5_note_3 1 rfl rfl)
theorem dX5_note_75 : decode cX5_note 75 = .ok (.iconst 1, 1) := dk_4 (dk_at dksX5_note_3 4 rfl rfl)
theorem dX5_note_76 : decode cX5_note 76 = .ok (.iadd, 1) := dk_96 (dk_at dksX5_note_3 5 rfl rfl)
theorem dX5_note_77 : decode cX5_note 77 = .ok (.putfield 182, 3) := dk_181 0 182 (dk_at dksX5_note_3 6 rfl rfl)
theorem dX5_note_80 : decode cX5_note 80 = .ok (.return_, 1) := dk_177 (dk_at dksX5_note_3 9 rfl rfl)
abbrev cX5_wrap : ByteArray := prog_15_method_60_code
def yX5_wrap : MethodName := ⟨RX5, "wrap", "(I)I"⟩
def dkwX5_wrap_2 : List UInt8 := [182, 0, 150, 153, 0, 5, 3, 172, 42, 182, 0, 237, 42, 180, 0, 13, 17, 0, 181, 46, 172]
abbrev dktX5_wrap_2 : List UInt8 := dkwX5_wrap_2 ++ []
def dkwX5_wrap_1 : List UInt8 := [154, 0, 7, 4, 167, 0, 19, 42, 180, 0, 16, 27, 184, 0, 240, 153, 0, 7, 3, 167, 0, 4, 5]
abbrev dktX5_wrap_1 : List UInt8 := dkwX5_wrap_1 ++ dktX5_wrap_2
def dkwX5_wrap_0 : List UInt8 := [42, 180, 0, 13, 3, 42, 180, 0, 16, 3, 184, 0, 226, 42, 27, 133, 10, 20, 0, 128, 184, 0, 79]
abbrev dktX5_wrap_0 : List UInt8 := dkwX5_wrap_0 ++ dktX5_wrap_1
theorem dksX5_wrap_0 : cX5_wrap.data.toList.drop 0 = dktX5_wrap_0 := by decide +kernel
theorem dksX5_wrap_1 : cX5_wrap.data.toList.drop 23 = dktX5_wrap_1 := dk_seg dksX5_wrap_0 23 rfl rfl
theorem dksX5_wrap_2 : cX5_wrap.data.toList.drop 46 = dktX5_wrap_2 := dk_seg dksX5_wrap_1 23 rfl rfl
theorem dX5_wrap_0 : decode cX5_wrap 0 = .ok (.aload_n 0, 1) := dk_42 (dk_at dksX5_wrap_0 0 rfl rfl)
theorem dX5_wrap_1 : decode cX5_wrap 1 = .ok (.getfield 13, 3) := dk_180 0 13 (dk_at dksX5_wrap_0 1 rfl rfl)
theorem dX5_wrap_4 : decode cX5_wrap 4 = .ok (.iconst 0, 1) := dk_3 (dk_at dksX5_wrap_0 4 rfl rfl)
theorem dX5_wrap_5 : decode cX5_wrap 5 = .ok (.aload_n 0, 1) := dk_42 (dk_at dksX5_wrap_0 5 rfl rfl)
theorem dX5_wrap_6 : decode cX5_wrap 6 = .ok (.getfield 16, 3) := dk_180 0 16 (dk_at dksX5_wrap_0 6 rfl rfl)
theorem dX5_wrap_9 : decode cX5_wrap 9 = .ok (.iconst 0, 1) := dk_3 (dk_at dksX5_wrap_0 9 rfl rfl)
theorem dX5_wrap_10 : decode cX5_wrap 10 = .ok (.invokestatic 226, 3) := dk_184 0 226 (dk_at dksX5_wrap_0 10 rfl rfl)
theorem dX5_wrap_13 : decode cX5_wrap 13 = .ok (.aload_n 0, 1) := dk_42 (dk_at dksX5_wrap_0 13 rfl rfl)
theorem dX5_wrap_14 : decode cX5_wrap 14 = .ok (.iload_n 1, 1) := dk_27 (dk_at dksX5_wrap_0 14 rfl rfl)
theorem dX5_wrap_15 : decode cX5_wrap 15 = .ok (.i2l, 1) := dk_133 (dk_at dksX5_wrap_0 15 rfl rfl)
theorem dX5_wrap_16 : decode cX5_wrap 16 = .ok (.lconst 1, 1) := dk_10 (dk_at dksX5_wrap_0 16 rfl rfl)
theorem dX5_wrap_17 : decode cX5_wrap 17 = .ok (.ldc2_w 128, 3) := dk_20 0 128 (dk_at dksX5_wrap_0 17 rfl rfl)
theorem dX5_wrap_20 : decode cX5_wrap 20 = .ok (.invokestatic 79, 3) := dk_184 0 79 (dk_at dksX5_wrap_0 20 rfl rfl)
theorem dX5_wrap_23 : decode cX5_wrap 23 = .ok (.ifCond .ne 7, 3) := dk_154 0 7 (dk_at dksX5_wrap_1 0 rfl rfl)
theorem dX5_wrap_26 : decode cX5_wrap 26 = .ok (.iconst 1, 1) := dk_4 (dk_at dksX5_wrap_1 3 rfl rfl)
theorem dX5_wrap_27 : decode cX5_wrap 27 = .ok (.goto 19, 3) := dk_167 0 19 (dk_at dksX5_wrap_1 4 rfl rfl)
theorem dX5_wrap_30 : decode cX5_wrap 30 = .ok (.aload_n 0, 1) := dk_42 (dk_at dksX5_wrap_1 7 rfl rfl)
theorem dX5_wrap_31 : decode cX5_wrap 31 = .ok (.getfield 16, 3) := dk_180 0 16 (dk_at dksX5_wrap_1 8 rfl rfl)
theorem dX5_wrap_34 : decode cX5_wrap 34 = .ok (.iload_n 1, 1) := dk_27 (dk_at dksX5_wrap_1 11 rfl rfl)
theorem dX5_wrap_35 : decode cX5_wrap 35 = .ok (.invokestatic 240, 3) := dk_184 0 240 (dk_at dksX5_wrap_1 12 rfl rfl)
theorem dX5_wrap_38 : decode cX5_wrap 38 = .ok (.ifCond .eq 7, 3) := dk_153 0 7 (dk_at dksX5_wrap_1 15 rfl rfl)
theorem dX5_wrap_41 : decode cX5_wrap 41 = .ok (.iconst 0, 1) := dk_3 (dk_at dksX5_wrap_1 18 rfl rfl)
theorem dX5_wrap_42 : decode cX5_wrap 42 = .ok (.goto 4, 3) := dk_167 0 4 (dk_at dksX5_wrap_1 19 rfl rfl)
theorem dX5_wrap_45 : decode cX5_wrap 45 = .ok (.iconst 2, 1) := dk_5 (dk_at dksX5_wrap_1 22 rfl rfl)
theorem dX5_wrap_46 : decode cX5_wrap 46 = .ok (.invokevirtual 150, 3) := dk_182 0 150 (dk_at dksX5_wrap_2 0 rfl rfl)
theorem dX5_wrap_49 : decode cX5_wrap 49 = .ok (.ifCond .eq 5, 3) := dk_153 0 5 (dk_at dksX5_wrap_2 3 rfl rfl)
theorem dX5_wrap_52 : decode cX5_wrap 52 = .ok (.iconst 0, 1) := dk_3 (dk_at dksX5_wrap_2 6 rfl rfl)
theorem dX5_wrap_53 : decode cX5_wrap 53 = .ok (.ireturn, 1) := dk_172 (dk_at dksX5_wrap_2 7 rfl rfl)
theorem dX5_wrap_54 : decode cX5_wrap 54 = .ok (.aload_n 0, 1) := dk_42 (dk_at dksX5_wrap_2 8 rfl rfl)
theorem dX5_wrap_55 : decode cX5_wrap 55 = .ok (.invokevirtual 237, 3) := dk_182 0 237 (dk_at dksX5_wrap_2 9 rfl rfl)
theorem dX5_wrap_58 : decode cX5_wrap 58 = .ok (.aload_n 0, 1) := dk_42 (dk_at dksX5_wrap_2 12 rfl rfl)
theorem dX5_wrap_59 : decode cX5_wrap 59 = .ok (.getfield 13, 3) := dk_180 0 13 (dk_at dksX5_wrap_2 13 rfl rfl)
theorem dX5_wrap_62 : decode cX5_wrap 62 = .ok (.sipush 181, 3) := dk_17 0 181 (dk_at dksX5_wrap_2 16 rfl rfl)
theorem dX5_wrap_65 : decode cX5_wrap 65 = .ok (.iaload, 1) := dk_46 (dk_at dksX5_wrap_2 19 rfl rfl)
theorem dX5_wrap_66 : decode cX5_wrap 66 = .ok (.ireturn, 1) := dk_172 (dk_at dksX5_wrap_2 20 rfl rfl)
abbrev cX5_wraps : ByteArray := prog_15_method_25_code
def yX5_wraps : MethodName := ⟨RX5, "wraps", "([II)Z"⟩
def dkwX5_wraps_5 : List UInt8 := [17, 0, 182, 16, 247, 79, 4, 172]
abbrev dktX5_wraps_5 : List UInt8 := dkwX5_wraps_5 ++ []
def dkwX5_wraps_4 : List UInt8 := [184, 0, 125, 42, 17, 0, 181, 29, 28, 160, 0, 9, 29, 4, 96, 167, 0, 6, 28, 5, 96, 79, 42]
abbrev dktX5_wraps_4 : List UInt8 := dkwX5_wraps_4 ++ dktX5_wraps_5
def dkwX5_wraps_3 : List UInt8 := [172, 42, 28, 16, 245, 184, 0, 125, 27, 4, 160, 0, 10, 42, 28, 16, 246, 184, 0, 125, 42, 29, 27, 116]
abbrev dktX5_wraps_3 : List UInt8 := dkwX5_wraps_3 ++ dktX5_wraps_4
def dkwX5_wraps_2 : List UInt8 := [16, 60, 159, 0, 21, 42, 29, 184, 0, 130, 4, 96, 42, 29, 28, 184, 0, 133, 96, 8, 164, 0, 5, 3]
abbrev dktX5_wraps_2 : List UInt8 := dkwX5_wraps_2 ++ dktX5_wraps_3
def dkwX5_wraps_1 : List UInt8 := [46, 62, 27, 133, 10, 20, 0, 128, 184, 0, 79, 153, 0, 36, 42, 3, 42, 17, 0, 180, 46, 184, 0, 114]
abbrev dktX5_wraps_1 : List UInt8 := dkwX5_wraps_1 ++ dktX5_wraps_2
def dkwX5_wraps_0 : List UInt8 := [42, 17, 0, 181, 46, 61, 42, 17, 0, 182, 46, 16, 247, 160, 0, 7, 28, 167, 0, 8, 42, 17, 0, 182]
abbrev dktX5_wraps_0 : List UInt8 := dkwX5_wraps_0 ++ dktX5_wraps_1
theorem dksX5_wraps_0 : cX5_wraps.data.toList.drop 0 = dktX5_wraps_0 := by decide +kernel
theorem dksX5_wraps_1 : cX5_wraps.data.toList.drop 24 = dktX5_wraps_1 := dk_seg dksX5_wraps_0 24 rfl rfl
theorem dksX5_wraps_2 : cX5_wraps.data.toList.drop 48 = dktX5_wraps_2 := dk_seg dksX5_wraps_1 24 rfl rfl
theorem dksX5_wraps_3 : cX5_wraps.data.toList.drop 72 = dktX5_wraps_3 := dk_seg dksX5_wraps_2 24 rfl rfl
theorem dksX5_wraps_4 : cX5_wraps.data.toList.drop 96 = dktX5_wraps_4 := dk_seg dksX5_wraps_3 24 rfl rfl
theorem dksX5_wraps_5 : cX5_wraps.data.toList.drop 119 = dktX5_wraps_5 := dk_seg dksX5_wraps_4 23 rfl rfl
theorem dX5_wraps_0 : decode cX5_wraps 0 = .ok (.aload_n 0, 1) := dk_42 (dk_at dksX5_wraps_0 0 rfl rfl)
theorem dX5_wraps_1 : decode cX5_wraps 1 = .ok (.sipush 181, 3) := dk_17 0 181 (dk_at dksX5_wraps_0 1 rfl rfl)
theorem dX5_wraps_4 : decode cX5_wraps 4 = .ok (.iaload, 1) := dk_46 (dk_at dksX5_wraps_0 4 rfl rfl)
theorem dX5_wraps_5 : decode cX5_wraps 5 = .ok (.istore_n 2, 1) := dk_61 (dk_at dksX5_wraps_0 5 rfl rfl)
theorem dX5_wraps_6 : decode cX5_wraps 6 = .ok (.aload_n 0, 1) := dk_42 (dk_at dksX5_wraps_0 6 rfl rfl)
theorem dX5_wraps_7 : decode cX5_wraps 7 = .ok (.sipush 182, 3) := dk_17 0 182 (dk_at dksX5_wraps_0 7 rfl rfl)
theorem dX5_wraps_10 : decode cX5_wraps 10 = .ok (.iaload, 1) := dk_46 (dk_at dksX5_wraps_0 10 rfl rfl)
theorem dX5_wraps_11 : decode cX5_wraps 11 = .ok (.bipush (-9), 2) := dk_16 247 (dk_at dksX5_wraps_0 11 rfl rfl)
theorem dX5_wraps_13 : decode cX5_wraps 13 = .ok (.if_icmp .ne 7, 3) := dk_160 0 7 (dk_at dksX5_wraps_0 13 rfl rfl)
theorem dX5_wraps_16 : decode cX5_wraps 16 = .ok (.iload_n 2, 1) := dk_28 (dk_at dksX5_wraps_0 16 rfl rfl)
theorem dX5_wraps_17 : decode cX5_wraps 17 = .ok (.goto 8, 3) := dk_167 0 8 (dk_at dksX5_wraps_0 17 rfl rfl)
theorem dX5_wraps_20 : decode cX5_wraps 20 = .ok (.aload_n 0, 1) := dk_42 (dk_at dksX5_wraps_0 20 rfl rfl)
theorem dX5_wraps_21 : decode cX5_wraps 21 = .ok (.sipush 182, 3) := dk_17 0 182 (dk_at dksX5_wraps_0 21 rfl rfl)
theorem dX5_wraps_24 : decode cX5_wraps 24 = .ok (.iaload, 1) := dk_46 (dk_at dksX5_wraps_1 0 rfl rfl)
theorem dX5_wraps_25 : decode cX5_wraps 25 = .ok (.istore_n 3, 1) := dk_62 (dk_at dksX5_wraps_1 1 rfl rfl)
theorem dX5_wraps_26 : decode cX5_wraps 26 = .ok (.iload_n 1, 1) := dk_27 (dk_at dksX5_wraps_1 2 rfl rfl)
theorem dX5_wraps_27 : decode cX5_wraps 27 = .ok (.i2l, 1) := dk_133 (dk_at dksX5_wraps_1 3 rfl rfl)
theorem dX5_wraps_28 : decode cX5_wraps 28 = .ok (.lconst 1, 1) := dk_10 (dk_at dksX5_wraps_1 4 rfl rfl)
theorem dX5_wraps_29 : decode cX5_wraps 29 = .ok (.ldc2_w 128, 3) := dk_20 0 128 (dk_at dksX5_wraps_1 5 rfl rfl)
theorem dX5_wraps_32 : decode cX5_wraps 32 = .ok (.invokestatic 79, 3) := dk_184 0 79 (dk_at dksX5_wraps_1 8 rfl rfl)
theorem dX5_wraps_35 : decode cX5_wraps 35 = .ok (.ifCond .eq 36, 3) := dk_153 0 36 (dk_at dksX5_wraps_1 11 rfl rfl)
theorem dX5_wraps_38 : decode cX5_wraps 38 = .ok (.aload_n 0, 1) := dk_42 (dk_at dksX5_wraps_1 14 rfl rfl)
theorem dX5_wraps_39 : decode cX5_wraps 39 = .ok (.iconst 0, 1) := dk_3 (dk_at dksX5_wraps_1 15 rfl rfl)
theorem dX5_wraps_40 : decode cX5_wraps 40 = .ok (.aload_n 0, 1) := dk_42 (dk_at dksX5_wraps_1 16 rfl rfl)
theorem dX5_wraps_41 : decode cX5_wraps 41 = .ok (.sipush 180, 3) := dk_17 0 180 (dk_at dksX5_wraps_1 17 rfl rfl)
theorem dX5_wraps_44 : decode cX5_wraps 44 = .ok (.iaload, 1) := dk_46 (dk_at dksX5_wraps_1 20 rfl rfl)
theorem dX5_wraps_45 : decode cX5_wraps 45 = .ok (.invokestatic 114, 3) := dk_184 0 114 (dk_at dksX5_wraps_1 21 rfl rfl)
theorem dX5_wraps_48 : decode cX5_wraps 48 = .ok (.bipush 60, 2) := dk_16 60 (dk_at dksX5_wraps_2 0 rfl rfl)
theorem dX5_wraps_50 : decode cX5_wraps 50 = .ok (.if_icmp .eq 21, 3) := dk_159 0 21 (dk_at dksX5_wraps_2 2 rfl rfl)
theorem dX5_wraps_53 : decode cX5_wraps 53 = .ok (.aload_n 0, 1) := dk_42 (dk_at dksX5_wraps_2 5 rfl rfl)
theorem dX5_wraps_54 : decode cX5_wraps 54 = .ok (.iload_n 3, 1) := dk_29 (dk_at dksX5_wraps_2 6 rfl rfl)
theorem dX5_wraps_55 : decode cX5_wraps 55 = .ok (.invokestatic 130, 3) := dk_184 0 130 (dk_at dksX5_wraps_2 7 rfl rfl)
theorem dX5_wraps_58 : decode cX5_wraps 58 = .ok (.iconst 1, 1) := dk_4 (dk_at dksX5_wraps_2 10 rfl rfl)
theorem dX5_wraps_59 : decode cX5_wraps 59 = .ok (.iadd, 1) := dk_96 (dk_at dksX5_wraps_2 11 rfl rfl)
theorem dX5_wraps_60 : decode cX5_wraps 60 = .ok (.aload_n 0, 1) := dk_42 (dk_at dksX5_wraps_2 12 rfl rfl)
theorem dX5_wraps_61 : decode cX5_wraps 61 = .ok (.iload_n 3, 1) := dk_29 (dk_at dksX5_wraps_2 13 rfl rfl)
theorem dX5_wraps_62 : decode cX5_wraps 62 = .ok (.iload_n 2, 1) := dk_28 (dk_at dksX5_wraps_2 14 rfl rfl)
theorem dX5_wraps_63 : decode cX5_wraps 63 = .ok (.invokestatic 133, 3) := dk_184 0 133 (dk_at dksX5_wraps_2 15 rfl rfl)
theorem dX5_wraps_66 : decode cX5_wraps 66 = .ok (.iadd, 1) := dk_96 (dk_at dksX5_wraps_2 18 rfl rfl)
theorem dX5_wraps_67 : decode cX5_wraps 67 = .ok (.iconst 5, 1) := dk_8 (dk_at dksX5_wraps_2 19 rfl rfl)
theorem dX5_wraps_68 : decode cX5_wraps 68 = .ok (.if_icmp .le 5, 3) := dk_164 0 5 (dk_at dksX5_wraps_2 20 rfl rfl)
theorem dX5_wraps_71 : decode cX5_wraps 71 = .ok (.iconst 0, 1) := dk_3 (dk_at dksX5_wraps_2 23 rfl rfl)
theorem dX5_wraps_72 : decode cX5_wraps 72 = .ok (.ireturn, 1) := dk_172 (dk_at dksX5_wraps_3 0 rfl rfl)
theorem dX5_wraps_73 : decode cX5_wraps 73 = .ok (.aload_n 0, 1) := dk_42 (dk_at dksX5_wraps_3 1 rfl rfl)
theorem dX5_wraps_74 : decode cX5_wraps 74 = .ok (.iload_n 2, 1) := dk_28 (dk_at dksX5_wraps_3 2 rfl rfl)
theorem dX5_wraps_75 : decode cX5_wraps 75 = .ok (.bipush (-11), 2) := dk_16 245 (dk_at dksX5_wraps_3 3 rfl rfl)
theorem dX5_wraps_77 : decode cX5_wraps 77 = .ok (.invokestatic 125, 3) := dk_184 0 125 (dk_at dksX5_wraps_3 5 rfl rfl)
theorem dX5_wraps_80 : decode cX5_wraps 80 = .ok (.iload_n 1, 1) := dk_27 (dk_at dksX5_wraps_3 8 rfl rfl)
theorem dX5_wraps_81 : decode cX5_wraps 81 = .ok (.iconst 1, 1) := dk_4 (dk_at dksX5_wraps_3 9 rfl rfl)
theorem dX5_wraps_82 : decode cX5_wraps 82 = .ok (.if_icmp .ne 10, 3) := dk_160 0 10 (dk_at dksX5_wraps_3 10 rfl rfl)
theorem dX5_wraps_85 : decode cX5_wraps 85 = .ok (.aload_n 0, 1) := dk_42 (dk_at dksX5_wraps_3 13 rfl rfl)
theorem dX5_wraps_86 : decode cX5_wraps 86 = .ok (.iload_n 2, 1) := dk_28 (dk_at dksX5_wraps_3 14 rfl rfl)
theorem dX5_wraps_87 : decode cX5_wraps 87 = .ok (.bipush (-10), 2) := dk_16 246 (dk_at dksX5_wraps_3 15 rfl rfl)
theorem dX5_wraps_89 : decode cX5_wraps 89 = .ok (.invokestatic 125, 3) := dk_184 0 125 (dk_at dksX5_wraps_3 17 rfl rfl)
theorem dX5_wraps_92 : decode cX5_wraps 92 = .ok (.aload_n 0, 1) := dk_42 (dk_at dksX5_wraps_3 20 rfl rfl)
theorem dX5_wraps_93 : decode cX5_wraps 93 = .ok (.iload_n 3, 1) := dk_29 (dk_at dksX5_wraps_3 21 rfl rfl)
theorem dX5_wraps_94 : decode cX5_wraps 94 = .ok (.iload_n 1, 1) := dk_27 (dk_at dksX5_wraps_3 22 rfl rfl)
theorem dX5_wraps_95 : decode cX5_wraps 95 = .ok (.ineg, 1) := dk_116 (dk_at dksX5_wraps_3 23 rfl rfl)
theorem dX5_wraps_96 : decode cX5_wraps 96 = .ok (.invokestatic 125, 3) := dk_184 0 125 (dk_at dksX5_wraps_4 0 rfl rfl)
theorem dX5_wraps_99 : decode cX5_wraps 99 = .ok (.aload_n 0, 1) := dk_42 (dk_at dksX5_wraps_4 3 rfl rfl)
theorem dX5_wraps_100 : decode cX5_wraps 100 = .ok (.sipush 181, 3) := dk_17 0 181 (dk_at dksX5_wraps_4 4 rfl rfl)
theorem dX5_wraps_103 : decode cX5_wraps 103 = .ok (.iload_n 3, 1) := dk_29 (dk_at dksX5_wraps_4 7 rfl rfl)
theorem dX5_wraps_104 : decode cX5_wraps 104 = .ok (.iload_n 2, 1) := dk_28 (dk_at dksX5_wraps_4 8 rfl rfl)
theorem dX5_wraps_105 : decode cX5_wraps 105 = .ok (.if_icmp .ne 9, 3) := dk_160 0 9 (dk_at dksX5_wraps_4 9 rfl rfl)
theorem dX5_wraps_108 : decode cX5_wraps 108 = .ok (.iload_n 3, 1) := dk_29 (dk_at dksX5_wraps_4 12 rfl rfl)
theorem dX5_wraps_109 : decode cX5_wraps 109 = .ok (.iconst 1, 1) := dk_4 (dk_at dksX5_wraps_4 13 rfl rfl)
theorem dX5_wraps_110 : decode cX5_wraps 110 = .ok (.iadd, 1) := dk_96 (dk_at dksX5_wraps_4 14 rfl rfl)
theorem dX5_wraps_111 : decode cX5_wraps 111 = .ok (.goto 6, 3) := dk_167 0 6 (dk_at dksX5_wraps_4 15 rfl rfl)
theorem dX5_wraps_114 : decode cX5_wraps 114 = .ok (.iload_n 2, 1) := dk_28 (dk_at dksX5_wraps_4 18 rfl rfl)
theorem dX5_wraps_115 : decode cX5_wraps 115 = .ok (.iconst 2, 1) := dk_5 (dk_at dksX5_wraps_4 19 rfl rfl)
theorem dX5_wraps_116 : decode cX5_wraps 116 = .ok (.iadd, 1) := dk_96 (dk_at dksX5_wraps_4 20 rfl rfl)
theorem dX5_wraps_117 : decode cX5_wraps 117 = .ok (.iastore, 1) := dk_79 (dk_at dksX5_wraps_4 21 rfl rfl)
theorem dX5_wraps_118 : decode cX5_wraps 118 = .ok (.aload_n 0, 1) := dk_42 (dk_at dksX5_wraps_4 22 rfl rfl)
theorem dX5_wraps_119 : decode cX5_wraps 119 = .ok (.sipush 182, 3) := dk_17 0 182 (dk_at dksX5_wraps_5 0 rfl rfl)
theorem dX5_wraps_122 : decode cX5_wraps 122 = .ok (.bipush (-9), 2) := dk_16 247 (dk_at dksX5_wraps_5 3 rfl rfl)
theorem dX5_wraps_124 : decode cX5_wraps 124 = .ok (.iastore, 1) := dk_79 (dk_at dksX5_wraps_5 5 rfl rfl)
theorem dX5_wraps_125 : decode cX5_wraps 125 = .ok (.iconst 1, 1) := dk_4 (dk_at dksX5_wraps_5 6 rfl rfl)
theorem dX5_wraps_126 : decode cX5_wraps 126 = .ok (.ireturn, 1) := dk_172 (dk_at dksX5_wraps_5 7 rfl rfl)
abbrev cX5_backspace : ByteArray := prog_15_method_61_code
def yX5_backspace : MethodName := ⟨RX5, "backspace", "()I"⟩
def dkwX5_backspace_3 : List UInt8 := [17, 0, 180, 46, 184, 0, 114, 100, 172]
abbrev dktX5_backspace_3 : List UInt8 := dkwX5_backspace_3 ++ []
def dkwX5_backspace_2 : List UInt8 := [17, 0, 180, 46, 184, 0, 114, 60, 42, 182, 0, 237, 27, 42, 180, 0, 13, 3, 42, 180, 0, 13]
abbrev dktX5_backspace_2 : List UInt8 := dkwX5_backspace_2 ++ dktX5_backspace_3
def dkwX5_backspace_1 : List UInt8 := [3, 167, 0, 4, 4, 182, 0, 150, 153, 0, 5, 3, 172, 42, 180, 0, 13, 3, 42, 180, 0, 13]
abbrev dktX5_backspace_1 : List UInt8 := dkwX5_backspace_1 ++ dktX5_backspace_2
def dkwX5_backspace_0 : List UInt8 := [42, 180, 0, 13, 3, 42, 180, 0, 16, 3, 184, 0, 226, 42, 42, 180, 0, 16, 184, 0, 243, 153, 0, 7]
abbrev dktX5_backspace_0 : List UInt8 := dkwX5_backspace_0 ++ dktX5_backspace_1
theorem dksX5_backspace_0 : cX5_backspace.data.toList.drop 0 = dktX5_backspace_0 := by decide +kernel
theorem dksX5_backspace_1 : cX5_backspace.data.toList.drop 24 = dktX5_backspace_1 := dk_seg dksX5_backspace_0 24 rfl rfl
theorem dksX5_backspace_2 : cX5_backspace.data.toList.drop 46 = dktX5_backspace_2 := dk_seg dksX5_backspace_1 22 rfl rfl
theorem dksX5_backspace_3 : cX5_backspace.data.toList.drop 68 = dktX5_backspace_3 := dk_seg dksX5_backspace_2 22 rfl rfl
theorem dX5_backspace_0 : decode cX5_backspace 0 = .ok (.aload_n 0, 1) := dk_42 (dk_at dksX5_backspace_0 0 rfl rfl)
theorem dX5_backspace_1 : decode cX5_backspace 1 = .ok (.getfield 13, 3) := dk_180 0 13 (dk_at dksX5_backspace_0 1 rfl rfl)
theorem dX5_backspace_4 : decode cX5_backspace 4 = .ok (.iconst 0, 1) := dk_3 (dk_at dksX5_backspace_0 4 rfl rfl)
theorem dX5_backspace_5 : decode cX5_backspace 5 = .ok (.aload_n 0, 1) := dk_42 (dk_at dksX5_backspace_0 5 rfl rfl)
theorem dX5_backspace_6 : decode cX5_backspace 6 = .ok (.getfield 16, 3) := dk_180 0 16 (dk_at dksX5_backspace_0 6 rfl rfl)
theorem dX5_backspace_9 : decode cX5_backspace 9 = .ok (.iconst 0, 1) := dk_3 (dk_at dksX5_backspace_0 9 rfl rfl)
theorem dX5_backspace_10 : decode cX5_backspace 10 = .ok (.invokestatic 226, 3) := dk_184 0 226 (dk_at dksX5_backspace_0 10 rfl rfl)
theorem dX5_backspace_13 : decode cX5_backspace 13 = .ok (.aload_n 0, 1) := dk_42 (dk_at dksX5_backspace_0 13 rfl rfl)
theorem dX5_backspace_14 : decode cX5_backspace 14 = .ok (.aload_n 0, 1) := dk_42 (dk_at dksX5_backspace_0 14 rfl rfl)
theorem dX5_backspace_15 : decode cX5_backspace 15 = .ok (.getfield 16, 3) := dk_180 0 16 (dk_at dksX5_backspace_0 15 rfl rfl)
theorem dX5_backspace_18 : decode cX5_backspace 18 = .ok (.invokestatic 243, 3) := dk_184 0 243 (dk_at dksX5_backspace_0 18 rfl rfl)
theorem dX5_backspace_21 : decode cX5_backspace 21 = .ok (.ifCond .eq 7, 3) := dk_153 0 7 (dk_at dksX5_backspace_0 21 rfl rfl)
theorem dX5_backspace_24 : decode cX5_backspace 24 = .ok (.iconst 0, 1) := dk_3 (dk_at dksX5_backspace_1 0 rfl rfl)
theorem dX5_backspace_25 : decode cX5_backspace 25 = .ok (.goto 4, 3) := dk_167 0 4 (dk_at dksX5_backspace_1 1 rfl rfl)
theorem dX5_backspace_28 : decode cX5_backspace 28 = .ok (.iconst 1, 1) := dk_4 (dk_at dksX5_backspace_1 4 rfl rfl)
theorem dX5_backspace_29 : decode cX5_backspace 29 = .ok (.invokevirtual 150, 3) := dk_182 0 150 (dk_at dksX5_backspace_1 5 rfl rfl)
theorem dX5_backspace_32 : decode cX5_backspace 32 = .ok (.ifCond .eq 5, 3) := dk_153 0 5 (dk_at dksX5_backspace_1 8 rfl rfl)
theorem dX5_backspace_35 : decode cX5_backspace 35 = .ok (.iconst 0, 1) := dk_3 (dk_at dksX5_backspace_1 11 rfl rfl)
theorem dX5_backspace_36 : decode cX5_backspace 36 = .ok (.ireturn, 1) := dk_172 (dk_at dksX5_backspace_1 12 rfl rfl)
theorem dX5_backspace_37 : decode cX5_backspace 37 = .ok (.aload_n 0, 1) := dk_42 (dk_at dksX5_backspace_1 13 rfl rfl)
theorem dX5_backspace_38 : decode cX5_backspace 38 = .ok (.getfield 13, 3) := dk_180 0 13 (dk_at dksX5_backspace_1 14 rfl rfl)
theorem dX5_backspace_41 : decode cX5_backspace 41 = .ok (.iconst 0, 1) := dk_3 (dk_at dksX5_backspace_1 17 rfl rfl)
theorem dX5_backspace_42 : decode cX5_backspace 42 = .ok (.aload_n 0, 1) := dk_42 (dk_at dksX5_backspace_1 18 rfl rfl)
theorem dX5_backspace_43 : decode cX5_backspace 43 = .ok (.getfield 13, 3) := dk_180 0 13 (dk_at dksX5_backspace_1 19 rfl rfl)
theorem dX5_backspace_46 : decode cX5_backspace 46 = .ok (.sipush 180, 3) := dk_17 0 180 (dk_at dksX5_backspace_2 0 rfl rfl)
theorem dX5_backspace_49 : decode cX5_backspace 49 = .ok (.iaload, 1) := dk_46 (dk_at dksX5_backspace_2 3 rfl rfl)
theorem dX5_backspace_50 : decode cX5_backspace 50 = .ok (.invokestatic 114, 3) := dk_184 0 114 (dk_at dksX5_backspace_2 4 rfl rfl)
theorem dX5_backspace_53 : decode cX5_backspace 53 = .ok (.istore_n 1, 1) := dk_60 (dk_at dksX5_backspace_2 7 rfl rfl)
theorem dX5_backspace_54 : decode cX5_backspace 54 = .ok (.aload_n 0, 1) := dk_42 (dk_at dksX5_backspace_2 8 rfl rfl)
theorem dX5_backspace_55 : decode cX5_backspace 55 = .ok (.invokevirtual 237, 3) := dk_182 0 237 (dk_at dksX5_backspace_2 9 rfl rfl)
theorem dX5_backspace_58 : decode cX5_backspace 58 = .ok (.iload_n 1, 1) := dk_27 (dk_at dksX5_backspace_2 12 rfl rfl)
theorem dX5_backspace_59 : decode cX5_backspace 59 = .ok (.aload_n 0, 1) := dk_42 (dk_at dksX5_backspace_2 13 rfl rfl)
theorem dX5_backspace_60 : decode cX5_backspace 60 = .ok (.getfield 13, 3) := dk_180 0 13 (dk_at dksX5_backspace_2 14 rfl rfl)
theorem dX5_backspace_63 : decode cX5_backspace 63 = .ok (.iconst 0, 1) := dk_3 (dk_at dksX5_backspace_2 17 rfl rfl)
theorem dX5_backspace_64 : decode cX5_backspace 64 = .ok (.aload_n 0, 1) := dk_42 (dk_at dksX5_backspace_2 18 rfl rfl)
theorem dX5_backspace_65 : decode cX5_backspace 65 = .ok (.getfield 13, 3) := dk_180 0 13 (dk_at dksX5_backspace_2 19 rfl rfl)
theorem dX5_backspace_68 : decode cX5_backspace 68 = .ok (.sipush 180, 3) := dk_17 0 180 (dk_at dksX5_backspace_3 0 rfl rfl)
theorem dX5_backspace_71 : decode cX5_backspace 71 = .ok (.iaload, 1) := dk_46 (dk_at dksX5_backspace_3 3 rfl rfl)
theorem dX5_backspace_72 : decode cX5_backspace 72 = .ok (.invokestatic 114, 3) := dk_184 0 114 (dk_at dksX5_backspace_3 4 rfl rfl)
theorem dX5_backspace_75 : decode cX5_backspace 75 = .ok (.isub, 1) := dk_100 (dk_at dksX5_backspace_3 7 rfl rfl)
theorem dX5_backspace_76 : decode cX5_backspace 76 = .ok (.ireturn, 1) := dk_172 (dk_at dksX5_backspace_3 8 rfl rfl)
abbrev cX5_backs : ByteArray := prog_15_method_26_code
def yX5_backs : MethodName := ⟨RX5, "backs", "([I)Z"⟩
def dkwX5_backs_8 : List UInt8 := [184, 0, 110, 42, 17, 0, 181, 29, 153, 0, 9, 28, 5, 100, 167, 0, 6, 28, 4, 100, 79, 4, 172]
abbrev dktX5_backs_8 : List UInt8 := dkwX5_backs_8 ++ []
def dkwX5_backs_7 : List UInt8 := [21, 5, 162, 0, 13, 42, 21, 6, 21, 6, 4, 96, 184, 0, 110, 42, 21, 4, 21, 4, 4, 96]
abbrev dktX5_backs_7 : List UInt8 := dkwX5_backs_7 ++ dktX5_backs_8
def dkwX5_backs_6 : List UInt8 := [100, 167, 0, 8, 42, 28, 184, 0, 142, 54, 6, 42, 21, 5, 21, 5, 4, 96, 184, 0, 110, 21, 6]
abbrev dktX5_backs_6 : List UInt8 := dkwX5_backs_6 ++ dktX5_backs_7
def dkwX5_backs_5 : List UInt8 := [184, 0, 100, 167, 0, 6, 28, 4, 100, 54, 4, 42, 28, 184, 0, 104, 54, 5, 29, 153, 0, 9, 28, 4]
abbrev dktX5_backs_5 : List UInt8 := dkwX5_backs_5 ++ dktX5_backs_6
def dkwX5_backs_4 : List UInt8 := [42, 28, 4, 100, 46, 16, 246, 160, 0, 7, 4, 167, 0, 4, 3, 62, 29, 153, 0, 13, 42, 28, 4, 100]
abbrev dktX5_backs_4 : List UInt8 := dkwX5_backs_4 ++ dktX5_backs_5
def dkwX5_backs_3 : List UInt8 := [17, 0, 181, 21, 4, 153, 0, 7, 29, 167, 0, 6, 27, 4, 100, 79, 4, 172, 28, 154, 0, 5, 3, 172]
abbrev dktX5_backs_3 : List UInt8 := dkwX5_backs_3 ++ dktX5_backs_4
def dkwX5_backs_2 : List UInt8 := [160, 0, 7, 4, 167, 0, 4, 3, 54, 4, 21, 4, 153, 0, 9, 42, 29, 27, 184, 0, 110, 42]
abbrev dktX5_backs_2 : List UInt8 := dkwX5_backs_2 ++ dktX5_backs_3
def dkwX5_backs_1 : List UInt8 := [184, 0, 136, 61, 27, 28, 164, 0, 56, 42, 27, 184, 0, 139, 62, 42, 29, 27, 184, 0, 114, 4]
abbrev dktX5_backs_1 : List UInt8 := dkwX5_backs_1 ++ dktX5_backs_2
def dkwX5_backs_0 : List UInt8 := [42, 17, 0, 181, 46, 60, 42, 17, 0, 182, 46, 16, 247, 159, 0, 9, 42, 184, 0, 121, 4, 172, 42, 27]
abbrev dktX5_backs_0 : List UInt8 := dkwX5_backs_0 ++ dktX5_backs_1
theorem dksX5_backs_0 : cX5_backs.data.toList.drop 0 = dktX5_backs_0 := by decide +kernel
theorem dksX5_backs_1 : cX5_backs.data.toList.drop 24 = dktX5_backs_1 := dk_seg dksX5_backs_0 24 rfl rfl
theorem dksX5_backs_2 : cX5_backs.data.toList.drop 46 = dktX5_backs_2 := dk_seg dksX5_backs_1 22 rfl rfl
theorem dksX5_backs_3 : cX5_backs.data.toList.drop 68 = dktX5_backs_3 := dk_seg dksX5_backs_2 22 rfl rfl
theorem dksX5_backs_4 : cX5_backs.data.toList.drop 92 = dktX5_backs_4 := dk_seg dksX5_backs_3 24 rfl rfl
theorem dksX5_backs_5 : cX5_backs.data.toList.drop 116 = dktX5_backs_5 := dk_seg dksX5_backs_4 24 rfl rfl
theorem dksX5_backs_6 : cX5_backs.data.toList.drop 140 = dktX5_backs_6 := dk_seg dksX5_backs_5 24 rfl rfl
theorem dksX5_backs_7 : cX5_backs.data.toList.drop 163 = dktX5_backs_7 := dk_seg dksX5_backs_6 23 rfl rfl
theorem dksX5_backs_8 : cX5_backs.data.toList.drop 185 = dktX5_backs_8 := dk_seg dksX5_backs_7 22 rfl rfl
theorem dX5_backs_0 : decode cX5_backs 0 = .ok (.aload_n 0, 1) := dk_42 (dk_at dksX5_backs_0 0 rfl rfl)
theorem dX5_backs_1 : decode cX5_backs 1 = .ok (.sipush 181, 3) := dk_17 0 181 (dk_at dksX5_backs_0 1 rfl rfl)
theorem dX5_backs_4 : decode cX5_backs 4 = .ok (.iaload, 1) := dk_46 (dk_at dksX5_backs_0 4 rfl rfl)
theorem dX5_backs_5 : decode cX5_backs 5 = .ok (.istore_n 1, 1) := dk_60 (dk_at dksX5_backs_0 5 rfl rfl)
theorem dX5_backs_6 : decode cX5_backs 6 = .ok (.aload_n 0, 1) := dk_42 (dk_at dksX5_backs_0 6 rfl rfl)
theorem dX5_backs_7 : decode cX5_backs 7 = .ok (.sipush 182, 3) := dk_17 0 182 (dk_at dksX5_backs_0 7 rfl rfl)
theorem dX5_backs_10 : decode cX5_backs 10 = .ok (.iaload, 1) := dk_46 (dk_at dksX5_backs_0 10 rfl rfl)
theorem dX5_backs_11 : decode cX5_backs 11 = .ok (.bipush (-9), 2) := dk_16 247 (dk_at dksX5_backs_0 11 rfl rfl)
theorem dX5_backs_13 : decode cX5_backs 13 = .ok (.if_icmp .eq 9, 3) := dk_159 0 9 (dk_at dksX5_backs_0 13 rfl rfl)
theorem dX5_backs_16 : decode cX5_backs 16 = .ok (.aload_n 0, 1) := dk_42 (dk_at dksX5_backs_0 16 rfl rfl)
theorem dX5_backs_17 : decode cX5_backs 17 = .ok (.invokestatic 121, 3) := dk_184 0 121 (dk_at dksX5_backs_0 17 rfl rfl)
theorem dX5_backs_20 : decode cX5_backs 20 = .ok (.iconst 1, 1) := dk_4 (dk_at dksX5_backs_0 20 rfl rfl)
theorem dX5_backs_21 : decode cX5_backs 21 = .ok (.ireturn, 1) := dk_172 (dk_at dksX5_backs_0 21 rfl rfl)
theorem dX5_backs_22 : decode cX5_backs 22 = .ok (.aload_n 0, 1) := dk_42 (dk_at dksX5_backs_0 22 rfl rfl)
theorem dX5_backs_23 : decode cX5_backs 23 = .ok (.iload_n 1, 1) := dk_27 (dk_at dksX5_backs_0 23 rfl rfl)
theorem dX5_backs_24 : decode cX5_backs 24 = .ok (.invokestatic 136, 3) := dk_184 0 136 (dk_at dksX5_backs_1 0 rfl rfl)
theorem dX5_backs_27 : decode cX5_backs 27 = .ok (.istore_n 2, 1) := dk_61 (dk_at dksX5_backs_1 3 rfl rfl)
theorem dX5_backs_28 : decode cX5_backs 28 = .ok (.iload_n 1, 1) := dk_27 (dk_at dksX5_backs_1 4 rfl rfl)
theorem dX5_backs_29 : decode cX5_backs 29 = .ok (.iload_n 2, 1) := dk_28 (dk_at dksX5_backs_1 5 rfl rfl)
theorem dX5_backs_30 : decode cX5_backs 30 = .ok (.if_icmp .le 56, 3) := dk_164 0 56 (dk_at dksX5_backs_1 6 rfl rfl)
theorem dX5_backs_33 : decode cX5_backs 33 = .ok (.aload_n 0, 1) := dk_42 (dk_at dksX5_backs_1 9 rfl rfl)
theorem dX5_backs_34 : decode cX5_backs 34 = .ok (.iload_n 1, 1) := dk_27 (dk_at dksX5_backs_1 10 rfl rfl)
theorem dX5_backs_35 : decode cX5_backs 35 = .ok (.invokestatic 139, 3) := dk_184 0 139 (dk_at dksX5_backs_1 11 rfl rfl)
theorem dX5_backs_38 : decode cX5_backs 38 = .ok (.istore_n 3, 1) := dk_62 (dk_at dksX5_backs_1 14 rfl rfl)
theorem dX5_backs_39 : decode cX5_backs 39 = .ok (.aload_n 0, 1) := dk_42 (dk_at dksX5_backs_1 15 rfl rfl)
theorem dX5_backs_40 : decode cX5_backs 40 = .ok (.iload_n 3, 1) := dk_29 (dk_at dksX5_backs_1 16 rfl rfl)
theorem dX5_backs_41 : decode cX5_backs 41 = .ok (.iload_n 1, 1) := dk_27 (dk_at dksX5_backs_1 17 rfl rfl)
theorem dX5_backs_42 : decode cX5_backs 42 = .ok (.invokestatic 114, 3) := dk_184 0 114 (dk_at dksX5_backs_1 18 rfl rfl)
theorem dX5_backs_45 : decode cX5_backs 45 = .ok (.iconst 1, 1) := dk_4 (dk_at dksX5_backs_1 21 rfl rfl)
theorem dX5_backs_46 : decode cX5_backs 46 = .ok (.if_icmp .ne 7, 3) := dk_160 0 7 (dk_at dksX5_backs_2 0 rfl rfl)
theorem dX5_backs_49 : decode cX5_backs 49 = .ok (.iconst 1, 1) := dk_4 (dk_at dksX5_backs_2 3 rfl rfl)
theorem dX5_backs_50 : decode cX5_backs 50 = .ok (.goto 4, 3) := dk_167 0 4 (dk_at dksX5_backs_2 4 rfl rfl)
theorem dX5_backs_53 : decode cX5_backs 53 = .ok (.iconst 0, 1) := dk_3 (dk_at dksX5_backs_2 7 rfl rfl)
theorem dX5_backs_54 : decode cX5_backs 54 = .ok (.istore 4, 2) := dk_54 4 (dk_at dksX5_backs_2 8 rfl rfl)
theorem dX5_backs_56 : decode cX5_backs 56 = .ok (.iload 4, 2) := dk_21 4 (dk_at dksX5_backs_2 10 rfl rfl)
theorem dX5_backs_58 : decode cX5_backs 58 = .ok (.ifCond .eq 9, 3) := dk_153 0 9 (dk_at dksX5_backs_2 12 rfl rfl)
theorem dX5_backs_61 : decode cX5_backs 61 = .ok (.aload_n 0, 1) := dk_42 (dk_at dksX5_backs_2 15 rfl rfl)
theorem dX5_backs_62 : decode cX5_backs 62 = .ok (.iload_n 3, 1) := dk_29 (dk_at dksX5_backs_2 16 rfl rfl)
theorem dX5_backs_63 : decode cX5_backs 63 = .ok (.iload_n 1, 1) := dk_27 (dk_at dksX5_backs_2 17 rfl rfl)
theorem dX5_backs_64 : decode cX5_backs 64 = .ok (.invokestatic 110, 3) := dk_184 0 110 (dk_at dksX5_backs_2 18 rfl rfl)
theorem dX5_backs_67 : decode cX5_backs 67 = .ok (.aload_n 0, 1) := dk_42 (dk_at dksX5_backs_2 21 rfl rfl)
theorem dX5_backs_68 : decode cX5_backs 68 = .ok (.sipush 181, 3) := dk_17 0 181 (dk_at dksX5_backs_3 0 rfl rfl)
theorem dX5_backs_71 : decode cX5_backs 71 = .ok (.iload 4, 2) := dk_21 4 (dk_at dksX5_backs_3 3 rfl rfl)
theorem dX5_backs_73 : decode cX5_backs 73 = .ok (.ifCond .eq 7, 3) := dk_153 0 7 (dk_at dksX5_backs_3 5 rfl rfl)
theorem dX5_backs_76 : decode cX5_backs 76 = .ok (.iload_n 3, 1) := dk_29 (dk_at dksX5_backs_3 8 rfl rfl)
theorem dX5_backs_77 : decode cX5_backs 77 = .ok (.goto 6, 3) := dk_167 0 6 (dk_at dksX5_backs_3 9 rfl rfl)
theorem dX5_backs_80 : decode cX5_backs 80 = .ok (.iload_n 1, 1) := dk_27 (dk_at dksX5_backs_3 12 rfl rfl)
theorem dX5_backs_81 : decode cX5_backs 81 = .ok (.iconst 1, 1) := dk_4 (dk_at dksX5_backs_3 13 rfl rfl)
theorem dX5_backs_82 : decode cX5_backs 82 = .ok (.isub, 1) := dk_100 (dk_at dksX5_backs_3 14 rfl rfl)
theorem dX5_backs_83 : decode cX5_backs 83 = .ok (.iastore, 1) := dk_79 (dk_at dksX5_backs_3 15 rfl rfl)
theorem dX5_backs_84 : decode cX5_backs 84 = .ok (.iconst 1, 1) := dk_4 (dk_at dksX5_backs_3 16 rfl rfl)
theorem dX5_backs_85 : decode cX5_backs 85 = .ok (.ireturn, 1) := dk_172 (dk_at dksX5_backs_3 17 rfl rfl)
theorem dX5_backs_86 : decode cX5_backs 86 = .ok (.iload_n 2, 1) := dk_28 (dk_at dksX5_backs_3 18 rfl rfl)
theorem dX5_backs_87 : decode cX5_backs 87 = .ok (.ifCond .ne 5, 3) := dk_154 0 5 (dk_at dksX5_backs_3 19 rfl rfl)
theorem dX5_backs_90 : decode cX5_backs 90 = .ok (.iconst 0, 1) := dk_3 (dk_at dksX5_backs_3 22 rfl rfl)
theorem dX5_backs_91 : decode cX5_backs 91 = .ok (.ireturn, 1) := dk_172 (dk_at dksX5_backs_3 23 rfl rfl)
theorem dX5_backs_92 : decode cX5_backs 92 = .ok (.aload_n 0, 1) := dk_42 (dk_at dksX5_backs_4 0 rfl rfl)
theorem dX5_backs_93 : decode cX5_backs 93 = .ok (.iload_n 2, 1) := dk_28 (dk_at dksX5_backs_4 1 rfl rfl)
theorem dX5_backs_94 : decode cX5_backs 94 = .ok (.iconst 1, 1) := dk_4 (dk_at dksX5_backs_4 2 rfl rfl)
theorem dX5_backs_95 : decode cX5_backs 95 = .ok (.isub, 1) := dk_100 (dk_at dksX5_backs_4 3 rfl rfl)
theorem dX5_backs_96 : decode cX5_backs 96 = .ok (.iaload, 1) := dk_46 (dk_at dksX5_backs_4 4 rfl rfl)
theorem dX5_backs_97 : decode cX5_backs 97 = .ok (.bipush (-10), 2) := dk_16 246 (dk_at dksX5_backs_4 5 rfl rfl)
theorem dX5_backs_99 : decode cX5_backs 99 = .ok (.if_icmp .ne 7, 3) := dk_160 0 7 (dk_at dksX5_backs_4 7 rfl rfl)
theorem dX5_backs_102 : decode cX5_backs 102 = .ok (.iconst 1, 1) := dk_4 (dk_at dksX5_backs_4 10 rfl rfl)
theorem dX5_backs_103 : decode cX5_backs 103 = .ok (.goto 4, 3) := dk_167 0 4 (dk_at dksX5_backs_4 11 rfl rfl)
theorem dX5_backs_106 : decode cX5_backs 106 = .ok (.iconst 0, 1) := dk_3 (dk_at dksX5_backs_4 14 rfl rfl)
theorem dX5_backs_107 : decode cX5_backs 107 = .ok (.istore_n 3, 1) := dk_62 (dk_at dksX5_backs_4 15 rfl rfl)
theorem dX5_backs_108 : decode cX5_backs 108 = .ok (.iload_n 3, 1) := dk_29 (dk_at dksX5_backs_4 16 rfl rfl)
theorem dX5_backs_109 : decode cX5_backs 109 = .ok (.ifCond .eq 13, 3) := dk_153 0 13 (dk_at dksX5_backs_4 17 rfl rfl)
theorem dX5_backs_112 : decode cX5_backs 112 = .ok (.aload_n 0, 1) := dk_42 (dk_at dksX5_backs_4 20 rfl rfl)
theorem dX5_backs_113 : decode cX5_backs 113 = .ok (.iload_n 2, 1) := dk_28 (dk_at dksX5_backs_4 21 rfl rfl)
theorem dX5_backs_114 : decode cX5_backs 114 = .ok (.iconst 1, 1) := dk_4 (dk_at dksX5_backs_4 22 rfl rfl)
theorem dX5_backs_115 : decode cX5_backs 115 = .ok (.isub, 1) := dk_100 (dk_at dksX5_backs_4 23 rfl rfl)
theorem dX5_backs_116 : decode cX5_backs 116 = .ok (.invokestatic 100, 3) := dk_184 0 100 (dk_at dksX5_backs_5 0 rfl rfl)
theorem dX5_backs_119 : decode cX5_backs 119 = .ok (.goto 6, 3) := dk_167 0 6 (dk_at dksX5_backs_5 3 rfl rfl)
theorem dX5_backs_122 : decode cX5_backs 122 = .ok (.iload_n 2, 1) := dk_28 (dk_at dksX5_backs_5 6 rfl rfl)
theorem dX5_backs_123 : decode cX5_backs 123 = .ok (.iconst 1, 1) := dk_4 (dk_at dksX5_backs_5 7 rfl rfl)
theorem dX5_backs_124 : decode cX5_backs 124 = .ok (.isub, 1) := dk_100 (dk_at dksX5_backs_5 8 rfl rfl)
theorem dX5_backs_125 : decode cX5_backs 125 = .ok (.istore 4, 2) := dk_54 4 (dk_at dksX5_backs_5 9 rfl rfl)
theorem dX5_backs_127 : decode cX5_backs 127 = .ok (.aload_n 0, 1) := dk_42 (dk_at dksX5_backs_5 11 rfl rfl)
theorem dX5_backs_128 : decode cX5_backs 128 = .ok (.iload_n 2, 1) := dk_28 (dk_at dksX5_backs_5 12 rfl rfl)
theorem dX5_backs_129 : decode cX5_backs 129 = .ok (.invokestatic 104, 3) := dk_184 0 104 (dk_at dksX5_backs_5 13 rfl rfl)
theorem dX5_backs_132 : decode cX5_backs 132 = .ok (.istore 5, 2) := dk_54 5 (dk_at dksX5_backs_5 16 rfl rfl)
theorem dX5_backs_134 : decode cX5_backs 134 = .ok (.iload_n 3, 1) := dk_29 (dk_at dksX5_backs_5 18 rfl rfl)
theorem dX5_backs_135 : decode cX5_backs 135 = .ok (.ifCond .eq 9, 3) := dk_153 0 9 (dk_at dksX5_backs_5 19 rfl rfl)
theorem dX5_backs_138 : decode cX5_backs 138 = .ok (.iload_n 2, 1) := dk_28 (dk_at dksX5_backs_5 22 rfl rfl)
theorem dX5_backs_139 : decode cX5_backs 139 = .ok (.iconst 1, 1) := dk_4 (dk_at dksX5_backs_5 23 rfl rfl)
theorem dX5_backs_140 : decode cX5_backs 140 = .ok (.isub, 1) := dk_100 (dk_at dksX5_backs_6 0 rfl rfl)
theorem dX5_backs_141 : decode cX5_backs 141 = .ok (.goto 8, 3) := dk_167 0 8 (dk_at dksX5_backs_6 1 rfl rfl)
theorem dX5_backs_144 : decode cX5_backs 144 = .ok (.aload_n 0, 1) := dk_42 (dk_at dksX5_backs_6 4 rfl rfl)
theorem dX5_backs_145 : decode cX5_backs 145 = .ok (.iload_n 2, 1) := dk_28 (dk_at dksX5_backs_6 5 rfl rfl)
theorem dX5_backs_146 : decode cX5_backs 146 = .ok (.invokestatic 142, 3) := dk_184 0 142 (dk_at dksX5_backs_6 6 rfl rfl)
theorem dX5_backs_149 : decode cX5_backs 149 = .ok (.istore 6, 2) := dk_54 6 (dk_at dksX5_backs_6 9 rfl rfl)
theorem dX5_backs_151 : decode cX5_backs 151 = .ok (.aload_n 0, 1) := dk_42 (dk_at dksX5_backs_6 11 rfl rfl)
theorem dX5_backs_152 : decode cX5_backs 152 = .ok (.iload 5, 2) := dk_21 5 (dk_at dksX5_backs_6 12 rfl rfl)
theorem dX5_backs_154 : decode cX5_backs 154 = .ok (.iload 5, 2) := dk_21 5 (dk_at dksX5_backs_6 14 rfl rfl)
theorem dX5_backs_156 : decode cX5_backs 156 = .ok (.iconst 1, 1) := dk_4 (dk_at dksX5_backs_6 16 rfl rfl)
theorem dX5_backs_157 : decode cX5_backs 157 = .ok (.iadd, 1) := dk_96 (dk_at dksX5_backs_6 17 rfl rfl)
theorem dX5_backs_158 : decode cX5_backs 158 = .ok (.invokestatic 110, 3) := dk_184 0 110 (dk_at dksX5_backs_6 18 rfl rfl)
theorem dX5_backs_161 : decode cX5_backs 161 = .ok (.iload 6, 2) := dk_21 6 (dk_at dksX5_backs_6 21 rfl rfl)
theorem dX5_backs_163 : decode cX5_backs 163 = .ok (.iload 5, 2) := dk_21 5 (dk_at dksX5_backs_7 0 rfl rfl)
theorem dX5_backs_165 : decode cX5_backs 165 = .ok (.if_icmp .ge 13, 3) := dk_162 0 13 (dk_at dksX5_backs_7 2 rfl rfl)
theorem dX5_backs_168 : decode cX5_backs 168 = .ok (.aload_n 0, 1) := dk_42 (dk_at dksX5_backs_7 5 rfl rfl)
theorem dX5_backs_169 : decode cX5_backs 169 = .ok (.iload 6, 2) := dk_21 6 (dk_at dksX5_backs_7 6 rfl rfl)
theorem dX5_backs_171 : decode cX5_backs 171 = .ok (.iload 6, 2) := dk_21 6 (dk_at dksX5_backs_7 8 rfl rfl)
theorem dX5_backs_173 : decode cX5_backs 173 = .ok (.iconst 1, 1) := dk_4 (dk_at dksX5_backs_7 10 rfl rfl)
theorem dX5_backs_174 : decode cX5_backs 174 = .ok (.iadd, 1) := dk_96 (dk_at dksX5_backs_7 11 rfl rfl)
theorem dX5_backs_175 : decode cX5_backs 175 = .ok (.invokestatic 110, 3) := dk_184 0 110 (dk_at dksX5_backs_7 12 rfl rfl)
theorem dX5_backs_178 : decode cX5_backs 178 = .ok (.aload_n 0, 1) := dk_42 (dk_at dksX5_backs_7 15 rfl rfl)
theorem dX5_backs_179 : decode cX5_backs 179 = .ok (.iload 4, 2) := dk_21 4 (dk_at dksX5_backs_7 16 rfl rfl)
theorem dX5_backs_181 : decode cX5_backs 181 = .ok (.iload 4, 2) := dk_21 4 (dk_at dksX5_backs_7 18 rfl rfl)
theorem dX5_backs_183 : decode cX5_backs 183 = .ok (.iconst 1, 1) := dk_4 (dk_at dksX5_backs_7 20 rfl rfl)
theorem dX5_backs_184 : decode cX5_backs 184 = .ok (.iadd, 1) := dk_96 (dk_at dksX5_backs_7 21 rfl rfl)
theorem dX5_backs_185 : decode cX5_backs 185 = .ok (.invokestatic 110, 3) := dk_184 0 110 (dk_at dksX5_backs_8 0 rfl rfl)
theorem dX5_backs_188 : decode cX5_backs 188 = .ok (.aload_n 0, 1) := dk_42 (dk_at dksX5_backs_8 3 rfl rfl)
theorem dX5_backs_189 : decode cX5_backs 189 = .ok (.sipush 181, 3) := dk_17 0 181 (dk_at dksX5_backs_8 4 rfl rfl)
theorem dX5_backs_192 : decode cX5_backs 192 = .ok (.iload_n 3, 1) := dk_29 (dk_at dksX5_backs_8 7 rfl rfl)
theorem dX5_backs_193 : decode cX5_backs 193 = .ok (.ifCond .eq 9, 3) := dk_153 0 9 (dk_at dksX5_backs_8 8 rfl rfl)
theorem dX5_backs_196 : decode cX5_backs 196 = .ok (.iload_n 2, 1) := dk_28 (dk_at dksX5_backs_8 11 rfl rfl)
theorem dX5_backs_197 : decode cX5_backs 197 = .ok (.iconst 2, 1) := dk_5 (dk_at dksX5_backs_8 12 rfl rfl)
theorem dX5_backs_198 : decode cX5_backs 198 = .ok (.isub, 1) := dk_100 (dk_at dksX5_backs_8 13 rfl rfl)
theorem dX5_backs_199 : decode cX5_backs 199 = .ok (.goto 6, 3) := dk_167 0 6 (dk_at dksX5_backs_8 14 rfl rfl)
theorem dX5_backs_202 : decode cX5_backs 202 = .ok (.iload_n 2, 1) := dk_28 (dk_at dksX5_backs_8 17 rfl rfl)
theorem dX5_backs_203 : decode cX5_backs 203 = .ok (.iconst 1, 1) := dk_4 (dk_at dksX5_backs_8 18 rfl rfl)
theorem dX5_backs_204 : decode cX5_backs 204 = .ok (.isub, 1) := dk_100 (dk_at dksX5_backs_8 19 rfl rfl)
theorem dX5_backs_205 : decode cX5_backs 205 = .ok (.iastore, 1) := dk_79 (dk_at dksX5_backs_8 20 rfl rfl)
theorem dX5_backs_206 : decode cX5_backs 206 = .ok (.iconst 1, 1) := dk_4 (dk_at dksX5_backs_8 21 rfl rfl)
theorem dX5_backs_207 : decode cX5_backs 207 = .ok (.ireturn, 1) := dk_172 (dk_at dksX5_backs_8 22 rfl rfl)
abbrev cX5_paste : ByteArray := prog_15_method_62_code
def yX5_paste : MethodName := ⟨RX5, "paste", "()I"⟩
def dkwX5_paste_8 : List UInt8 := [180, 0, 13, 3, 42, 180, 0, 13, 17, 0, 180, 46, 184, 0, 114, 172]
abbrev dktX5_paste_8 : List UInt8 := dkwX5_paste_8 ++ []
def dkwX5_paste_7 : List UInt8 := [42, 180, 0, 16, 17, 0, 181, 92, 46, 4, 96, 79, 132, 2, 1, 167, 255, 208, 42, 182, 0, 237, 42]
abbrev dktX5_paste_7 : List UInt8 := dkwX5_paste_7 ++ dktX5_paste_8
def dkwX5_paste_6 : List UInt8 := [162, 0, 42, 42, 180, 0, 16, 42, 180, 0, 16, 17, 0, 181, 46, 42, 180, 0, 29, 28, 46, 184, 0, 125]
abbrev dktX5_paste_6 : List UInt8 := dkwX5_paste_6 ++ dktX5_paste_7
def dkwX5_paste_5 : List UInt8 := [167, 0, 4, 4, 182, 0, 150, 153, 0, 5, 3, 172, 3, 61, 28, 42, 180, 0, 29, 17, 0, 180, 46]
abbrev dktX5_paste_5 : List UInt8 := dkwX5_paste_5 ++ dktX5_paste_6
def dkwX5_paste_4 : List UInt8 := [4, 167, 0, 4, 3, 60, 42, 42, 180, 0, 29, 17, 0, 180, 46, 158, 0, 11, 27, 153, 0, 7, 3]
abbrev dktX5_paste_4 : List UInt8 := dkwX5_paste_4 ++ dktX5_paste_5
def dkwX5_paste_3 : List UInt8 := [184, 0, 130, 42, 180, 0, 29, 3, 42, 180, 0, 29, 17, 0, 180, 46, 184, 0, 133, 96, 8, 163, 0, 7]
abbrev dktX5_paste_3 : List UInt8 := dkwX5_paste_3 ++ dktX5_paste_4
def dkwX5_paste_2 : List UInt8 := [46, 184, 0, 114, 96, 16, 60, 163, 0, 43, 42, 180, 0, 16, 42, 180, 0, 16, 17, 0, 181, 46]
abbrev dktX5_paste_2 : List UInt8 := dkwX5_paste_2 ++ dktX5_paste_3
def dkwX5_paste_1 : List UInt8 := [3, 42, 180, 0, 16, 17, 0, 180, 46, 184, 0, 114, 42, 180, 0, 29, 3, 42, 180, 0, 29, 17, 0, 180]
abbrev dktX5_paste_1 : List UInt8 := dkwX5_paste_1 ++ dktX5_paste_2
def dkwX5_paste_0 : List UInt8 := [42, 180, 0, 13, 3, 42, 180, 0, 16, 3, 184, 0, 226, 42, 180, 0, 16, 184, 0, 121, 42, 180, 0, 16]
abbrev dktX5_paste_0 : List UInt8 := dkwX5_paste_0 ++ dktX5_paste_1
theorem dksX5_paste_0 : cX5_paste.data.toList.drop 0 = dktX5_paste_0 := by decide +kernel
theorem dksX5_paste_1 : cX5_paste.data.toList.drop 24 = dktX5_paste_1 := dk_seg dksX5_paste_0 24 rfl rfl
theorem dksX5_paste_2 : cX5_paste.data.toList.drop 48 = dktX5_paste_2 := dk_seg dksX5_paste_1 24 rfl rfl
theorem dksX5_paste_3 : cX5_paste.data.toList.drop 70 = dktX5_paste_3 := dk_seg dksX5_paste_2 22 rfl rfl
theorem dksX5_paste_4 : cX5_paste.data.toList.drop 94 = dktX5_paste_4 := dk_seg dksX5_paste_3 24 rfl rfl
theorem dksX5_paste_5 : cX5_paste.data.toList.drop 117 = dktX5_paste_5 := dk_seg dksX5_paste_4 23 rfl rfl
theorem dksX5_paste_6 : cX5_paste.data.toList.drop 140 = dktX5_paste_6 := dk_seg dksX5_paste_5 23 rfl rfl
theorem dksX5_paste_7 : cX5_paste.data.toList.drop 164 = dktX5_paste_7 := dk_seg dksX5_paste_6 24 rfl rfl
theorem dksX5_paste_8 : cX5_paste.data.toList.drop 187 = dktX5_paste_8 := dk_seg dksX5_paste_7 23 rfl rfl
theorem dX5_paste_0 : decode cX5_paste 0 = .ok (.aload_n 0, 1) := dk_42 (dk_at dksX5_paste_0 0 rfl rfl)
theorem dX5_paste_1 : decode cX5_paste 1 = .ok (.getfield 13, 3) := dk_180 0 13 (dk_at dksX5_paste_0 1 rfl rfl)
theorem dX5_paste_4 : decode cX5_paste 4 = .ok (.iconst 0, 1) := dk_3 (dk_at dksX5_paste_0 4 rfl rfl)
theorem dX5_paste_5 : decode cX5_paste 5 = .ok (.aload_n 0, 1) := dk_42 (dk_at dksX5_paste_0 5 rfl rfl)
theorem dX5_paste_6 : decode cX5_paste 6 = .ok (.getfield 16, 3) := dk_180 0 16 (dk_at dksX5_paste_0 6 rfl rfl)
theorem dX5_paste_9 : decode cX5_paste 9 = .ok (.iconst 0, 1) := dk_3 (dk_at dksX5_paste_0 9 rfl rfl)
theorem dX5_paste_10 : decode cX5_paste 10 = .ok (.invokestatic 226, 3) := dk_184 0 226 (dk_at dksX5_paste_0 10 rfl rfl)
theorem dX5_paste_13 : decode cX5_paste 13 = .ok (.aload_n 0, 1) := dk_42 (dk_at dksX5_paste_0 13 rfl rfl)
theorem dX5_paste_14 : decode cX5_paste 14 = .ok (.getfield 16, 3) := dk_180 0 16 (dk_at dksX5_paste_0 14 rfl rfl)
theorem dX5_paste_17 : decode cX5_paste 17 = .ok (.invokestatic 121, 3) := dk_184 0 121 (dk_at dksX5_paste_0 17 rfl rfl)
theorem dX5_paste_20 : decode cX5_paste 20 = .ok (.aload_n 0, 1) := dk_42 (dk_at dksX5_paste_0 20 rfl rfl)
theorem dX5_paste_21 : decode cX5_paste 21 = .ok (.getfield 16, 3) := dk_180 0 16 (dk_at dksX5_paste_0 21 rfl rfl)
theorem dX5_paste_24 : decode cX5_paste 24 = .ok (.iconst 0, 1) := dk_3 (dk_at dksX5_paste_1 0 rfl rfl)
theorem dX5_paste_25 : decode cX5_paste 25 = .ok (.aload_n 0, 1) := dk_42 (dk_at dksX5_paste_1 1 rfl rfl)
theorem dX5_paste_26 : decode cX5_paste 26 = .ok (.getfield 16, 3) := dk_180 0 16 (dk_at dksX5_paste_1 2 rfl rfl)
theorem dX5_paste_29 : decode cX5_paste 29 = .ok (.sipush 180, 3) := dk_17 0 180 (dk_at dksX5_paste_1 5 rfl rfl)
theorem dX5_paste_32 : decode cX5_paste 32 = .ok (.iaload, 1) := dk_46 (dk_at dksX5_paste_1 8 rfl rfl)
theorem dX5_paste_33 : decode cX5_paste 33 = .ok (.invokestatic 114, 3) := dk_184 0 114 (dk_at dksX5_paste_1 9 rfl rfl)
theorem dX5_paste_36 : decode cX5_paste 36 = .ok (.aload_n 0, 1) := dk_42 (dk_at dksX5_paste_1 12 rfl rfl)
theorem dX5_paste_37 : decode cX5_paste 37 = .ok (.getfield 29, 3) := dk_180 0 29 (dk_at dksX5_paste_1 13 rfl rfl)
theorem dX5_paste_40 : decode cX5_paste 40 = .ok (.iconst 0, 1) := dk_3 (dk_at dksX5_paste_1 16 rfl rfl)
theorem dX5_paste_41 : decode cX5_paste 41 = .ok (.aload_n 0, 1) := dk_42 (dk_at dksX5_paste_1 17 rfl rfl)
theorem dX5_paste_42 : decode cX5_paste 42 = .ok (.getfield 29, 3) := dk_180 0 29 (dk_at dksX5_paste_1 18 rfl rfl)
theorem dX5_paste_45 : decode cX5_paste 45 = .ok (.sipush 180, 3) := dk_17 0 180 (dk_at dksX5_paste_1 21 rfl rfl)
theorem dX5_paste_48 : decode cX5_paste 48 = .ok (.iaload, 1) := dk_46 (dk_at dksX5_paste_2 0 rfl rfl)
theorem dX5_paste_49 : decode cX5_paste 49 = .ok (.invokestatic 114, 3) := dk_184 0 114 (dk_at dksX5_paste_2 1 rfl rfl)
theorem dX5_paste_52 : decode cX5_paste 52 = .ok (.iadd, 1) := dk_96 (dk_at dksX5_paste_2 4 rfl rfl)
theorem dX5_paste_53 : decode cX5_paste 53 = .ok (.bipush 60, 2) := dk_16 60 (dk_at dksX5_paste_2 5 rfl rfl)
theorem dX5_paste_55 : decode cX5_paste 55 = .ok (.if_icmp .gt 43, 3) := dk_163 0 43 (dk_at dksX5_paste_2 7 rfl rfl)
theorem dX5_paste_58 : decode cX5_paste 58 = .ok (.aload_n 0, 1) := dk_42 (dk_at dksX5_paste_2 10 rfl rfl)
theorem dX5_paste_59 : decode cX5_paste 59 = .ok (.getfield 16, 3) := dk_180 0 16 (dk_at dksX5_paste_2 11 rfl rfl)
theorem dX5_paste_62 : decode cX5_paste 62 = .ok (.aload_n 0, 1) := dk_42 (dk_at dksX5_paste_2 14 rfl rfl)
theorem dX5_paste_63 : decode cX5_paste 63 = .ok (.getfield 16, 3) := dk_180 0 16 (dk_at dksX5_paste_2 15 rfl rfl)
theorem dX5_paste_66 : decode cX5_paste 66 = .ok (.sipush 181, 3) := dk_17 0 181 (dk_at dksX5_paste_2 18 rfl rfl)
theorem dX5_paste_69 : decode cX5_paste 69 = .ok (.iaload, 1) := dk_46 (dk_at dksX5_paste_2 21 rfl rfl)
theorem dX5_paste_70 : decode cX5_paste 70 = .ok (.invokestatic 130, 3) := dk_184 0 130 (dk_at dksX5_paste_3 0 rfl rfl)
theorem dX5_paste_73 : decode cX5_paste 73 = .ok (.aload_n 0, 1) := dk_42 (dk_at dksX5_paste_3 3 rfl rfl)
theorem dX5_paste_74 : decode cX5_paste 74 = .ok (.getfield 29, 3) := dk_180 0 29 (dk_at dksX5_paste_3 4 rfl rfl)
theorem dX5_paste_77 : decode cX5_paste 77 = .ok (.iconst 0, 1) := dk_3 (dk_at dksX5_paste_3 7 rfl rfl)
theorem dX5_paste_78 : decode cX5_paste 78 = .ok (.aload_n 0, 1) := dk_42 (dk_at dksX5_paste_3 8 rfl rfl)
theorem dX5_paste_79 : decode cX5_paste 79 = .ok (.getfield 29, 3) := dk_180 0 29 (dk_at dksX5_paste_3 9 rfl rfl)
theorem dX5_paste_82 : decode cX5_paste 82 = .ok (.sipush 180, 3) := dk_17 0 180 (dk_at dksX5_paste_3 12 rfl rfl)
theorem dX5_paste_85 : decode cX5_paste 85 = .ok (.iaload, 1) := dk_46 (dk_at dksX5_paste_3 15 rfl rfl)
theorem dX5_paste_86 : decode cX5_paste 86 = .ok (.invokestatic 133, 3) := dk_184 0 133 (dk_at dksX5_paste_3 16 rfl rfl)
theorem dX5_paste_89 : decode cX5_paste 89 = .ok (.iadd, 1) := dk_96 (dk_at dksX5_paste_3 19 rfl rfl)
theorem dX5_paste_90 : decode cX5_paste 90 = .ok (.iconst 5, 1) := dk_8 (dk_at dksX5_paste_3 20 rfl rfl)
theorem dX5_paste_91 : decode cX5_paste 91 = .ok (.if_icmp .gt 7, 3) := dk_163 0 7 (dk_at dksX5_paste_3 21 rfl rfl)
theorem dX5_paste_94 : decode cX5_paste 94 = .ok (.iconst 1, 1) := dk_4 (dk_at dksX5_paste_4 0 rfl rfl)
theorem dX5_paste_95 : decode cX5_paste 95 = .ok (.goto 4, 3) := dk_167 0 4 (dk_at dksX5_paste_4 1 rfl rfl)
theorem dX5_paste_98 : decode cX5_paste 98 = .ok (.iconst 0, 1) := dk_3 (dk_at dksX5_paste_4 4 rfl rfl)
theorem dX5_paste_99 : decode cX5_paste 99 = .ok (.istore_n 1, 1) := dk_60 (dk_at dksX5_paste_4 5 rfl rfl)
theorem dX5_paste_100 : decode cX5_paste 100 = .ok (.aload_n 0, 1) := dk_42 (dk_at dksX5_paste_4 6 rfl rfl)
theorem dX5_paste_101 : decode cX5_paste 101 = .ok (.aload_n 0, 1) := dk_42 (dk_at dksX5_paste_4 7 rfl rfl)
theorem dX5_paste_102 : decode cX5_paste 102 = .ok (.getfield 29, 3) := dk_180 0 29 (dk_at dksX5_paste_4 8 rfl rfl)
theorem dX5_paste_105 : decode cX5_paste 105 = .ok (.sipush 180, 3) := dk_17 0 180 (dk_at dksX5_paste_4 11 rfl rfl)
theorem dX5_paste_108 : decode cX5_paste 108 = .ok (.iaload, 1) := dk_46 (dk_at dksX5_paste_4 14 rfl rfl)
theorem dX5_paste_109 : decode cX5_paste 109 = .ok (.ifCond .le 11, 3) := dk_158 0 11 (dk_at dksX5_paste_4 15 rfl rfl)
theorem dX5_paste_112 : decode cX5_paste 112 = .ok (.iload_n 1, 1) := dk_27 (dk_at dksX5_paste_4 18 rfl rfl)
theorem dX5_paste_113 : decode cX5_paste 113 = .ok (.ifCond .eq 7, 3) := dk_153 0 7 (dk_at dksX5_paste_4 19 rfl rfl)
theorem dX5_paste_116 : decode cX5_paste 116 = .ok (.iconst 0, 1) := dk_3 (dk_at dksX5_paste_4 22 rfl rfl)
theorem dX5_paste_117 : decode cX5_paste 117 = .ok (.goto 4, 3) := dk_167 0 4 (dk_at dksX5_paste_5 0 rfl rfl)
theorem dX5_paste_120 : decode cX5_paste 120 = .ok (.iconst 1, 1) := dk_4 (dk_at dksX5_paste_5 3 rfl rfl)
theorem dX5_paste_121 : decode cX5_paste 121 = .ok (.invokevirtual 150, 3) := dk_182 0 150 (dk_at dksX5_paste_5 4 rfl rfl)
theorem dX5_paste_124 : decode cX5_paste 124 = .ok (.ifCond .eq 5, 3) := dk_153 0 5 (dk_at dksX5_paste_5 7 rfl rfl)
theorem dX5_paste_127 : decode cX5_paste 127 = .ok (.iconst 0, 1) := dk_3 (dk_at dksX5_paste_5 10 rfl rfl)
theorem dX5_paste_128 : decode cX5_paste 128 = .ok (.ireturn, 1) := dk_172 (dk_at dksX5_paste_5 11 rfl rfl)
theorem dX5_paste_129 : decode cX5_paste 129 = .ok (.iconst 0, 1) := dk_3 (dk_at dksX5_paste_5 12 rfl rfl)
theorem dX5_paste_130 : decode cX5_paste 130 = .ok (.istore_n 2, 1) := dk_61 (dk_at dksX5_paste_5 13 rfl rfl)
theorem dX5_paste_131 : decode cX5_paste 131 = .ok (.iload_n 2, 1) := dk_28 (dk_at dksX5_paste_5 14 rfl rfl)
theorem dX5_paste_132 : decode cX5_paste 132 = .ok (.aload_n 0, 1) := dk_42 (dk_at dksX5_paste_5 15 rfl rfl)
theorem dX5_paste_133 : decode cX5_paste 133 = .ok (.getfield 29, 3) := dk_180 0 29 (dk_at dksX5_paste_5 16 rfl rfl)
theorem dX5_paste_136 : decode cX5_paste 136 = .ok (.sipush 180, 3) := dk_17 0 180 (dk_at dksX5_paste_5 19 rfl rfl)
theorem dX5_paste_139 : decode cX5_paste 139 = .ok (.iaload, 1) := dk_46 (dk_at dksX5_paste_5 22 rfl rfl)
theorem dX5_paste_140 : decode cX5_paste 140 = .ok (.if_icmp .ge 42, 3) := dk_162 0 42 (dk_at dksX5_paste_6 0 rfl rfl)
theorem dX5_paste_143 : decode cX5_paste 143 = .ok (.aload_n 0, 1) := dk_42 (dk_at dksX5_paste_6 3 rfl rfl)
theorem dX5_paste_144 : decode cX5_paste 144 = .ok (.getfield 16, 3) := dk_180 0 16 (dk_at dksX5_paste_6 4 rfl rfl)
theorem dX5_paste_147 : decode cX5_paste 147 = .ok (.aload_n 0, 1) := dk_42 (dk_at dksX5_paste_6 7 rfl rfl)
theorem dX5_paste_148 : decode cX5_paste 148 = .ok (.getfield 16, 3) := dk_180 0 16 (dk_at dksX5_paste_6 8 rfl rfl)
theorem dX5_paste_151 : decode cX5_paste 151 = .ok (.sipush 181, 3) := dk_17 0 181 (dk_at dksX5_paste_6 11 rfl rfl)
theorem dX5_paste_154 : decode cX5_paste 154 = .ok (.iaload, 1) := dk_46 (dk_at dksX5_paste_6 14 rfl rfl)
theorem dX5_paste_155 : decode cX5_paste 155 = .ok (.aload_n 0, 1) := dk_42 (dk_at dksX5_paste_6 15 rfl rfl)
theorem dX5_paste_156 : decode cX5_paste 156 = .ok (.getfield 29, 3) := dk_180 0 29 (dk_at dksX5_paste_6 16 rfl rfl)
theorem dX5_paste_159 : decode cX5_paste 159 = .ok (.iload_n 2, 1) := dk_28 (dk_at dksX5_paste_6 19 rfl rfl)
theorem dX5_paste_160 : decode cX5_paste 160 = .ok (.iaload, 1) := dk_46 (dk_at dksX5_paste_6 20 rfl rfl)
theorem dX5_paste_161 : decode cX5_paste 161 = .ok (.invokestatic 125, 3) := dk_184 0 125 (dk_at dksX5_paste_6 21 rfl rfl)
theorem dX5_paste_164 : decode cX5_paste 164 = .ok (.aload_n 0, 1) := dk_42 (dk_at dksX5_paste_7 0 rfl rfl)
theorem dX5_paste_165 : decode cX5_paste 165 = .ok (.getfield 16, 3) := dk_180 0 16 (dk_at dksX5_paste_7 1 rfl rfl)
theorem dX5_paste_168 : decode cX5_paste 168 = .ok (.sipush 181, 3) := dk_17 0 181 (dk_at dksX5_paste_7 4 rfl rfl)
theorem dX5_paste_171 : decode cX5_paste 171 = .ok (.dup2, 1) := dk_92 (dk_at dksX5_paste_7 7 rfl rfl)
theorem dX5_paste_172 : decode cX5_paste 172 = .ok (.iaload, 1) := dk_46 (dk_at dksX5_paste_7 8 rfl rfl)
theorem dX5_paste_173 : decode cX5_paste 173 = .ok (.iconst 1, 1) := dk_4 (dk_at dksX5_paste_7 9 rfl rfl)
theorem dX5_paste_174 : decode cX5_paste 174 = .ok (.iadd, 1) := dk_96 (dk_at dksX5_paste_7 10 rfl rfl)
theorem dX5_paste_175 : decode cX5_paste 175 = .ok (.iastore, 1) := dk_79 (dk_at dksX5_paste_7 11 rfl rfl)
theorem dX5_paste_176 : decode cX5_paste 176 = .ok (.iinc 2 1, 3) := dk_132 2 1 (dk_at dksX5_paste_7 12 rfl rfl)
theorem dX5_paste_179 : decode cX5_paste 179 = .ok (.goto (-48), 3) := dk_167 255 208 (dk_at dksX5_paste_7 15 rfl rfl)
theorem dX5_paste_182 : decode cX5_paste 182 = .ok (.aload_n 0, 1) := dk_42 (dk_at dksX5_paste_7 18 rfl rfl)
theorem dX5_paste_183 : decode cX5_paste 183 = .ok (.invokevirtual 237, 3) := dk_182 0 237 (dk_at dksX5_paste_7 19 rfl rfl)
theorem dX5_paste_186 : decode cX5_paste 186 = .ok (.aload_n 0, 1) := dk_42 (dk_at dksX5_paste_7 22 rfl rfl)
theorem dX5_paste_187 : decode cX5_paste 187 = .ok (.getfield 13, 3) := dk_180 0 13 (dk_at dksX5_paste_8 0 rfl rfl)
theorem dX5_paste_190 : decode cX5_paste 190 = .ok (.iconst 0, 1) := dk_3 (dk_at dksX5_paste_8 3 rfl rfl)
theorem dX5_paste_191 : decode cX5_paste 191 = .ok (.aload_n 0, 1) := dk_42 (dk_at dksX5_paste_8 4 rfl rfl)
theorem dX5_paste_192 : decode cX5_paste 192 = .ok (.getfield 13, 3) := dk_180 0 13 (dk_at dksX5_paste_8 5 rfl rfl)
theorem dX5_paste_195 : decode cX5_paste 195 = .ok (.sipush 180, 3) := dk_17 0 180 (dk_at dksX5_paste_8 8 rfl rfl)
theorem dX5_paste_198 : decode cX5_paste 198 = .ok (.iaload, 1) := dk_46 (dk_at dksX5_paste_8 11 rfl rfl)
theorem dX5_paste_199 : decode cX5_paste 199 = .ok (.invokestatic 114, 3) := dk_184 0 114 (dk_at dksX5_paste_8 12 rfl rfl)
theorem dX5_paste_202 : decode cX5_paste 202 = .ok (.ireturn, 1) := dk_172 (dk_at dksX5_paste_8 15 rfl rfl)
abbrev cX5_replace : ByteArray := prog_15_method_63_code
def yX5_replace : MethodName := ⟨RX5, "replace", "(II)I"⟩
def dkwX5_replace_4 : List UInt8 := [21, 4, 46, 79, 132, 4, 1, 167, 255, 192, 29, 172]
abbrev dktX5_replace_4 : List UInt8 := dkwX5_replace_4 ++ []
def dkwX5_replace_3 : List UInt8 := [180, 0, 13, 21, 4, 42, 180, 0, 13, 21, 4, 46, 27, 160, 0, 7, 28, 167, 0, 10, 42, 180, 0, 13]
abbrev dktX5_replace_3 : List UInt8 := dkwX5_replace_3 ++ dktX5_replace_4
def dkwX5_replace_2 : List UInt8 := [162, 0, 57, 29, 42, 180, 0, 13, 21, 4, 46, 27, 160, 0, 7, 4, 167, 0, 4, 3, 96, 62, 42]
abbrev dktX5_replace_2 : List UInt8 := dkwX5_replace_2 ++ dktX5_replace_3
def dkwX5_replace_1 : List UInt8 := [153, 0, 5, 3, 172, 42, 182, 0, 230, 3, 62, 3, 54, 4, 21, 4, 42, 180, 0, 13, 17, 0, 180, 46]
abbrev dktX5_replace_1 : List UInt8 := dkwX5_replace_1 ++ dktX5_replace_2
def dkwX5_replace_0 : List UInt8 := [42, 27, 184, 0, 118, 153, 0, 14, 28, 184, 0, 118, 153, 0, 7, 3, 167, 0, 4, 4, 182, 0, 150]
abbrev dktX5_replace_0 : List UInt8 := dkwX5_replace_0 ++ dktX5_replace_1
theorem dksX5_replace_0 : cX5_replace.data.toList.drop 0 = dktX5_replace_0 := by decide +kernel
theorem dksX5_replace_1 : cX5_replace.data.toList.drop 23 = dktX5_replace_1 := dk_seg dksX5_replace_0 23 rfl rfl
theorem dksX5_replace_2 : cX5_replace.data.toList.drop 47 = dktX5_replace_2 := dk_seg dksX5_replace_1 24 rfl rfl
theorem dksX5_replace_3 : cX5_replace.data.toList.drop 70 = dktX5_replace_3 := dk_seg dksX5_replace_2 23 rfl rfl
theorem dksX5_replace_4 : cX5_replace.data.toList.drop 94 = dktX5_replace_4 := dk_seg dksX5_replace_3 24 rfl rfl
theorem dX5_replace_0 : decode cX5_replace 0 = .ok (.aload_n 0, 1) := dk_42 (dk_at dksX5_replace_0 0 rfl rfl)
theorem dX5_replace_1 : decode cX5_replace 1 = .ok (.iload_n 1, 1) := dk_27 (dk_at dksX5_replace_0 1 rfl rfl)
theorem dX5_replace_2 : decode cX5_replace 2 = .ok (.invokestatic 118, 3) := dk_184 0 118 (dk_at dksX5_replace_0 2 rfl rfl)
theorem dX5_replace_5 : decode cX5_replace 5 = .ok (.ifCond .eq 14, 3) := dk_153 0 14 (dk_at dksX5_replace_0 5 rfl rfl)
theorem dX5_replace_8 : decode cX5_replace 8 = .ok (.iload_n 2, 1) := dk_28 (dk_at dksX5_replace_0 8 rfl rfl)
theorem dX5_replace_9 : decode cX5_replace 9 = .ok (.invokestatic 118, 3) := dk_184 0 118 (dk_at dksX5_replace_0 9 rfl rfl)
theorem dX5_replace_12 : decode cX5_replace 12 = .ok (.ifCond .eq 7, 3) := dk_153 0 7 (dk_at dksX5_replace_0 12 rfl rfl)
theorem dX5_replace_15 : decode cX5_replace 15 = .ok (.iconst 0, 1) := dk_3 (dk_at dksX5_replace_0 15 rfl rfl)
theorem dX5_replace_16 : decode cX5_replace 16 = .ok (.goto 4, 3) := dk_167 0 4 (dk_at dksX5_replace_0 16 rfl rfl)
theorem dX5_replace_19 : decode cX5_replace 19 = .ok (.iconst 1, 1) := dk_4 (dk_at dksX5_replace_0 19 rfl rfl)
theorem dX5_replace_20 : decode cX5_replace 20 = .ok (.invokevirtual 150, 3) := dk_182 0 150 (dk_at dksX5_replace_0 20 rfl rfl)
theorem dX5_replace_23 : decode cX5_replace 23 = .ok (.ifCond .eq 5, 3) := dk_153 0 5 (dk_at dksX5_replace_1 0 rfl rfl)
theorem dX5_replace_26 : decode cX5_replace 26 = .ok (.iconst 0, 1) := dk_3 (dk_at dksX5_replace_1 3 rfl rfl)
theorem dX5_replace_27 : decode cX5_replace 27 = .ok (.ireturn, 1) := dk_172 (dk_at dksX5_replace_1 4 rfl rfl)
theorem dX5_replace_28 : decode cX5_replace 28 = .ok (.aload_n 0, 1) := dk_42 (dk_at dksX5_replace_1 5 rfl rfl)
theorem dX5_replace_29 : decode cX5_replace 29 = .ok (.invokevirtual 230, 3) := dk_182 0 230 (dk_at dksX5_replace_1 6 rfl rfl)
theorem dX5_replace_32 : decode cX5_replace 32 = .ok (.iconst 0, 1) := dk_3 (dk_at dksX5_replace_1 9 rfl rfl)
theorem dX5_replace_33 : decode cX5_replace 33 = .ok (.istore_n 3, 1) := dk_62 (dk_at dksX5_replace_1 10 rfl rfl)
theorem dX5_replace_34 : decode cX5_replace 34 = .ok (.iconst 0, 1) := dk_3 (dk_at dksX5_replace_1 11 rfl rfl)
theorem dX5_replace_35 : decode cX5_replace 35 = .ok (.istore 4, 2) := dk_54 4 (dk_at dksX5_replace_1 12 rfl rfl)
theorem dX5_replace_37 : decode cX5_replace 37 = .ok (.iload 4, 2) := dk_21 4 (dk_at dksX5_replace_1 14 rfl rfl)
theorem dX5_replace_39 : decode cX5_replace 39 = .ok (.aload_n 0, 1) := dk_42 (dk_at dksX5_replace_1 16 rfl rfl)
theorem dX5_replace_40 : decode cX5_replace 40 = .ok (.getfield 13, 3) := dk_180 0 13 (dk_at dksX5_replace_1 17 rfl rfl)
theorem dX5_replace_43 : decode cX5_replace 43 = .ok (.sipush 180, 3) := dk_17 0 180 (dk_at dksX5_replace_1 20 rfl rfl)
theorem dX5_replace_46 : decode cX5_replace 46 = .ok (.iaload, 1) := dk_46 (dk_at dksX5_replace_1 23 rfl rfl)
theorem dX5_replace_47 : decode cX5_replace 47 = .ok (.if_icmp .ge 57, 3) := dk_162 0 57 (dk_at dksX5_replace_2 0 rfl rfl)
theorem dX5_replace_50 : decode cX5_replace 50 = .ok (.iload_n 3, 1) := dk_29 (dk_at dksX5_replace_2 3 rfl rfl)
theorem dX5_replace_51 : decode cX5_replace 51 = .ok (.aload_n 0, 1) := dk_42 (dk_at dksX5_replace_2 4 rfl rfl)
theorem dX5_replace_52 : decode cX5_replace 52 = .ok (.getfield 13, 3) := dk_180 0 13 (dk_at dksX5_replace_2 5 rfl rfl)
theorem dX5_replace_55 : decode cX5_replace 55 = .ok (.iload 4, 2) := dk_21 4 (dk_at dksX5_replace_2 8 rfl rfl)
theorem dX5_replace_57 : decode cX5_replace 57 = .ok (.iaload, 1) := dk_46 (dk_at dksX5_replace_2 10 rfl rfl)
theorem dX5_replace_58 : decode cX5_replace 58 = .ok (.iload_n 1, 1) := dk_27 (dk_at dksX5_replace_2 11 rfl rfl)
theorem dX5_replace_59 : decode cX5_replace 59 = .ok (.if_icmp .ne 7, 3) := dk_160 0 7 (dk_at dksX5_replace_2 12 rfl rfl)
theorem dX5_replace_62 : decode cX5_replace 62 = .ok (.iconst 1, 1) := dk_4 (dk_at dksX5_replace_2 15 rfl rfl)
theorem dX5_replace_63 : decode cX5_replace 63 = .ok (.goto 4, 3) := dk_167 0 4 (dk_at dksX5_replace_2 16 rfl rfl)
theorem dX5_replace_66 : decode cX5_replace 66 = .ok (.iconst 0, 1) := dk_3 (dk_at dksX5_replace_2 19 rfl rfl)
theorem dX5_replace_67 : decode cX5_replace 67 = .ok (.iadd, 1) := dk_96 (dk_at dksX5_replace_2 20 rfl rfl)
theorem dX5_replace_68 : decode cX5_replace 68 = .ok (.istore_n 3, 1) := dk_62 (dk_at dksX5_replace_2 21 rfl rfl)
theorem dX5_replace_69 : decode cX5_replace 69 = .ok (.aload_n 0, 1) := dk_42 (dk_at dksX5_replace_2 22 rfl rfl)
theorem dX5_replace_70 : decode cX5_replace 70 = .ok (.getfield 13, 3) := dk_180 0 13 (dk_at dksX5_replace_3 0 rfl rfl)
theorem dX5_replace_73 : decode cX5_replace 73 = .ok (.iload 4, 2) := dk_21 4 (dk_at dksX5_replace_3 3 rfl rfl)
theorem dX5_replace_75 : decode cX5_replace 75 = .ok (.aload_n 0, 1) := dk_42 (dk_at dksX5_replace_3 5 rfl rfl)
theorem dX5_replace_76 : decode cX5_replace 76 = .ok (.getfield 13, 3) := dk_180 0 13 (dk_at dksX5_replace_3 6 rfl rfl)
theorem dX5_replace_79 : decode cX5_replace 79 = .ok (.iload 4, 2) := dk_21 4 (dk_at dksX5_replace_3 9 rfl rfl)
theorem dX5_replace_81 : decode cX5_replace 81 = .ok (.iaload, 1) := dk_46 (dk_at dksX5_replace_3 11 rfl rfl)
theorem dX5_replace_82 : decode cX5_replace 82 = .ok (.iload_n 1, 1) := dk_27 (dk_at dksX5_replace_3 12 rfl rfl)
theorem dX5_replace_83 : decode cX5_replace 83 = .ok (.if_icmp .ne 7, 3) := dk_160 0 7 (dk_at dksX5_replace_3 13 rfl rfl)
theorem dX5_replace_86 : decode cX5_replace 86 = .ok (.iload_n 2, 1) := dk_28 (dk_at dksX5_replace_3 16 rfl rfl)
theorem dX5_replace_87 : decode cX5_replace 87 = .ok (.goto 10, 3) := dk_167 0 10 (dk_at dksX5_replace_3 17 rfl rfl)
theorem dX5_replace_90 : decode cX5_replace 90 = .ok (.aload_n 0, 1) := dk_42 (dk_at dksX5_replace_3 20 rfl rfl)
theorem dX5_replace_91 : decode cX5_replace 91 = .ok (.getfield 13, 3) := dk_180 0 13 (dk_at dksX5_replace_3 21 rfl rfl)
theorem dX5_replace_94 : decode cX5_replace 94 = .ok (.iload 4, 2) := dk_21 4 (dk_at dksX5_replace_4 0 rfl rfl)
theorem dX5_replace_96 : decode cX5_replace 96 = .ok (.iaload, 1) := dk_46 (dk_at dksX5_replace_4 2 rfl rfl)
theorem dX5_replace_97 : decode cX5_replace 97 = .ok (.iastore, 1) := dk_79 (dk_at dksX5_replace_4 3 rfl rfl)
theorem dX5_replace_98 : decode cX5_replace 98 = .ok (.iinc 4 1, 3) := dk_132 4 1 (dk_at dksX5_replace_4 4 rfl rfl)
theorem dX5_replace_101 : decode cX5_replace 101 = .ok (.goto (-64), 3) := dk_167 255 192 (dk_at dksX5_replace_4 7 rfl rfl)
theorem dX5_replace_104 : decode cX5_replace 104 = .ok (.iload_n 3, 1) := dk_29 (dk_at dksX5_replace_4 10 rfl rfl)
theorem dX5_replace_105 : decode cX5_replace 105 = .ok (.ireturn, 1) := dk_172 (dk_at dksX5_replace_4 11 rfl rfl)
abbrev cX5_undo : ByteArray := prog_15_method_64_code
def yX5_undo : MethodName := ⟨RX5, "undo", "()I"⟩
def dkwX5_undo_2 : List UInt8 := [3, 184, 0, 226, 42, 180, 0, 182, 172]
abbrev dktX5_undo_2 : List UInt8 := dkwX5_undo_2 ++ []
def dkwX5_undo_1 : List UInt8 := [180, 0, 182, 4, 100, 181, 0, 182, 42, 180, 0, 19, 17, 0, 184, 42, 180, 0, 182, 104, 42, 180, 0, 13]
abbrev dktX5_undo_1 : List UInt8 := dkwX5_undo_1 ++ dktX5_undo_2
def dkwX5_undo_0 : List UInt8 := [42, 42, 180, 0, 182, 154, 0, 7, 4, 167, 0, 4, 3, 182, 0, 150, 153, 0, 5, 3, 172, 42, 89]
abbrev dktX5_undo_0 : List UInt8 := dkwX5_undo_0 ++ dktX5_undo_1
theorem dksX5_undo_0 : cX5_undo.data.toList.drop 0 = dktX5_undo_0 := by decide +kernel
theorem dksX5_undo_1 : cX5_undo.data.toList.drop 23 = dktX5_undo_1 := dk_seg dksX5_undo_0 23 rfl rfl
theorem dksX5_undo_2 : cX5_undo.data.toList.drop 47 = dktX5_undo_2 := dk_seg dksX5_undo_1 24 rfl rfl
theorem dX5_undo_0 : decode cX5_undo 0 = .ok (.aload_n 0, 1) := dk_42 (dk_at dksX5_undo_0 0 rfl rfl)
theorem dX5_undo_1 : decode cX5_undo 1 = .ok (.aload_n 0, 1) := dk_42 (dk_at dksX5_undo_0 1 rfl rfl)
theorem dX5_undo_2 : decode cX5_undo 2 = .ok (.getfield 182, 3) := dk_180 0 182 (dk_at dksX5_undo_0 2 rfl rfl)
theorem dX5_undo_5 : decode cX5_undo 5 = .ok (.ifCond .ne 7, 3) := dk_154 0 7 (dk_at dksX5_undo_0 5 rfl rfl)
theorem dX5_undo_8 : decode cX5_undo 8 = .ok (.iconst 1, 1) := dk_4 (dk_at dksX5_undo_0 8 rfl rfl)
theorem dX5_undo_9 : decode cX5_undo 9 = .ok (.goto 4, 3) := dk_167 0 4 (dk_at dksX5_undo_0 9 rfl rfl)
theorem dX5_undo_12 : decode cX5_undo 12 = .ok (.iconst 0, 1) := dk_3 (dk_at dksX5_undo_0 12 rfl rfl)
theorem dX5_undo_13 : decode cX5_undo 13 = .ok (.invokevirtual 150, 3) := dk_182 0 150 (dk_at dksX5_undo_0 13 rfl rfl)
theorem dX5_undo_16 : decode cX5_undo 16 = .ok (.ifCond .eq 5, 3) := dk_153 0 5 (dk_at dksX5_undo_0 16 rfl rfl)
theorem dX5_undo_19 : decode cX5_undo 19 = .ok (.iconst 0, 1) := dk_3 (dk_at dksX5_undo_0 19 rfl rfl)
theorem dX5_undo_20 : decode cX5_undo 20 = .ok (.ireturn, 1) := dk_172 (dk_at dksX5_undo_0 20 rfl rfl)
theorem dX5_undo_21 : decode cX5_undo 21 = .ok (.aload_n 0, 1) := dk_42 (dk_at dksX5_undo_0 21 rfl rfl)
theorem dX5_undo_22 : decode cX5_undo 22 = .ok (.dup, 1) := dk_89 (dk_at dksX5_undo_0 22 rfl rfl)
theorem dX5_undo_23 : decode cX5_undo 23 = .ok (.getfield 182, 3) := dk_180 0 182 (dk_at dksX5_undo_1 0 rfl rfl)
theorem dX5_undo_26 : decode cX5_undo 26 = .ok (.iconst 1, 1) := dk_4 (dk_at dksX5_undo_1 3 rfl rfl)
theorem dX5_undo_27 : decode cX5_undo 27 = .ok (.isub, 1) := dk_100 (dk_at dksX5_undo_1 4 rfl rfl)
theorem dX5_undo_28 : decode cX5_undo 28 = .ok (.putfield 182, 3) := dk_181 0 182 (dk_at dksX5_undo_1 5 rfl rfl)
theorem dX5_undo_31 : decode cX5_undo 31 = .ok (.aload_n 0, 1) := dk_42 (dk_at dksX5_undo_1 8 rfl rfl)
theorem dX5_undo_32 : decode cX5_undo 32 = .ok (.getfield 19, 3) := dk_180 0 19 (dk_at dksX5_undo_1 9 rfl rfl)
theorem dX5_undo_35 : decode cX5_undo 35 = .ok (.sipush 184, 3) := dk_17 0 184 (dk_at dksX5_undo_1 12 rfl rfl)
theorem dX5_undo_38 : decode cX5_undo 38 = .ok (.aload_n 0, 1) := dk_42 (dk_at dksX5_undo_1 15 rfl rfl)
theorem dX5_undo_39 : decode cX5_undo 39 = .ok (.getfield 182, 3) := dk_180 0 182 (dk_at dksX5_undo_1 16 rfl rfl)
theorem dX5_undo_42 : decode cX5_undo 42 = .ok (.imul, 1) := dk_104 (dk_at dksX5_undo_1 19 rfl rfl)
theorem dX5_undo_43 : decode cX5_undo 43 = .ok (.aload_n 0, 1) := dk_42 (dk_at dksX5_undo_1 20 rfl rfl)
theorem dX5_undo_44 : decode cX5_undo 44 = .ok (.getfield 13, 3) := dk_180 0 13 (dk_at dksX5_undo_1 21 rfl rfl)
theorem dX5_undo_47 : decode cX5_undo 47 = .ok (.iconst 0, 1) := dk_3 (dk_at dksX5_undo_2 0 rfl rfl)
theorem dX5_undo_48 : decode cX5_undo 48 = .ok (.invokestatic 226, 3) := dk_184 0 226 (dk_at dksX5_undo_2 1 rfl rfl)
theorem dX5_undo_51 : decode cX5_undo 51 = .ok (.aload_n 0, 1) := dk_42 (dk_at dksX5_undo_2 4 rfl rfl)
theorem dX5_undo_52 : decode cX5_undo 52 = .ok (.getfield 182, 3) := dk_180 0 182 (dk_at dksX5_undo_2 5 rfl rfl)
theorem dX5_undo_55 : decode cX5_undo 55 = .ok (.ireturn, 1) := dk_172 (dk_at dksX5_undo_2 8 rfl rfl)
abbrev cX5_drawing : ByteArray := prog_15_method_67_code
def yX5_drawing : MethodName := ⟨RX5, "drawing", "(I)I"⟩
def dkwX5_drawing_3 : List UInt8 := [180, 0, 59, 3, 46, 172]
abbrev dktX5_drawing_3 : List UInt8 := dkwX5_drawing_3 ++ []
def dkwX5_drawing_2 : List UInt8 := [4, 160, 0, 21, 42, 180, 0, 59, 3, 46, 4, 96, 42, 180, 0, 62, 3, 46, 96, 167, 0, 9, 42]
abbrev dktX5_drawing_2 : List UInt8 := dkwX5_drawing_2 ++ dktX5_drawing_3
def dkwX5_drawing_1 : List UInt8 := [3, 172, 42, 42, 180, 0, 13, 182, 0, 249, 27, 154, 0, 12, 42, 180, 0, 56, 3, 46, 167, 0, 32, 27]
abbrev dktX5_drawing_1 : List UInt8 := dkwX5_drawing_1 ++ dktX5_drawing_2
def dkwX5_drawing_0 : List UInt8 := [42, 27, 133, 9, 20, 0, 191, 184, 0, 79, 153, 0, 7, 3, 167, 0, 4, 4, 182, 0, 150, 153, 0, 5]
abbrev dktX5_drawing_0 : List UInt8 := dkwX5_drawing_0 ++ dktX5_drawing_1
theorem dksX5_drawing_0 : cX5_drawing.data.toList.drop 0 = dktX5_drawing_0 := by decide +kernel
theorem dksX5_drawing_1 : cX5_drawing.data.toList.drop 24 = dktX5_drawing_1 := dk_seg dksX5_drawing_0 24 rfl rfl
theorem dksX5_drawing_2 : cX5_drawing.data.toList.drop 48 = dktX5_drawing_2 := dk_seg dksX5_drawing_1 24 rfl rfl
theorem dksX5_drawing_3 : cX5_drawing.data.toList.drop 71 = dktX5_drawing_3 := dk_seg dksX5_drawing_2 23 rfl rfl
theorem dX5_drawing_0 : decode cX5_drawing 0 = .ok (.aload_n 0, 1) := dk_42 (dk_at dksX5_drawing_0 0 rfl rfl)
theorem dX5_drawing_1 : decode cX5_drawing 1 = .ok (.iload_n 1, 1) := dk_27 (dk_at dksX5_drawing_0 1 rfl rfl)
theorem dX5_drawing_2 : decode cX5_drawing 2 = .ok (.i2l, 1) := dk_133 (dk_at dksX5_drawing_0 2 rfl rfl)
theorem dX5_drawing_3 : decode cX5_drawing 3 = .ok (.lconst 0, 1) := dk_9 (dk_at dksX5_drawing_0 3 rfl rfl)
theorem dX5_drawing_4 : decode cX5_drawing 4 = .ok (.ldc2_w 191, 3) := dk_20 0 191 (dk_at dksX5_drawing_0 4 rfl rfl)
theorem dX5_drawing_7 : decode cX5_drawing 7 = .ok (.invokestatic 79, 3) := dk_184 0 79 (dk_at dksX5_drawing_0 7 rfl rfl)
theorem dX5_drawing_10 : decode cX5_drawing 10 = .ok (.ifCond .eq 7, 3) := dk_153 0 7 (dk_at dksX5_drawing_0 10 rfl rfl)
theorem dX5_drawing_13 : decode cX5_drawing 13 = .ok (.iconst 0, 1) := dk_3 (dk_at dksX5_drawing_0 13 rfl rfl)
theorem dX5_drawing_14 : decode cX5_drawing 14 = .ok (.goto 4, 3) := dk_167 0 4 (dk_at dksX5_drawing_0 14 rfl rfl)
theorem dX5_drawing_17 : decode cX5_drawing 17 = .ok (.iconst 1, 1) := dk_4 (dk_at dksX5_drawing_0 17 rfl rfl)
theorem dX5_drawing_18 : decode cX5_drawing 18 = .ok (.invokevirtual 150, 3) := dk_182 0 150 (dk_at dksX5_drawing_0 18 rfl rfl)
theorem dX5_drawing_21 : decode cX5_drawing 21 = .ok (.ifCond .eq 5, 3) := dk_153 0 5 (dk_at dksX5_drawing_0 21 rfl rfl)
theorem dX5_drawing_24 : decode cX5_drawing 24 = .ok (.iconst 0, 1) := dk_3 (dk_at dksX5_drawing_1 0 rfl rfl)
theorem dX5_drawing_25 : decode cX5_drawing 25 = .ok (.ireturn, 1) := dk_172 (dk_at dksX5_drawing_1 1 rfl rfl)
theorem dX5_drawing_26 : decode cX5_drawing 26 = .ok (.aload_n 0, 1) := dk_42 (dk_at dksX5_drawing_1 2 rfl rfl)
theorem dX5_drawing_27 : decode cX5_drawing 27 = .ok (.aload_n 0, 1) := dk_42 (dk_at dksX5_drawing_1 3 rfl rfl)
theorem dX5_drawing_28 : decode cX5_drawing 28 = .ok (.getfield 13, 3) := dk_180 0 13 (dk_at dksX5_drawing_1 4 rfl rfl)
theorem dX5_drawing_31 : decode cX5_drawing 31 = .ok (.invokevirtual 249, 3) := dk_182 0 249 (dk_at dksX5_drawing_1 7 rfl rfl)
theorem dX5_drawing_34 : decode cX5_drawing 34 = .ok (.iload_n 1, 1) := dk_27 (dk_at dksX5_drawing_1 10 rfl rfl)
theorem dX5_drawing_35 : decode cX5_drawing 35 = .ok (.ifCond .ne 12, 3) := dk_154 0 12 (dk_at dksX5_drawing_1 11 rfl rfl)
theorem dX5_drawing_38 : decode cX5_drawing 38 = .ok (.aload_n 0, 1) := dk_42 (dk_at dksX5_drawing_1 14 rfl rfl)
theorem dX5_drawing_39 : decode cX5_drawing 39 = .ok (.getfield 56, 3) := dk_180 0 56 (dk_at dksX5_drawing_1 15 rfl rfl)
theorem dX5_drawing_42 : decode cX5_drawing 42 = .ok (.iconst 0, 1) := dk_3 (dk_at dksX5_drawing_1 18 rfl rfl)
theorem dX5_drawing_43 : decode cX5_drawing 43 = .ok (.iaload, 1) := dk_46 (dk_at dksX5_drawing_1 19 rfl rfl)
theorem dX5_drawing_44 : decode cX5_drawing 44 = .ok (.goto 32, 3) := dk_167 0 32 (dk_at dksX5_drawing_1 20 rfl rfl)
theorem dX5_drawing_47 : decode cX5_drawing 47 = .ok (.iload_n 1, 1) := dk_27 (dk_at dksX5_drawing_1 23 rfl rfl)
theorem dX5_drawing_48 : decode cX5_drawing 48 = .ok (.iconst 1, 1) := dk_4 (dk_at dksX5_drawing_2 0 rfl rfl)
theorem dX5_drawing_49 : decode cX5_drawing 49 = .ok (.if_icmp .ne 21, 3) := dk_160 0 21 (dk_at dksX5_drawing_2 1 rfl rfl)
theorem dX5_drawing_52 : decode cX5_drawing 52 = .ok (.aload_n 0, 1) := dk_42 (dk_at dksX5_drawing_2 4 rfl rfl)
theorem dX5_drawing_53 : decode cX5_drawing 53 = .ok (.getfield 59, 3) := dk_180 0 59 (dk_at dksX5_drawing_2 5 rfl rfl)
theorem dX5_drawing_56 : decode cX5_drawing 56 = .ok (.iconst 0, 1) := dk_3 (dk_at dksX5_drawing_2 8 rfl rfl)
theorem dX5_drawing_57 : decode cX5_drawing 57 = .ok (.iaload, 1) := dk_46 (dk_at dksX5_drawing_2 9 rfl rfl)
theorem dX5_drawing_58 : decode cX5_drawing 58 = .ok (.iconst 1, 1) := dk_4 (dk_at dksX5_drawing_2 10 rfl rfl)
theorem dX5_drawing_59 : decode cX5_drawing 59 = .ok (.iadd, 1) := dk_96 (dk_at dksX5_drawing_2 11 rfl rfl)
theorem dX5_drawing_60 : decode cX5_drawing 60 = .ok (.aload_n 0, 1) := dk_42 (dk_at dksX5_drawing_2 12 rfl rfl)
theorem dX5_drawing_61 : decode cX5_drawing 61 = .ok (.getfield 62, 3) := dk_180 0 62 (dk_at dksX5_drawing_2 13 rfl rfl)
theorem dX5_drawing_64 : decode cX5_drawing 64 = .ok (.iconst 0, 1) := dk_3 (dk_at dksX5_drawing_2 16 rfl rfl)
theorem dX5_drawing_65 : decode cX5_drawing 65 = .ok (.iaload, 1) := dk_46 (dk_at dksX5_drawing_2 17 rfl rfl)
theorem dX5_drawing_66 : decode cX5_drawing 66 = .ok (.iadd, 1) := dk_96 (dk_at dksX5_drawing_2 18 rfl rfl)
theorem dX5_drawing_67 : decode cX5_drawing 67 = .ok (.goto 9, 3) := dk_167 0 9 (dk_at dksX5_drawing_2 19 rfl rfl)
theorem dX5_drawing_70 : decode cX5_drawing 70 = .ok (.aload_n 0, 1) := dk_42 (dk_at dksX5_drawing_2 22 rfl rfl)
theorem dX5_drawing_71 : decode cX5_drawing 71 = .ok (.getfield 59, 3) := dk_180 0 59 (dk_at dksX5_drawing_3 0 rfl rfl)
theorem dX5_drawing_74 : decode cX5_drawing 74 = .ok (.iconst 0, 1) := dk_3 (dk_at dksX5_drawing_3 3 rfl rfl)
theorem dX5_drawing_75 : decode cX5_drawing 75 = .ok (.iaload, 1) := dk_46 (dk_at dksX5_drawing_3 4 rfl rfl)
theorem dX5_drawing_76 : decode cX5_drawing 76 = .ok (.ireturn, 1) := dk_172 (dk_at dksX5_drawing_3 5 rfl rfl)
abbrev cX5_layBoxes : ByteArray := prog_15_method_66_code
def yX5_layBoxes : MethodName := ⟨RX5, "layBoxes", "([I)V"⟩
def dkwX5_layBoxes_2 : List UInt8 := [182, 0, 246, 177]
abbrev dktX5_layBoxes_2 : List UInt8 := dkwX5_layBoxes_2 ++ []
def dkwX5_layBoxes_1 : List UInt8 := [16, 246, 160, 0, 11, 42, 43, 28, 4, 96, 182, 0, 246, 132, 2, 255, 167, 255, 224, 42, 43, 3]
abbrev dktX5_layBoxes_1 : List UInt8 := dkwX5_layBoxes_1 ++ dktX5_layBoxes_2
def dkwX5_layBoxes_0 : List UInt8 := [43, 17, 0, 180, 46, 4, 100, 61, 28, 155, 0, 34, 43, 28, 46, 184, 0, 97, 154, 0, 11, 43, 28, 46]
abbrev dktX5_layBoxes_0 : List UInt8 := dkwX5_layBoxes_0 ++ dktX5_layBoxes_1
theorem dksX5_layBoxes_0 : cX5_layBoxes.data.toList.drop 0 = dktX5_layBoxes_0 := by decide +kernel
theorem dksX5_layBoxes_1 : cX5_layBoxes.data.toList.drop 24 = dktX5_layBoxes_1 := dk_seg dksX5_layBoxes_0 24 rfl rfl
theorem dksX5_layBoxes_2 : cX5_layBoxes.data.toList.drop 46 = dktX5_layBoxes_2 := dk_seg dksX5_layBoxes_1 22 rfl rfl
theorem dX5_layBoxes_0 : decode cX5_layBoxes 0 = .ok (.aload_n 1, 1) := dk_43 (dk_at dksX5_layBoxes_0 0 rfl rfl)
theorem dX5_layBoxes_1 : decode cX5_layBoxes 1 = .ok (.sipush 180, 3) := dk_17 0 180 (dk_at dksX5_layBoxes_0 1 rfl rfl)
theorem dX5_layBoxes_4 : decode cX5_layBoxes 4 = .ok (.iaload, 1) := dk_46 (dk_at dksX5_layBoxes_0 4 rfl rfl)
theorem dX5_layBoxes_5 : decode cX5_layBoxes 5 = .ok (.iconst 1, 1) := dk_4 (dk_at dksX5_layBoxes_0 5 rfl rfl)
theorem dX5_layBoxes_6 : decode cX5_layBoxes 6 = .ok (.isub, 1) := dk_100 (dk_at dksX5_layBoxes_0 6 rfl rfl)
theorem dX5_layBoxes_7 : decode cX5_layBoxes 7 = .ok (.istore_n 2, 1) := dk_61 (dk_at dksX5_layBoxes_0 7 rfl rfl)
theorem dX5_layBoxes_8 : decode cX5_layBoxes 8 = .ok (.iload_n 2, 1) := dk_28 (dk_at dksX5_layBoxes_0 8 rfl rfl)
theorem dX5_layBoxes_9 : decode cX5_layBoxes 9 = .ok (.ifCond .lt 34, 3) := dk_155 0 34 (dk_at dksX5_layBoxes_0 9 rfl rfl)
theorem dX5_layBoxes_12 : decode cX5_layBoxes 12 = .ok (.aload_n 1, 1) := dk_43 (dk_at dksX5_layBoxes_0 12 rfl rfl)
theorem dX5_layBoxes_13 : decode cX5_layBoxes 13 = .ok (.iload_n 2, 1) := dk_28 (dk_at dksX5_layBoxes_0 13 rfl rfl)
theorem dX5_layBoxes_14 : decode cX5_layBoxes 14 = .ok (.iaload, 1) := dk_46 (dk_at dksX5_layBoxes_0 14 rfl rfl)
theorem dX5_layBoxes_15 : decode cX5_layBoxes 15 = .ok (.invokestatic 97, 3) := dk_184 0 97 (dk_at dksX5_layBoxes_0 15 rfl rfl)
theorem dX5_layBoxes_18 : decode cX5_layBoxes 18 = .ok (.ifCond .ne 11, 3) := dk_154 0 11 (dk_at dksX5_layBoxes_0 18 rfl rfl)
theorem dX5_layBoxes_21 : decode cX5_layBoxes 21 = .ok (.aload_n 1, 1) := dk_43 (dk_at dksX5_layBoxes_0 21 rfl rfl)
theorem dX5_layBoxes_22 : decode cX5_layBoxes 22 = .ok (.iload_n 2, 1) := dk_28 (dk_at dksX5_layBoxes_0 22 rfl rfl)
theorem dX5_layBoxes_23 : decode cX5_layBoxes 23 = .ok (.iaload, 1) := dk_46 (dk_at dksX5_layBoxes_0 23 rfl rfl)
theorem dX5_layBoxes_24 : decode cX5_layBoxes 24 = .ok (.bipush (-10), 2) := dk_16 246 (dk_at dksX5_layBoxes_1 0 rfl rfl)
theorem dX5_layBoxes_26 : decode cX5_layBoxes 26 = .ok (.if_icmp .ne 11, 3) := dk_160 0 11 (dk_at dksX5_layBoxes_1 2 rfl rfl)
theorem dX5_layBoxes_29 : decode cX5_layBoxes 29 = .ok (.aload_n 0, 1) := dk_42 (dk_at dksX5_layBoxes_1 5 rfl rfl)
theorem dX5_layBoxes_30 : decode cX5_layBoxes 30 = .ok (.aload_n 1, 1) := dk_43 (dk_at dksX5_layBoxes_1 6 rfl rfl)
theorem dX5_layBoxes_31 : decode cX5_layBoxes 31 = .ok (.iload_n 2, 1) := dk_28 (dk_at dksX5_layBoxes_1 7 rfl rfl)
theorem dX5_layBoxes_32 : decode cX5_layBoxes 32 = .ok (.iconst 1, 1) := dk_4 (dk_at dksX5_layBoxes_1 8 rfl rfl)
theorem dX5_layBoxes_33 : decode cX5_layBoxes 33 = .ok (.iadd, 1) := dk_96 (dk_at dksX5_layBoxes_1 9 rfl rfl)
theorem dX5_layBoxes_34 : decode cX5_layBoxes 34 = .ok (.invokevirtual 246, 3) := dk_182 0 246 (dk_at dksX5_layBoxes_1 10 rfl rfl)
theorem dX5_layBoxes_37 : decode cX5_layBoxes 37 = .ok (.iinc 2 (-1), 3) := dk_132 2 255 (dk_at dksX5_layBoxes_1 13 rfl rfl)
theorem dX5_layBoxes_40 : decode cX5_layBoxes 40 = .ok (.goto (-32), 3) := dk_167 255 224 (dk_at dksX5_layBoxes_1 16 rfl rfl)
theorem dX5_layBoxes_43 : decode cX5_layBoxes 43 = .ok (.aload_n 0, 1) := dk_42 (dk_at dksX5_layBoxes_1 19 rfl rfl)
theorem dX5_layBoxes_44 : decode cX5_layBoxes 44 = .ok (.aload_n 1, 1) := dk_43 (dk_at dksX5_layBoxes_1 20 rfl rfl)
theorem dX5_layBoxes_45 : decode cX5_layBoxes 45 = .ok (.iconst 0, 1) := dk_3 (dk_at dksX5_layBoxes_1 21 rfl rfl)
theorem dX5_layBoxes_46 : decode cX5_layBoxes 46 = .ok (.invokevirtual 246, 3) := dk_182 0 246 (dk_at dksX5_layBoxes_2 0 rfl rfl)
theorem dX5_layBoxes_49 : decode cX5_layBoxes 49 = .ok (.return_, 1) := dk_177 (dk_at dksX5_layBoxes_2 3 rfl rfl)
abbrev cX5_layRow : ByteArray := prog_15_method_65_code
def yX5_layRow : MethodName := ⟨RX5, "layRow", "([II)V"⟩
def dkwX5_layRow_15 : List UInt8 := [21, 6, 167, 0, 9, 42, 180, 0, 62, 28, 46, 79, 43, 21, 4, 184, 0, 107, 54, 4, 167, 254, 180, 177]
abbrev dktX5_layRow_15 : List UInt8 := dkwX5_layRow_15 ++ []
def dkwX5_layRow_14 : List UInt8 := [42, 180, 0, 59, 28, 46, 79, 42, 180, 0, 62, 28, 21, 6, 42, 180, 0, 62, 28, 46, 164, 0, 8]
abbrev dktX5_layRow_14 : List UInt8 := dkwX5_layRow_14 ++ dktX5_layRow_15
def dkwX5_layRow_13 : List UInt8 := [46, 96, 79, 42, 180, 0, 59, 28, 21, 5, 42, 180, 0, 59, 28, 46, 164, 0, 8, 21, 5, 167, 0, 9]
abbrev dktX5_layRow_13 : List UInt8 := dkwX5_layRow_13 ++ dktX5_layRow_14
def dkwX5_layRow_12 : List UInt8 := [167, 0, 10, 42, 180, 0, 56, 21, 7, 46, 79, 42, 180, 0, 56, 28, 92, 46, 42, 180, 0, 65, 21, 4]
abbrev dktX5_layRow_12 : List UInt8 := dkwX5_layRow_12 ++ dktX5_layRow_13
def dkwX5_layRow_11 : List UInt8 := [180, 0, 56, 21, 10, 46, 42, 180, 0, 56, 21, 7, 46, 164, 0, 13, 42, 180, 0, 56, 21, 10, 46]
abbrev dktX5_layRow_11 : List UInt8 := dkwX5_layRow_11 ++ dktX5_layRow_12
def dkwX5_layRow_10 : List UInt8 := [21, 10, 46, 4, 96, 42, 180, 0, 62, 21, 10, 46, 96, 54, 6, 42, 180, 0, 65, 21, 4, 42]
abbrev dktX5_layRow_10 : List UInt8 := dkwX5_layRow_10 ++ dktX5_layRow_11
def dkwX5_layRow_9 : List UInt8 := [3, 54, 6, 21, 9, 4, 160, 0, 73, 43, 21, 7, 184, 0, 142, 4, 96, 54, 10, 42, 180, 0, 59]
abbrev dktX5_layRow_9 : List UInt8 := dkwX5_layRow_9 ++ dktX5_layRow_10
def dkwX5_layRow_8 : List UInt8 := [160, 0, 8, 21, 8, 167, 0, 20, 21, 9, 6, 164, 0, 13, 42, 180, 0, 62, 21, 7, 46, 167, 0, 4]
abbrev dktX5_layRow_8 : List UInt8 := dkwX5_layRow_8 ++ dktX5_layRow_9
def dkwX5_layRow_7 : List UInt8 := [42, 180, 0, 59, 21, 7, 46, 4, 96, 167, 0, 10, 42, 180, 0, 59, 21, 7, 46, 54, 5, 21, 9, 6]
abbrev dktX5_layRow_7 : List UInt8 := dkwX5_layRow_7 ++ dktX5_layRow_8
def dkwX5_layRow_6 : List UInt8 := [162, 0, 8, 21, 8, 167, 0, 38, 21, 9, 6, 160, 0, 7, 3, 167, 0, 28, 21, 9, 7, 160, 0, 15]
abbrev dktX5_layRow_6 : List UInt8 := dkwX5_layRow_6 ++ dktX5_layRow_7
def dkwX5_layRow_5 : List UInt8 := [7, 160, 0, 7, 4, 167, 0, 14, 21, 9, 8, 160, 0, 7, 5, 167, 0, 4, 3, 96, 79, 21, 9, 6]
abbrev dktX5_layRow_5 : List UInt8 := dkwX5_layRow_5 ++ dktX5_layRow_6
def dkwX5_layRow_4 : List UInt8 := [54, 8, 43, 21, 4, 46, 116, 54, 9, 42, 180, 0, 65, 21, 4, 42, 180, 0, 56, 21, 7, 46, 21, 9]
abbrev dktX5_layRow_4 : List UInt8 := dkwX5_layRow_4 ++ dktX5_layRow_5
def dkwX5_layRow_3 : List UInt8 := [21, 4, 4, 96, 54, 7, 42, 180, 0, 59, 21, 7, 46, 4, 96, 42, 180, 0, 62, 21, 7, 46, 96]
abbrev dktX5_layRow_3 : List UInt8 := dkwX5_layRow_3 ++ dktX5_layRow_4
def dkwX5_layRow_2 : List UInt8 := [54, 5, 3, 54, 6, 42, 180, 0, 65, 21, 4, 4, 79, 43, 21, 4, 46, 184, 0, 97, 153, 0, 225]
abbrev dktX5_layRow_2 : List UInt8 := dkwX5_layRow_2 ++ dktX5_layRow_3
def dkwX5_layRow_1 : List UInt8 := [180, 0, 59, 28, 3, 79, 42, 180, 0, 62, 28, 3, 79, 28, 54, 4, 21, 4, 29, 162, 1, 76, 3]
abbrev dktX5_layRow_1 : List UInt8 := dkwX5_layRow_1 ++ dktX5_layRow_2
def dkwX5_layRow_0 : List UInt8 := [43, 28, 184, 0, 142, 62, 42, 180, 0, 56, 28, 28, 29, 160, 0, 7, 4, 167, 0, 4, 3, 79, 42]
abbrev dktX5_layRow_0 : List UInt8 := dkwX5_layRow_0 ++ dktX5_layRow_1
theorem dksX5_layRow_0 : cX5_layRow.data.toList.drop 0 = dktX5_layRow_0 := by decide +kernel
theorem dksX5_layRow_1 : cX5_layRow.data.toList.drop 23 = dktX5_layRow_1 := dk_seg dksX5_layRow_0 23 rfl rfl
theorem dksX5_layRow_2 : cX5_layRow.data.toList.drop 46 = dktX5_layRow_2 := dk_seg dksX5_layRow_1 23 rfl rfl
theorem dksX5_layRow_3 : cX5_layRow.data.toList.drop 69 = dktX5_layRow_3 := dk_seg dksX5_layRow_2 23 rfl rfl
theorem dksX5_layRow_4 : cX5_layRow.data.toList.drop 92 = dktX5_layRow_4 := dk_seg dksX5_layRow_3 23 rfl rfl
theorem dksX5_layRow_5 : cX5_layRow.data.toList.drop 116 = dktX5_layRow_5 := dk_seg dksX5_layRow_4 24 rfl rfl
theorem dksX5_layRow_6 : cX5_layRow.data.toList.drop 140 = dktX5_layRow_6 := dk_seg dksX5_layRow_5 24 rfl rfl
theorem dksX5_layRow_7 : cX5_layRow.data.toList.drop 164 = dktX5_layRow_7 := dk_seg dksX5_layRow_6 24 rfl rfl
theorem dksX5_layRow_8 : cX5_layRow.data.toList.drop 188 = dktX5_layRow_8 := dk_seg dksX5_layRow_7 24 rfl rfl
theorem dksX5_layRow_9 : cX5_layRow.data.toList.drop 212 = dktX5_layRow_9 := dk_seg dksX5_layRow_8 24 rfl rfl
theorem dksX5_layRow_10 : cX5_layRow.data.toList.drop 235 = dktX5_layRow_10 := dk_seg dksX5_layRow_9 23 rfl rfl
theorem dksX5_layRow_11 : cX5_layRow.data.toList.drop 257 = dktX5_layRow_11 := dk_seg dksX5_layRow_10 22 rfl rfl
theorem dksX5_layRow_12 : cX5_layRow.data.toList.drop 280 = dktX5_layRow_12 := dk_seg dksX5_layRow_11 23 rfl rfl
theorem dksX5_layRow_13 : cX5_layRow.data.toList.drop 304 = dktX5_layRow_13 := dk_seg dksX5_layRow_12 24 rfl rfl
theorem dksX5_layRow_14 : cX5_layRow.data.toList.drop 328 = dktX5_layRow_14 := dk_seg dksX5_layRow_13 24 rfl rfl
theorem dksX5_layRow_15 : cX5_layRow.data.toList.drop 351 = dktX5_layRow_15 := dk_seg dksX5_layRow_14 23 rfl rfl
theorem dX5_layRow_0 : decode cX5_layRow 0 = .ok (.aload_n 1, 1) := dk_43 (dk_at dksX5_layRow_0 0 rfl rfl)
theorem dX5_layRow_1 : decode cX5_layRow 1 = .ok (.iload_n 2, 1) := dk_28 (dk_at dksX5_layRow_0 1 rfl rfl)
theorem dX5_layRow_2 : decode cX5_layRow 2 = .ok (.invokestatic 142, 3) := dk_184 0 142 (dk_at dksX5_layRow_0 2 rfl rfl)
theorem dX5_layRow_5 : decode cX5_layRow 5 = .ok (.istore_n 3, 1) := dk_62 (dk_at dksX5_layRow_0 5 rfl rfl)
theorem dX5_layRow_6 : decode cX5_layRow 6 = .ok (.aload_n 0, 1) := dk_42 (dk_at dksX5_layRow_0 6 rfl rfl)
theorem dX5_layRow_7 : decode cX5_layRow 7 = .ok (.getfield 56, 3) := dk_180 0 56 (dk_at dksX5_layRow_0 7 rfl rfl)
theorem dX5_layRow_10 : decode cX5_layRow 10 = .ok (.iload_n 2, 1) := dk_28 (dk_at dksX5_layRow_0 10 rfl rfl)
theorem dX5_layRow_11 : decode cX5_layRow 11 = .ok (.iload_n 2, 1) := dk_28 (dk_at dksX5_layRow_0 11 rfl rfl)
theorem dX5_layRow_12 : decode cX5_layRow 12 = .ok (.iload_n 3, 1) := dk_29 (dk_at dksX5_layRow_0 12 rfl rfl)
theorem dX5_layRow_13 : decode cX5_layRow 13 = .ok (.if_icmp .ne 7, 3) := dk_160 0 7 (dk_at dksX5_layRow_0 13 rfl rfl)
theorem dX5_layRow_16 : decode cX5_layRow 16 = .ok (.iconst 1, 1) := dk_4 (dk_at dksX5_layRow_0 16 rfl rfl)
theorem dX5_layRow_17 : decode cX5_layRow 17 = .ok (.goto 4, 3) := dk_167 0 4 (dk_at dksX5_layRow_0 17 rfl rfl)
theorem dX5_layRow_20 : decode cX5_layRow 20 = .ok (.iconst 0, 1) := dk_3 (dk_at dksX5_layRow_0 20 rfl rfl)
theorem dX5_layRow_21 : decode cX5_layRow 21 = .ok (.iastore, 1) := dk_79 (dk_at dksX5_layRow_0 21 rfl rfl)
theorem dX5_layRow_22 : decode cX5_layRow 22 = .ok (.aload_n 0, 1) := dk_42 (dk_at dksX5_layRow_0 22 rfl rfl)
theorem dX5_layRow_23 : decode cX5_layRow 23 = .ok (.getfield 59, 3) := dk_180 0 59 (dk_at dksX5_layRow_1 0 rfl rfl)
theorem dX5_layRow_26 : decode cX5_layRow 26 = .ok (.iload_n 2, 1) := dk_28 (dk_at dksX5_layRow_1 3 rfl rfl)
theorem dX5_layRow_27 : decode cX5_layRow 27 = .ok (.iconst 0, 1) := dk_3 (dk_at dksX5_layRow_1 4 rfl rfl)
theorem dX5_layRow_28 : decode cX5_layRow 28 = .ok (.iastore, 1) := dk_79 (dk_at dksX5_layRow_1 5 rfl rfl)
theorem dX5_layRow_29 : decode cX5_layRow 29 = .ok (.aload_n 0, 1) := dk_42 (dk_at dksX5_layRow_1 6 rfl rfl)
theorem dX5_layRow_30 : decode cX5_layRow 30 = .ok (.getfield 62, 3) := dk_180 0 62 (dk_at dksX5_layRow_1 7 rfl rfl)
theorem dX5_layRow_33 : decode cX5_layRow 33 = .ok (.iload_n 2, 1) := dk_28 (dk_at dksX5_layRow_1 10 rfl rfl)
theorem dX5_layRow_34 : decode cX5_layRow 34 = .ok (.iconst 0, 1) := dk_3 (dk_at dksX5_layRow_1 11 rfl rfl)
theorem dX5_layRow_35 : decode cX5_layRow 35 = .ok (.iastore, 1) := dk_79 (dk_at dksX5_layRow_1 12 rfl rfl)
theorem dX5_layRow_36 : decode cX5_layRow 36 = .ok (.iload_n 2, 1) := dk_28 (dk_at dksX5_layRow_1 13 rfl rfl)
theorem dX5_layRow_37 : decode cX5_layRow 37 = .ok (.istore 4, 2) := dk_54 4 (dk_at dksX5_layRow_1 14 rfl rfl)
theorem dX5_layRow_39 : decode cX5_layRow 39 = .ok (.iload 4, 2) := dk_21 4 (dk_at dksX5_layRow_1 16 rfl rfl)
theorem dX5_layRow_41 : decode cX5_layRow 41 = .ok (.iload_n 3, 1) := dk_29 (dk_at dksX5_layRow_1 18 rfl rfl)
theorem dX5_layRow_42 : decode cX5_layRow 42 = .ok (.if_icmp .ge 332, 3) := dk_162 1 76 (dk_at dksX5_layRow_1 19 rfl rfl)
theorem dX5_layRow_45 : decode cX5_layRow 45 = .ok (.iconst 0, 1) := dk_3 (dk_at dksX5_layRow_1 22 rfl rfl)
theorem dX5_layRow_46 : decode cX5_layRow 46 = .ok (.istore 5, 2) := dk_54 5 (dk_at dksX5_layRow_2 0 rfl rfl)
theorem dX5_layRow_48 : decode cX5_layRow 48 = .ok (.iconst 0, 1) := dk_3 (dk_at dksX5_layRow_2 2 rfl rfl)
theorem dX5_layRow_49 : decode cX5_layRow 49 = .ok (.istore 6, 2) := dk_54 6 (dk_at dksX5_layRow_2 3 rfl rfl)
theorem dX5_layRow_51 : decode cX5_layRow 51 = .ok (.aload_n 0, 1) := dk_42 (dk_at dksX5_layRow_2 5 rfl rfl)
theorem dX5_layRow_52 : decode cX5_layRow 52 = .ok (.getfield 65, 3) := dk_180 0 65 (dk_at dksX5_layRow_2 6 rfl rfl)
theorem dX5_layRow_55 : decode cX5_layRow 55 = .ok (.iload 4, 2) := dk_21 4 (dk_at dksX5_layRow_2 9 rfl rfl)
theorem dX5_layRow_57 : decode cX5_layRow 57 = .ok (.iconst 1, 1) := dk_4 (dk_at dksX5_layRow_2 11 rfl rfl)
theorem dX5_layRow_58 : decode cX5_layRow 58 = .ok (.iastore, 1) := dk_79 (dk_at dksX5_layRow_2 12 rfl rfl)
theorem dX5_layRow_59 : decode cX5_layRow 59 = .ok (.aload_n 1, 1) := dk_43 (dk_at dksX5_layRow_2 13 rfl rfl)
theorem dX5_layRow_60 : decode cX5_layRow 60 = .ok (.iload 4, 2) := dk_21 4 (dk_at dksX5_layRow_2 14 rfl rfl)
theorem dX5_layRow_62 : decode cX5_layRow 62 = .ok (.iaload, 1) := dk_46 (dk_at dksX5_layRow_2 16 rfl rfl)
theorem dX5_layRow_63 : decode cX5_layRow 63 = .ok (.invokestatic 97, 3) := dk_184 0 97 (dk_at dksX5_layRow_2 17 rfl rfl)
theorem dX5_layRow_66 : decode cX5_layRow 66 = .ok (.ifCond .eq 225, 3) := dk_153 0 225 (dk_at dksX5_layRow_2 20 rfl rfl)
theorem dX5_layRow_69 : decode cX5_layRow 69 = .ok (.iload 4, 2) := dk_21 4 (dk_at dksX5_layRow_3 0 rfl rfl)
theorem dX5_layRow_71 : decode cX5_layRow 71 = .ok (.iconst 1, 1) := dk_4 (dk_at dksX5_layRow_3 2 rfl rfl)
theorem dX5_layRow_72 : decode cX5_layRow 72 = .ok (.iadd, 1) := dk_96 (dk_at dksX5_layRow_3 3 rfl rfl)
theorem dX5_layRow_73 : decode cX5_layRow 73 = .ok (.istore 7, 2) := dk_54 7 (dk_at dksX5_layRow_3 4 rfl rfl)
theorem dX5_layRow_75 : decode cX5_layRow 75 = .ok (.aload_n 0, 1) := dk_42 (dk_at dksX5_layRow_3 6 rfl rfl)
theorem dX5_layRow_76 : decode cX5_layRow 76 = .ok (.getfield 59, 3) := dk_180 0 59 (dk_at dksX5_layRow_3 7 rfl rfl)
theorem dX5_layRow_79 : decode cX5_layRow 79 = .ok (.iload 7, 2) := dk_21 7 (dk_at dksX5_layRow_3 10 rfl rfl)
theorem dX5_layRow_81 : decode cX5_layRow 81 = .ok (.iaload, 1) := dk_46 (dk_at dksX5_layRow_3 12 rfl rfl)
theorem dX5_layRow_82 : decode cX5_layRow 82 = .ok (.iconst 1, 1) := dk_4 (dk_at dksX5_layRow_3 13 rfl rfl)
theorem dX5_layRow_83 : decode cX5_layRow 83 = .ok (.iadd, 1) := dk_96 (dk_at dksX5_layRow_3 14 rfl rfl)
theorem dX5_layRow_84 : decode cX5_layRow 84 = .ok (.aload_n 0, 1) := dk_42 (dk_at dksX5_layRow_3 15 rfl rfl)
theorem dX5_layRow_85 : decode cX5_layRow 85 = .ok (.getfield 62, 3) := dk_180 0 62 (dk_at dksX5_layRow_3 16 rfl rfl)
theorem dX5_layRow_88 : decode cX5_layRow 88 = .ok (.iload 7, 2) := dk_21 7 (dk_at dksX5_layRow_3 19 rfl rfl)
theorem dX5_layRow_90 : decode cX5_layRow 90 = .ok (.iaload, 1) := dk_46 (dk_at dksX5_layRow_3 21 rfl rfl)
theorem dX5_layRow_91 : decode cX5_layRow 91 = .ok (.iadd, 1) := dk_96 (dk_at dksX5_layRow_3 22 rfl rfl)
theorem dX5_layRow_92 : decode cX5_layRow 92 = .ok (.istore 8, 2) := dk_54 8 (dk_at dksX5_layRow_4 0 rfl rfl)
theorem dX5_layRow_94 : decode cX5_layRow 94 = .ok (.aload_n 1, 1) := dk_43 (dk_at dksX5_layRow_4 2 rfl rfl)
theorem dX5_layRow_95 : decode cX5_layRow 95 = .ok (.iload 4, 2) := dk_21 4 (dk_at dksX5_layRow_4 3 rfl rfl)
theorem dX5_layRow_97 : decode cX5_layRow 97 = .ok (.iaload, 1) := dk_46 (dk_at dksX5_layRow_4 5 rfl rfl)
theorem dX5_layRow_98 : decode cX5_layRow 98 = .ok (.ineg, 1) := dk_116 (dk_at dksX5_layRow_4 6 rfl rfl)
theorem dX5_layRow_99 : decode cX5_layRow 99 = .ok (.istore 9, 2) := dk_54 9 (dk_at dksX5_layRow_4 7 rfl rfl)
theorem dX5_layRow_101 : decode cX5_layRow 101 = .ok (.aload_n 0, 1) := dk_42 (dk_at dksX5_layRow_4 9 rfl rfl)
theorem dX5_layRow_102 : decode cX5_layRow 102 = .ok (.getfield 65, 3) := dk_180 0 65 (dk_at dksX5_layRow_4 10 rfl rfl)
theorem dX5_layRow_105 : decode cX5_layRow 105 = .ok (.iload 4, 2) := dk_21 4 (dk_at dksX5_layRow_4 13 rfl rfl)
theorem dX5_layRow_107 : decode cX5_layRow 107 = .ok (.aload_n 0, 1) := dk_42 (dk_at dksX5_layRow_4 15 rfl rfl)
theorem dX5_layRow_108 : decode cX5_layRow 108 = .ok (.getfield 56, 3) := dk_180 0 56 (dk_at dksX5_layRow_4 16 rfl rfl)
theorem dX5_layRow_111 : decode cX5_layRow 111 = .ok (.iload 7, 2) := dk_21 7 (dk_at dksX5_layRow_4 19 rfl rfl)
theorem dX5_layRow_113 : decode cX5_layRow 113 = .ok (.iaload, 1) := dk_46 (dk_at dksX5_layRow_4 21 rfl rfl)
theorem dX5_layRow_114 : decode cX5_layRow 114 = .ok (.iload 9, 2) := dk_21 9 (dk_at dksX5_layRow_4 22 rfl rfl)
theorem dX5_layRow_116 : decode cX5_layRow 116 = .ok (.iconst 4, 1) := dk_7 (dk_at dksX5_layRow_5 0 rfl rfl)
theorem dX5_layRow_117 : decode cX5_layRow 117 = .ok (.if_icmp .ne 7, 3) := dk_160 0 7 (dk_at dksX5_layRow_5 1 rfl rfl)
theorem dX5_layRow_120 : decode cX5_layRow 120 = .ok (.iconst 1, 1) := dk_4 (dk_at dksX5_layRow_5 4 rfl rfl)
theorem dX5_layRow_121 : decode cX5_layRow 121 = .ok (.goto 14, 3) := dk_167 0 14 (dk_at dksX5_layRow_5 5 rfl rfl)
theorem dX5_layRow_124 : decode cX5_layRow 124 = .ok (.iload 9, 2) := dk_21 9 (dk_at dksX5_layRow_5 8 rfl rfl)
theorem dX5_layRow_126 : decode cX5_layRow 126 = .ok (.iconst 5, 1) := dk_8 (dk_at dksX5_layRow_5 10 rfl rfl)
theorem dX5_layRow_127 : decode cX5_layRow 127 = .ok (.if_icmp .ne 7, 3) := dk_160 0 7 (dk_at dksX5_layRow_5 11 rfl rfl)
theorem dX5_layRow_130 : decode cX5_layRow 130 = .ok (.iconst 2, 1) := dk_5 (dk_at dksX5_layRow_5 14 rfl rfl)
theorem dX5_layRow_131 : decode cX5_layRow 131 = .ok (.goto 4, 3) := dk_167 0 4 (dk_at dksX5_layRow_5 15 rfl rfl)
theorem dX5_layRow_134 : decode cX5_layRow 134 = .ok (.iconst 0, 1) := dk_3 (dk_at dksX5_layRow_5 18 rfl rfl)
theorem dX5_layRow_135 : decode cX5_layRow 135 = .ok (.iadd, 1) := dk_96 (dk_at dksX5_layRow_5 19 rfl rfl)
theorem dX5_layRow_136 : decode cX5_layRow 136 = .ok (.iastore, 1) := dk_79 (dk_at dksX5_layRow_5 20 rfl rfl)
theorem dX5_layRow_137 : decode cX5_layRow 137 = .ok (.iload 9, 2) := dk_21 9 (dk_at dksX5_layRow_5 21 rfl rfl)
theorem dX5_layRow_139 : decode cX5_layRow 139 = .ok (.iconst 3, 1) := dk_6 (dk_at dksX5_layRow_5 23 rfl rfl)
theorem dX5_layRow_140 : decode cX5_layRow 140 = .ok (.if_icmp .ge 8, 3) := dk_162 0 8 (dk_at dksX5_layRow_6 0 rfl rfl)
theorem dX5_layRow_143 : decode cX5_layRow 143 = .ok (.iload 8, 2) := dk_21 8 (dk_at dksX5_layRow_6 3 rfl rfl)
theorem dX5_layRow_145 : decode cX5_layRow 145 = .ok (.goto 38, 3) := dk_167 0 38 (dk_at dksX5_layRow_6 5 rfl rfl)
theorem dX5_layRow_148 : decode cX5_layRow 148 = .ok (.iload 9, 2) := dk_21 9 (dk_at dksX5_layRow_6 8 rfl rfl)
theorem dX5_layRow_150 : decode cX5_layRow 150 = .ok (.iconst 3, 1) := dk_6 (dk_at dksX5_layRow_6 10 rfl rfl)
theorem dX5_layRow_151 : decode cX5_layRow 151 = .ok (.if_icmp .ne 7, 3) := dk_160 0 7 (dk_at dksX5_layRow_6 11 rfl rfl)
theorem dX5_layRow_154 : decode cX5_layRow 154 = .ok (.iconst 0, 1) := dk_3 (dk_at dksX5_layRow_6 14 rfl rfl)
theorem dX5_layRow_155 : decode cX5_layRow 155 = .ok (.goto 28, 3) := dk_167 0 28 (dk_at dksX5_layRow_6 15 rfl rfl)
theorem dX5_layRow_158 : decode cX5_layRow 158 = .ok (.iload 9, 2) := dk_21 9 (dk_at dksX5_layRow_6 18 rfl rfl)
theorem dX5_layRow_160 : decode cX5_layRow 160 = .ok (.iconst 4, 1) := dk_7 (dk_at dksX5_layRow_6 20 rfl rfl)
theorem dX5_layRow_161 : decode cX5_layRow 161 = .ok (.if_icmp .ne 15, 3) := dk_160 0 15 (dk_at dksX5_layRow_6 21 rfl rfl)
theorem dX5_layRow_164 : decode cX5_layRow 164 = .ok (.aload_n 0, 1) := dk_42 (dk_at dksX5_layRow_7 0 rfl rfl)
theorem dX5_layRow_165 : decode cX5_layRow 165 = .ok (.getfield 59, 3) := dk_180 0 59 (dk_at dksX5_layRow_7 1 rfl rfl)
theorem dX5_layRow_168 : decode cX5_layRow 168 = .ok (.iload 7, 2) := dk_21 7 (dk_at dksX5_layRow_7 4 rfl rfl)
theorem dX5_layRow_170 : decode cX5_layRow 170 = .ok (.iaload, 1) := dk_46 (dk_at dksX5_layRow_7 6 rfl rfl)
theorem dX5_layRow_171 : decode cX5_layRow 171 = .ok (.iconst 1, 1) := dk_4 (dk_at dksX5_layRow_7 7 rfl rfl)
theorem dX5_layRow_172 : decode cX5_layRow 172 = .ok (.iadd, 1) := dk_96 (dk_at dksX5_layRow_7 8 rfl rfl)
theorem dX5_layRow_173 : decode cX5_layRow 173 = .ok (.goto 10, 3) := dk_167 0 10 (dk_at dksX5_layRow_7 9 rfl rfl)
theorem dX5_layRow_176 : decode cX5_layRow 176 = .ok (.aload_n 0, 1) := dk_42 (dk_at dksX5_layRow_7 12 rfl rfl)
theorem dX5_layRow_177 : decode cX5_layRow 177 = .ok (.getfield 59, 3) := dk_180 0 59 (dk_at dksX5_layRow_7 13 rfl rfl)
theorem dX5_layRow_180 : decode cX5_layRow 180 = .ok (.iload 7, 2) := dk_21 7 (dk_at dksX5_layRow_7 16 rfl rfl)
theorem dX5_layRow_182 : decode cX5_layRow 182 = .ok (.iaload, 1) := dk_46 (dk_at dksX5_layRow_7 18 rfl rfl)
theorem dX5_layRow_183 : decode cX5_layRow 183 = .ok (.istore 5, 2) := dk_54 5 (dk_at dksX5_layRow_7 19 rfl rfl)
theorem dX5_layRow_185 : decode cX5_layRow 185 = .ok (.iload 9, 2) := dk_21 9 (dk_at dksX5_layRow_7 21 rfl rfl)
theorem dX5_layRow_187 : decode cX5_layRow 187 = .ok (.iconst 3, 1) := dk_6 (dk_at dksX5_layRow_7 23 rfl rfl)
theorem dX5_layRow_188 : decode cX5_layRow 188 = .ok (.if_icmp .ne 8, 3) := dk_160 0 8 (dk_at dksX5_layRow_8 0 rfl rfl)
theorem dX5_layRow_191 : decode cX5_layRow 191 = .ok (.iload 8, 2) := dk_21 8 (dk_at dksX5_layRow_8 3 rfl rfl)
theorem dX5_layRow_193 : decode cX5_layRow 193 = .ok (.goto 20, 3) := dk_167 0 20 (dk_at dksX5_layRow_8 5 rfl rfl)
theorem dX5_layRow_196 : decode cX5_layRow 196 = .ok (.iload 9, 2) := dk_21 9 (dk_at dksX5_layRow_8 8 rfl rfl)
theorem dX5_layRow_198 : decode cX5_layRow 198 = .ok (.iconst 3, 1) := dk_6 (dk_at dksX5_layRow_8 10 rfl rfl)
theorem dX5_layRow_199 : decode cX5_layRow 199 = .ok (.if_icmp .le 13, 3) := dk_164 0 13 (dk_at dksX5_layRow_8 11 rfl rfl)
theorem dX5_layRow_202 : decode cX5_layRow 202 = .ok (.aload_n 0, 1) := dk_42 (dk_at dksX5_layRow_8 14 rfl rfl)
theorem dX5_layRow_203 : decode cX5_layRow 203 = .ok (.getfield 62, 3) := dk_180 0 62 (dk_at dksX5_layRow_8 15 rfl rfl)
theorem dX5_layRow_206 : decode cX5_layRow 206 = .ok (.iload 7, 2) := dk_21 7 (dk_at dksX5_layRow_8 18 rfl rfl)
theorem dX5_layRow_208 : decode cX5_layRow 208 = .ok (.iaload, 1) := dk_46 (dk_at dksX5_layRow_8 20 rfl rfl)
theorem dX5_layRow_209 : decode cX5_layRow 209 = .ok (.goto 4, 3) := dk_167 0 4 (dk_at dksX5_layRow_8 21 rfl rfl)
theorem dX5_layRow_212 : decode cX5_layRow 212 = .ok (.iconst 0, 1) := dk_3 (dk_at dksX5_layRow_9 0 rfl rfl)
theorem dX5_layRow_213 : decode cX5_layRow 213 = .ok (.istore 6, 2) := dk_54 6 (dk_at dksX5_layRow_9 1 rfl rfl)
theorem dX5_layRow_215 : decode cX5_layRow 215 = .ok (.iload 9, 2) := dk_21 9 (dk_at dksX5_layRow_9 3 rfl rfl)
theorem dX5_layRow_217 : decode cX5_layRow 217 = .ok (.iconst 1, 1) := dk_4 (dk_at dksX5_layRow_9 5 rfl rfl)
theorem dX5_layRow_218 : decode cX5_layRow 218 = .ok (.if_icmp .ne 73, 3) := dk_160 0 73 (dk_at dksX5_layRow_9 6 rfl rfl)
theorem dX5_layRow_221 : decode cX5_layRow 221 = .ok (.aload_n 1, 1) := dk_43 (dk_at dksX5_layRow_9 9 rfl rfl)
theorem dX5_layRow_222 : decode cX5_layRow 222 = .ok (.iload 7, 2) := dk_21 7 (dk_at dksX5_layRow_9 10 rfl rfl)
theorem dX5_layRow_224 : decode cX5_layRow 224 = .ok (.invokestatic 142, 3) := dk_184 0 142 (dk_at dksX5_layRow_9 12 rfl rfl)
theorem dX5_layRow_227 : decode cX5_layRow 227 = .ok (.iconst 1, 1) := dk_4 (dk_at dksX5_layRow_9 15 rfl rfl)
theorem dX5_layRow_228 : decode cX5_layRow 228 = .ok (.iadd, 1) := dk_96 (dk_at dksX5_layRow_9 16 rfl rfl)
theorem dX5_layRow_229 : decode cX5_layRow 229 = .ok (.istore 10, 2) := dk_54 10 (dk_at dksX5_layRow_9 17 rfl rfl)
theorem dX5_layRow_231 : decode cX5_layRow 231 = .ok (.aload_n 0, 1) := dk_42 (dk_at dksX5_layRow_9 19 rfl rfl)
theorem dX5_layRow_232 : decode cX5_layRow 232 = .ok (.getfield 59, 3) := dk_180 0 59 (dk_at dksX5_layRow_9 20 rfl rfl)
theorem dX5_layRow_235 : decode cX5_layRow 235 = .ok (.iload 10, 2) := dk_21 10 (dk_at dksX5_layRow_10 0 rfl rfl)
theorem dX5_layRow_237 : decode cX5_layRow 237 = .ok (.iaload, 1) := dk_46 (dk_at dksX5_layRow_10 2 rfl rfl)
theorem dX5_layRow_238 : decode cX5_layRow 238 = .ok (.iconst 1, 1) := dk_4 (dk_at dksX5_layRow_10 3 rfl rfl)
theorem dX5_layRow_239 : decode cX5_layRow 239 = .ok (.iadd, 1) := dk_96 (dk_at dksX5_layRow_10 4 rfl rfl)
theorem dX5_layRow_240 : decode cX5_layRow 240 = .ok (.aload_n 0, 1) := dk_42 (dk_at dksX5_layRow_10 5 rfl rfl)
theorem dX5_layRow_241 : decode cX5_layRow 241 = .ok (.getfield 62, 3) := dk_180 0 62 (dk_at dksX5_layRow_10 6 rfl rfl)
theorem dX5_layRow_244 : decode cX5_layRow 244 = .ok (.iload 10, 2) := dk_21 10 (dk_at dksX5_layRow_10 9 rfl rfl)
theorem dX5_layRow_246 : decode cX5_layRow 246 = .ok (.iaload, 1) := dk_46 (dk_at dksX5_layRow_10 11 rfl rfl)
theorem dX5_layRow_247 : decode cX5_layRow 247 = .ok (.iadd, 1) := dk_96 (dk_at dksX5_layRow_10 12 rfl rfl)
theorem dX5_layRow_248 : decode cX5_layRow 248 = .ok (.istore 6, 2) := dk_54 6 (dk_at dksX5_layRow_10 13 rfl rfl)
theorem dX5_layRow_250 : decode cX5_layRow 250 = .ok (.aload_n 0, 1) := dk_42 (dk_at dksX5_layRow_10 15 rfl rfl)
theorem dX5_layRow_251 : decode cX5_layRow 251 = .ok (.getfield 65, 3) := dk_180 0 65 (dk_at dksX5_layRow_10 16 rfl rfl)
theorem dX5_layRow_254 : decode cX5_layRow 254 = .ok (.iload 4, 2) := dk_21 4 (dk_at dksX5_layRow_10 19 rfl rfl)
theorem dX5_layRow_256 : decode cX5_layRow 256 = .ok (.aload_n 0, 1) := dk_42 (dk_at dksX5_layRow_10 21 rfl rfl)
theorem dX5_layRow_257 : decode cX5_layRow 257 = .ok (.getfield 56, 3) := dk_180 0 56 (dk_at dksX5_layRow_11 0 rfl rfl)
theorem dX5_layRow_260 : decode cX5_layRow 260 = .ok (.iload 10, 2) := dk_21 10 (dk_at dksX5_layRow_11 3 rfl rfl)
theorem dX5_layRow_262 : decode cX5_layRow 262 = .ok (.iaload, 1) := dk_46 (dk_at dksX5_layRow_11 5 rfl rfl)
theorem dX5_layRow_263 : decode cX5_layRow 263 = .ok (.aload_n 0, 1) := dk_42 (dk_at dksX5_layRow_11 6 rfl rfl)
theorem dX5_layRow_264 : decode cX5_layRow 264 = .ok (.getfield 56, 3) := dk_180 0 56 (dk_at dksX5_layRow_11 7 rfl rfl)
theorem dX5_layRow_267 : decode cX5_layRow 267 = .ok (.iload 7, 2) := dk_21 7 (dk_at dksX5_layRow_11 10 rfl rfl)
theorem dX5_layRow_269 : decode cX5_layRow 269 = .ok (.iaload, 1) := dk_46 (dk_at dksX5_layRow_11 12 rfl rfl)
theorem dX5_layRow_270 : decode cX5_layRow 270 = .ok (.if_icmp .le 13, 3) := dk_164 0 13 (dk_at dksX5_layRow_11 13 rfl rfl)
theorem dX5_layRow_273 : decode cX5_layRow 273 = .ok (.aload_n 0, 1) := dk_42 (dk_at dksX5_layRow_11 16 rfl rfl)
theorem dX5_layRow_274 : decode cX5_layRow 274 = .ok (.getfield 56, 3) := dk_180 0 56 (dk_at dksX5_layRow_11 17 rfl rfl)
theorem dX5_layRow_277 : decode cX5_layRow 277 = .ok (.iload 10, 2) := dk_21 10 (dk_at dksX5_layRow_11 20 rfl rfl)
theorem dX5_layRow_279 : decode cX5_layRow 279 = .ok (.iaload, 1) := dk_46 (dk_at dksX5_layRow_11 22 rfl rfl)
theorem dX5_layRow_280 : decode cX5_layRow 280 = .ok (.goto 10, 3) := dk_167 0 10 (dk_at dksX5_layRow_12 0 rfl rfl)
theorem dX5_layRow_283 : decode cX5_layRow 283 = .ok (.aload_n 0, 1) := dk_42 (dk_at dksX5_layRow_12 3 rfl rfl)
theorem dX5_layRow_284 : decode cX5_layRow 284 = .ok (.getfield 56, 3) := dk_180 0 56 (dk_at dksX5_layRow_12 4 rfl rfl)
theorem dX5_layRow_287 : decode cX5_layRow 287 = .ok (.iload 7, 2) := dk_21 7 (dk_at dksX5_layRow_12 7 rfl rfl)
theorem dX5_layRow_289 : decode cX5_layRow 289 = .ok (.iaload, 1) := dk_46 (dk_at dksX5_layRow_12 9 rfl rfl)
theorem dX5_layRow_290 : decode cX5_layRow 290 = .ok (.iastore, 1) := dk_79 (dk_at dksX5_layRow_12 10 rfl rfl)
theorem dX5_layRow_291 : decode cX5_layRow 291 = .ok (.aload_n 0, 1) := dk_42 (dk_at dksX5_layRow_12 11 rfl rfl)
theorem dX5_layRow_292 : decode cX5_layRow 292 = .ok (.getfield 56, 3) := dk_180 0 56 (dk_at dksX5_layRow_12 12 rfl rfl)
theorem dX5_layRow_295 : decode cX5_layRow 295 = .ok (.iload_n 2, 1) := dk_28 (dk_at dksX5_layRow_12 15 rfl rfl)
theorem dX5_layRow_296 : decode cX5_layRow 296 = .ok (.dup2, 1) := dk_92 (dk_at dksX5_layRow_12 16 rfl rfl)
theorem dX5_layRow_297 : decode cX5_layRow 297 = .ok (.iaload, 1) := dk_46 (dk_at dksX5_layRow_12 17 rfl rfl)
theorem dX5_layRow_298 : decode cX5_layRow 298 = .ok (.aload_n 0, 1) := dk_42 (dk_at dksX5_layRow_12 18 rfl rfl)
theorem dX5_layRow_299 : decode cX5_layRow 299 = .ok (.getfield 65, 3) := dk_180 0 65 (dk_at dksX5_layRow_12 19 rfl rfl)
theorem dX5_layRow_302 : decode cX5_layRow 302 = .ok (.iload 4, 2) := dk_21 4 (dk_at dksX5_layRow_12 22 rfl rfl)
theorem dX5_layRow_304 : decode cX5_layRow 304 = .ok (.iaload, 1) := dk_46 (dk_at dksX5_layRow_13 0 rfl rfl)
theorem dX5_layRow_305 : decode cX5_layRow 305 = .ok (.iadd, 1) := dk_96 (dk_at dksX5_layRow_13 1 rfl rfl)
theorem dX5_layRow_306 : decode cX5_layRow 306 = .ok (.iastore, 1) := dk_79 (dk_at dksX5_layRow_13 2 rfl rfl)
theorem dX5_layRow_307 : decode cX5_layRow 307 = .ok (.aload_n 0, 1) := dk_42 (dk_at dksX5_layRow_13 3 rfl rfl)
theorem dX5_layRow_308 : decode cX5_layRow 308 = .ok (.getfield 59, 3) := dk_180 0 59 (dk_at dksX5_layRow_13 4 rfl rfl)
theorem dX5_layRow_311 : decode cX5_layRow 311 = .ok (.iload_n 2, 1) := dk_28 (dk_at dksX5_layRow_13 7 rfl rfl)
theorem dX5_layRow_312 : decode cX5_layRow 312 = .ok (.iload 5, 2) := dk_21 5 (dk_at dksX5_layRow_13 8 rfl rfl)
theorem dX5_layRow_314 : decode cX5_layRow 314 = .ok (.aload_n 0, 1) := dk_42 (dk_at dksX5_layRow_13 10 rfl rfl)
theorem dX5_layRow_315 : decode cX5_layRow 315 = .ok (.getfield 59, 3) := dk_180 0 59 (dk_at dksX5_layRow_13 11 rfl rfl)
theorem dX5_layRow_318 : decode cX5_layRow 318 = .ok (.iload_n 2, 1) := dk_28 (dk_at dksX5_layRow_13 14 rfl rfl)
theorem dX5_layRow_319 : decode cX5_layRow 319 = .ok (.iaload, 1) := dk_46 (dk_at dksX5_layRow_13 15 rfl rfl)
theorem dX5_layRow_320 : decode cX5_layRow 320 = .ok (.if_icmp .le 8, 3) := dk_164 0 8 (dk_at dksX5_layRow_13 16 rfl rfl)
theorem dX5_layRow_323 : decode cX5_layRow 323 = .ok (.iload 5, 2) := dk_21 5 (dk_at dksX5_layRow_13 19 rfl rfl)
theorem dX5_layRow_325 : decode cX5_layRow 325 = .ok (.goto 9, 3) := dk_167 0 9 (dk_at dksX5_layRow_13 21 rfl rfl)
theorem dX5_layRow_328 : decode cX5_layRow 328 = .ok (.aload_n 0, 1) := dk_42 (dk_at dksX5_layRow_14 0 rfl rfl)
theorem dX5_layRow_329 : decode cX5_layRow 329 = .ok (.getfield 59, 3) := dk_180 0 59 (dk_at dksX5_layRow_14 1 rfl rfl)
theorem dX5_layRow_332 : decode cX5_layRow 332 = .ok (.iload_n 2, 1) := dk_28 (dk_at dksX5_layRow_14 4 rfl rfl)
theorem dX5_layRow_333 : decode cX5_layRow 333 = .ok (.iaload, 1) := dk_46 (dk_at dksX5_layRow_14 5 rfl rfl)
theorem dX5_layRow_334 : decode cX5_layRow 334 = .ok (.iastore, 1) := dk_79 (dk_at dksX5_layRow_14 6 rfl rfl)
theorem dX5_layRow_335 : decode cX5_layRow 335 = .ok (.aload_n 0, 1) := dk_42 (dk_at dksX5_layRow_14 7 rfl rfl)
theorem dX5_layRow_336 : decode cX5_layRow 336 = .ok (.getfield 62, 3) := dk_180 0 62 (dk_at dksX5_layRow_14 8 rfl rfl)
theorem dX5_layRow_339 : decode cX5_layRow 339 = .ok (.iload_n 2, 1) := dk_28 (dk_at dksX5_layRow_14 11 rfl rfl)
theorem dX5_layRow_340 : decode cX5_layRow 340 = .ok (.iload 6, 2) := dk_21 6 (dk_at dksX5_layRow_14 12 rfl rfl)
theorem dX5_layRow_342 : decode cX5_layRow 342 = .ok (.aload_n 0, 1) := dk_42 (dk_at dksX5_layRow_14 14 rfl rfl)
theorem dX5_layRow_343 : decode cX5_layRow 343 = .ok (.getfield 62, 3) := dk_180 0 62 (dk_at dksX5_layRow_14 15 rfl rfl)
theorem dX5_layRow_346 : decode cX5_layRow 346 = .ok (.iload_n 2, 1) := dk_28 (dk_at dksX5_layRow_14 18 rfl rfl)
theorem dX5_layRow_347 : decode cX5_layRow 347 = .ok (.iaload, 1) := dk_46 (dk_at dksX5_layRow_14 19 rfl rfl)
theorem dX5_layRow_348 : decode cX5_layRow 348 = .ok (.if_icmp .le 8, 3) := dk_164 0 8 (dk_at dksX5_layRow_14 20 rfl rfl)
theorem dX5_layRow_351 : decode cX5_layRow 351 = .ok (.iload 6, 2) := dk_21 6 (dk_at dksX5_layRow_15 0 rfl rfl)
theorem dX5_layRow_353 : decode cX5_layRow 353 = .ok (.goto 9, 3) := dk_167 0 9 (dk_at dksX5_layRow_15 2 rfl rfl)
theorem dX5_layRow_356 : decode cX5_layRow 356 = .ok (.aload_n 0, 1) := dk_42 (dk_at dksX5_layRow_15 5 rfl rfl)
theorem dX5_layRow_357 : decode cX5_layRow 357 = .ok (.getfield 62, 3) := dk_180 0 62 (dk_at dksX5_layRow_15 6 rfl rfl)
theorem dX5_layRow_360 : decode cX5_layRow 360 = .ok (.iload_n 2, 1) := dk_28 (dk_at dksX5_layRow_15 9 rfl rfl)
theorem dX5_layRow_361 : decode cX5_layRow 361 = .ok (.iaload, 1) := dk_46 (dk_at dksX5_layRow_15 10 rfl rfl)
theorem dX5_layRow_362 : decode cX5_layRow 362 = .ok (.iastore, 1) := dk_79 (dk_at dksX5_layRow_15 11 rfl rfl)
theorem dX5_layRow_363 : decode cX5_layRow 363 = .ok (.aload_n 1, 1) := dk_43 (dk_at dksX5_layRow_15 12 rfl rfl)
theorem dX5_layRow_364 : decode cX5_layRow 364 = .ok (.iload 4, 2) := dk_21 4 (dk_at dksX5_layRow_15 13 rfl rfl)
theorem dX5_layRow_366 : decode cX5_layRow 366 = .ok (.invokestatic 107, 3) := dk_184 0 107 (dk_at dksX5_layRow_15 15 rfl rfl)
theorem dX5_layRow_369 : decode cX5_layRow 369 = .ok (.istore 4, 2) := dk_54 4 (dk_at dksX5_layRow_15 18 rfl rfl)
theorem dX5_layRow_371 : decode cX5_layRow 371 = .ok (.goto (-332), 3) := dk_167 254 180 (dk_at dksX5_layRow_15 20 rfl rfl)
theorem dX5_layRow_374 : decode cX5_layRow 374 = .ok (.return_, 1) := dk_177 (dk_at dksX5_layRow_15 23 rfl rfl)
abbrev cX5_drawn : ByteArray := prog_15_method_69_code
def yX5_drawn : MethodName := ⟨RX5, "drawn", "(II)I"⟩
def dkwX5_drawn_3 : List UInt8 := [180, 0, 59, 3, 46, 100, 182, 0, 252, 172]
abbrev dktX5_drawn_3 : List UInt8 := dkwX5_drawn_3 ++ []
def dkwX5_drawn_2 : List UInt8 := [153, 0, 7, 3, 167, 0, 4, 4, 182, 0, 150, 153, 0, 5, 3, 172, 42, 42, 180, 0, 13, 27, 28, 42]
abbrev dktX5_drawn_2 : List UInt8 := dkwX5_drawn_2 ++ dktX5_drawn_3
def dkwX5_drawn_1 : List UInt8 := [153, 0, 30, 28, 133, 9, 42, 180, 0, 59, 3, 46, 42, 180, 0, 62, 3, 46, 96, 133, 184, 0, 79]
abbrev dktX5_drawn_1 : List UInt8 := dkwX5_drawn_1 ++ dktX5_drawn_2
def dkwX5_drawn_0 : List UInt8 := [42, 42, 180, 0, 13, 182, 0, 249, 42, 27, 133, 9, 42, 180, 0, 56, 3, 46, 4, 100, 133, 184, 0, 79]
abbrev dktX5_drawn_0 : List UInt8 := dkwX5_drawn_0 ++ dktX5_drawn_1
theorem dksX5_drawn_0 : cX5_drawn.data.toList.drop 0 = dktX5_drawn_0 := by decide +kernel
theorem dksX5_drawn_1 : cX5_drawn.data.toList.drop 24 = dktX5_drawn_1 := dk_seg dksX5_drawn_0 24 rfl rfl
theorem dksX5_drawn_2 : cX5_drawn.data.toList.drop 47 = dktX5_drawn_2 := dk_seg dksX5_drawn_1 23 rfl rfl
theorem dksX5_drawn_3 : cX5_drawn.data.toList.drop 71 = dktX5_drawn_3 := dk_seg dksX5_drawn_2 24 rfl rfl
theorem dX5_drawn_0 : decode cX5_drawn 0 = .ok (.aload_n 0, 1) := dk_42 (dk_at dksX5_drawn_0 0 rfl rfl)
theorem dX5_drawn_1 : decode cX5_drawn 1 = .ok (.aload_n 0, 1) := dk_42 (dk_at dksX5_drawn_0 1 rfl rfl)
theorem dX5_drawn_2 : decode cX5_drawn 2 = .ok (.getfield 13, 3) := dk_180 0 13 (dk_at dksX5_drawn_0 2 rfl rfl)
theorem dX5_drawn_5 : decode cX5_drawn 5 = .ok (.invokevirtual 249, 3) := dk_182 0 249 (dk_at dksX5_drawn_0 5 rfl rfl)
theorem dX5_drawn_8 : decode cX5_drawn 8 = .ok (.aload_n 0, 1) := dk_42 (dk_at dksX5_drawn_0 8 rfl rfl)
theorem dX5_drawn_9 : decode cX5_drawn 9 = .ok (.iload_n 1, 1) := dk_27 (dk_at dksX5_drawn_0 9 rfl rfl)
theorem dX5_drawn_10 : decode cX5_drawn 10 = .ok (.i2l, 1) := dk_133 (dk_at dksX5_drawn_0 10 rfl rfl)
theorem dX5_drawn_11 : decode cX5_drawn 11 = .ok (.lconst 0, 1) := dk_9 (dk_at dksX5_drawn_0 11 rfl rfl)
theorem dX5_drawn_12 : decode cX5_drawn 12 = .ok (.aload_n 0, 1) := dk_42 (dk_at dksX5_drawn_0 12 rfl rfl)
theorem dX5_drawn_13 : decode cX5_drawn 13 = .ok (.getfield 56, 3) := dk_180 0 56 (dk_at dksX5_drawn_0 13 rfl rfl)
theorem dX5_drawn_16 : decode cX5_drawn 16 = .ok (.iconst 0, 1) := dk_3 (dk_at dksX5_drawn_0 16 rfl rfl)
theorem dX5_drawn_17 : decode cX5_drawn 17 = .ok (.iaload, 1) := dk_46 (dk_at dksX5_drawn_0 17 rfl rfl)
theorem dX5_drawn_18 : decode cX5_drawn 18 = .ok (.iconst 1, 1) := dk_4 (dk_at dksX5_drawn_0 18 rfl rfl)
theorem dX5_drawn_19 : decode cX5_drawn 19 = .ok (.isub, 1) := dk_100 (dk_at dksX5_drawn_0 19 rfl rfl)
theorem dX5_drawn_20 : decode cX5_drawn 20 = .ok (.i2l, 1) := dk_133 (dk_at dksX5_drawn_0 20 rfl rfl)
theorem dX5_drawn_21 : decode cX5_drawn 21 = .ok (.invokestatic 79, 3) := dk_184 0 79 (dk_at dksX5_drawn_0 21 rfl rfl)
theorem dX5_drawn_24 : decode cX5_drawn 24 = .ok (.ifCond .eq 30, 3) := dk_153 0 30 (dk_at dksX5_drawn_1 0 rfl rfl)
theorem dX5_drawn_27 : decode cX5_drawn 27 = .ok (.iload_n 2, 1) := dk_28 (dk_at dksX5_drawn_1 3 rfl rfl)
theorem dX5_drawn_28 : decode cX5_drawn 28 = .ok (.i2l, 1) := dk_133 (dk_at dksX5_drawn_1 4 rfl rfl)
theorem dX5_drawn_29 : decode cX5_drawn 29 = .ok (.lconst 0, 1) := dk_9 (dk_at dksX5_drawn_1 5 rfl rfl)
theorem dX5_drawn_30 : decode cX5_drawn 30 = .ok (.aload_n 0, 1) := dk_42 (dk_at dksX5_drawn_1 6 rfl rfl)
theorem dX5_drawn_31 : decode cX5_drawn 31 = .ok (.getfield 59, 3) := dk_180 0 59 (dk_at dksX5_drawn_1 7 rfl rfl)
theorem dX5_drawn_34 : decode cX5_drawn 34 = .ok (.iconst 0, 1) := dk_3 (dk_at dksX5_drawn_1 10 rfl rfl)
theorem dX5_drawn_35 : decode cX5_drawn 35 = .ok (.iaload, 1) := dk_46 (dk_at dksX5_drawn_1 11 rfl rfl)
theorem dX5_drawn_36 : decode cX5_drawn 36 = .ok (.aload_n 0, 1) := dk_42 (dk_at dksX5_drawn_1 12 rfl rfl)
theorem dX5_drawn_37 : decode cX5_drawn 37 = .ok (.getfield 62, 3) := dk_180 0 62 (dk_at dksX5_drawn_1 13 rfl rfl)
theorem dX5_drawn_40 : decode cX5_drawn 40 = .ok (.iconst 0, 1) := dk_3 (dk_at dksX5_drawn_1 16 rfl rfl)
theorem dX5_drawn_41 : decode cX5_drawn 41 = .ok (.iaload, 1) := dk_46 (dk_at dksX5_drawn_1 17 rfl rfl)
theorem dX5_drawn_42 : decode cX5_drawn 42 = .ok (.iadd, 1) := dk_96 (dk_at dksX5_drawn_1 18 rfl rfl)
theorem dX5_drawn_43 : decode cX5_drawn 43 = .ok (.i2l, 1) := dk_133 (dk_at dksX5_drawn_1 19 rfl rfl)
theorem dX5_drawn_44 : decode cX5_drawn 44 = .ok (.invokestatic 79, 3) := dk_184 0 79 (dk_at dksX5_drawn_1 20 rfl rfl)
theorem dX5_drawn_47 : decode cX5_drawn 47 = .ok (.ifCond .eq 7, 3) := dk_153 0 7 (dk_at dksX5_drawn_2 0 rfl rfl)
theorem dX5_drawn_50 : decode cX5_drawn 50 = .ok (.iconst 0, 1) := dk_3 (dk_at dksX5_drawn_2 3 rfl rfl)
theorem dX5_drawn_51 : decode cX5_drawn 51 = .ok (.goto 4, 3) := dk_167 0 4 (dk_at dksX5_drawn_2 4 rfl rfl)
theorem dX5_drawn_54 : decode cX5_drawn 54 = .ok (.iconst 1, 1) := dk_4 (dk_at dksX5_drawn_2 7 rfl rfl)
theorem dX5_drawn_55 : decode cX5_drawn 55 = .ok (.invokevirtual 150, 3) := dk_182 0 150 (dk_at dksX5_drawn_2 8 rfl rfl)
theorem dX5_drawn_58 : decode cX5_drawn 58 = .ok (.ifCond .eq 5, 3) := dk_153 0 5 (dk_at dksX5_drawn_2 11 rfl rfl)
theorem dX5_drawn_61 : decode cX5_drawn 61 = .ok (.iconst 0, 1) := dk_3 (dk_at dksX5_drawn_2 14 rfl rfl)
theorem dX5_drawn_62 : decode cX5_drawn 62 = .ok (.ireturn, 1) := dk_172 (dk_at dksX5_drawn_2 15 rfl rfl)
theorem dX5_drawn_63 : decode cX5_drawn 63 = .ok (.aload_n 0, 1) := dk_42 (dk_at dksX5_drawn_2 16 rfl rfl)
theorem dX5_drawn_64 : decode cX5_drawn 64 = .ok (.aload_n 0, 1) := dk_42 (dk_at dksX5_drawn_2 17 rfl rfl)
theorem dX5_drawn_65 : decode cX5_drawn 65 = .ok (.getfield 13, 3) := dk_180 0 13 (dk_at dksX5_drawn_2 18 rfl rfl)
theorem dX5_drawn_68 : decode cX5_drawn 68 = .ok (.iload_n 1, 1) := dk_27 (dk_at dksX5_drawn_2 21 rfl rfl)
theorem dX5_drawn_69 : decode cX5_drawn 69 = .ok (.iload_n 2, 1) := dk_28 (dk_at dksX5_drawn_2 22 rfl rfl)
theorem dX5_drawn_70 : decode cX5_drawn 70 = .ok (.aload_n 0, 1) := dk_42 (dk_at dksX5_drawn_2 23 rfl rfl)
theorem dX5_drawn_71 : decode cX5_drawn 71 = .ok (.getfield 59, 3) := dk_180 0 59 (dk_at dksX5_drawn_3 0 rfl rfl)
theorem dX5_drawn_74 : decode cX5_drawn 74 = .ok (.iconst 0, 1) := dk_3 (dk_at dksX5_drawn_3 3 rfl rfl)
theorem dX5_drawn_75 : decode cX5_drawn 75 = .ok (.iaload, 1) := dk_46 (dk_at dksX5_drawn_3 4 rfl rfl)
theorem dX5_drawn_76 : decode cX5_drawn 76 = .ok (.isub, 1) := dk_100 (dk_at dksX5_drawn_3 5 rfl rfl)
theorem dX5_drawn_77 : decode cX5_drawn 77 = .ok (.invokevirtual 252, 3) := dk_182 0 252 (dk_at dksX5_drawn_3 6 rfl rfl)
theorem dX5_drawn_80 : decode cX5_drawn 80 = .ok (.ireturn, 1) := dk_172 (dk_at dksX5_drawn_3 9 rfl rfl)
abbrev cX5_signAt : ByteArray := prog_15_method_68_code
def yX5_signAt : MethodName := ⟨RX5, "signAt", "([III)I"⟩
def dkwX5_signAt_19 : List UInt8 := [16, 32, 172, 167, 254, 59]
abbrev dktX5_signAt_19 : List UInt8 := dkwX5_signAt_19 ++ []
def dkwX5_signAt_18 : List UInt8 := [172, 21, 8, 54, 4, 132, 5, 255, 167, 0, 18, 21, 6, 154, 0, 10, 43, 21, 7, 46, 167, 0, 5]
abbrev dktX5_signAt_18 : List UInt8 := dkwX5_signAt_18 ++ dktX5_signAt_19
def dkwX5_signAt_17 : List UInt8 := [133, 184, 0, 79, 154, 0, 8, 16, 32, 167, 0, 15, 21, 5, 154, 0, 8, 16, 40, 167, 0, 5, 16, 41]
abbrev dktX5_signAt_17 : List UInt8 := dkwX5_signAt_17 ++ dktX5_signAt_18
def dkwX5_signAt_16 : List UInt8 := [4, 100, 160, 0, 47, 21, 6, 133, 42, 180, 0, 59, 21, 8, 46, 116, 133, 42, 180, 0, 62, 21, 8, 46]
abbrev dktX5_signAt_16 : List UInt8 := dkwX5_signAt_16 ++ dktX5_signAt_17
def dkwX5_signAt_15 : List UInt8 := [21, 8, 54, 4, 132, 5, 255, 167, 0, 91, 21, 5, 153, 0, 17, 21, 5, 42, 180, 0, 65, 21, 7, 46]
abbrev dktX5_signAt_15 : List UInt8 := dkwX5_signAt_15 ++ dktX5_signAt_16
def dkwX5_signAt_14 : List UInt8 := [133, 42, 180, 0, 62, 21, 8, 46, 133, 184, 0, 79, 153, 0, 8, 16, 86, 167, 0, 5, 16, 32, 172]
abbrev dktX5_signAt_14 : List UInt8 := dkwX5_signAt_14 ++ dktX5_signAt_15
def dkwX5_signAt_13 : List UInt8 := [16, 95, 167, 0, 5, 16, 32, 172, 21, 5, 154, 0, 37, 21, 6, 133, 42, 180, 0, 59, 21, 8, 46, 116]
abbrev dktX5_signAt_13 : List UInt8 := dkwX5_signAt_13 ++ dktX5_signAt_14
def dkwX5_signAt_12 : List UInt8 := [167, 0, 168, 21, 6, 42, 180, 0, 59, 21, 8, 46, 116, 4, 100, 160, 0, 16, 21, 5, 158, 0, 8]
abbrev dktX5_signAt_12 : List UInt8 := dkwX5_signAt_12 ++ dktX5_signAt_13
def dkwX5_signAt_11 : List UInt8 := [157, 0, 6, 16, 32, 172, 21, 8, 54, 4, 21, 6, 4, 42, 180, 0, 59, 21, 4, 46, 96, 100, 54, 6]
abbrev dktX5_signAt_11 : List UInt8 := dkwX5_signAt_11 ++ dktX5_signAt_12
def dkwX5_signAt_10 : List UInt8 := [21, 8, 54, 4, 21, 6, 4, 42, 180, 0, 62, 21, 4, 46, 96, 96, 54, 6, 167, 0, 197, 21, 6]
abbrev dktX5_signAt_10 : List UInt8 := dkwX5_signAt_10 ++ dktX5_signAt_11
def dkwX5_signAt_9 : List UInt8 := [4, 100, 42, 180, 0, 59, 21, 4, 46, 100, 54, 6, 167, 0, 226, 21, 6, 155, 0, 6, 16, 32, 172]
abbrev dktX5_signAt_9 : List UInt8 := dkwX5_signAt_9 ++ dktX5_signAt_10
def dkwX5_signAt_8 : List UInt8 := [54, 5, 21, 6, 156, 0, 18, 21, 6, 4, 96, 42, 180, 0, 62, 21, 4, 46, 96, 167, 0, 15, 21, 6]
abbrev dktX5_signAt_8 : List UInt8 := dkwX5_signAt_8 ++ dktX5_signAt_9
def dkwX5_signAt_7 : List UInt8 := [4, 96, 54, 4, 21, 5, 42, 180, 0, 65, 21, 7, 46, 42, 180, 0, 56, 21, 4, 46, 100, 5, 108, 100]
abbrev dktX5_signAt_7 : List UInt8 := dkwX5_signAt_7 ++ dktX5_signAt_8
def dkwX5_signAt_6 : List UInt8 := [21, 6, 154, 0, 6, 16, 45, 172, 21, 6, 156, 0, 8, 21, 8, 167, 0, 11, 43, 21, 8, 184, 0, 142]
abbrev dktX5_signAt_6 : List UInt8 := dkwX5_signAt_6 ++ dktX5_signAt_7
def dkwX5_signAt_5 : List UInt8 := [170, 0, 0, 0, 0, 1, 74, 255, 255, 255, 251, 255, 255, 255, 255, 0, 0, 1, 1, 0, 0, 0, 180, 0, 0, 0, 151, 0, 0, 0, 122, 0, 0, 0, 35]
abbrev dktX5_signAt_5 : List UInt8 := dkwX5_signAt_5 ++ dktX5_signAt_6
def dkwX5_signAt_4 : List UInt8 := [54, 5, 43, 21, 7, 184, 0, 107, 54, 7, 167, 255, 224, 21, 7, 4, 96, 54, 8, 43, 21, 7, 46]
abbrev dktX5_signAt_4 : List UInt8 := dkwX5_signAt_4 ++ dktX5_signAt_5
def dkwX5_signAt_3 : List UInt8 := [172, 21, 5, 42, 180, 0, 65, 21, 7, 46, 161, 0, 26, 21, 5, 42, 180, 0, 65, 21, 7, 46, 100]
abbrev dktX5_signAt_3 : List UInt8 := dkwX5_signAt_3 ++ dktX5_signAt_4
def dkwX5_signAt_2 : List UInt8 := [46, 164, 0, 6, 16, 32, 172, 21, 4, 54, 7, 21, 7, 43, 21, 7, 184, 0, 142, 160, 0, 6, 16, 63]
abbrev dktX5_signAt_2 : List UInt8 := dkwX5_signAt_2 ++ dktX5_signAt_3
def dkwX5_signAt_1 : List UInt8 := [162, 0, 28, 21, 6, 42, 180, 0, 59, 21, 4, 46, 116, 161, 0, 15, 21, 6, 42, 180, 0, 62, 21, 4]
abbrev dktX5_signAt_1 : List UInt8 := dkwX5_signAt_1 ++ dktX5_signAt_2
def dkwX5_signAt_0 : List UInt8 := [3, 54, 4, 28, 54, 5, 29, 54, 6, 21, 5, 155, 0, 40, 21, 5, 42, 180, 0, 56, 21, 4, 46]
abbrev dktX5_signAt_0 : List UInt8 := dkwX5_signAt_0 ++ dktX5_signAt_1
theorem dksX5_signAt_0 : cX5_signAt.data.toList.drop 0 = dktX5_signAt_0 := by decide +kernel
theorem dksX5_signAt_1 : cX5_signAt.data.toList.drop 23 = dktX5_signAt_1 := dk_seg dksX5_signAt_0 23 rfl rfl
theorem dksX5_signAt_2 : cX5_signAt.data.toList.drop 47 = dktX5_signAt_2 := dk_seg dksX5_signAt_1 24 rfl rfl
theorem dksX5_signAt_3 : cX5_signAt.data.toList.drop 71 = dktX5_signAt_3 := dk_seg dksX5_signAt_2 24 rfl rfl
theorem dksX5_signAt_4 : cX5_signAt.data.toList.drop 94 = dktX5_signAt_4 := dk_seg dksX5_signAt_3 23 rfl rfl
theorem dksX5_signAt_5 : cX5_signAt.data.toList.drop 117 = dktX5_signAt_5 := dk_seg dksX5_signAt_4 23 rfl rfl
theorem dksX5_signAt_6 : cX5_signAt.data.toList.drop 152 = dktX5_signAt_6 := dk_seg dksX5_signAt_5 35 rfl rfl
theorem dksX5_signAt_7 : cX5_signAt.data.toList.drop 176 = dktX5_signAt_7 := dk_seg dksX5_signAt_6 24 rfl rfl
theorem dksX5_signAt_8 : cX5_signAt.data.toList.drop 200 = dktX5_signAt_8 := dk_seg dksX5_signAt_7 24 rfl rfl
theorem dksX5_signAt_9 : cX5_signAt.data.toList.drop 224 = dktX5_signAt_9 := dk_seg dksX5_signAt_8 24 rfl rfl
theorem dksX5_signAt_10 : cX5_signAt.data.toList.drop 247 = dktX5_signAt_10 := dk_seg dksX5_signAt_9 23 rfl rfl
theorem dksX5_signAt_11 : cX5_signAt.data.toList.drop 270 = dktX5_signAt_11 := dk_seg dksX5_signAt_10 23 rfl rfl
theorem dksX5_signAt_12 : cX5_signAt.data.toList.drop 294 = dktX5_signAt_12 := dk_seg dksX5_signAt_11 24 rfl rfl
theorem dksX5_signAt_13 : cX5_signAt.data.toList.drop 317 = dktX5_signAt_13 := dk_seg dksX5_signAt_12 23 rfl rfl
theorem dksX5_signAt_14 : cX5_signAt.data.toList.drop 341 = dktX5_signAt_14 := dk_seg dksX5_signAt_13 24 rfl rfl
theorem dksX5_signAt_15 : cX5_signAt.data.toList.drop 364 = dktX5_signAt_15 := dk_seg dksX5_signAt_14 23 rfl rfl
theorem dksX5_signAt_16 : cX5_signAt.data.toList.drop 388 = dktX5_signAt_16 := dk_seg dksX5_signAt_15 24 rfl rfl
theorem dksX5_signAt_17 : cX5_signAt.data.toList.drop 412 = dktX5_signAt_17 := dk_seg dksX5_signAt_16 24 rfl rfl
theorem dksX5_signAt_18 : cX5_signAt.data.toList.drop 436 = dktX5_signAt_18 := dk_seg dksX5_signAt_17 24 rfl rfl
theorem dksX5_signAt_19 : cX5_signAt.data.toList.drop 459 = dktX5_signAt_19 := dk_seg dksX5_signAt_18 23 rfl rfl
theorem dX5_signAt_0 : decode cX5_signAt 0 = .ok (.iconst 0, 1) := dk_3 (dk_at dksX5_signAt_0 0 rfl rfl)
theorem dX5_signAt_1 : decode cX5_signAt 1 = .ok (.istore 4, 2) := dk_54 4 (dk_at dksX5_signAt_0 1 rfl rfl)
theorem dX5_signAt_3 : decode cX5_signAt 3 = .ok (.iload_n 2, 1) := dk_28 (dk_at dksX5_signAt_0 3 rfl rfl)
theorem dX5_signAt_4 : decode cX5_signAt 4 = .ok (.istore 5, 2) := dk_54 5 (dk_at dksX5_signAt_0 4 rfl rfl)
theorem dX5_signAt_6 : decode cX5_signAt 6 = .ok (.iload_n 3, 1) := dk_29 (dk_at dksX5_signAt_0 6 rfl rfl)
theorem dX5_signAt_7 : decode cX5_signAt 7 = .ok (.istore 6, 2) := dk_54 6 (dk_at dksX5_signAt_0 7 rfl rfl)
theorem dX5_signAt_9 : decode cX5_signAt 9 = .ok (.iload 5, 2) := dk_21 5 (dk_at dksX5_signAt_0 9 rfl rfl)
theorem dX5_signAt_11 : decode cX5_signAt 11 = .ok (.ifCond .lt 40, 3) := dk_155 0 40 (dk_at dksX5_signAt_0 11 rfl rfl)
theorem dX5_signAt_14 : decode cX5_signAt 14 = .ok (.iload 5, 2) := dk_21 5 (dk_at dksX5_signAt_0 14 rfl rfl)
theorem dX5_signAt_16 : decode cX5_signAt 16 = .ok (.aload_n 0, 1) := dk_42 (dk_at dksX5_signAt_0 16 rfl rfl)
theorem dX5_signAt_17 : decode cX5_signAt 17 = .ok (.getfield 56, 3) := dk_180 0 56 (dk_at dksX5_signAt_0 17 rfl rfl)
theorem dX5_signAt_20 : decode cX5_signAt 20 = .ok (.iload 4, 2) := dk_21 4 (dk_at dksX5_signAt_0 20 rfl rfl)
theorem dX5_signAt_22 : decode cX5_signAt 22 = .ok (.iaload, 1) := dk_46 (dk_at dksX5_signAt_0 22 rfl rfl)
theorem dX5_signAt_23 : decode cX5_signAt 23 = .ok (.if_icmp .ge 28, 3) := dk_162 0 28 (dk_at dksX5_signAt_1 0 rfl rfl)
theorem dX5_signAt_26 : decode cX5_signAt 26 = .ok (.iload 6, 2) := dk_21 6 (dk_at dksX5_signAt_1 3 rfl rfl)
theorem dX5_signAt_28 : decode cX5_signAt 28 = .ok (.aload_n 0, 1) := dk_42 (dk_at dksX5_signAt_1 5 rfl rfl)
theorem dX5_signAt_29 : decode cX5_signAt 29 = .ok (.getfield 59, 3) := dk_180 0 59 (dk_at dksX5_signAt_1 6 rfl rfl)
theorem dX5_signAt_32 : decode cX5_signAt 32 = .ok (.iload 4, 2) := dk_21 4 (dk_at dksX5_signAt_1 9 rfl rfl)
theorem dX5_signAt_34 : decode cX5_signAt 34 = .ok (.iaload, 1) := dk_46 (dk_at dksX5_signAt_1 11 rfl rfl)
theorem dX5_signAt_35 : decode cX5_signAt 35 = .ok (.ineg, 1) := dk_116 (dk_at dksX5_signAt_1 12 rfl rfl)
theorem dX5_signAt_36 : decode cX5_signAt 36 = .ok (.if_icmp .lt 15, 3) := dk_161 0 15 (dk_at dksX5_signAt_1 13 rfl rfl)
theorem dX5_signAt_39 : decode cX5_signAt 39 = .ok (.iload 6, 2) := dk_21 6 (dk_at dksX5_signAt_1 16 rfl rfl)
theorem dX5_signAt_41 : decode cX5_signAt 41 = .ok (.aload_n 0, 1) := dk_42 (dk_at dksX5_signAt_1 18 rfl rfl)
theorem dX5_signAt_42 : decode cX5_signAt 42 = .ok (.getfield 62, 3) := dk_180 0 62 (dk_at dksX5_signAt_1 19 rfl rfl)
theorem dX5_signAt_45 : decode cX5_signAt 45 = .ok (.iload 4, 2) := dk_21 4 (dk_at dksX5_signAt_1 22 rfl rfl)
theorem dX5_signAt_47 : decode cX5_signAt 47 = .ok (.iaload, 1) := dk_46 (dk_at dksX5_signAt_2 0 rfl rfl)
theorem dX5_signAt_48 : decode cX5_signAt 48 = .ok (.if_icmp .le 6, 3) := dk_164 0 6 (dk_at dksX5_signAt_2 1 rfl rfl)
theorem dX5_signAt_51 : decode cX5_signAt 51 = .ok (.bipush 32, 2) := dk_16 32 (dk_at dksX5_signAt_2 4 rfl rfl)
theorem dX5_signAt_53 : decode cX5_signAt 53 = .ok (.ireturn, 1) := dk_172 (dk_at dksX5_signAt_2 6 rfl rfl)
theorem dX5_signAt_54 : decode cX5_signAt 54 = .ok (.iload 4, 2) := dk_21 4 (dk_at dksX5_signAt_2 7 rfl rfl)
theorem dX5_signAt_56 : decode cX5_signAt 56 = .ok (.istore 7, 2) := dk_54 7 (dk_at dksX5_signAt_2 9 rfl rfl)
theorem dX5_signAt_58 : decode cX5_signAt 58 = .ok (.iload 7, 2) := dk_21 7 (dk_at dksX5_signAt_2 11 rfl rfl)
theorem dX5_signAt_60 : decode cX5_signAt 60 = .ok (.aload_n 1, 1) := dk_43 (dk_at dksX5_signAt_2 13 rfl rfl)
theorem dX5_signAt_61 : decode cX5_signAt 61 = .ok (.iload 7, 2) := dk_21 7 (dk_at dksX5_signAt_2 14 rfl rfl)
theorem dX5_signAt_63 : decode cX5_signAt 63 = .ok (.invokestatic 142, 3) := dk_184 0 142 (dk_at dksX5_signAt_2 16 rfl rfl)
theorem dX5_signAt_66 : decode cX5_signAt 66 = .ok (.if_icmp .ne 6, 3) := dk_160 0 6 (dk_at dksX5_signAt_2 19 rfl rfl)
theorem dX5_signAt_69 : decode cX5_signAt 69 = .ok (.bipush 63, 2) := dk_16 63 (dk_at dksX5_signAt_2 22 rfl rfl)
theorem dX5_signAt_71 : decode cX5_signAt 71 = .ok (.ireturn, 1) := dk_172 (dk_at dksX5_signAt_3 0 rfl rfl)
theorem dX5_signAt_72 : decode cX5_signAt 72 = .ok (.iload 5, 2) := dk_21 5 (dk_at dksX5_signAt_3 1 rfl rfl)
theorem dX5_signAt_74 : decode cX5_signAt 74 = .ok (.aload_n 0, 1) := dk_42 (dk_at dksX5_signAt_3 3 rfl rfl)
theorem dX5_signAt_75 : decode cX5_signAt 75 = .ok (.getfield 65, 3) := dk_180 0 65 (dk_at dksX5_signAt_3 4 rfl rfl)
theorem dX5_signAt_78 : decode cX5_signAt 78 = .ok (.iload 7, 2) := dk_21 7 (dk_at dksX5_signAt_3 7 rfl rfl)
theorem dX5_signAt_80 : decode cX5_signAt 80 = .ok (.iaload, 1) := dk_46 (dk_at dksX5_signAt_3 9 rfl rfl)
theorem dX5_signAt_81 : decode cX5_signAt 81 = .ok (.if_icmp .lt 26, 3) := dk_161 0 26 (dk_at dksX5_signAt_3 10 rfl rfl)
theorem dX5_signAt_84 : decode cX5_signAt 84 = .ok (.iload 5, 2) := dk_21 5 (dk_at dksX5_signAt_3 13 rfl rfl)
theorem dX5_signAt_86 : decode cX5_signAt 86 = .ok (.aload_n 0, 1) := dk_42 (dk_at dksX5_signAt_3 15 rfl rfl)
theorem dX5_signAt_87 : decode cX5_signAt 87 = .ok (.getfield 65, 3) := dk_180 0 65 (dk_at dksX5_signAt_3 16 rfl rfl)
theorem dX5_signAt_90 : decode cX5_signAt 90 = .ok (.iload 7, 2) := dk_21 7 (dk_at dksX5_signAt_3 19 rfl rfl)
theorem dX5_signAt_92 : decode cX5_signAt 92 = .ok (.iaload, 1) := dk_46 (dk_at dksX5_signAt_3 21 rfl rfl)
theorem dX5_signAt_93 : decode cX5_signAt 93 = .ok (.isub, 1) := dk_100 (dk_at dksX5_signAt_3 22 rfl rfl)
theorem dX5_signAt_94 : decode cX5_signAt 94 = .ok (.istore 5, 2) := dk_54 5 (dk_at dksX5_signAt_4 0 rfl rfl)
theorem dX5_signAt_96 : decode cX5_signAt 96 = .ok (.aload_n 1, 1) := dk_43 (dk_at dksX5_signAt_4 2 rfl rfl)
theorem dX5_signAt_97 : decode cX5_signAt 97 = .ok (.iload 7, 2) := dk_21 7 (dk_at dksX5_signAt_4 3 rfl rfl)
theorem dX5_signAt_99 : decode cX5_signAt 99 = .ok (.invokestatic 107, 3) := dk_184 0 107 (dk_at dksX5_signAt_4 5 rfl rfl)
theorem dX5_signAt_102 : decode cX5_signAt 102 = .ok (.istore 7, 2) := dk_54 7 (dk_at dksX5_signAt_4 8 rfl rfl)
theorem dX5_signAt_104 : decode cX5_signAt 104 = .ok (.goto (-32), 3) := dk_167 255 224 (dk_at dksX5_signAt_4 10 rfl rfl)
theorem dX5_signAt_107 : decode cX5_signAt 107 = .ok (.iload 7, 2) := dk_21 7 (dk_at dksX5_signAt_4 13 rfl rfl)
theorem dX5_signAt_109 : decode cX5_signAt 109 = .ok (.iconst 1, 1) := dk_4 (dk_at dksX5_signAt_4 15 rfl rfl)
theorem dX5_signAt_110 : decode cX5_signAt 110 = .ok (.iadd, 1) := dk_96 (dk_at dksX5_signAt_4 16 rfl rfl)
theorem dX5_signAt_111 : decode cX5_signAt 111 = .ok (.istore 8, 2) := dk_54 8 (dk_at dksX5_signAt_4 17 rfl rfl)
theorem dX5_signAt_113 : decode cX5_signAt 113 = .ok (.aload_n 1, 1) := dk_43 (dk_at dksX5_signAt_4 19 rfl rfl)
theorem dX5_signAt_114 : decode cX5_signAt 114 = .ok (.iload 7, 2) := dk_21 7 (dk_at dksX5_signAt_4 20 rfl rfl)
theorem dX5_signAt_116 : decode cX5_signAt 116 = .ok (.iaload, 1) := dk_46 (dk_at dksX5_signAt_4 22 rfl rfl)
theorem dX5_signAt_117 : decode cX5_signAt 117 = .ok (.tableswitch 330 (-5) (-1) #[257, 180, 151, 122, 35], 35) := by decide +kernel
theorem dX5_signAt_152 : decode cX5_signAt 152 = .ok (.iload 6, 2) := dk_21 6 (dk_at dksX5_signAt_6 0 rfl rfl)
theorem dX5_signAt_154 : decode cX5_signAt 154 = .ok (.ifCond .ne 6, 3) := dk_154 0 6 (dk_at dksX5_signAt_6 2 rfl rfl)
theorem dX5_signAt_157 : decode cX5_signAt 157 = .ok (.bipush 45, 2) := dk_16 45 (dk_at dksX5_signAt_6 5 rfl rfl)
theorem dX5_signAt_159 : decode cX5_signAt 159 = .ok (.ireturn, 1) := dk_172 (dk_at dksX5_signAt_6 7 rfl rfl)
theorem dX5_signAt_160 : decode cX5_signAt 160 = .ok (.iload 6, 2) := dk_21 6 (dk_at dksX5_signAt_6 8 rfl rfl)
theorem dX5_signAt_162 : decode cX5_signAt 162 = .ok (.ifCond .ge 8, 3) := dk_156 0 8 (dk_at dksX5_signAt_6 10 rfl rfl)
theorem dX5_signAt_165 : decode cX5_signAt 165 = .ok (.iload 8, 2) := dk_21 8 (dk_at dksX5_signAt_6 13 rfl rfl)
theorem dX5_signAt_167 : decode cX5_signAt 167 = .ok (.goto 11, 3) := dk_167 0 11 (dk_at dksX5_signAt_6 15 rfl rfl)
theorem dX5_signAt_170 : decode cX5_signAt 170 = .ok (.aload_n 1, 1) := dk_43 (dk_at dksX5_signAt_6 18 rfl rfl)
theorem dX5_signAt_171 : decode cX5_signAt 171 = .ok (.iload 8, 2) := dk_21 8 (dk_at dksX5_signAt_6 19 rfl rfl)
theorem dX5_signAt_173 : decode cX5_signAt 173 = .ok (.invokestatic 142, 3) := dk_184 0 142 (dk_at dksX5_signAt_6 21 rfl rfl)
theorem dX5_signAt_176 : decode cX5_signAt 176 = .ok (.iconst 1, 1) := dk_4 (dk_at dksX5_signAt_7 0 rfl rfl)
theorem dX5_signAt_177 : decode cX5_signAt 177 = .ok (.iadd, 1) := dk_96 (dk_at dksX5_signAt_7 1 rfl rfl)
theorem dX5_signAt_178 : decode cX5_signAt 178 = .ok (.istore 4, 2) := dk_54 4 (dk_at dksX5_signAt_7 2 rfl rfl)
theorem dX5_signAt_180 : decode cX5_signAt 180 = .ok (.iload 5, 2) := dk_21 5 (dk_at dksX5_signAt_7 4 rfl rfl)
theorem dX5_signAt_182 : decode cX5_signAt 182 = .ok (.aload_n 0, 1) := dk_42 (dk_at dksX5_signAt_7 6 rfl rfl)
theorem dX5_signAt_183 : decode cX5_signAt 183 = .ok (.getfield 65, 3) := dk_180 0 65 (dk_at dksX5_signAt_7 7 rfl rfl)
theorem dX5_signAt_186 : decode cX5_signAt 186 = .ok (.iload 7, 2) := dk_21 7 (dk_at dksX5_signAt_7 10 rfl rfl)
theorem dX5_signAt_188 : decode cX5_signAt 188 = .ok (.iaload, 1) := dk_46 (dk_at dksX5_signAt_7 12 rfl rfl)
theorem dX5_signAt_189 : decode cX5_signAt 189 = .ok (.aload_n 0, 1) := dk_42 (dk_at dksX5_signAt_7 13 rfl rfl)
theorem dX5_signAt_190 : decode cX5_signAt 190 = .ok (.getfield 56, 3) := dk_180 0 56 (dk_at dksX5_signAt_7 14 rfl rfl)
theorem dX5_signAt_193 : decode cX5_signAt 193 = .ok (.iload 4, 2) := dk_21 4 (dk_at dksX5_signAt_7 17 rfl rfl)
theorem dX5_signAt_195 : decode cX5_signAt 195 = .ok (.iaload, 1) := dk_46 (dk_at dksX5_signAt_7 19 rfl rfl)
theorem dX5_signAt_196 : decode cX5_signAt 196 = .ok (.isub, 1) := dk_100 (dk_at dksX5_signAt_7 20 rfl rfl)
theorem dX5_signAt_197 : decode cX5_signAt 197 = .ok (.iconst 2, 1) := dk_5 (dk_at dksX5_signAt_7 21 rfl rfl)
theorem dX5_signAt_198 : decode cX5_signAt 198 = .ok (.idiv, 1) := dk_108 (dk_at dksX5_signAt_7 22 rfl rfl)
theorem dX5_signAt_199 : decode cX5_signAt 199 = .ok (.isub, 1) := dk_100 (dk_at dksX5_signAt_7 23 rfl rfl)
theorem dX5_signAt_200 : decode cX5_signAt 200 = .ok (.istore 5, 2) := dk_54 5 (dk_at dksX5_signAt_8 0 rfl rfl)
theorem dX5_signAt_202 : decode cX5_signAt 202 = .ok (.iload 6, 2) := dk_21 6 (dk_at dksX5_signAt_8 2 rfl rfl)
theorem dX5_signAt_204 : decode cX5_signAt 204 = .ok (.ifCond .ge 18, 3) := dk_156 0 18 (dk_at dksX5_signAt_8 4 rfl rfl)
theorem dX5_signAt_207 : decode cX5_signAt 207 = .ok (.iload 6, 2) := dk_21 6 (dk_at dksX5_signAt_8 7 rfl rfl)
theorem dX5_signAt_209 : decode cX5_signAt 209 = .ok (.iconst 1, 1) := dk_4 (dk_at dksX5_signAt_8 9 rfl rfl)
theorem dX5_signAt_210 : decode cX5_signAt 210 = .ok (.iadd, 1) := dk_96 (dk_at dksX5_signAt_8 10 rfl rfl)
theorem dX5_signAt_211 : decode cX5_signAt 211 = .ok (.aload_n 0, 1) := dk_42 (dk_at dksX5_signAt_8 11 rfl rfl)
theorem dX5_signAt_212 : decode cX5_signAt 212 = .ok (.getfield 62, 3) := dk_180 0 62 (dk_at dksX5_signAt_8 12 rfl rfl)
theorem dX5_signAt_215 : decode cX5_signAt 215 = .ok (.iload 4, 2) := dk_21 4 (dk_at dksX5_signAt_8 15 rfl rfl)
theorem dX5_signAt_217 : decode cX5_signAt 217 = .ok (.iaload, 1) := dk_46 (dk_at dksX5_signAt_8 17 rfl rfl)
theorem dX5_signAt_218 : decode cX5_signAt 218 = .ok (.iadd, 1) := dk_96 (dk_at dksX5_signAt_8 18 rfl rfl)
theorem dX5_signAt_219 : decode cX5_signAt 219 = .ok (.goto 15, 3) := dk_167 0 15 (dk_at dksX5_signAt_8 19 rfl rfl)
theorem dX5_signAt_222 : decode cX5_signAt 222 = .ok (.iload 6, 2) := dk_21 6 (dk_at dksX5_signAt_8 22 rfl rfl)
theorem dX5_signAt_224 : decode cX5_signAt 224 = .ok (.iconst 1, 1) := dk_4 (dk_at dksX5_signAt_9 0 rfl rfl)
theorem dX5_signAt_225 : decode cX5_signAt 225 = .ok (.isub, 1) := dk_100 (dk_at dksX5_signAt_9 1 rfl rfl)
theorem dX5_signAt_226 : decode cX5_signAt 226 = .ok (.aload_n 0, 1) := dk_42 (dk_at dksX5_signAt_9 2 rfl rfl)
theorem dX5_signAt_227 : decode cX5_signAt 227 = .ok (.getfield 59, 3) := dk_180 0 59 (dk_at dksX5_signAt_9 3 rfl rfl)
theorem dX5_signAt_230 : decode cX5_signAt 230 = .ok (.iload 4, 2) := dk_21 4 (dk_at dksX5_signAt_9 6 rfl rfl)
theorem dX5_signAt_232 : decode cX5_signAt 232 = .ok (.iaload, 1) := dk_46 (dk_at dksX5_signAt_9 8 rfl rfl)
theorem dX5_signAt_233 : decode cX5_signAt 233 = .ok (.isub, 1) := dk_100 (dk_at dksX5_signAt_9 9 rfl rfl)
theorem dX5_signAt_234 : decode cX5_signAt 234 = .ok (.istore 6, 2) := dk_54 6 (dk_at dksX5_signAt_9 10 rfl rfl)
theorem dX5_signAt_236 : decode cX5_signAt 236 = .ok (.goto 226, 3) := dk_167 0 226 (dk_at dksX5_signAt_9 12 rfl rfl)
theorem dX5_signAt_239 : decode cX5_signAt 239 = .ok (.iload 6, 2) := dk_21 6 (dk_at dksX5_signAt_9 15 rfl rfl)
theorem dX5_signAt_241 : decode cX5_signAt 241 = .ok (.ifCond .lt 6, 3) := dk_155 0 6 (dk_at dksX5_signAt_9 17 rfl rfl)
theorem dX5_signAt_244 : decode cX5_signAt 244 = .ok (.bipush 32, 2) := dk_16 32 (dk_at dksX5_signAt_9 20 rfl rfl)
theorem dX5_signAt_246 : decode cX5_signAt 246 = .ok (.ireturn, 1) := dk_172 (dk_at dksX5_signAt_9 22 rfl rfl)
theorem dX5_signAt_247 : decode cX5_signAt 247 = .ok (.iload 8, 2) := dk_21 8 (dk_at dksX5_signAt_10 0 rfl rfl)
theorem dX5_signAt_249 : decode cX5_signAt 249 = .ok (.istore 4, 2) := dk_54 4 (dk_at dksX5_signAt_10 2 rfl rfl)
theorem dX5_signAt_251 : decode cX5_signAt 251 = .ok (.iload 6, 2) := dk_21 6 (dk_at dksX5_signAt_10 4 rfl rfl)
theorem dX5_signAt_253 : decode cX5_signAt 253 = .ok (.iconst 1, 1) := dk_4 (dk_at dksX5_signAt_10 6 rfl rfl)
theorem dX5_signAt_254 : decode cX5_signAt 254 = .ok (.aload_n 0, 1) := dk_42 (dk_at dksX5_signAt_10 7 rfl rfl)
theorem dX5_signAt_255 : decode cX5_signAt 255 = .ok (.getfield 62, 3) := dk_180 0 62 (dk_at dksX5_signAt_10 8 rfl rfl)
theorem dX5_signAt_258 : decode cX5_signAt 258 = .ok (.iload 4, 2) := dk_21 4 (dk_at dksX5_signAt_10 11 rfl rfl)
theorem dX5_signAt_260 : decode cX5_signAt 260 = .ok (.iaload, 1) := dk_46 (dk_at dksX5_signAt_10 13 rfl rfl)
theorem dX5_signAt_261 : decode cX5_signAt 261 = .ok (.iadd, 1) := dk_96 (dk_at dksX5_signAt_10 14 rfl rfl)
theorem dX5_signAt_262 : decode cX5_signAt 262 = .ok (.iadd, 1) := dk_96 (dk_at dksX5_signAt_10 15 rfl rfl)
theorem dX5_signAt_263 : decode cX5_signAt 263 = .ok (.istore 6, 2) := dk_54 6 (dk_at dksX5_signAt_10 16 rfl rfl)
theorem dX5_signAt_265 : decode cX5_signAt 265 = .ok (.goto 197, 3) := dk_167 0 197 (dk_at dksX5_signAt_10 18 rfl rfl)
theorem dX5_signAt_268 : decode cX5_signAt 268 = .ok (.iload 6, 2) := dk_21 6 (dk_at dksX5_signAt_10 21 rfl rfl)
theorem dX5_signAt_270 : decode cX5_signAt 270 = .ok (.ifCond .gt 6, 3) := dk_157 0 6 (dk_at dksX5_signAt_11 0 rfl rfl)
theorem dX5_signAt_273 : decode cX5_signAt 273 = .ok (.bipush 32, 2) := dk_16 32 (dk_at dksX5_signAt_11 3 rfl rfl)
theorem dX5_signAt_275 : decode cX5_signAt 275 = .ok (.ireturn, 1) := dk_172 (dk_at dksX5_signAt_11 5 rfl rfl)
theorem dX5_signAt_276 : decode cX5_signAt 276 = .ok (.iload 8, 2) := dk_21 8 (dk_at dksX5_signAt_11 6 rfl rfl)
theorem dX5_signAt_278 : decode cX5_signAt 278 = .ok (.istore 4, 2) := dk_54 4 (dk_at dksX5_signAt_11 8 rfl rfl)
theorem dX5_signAt_280 : decode cX5_signAt 280 = .ok (.iload 6, 2) := dk_21 6 (dk_at dksX5_signAt_11 10 rfl rfl)
theorem dX5_signAt_282 : decode cX5_signAt 282 = .ok (.iconst 1, 1) := dk_4 (dk_at dksX5_signAt_11 12 rfl rfl)
theorem dX5_signAt_283 : decode cX5_signAt 283 = .ok (.aload_n 0, 1) := dk_42 (dk_at dksX5_signAt_11 13 rfl rfl)
theorem dX5_signAt_284 : decode cX5_signAt 284 = .ok (.getfield 59, 3) := dk_180 0 59 (dk_at dksX5_signAt_11 14 rfl rfl)
theorem dX5_signAt_287 : decode cX5_signAt 287 = .ok (.iload 4, 2) := dk_21 4 (dk_at dksX5_signAt_11 17 rfl rfl)
theorem dX5_signAt_289 : decode cX5_signAt 289 = .ok (.iaload, 1) := dk_46 (dk_at dksX5_signAt_11 19 rfl rfl)
theorem dX5_signAt_290 : decode cX5_signAt 290 = .ok (.iadd, 1) := dk_96 (dk_at dksX5_signAt_11 20 rfl rfl)
theorem dX5_signAt_291 : decode cX5_signAt 291 = .ok (.isub, 1) := dk_100 (dk_at dksX5_signAt_11 21 rfl rfl)
theorem dX5_signAt_292 : decode cX5_signAt 292 = .ok (.istore 6, 2) := dk_54 6 (dk_at dksX5_signAt_11 22 rfl rfl)
theorem dX5_signAt_294 : decode cX5_signAt 294 = .ok (.goto 168, 3) := dk_167 0 168 (dk_at dksX5_signAt_12 0 rfl rfl)
theorem dX5_signAt_297 : decode cX5_signAt 297 = .ok (.iload 6, 2) := dk_21 6 (dk_at dksX5_signAt_12 3 rfl rfl)
theorem dX5_signAt_299 : decode cX5_signAt 299 = .ok (.aload_n 0, 1) := dk_42 (dk_at dksX5_signAt_12 5 rfl rfl)
theorem dX5_signAt_300 : decode cX5_signAt 300 = .ok (.getfield 59, 3) := dk_180 0 59 (dk_at dksX5_signAt_12 6 rfl rfl)
theorem dX5_signAt_303 : decode cX5_signAt 303 = .ok (.iload 8, 2) := dk_21 8 (dk_at dksX5_signAt_12 9 rfl rfl)
theorem dX5_signAt_305 : decode cX5_signAt 305 = .ok (.iaload, 1) := dk_46 (dk_at dksX5_signAt_12 11 rfl rfl)
theorem dX5_signAt_306 : decode cX5_signAt 306 = .ok (.ineg, 1) := dk_116 (dk_at dksX5_signAt_12 12 rfl rfl)
theorem dX5_signAt_307 : decode cX5_signAt 307 = .ok (.iconst 1, 1) := dk_4 (dk_at dksX5_signAt_12 13 rfl rfl)
theorem dX5_signAt_308 : decode cX5_signAt 308 = .ok (.isub, 1) := dk_100 (dk_at dksX5_signAt_12 14 rfl rfl)
theorem dX5_signAt_309 : decode cX5_signAt 309 = .ok (.if_icmp .ne 16, 3) := dk_160 0 16 (dk_at dksX5_signAt_12 15 rfl rfl)
theorem dX5_signAt_312 : decode cX5_signAt 312 = .ok (.iload 5, 2) := dk_21 5 (dk_at dksX5_signAt_12 18 rfl rfl)
theorem dX5_signAt_314 : decode cX5_signAt 314 = .ok (.ifCond .le 8, 3) := dk_158 0 8 (dk_at dksX5_signAt_12 20 rfl rfl)
theorem dX5_signAt_317 : decode cX5_signAt 317 = .ok (.bipush 95, 2) := dk_16 95 (dk_at dksX5_signAt_13 0 rfl rfl)
theorem dX5_signAt_319 : decode cX5_signAt 319 = .ok (.goto 5, 3) := dk_167 0 5 (dk_at dksX5_signAt_13 2 rfl rfl)
theorem dX5_signAt_322 : decode cX5_signAt 322 = .ok (.bipush 32, 2) := dk_16 32 (dk_at dksX5_signAt_13 5 rfl rfl)
theorem dX5_signAt_324 : decode cX5_signAt 324 = .ok (.ireturn, 1) := dk_172 (dk_at dksX5_signAt_13 7 rfl rfl)
theorem dX5_signAt_325 : decode cX5_signAt 325 = .ok (.iload 5, 2) := dk_21 5 (dk_at dksX5_signAt_13 8 rfl rfl)
theorem dX5_signAt_327 : decode cX5_signAt 327 = .ok (.ifCond .ne 37, 3) := dk_154 0 37 (dk_at dksX5_signAt_13 10 rfl rfl)
theorem dX5_signAt_330 : decode cX5_signAt 330 = .ok (.iload 6, 2) := dk_21 6 (dk_at dksX5_signAt_13 13 rfl rfl)
theorem dX5_signAt_332 : decode cX5_signAt 332 = .ok (.i2l, 1) := dk_133 (dk_at dksX5_signAt_13 15 rfl rfl)
theorem dX5_signAt_333 : decode cX5_signAt 333 = .ok (.aload_n 0, 1) := dk_42 (dk_at dksX5_signAt_13 16 rfl rfl)
theorem dX5_signAt_334 : decode cX5_signAt 334 = .ok (.getfield 59, 3) := dk_180 0 59 (dk_at dksX5_signAt_13 17 rfl rfl)
theorem dX5_signAt_337 : decode cX5_signAt 337 = .ok (.iload 8, 2) := dk_21 8 (dk_at dksX5_signAt_13 20 rfl rfl)
theorem dX5_signAt_339 : decode cX5_signAt 339 = .ok (.iaload, 1) := dk_46 (dk_at dksX5_signAt_13 22 rfl rfl)
theorem dX5_signAt_340 : decode cX5_signAt 340 = .ok (.ineg, 1) := dk_116 (dk_at dksX5_signAt_13 23 rfl rfl)
theorem dX5_signAt_341 : decode cX5_signAt 341 = .ok (.i2l, 1) := dk_133 (dk_at dksX5_signAt_14 0 rfl rfl)
theorem dX5_signAt_342 : decode cX5_signAt 342 = .ok (.aload_n 0, 1) := dk_42 (dk_at dksX5_signAt_14 1 rfl rfl)
theorem dX5_signAt_343 : decode cX5_signAt 343 = .ok (.getfield 62, 3) := dk_180 0 62 (dk_at dksX5_signAt_14 2 rfl rfl)
theorem dX5_signAt_346 : decode cX5_signAt 346 = .ok (.iload 8, 2) := dk_21 8 (dk_at dksX5_signAt_14 5 rfl rfl)
theorem dX5_signAt_348 : decode cX5_signAt 348 = .ok (.iaload, 1) := dk_46 (dk_at dksX5_signAt_14 7 rfl rfl)
theorem dX5_signAt_349 : decode cX5_signAt 349 = .ok (.i2l, 1) := dk_133 (dk_at dksX5_signAt_14 8 rfl rfl)
theorem dX5_signAt_350 : decode cX5_signAt 350 = .ok (.invokestatic 79, 3) := dk_184 0 79 (dk_at dksX5_signAt_14 9 rfl rfl)
theorem dX5_signAt_353 : decode cX5_signAt 353 = .ok (.ifCond .eq 8, 3) := dk_153 0 8 (dk_at dksX5_signAt_14 12 rfl rfl)
theorem dX5_signAt_356 : decode cX5_signAt 356 = .ok (.bipush 86, 2) := dk_16 86 (dk_at dksX5_signAt_14 15 rfl rfl)
theorem dX5_signAt_358 : decode cX5_signAt 358 = .ok (.goto 5, 3) := dk_167 0 5 (dk_at dksX5_signAt_14 17 rfl rfl)
theorem dX5_signAt_361 : decode cX5_signAt 361 = .ok (.bipush 32, 2) := dk_16 32 (dk_at dksX5_signAt_14 20 rfl rfl)
theorem dX5_signAt_363 : decode cX5_signAt 363 = .ok (.ireturn, 1) := dk_172 (dk_at dksX5_signAt_14 22 rfl rfl)
theorem dX5_signAt_364 : decode cX5_signAt 364 = .ok (.iload 8, 2) := dk_21 8 (dk_at dksX5_signAt_15 0 rfl rfl)
theorem dX5_signAt_366 : decode cX5_signAt 366 = .ok (.istore 4, 2) := dk_54 4 (dk_at dksX5_signAt_15 2 rfl rfl)
theorem dX5_signAt_368 : decode cX5_signAt 368 = .ok (.iinc 5 (-1), 3) := dk_132 5 255 (dk_at dksX5_signAt_15 4 rfl rfl)
theorem dX5_signAt_371 : decode cX5_signAt 371 = .ok (.goto 91, 3) := dk_167 0 91 (dk_at dksX5_signAt_15 7 rfl rfl)
theorem dX5_signAt_374 : decode cX5_signAt 374 = .ok (.iload 5, 2) := dk_21 5 (dk_at dksX5_signAt_15 10 rfl rfl)
theorem dX5_signAt_376 : decode cX5_signAt 376 = .ok (.ifCond .eq 17, 3) := dk_153 0 17 (dk_at dksX5_signAt_15 12 rfl rfl)
theorem dX5_signAt_379 : decode cX5_signAt 379 = .ok (.iload 5, 2) := dk_21 5 (dk_at dksX5_signAt_15 15 rfl rfl)
theorem dX5_signAt_381 : decode cX5_signAt 381 = .ok (.aload_n 0, 1) := dk_42 (dk_at dksX5_signAt_15 17 rfl rfl)
theorem dX5_signAt_382 : decode cX5_signAt 382 = .ok (.getfield 65, 3) := dk_180 0 65 (dk_at dksX5_signAt_15 18 rfl rfl)
theorem dX5_signAt_385 : decode cX5_signAt 385 = .ok (.iload 7, 2) := dk_21 7 (dk_at dksX5_signAt_15 21 rfl rfl)
theorem dX5_signAt_387 : decode cX5_signAt 387 = .ok (.iaload, 1) := dk_46 (dk_at dksX5_signAt_15 23 rfl rfl)
theorem dX5_signAt_388 : decode cX5_signAt 388 = .ok (.iconst 1, 1) := dk_4 (dk_at dksX5_signAt_16 0 rfl rfl)
theorem dX5_signAt_389 : decode cX5_signAt 389 = .ok (.isub, 1) := dk_100 (dk_at dksX5_signAt_16 1 rfl rfl)
theorem dX5_signAt_390 : decode cX5_signAt 390 = .ok (.if_icmp .ne 47, 3) := dk_160 0 47 (dk_at dksX5_signAt_16 2 rfl rfl)
theorem dX5_signAt_393 : decode cX5_signAt 393 = .ok (.iload 6, 2) := dk_21 6 (dk_at dksX5_signAt_16 5 rfl rfl)
theorem dX5_signAt_395 : decode cX5_signAt 395 = .ok (.i2l, 1) := dk_133 (dk_at dksX5_signAt_16 7 rfl rfl)
theorem dX5_signAt_396 : decode cX5_signAt 396 = .ok (.aload_n 0, 1) := dk_42 (dk_at dksX5_signAt_16 8 rfl rfl)
theorem dX5_signAt_397 : decode cX5_signAt 397 = .ok (.getfield 59, 3) := dk_180 0 59 (dk_at dksX5_signAt_16 9 rfl rfl)
theorem dX5_signAt_400 : decode cX5_signAt 400 = .ok (.iload 8, 2) := dk_21 8 (dk_at dksX5_signAt_16 12 rfl rfl)
theorem dX5_signAt_402 : decode cX5_signAt 402 = .ok (.iaload, 1) := dk_46 (dk_at dksX5_signAt_16 14 rfl rfl)
theorem dX5_signAt_403 : decode cX5_signAt 403 = .ok (.ineg, 1) := dk_116 (dk_at dksX5_signAt_16 15 rfl rfl)
theorem dX5_signAt_404 : decode cX5_signAt 404 = .ok (.i2l, 1) := dk_133 (dk_at dksX5_signAt_16 16 rfl rfl)
theorem dX5_signAt_405 : decode cX5_signAt 405 = .ok (.aload_n 0, 1) := dk_42 (dk_at dksX5_signAt_16 17 rfl rfl)
theorem dX5_signAt_406 : decode cX5_signAt 406 = .ok (.getfield 62, 3) := dk_180 0 62 (dk_at dksX5_signAt_16 18 rfl rfl)
theorem dX5_signAt_409 : decode cX5_signAt 409 = .ok (.iload 8, 2) := dk_21 8 (dk_at dksX5_signAt_16 21 rfl rfl)
theorem dX5_signAt_411 : decode cX5_signAt 411 = .ok (.iaload, 1) := dk_46 (dk_at dksX5_signAt_16 23 rfl rfl)
theorem dX5_signAt_412 : decode cX5_signAt 412 = .ok (.i2l, 1) := dk_133 (dk_at dksX5_signAt_17 0 rfl rfl)
theorem dX5_signAt_413 : decode cX5_signAt 413 = .ok (.invokestatic 79, 3) := dk_184 0 79 (dk_at dksX5_signAt_17 1 rfl rfl)
theorem dX5_signAt_416 : decode cX5_signAt 416 = .ok (.ifCond .ne 8, 3) := dk_154 0 8 (dk_at dksX5_signAt_17 4 rfl rfl)
theorem dX5_signAt_419 : decode cX5_signAt 419 = .ok (.bipush 32, 2) := dk_16 32 (dk_at dksX5_signAt_17 7 rfl rfl)
theorem dX5_signAt_421 : decode cX5_signAt 421 = .ok (.goto 15, 3) := dk_167 0 15 (dk_at dksX5_signAt_17 9 rfl rfl)
theorem dX5_signAt_424 : decode cX5_signAt 424 = .ok (.iload 5, 2) := dk_21 5 (dk_at dksX5_signAt_17 12 rfl rfl)
theorem dX5_signAt_426 : decode cX5_signAt 426 = .ok (.ifCond .ne 8, 3) := dk_154 0 8 (dk_at dksX5_signAt_17 14 rfl rfl)
theorem dX5_signAt_429 : decode cX5_signAt 429 = .ok (.bipush 40, 2) := dk_16 40 (dk_at dksX5_signAt_17 17 rfl rfl)
theorem dX5_signAt_431 : decode cX5_signAt 431 = .ok (.goto 5, 3) := dk_167 0 5 (dk_at dksX5_signAt_17 19 rfl rfl)
theorem dX5_signAt_434 : decode cX5_signAt 434 = .ok (.bipush 41, 2) := dk_16 41 (dk_at dksX5_signAt_17 22 rfl rfl)
theorem dX5_signAt_436 : decode cX5_signAt 436 = .ok (.ireturn, 1) := dk_172 (dk_at dksX5_signAt_18 0 rfl rfl)
theorem dX5_signAt_437 : decode cX5_signAt 437 = .ok (.iload 8, 2) := dk_21 8 (dk_at dksX5_signAt_18 1 rfl rfl)
theorem dX5_signAt_439 : decode cX5_signAt 439 = .ok (.istore 4, 2) := dk_54 4 (dk_at dksX5_signAt_18 3 rfl rfl)
theorem dX5_signAt_441 : decode cX5_signAt 441 = .ok (.iinc 5 (-1), 3) := dk_132 5 255 (dk_at dksX5_signAt_18 5 rfl rfl)
theorem dX5_signAt_444 : decode cX5_signAt 444 = .ok (.goto 18, 3) := dk_167 0 18 (dk_at dksX5_signAt_18 8 rfl rfl)
theorem dX5_signAt_447 : decode cX5_signAt 447 = .ok (.iload 6, 2) := dk_21 6 (dk_at dksX5_signAt_18 11 rfl rfl)
theorem dX5_signAt_449 : decode cX5_signAt 449 = .ok (.ifCond .ne 10, 3) := dk_154 0 10 (dk_at dksX5_signAt_18 13 rfl rfl)
theorem dX5_signAt_452 : decode cX5_signAt 452 = .ok (.aload_n 1, 1) := dk_43 (dk_at dksX5_signAt_18 16 rfl rfl)
theorem dX5_signAt_453 : decode cX5_signAt 453 = .ok (.iload 7, 2) := dk_21 7 (dk_at dksX5_signAt_18 17 rfl rfl)
theorem dX5_signAt_455 : decode cX5_signAt 455 = .ok (.iaload, 1) := dk_46 (dk_at dksX5_signAt_18 19 rfl rfl)
theorem dX5_signAt_456 : decode cX5_signAt 456 = .ok (.goto 5, 3) := dk_167 0 5 (dk_at dksX5_signAt_18 20 rfl rfl)
theorem dX5_signAt_459 : decode cX5_signAt 459 = .ok (.bipush 32, 2) := dk_16 32 (dk_at dksX5_signAt_19 0 rfl rfl)
theorem dX5_signAt_461 : decode cX5_signAt 461 = .ok (.ireturn, 1) := dk_172 (dk_at dksX5_signAt_19 2 rfl rfl)
theorem dX5_signAt_462 : decode cX5_signAt 462 = .ok (.goto (-453), 3) := dk_167 254 59 (dk_at dksX5_signAt_19 3 rfl rfl)
abbrev cX5_runScript : ByteArray := prog_15_method_72_code
def yX5_runScript : MethodName := ⟨RX5, "runScript", "(IJ)I"⟩
def dkwX5_runScript_5 : List UInt8 := [16, 247, 172]
abbrev dktX5_runScript_5 : List UInt8 := dkwX5_runScript_5 ++ []
def dkwX5_runScript_4 : List UInt8 := [108, 16, 10, 112, 21, 5, 16, 100, 112, 182, 1, 9, 154, 0, 6, 21, 4, 172, 132, 4, 1, 167, 255, 198]
abbrev dktX5_runScript_4 : List UInt8 := dkwX5_runScript_4 ++ dktX5_runScript_5
def dkwX5_runScript_3 : List UInt8 := [100, 104, 184, 1, 3, 109, 20, 1, 7, 113, 136, 54, 5, 42, 21, 5, 17, 3, 232, 108, 21, 5, 16, 100]
abbrev dktX5_runScript_3 : List UInt8 := dkwX5_runScript_3 ++ dktX5_runScript_4
def dkwX5_runScript_2 : List UInt8 := [42, 180, 0, 16, 3, 184, 0, 226, 3, 54, 4, 21, 4, 27, 162, 0, 58, 32, 7, 27, 4, 100, 21, 4]
abbrev dktX5_runScript_2 : List UInt8 := dkwX5_runScript_2 ++ dktX5_runScript_3
def dkwX5_runScript_1 : List UInt8 := [184, 0, 79, 153, 0, 7, 3, 167, 0, 4, 4, 182, 0, 150, 153, 0, 5, 3, 172, 42, 180, 0, 13, 3]
abbrev dktX5_runScript_1 : List UInt8 := dkwX5_runScript_1 ++ dktX5_runScript_2
def dkwX5_runScript_0 : List UInt8 := [42, 27, 133, 10, 20, 1, 1, 184, 0, 79, 153, 0, 23, 32, 9, 7, 27, 104, 184, 1, 3, 10, 101]
abbrev dktX5_runScript_0 : List UInt8 := dkwX5_runScript_0 ++ dktX5_runScript_1
theorem dksX5_runScript_0 : cX5_runScript.data.toList.drop 0 = dktX5_runScript_0 := by decide +kernel
theorem dksX5_runScript_1 : cX5_runScript.data.toList.drop 23 = dktX5_runScript_1 := dk_seg dksX5_runScript_0 23 rfl rfl
theorem dksX5_runScript_2 : cX5_runScript.data.toList.drop 47 = dktX5_runScript_2 := dk_seg dksX5_runScript_1 24 rfl rfl
theorem dksX5_runScript_3 : cX5_runScript.data.toList.drop 71 = dktX5_runScript_3 := dk_seg dksX5_runScript_2 24 rfl rfl
theorem dksX5_runScript_4 : cX5_runScript.data.toList.drop 95 = dktX5_runScript_4 := dk_seg dksX5_runScript_3 24 rfl rfl
theorem dksX5_runScript_5 : cX5_runScript.data.toList.drop 119 = dktX5_runScript_5 := dk_seg dksX5_runScript_4 24 rfl rfl
theorem dX5_runScript_0 : decode cX5_runScript 0 = .ok (.aload_n 0, 1) := dk_42 (dk_at dksX5_runScript_0 0 rfl rfl)
theorem dX5_runScript_1 : decode cX5_runScript 1 = .ok (.iload_n 1, 1) := dk_27 (dk_at dksX5_runScript_0 1 rfl rfl)
theorem dX5_runScript_2 : decode cX5_runScript 2 = .ok (.i2l, 1) := dk_133 (dk_at dksX5_runScript_0 2 rfl rfl)
theorem dX5_runScript_3 : decode cX5_runScript 3 = .ok (.lconst 1, 1) := dk_10 (dk_at dksX5_runScript_0 3 rfl rfl)
theorem dX5_runScript_4 : decode cX5_runScript 4 = .ok (.ldc2_w 257, 3) := dk_20 1 1 (dk_at dksX5_runScript_0 4 rfl rfl)
theorem dX5_runScript_7 : decode cX5_runScript 7 = .ok (.invokestatic 79, 3) := dk_184 0 79 (dk_at dksX5_runScript_0 7 rfl rfl)
theorem dX5_runScript_10 : decode cX5_runScript 10 = .ok (.ifCond .eq 23, 3) := dk_153 0 23 (dk_at dksX5_runScript_0 10 rfl rfl)
theorem dX5_runScript_13 : decode cX5_runScript 13 = .ok (.lload_n 2, 1) := dk_32 (dk_at dksX5_runScript_0 13 rfl rfl)
theorem dX5_runScript_14 : decode cX5_runScript 14 = .ok (.lconst 0, 1) := dk_9 (dk_at dksX5_runScript_0 14 rfl rfl)
theorem dX5_runScript_15 : decode cX5_runScript 15 = .ok (.iconst 4, 1) := dk_7 (dk_at dksX5_runScript_0 15 rfl rfl)
theorem dX5_runScript_16 : decode cX5_runScript 16 = .ok (.iload_n 1, 1) := dk_27 (dk_at dksX5_runScript_0 16 rfl rfl)
theorem dX5_runScript_17 : decode cX5_runScript 17 = .ok (.imul, 1) := dk_104 (dk_at dksX5_runScript_0 17 rfl rfl)
theorem dX5_runScript_18 : decode cX5_runScript 18 = .ok (.invokestatic 259, 3) := dk_184 1 3 (dk_at dksX5_runScript_0 18 rfl rfl)
theorem dX5_runScript_21 : decode cX5_runScript 21 = .ok (.lconst 1, 1) := dk_10 (dk_at dksX5_runScript_0 21 rfl rfl)
theorem dX5_runScript_22 : decode cX5_runScript 22 = .ok (.lsub, 1) := dk_101 (dk_at dksX5_runScript_0 22 rfl rfl)
theorem dX5_runScript_23 : decode cX5_runScript 23 = .ok (.invokestatic 79, 3) := dk_184 0 79 (dk_at dksX5_runScript_1 0 rfl rfl)
theorem dX5_runScript_26 : decode cX5_runScript 26 = .ok (.ifCond .eq 7, 3) := dk_153 0 7 (dk_at dksX5_runScript_1 3 rfl rfl)
theorem dX5_runScript_29 : decode cX5_runScript 29 = .ok (.iconst 0, 1) := dk_3 (dk_at dksX5_runScript_1 6 rfl rfl)
theorem dX5_runScript_30 : decode cX5_runScript 30 = .ok (.goto 4, 3) := dk_167 0 4 (dk_at dksX5_runScript_1 7 rfl rfl)
theorem dX5_runScript_33 : decode cX5_runScript 33 = .ok (.iconst 1, 1) := dk_4 (dk_at dksX5_runScript_1 10 rfl rfl)
theorem dX5_runScript_34 : decode cX5_runScript 34 = .ok (.invokevirtual 150, 3) := dk_182 0 150 (dk_at dksX5_runScript_1 11 rfl rfl)
theorem dX5_runScript_37 : decode cX5_runScript 37 = .ok (.ifCond .eq 5, 3) := dk_153 0 5 (dk_at dksX5_runScript_1 14 rfl rfl)
theorem dX5_runScript_40 : decode cX5_runScript 40 = .ok (.iconst 0, 1) := dk_3 (dk_at dksX5_runScript_1 17 rfl rfl)
theorem dX5_runScript_41 : decode cX5_runScript 41 = .ok (.ireturn, 1) := dk_172 (dk_at dksX5_runScript_1 18 rfl rfl)
theorem dX5_runScript_42 : decode cX5_runScript 42 = .ok (.aload_n 0, 1) := dk_42 (dk_at dksX5_runScript_1 19 rfl rfl)
theorem dX5_runScript_43 : decode cX5_runScript 43 = .ok (.getfield 13, 3) := dk_180 0 13 (dk_at dksX5_runScript_1 20 rfl rfl)
theorem dX5_runScript_46 : decode cX5_runScript 46 = .ok (.iconst 0, 1) := dk_3 (dk_at dksX5_runScript_1 23 rfl rfl)
theorem dX5_runScript_47 : decode cX5_runScript 47 = .ok (.aload_n 0, 1) := dk_42 (dk_at dksX5_runScript_2 0 rfl rfl)
theorem dX5_runScript_48 : decode cX5_runScript 48 = .ok (.getfield 16, 3) := dk_180 0 16 (dk_at dksX5_runScript_2 1 rfl rfl)
theorem dX5_runScript_51 : decode cX5_runScript 51 = .ok (.iconst 0, 1) := dk_3 (dk_at dksX5_runScript_2 4 rfl rfl)
theorem dX5_runScript_52 : decode cX5_runScript 52 = .ok (.invokestatic 226, 3) := dk_184 0 226 (dk_at dksX5_runScript_2 5 rfl rfl)
theorem dX5_runScript_55 : decode cX5_runScript 55 = .ok (.iconst 0, 1) := dk_3 (dk_at dksX5_runScript_2 8 rfl rfl)
theorem dX5_runScript_56 : decode cX5_runScript 56 = .ok (.istore 4, 2) := dk_54 4 (dk_at dksX5_runScript_2 9 rfl rfl)
theorem dX5_runScript_58 : decode cX5_runScript 58 = .ok (.iload 4, 2) := dk_21 4 (dk_at dksX5_runScript_2 11 rfl rfl)
theorem dX5_runScript_60 : decode cX5_runScript 60 = .ok (.iload_n 1, 1) := dk_27 (dk_at dksX5_runScript_2 13 rfl rfl)
theorem dX5_runScript_61 : decode cX5_runScript 61 = .ok (.if_icmp .ge 58, 3) := dk_162 0 58 (dk_at dksX5_runScript_2 14 rfl rfl)
theorem dX5_runScript_64 : decode cX5_runScript 64 = .ok (.lload_n 2, 1) := dk_32 (dk_at dksX5_runScript_2 17 rfl rfl)
theorem dX5_runScript_65 : decode cX5_runScript 65 = .ok (.iconst 4, 1) := dk_7 (dk_at dksX5_runScript_2 18 rfl rfl)
theorem dX5_runScript_66 : decode cX5_runScript 66 = .ok (.iload_n 1, 1) := dk_27 (dk_at dksX5_runScript_2 19 rfl rfl)
theorem dX5_runScript_67 : decode cX5_runScript 67 = .ok (.iconst 1, 1) := dk_4 (dk_at dksX5_runScript_2 20 rfl rfl)
theorem dX5_runScript_68 : decode cX5_runScript 68 = .ok (.isub, 1) := dk_100 (dk_at dksX5_runScript_2 21 rfl rfl)
theorem dX5_runScript_69 : decode cX5_runScript 69 = .ok (.iload 4, 2) := dk_21 4 (dk_at dksX5_runScript_2 22 rfl rfl)
theorem dX5_runScript_71 : decode cX5_runScript 71 = .ok (.isub, 1) := dk_100 (dk_at dksX5_runScript_3 0 rfl rfl)
theorem dX5_runScript_72 : decode cX5_runScript 72 = .ok (.imul, 1) := dk_104 (dk_at dksX5_runScript_3 1 rfl rfl)
theorem dX5_runScript_73 : decode cX5_runScript 73 = .ok (.invokestatic 259, 3) := dk_184 1 3 (dk_at dksX5_runScript_3 2 rfl rfl)
theorem dX5_runScript_76 : decode cX5_runScript 76 = .ok (.ldiv, 1) := dk_109 (dk_at dksX5_runScript_3 5 rfl rfl)
theorem dX5_runScript_77 : decode cX5_runScript 77 = .ok (.ldc2_w 263, 3) := dk_20 1 7 (dk_at dksX5_runScript_3 6 rfl rfl)
theorem dX5_runScript_80 : decode cX5_runScript 80 = .ok (.lrem, 1) := dk_113 (dk_at dksX5_runScript_3 9 rfl rfl)
theorem dX5_runScript_81 : decode cX5_runScript 81 = .ok (.l2i, 1) := dk_136 (dk_at dksX5_runScript_3 10 rfl rfl)
theorem dX5_runScript_82 : decode cX5_runScript 82 = .ok (.istore 5, 2) := dk_54 5 (dk_at dksX5_runScript_3 11 rfl rfl)
theorem dX5_runScript_84 : decode cX5_runScript 84 = .ok (.aload_n 0, 1) := dk_42 (dk_at dksX5_runScript_3 13 rfl rfl)
theorem dX5_runScript_85 : decode cX5_runScript 85 = .ok (.iload 5, 2) := dk_21 5 (dk_at dksX5_runScript_3 14 rfl rfl)
theorem dX5_runScript_87 : decode cX5_runScript 87 = .ok (.sipush 1000, 3) := dk_17 3 232 (dk_at dksX5_runScript_3 16 rfl rfl)
theorem dX5_runScript_90 : decode cX5_runScript 90 = .ok (.idiv, 1) := dk_108 (dk_at dksX5_runScript_3 19 rfl rfl)
theorem dX5_runScript_91 : decode cX5_runScript 91 = .ok (.iload 5, 2) := dk_21 5 (dk_at dksX5_runScript_3 20 rfl rfl)
theorem dX5_runScript_93 : decode cX5_runScript 93 = .ok (.bipush 100, 2) := dk_16 100 (dk_at dksX5_runScript_3 22 rfl rfl)
theorem dX5_runScript_95 : decode cX5_runScript 95 = .ok (.idiv, 1) := dk_108 (dk_at dksX5_runScript_4 0 rfl rfl)
theorem dX5_runScript_96 : decode cX5_runScript 96 = .ok (.bipush 10, 2) := dk_16 10 (dk_at dksX5_runScript_4 1 rfl rfl)
theorem dX5_runScript_98 : decode cX5_runScript 98 = .ok (.irem, 1) := dk_112 (dk_at dksX5_runScript_4 3 rfl rfl)
theorem dX5_runScript_99 : decode cX5_runScript 99 = .ok (.iload 5, 2) := dk_21 5 (dk_at dksX5_runScript_4 4 rfl rfl)
theorem dX5_runScript_101 : decode cX5_runScript 101 = .ok (.bipush 100, 2) := dk_16 100 (dk_at dksX5_runScript_4 6 rfl rfl)
theorem dX5_runScript_103 : decode cX5_runScript 103 = .ok (.irem, 1) := dk_112 (dk_at dksX5_runScript_4 8 rfl rfl)
theorem dX5_runScript_104 : decode cX5_runScript 104 = .ok (.invokevirtual 265, 3) := dk_182 1 9 (dk_at dksX5_runScript_4 9 rfl rfl)
theorem dX5_runScript_107 : decode cX5_runScript 107 = .ok (.ifCond .ne 6, 3) := dk_154 0 6 (dk_at dksX5_runScript_4 12 rfl rfl)
theorem dX5_runScript_110 : decode cX5_runScript 110 = .ok (.iload 4, 2) := dk_21 4 (dk_at dksX5_runScript_4 15 rfl rfl)
theorem dX5_runScript_112 : decode cX5_runScript 112 = .ok (.ireturn, 1) := dk_172 (dk_at dksX5_runScript_4 17 rfl rfl)
theorem dX5_runScript_113 : decode cX5_runScript 113 = .ok (.iinc 4 1, 3) := dk_132 4 1 (dk_at dksX5_runScript_4 18 rfl rfl)
theorem dX5_runScript_116 : decode cX5_runScript 116 = .ok (.goto (-58), 3) := dk_167 255 198 (dk_at dksX5_runScript_4 21 rfl rfl)
theorem dX5_runScript_119 : decode cX5_runScript 119 = .ok (.bipush (-9), 2) := dk_16 247 (dk_at dksX5_runScript_5 0 rfl rfl)
theorem dX5_runScript_121 : decode cX5_runScript 121 = .ok (.ireturn, 1) := dk_172 (dk_at dksX5_runScript_5 2 rfl rfl)
abbrev cX5_tenTo : ByteArray := prog_15_method_71_code
def yX5_tenTo : MethodName := ⟨RX5, "tenTo", "(I)J"⟩
def dkwX5_tenTo_0 : List UInt8 := [10, 64, 3, 62, 29, 26, 162, 0, 15, 31, 20, 0, 255, 105, 64, 132, 3, 1, 167, 255, 242, 31, 173]
abbrev dktX5_tenTo_0 : List UInt8 := dkwX5_tenTo_0 ++ []
theorem dksX5_tenTo_0 : cX5_tenTo.data.toList.drop 0 = dktX5_tenTo_0 := by decide +kernel
theorem dX5_tenTo_0 : decode cX5_tenTo 0 = .ok (.lconst 1, 1) := dk_10 (dk_at dksX5_tenTo_0 0 rfl rfl)
theorem dX5_tenTo_1 : decode cX5_tenTo 1 = .ok (.lstore_n 1, 1) := dk_64 (dk_at dksX5_tenTo_0 1 rfl rfl)
theorem dX5_tenTo_2 : decode cX5_tenTo 2 = .ok (.iconst 0, 1) := dk_3 (dk_at dksX5_tenTo_0 2 rfl rfl)
theorem dX5_tenTo_3 : decode cX5_tenTo 3 = .ok (.istore_n 3, 1) := dk_62 (dk_at dksX5_tenTo_0 3 rfl rfl)
theorem dX5_tenTo_4 : decode cX5_tenTo 4 = .ok (.iload_n 3, 1) := dk_29 (dk_at dksX5_tenTo_0 4 rfl rfl)
theorem dX5_tenTo_5 : decode cX5_tenTo 5 = .ok (.iload_n 0, 1) := dk_26 (dk_at dksX5_tenTo_0 5 rfl rfl)
theorem dX5_tenTo_6 : decode cX5_tenTo 6 = .ok (.if_icmp .ge 15, 3) := dk_162 0 15 (dk_at dksX5_tenTo_0 6 rfl rfl)
theorem dX5_tenTo_9 : decode cX5_tenTo 9 = .ok (.lload_n 1, 1) := dk_31 (dk_at dksX5_tenTo_0 9 rfl rfl)
theorem dX5_tenTo_10 : decode cX5_tenTo 10 = .ok (.ldc2_w 255, 3) := dk_20 0 255 (dk_at dksX5_tenTo_0 10 rfl rfl)
theorem dX5_tenTo_13 : decode cX5_tenTo 13 = .ok (.lmul, 1) := dk_105 (dk_at dksX5_tenTo_0 13 rfl rfl)
theorem dX5_tenTo_14 : decode cX5_tenTo 14 = .ok (.lstore_n 1, 1) := dk_64 (dk_at dksX5_tenTo_0 14 rfl rfl)
theorem dX5_tenTo_15 : decode cX5_tenTo 15 = .ok (.iinc 3 1, 3) := dk_132 3 1 (dk_at dksX5_tenTo_0 15 rfl rfl)
theorem dX5_tenTo_18 : decode cX5_tenTo 18 = .ok (.goto (-14), 3) := dk_167 255 242 (dk_at dksX5_tenTo_0 18 rfl rfl)
theorem dX5_tenTo_21 : decode cX5_tenTo 21 = .ok (.lload_n 1, 1) := dk_31 (dk_at dksX5_tenTo_0 21 rfl rfl)
theorem dX5_tenTo_22 : decode cX5_tenTo 22 = .ok (.lreturn, 1) := dk_173 (dk_at dksX5_tenTo_0 22 rfl rfl)
abbrev cX5_does : ByteArray := prog_15_method_70_code
def yX5_does : MethodName := ⟨RX5, "does", "(III)Z"⟩
def dkwX5_does_10 : List UInt8 := [3, 172, 3, 172]
abbrev dktX5_does_10 : List UInt8 := dkwX5_does_10 ++ []
def dkwX5_does_9 : List UInt8 := [180, 0, 16, 182, 0, 249, 28, 154, 0, 17, 42, 180, 0, 56, 3, 46, 29, 160, 0, 7, 4, 167, 0, 4]
abbrev dktX5_does_9 : List UInt8 := dkwX5_does_9 ++ dktX5_does_10
def dkwX5_does_8 : List UInt8 := [154, 0, 19, 42, 180, 0, 16, 17, 0, 181, 46, 29, 160, 0, 7, 4, 167, 0, 4, 3, 172, 42, 42]
abbrev dktX5_does_8 : List UInt8 := dkwX5_does_8 ++ dktX5_does_9
def dkwX5_does_7 : List UInt8 := [42, 180, 0, 16, 17, 0, 180, 46, 184, 0, 114, 29, 160, 0, 7, 4, 167, 0, 4, 3, 172, 28]
abbrev dktX5_does_7 : List UInt8 := dkwX5_does_7 ++ dktX5_does_8
def dkwX5_does_6 : List UInt8 := [180, 0, 16, 184, 0, 222, 153, 0, 7, 4, 167, 0, 4, 3, 172, 28, 154, 0, 27, 42, 180, 0, 16, 3]
abbrev dktX5_does_6 : List UInt8 := dkwX5_does_6 ++ dktX5_does_7
def dkwX5_does_5 : List UInt8 := [180, 0, 16, 184, 0, 243, 153, 0, 7, 4, 167, 0, 4, 3, 172, 28, 154, 0, 21, 29, 154, 0, 17, 42]
abbrev dktX5_does_5 : List UInt8 := dkwX5_does_5 ++ dktX5_does_6
def dkwX5_does_4 : List UInt8 := [160, 0, 7, 29, 167, 0, 5, 29, 116, 184, 0, 214, 4, 172, 28, 154, 0, 21, 29, 154, 0, 17, 42]
abbrev dktX5_does_4 : List UInt8 := dkwX5_does_4 ++ dktX5_does_5
def dkwX5_does_3 : List UInt8 := [184, 0, 240, 153, 0, 7, 4, 167, 0, 4, 3, 172, 28, 153, 0, 5, 3, 172, 42, 180, 0, 16, 27, 6]
abbrev dktX5_does_3 : List UInt8 := dkwX5_does_3 ++ dktX5_does_4
def dkwX5_does_2 : List UInt8 := [42, 180, 0, 16, 16, 100, 28, 104, 29, 96, 184, 0, 233, 172, 28, 154, 0, 18, 42, 180, 0, 16, 29]
abbrev dktX5_does_2 : List UInt8 := dkwX5_does_2 ++ dktX5_does_3
def dkwX5_does_1 : List UInt8 := [170, 0, 0, 0, 0, 0, 240, 0, 0, 0, 1, 0, 0, 0, 9, 0, 0, 0, 51, 0, 0, 0, 65, 0, 0, 0, 86, 0, 0, 0, 86, 0, 0, 0, 112, 0, 0, 0, 136, 0, 0, 0, 160, 0, 0, 0, 190, 0, 0, 0, 212]
abbrev dktX5_does_1 : List UInt8 := dkwX5_does_1 ++ dktX5_does_2
def dkwX5_does_0 : List UInt8 := [27]
abbrev dktX5_does_0 : List UInt8 := dkwX5_does_0 ++ dktX5_does_1
theorem dksX5_does_0 : cX5_does.data.toList.drop 0 = dktX5_does_0 := by decide +kernel
theorem dksX5_does_1 : cX5_does.data.toList.drop 1 = dktX5_does_1 := dk_seg dksX5_does_0 1 rfl rfl
theorem dksX5_does_2 : cX5_does.data.toList.drop 52 = dktX5_does_2 := dk_seg dksX5_does_1 51 rfl rfl
theorem dksX5_does_3 : cX5_does.data.toList.drop 75 = dktX5_does_3 := dk_seg dksX5_does_2 23 rfl rfl
theorem dksX5_does_4 : cX5_does.data.toList.drop 99 = dktX5_does_4 := dk_seg dksX5_does_3 24 rfl rfl
theorem dksX5_does_5 : cX5_does.data.toList.drop 122 = dktX5_does_5 := dk_seg dksX5_does_4 23 rfl rfl
theorem dksX5_does_6 : cX5_does.data.toList.drop 146 = dktX5_does_6 := dk_seg dksX5_does_5 24 rfl rfl
theorem dksX5_does_7 : cX5_does.data.toList.drop 170 = dktX5_does_7 := dk_seg dksX5_does_6 24 rfl rfl
theorem dksX5_does_8 : cX5_does.data.toList.drop 192 = dktX5_does_8 := dk_seg dksX5_does_7 22 rfl rfl
theorem dksX5_does_9 : cX5_does.data.toList.drop 215 = dktX5_does_9 := dk_seg dksX5_does_8 23 rfl rfl
theorem dksX5_does_10 : cX5_does.data.toList.drop 239 = dktX5_does_10 := dk_seg dksX5_does_9 24 rfl rfl
theorem dX5_does_0 : decode cX5_does 0 = .ok (.iload_n 1, 1) := dk_27 (dk_at dksX5_does_0 0 rfl rfl)
theorem dX5_does_1 : decode cX5_does 1 = .ok (.tableswitch 240 1 9 #[51, 65, 86, 86, 112, 136, 160, 190, 212], 51) := by decide +kernel
theorem dX5_does_52 : decode cX5_does 52 = .ok (.aload_n 0, 1) := dk_42 (dk_at dksX5_does_2 0 rfl rfl)
theorem dX5_does_53 : decode cX5_does 53 = .ok (.getfield 16, 3) := dk_180 0 16 (dk_at dksX5_does_2 1 rfl rfl)
theorem dX5_does_56 : decode cX5_does 56 = .ok (.bipush 100, 2) := dk_16 100 (dk_at dksX5_does_2 4 rfl rfl)
theorem dX5_does_58 : decode cX5_does 58 = .ok (.iload_n 2, 1) := dk_28 (dk_at dksX5_does_2 6 rfl rfl)
theorem dX5_does_59 : decode cX5_does 59 = .ok (.imul, 1) := dk_104 (dk_at dksX5_does_2 7 rfl rfl)
theorem dX5_does_60 : decode cX5_does 60 = .ok (.iload_n 3, 1) := dk_29 (dk_at dksX5_does_2 8 rfl rfl)
theorem dX5_does_61 : decode cX5_does 61 = .ok (.iadd, 1) := dk_96 (dk_at dksX5_does_2 9 rfl rfl)
theorem dX5_does_62 : decode cX5_does 62 = .ok (.invokestatic 233, 3) := dk_184 0 233 (dk_at dksX5_does_2 10 rfl rfl)
theorem dX5_does_65 : decode cX5_does 65 = .ok (.ireturn, 1) := dk_172 (dk_at dksX5_does_2 13 rfl rfl)
theorem dX5_does_66 : decode cX5_does 66 = .ok (.iload_n 2, 1) := dk_28 (dk_at dksX5_does_2 14 rfl rfl)
theorem dX5_does_67 : decode cX5_does 67 = .ok (.ifCond .ne 18, 3) := dk_154 0 18 (dk_at dksX5_does_2 15 rfl rfl)
theorem dX5_does_70 : decode cX5_does 70 = .ok (.aload_n 0, 1) := dk_42 (dk_at dksX5_does_2 18 rfl rfl)
theorem dX5_does_71 : decode cX5_does 71 = .ok (.getfield 16, 3) := dk_180 0 16 (dk_at dksX5_does_2 19 rfl rfl)
theorem dX5_does_74 : decode cX5_does 74 = .ok (.iload_n 3, 1) := dk_29 (dk_at dksX5_does_2 22 rfl rfl)
theorem dX5_does_75 : decode cX5_does 75 = .ok (.invokestatic 240, 3) := dk_184 0 240 (dk_at dksX5_does_3 0 rfl rfl)
theorem dX5_does_78 : decode cX5_does 78 = .ok (.ifCond .eq 7, 3) := dk_153 0 7 (dk_at dksX5_does_3 3 rfl rfl)
theorem dX5_does_81 : decode cX5_does 81 = .ok (.iconst 1, 1) := dk_4 (dk_at dksX5_does_3 6 rfl rfl)
theorem dX5_does_82 : decode cX5_does 82 = .ok (.goto 4, 3) := dk_167 0 4 (dk_at dksX5_does_3 7 rfl rfl)
theorem dX5_does_85 : decode cX5_does 85 = .ok (.iconst 0, 1) := dk_3 (dk_at dksX5_does_3 10 rfl rfl)
theorem dX5_does_86 : decode cX5_does 86 = .ok (.ireturn, 1) := dk_172 (dk_at dksX5_does_3 11 rfl rfl)
theorem dX5_does_87 : decode cX5_does 87 = .ok (.iload_n 2, 1) := dk_28 (dk_at dksX5_does_3 12 rfl rfl)
theorem dX5_does_88 : decode cX5_does 88 = .ok (.ifCond .eq 5, 3) := dk_153 0 5 (dk_at dksX5_does_3 13 rfl rfl)
theorem dX5_does_91 : decode cX5_does 91 = .ok (.iconst 0, 1) := dk_3 (dk_at dksX5_does_3 16 rfl rfl)
theorem dX5_does_92 : decode cX5_does 92 = .ok (.ireturn, 1) := dk_172 (dk_at dksX5_does_3 17 rfl rfl)
theorem dX5_does_93 : decode cX5_does 93 = .ok (.aload_n 0, 1) := dk_42 (dk_at dksX5_does_3 18 rfl rfl)
theorem dX5_does_94 : decode cX5_does 94 = .ok (.getfield 16, 3) := dk_180 0 16 (dk_at dksX5_does_3 19 rfl rfl)
theorem dX5_does_97 : decode cX5_does 97 = .ok (.iload_n 1, 1) := dk_27 (dk_at dksX5_does_3 22 rfl rfl)
theorem dX5_does_98 : decode cX5_does 98 = .ok (.iconst 3, 1) := dk_6 (dk_at dksX5_does_3 23 rfl rfl)
theorem dX5_does_99 : decode cX5_does 99 = .ok (.if_icmp .ne 7, 3) := dk_160 0 7 (dk_at dksX5_does_4 0 rfl rfl)
theorem dX5_does_102 : decode cX5_does 102 = .ok (.iload_n 3, 1) := dk_29 (dk_at dksX5_does_4 3 rfl rfl)
theorem dX5_does_103 : decode cX5_does 103 = .ok (.goto 5, 3) := dk_167 0 5 (dk_at dksX5_does_4 4 rfl rfl)
theorem dX5_does_106 : decode cX5_does 106 = .ok (.iload_n 3, 1) := dk_29 (dk_at dksX5_does_4 7 rfl rfl)
theorem dX5_does_107 : decode cX5_does 107 = .ok (.ineg, 1) := dk_116 (dk_at dksX5_does_4 8 rfl rfl)
theorem dX5_does_108 : decode cX5_does 108 = .ok (.invokestatic 214, 3) := dk_184 0 214 (dk_at dksX5_does_4 9 rfl rfl)
theorem dX5_does_111 : decode cX5_does 111 = .ok (.iconst 1, 1) := dk_4 (dk_at dksX5_does_4 12 rfl rfl)
theorem dX5_does_112 : decode cX5_does 112 = .ok (.ireturn, 1) := dk_172 (dk_at dksX5_does_4 13 rfl rfl)
theorem dX5_does_113 : decode cX5_does 113 = .ok (.iload_n 2, 1) := dk_28 (dk_at dksX5_does_4 14 rfl rfl)
theorem dX5_does_114 : decode cX5_does 114 = .ok (.ifCond .ne 21, 3) := dk_154 0 21 (dk_at dksX5_does_4 15 rfl rfl)
theorem dX5_does_117 : decode cX5_does 117 = .ok (.iload_n 3, 1) := dk_29 (dk_at dksX5_does_4 18 rfl rfl)
theorem dX5_does_118 : decode cX5_does 118 = .ok (.ifCond .ne 17, 3) := dk_154 0 17 (dk_at dksX5_does_4 19 rfl rfl)
theorem dX5_does_121 : decode cX5_does 121 = .ok (.aload_n 0, 1) := dk_42 (dk_at dksX5_does_4 22 rfl rfl)
theorem dX5_does_122 : decode cX5_does 122 = .ok (.getfield 16, 3) := dk_180 0 16 (dk_at dksX5_does_5 0 rfl rfl)
theorem dX5_does_125 : decode cX5_does 125 = .ok (.invokestatic 243, 3) := dk_184 0 243 (dk_at dksX5_does_5 3 rfl rfl)
theorem dX5_does_128 : decode cX5_does 128 = .ok (.ifCond .eq 7, 3) := dk_153 0 7 (dk_at dksX5_does_5 6 rfl rfl)
theorem dX5_does_131 : decode cX5_does 131 = .ok (.iconst 1, 1) := dk_4 (dk_at dksX5_does_5 9 rfl rfl)
theorem dX5_does_132 : decode cX5_does 132 = .ok (.goto 4, 3) := dk_167 0 4 (dk_at dksX5_does_5 10 rfl rfl)
theorem dX5_does_135 : decode cX5_does 135 = .ok (.iconst 0, 1) := dk_3 (dk_at dksX5_does_5 13 rfl rfl)
theorem dX5_does_136 : decode cX5_does 136 = .ok (.ireturn, 1) := dk_172 (dk_at dksX5_does_5 14 rfl rfl)
theorem dX5_does_137 : decode cX5_does 137 = .ok (.iload_n 2, 1) := dk_28 (dk_at dksX5_does_5 15 rfl rfl)
theorem dX5_does_138 : decode cX5_does 138 = .ok (.ifCond .ne 21, 3) := dk_154 0 21 (dk_at dksX5_does_5 16 rfl rfl)
theorem dX5_does_141 : decode cX5_does 141 = .ok (.iload_n 3, 1) := dk_29 (dk_at dksX5_does_5 19 rfl rfl)
theorem dX5_does_142 : decode cX5_does 142 = .ok (.ifCond .ne 17, 3) := dk_154 0 17 (dk_at dksX5_does_5 20 rfl rfl)
theorem dX5_does_145 : decode cX5_does 145 = .ok (.aload_n 0, 1) := dk_42 (dk_at dksX5_does_5 23 rfl rfl)
theorem dX5_does_146 : decode cX5_does 146 = .ok (.getfield 16, 3) := dk_180 0 16 (dk_at dksX5_does_6 0 rfl rfl)
theorem dX5_does_149 : decode cX5_does 149 = .ok (.invokestatic 222, 3) := dk_184 0 222 (dk_at dksX5_does_6 3 rfl rfl)
theorem dX5_does_152 : decode cX5_does 152 = .ok (.ifCond .eq 7, 3) := dk_153 0 7 (dk_at dksX5_does_6 6 rfl rfl)
theorem dX5_does_155 : decode cX5_does 155 = .ok (.iconst 1, 1) := dk_4 (dk_at dksX5_does_6 9 rfl rfl)
theorem dX5_does_156 : decode cX5_does 156 = .ok (.goto 4, 3) := dk_167 0 4 (dk_at dksX5_does_6 10 rfl rfl)
theorem dX5_does_159 : decode cX5_does 159 = .ok (.iconst 0, 1) := dk_3 (dk_at dksX5_does_6 13 rfl rfl)
theorem dX5_does_160 : decode cX5_does 160 = .ok (.ireturn, 1) := dk_172 (dk_at dksX5_does_6 14 rfl rfl)
theorem dX5_does_161 : decode cX5_does 161 = .ok (.iload_n 2, 1) := dk_28 (dk_at dksX5_does_6 15 rfl rfl)
theorem dX5_does_162 : decode cX5_does 162 = .ok (.ifCond .ne 27, 3) := dk_154 0 27 (dk_at dksX5_does_6 16 rfl rfl)
theorem dX5_does_165 : decode cX5_does 165 = .ok (.aload_n 0, 1) := dk_42 (dk_at dksX5_does_6 19 rfl rfl)
theorem dX5_does_166 : decode cX5_does 166 = .ok (.getfield 16, 3) := dk_180 0 16 (dk_at dksX5_does_6 20 rfl rfl)
theorem dX5_does_169 : decode cX5_does 169 = .ok (.iconst 0, 1) := dk_3 (dk_at dksX5_does_6 23 rfl rfl)
theorem dX5_does_170 : decode cX5_does 170 = .ok (.aload_n 0, 1) := dk_42 (dk_at dksX5_does_7 0 rfl rfl)
theorem dX5_does_171 : decode cX5_does 171 = .ok (.getfield 16, 3) := dk_180 0 16 (dk_at dksX5_does_7 1 rfl rfl)
theorem dX5_does_174 : decode cX5_does 174 = .ok (.sipush 180, 3) := dk_17 0 180 (dk_at dksX5_does_7 4 rfl rfl)
theorem dX5_does_177 : decode cX5_does 177 = .ok (.iaload, 1) := dk_46 (dk_at dksX5_does_7 7 rfl rfl)
theorem dX5_does_178 : decode cX5_does 178 = .ok (.invokestatic 114, 3) := dk_184 0 114 (dk_at dksX5_does_7 8 rfl rfl)
theorem dX5_does_181 : decode cX5_does 181 = .ok (.iload_n 3, 1) := dk_29 (dk_at dksX5_does_7 11 rfl rfl)
theorem dX5_does_182 : decode cX5_does 182 = .ok (.if_icmp .ne 7, 3) := dk_160 0 7 (dk_at dksX5_does_7 12 rfl rfl)
theorem dX5_does_185 : decode cX5_does 185 = .ok (.iconst 1, 1) := dk_4 (dk_at dksX5_does_7 15 rfl rfl)
theorem dX5_does_186 : decode cX5_does 186 = .ok (.goto 4, 3) := dk_167 0 4 (dk_at dksX5_does_7 16 rfl rfl)
theorem dX5_does_189 : decode cX5_does 189 = .ok (.iconst 0, 1) := dk_3 (dk_at dksX5_does_7 19 rfl rfl)
theorem dX5_does_190 : decode cX5_does 190 = .ok (.ireturn, 1) := dk_172 (dk_at dksX5_does_7 20 rfl rfl)
theorem dX5_does_191 : decode cX5_does 191 = .ok (.iload_n 2, 1) := dk_28 (dk_at dksX5_does_7 21 rfl rfl)
theorem dX5_does_192 : decode cX5_does 192 = .ok (.ifCond .ne 19, 3) := dk_154 0 19 (dk_at dksX5_does_8 0 rfl rfl)
theorem dX5_does_195 : decode cX5_does 195 = .ok (.aload_n 0, 1) := dk_42 (dk_at dksX5_does_8 3 rfl rfl)
theorem dX5_does_196 : decode cX5_does 196 = .ok (.getfield 16, 3) := dk_180 0 16 (dk_at dksX5_does_8 4 rfl rfl)
theorem dX5_does_199 : decode cX5_does 199 = .ok (.sipush 181, 3) := dk_17 0 181 (dk_at dksX5_does_8 7 rfl rfl)
theorem dX5_does_202 : decode cX5_does 202 = .ok (.iaload, 1) := dk_46 (dk_at dksX5_does_8 10 rfl rfl)
theorem dX5_does_203 : decode cX5_does 203 = .ok (.iload_n 3, 1) := dk_29 (dk_at dksX5_does_8 11 rfl rfl)
theorem dX5_does_204 : decode cX5_does 204 = .ok (.if_icmp .ne 7, 3) := dk_160 0 7 (dk_at dksX5_does_8 12 rfl rfl)
theorem dX5_does_207 : decode cX5_does 207 = .ok (.iconst 1, 1) := dk_4 (dk_at dksX5_does_8 15 rfl rfl)
theorem dX5_does_208 : decode cX5_does 208 = .ok (.goto 4, 3) := dk_167 0 4 (dk_at dksX5_does_8 16 rfl rfl)
theorem dX5_does_211 : decode cX5_does 211 = .ok (.iconst 0, 1) := dk_3 (dk_at dksX5_does_8 19 rfl rfl)
theorem dX5_does_212 : decode cX5_does 212 = .ok (.ireturn, 1) := dk_172 (dk_at dksX5_does_8 20 rfl rfl)
theorem dX5_does_213 : decode cX5_does 213 = .ok (.aload_n 0, 1) := dk_42 (dk_at dksX5_does_8 21 rfl rfl)
theorem dX5_does_214 : decode cX5_does 214 = .ok (.aload_n 0, 1) := dk_42 (dk_at dksX5_does_8 22 rfl rfl)
theorem dX5_does_215 : decode cX5_does 215 = .ok (.getfield 16, 3) := dk_180 0 16 (dk_at dksX5_does_9 0 rfl rfl)
theorem dX5_does_218 : decode cX5_does 218 = .ok (.invokevirtual 249, 3) := dk_182 0 249 (dk_at dksX5_does_9 3 rfl rfl)
theorem dX5_does_221 : decode cX5_does 221 = .ok (.iload_n 2, 1) := dk_28 (dk_at dksX5_does_9 6 rfl rfl)
theorem dX5_does_222 : decode cX5_does 222 = .ok (.ifCond .ne 17, 3) := dk_154 0 17 (dk_at dksX5_does_9 7 rfl rfl)
theorem dX5_does_225 : decode cX5_does 225 = .ok (.aload_n 0, 1) := dk_42 (dk_at dksX5_does_9 10 rfl rfl)
theorem dX5_does_226 : decode cX5_does 226 = .ok (.getfield 56, 3) := dk_180 0 56 (dk_at dksX5_does_9 11 rfl rfl)
theorem dX5_does_229 : decode cX5_does 229 = .ok (.iconst 0, 1) := dk_3 (dk_at dksX5_does_9 14 rfl rfl)
theorem dX5_does_230 : decode cX5_does 230 = .ok (.iaload, 1) := dk_46 (dk_at dksX5_does_9 15 rfl rfl)
theorem dX5_does_231 : decode cX5_does 231 = .ok (.iload_n 3, 1) := dk_29 (dk_at dksX5_does_9 16 rfl rfl)
theorem dX5_does_232 : decode cX5_does 232 = .ok (.if_icmp .ne 7, 3) := dk_160 0 7 (dk_at dksX5_does_9 17 rfl rfl)
theorem dX5_does_235 : decode cX5_does 235 = .ok (.iconst 1, 1) := dk_4 (dk_at dksX5_does_9 20 rfl rfl)
theorem dX5_does_236 : decode cX5_does 236 = .ok (.goto 4, 3) := dk_167 0 4 (dk_at dksX5_does_9 21 rfl rfl)
theorem dX5_does_239 : decode cX5_does 239 = .ok (.iconst 0, 1) := dk_3 (dk_at dksX5_does_10 0 rfl rfl)
theorem dX5_does_240 : decode cX5_does 240 = .ok (.ireturn, 1) := dk_172 (dk_at dksX5_does_10 1 rfl rfl)
theorem dX5_does_241 : decode cX5_does 241 = .ok (.iconst 0, 1) := dk_3 (dk_at dksX5_does_10 2 rfl rfl)
theorem dX5_does_242 : decode cX5_does 242 = .ok (.ireturn, 1) := dk_172 (dk_at dksX5_does_10 3 rfl rfl)
abbrev cX5_simulate : ByteArray := prog_15_method_73_code
def yX5_simulate : MethodName := ⟨RX5, "simulate", "(JI)I"⟩
def dkwX5_simulate_9 : List UInt8 := [180, 0, 16, 17, 0, 180, 46, 184, 0, 114, 104, 42, 180, 0, 193, 96, 172]
abbrev dktX5_simulate_9 : List UInt8 := dkwX5_simulate_9 ++ []
def dkwX5_simulate_8 : List UInt8 := [132, 6, 1, 167, 255, 100, 42, 42, 180, 0, 16, 182, 0, 207, 17, 3, 232, 42, 180, 0, 16, 3, 42]
abbrev dktX5_simulate_8 : List UInt8 := dkwX5_simulate_8 ++ dktX5_simulate_9
def dkwX5_simulate_7 : List UInt8 := [167, 0, 22, 42, 180, 0, 16, 184, 0, 243, 87, 167, 0, 11, 42, 180, 0, 16, 184, 0, 222, 87]
abbrev dktX5_simulate_7 : List UInt8 := dkwX5_simulate_7 ++ dktX5_simulate_8
def dkwX5_simulate_6 : List UInt8 := [21, 8, 8, 112, 96, 184, 0, 240, 87, 167, 0, 37, 42, 180, 0, 16, 21, 8, 16, 32, 100, 184, 0, 214]
abbrev dktX5_simulate_6 : List UInt8 := dkwX5_simulate_6 ++ dktX5_simulate_7
def dkwX5_simulate_5 : List UInt8 := [42, 180, 0, 16, 16, 97, 21, 8, 16, 17, 112, 96, 184, 0, 233, 87, 167, 0, 54, 42, 180, 0, 16, 4]
abbrev dktX5_simulate_5 : List UInt8 := dkwX5_simulate_5 ++ dktX5_simulate_6
def dkwX5_simulate_4 : List UInt8 := [170, 0, 0, 0, 0, 104, 0, 0, 0, 0, 0, 0, 0, 6, 0, 0, 0, 42, 0, 0, 0, 42, 0, 0, 0, 42, 0, 0, 0, 61, 0, 0, 0, 61, 0, 0, 0, 78, 0, 0, 0, 93]
abbrev dktX5_simulate_4 : List UInt8 := dkwX5_simulate_4 ++ dktX5_simulate_5
def dkwX5_simulate_3 : List UInt8 := [21, 7, 16, 8, 108, 16, 64, 112, 54, 8, 21, 7, 16, 8, 112]
abbrev dktX5_simulate_3 : List UInt8 := dkwX5_simulate_3 ++ dktX5_simulate_4
def dkwX5_simulate_2 : List UInt8 := [162, 0, 156, 22, 4, 20, 1, 15, 105, 20, 1, 17, 97, 55, 4, 22, 4, 16, 33, 125, 136, 54, 7]
abbrev dktX5_simulate_2 : List UInt8 := dkwX5_simulate_2 ++ dktX5_simulate_3
def dkwX5_simulate_1 : List UInt8 := [3, 172, 42, 180, 0, 13, 3, 42, 180, 0, 16, 3, 184, 0, 226, 31, 55, 4, 3, 54, 6, 21, 6, 29]
abbrev dktX5_simulate_1 : List UInt8 := dkwX5_simulate_1 ++ dktX5_simulate_2
def dkwX5_simulate_0 : List UInt8 := [42, 29, 133, 10, 20, 1, 13, 184, 0, 79, 153, 0, 7, 3, 167, 0, 4, 4, 182, 0, 150, 153, 0, 5]
abbrev dktX5_simulate_0 : List UInt8 := dkwX5_simulate_0 ++ dktX5_simulate_1
theorem dksX5_simulate_0 : cX5_simulate.data.toList.drop 0 = dktX5_simulate_0 := by decide +kernel
theorem dksX5_simulate_1 : cX5_simulate.data.toList.drop 24 = dktX5_simulate_1 := dk_seg dksX5_simulate_0 24 rfl rfl
theorem dksX5_simulate_2 : cX5_simulate.data.toList.drop 48 = dktX5_simulate_2 := dk_seg dksX5_simulate_1 24 rfl rfl
theorem dksX5_simulate_3 : cX5_simulate.data.toList.drop 71 = dktX5_simulate_3 := dk_seg dksX5_simulate_2 23 rfl rfl
theorem dksX5_simulate_4 : cX5_simulate.data.toList.drop 86 = dktX5_simulate_4 := dk_seg dksX5_simulate_3 15 rfl rfl
theorem dksX5_simulate_5 : cX5_simulate.data.toList.drop 128 = dktX5_simulate_5 := dk_seg dksX5_simulate_4 42 rfl rfl
theorem dksX5_simulate_6 : cX5_simulate.data.toList.drop 152 = dktX5_simulate_6 := dk_seg dksX5_simulate_5 24 rfl rfl
theorem dksX5_simulate_7 : cX5_simulate.data.toList.drop 176 = dktX5_simulate_7 := dk_seg dksX5_simulate_6 24 rfl rfl
theorem dksX5_simulate_8 : cX5_simulate.data.toList.drop 198 = dktX5_simulate_8 := dk_seg dksX5_simulate_7 22 rfl rfl
theorem dksX5_simulate_9 : cX5_simulate.data.toList.drop 221 = dktX5_simulate_9 := dk_seg dksX5_simulate_8 23 rfl rfl
theorem dX5_simulate_0 : decode cX5_simulate 0 = .ok (.aload_n 0, 1) := dk_42 (dk_at dksX5_simulate_0 0 rfl rfl)
theorem dX5_simulate_1 : decode cX5_simulate 1 = .ok (.iload_n 3, 1) := dk_29 (dk_at dksX5_simulate_0 1 rfl rfl)
theorem dX5_simulate_2 : decode cX5_simulate 2 = .ok (.i2l, 1) := dk_133 (dk_at dksX5_simulate_0 2 rfl rfl)
theorem dX5_simulate_3 : decode cX5_simulate 3 = .ok (.lconst 1, 1) := dk_10 (dk_at dksX5_simulate_0 3 rfl rfl)
theorem dX5_simulate_4 : decode cX5_simulate 4 = .ok (.ldc2_w 269, 3) := dk_20 1 13 (dk_at dksX5_simulate_0 4 rfl rfl)
theorem dX5_simulate_7 : decode cX5_simulate 7 = .ok (.invokestatic 79, 3) := dk_184 0 79 (dk_at dksX5_simulate_0 7 rfl rfl)
theorem dX5_simulate_10 : decode cX5_simulate 10 = .ok (.ifCond .eq 7, 3) := dk_153 0 7 (dk_at dksX5_simulate_0 10 rfl rfl)
theorem dX5_simulate_13 : decode cX5_simulate 13 = .ok (.iconst 0, 1) := dk_3 (dk_at dksX5_simulate_0 13 rfl rfl)
theorem dX5_simulate_14 : decode cX5_simulate 14 = .ok (.goto 4, 3) := dk_167 0 4 (dk_at dksX5_simulate_0 14 rfl rfl)
theorem dX5_simulate_17 : decode cX5_simulate 17 = .ok (.iconst 1, 1) := dk_4 (dk_at dksX5_simulate_0 17 rfl rfl)
theorem dX5_simulate_18 : decode cX5_simulate 18 = .ok (.invokevirtual 150, 3) := dk_182 0 150 (dk_at dksX5_simulate_0 18 rfl rfl)
theorem dX5_simulate_21 : decode cX5_simulate 21 = .ok (.ifCond .eq 5, 3) := dk_153 0 5 (dk_at dksX5_simulate_0 21 rfl rfl)
theorem dX5_simulate_24 : decode cX5_simulate 24 = .ok (.iconst 0, 1) := dk_3 (dk_at dksX5_simulate_1 0 rfl rfl)
theorem dX5_simulate_25 : decode cX5_simulate 25 = .ok (.ireturn, 1) := dk_172 (dk_at dksX5_simulate_1 1 rfl rfl)
theorem dX5_simulate_26 : decode cX5_simulate 26 = .ok (.aload_n 0, 1) := dk_42 (dk_at dksX5_simulate_1 2 rfl rfl)
theorem dX5_simulate_27 : decode cX5_simulate 27 = .ok (.getfield 13, 3) := dk_180 0 13 (dk_at dksX5_simulate_1 3 rfl rfl)
theorem dX5_simulate_30 : decode cX5_simulate 30 = .ok (.iconst 0, 1) := dk_3 (dk_at dksX5_simulate_1 6 rfl rfl)
theorem dX5_simulate_31 : decode cX5_simulate 31 = .ok (.aload_n 0, 1) := dk_42 (dk_at dksX5_simulate_1 7 rfl rfl)
theorem dX5_simulate_32 : decode cX5_simulate 32 = .ok (.getfield 16, 3) := dk_180 0 16 (dk_at dksX5_simulate_1 8 rfl rfl)
theorem dX5_simulate_35 : decode cX5_simulate 35 = .ok (.iconst 0, 1) := dk_3 (dk_at dksX5_simulate_1 11 rfl rfl)
theorem dX5_simulate_36 : decode cX5_simulate 36 = .ok (.invokestatic 226, 3) := dk_184 0 226 (dk_at dksX5_simulate_1 12 rfl rfl)
theorem dX5_simulate_39 : decode cX5_simulate 39 = .ok (.lload_n 1, 1) := dk_31 (dk_at dksX5_simulate_1 15 rfl rfl)
theorem dX5_simulate_40 : decode cX5_simulate 40 = .ok (.lstore 4, 2) := dk_55 4 (dk_at dksX5_simulate_1 16 rfl rfl)
theorem dX5_simulate_42 : decode cX5_simulate 42 = .ok (.iconst 0, 1) := dk_3 (dk_at dksX5_simulate_1 18 rfl rfl)
theorem dX5_simulate_43 : decode cX5_simulate 43 = .ok (.istore 6, 2) := dk_54 6 (dk_at dksX5_simulate_1 19 rfl rfl)
theorem dX5_simulate_45 : decode cX5_simulate 45 = .ok (.iload 6, 2) := dk_21 6 (dk_at dksX5_simulate_1 21 rfl rfl)
theorem dX5_simulate_47 : decode cX5_simulate 47 = .ok (.iload_n 3, 1) := dk_29 (dk_at dksX5_simulate_1 23 rfl rfl)
theorem dX5_simulate_48 : decode cX5_simulate 48 = .ok (.if_icmp .ge 156, 3) := dk_162 0 156 (dk_at dksX5_simulate_2 0 rfl rfl)
theorem dX5_simulate_51 : decode cX5_simulate 51 = .ok (.lload 4, 2) := dk_22 4 (dk_at dksX5_simulate_2 3 rfl rfl)
theorem dX5_simulate_53 : decode cX5_simulate 53 = .ok (.ldc2_w 271, 3) := dk_20 1 15 (dk_at dksX5_simulate_2 5 rfl rfl)
theorem dX5_simulate_56 : decode cX5_simulate 56 = .ok (.lmul, 1) := dk_105 (dk_at dksX5_simulate_2 8 rfl rfl)
theorem dX5_simulate_57 : decode cX5_simulate 57 = .ok (.ldc2_w 273, 3) := dk_20 1 17 (dk_at dksX5_simulate_2 9 rfl rfl)
theorem dX5_simulate_60 : decode cX5_simulate 60 = .ok (.ladd, 1) := dk_97 (dk_at dksX5_simulate_2 12 rfl rfl)
theorem dX5_simulate_61 : decode cX5_simulate 61 = .ok (.lstore 4, 2) := dk_55 4 (dk_at dksX5_simulate_2 13 rfl rfl)
theorem dX5_simulate_63 : decode cX5_simulate 63 = .ok (.lload 4, 2) := dk_22 4 (dk_at dksX5_simulate_2 15 rfl rfl)
theorem dX5_simulate_65 : decode cX5_simulate 65 = .ok (.bipush 33, 2) := dk_16 33 (dk_at dksX5_simulate_2 17 rfl rfl)
theorem dX5_simulate_67 : decode cX5_simulate 67 = .ok (.lushr, 1) := dk_125 (dk_at dksX5_simulate_2 19 rfl rfl)
theorem dX5_simulate_68 : decode cX5_simulate 68 = .ok (.l2i, 1) := dk_136 (dk_at dksX5_simulate_2 20 rfl rfl)
theorem dX5_simulate_69 : decode cX5_simulate 69 = .ok (.istore 7, 2) := dk_54 7 (dk_at dksX5_simulate_2 21 rfl rfl)
theorem dX5_simulate_71 : decode cX5_simulate 71 = .ok (.iload 7, 2) := dk_21 7 (dk_at dksX5_simulate_3 0 rfl rfl)
theorem dX5_simulate_73 : decode cX5_simulate 73 = .ok (.bipush 8, 2) := dk_16 8 (dk_at dksX5_simulate_3 2 rfl rfl)
theorem dX5_simulate_75 : decode cX5_simulate 75 = .ok (.idiv, 1) := dk_108 (dk_at dksX5_simulate_3 4 rfl rfl)
theorem dX5_simulate_76 : decode cX5_simulate 76 = .ok (.bipush 64, 2) := dk_16 64 (dk_at dksX5_simulate_3 5 rfl rfl)
theorem dX5_simulate_78 : decode cX5_simulate 78 = .ok (.irem, 1) := dk_112 (dk_at dksX5_simulate_3 7 rfl rfl)
theorem dX5_simulate_79 : decode cX5_simulate 79 = .ok (.istore 8, 2) := dk_54 8 (dk_at dksX5_simulate_3 8 rfl rfl)
theorem dX5_simulate_81 : decode cX5_simulate 81 = .ok (.iload 7, 2) := dk_21 7 (dk_at dksX5_simulate_3 10 rfl rfl)
theorem dX5_simulate_83 : decode cX5_simulate 83 = .ok (.bipush 8, 2) := dk_16 8 (dk_at dksX5_simulate_3 12 rfl rfl)
theorem dX5_simulate_85 : decode cX5_simulate 85 = .ok (.irem, 1) := dk_112 (dk_at dksX5_simulate_3 14 rfl rfl)
theorem dX5_simulate_86 : decode cX5_simulate 86 = .ok (.tableswitch 104 0 6 #[42, 42, 42, 61, 61, 78, 93], 42) := by decide +kernel
theorem dX5_simulate_128 : decode cX5_simulate 128 = .ok (.aload_n 0, 1) := dk_42 (dk_at dksX5_simulate_5 0 rfl rfl)
theorem dX5_simulate_129 : decode cX5_simulate 129 = .ok (.getfield 16, 3) := dk_180 0 16 (dk_at dksX5_simulate_5 1 rfl rfl)
theorem dX5_simulate_132 : decode cX5_simulate 132 = .ok (.bipush 97, 2) := dk_16 97 (dk_at dksX5_simulate_5 4 rfl rfl)
theorem dX5_simulate_134 : decode cX5_simulate 134 = .ok (.iload 8, 2) := dk_21 8 (dk_at dksX5_simulate_5 6 rfl rfl)
theorem dX5_simulate_136 : decode cX5_simulate 136 = .ok (.bipush 17, 2) := dk_16 17 (dk_at dksX5_simulate_5 8 rfl rfl)
theorem dX5_simulate_138 : decode cX5_simulate 138 = .ok (.irem, 1) := dk_112 (dk_at dksX5_simulate_5 10 rfl rfl)
theorem dX5_simulate_139 : decode cX5_simulate 139 = .ok (.iadd, 1) := dk_96 (dk_at dksX5_simulate_5 11 rfl rfl)
theorem dX5_simulate_140 : decode cX5_simulate 140 = .ok (.invokestatic 233, 3) := dk_184 0 233 (dk_at dksX5_simulate_5 12 rfl rfl)
theorem dX5_simulate_143 : decode cX5_simulate 143 = .ok (.pop, 1) := dk_87 (dk_at dksX5_simulate_5 15 rfl rfl)
theorem dX5_simulate_144 : decode cX5_simulate 144 = .ok (.goto 54, 3) := dk_167 0 54 (dk_at dksX5_simulate_5 16 rfl rfl)
theorem dX5_simulate_147 : decode cX5_simulate 147 = .ok (.aload_n 0, 1) := dk_42 (dk_at dksX5_simulate_5 19 rfl rfl)
theorem dX5_simulate_148 : decode cX5_simulate 148 = .ok (.getfield 16, 3) := dk_180 0 16 (dk_at dksX5_simulate_5 20 rfl rfl)
theorem dX5_simulate_151 : decode cX5_simulate 151 = .ok (.iconst 1, 1) := dk_4 (dk_at dksX5_simulate_5 23 rfl rfl)
theorem dX5_simulate_152 : decode cX5_simulate 152 = .ok (.iload 8, 2) := dk_21 8 (dk_at dksX5_simulate_6 0 rfl rfl)
theorem dX5_simulate_154 : decode cX5_simulate 154 = .ok (.iconst 5, 1) := dk_8 (dk_at dksX5_simulate_6 2 rfl rfl)
theorem dX5_simulate_155 : decode cX5_simulate 155 = .ok (.irem, 1) := dk_112 (dk_at dksX5_simulate_6 3 rfl rfl)
theorem dX5_simulate_156 : decode cX5_simulate 156 = .ok (.iadd, 1) := dk_96 (dk_at dksX5_simulate_6 4 rfl rfl)
theorem dX5_simulate_157 : decode cX5_simulate 157 = .ok (.invokestatic 240, 3) := dk_184 0 240 (dk_at dksX5_simulate_6 5 rfl rfl)
theorem dX5_simulate_160 : decode cX5_simulate 160 = .ok (.pop, 1) := dk_87 (dk_at dksX5_simulate_6 8 rfl rfl)
theorem dX5_simulate_161 : decode cX5_simulate 161 = .ok (.goto 37, 3) := dk_167 0 37 (dk_at dksX5_simulate_6 9 rfl rfl)
theorem dX5_simulate_164 : decode cX5_simulate 164 = .ok (.aload_n 0, 1) := dk_42 (dk_at dksX5_simulate_6 12 rfl rfl)
theorem dX5_simulate_165 : decode cX5_simulate 165 = .ok (.getfield 16, 3) := dk_180 0 16 (dk_at dksX5_simulate_6 13 rfl rfl)
theorem dX5_simulate_168 : decode cX5_simulate 168 = .ok (.iload 8, 2) := dk_21 8 (dk_at dksX5_simulate_6 16 rfl rfl)
theorem dX5_simulate_170 : decode cX5_simulate 170 = .ok (.bipush 32, 2) := dk_16 32 (dk_at dksX5_simulate_6 18 rfl rfl)
theorem dX5_simulate_172 : decode cX5_simulate 172 = .ok (.isub, 1) := dk_100 (dk_at dksX5_simulate_6 20 rfl rfl)
theorem dX5_simulate_173 : decode cX5_simulate 173 = .ok (.invokestatic 214, 3) := dk_184 0 214 (dk_at dksX5_simulate_6 21 rfl rfl)
theorem dX5_simulate_176 : decode cX5_simulate 176 = .ok (.goto 22, 3) := dk_167 0 22 (dk_at dksX5_simulate_7 0 rfl rfl)
theorem dX5_simulate_179 : decode cX5_simulate 179 = .ok (.aload_n 0, 1) := dk_42 (dk_at dksX5_simulate_7 3 rfl rfl)
theorem dX5_simulate_180 : decode cX5_simulate 180 = .ok (.getfield 16, 3) := dk_180 0 16 (dk_at dksX5_simulate_7 4 rfl rfl)
theorem dX5_simulate_183 : decode cX5_simulate 183 = .ok (.invokestatic 243, 3) := dk_184 0 243 (dk_at dksX5_simulate_7 7 rfl rfl)
theorem dX5_simulate_186 : decode cX5_simulate 186 = .ok (.pop, 1) := dk_87 (dk_at dksX5_simulate_7 10 rfl rfl)
theorem dX5_simulate_187 : decode cX5_simulate 187 = .ok (.goto 11, 3) := dk_167 0 11 (dk_at dksX5_simulate_7 11 rfl rfl)
theorem dX5_simulate_190 : decode cX5_simulate 190 = .ok (.aload_n 0, 1) := dk_42 (dk_at dksX5_simulate_7 14 rfl rfl)
theorem dX5_simulate_191 : decode cX5_simulate 191 = .ok (.getfield 16, 3) := dk_180 0 16 (dk_at dksX5_simulate_7 15 rfl rfl)
theorem dX5_simulate_194 : decode cX5_simulate 194 = .ok (.invokestatic 222, 3) := dk_184 0 222 (dk_at dksX5_simulate_7 18 rfl rfl)
theorem dX5_simulate_197 : decode cX5_simulate 197 = .ok (.pop, 1) := dk_87 (dk_at dksX5_simulate_7 21 rfl rfl)
theorem dX5_simulate_198 : decode cX5_simulate 198 = .ok (.iinc 6 1, 3) := dk_132 6 1 (dk_at dksX5_simulate_8 0 rfl rfl)
theorem dX5_simulate_201 : decode cX5_simulate 201 = .ok (.goto (-156), 3) := dk_167 255 100 (dk_at dksX5_simulate_8 3 rfl rfl)
theorem dX5_simulate_204 : decode cX5_simulate 204 = .ok (.aload_n 0, 1) := dk_42 (dk_at dksX5_simulate_8 6 rfl rfl)
theorem dX5_simulate_205 : decode cX5_simulate 205 = .ok (.aload_n 0, 1) := dk_42 (dk_at dksX5_simulate_8 7 rfl rfl)
theorem dX5_simulate_206 : decode cX5_simulate 206 = .ok (.getfield 16, 3) := dk_180 0 16 (dk_at dksX5_simulate_8 8 rfl rfl)
theorem dX5_simulate_209 : decode cX5_simulate 209 = .ok (.invokevirtual 207, 3) := dk_182 0 207 (dk_at dksX5_simulate_8 11 rfl rfl)
theorem dX5_simulate_212 : decode cX5_simulate 212 = .ok (.sipush 1000, 3) := dk_17 3 232 (dk_at dksX5_simulate_8 14 rfl rfl)
theorem dX5_simulate_215 : decode cX5_simulate 215 = .ok (.aload_n 0, 1) := dk_42 (dk_at dksX5_simulate_8 17 rfl rfl)
theorem dX5_simulate_216 : decode cX5_simulate 216 = .ok (.getfield 16, 3) := dk_180 0 16 (dk_at dksX5_simulate_8 18 rfl rfl)
theorem dX5_simulate_219 : decode cX5_simulate 219 = .ok (.iconst 0, 1) := dk_3 (dk_at dksX5_simulate_8 21 rfl rfl)
theorem dX5_simulate_220 : decode cX5_simulate 220 = .ok (.aload_n 0, 1) := dk_42 (dk_at dksX5_simulate_8 22 rfl rfl)
theorem dX5_simulate_221 : decode cX5_simulate 221 = .ok (.getfield 16, 3) := dk_180 0 16 (dk_at dksX5_simulate_9 0 rfl rfl)
theorem dX5_simulate_224 : decode cX5_simulate 224 = .ok (.sipush 180, 3) := dk_17 0 180 (dk_at dksX5_simulate_9 3 rfl rfl)
theorem dX5_simulate_227 : decode cX5_simulate 227 = .ok (.iaload, 1) := dk_46 (dk_at dksX5_simulate_9 6 rfl rfl)
theorem dX5_simulate_228 : decode cX5_simulate 228 = .ok (.invokestatic 114, 3) := dk_184 0 114 (dk_at dksX5_simulate_9 7 rfl rfl)
theorem dX5_simulate_231 : decode cX5_simulate 231 = .ok (.imul, 1) := dk_104 (dk_at dksX5_simulate_9 10 rfl rfl)
theorem dX5_simulate_232 : decode cX5_simulate 232 = .ok (.aload_n 0, 1) := dk_42 (dk_at dksX5_simulate_9 11 rfl rfl)
theorem dX5_simulate_233 : decode cX5_simulate 233 = .ok (.getfield 193, 3) := dk_180 0 193 (dk_at dksX5_simulate_9 12 rfl rfl)
theorem dX5_simulate_236 : decode cX5_simulate 236 = .ok (.iadd, 1) := dk_96 (dk_at dksX5_simulate_9 15 rfl rfl)
theorem dX5_simulate_237 : decode cX5_simulate 237 = .ok (.ireturn, 1) := dk_172 (dk_at dksX5_simulate_9 16 rfl rfl)
abbrev cX5_save : ByteArray := prog_15_method_74_code
def yX5_save : MethodName := ⟨RX5, "save", "(I)I"⟩
def dkwX5_save_2 : List UInt8 := [42, 180, 0, 13, 3, 42, 180, 0, 13, 17, 0, 180, 46, 184, 0, 114, 172]
abbrev dktX5_save_2 : List UInt8 := dkwX5_save_2 ++ []
def dkwX5_save_1 : List UInt8 := [42, 180, 0, 25, 27, 4, 84, 42, 180, 0, 13, 3, 42, 180, 0, 22, 17, 0, 184, 27, 104, 184, 0, 226]
abbrev dktX5_save_1 : List UInt8 := dkwX5_save_1 ++ dktX5_save_2
def dkwX5_save_0 : List UInt8 := [42, 27, 133, 9, 10, 184, 0, 79, 153, 0, 7, 3, 167, 0, 4, 4, 182, 0, 150, 153, 0, 5, 3, 172]
abbrev dktX5_save_0 : List UInt8 := dkwX5_save_0 ++ dktX5_save_1
theorem dksX5_save_0 : cX5_save.data.toList.drop 0 = dktX5_save_0 := by decide +kernel
theorem dksX5_save_1 : cX5_save.data.toList.drop 24 = dktX5_save_1 := dk_seg dksX5_save_0 24 rfl rfl
theorem dksX5_save_2 : cX5_save.data.toList.drop 48 = dktX5_save_2 := dk_seg dksX5_save_1 24 rfl rfl
theorem dX5_save_0 : decode cX5_save 0 = .ok (.aload_n 0, 1) := dk_42 (dk_at dksX5_save_0 0 rfl rfl)
theorem dX5_save_1 : decode cX5_save 1 = .ok (.iload_n 1, 1) := dk_27 (dk_at dksX5_save_0 1 rfl rfl)
theorem dX5_save_2 : decode cX5_save 2 = .ok (.i2l, 1) := dk_133 (dk_at dksX5_save_0 2 rfl rfl)
theorem dX5_save_3 : decode cX5_save 3 = .ok (.lconst 0, 1) := dk_9 (dk_at dksX5_save_0 3 rfl rfl)
theorem dX5_save_4 : decode cX5_save 4 = .ok (.lconst 1, 1) := dk_10 (dk_at dksX5_save_0 4 rfl rfl)
theorem dX5_save_5 : decode cX5_save 5 = .ok (.invokestatic 79, 3) := dk_184 0 79 (dk_at dksX5_save_0 5 rfl rfl)
theorem dX5_save_8 : decode cX5_save 8 = .ok (.ifCond .eq 7, 3) := dk_153 0 7 (dk_at dksX5_save_0 8 rfl rfl)
theorem dX5_save_11 : decode cX5_save 11 = .ok (.iconst 0, 1) := dk_3 (dk_at dksX5_save_0 11 rfl rfl)
theorem dX5_save_12 : decode cX5_save 12 = .ok (.goto 4, 3) := dk_167 0 4 (dk_at dksX5_save_0 12 rfl rfl)
theorem dX5_save_15 : decode cX5_save 15 = .ok (.iconst 1, 1) := dk_4 (dk_at dksX5_save_0 15 rfl rfl)
theorem dX5_save_16 : decode cX5_save 16 = .ok (.invokevirtual 150, 3) := dk_182 0 150 (dk_at dksX5_save_0 16 rfl rfl)
theorem dX5_save_19 : decode cX5_save 19 = .ok (.ifCond .eq 5, 3) := dk_153 0 5 (dk_at dksX5_save_0 19 rfl rfl)
theorem dX5_save_22 : decode cX5_save 22 = .ok (.iconst 0, 1) := dk_3 (dk_at dksX5_save_0 22 rfl rfl)
theorem dX5_save_23 : decode cX5_save 23 = .ok (.ireturn, 1) := dk_172 (dk_at dksX5_save_0 23 rfl rfl)
theorem dX5_save_24 : decode cX5_save 24 = .ok (.aload_n 0, 1) := dk_42 (dk_at dksX5_save_1 0 rfl rfl)
theorem dX5_save_25 : decode cX5_save 25 = .ok (.getfield 25, 3) := dk_180 0 25 (dk_at dksX5_save_1 1 rfl rfl)
theorem dX5_save_28 : decode cX5_save 28 = .ok (.iload_n 1, 1) := dk_27 (dk_at dksX5_save_1 4 rfl rfl)
theorem dX5_save_29 : decode cX5_save 29 = .ok (.iconst 1, 1) := dk_4 (dk_at dksX5_save_1 5 rfl rfl)
theorem dX5_save_30 : decode cX5_save 30 = .ok (.bastore, 1) := dk_84 (dk_at dksX5_save_1 6 rfl rfl)
theorem dX5_save_31 : decode cX5_save 31 = .ok (.aload_n 0, 1) := dk_42 (dk_at dksX5_save_1 7 rfl rfl)
theorem dX5_save_32 : decode cX5_save 32 = .ok (.getfield 13, 3) := dk_180 0 13 (dk_at dksX5_save_1 8 rfl rfl)
theorem dX5_save_35 : decode cX5_save 35 = .ok (.iconst 0, 1) := dk_3 (dk_at dksX5_save_1 11 rfl rfl)
theorem dX5_save_36 : decode cX5_save 36 = .ok (.aload_n 0, 1) := dk_42 (dk_at dksX5_save_1 12 rfl rfl)
theorem dX5_save_37 : decode cX5_save 37 = .ok (.getfield 22, 3) := dk_180 0 22 (dk_at dksX5_save_1 13 rfl rfl)
theorem dX5_save_40 : decode cX5_save 40 = .ok (.sipush 184, 3) := dk_17 0 184 (dk_at dksX5_save_1 16 rfl rfl)
theorem dX5_save_43 : decode cX5_save 43 = .ok (.iload_n 1, 1) := dk_27 (dk_at dksX5_save_1 19 rfl rfl)
theorem dX5_save_44 : decode cX5_save 44 = .ok (.imul, 1) := dk_104 (dk_at dksX5_save_1 20 rfl rfl)
theorem dX5_save_45 : decode cX5_save 45 = .ok (.invokestatic 226, 3) := dk_184 0 226 (dk_at dksX5_save_1 21 rfl rfl)
theorem dX5_save_48 : decode cX5_save 48 = .ok (.aload_n 0, 1) := dk_42 (dk_at dksX5_save_2 0 rfl rfl)
theorem dX5_save_49 : decode cX5_save 49 = .ok (.getfield 13, 3) := dk_180 0 13 (dk_at dksX5_save_2 1 rfl rfl)
theorem dX5_save_52 : decode cX5_save 52 = .ok (.iconst 0, 1) := dk_3 (dk_at dksX5_save_2 4 rfl rfl)
theorem dX5_save_53 : decode cX5_save 53 = .ok (.aload_n 0, 1) := dk_42 (dk_at dksX5_save_2 5 rfl rfl)
theorem dX5_save_54 : decode cX5_save 54 = .ok (.getfield 13, 3) := dk_180 0 13 (dk_at dksX5_save_2 6 rfl rfl)
theorem dX5_save_57 : decode cX5_save 57 = .ok (.sipush 180, 3) := dk_17 0 180 (dk_at dksX5_save_2 9 rfl rfl)
theorem dX5_save_60 : decode cX5_save 60 = .ok (.iaload, 1) := dk_46 (dk_at dksX5_save_2 12 rfl rfl)
theorem dX5_save_61 : decode cX5_save 61 = .ok (.invokestatic 114, 3) := dk_184 0 114 (dk_at dksX5_save_2 13 rfl rfl)
theorem dX5_save_64 : decode cX5_save 64 = .ok (.ireturn, 1) := dk_172 (dk_at dksX5_save_2 16 rfl rfl)
abbrev cX5_restore : ByteArray := prog_15_method_75_code
def yX5_restore : MethodName := ⟨RX5, "restore", "(I)I"⟩
def dkwX5_restore_3 : List UInt8 := [46, 184, 0, 114, 172]
abbrev dktX5_restore_3 : List UInt8 := dkwX5_restore_3 ++ []
def dkwX5_restore_2 : List UInt8 := [180, 0, 13, 3, 184, 0, 226, 42, 3, 181, 0, 182, 42, 180, 0, 13, 3, 42, 180, 0, 13, 17, 0, 180]
abbrev dktX5_restore_2 : List UInt8 := dkwX5_restore_2 ++ dktX5_restore_3
def dkwX5_restore_1 : List UInt8 := [5, 167, 0, 4, 3, 182, 0, 150, 153, 0, 5, 3, 172, 42, 180, 0, 22, 17, 0, 184, 27, 104, 42]
abbrev dktX5_restore_1 : List UInt8 := dkwX5_restore_1 ++ dktX5_restore_2
def dkwX5_restore_0 : List UInt8 := [42, 27, 133, 9, 10, 184, 0, 79, 154, 0, 7, 4, 167, 0, 17, 42, 180, 0, 25, 27, 51, 154, 0, 7]
abbrev dktX5_restore_0 : List UInt8 := dkwX5_restore_0 ++ dktX5_restore_1
theorem dksX5_restore_0 : cX5_restore.data.toList.drop 0 = dktX5_restore_0 := by decide +kernel
theorem dksX5_restore_1 : cX5_restore.data.toList.drop 24 = dktX5_restore_1 := dk_seg dksX5_restore_0 24 rfl rfl
theorem dksX5_restore_2 : cX5_restore.data.toList.drop 47 = dktX5_restore_2 := dk_seg dksX5_restore_1 23 rfl rfl
theorem dksX5_restore_3 : cX5_restore.data.toList.drop 71 = dktX5_restore_3 := dk_seg dksX5_restore_2 24 rfl rfl
theorem dX5_restore_0 : decode cX5_restore 0 = .ok (.aload_n 0, 1) := dk_42 (dk_at dksX5_restore_0 0 rfl rfl)
theorem dX5_restore_1 : decode cX5_restore 1 = .ok (.iload_n 1, 1) := dk_27 (dk_at dksX5_restore_0 1 rfl rfl)
theorem dX5_restore_2 : decode cX5_restore 2 = .ok (.i2l, 1) := dk_133 (dk_at dksX5_restore_0 2 rfl rfl)
theorem dX5_restore_3 : decode cX5_restore 3 = .ok (.lconst 0, 1) := dk_9 (dk_at dksX5_restore_0 3 rfl rfl)
theorem dX5_restore_4 : decode cX5_restore 4 = .ok (.lconst 1, 1) := dk_10 (dk_at dksX5_restore_0 4 rfl rfl)
theorem dX5_restore_5 : decode cX5_restore 5 = .ok (.invokestatic 79, 3) := dk_184 0 79 (dk_at dksX5_restore_0 5 rfl rfl)
theorem dX5_restore_8 : decode cX5_restore 8 = .ok (.ifCond .ne 7, 3) := dk_154 0 7 (dk_at dksX5_restore_0 8 rfl rfl)
theorem dX5_restore_11 : decode cX5_restore 11 = .ok (.iconst 1, 1) := dk_4 (dk_at dksX5_restore_0 11 rfl rfl)
theorem dX5_restore_12 : decode cX5_restore 12 = .ok (.goto 17, 3) := dk_167 0 17 (dk_at dksX5_restore_0 12 rfl rfl)
theorem dX5_restore_15 : decode cX5_restore 15 = .ok (.aload_n 0, 1) := dk_42 (dk_at dksX5_restore_0 15 rfl rfl)
theorem dX5_restore_16 : decode cX5_restore 16 = .ok (.getfield 25, 3) := dk_180 0 25 (dk_at dksX5_restore_0 16 rfl rfl)
theorem dX5_restore_19 : decode cX5_restore 19 = .ok (.iload_n 1, 1) := dk_27 (dk_at dksX5_restore_0 19 rfl rfl)
theorem dX5_restore_20 : decode cX5_restore 20 = .ok (.baload, 1) := dk_51 (dk_at dksX5_restore_0 20 rfl rfl)
theorem dX5_restore_21 : decode cX5_restore 21 = .ok (.ifCond .ne 7, 3) := dk_154 0 7 (dk_at dksX5_restore_0 21 rfl rfl)
theorem dX5_restore_24 : decode cX5_restore 24 = .ok (.iconst 2, 1) := dk_5 (dk_at dksX5_restore_1 0 rfl rfl)
theorem dX5_restore_25 : decode cX5_restore 25 = .ok (.goto 4, 3) := dk_167 0 4 (dk_at dksX5_restore_1 1 rfl rfl)
theorem dX5_restore_28 : decode cX5_restore 28 = .ok (.iconst 0, 1) := dk_3 (dk_at dksX5_restore_1 4 rfl rfl)
theorem dX5_restore_29 : decode cX5_restore 29 = .ok (.invokevirtual 150, 3) := dk_182 0 150 (dk_at dksX5_restore_1 5 rfl rfl)
theorem dX5_restore_32 : decode cX5_restore 32 = .ok (.ifCond .eq 5, 3) := dk_153 0 5 (dk_at dksX5_restore_1 8 rfl rfl)
theorem dX5_restore_35 : decode cX5_restore 35 = .ok (.iconst 0, 1) := dk_3 (dk_at dksX5_restore_1 11 rfl rfl)
theorem dX5_restore_36 : decode cX5_restore 36 = .ok (.ireturn, 1) := dk_172 (dk_at dksX5_restore_1 12 rfl rfl)
theorem dX5_restore_37 : decode cX5_restore 37 = .ok (.aload_n 0, 1) := dk_42 (dk_at dksX5_restore_1 13 rfl rfl)
theorem dX5_restore_38 : decode cX5_restore 38 = .ok (.getfield 22, 3) := dk_180 0 22 (dk_at dksX5_restore_1 14 rfl rfl)
theorem dX5_restore_41 : decode cX5_restore 41 = .ok (.sipush 184, 3) := dk_17 0 184 (dk_at dksX5_restore_1 17 rfl rfl)
theorem dX5_restore_44 : decode cX5_restore 44 = .ok (.iload_n 1, 1) := dk_27 (dk_at dksX5_restore_1 20 rfl rfl)
theorem dX5_restore_45 : decode cX5_restore 45 = .ok (.imul, 1) := dk_104 (dk_at dksX5_restore_1 21 rfl rfl)
theorem dX5_restore_46 : decode cX5_restore 46 = .ok (.aload_n 0, 1) := dk_42 (dk_at dksX5_restore_1 22 rfl rfl)
theorem dX5_restore_47 : decode cX5_restore 47 = .ok (.getfield 13, 3) := dk_180 0 13 (dk_at dksX5_restore_2 0 rfl rfl)
theorem dX5_restore_50 : decode cX5_restore 50 = .ok (.iconst 0, 1) := dk_3 (dk_at dksX5_restore_2 3 rfl rfl)
theorem dX5_restore_51 : decode cX5_restore 51 = .ok (.invokestatic 226, 3) := dk_184 0 226 (dk_at dksX5_restore_2 4 rfl rfl)
theorem dX5_restore_54 : decode cX5_restore 54 = .ok (.aload_n 0, 1) := dk_42 (dk_at dksX5_restore_2 7 rfl rfl)
theorem dX5_restore_55 : decode cX5_restore 55 = .ok (.iconst 0, 1) := dk_3 (dk_at dksX5_restore_2 8 rfl rfl)
theorem dX5_restore_56 : decode cX5_restore 56 = .ok (.putfield 182, 3) := dk_181 0 182 (dk_at dksX5_restore_2 9 rfl rfl)
theorem dX5_restore_59 : decode cX5_restore 59 = .ok (.aload_n 0, 1) := dk_42 (dk_at dksX5_restore_2 12 rfl rfl)
theorem dX5_restore_60 : decode cX5_restore 60 = .ok (.getfield 13, 3) := dk_180 0 13 (dk_at dksX5_restore_2 13 rfl rfl)
theorem dX5_restore_63 : decode cX5_restore 63 = .ok (.iconst 0, 1) := dk_3 (dk_at dksX5_restore_2 16 rfl rfl)
theorem dX5_restore_64 : decode cX5_restore 64 = .ok (.aload_n 0, 1) := dk_42 (dk_at dksX5_restore_2 17 rfl rfl)
theorem dX5_restore_65 : decode cX5_restore 65 = .ok (.getfield 13, 3) := dk_180 0 13 (dk_at dksX5_restore_2 18 rfl rfl)
theorem dX5_restore_68 : decode cX5_restore 68 = .ok (.sipush 180, 3) := dk_17 0 180 (dk_at dksX5_restore_2 21 rfl rfl)
theorem dX5_restore_71 : decode cX5_restore 71 = .ok (.iaload, 1) := dk_46 (dk_at dksX5_restore_3 0 rfl rfl)
theorem dX5_restore_72 : decode cX5_restore 72 = .ok (.invokestatic 114, 3) := dk_184 0 114 (dk_at dksX5_restore_3 1 rfl rfl)
theorem dX5_restore_75 : decode cX5_restore 75 = .ok (.ireturn, 1) := dk_172 (dk_at dksX5_restore_3 4 rfl rfl)
theorem q94 : (Jvm.Cond.initialized "FormulaEditorModel") ∈ lw_all := lw_g (lw_at lw_m1 37 rfl) rfl
theorem q205 : (Jvm.Cond.selects "FormulaEditorModel" ({ cls := "java/lang/Object", name := "hashCode", desc := "()I" } : Jvm.MethodName) ({ cls := "java/lang/Object", name := "hashCode", desc := "()I" } : Jvm.MethodName)) ∈ lw_all := lw_g (lw_at lw_m1 148 rfl) rfl
theorem q670 : (Jvm.Cond.selects "FormulaEditorModel" ({ cls := "java/lang/Object", name := "getClass", desc := "()Ljava/lang/Class;" } : Jvm.MethodName) ({ cls := "java/lang/Object", name := "getClass", desc := "()Ljava/lang/Class;" } : Jvm.MethodName)) ∈ lw_all := lw_g (lw_at lw_m3 133 rfl) rfl
theorem q931 : (Jvm.Cond.selects "FormulaEditorModel" ({ cls := "java/lang/Object", name := "equals", desc := "(Ljava/lang/Object;)Z" } : Jvm.MethodName) ({ cls := "java/lang/Object", name := "equals", desc := "(Ljava/lang/Object;)Z" } : Jvm.MethodName)) ∈ lw_all := lw_g (lw_at lw_m4 154 rfl) rfl
theorem q2353 : (Jvm.Cond.instantiable "FormulaEditorModel" (26 : Nat)) ∈ lw_all := lw_g (lw_at lw_m10 136 rfl) rfl
theorem q2355 : (Jvm.Cond.instanceMethod ({ cls := "FormulaEditorModel", name := "<init>", desc := "()V" } : Jvm.MethodName)) ∈ lw_all := lw_g (lw_at lw_m10 138 rfl) rfl
theorem q2356 : (Jvm.Cond.code ({ cls := "FormulaEditorModel", name := "<init>", desc := "()V" } : Jvm.MethodName) prog_15_method_1_code (1 : Nat) (Option.none : Option Jvm.ClassFile.FieldType)) ∈ lw_all := lw_g (lw_at lw_m10 139 rfl) rfl
theorem q2357 : (Jvm.Cond.methodLink "FormulaEditorModel" (1 : Nat) ({ cls := "java/lang/Object", name := "<init>", desc := "()V" } : Jvm.MethodName)) ∈ lw_all := lw_g (lw_at lw_m10 140 rfl) rfl
theorem q2358 : (Jvm.Cond.fieldLink "FormulaEditorModel" (71 : Nat) "FormulaEditorModel" "refusal" "I") ∈ lw_all := lw_g (lw_at lw_m10 141 rfl) rfl
theorem q2359 : (Jvm.Cond.fieldLink "FormulaEditorModel" (7 : Nat) "FormulaEditorModel" "text" "[I") ∈ lw_all := lw_g (lw_at lw_m10 142 rfl) rfl
theorem q2360 : (Jvm.Cond.fieldLink "FormulaEditorModel" (147 : Nat) "FormulaEditorModel" "textSize" "I") ∈ lw_all := lw_g (lw_at lw_m10 143 rfl) rfl
theorem q2361 : (Jvm.Cond.fieldLink "FormulaEditorModel" (13 : Nat) "FormulaEditorModel" "now" "[I") ∈ lw_all := lw_g (lw_at lw_m10 144 rfl) rfl
theorem q2362 : (Jvm.Cond.fieldLink "FormulaEditorModel" (16 : Nat) "FormulaEditorModel" "trial" "[I") ∈ lw_all := lw_g (lw_at lw_m10 145 rfl) rfl
theorem q2363 : (Jvm.Cond.fieldLink "FormulaEditorModel" (19 : Nat) "FormulaEditorModel" "diary" "[I") ∈ lw_all := lw_g (lw_at lw_m10 146 rfl) rfl
theorem q2364 : (Jvm.Cond.fieldLink "FormulaEditorModel" (182 : Nat) "FormulaEditorModel" "acts" "I") ∈ lw_all := lw_g (lw_at lw_m10 147 rfl) rfl
theorem q2365 : (Jvm.Cond.fieldLink "FormulaEditorModel" (22 : Nat) "FormulaEditorModel" "kept" "[I") ∈ lw_all := lw_g (lw_at lw_m10 148 rfl) rfl
theorem q2366 : (Jvm.Cond.fieldLink "FormulaEditorModel" (25 : Nat) "FormulaEditorModel" "isKept" "[Z") ∈ lw_all := lw_g (lw_at lw_m10 149 rfl) rfl
theorem q2367 : (Jvm.Cond.fieldLink "FormulaEditorModel" (29 : Nat) "FormulaEditorModel" "clip" "[I") ∈ lw_all := lw_g (lw_at lw_m10 150 rfl) rfl
theorem q2368 : (Jvm.Cond.fieldLink "FormulaEditorModel" (32 : Nat) "FormulaEditorModel" "line" "[I") ∈ lw_all := lw_g (lw_at lw_m10 151 rfl) rfl
theorem q2369 : (Jvm.Cond.fieldLink "FormulaEditorModel" (193 : Nat) "FormulaEditorModel" "lineSize" "I") ∈ lw_all := lw_g (lw_at lw_m10 152 rfl) rfl
theorem q2370 : (Jvm.Cond.fieldLink "FormulaEditorModel" (35 : Nat) "FormulaEditorModel" "read" "[I") ∈ lw_all := lw_g (lw_at lw_m10 153 rfl) rfl
theorem q2371 : (Jvm.Cond.fieldLink "FormulaEditorModel" (153 : Nat) "FormulaEditorModel" "readSize" "I") ∈ lw_all := lw_g (lw_at lw_m10 154 rfl) rfl
theorem q2372 : (Jvm.Cond.fieldLink "FormulaEditorModel" (38 : Nat) "FormulaEditorModel" "opens" "[I") ∈ lw_all := lw_g (lw_at lw_m10 155 rfl) rfl
theorem q2373 : (Jvm.Cond.fieldLink "FormulaEditorModel" (41 : Nat) "FormulaEditorModel" "chains" "[I") ∈ lw_all := lw_g (lw_at lw_m10 156 rfl) rfl
theorem q2374 : (Jvm.Cond.fieldLink "FormulaEditorModel" (44 : Nat) "FormulaEditorModel" "factors" "[I") ∈ lw_all := lw_g (lw_at lw_m10 157 rfl) rfl
theorem q2375 : (Jvm.Cond.fieldLink "FormulaEditorModel" (47 : Nat) "FormulaEditorModel" "plains" "[Z") ∈ lw_all := lw_g (lw_at lw_m10 158 rfl) rfl
theorem q2376 : (Jvm.Cond.fieldLink "FormulaEditorModel" (50 : Nat) "FormulaEditorModel" "belows" "[Z") ∈ lw_all := lw_g (lw_at lw_m10 159 rfl) rfl
theorem q2377 : (Jvm.Cond.fieldLink "FormulaEditorModel" (53 : Nat) "FormulaEditorModel" "owned" "[Z") ∈ lw_all := lw_g (lw_at lw_m10 160 rfl) rfl
theorem q2378 : (Jvm.Cond.fieldLink "FormulaEditorModel" (156 : Nat) "FormulaEditorModel" "deep" "I") ∈ lw_all := lw_g (lw_at lw_m10 161 rfl) rfl
theorem q2379 : (Jvm.Cond.fieldLink "FormulaEditorModel" (56 : Nat) "FormulaEditorModel" "wides" "[I") ∈ lw_all := lw_g (lw_at lw_m10 162 rfl) rfl
theorem q2380 : (Jvm.Cond.fieldLink "FormulaEditorModel" (59 : Nat) "FormulaEditorModel" "highs" "[I") ∈ lw_all := lw_g (lw_at lw_m10 163 rfl) rfl
theorem q2381 : (Jvm.Cond.fieldLink "FormulaEditorModel" (62 : Nat) "FormulaEditorModel" "lows" "[I") ∈ lw_all := lw_g (lw_at lw_m10 164 rfl) rfl
theorem q2382 : (Jvm.Cond.fieldLink "FormulaEditorModel" (65 : Nat) "FormulaEditorModel" "itemWides" "[I") ∈ lw_all := lw_g (lw_at lw_m10 165 rfl) rfl
theorem q2383 : (Jvm.Cond.fieldLink "FormulaEditorModel" (68 : Nat) "FormulaEditorModel" "pile" "[I") ∈ lw_all := lw_g (lw_at lw_m10 166 rfl) rfl
theorem q2384 : (Jvm.Cond.lays "FormulaEditorModel" "FormulaEditorModel" "refusal" "I") ∈ lw_all := lw_g (lw_at lw_m10 167 rfl) rfl
theorem q2385 : (Jvm.Cond.soleField "FormulaEditorModel" "refusal") ∈ lw_all := lw_g (lw_at lw_m10 168 rfl) rfl
theorem q2386 : (Jvm.Cond.laysFinal "FormulaEditorModel" "FormulaEditorModel" "text" "[I") ∈ lw_all := lw_g (lw_at lw_m10 169 rfl) rfl
theorem q2387 : (Jvm.Cond.soleField "FormulaEditorModel" "text") ∈ lw_all := lw_g (lw_at lw_m10 170 rfl) rfl
theorem q2388 : (Jvm.Cond.lays "FormulaEditorModel" "FormulaEditorModel" "textSize" "I") ∈ lw_all := lw_g (lw_at lw_m10 171 rfl) rfl
theorem q2389 : (Jvm.Cond.soleField "FormulaEditorModel" "textSize") ∈ lw_all := lw_g (lw_at lw_m10 172 rfl) rfl
theorem q2390 : (Jvm.Cond.laysFinal "FormulaEditorModel" "FormulaEditorModel" "now" "[I") ∈ lw_all := lw_g (lw_at lw_m10 173 rfl) rfl
theorem q2391 : (Jvm.Cond.soleField "FormulaEditorModel" "now") ∈ lw_all := lw_g (lw_at lw_m10 174 rfl) rfl
theorem q2392 : (Jvm.Cond.laysFinal "FormulaEditorModel" "FormulaEditorModel" "trial" "[I") ∈ lw_all := lw_g (lw_at lw_m10 175 rfl) rfl
theorem q2393 : (Jvm.Cond.soleField "FormulaEditorModel" "trial") ∈ lw_all := lw_g (lw_at lw_m10 176 rfl) rfl
theorem q2394 : (Jvm.Cond.laysFinal "FormulaEditorModel" "FormulaEditorModel" "diary" "[I") ∈ lw_all := lw_g (lw_at lw_m10 177 rfl) rfl
theorem q2395 : (Jvm.Cond.soleField "FormulaEditorModel" "diary") ∈ lw_all := lw_g (lw_at lw_m10 178 rfl) rfl
theorem q2396 : (Jvm.Cond.lays "FormulaEditorModel" "FormulaEditorModel" "acts" "I") ∈ lw_all := lw_g (lw_at lw_m10 179 rfl) rfl
theorem q2397 : (Jvm.Cond.soleField "FormulaEditorModel" "acts") ∈ lw_all := lw_g (lw_at lw_m10 180 rfl) rfl
theorem q2398 : (Jvm.Cond.laysFinal "FormulaEditorModel" "FormulaEditorModel" "kept" "[I") ∈ lw_all := lw_g (lw_at lw_m10 181 rfl) rfl
theorem q2399 : (Jvm.Cond.soleField "FormulaEditorModel" "kept") ∈ lw_all := lw_g (lw_at lw_m10 182 rfl) rfl
theorem q2400 : (Jvm.Cond.laysFinal "FormulaEditorModel" "FormulaEditorModel" "isKept" "[Z") ∈ lw_all := lw_g (lw_at lw_m10 183 rfl) rfl
theorem q2401 : (Jvm.Cond.soleField "FormulaEditorModel" "isKept") ∈ lw_all := lw_g (lw_at lw_m10 184 rfl) rfl
theorem q2402 : (Jvm.Cond.laysFinal "FormulaEditorModel" "FormulaEditorModel" "clip" "[I") ∈ lw_all := lw_g (lw_at lw_m10 185 rfl) rfl
theorem q2403 : (Jvm.Cond.soleField "FormulaEditorModel" "clip") ∈ lw_all := lw_g (lw_at lw_m10 186 rfl) rfl
theorem q2404 : (Jvm.Cond.laysFinal "FormulaEditorModel" "FormulaEditorModel" "line" "[I") ∈ lw_all := lw_g (lw_at lw_m10 187 rfl) rfl
theorem q2405 : (Jvm.Cond.soleField "FormulaEditorModel" "line") ∈ lw_all := lw_g (lw_at lw_m10 188 rfl) rfl
theorem q2406 : (Jvm.Cond.lays "FormulaEditorModel" "FormulaEditorModel" "lineSize" "I") ∈ lw_all := lw_g (lw_at lw_m10 189 rfl) rfl
theorem q2407 : (Jvm.Cond.soleField "FormulaEditorModel" "lineSize") ∈ lw_all := lw_g (lw_at lw_m10 190 rfl) rfl
theorem q2408 : (Jvm.Cond.laysFinal "FormulaEditorModel" "FormulaEditorModel" "read" "[I") ∈ lw_all := lw_g (lw_at lw_m10 191 rfl) rfl
theorem q2409 : (Jvm.Cond.soleField "FormulaEditorModel" "read") ∈ lw_all := lw_g (lw_at lw_m10 192 rfl) rfl
theorem q2410 : (Jvm.Cond.lays "FormulaEditorModel" "FormulaEditorModel" "readSize" "I") ∈ lw_all := lw_g (lw_at lw_m10 193 rfl) rfl
theorem q2411 : (Jvm.Cond.soleField "FormulaEditorModel" "readSize") ∈ lw_all := lw_g (lw_at lw_m10 194 rfl) rfl
theorem q2412 : (Jvm.Cond.laysFinal "FormulaEditorModel" "FormulaEditorModel" "opens" "[I") ∈ lw_all := lw_g (lw_at lw_m10 195 rfl) rfl
theorem q2413 : (Jvm.Cond.soleField "FormulaEditorModel" "opens") ∈ lw_all := lw_g (lw_at lw_m10 196 rfl) rfl
theorem q2414 : (Jvm.Cond.laysFinal "FormulaEditorModel" "FormulaEditorModel" "chains" "[I") ∈ lw_all := lw_g (lw_at lw_m10 197 rfl) rfl
theorem q2415 : (Jvm.Cond.soleField "FormulaEditorModel" "chains") ∈ lw_all := lw_g (lw_at lw_m10 198 rfl) rfl
theorem q2416 : (Jvm.Cond.laysFinal "FormulaEditorModel" "FormulaEditorModel" "factors" "[I") ∈ lw_all := lw_g (lw_at lw_m10 199 rfl) rfl
theorem q2417 : (Jvm.Cond.soleField "FormulaEditorModel" "factors") ∈ lw_all := lw_g (lw_at lw_m10 200 rfl) rfl
theorem q2418 : (Jvm.Cond.laysFinal "FormulaEditorModel" "FormulaEditorModel" "plains" "[Z") ∈ lw_all := lw_g (lw_at lw_m10 201 rfl) rfl
theorem q2419 : (Jvm.Cond.soleField "FormulaEditorModel" "plains") ∈ lw_all := lw_g (lw_at lw_m10 202 rfl) rfl
theorem q2420 : (Jvm.Cond.laysFinal "FormulaEditorModel" "FormulaEditorModel" "belows" "[Z") ∈ lw_all := lw_g (lw_at lw_m10 203 rfl) rfl
theorem q2421 : (Jvm.Cond.soleField "FormulaEditorModel" "belows") ∈ lw_all := lw_g (lw_at lw_m10 204 rfl) rfl
theorem q2422 : (Jvm.Cond.laysFinal "FormulaEditorModel" "FormulaEditorModel" "owned" "[Z") ∈ lw_all := lw_g (lw_at lw_m10 205 rfl) rfl
theorem q2423 : (Jvm.Cond.soleField "FormulaEditorModel" "owned") ∈ lw_all := lw_g (lw_at lw_m10 206 rfl) rfl
theorem q2424 : (Jvm.Cond.lays "FormulaEditorModel" "FormulaEditorModel" "deep" "I") ∈ lw_all := lw_g (lw_at lw_m10 207 rfl) rfl
theorem q2425 : (Jvm.Cond.soleField "FormulaEditorModel" "deep") ∈ lw_all := lw_g (lw_at lw_m10 208 rfl) rfl
theorem q2426 : (Jvm.Cond.laysFinal "FormulaEditorModel" "FormulaEditorModel" "wides" "[I") ∈ lw_all := lw_g (lw_at lw_m10 209 rfl) rfl
theorem q2427 : (Jvm.Cond.soleField "FormulaEditorModel" "wides") ∈ lw_all := lw_g (lw_at lw_m10 210 rfl) rfl
theorem q2428 : (Jvm.Cond.laysFinal "FormulaEditorModel" "FormulaEditorModel" "highs" "[I") ∈ lw_all := lw_g (lw_at lw_m10 211 rfl) rfl
theorem q2429 : (Jvm.Cond.soleField "FormulaEditorModel" "highs") ∈ lw_all := lw_g (lw_at lw_m10 212 rfl) rfl
theorem q2430 : (Jvm.Cond.laysFinal "FormulaEditorModel" "FormulaEditorModel" "lows" "[I") ∈ lw_all := lw_g (lw_at lw_m10 213 rfl) rfl
theorem q2431 : (Jvm.Cond.soleField "FormulaEditorModel" "lows") ∈ lw_all := lw_g (lw_at lw_m10 214 rfl) rfl
theorem q2432 : (Jvm.Cond.laysFinal "FormulaEditorModel" "FormulaEditorModel" "itemWides" "[I") ∈ lw_all := lw_g (lw_at lw_m10 215 rfl) rfl
theorem q2433 : (Jvm.Cond.soleField "FormulaEditorModel" "itemWides") ∈ lw_all := lw_g (lw_at lw_m10 216 rfl) rfl
theorem q2434 : (Jvm.Cond.laysFinal "FormulaEditorModel" "FormulaEditorModel" "pile" "[I") ∈ lw_all := lw_g (lw_at lw_m10 217 rfl) rfl
theorem q2435 : (Jvm.Cond.soleField "FormulaEditorModel" "pile") ∈ lw_all := lw_g (lw_at lw_m10 218 rfl) rfl
theorem q2436 : (Jvm.Cond.superclass "FormulaEditorModel" "java/lang/Object") ∈ lw_all := lw_g (lw_at lw_m10 219 rfl) rfl
theorem q2440 : (Jvm.Cond.instanceMethod ({ cls := "FormulaEditorModel", name := "thrown", desc := "()I" } : Jvm.MethodName)) ∈ lw_all := lw_g (lw_at lw_m10 223 rfl) rfl
theorem q2441 : (Jvm.Cond.selects "FormulaEditorModel" ({ cls := "FormulaEditorModel", name := "thrown", desc := "()I" } : Jvm.MethodName) ({ cls := "FormulaEditorModel", name := "thrown", desc := "()I" } : Jvm.MethodName)) ∈ lw_all := lw_g (lw_at lw_m10 224 rfl) rfl
theorem q2442 : (Jvm.Cond.code ({ cls := "FormulaEditorModel", name := "thrown", desc := "()I" } : Jvm.MethodName) prog_15_method_2_code (1 : Nat) (Option.some Jvm.ClassFile.FieldType.int)) ∈ lw_all := lw_g (lw_at lw_m10 225 rfl) rfl
theorem q2444 : (Jvm.Cond.instanceMethod ({ cls := "FormulaEditorModel", name := "append", desc := "(I)I" } : Jvm.MethodName)) ∈ lw_all := lw_g (lw_at lw_m10 227 rfl) rfl
theorem q2445 : (Jvm.Cond.selects "FormulaEditorModel" ({ cls := "FormulaEditorModel", name := "append", desc := "(I)I" } : Jvm.MethodName) ({ cls := "FormulaEditorModel", name := "append", desc := "(I)I" } : Jvm.MethodName)) ∈ lw_all := lw_g (lw_at lw_m10 228 rfl) rfl
theorem q2446 : (Jvm.Cond.code ({ cls := "FormulaEditorModel", name := "append", desc := "(I)I" } : Jvm.MethodName) prog_15_method_29_code (2 : Nat) (Option.some Jvm.ClassFile.FieldType.int)) ∈ lw_all := lw_g (lw_at lw_m10 229 rfl) rfl
theorem q2447 : (Jvm.Cond.constantLong "FormulaEditorModel" (145 : Nat) (255 : Int64)) ∈ lw_all := lw_g (lw_at lw_m10 230 rfl) rfl
theorem q2448 : (Jvm.Cond.methodLink "FormulaEditorModel" (79 : Nat) ({ cls := "FormulaEditorModel", name := "in", desc := "(JJJ)Z" } : Jvm.MethodName)) ∈ lw_all := lw_g (lw_at lw_m10 231 rfl) rfl
theorem q2449 : (Jvm.Cond.static ({ cls := "FormulaEditorModel", name := "in", desc := "(JJJ)Z" } : Jvm.MethodName)) ∈ lw_all := lw_g (lw_at lw_m10 232 rfl) rfl
theorem q2450 : (Jvm.Cond.code ({ cls := "FormulaEditorModel", name := "in", desc := "(JJJ)Z" } : Jvm.MethodName) prog_15_method_4_code (6 : Nat) (Option.some Jvm.ClassFile.FieldType.boolean)) ∈ lw_all := lw_g (lw_at lw_m10 233 rfl) rfl
theorem q2451 : (Jvm.Cond.methodLink "FormulaEditorModel" (150 : Nat) ({ cls := "FormulaEditorModel", name := "refused", desc := "(I)Z" } : Jvm.MethodName)) ∈ lw_all := lw_g (lw_at lw_m10 234 rfl) rfl
theorem q2452 : (Jvm.Cond.privateMethod ({ cls := "FormulaEditorModel", name := "refused", desc := "(I)Z" } : Jvm.MethodName)) ∈ lw_tbl := lw_at lw_m10 235 rfl
theorem q2453 : (Jvm.Cond.instanceMethod ({ cls := "FormulaEditorModel", name := "refused", desc := "(I)Z" } : Jvm.MethodName)) ∈ lw_all := lw_g (lw_at lw_m10 236 rfl) rfl
theorem q2454 : (Jvm.Cond.code ({ cls := "FormulaEditorModel", name := "refused", desc := "(I)Z" } : Jvm.MethodName) prog_15_method_3_code (2 : Nat) (Option.some Jvm.ClassFile.FieldType.boolean)) ∈ lw_all := lw_g (lw_at lw_m10 237 rfl) rfl
theorem q2456 : (Jvm.Cond.instanceMethod ({ cls := "FormulaEditorModel", name := "clearText", desc := "()I" } : Jvm.MethodName)) ∈ lw_all := lw_g (lw_at lw_m10 239 rfl) rfl
theorem q2457 : (Jvm.Cond.selects "FormulaEditorModel" ({ cls := "FormulaEditorModel", name := "clearText", desc := "()I" } : Jvm.MethodName) ({ cls := "FormulaEditorModel", name := "clearText", desc := "()I" } : Jvm.MethodName)) ∈ lw_all := lw_g (lw_at lw_m11 0 rfl) rfl
theorem q2458 : (Jvm.Cond.code ({ cls := "FormulaEditorModel", name := "clearText", desc := "()I" } : Jvm.MethodName) prog_15_method_30_code (2 : Nat) (Option.some Jvm.ClassFile.FieldType.int)) ∈ lw_all := lw_g (lw_at lw_m11 1 rfl) rfl
theorem q2460 : (Jvm.Cond.instanceMethod ({ cls := "FormulaEditorModel", name := "errorPosition", desc := "()I" } : Jvm.MethodName)) ∈ lw_all := lw_g (lw_at lw_m11 3 rfl) rfl
theorem q2461 : (Jvm.Cond.selects "FormulaEditorModel" ({ cls := "FormulaEditorModel", name := "errorPosition", desc := "()I" } : Jvm.MethodName) ({ cls := "FormulaEditorModel", name := "errorPosition", desc := "()I" } : Jvm.MethodName)) ∈ lw_all := lw_g (lw_at lw_m11 4 rfl) rfl
theorem q2462 : (Jvm.Cond.code ({ cls := "FormulaEditorModel", name := "errorPosition", desc := "()I" } : Jvm.MethodName) prog_15_method_38_code (1 : Nat) (Option.some Jvm.ClassFile.FieldType.int)) ∈ lw_all := lw_g (lw_at lw_m11 5 rfl) rfl
theorem q2463 : (Jvm.Cond.methodLink "FormulaEditorModel" (178 : Nat) ({ cls := "FormulaEditorModel", name := "readText", desc := "()I" } : Jvm.MethodName)) ∈ lw_all := lw_g (lw_at lw_m11 6 rfl) rfl
theorem q2464 : (Jvm.Cond.privateMethod ({ cls := "FormulaEditorModel", name := "readText", desc := "()I" } : Jvm.MethodName)) ∈ lw_tbl := lw_at lw_m11 7 rfl
theorem q2465 : (Jvm.Cond.instanceMethod ({ cls := "FormulaEditorModel", name := "readText", desc := "()I" } : Jvm.MethodName)) ∈ lw_all := lw_g (lw_at lw_m11 8 rfl) rfl
theorem q2466 : (Jvm.Cond.code ({ cls := "FormulaEditorModel", name := "readText", desc := "()I" } : Jvm.MethodName) prog_15_method_37_code (7 : Nat) (Option.some Jvm.ClassFile.FieldType.int)) ∈ lw_all := lw_g (lw_at lw_m11 9 rfl) rfl
theorem q2467 : (Jvm.Cond.methodLink "FormulaEditorModel" (170 : Nat) ({ cls := "FormulaEditorModel", name := "openRow", desc := "(I)V" } : Jvm.MethodName)) ∈ lw_all := lw_g (lw_at lw_m11 10 rfl) rfl
theorem q2468 : (Jvm.Cond.privateMethod ({ cls := "FormulaEditorModel", name := "openRow", desc := "(I)V" } : Jvm.MethodName)) ∈ lw_tbl := lw_at lw_m11 11 rfl
theorem q2469 : (Jvm.Cond.instanceMethod ({ cls := "FormulaEditorModel", name := "openRow", desc := "(I)V" } : Jvm.MethodName)) ∈ lw_all := lw_g (lw_at lw_m11 12 rfl) rfl
theorem q2470 : (Jvm.Cond.code ({ cls := "FormulaEditorModel", name := "openRow", desc := "(I)V" } : Jvm.MethodName) prog_15_method_35_code (2 : Nat) (Option.none : Option Jvm.ClassFile.FieldType)) ∈ lw_all := lw_g (lw_at lw_m11 13 rfl) rfl
theorem q2471 : (Jvm.Cond.methodLink "FormulaEditorModel" (87 : Nat) ({ cls := "FormulaEditorModel", name := "isLetter", desc := "(I)Z" } : Jvm.MethodName)) ∈ lw_all := lw_g (lw_at lw_m11 14 rfl) rfl
theorem q2472 : (Jvm.Cond.static ({ cls := "FormulaEditorModel", name := "isLetter", desc := "(I)Z" } : Jvm.MethodName)) ∈ lw_all := lw_g (lw_at lw_m11 15 rfl) rfl
theorem q2473 : (Jvm.Cond.code ({ cls := "FormulaEditorModel", name := "isLetter", desc := "(I)Z" } : Jvm.MethodName) prog_15_method_6_code (1 : Nat) (Option.some Jvm.ClassFile.FieldType.boolean)) ∈ lw_all := lw_g (lw_at lw_m11 16 rfl) rfl
theorem q2474 : (Jvm.Cond.constantLong "FormulaEditorModel" (75 : Nat) (97 : Int64)) ∈ lw_all := lw_g (lw_at lw_m11 17 rfl) rfl
theorem q2475 : (Jvm.Cond.constantLong "FormulaEditorModel" (77 : Nat) (122 : Int64)) ∈ lw_all := lw_g (lw_at lw_m11 18 rfl) rfl
theorem q2476 : (Jvm.Cond.methodLink "FormulaEditorModel" (91 : Nat) ({ cls := "FormulaEditorModel", name := "isDigit", desc := "(I)Z" } : Jvm.MethodName)) ∈ lw_all := lw_g (lw_at lw_m11 19 rfl) rfl
theorem q2477 : (Jvm.Cond.static ({ cls := "FormulaEditorModel", name := "isDigit", desc := "(I)Z" } : Jvm.MethodName)) ∈ lw_all := lw_g (lw_at lw_m11 20 rfl) rfl
theorem q2478 : (Jvm.Cond.code ({ cls := "FormulaEditorModel", name := "isDigit", desc := "(I)Z" } : Jvm.MethodName) prog_15_method_7_code (1 : Nat) (Option.some Jvm.ClassFile.FieldType.boolean)) ∈ lw_all := lw_g (lw_at lw_m11 21 rfl) rfl
theorem q2479 : (Jvm.Cond.constantLong "FormulaEditorModel" (83 : Nat) (48 : Int64)) ∈ lw_all := lw_g (lw_at lw_m11 22 rfl) rfl
theorem q2480 : (Jvm.Cond.constantLong "FormulaEditorModel" (85 : Nat) (57 : Int64)) ∈ lw_all := lw_g (lw_at lw_m11 23 rfl) rfl
theorem q2481 : (Jvm.Cond.methodLink "FormulaEditorModel" (94 : Nat) ({ cls := "FormulaEditorModel", name := "isMark", desc := "(I)Z" } : Jvm.MethodName)) ∈ lw_all := lw_g (lw_at lw_m11 24 rfl) rfl
theorem q2482 : (Jvm.Cond.static ({ cls := "FormulaEditorModel", name := "isMark", desc := "(I)Z" } : Jvm.MethodName)) ∈ lw_all := lw_g (lw_at lw_m11 25 rfl) rfl
theorem q2483 : (Jvm.Cond.code ({ cls := "FormulaEditorModel", name := "isMark", desc := "(I)Z" } : Jvm.MethodName) prog_15_method_8_code (1 : Nat) (Option.some Jvm.ClassFile.FieldType.boolean)) ∈ lw_all := lw_g (lw_at lw_m11 26 rfl) rfl
theorem q2484 : (Jvm.Cond.methodLink "FormulaEditorModel" (173 : Nat) ({ cls := "FormulaEditorModel", name := "closeChain", desc := "()V" } : Jvm.MethodName)) ∈ lw_all := lw_g (lw_at lw_m11 27 rfl) rfl
theorem q2485 : (Jvm.Cond.privateMethod ({ cls := "FormulaEditorModel", name := "closeChain", desc := "()V" } : Jvm.MethodName)) ∈ lw_tbl := lw_at lw_m11 28 rfl
theorem q2486 : (Jvm.Cond.instanceMethod ({ cls := "FormulaEditorModel", name := "closeChain", desc := "()V" } : Jvm.MethodName)) ∈ lw_all := lw_g (lw_at lw_m11 29 rfl) rfl
theorem q2487 : (Jvm.Cond.code ({ cls := "FormulaEditorModel", name := "closeChain", desc := "()V" } : Jvm.MethodName) prog_15_method_34_code (1 : Nat) (Option.none : Option Jvm.ClassFile.FieldType)) ∈ lw_all := lw_g (lw_at lw_m11 30 rfl) rfl
theorem q2488 : (Jvm.Cond.methodLink "FormulaEditorModel" (159 : Nat) ({ cls := "FormulaEditorModel", name := "unwrap", desc := "()V" } : Jvm.MethodName)) ∈ lw_all := lw_g (lw_at lw_m11 31 rfl) rfl
theorem q2489 : (Jvm.Cond.privateMethod ({ cls := "FormulaEditorModel", name := "unwrap", desc := "()V" } : Jvm.MethodName)) ∈ lw_tbl := lw_at lw_m11 32 rfl
theorem q2490 : (Jvm.Cond.instanceMethod ({ cls := "FormulaEditorModel", name := "unwrap", desc := "()V" } : Jvm.MethodName)) ∈ lw_all := lw_g (lw_at lw_m11 33 rfl) rfl
theorem q2491 : (Jvm.Cond.code ({ cls := "FormulaEditorModel", name := "unwrap", desc := "()V" } : Jvm.MethodName) prog_15_method_33_code (2 : Nat) (Option.none : Option Jvm.ClassFile.FieldType)) ∈ lw_all := lw_g (lw_at lw_m11 34 rfl) rfl
theorem q2492 : (Jvm.Cond.methodLink "FormulaEditorModel" (162 : Nat) ({ cls := "FormulaEditorModel", name := "add", desc := "(I)V" } : Jvm.MethodName)) ∈ lw_all := lw_g (lw_at lw_m11 35 rfl) rfl
theorem q2493 : (Jvm.Cond.privateMethod ({ cls := "FormulaEditorModel", name := "add", desc := "(I)V" } : Jvm.MethodName)) ∈ lw_tbl := lw_at lw_m11 36 rfl
theorem q2494 : (Jvm.Cond.instanceMethod ({ cls := "FormulaEditorModel", name := "add", desc := "(I)V" } : Jvm.MethodName)) ∈ lw_all := lw_g (lw_at lw_m11 37 rfl) rfl
theorem q2495 : (Jvm.Cond.code ({ cls := "FormulaEditorModel", name := "add", desc := "(I)V" } : Jvm.MethodName) prog_15_method_31_code (2 : Nat) (Option.none : Option Jvm.ClassFile.FieldType)) ∈ lw_all := lw_g (lw_at lw_m11 38 rfl) rfl
theorem q2496 : (Jvm.Cond.methodLink "FormulaEditorModel" (176 : Nat) ({ cls := "FormulaEditorModel", name := "line", desc := "()V" } : Jvm.MethodName)) ∈ lw_all := lw_g (lw_at lw_m11 39 rfl) rfl
theorem q2497 : (Jvm.Cond.privateMethod ({ cls := "FormulaEditorModel", name := "line", desc := "()V" } : Jvm.MethodName)) ∈ lw_tbl := lw_at lw_m11 40 rfl
theorem q2498 : (Jvm.Cond.instanceMethod ({ cls := "FormulaEditorModel", name := "line", desc := "()V" } : Jvm.MethodName)) ∈ lw_all := lw_g (lw_at lw_m11 41 rfl) rfl
theorem q2499 : (Jvm.Cond.code ({ cls := "FormulaEditorModel", name := "line", desc := "()V" } : Jvm.MethodName) prog_15_method_36_code (1 : Nat) (Option.none : Option Jvm.ClassFile.FieldType)) ∈ lw_all := lw_g (lw_at lw_m11 42 rfl) rfl
theorem q2500 : (Jvm.Cond.methodLink "FormulaEditorModel" (166 : Nat) ({ cls := "FormulaEditorModel", name := "insert", desc := "(II)V" } : Jvm.MethodName)) ∈ lw_all := lw_g (lw_at lw_m11 43 rfl) rfl
theorem q2501 : (Jvm.Cond.privateMethod ({ cls := "FormulaEditorModel", name := "insert", desc := "(II)V" } : Jvm.MethodName)) ∈ lw_tbl := lw_at lw_m11 44 rfl
theorem q2502 : (Jvm.Cond.instanceMethod ({ cls := "FormulaEditorModel", name := "insert", desc := "(II)V" } : Jvm.MethodName)) ∈ lw_all := lw_g (lw_at lw_m11 45 rfl) rfl
theorem q2503 : (Jvm.Cond.code ({ cls := "FormulaEditorModel", name := "insert", desc := "(II)V" } : Jvm.MethodName) prog_15_method_32_code (4 : Nat) (Option.none : Option Jvm.ClassFile.FieldType)) ∈ lw_all := lw_g (lw_at lw_m11 46 rfl) rfl
theorem q2505 : (Jvm.Cond.instanceMethod ({ cls := "FormulaEditorModel", name := "load", desc := "()I" } : Jvm.MethodName)) ∈ lw_all := lw_g (lw_at lw_m11 48 rfl) rfl
theorem q2506 : (Jvm.Cond.selects "FormulaEditorModel" ({ cls := "FormulaEditorModel", name := "load", desc := "()I" } : Jvm.MethodName) ({ cls := "FormulaEditorModel", name := "load", desc := "()I" } : Jvm.MethodName)) ∈ lw_all := lw_g (lw_at lw_m11 49 rfl) rfl
theorem q2507 : (Jvm.Cond.code ({ cls := "FormulaEditorModel", name := "load", desc := "()I" } : Jvm.MethodName) prog_15_method_39_code (2 : Nat) (Option.some Jvm.ClassFile.FieldType.int)) ∈ lw_all := lw_g (lw_at lw_m11 50 rfl) rfl
theorem q2508 : (Jvm.Cond.methodLink "FormulaEditorModel" (114 : Nat) ({ cls := "FormulaEditorModel", name := "allIn", desc := "([III)I" } : Jvm.MethodName)) ∈ lw_all := lw_g (lw_at lw_m11 51 rfl) rfl
theorem q2509 : (Jvm.Cond.static ({ cls := "FormulaEditorModel", name := "allIn", desc := "([III)I" } : Jvm.MethodName)) ∈ lw_all := lw_g (lw_at lw_m11 52 rfl) rfl
theorem q2510 : (Jvm.Cond.code ({ cls := "FormulaEditorModel", name := "allIn", desc := "([III)I" } : Jvm.MethodName) prog_15_method_18_code (5 : Nat) (Option.some Jvm.ClassFile.FieldType.int)) ∈ lw_all := lw_g (lw_at lw_m11 53 rfl) rfl
theorem q2511 : (Jvm.Cond.methodLink "FormulaEditorModel" (97 : Nat) ({ cls := "FormulaEditorModel", name := "isBegin", desc := "(I)Z" } : Jvm.MethodName)) ∈ lw_all := lw_g (lw_at lw_m11 54 rfl) rfl
theorem q2512 : (Jvm.Cond.static ({ cls := "FormulaEditorModel", name := "isBegin", desc := "(I)Z" } : Jvm.MethodName)) ∈ lw_all := lw_g (lw_at lw_m11 55 rfl) rfl
theorem q2513 : (Jvm.Cond.code ({ cls := "FormulaEditorModel", name := "isBegin", desc := "(I)Z" } : Jvm.MethodName) prog_15_method_10_code (1 : Nat) (Option.some Jvm.ClassFile.FieldType.boolean)) ∈ lw_all := lw_g (lw_at lw_m11 56 rfl) rfl
theorem q2514 : (Jvm.Cond.methodLink "FormulaEditorModel" (133 : Nat) ({ cls := "FormulaEditorModel", name := "deepest", desc := "([III)I" } : Jvm.MethodName)) ∈ lw_all := lw_g (lw_at lw_m11 57 rfl) rfl
theorem q2515 : (Jvm.Cond.static ({ cls := "FormulaEditorModel", name := "deepest", desc := "([III)I" } : Jvm.MethodName)) ∈ lw_all := lw_g (lw_at lw_m11 58 rfl) rfl
theorem q2516 : (Jvm.Cond.code ({ cls := "FormulaEditorModel", name := "deepest", desc := "([III)I" } : Jvm.MethodName) prog_15_method_20_code (6 : Nat) (Option.some Jvm.ClassFile.FieldType.int)) ∈ lw_all := lw_g (lw_at lw_m11 59 rfl) rfl
theorem q2518 : (Jvm.Cond.instanceMethod ({ cls := "FormulaEditorModel", name := "about", desc := "(I)I" } : Jvm.MethodName)) ∈ lw_all := lw_g (lw_at lw_m11 61 rfl) rfl
theorem q2519 : (Jvm.Cond.selects "FormulaEditorModel" ({ cls := "FormulaEditorModel", name := "about", desc := "(I)I" } : Jvm.MethodName) ({ cls := "FormulaEditorModel", name := "about", desc := "(I)I" } : Jvm.MethodName)) ∈ lw_all := lw_g (lw_at lw_m11 62 rfl) rfl
theorem q2520 : (Jvm.Cond.code ({ cls := "FormulaEditorModel", name := "about", desc := "(I)I" } : Jvm.MethodName) prog_15_method_40_code (5 : Nat) (Option.some Jvm.ClassFile.FieldType.int)) ∈ lw_all := lw_g (lw_at lw_m11 63 rfl) rfl
theorem q2521 : (Jvm.Cond.constantLong "FormulaEditorModel" (128 : Nat) (5 : Int64)) ∈ lw_all := lw_g (lw_at lw_m11 64 rfl) rfl
theorem q2523 : (Jvm.Cond.instanceMethod ({ cls := "FormulaEditorModel", name := "place", desc := "(II)I" } : Jvm.MethodName)) ∈ lw_all := lw_g (lw_at lw_m11 66 rfl) rfl
theorem q2524 : (Jvm.Cond.selects "FormulaEditorModel" ({ cls := "FormulaEditorModel", name := "place", desc := "(II)I" } : Jvm.MethodName) ({ cls := "FormulaEditorModel", name := "place", desc := "(II)I" } : Jvm.MethodName)) ∈ lw_all := lw_g (lw_at lw_m11 67 rfl) rfl
theorem q2525 : (Jvm.Cond.code ({ cls := "FormulaEditorModel", name := "place", desc := "(II)I" } : Jvm.MethodName) prog_15_method_42_code (6 : Nat) (Option.some Jvm.ClassFile.FieldType.int)) ∈ lw_all := lw_g (lw_at lw_m11 68 rfl) rfl
theorem q2526 : (Jvm.Cond.methodLink "FormulaEditorModel" (185 : Nat) ({ cls := "FormulaEditorModel", name := "isPlace", desc := "(I)Z" } : Jvm.MethodName)) ∈ lw_all := lw_g (lw_at lw_m11 69 rfl) rfl
theorem q2527 : (Jvm.Cond.privateMethod ({ cls := "FormulaEditorModel", name := "isPlace", desc := "(I)Z" } : Jvm.MethodName)) ∈ lw_tbl := lw_at lw_m11 70 rfl
theorem q2528 : (Jvm.Cond.instanceMethod ({ cls := "FormulaEditorModel", name := "isPlace", desc := "(I)Z" } : Jvm.MethodName)) ∈ lw_all := lw_g (lw_at lw_m11 71 rfl) rfl
theorem q2529 : (Jvm.Cond.code ({ cls := "FormulaEditorModel", name := "isPlace", desc := "(I)Z" } : Jvm.MethodName) prog_15_method_41_code (2 : Nat) (Option.some Jvm.ClassFile.FieldType.boolean)) ∈ lw_all := lw_g (lw_at lw_m11 72 rfl) rfl
theorem q2530 : (Jvm.Cond.methodLink "FormulaEditorModel" (136 : Nat) ({ cls := "FormulaEditorModel", name := "rowStart", desc := "([II)I" } : Jvm.MethodName)) ∈ lw_all := lw_g (lw_at lw_m11 73 rfl) rfl
theorem q2531 : (Jvm.Cond.static ({ cls := "FormulaEditorModel", name := "rowStart", desc := "([II)I" } : Jvm.MethodName)) ∈ lw_all := lw_g (lw_at lw_m11 74 rfl) rfl
theorem q2532 : (Jvm.Cond.code ({ cls := "FormulaEditorModel", name := "rowStart", desc := "([II)I" } : Jvm.MethodName) prog_15_method_13_code (4 : Nat) (Option.some Jvm.ClassFile.FieldType.int)) ∈ lw_all := lw_g (lw_at lw_m11 75 rfl) rfl
theorem q2533 : (Jvm.Cond.methodLink "FormulaEditorModel" (142 : Nat) ({ cls := "FormulaEditorModel", name := "rowEnd", desc := "([II)I" } : Jvm.MethodName)) ∈ lw_all := lw_g (lw_at lw_m11 76 rfl) rfl
theorem q2534 : (Jvm.Cond.static ({ cls := "FormulaEditorModel", name := "rowEnd", desc := "([II)I" } : Jvm.MethodName)) ∈ lw_all := lw_g (lw_at lw_m11 77 rfl) rfl
theorem q2535 : (Jvm.Cond.code ({ cls := "FormulaEditorModel", name := "rowEnd", desc := "([II)I" } : Jvm.MethodName) prog_15_method_14_code (4 : Nat) (Option.some Jvm.ClassFile.FieldType.int)) ∈ lw_all := lw_g (lw_at lw_m11 78 rfl) rfl
theorem q2536 : (Jvm.Cond.methodLink "FormulaEditorModel" (130 : Nat) ({ cls := "FormulaEditorModel", name := "levelAt", desc := "([II)I" } : Jvm.MethodName)) ∈ lw_all := lw_g (lw_at lw_m11 79 rfl) rfl
theorem q2537 : (Jvm.Cond.static ({ cls := "FormulaEditorModel", name := "levelAt", desc := "([II)I" } : Jvm.MethodName)) ∈ lw_all := lw_g (lw_at lw_m11 80 rfl) rfl
theorem q2538 : (Jvm.Cond.code ({ cls := "FormulaEditorModel", name := "levelAt", desc := "([II)I" } : Jvm.MethodName) prog_15_method_19_code (4 : Nat) (Option.some Jvm.ClassFile.FieldType.int)) ∈ lw_all := lw_g (lw_at lw_m11 81 rfl) rfl
theorem q2539 : (Jvm.Cond.methodLink "FormulaEditorModel" (188 : Nat) ({ cls := "FormulaEditorModel", name := "itemsIn", desc := "([III)I" } : Jvm.MethodName)) ∈ lw_all := lw_g (lw_at lw_m11 82 rfl) rfl
theorem q2540 : (Jvm.Cond.static ({ cls := "FormulaEditorModel", name := "itemsIn", desc := "([III)I" } : Jvm.MethodName)) ∈ lw_all := lw_g (lw_at lw_m11 83 rfl) rfl
theorem q2541 : (Jvm.Cond.code ({ cls := "FormulaEditorModel", name := "itemsIn", desc := "([III)I" } : Jvm.MethodName) prog_15_method_17_code (5 : Nat) (Option.some Jvm.ClassFile.FieldType.int)) ∈ lw_all := lw_g (lw_at lw_m11 84 rfl) rfl
theorem q2542 : (Jvm.Cond.methodLink "FormulaEditorModel" (107 : Nat) ({ cls := "FormulaEditorModel", name := "itemEnd", desc := "([II)I" } : Jvm.MethodName)) ∈ lw_all := lw_g (lw_at lw_m11 85 rfl) rfl
theorem q2543 : (Jvm.Cond.static ({ cls := "FormulaEditorModel", name := "itemEnd", desc := "([II)I" } : Jvm.MethodName)) ∈ lw_all := lw_g (lw_at lw_m11 86 rfl) rfl
theorem q2544 : (Jvm.Cond.code ({ cls := "FormulaEditorModel", name := "itemEnd", desc := "([II)I" } : Jvm.MethodName) prog_15_method_16_code (2 : Nat) (Option.some Jvm.ClassFile.FieldType.int)) ∈ lw_all := lw_g (lw_at lw_m11 87 rfl) rfl
theorem q2545 : (Jvm.Cond.methodLink "FormulaEditorModel" (104 : Nat) ({ cls := "FormulaEditorModel", name := "endOf", desc := "([II)I" } : Jvm.MethodName)) ∈ lw_all := lw_g (lw_at lw_m11 88 rfl) rfl
theorem q2546 : (Jvm.Cond.static ({ cls := "FormulaEditorModel", name := "endOf", desc := "([II)I" } : Jvm.MethodName)) ∈ lw_all := lw_g (lw_at lw_m11 89 rfl) rfl
theorem q2547 : (Jvm.Cond.code ({ cls := "FormulaEditorModel", name := "endOf", desc := "([II)I" } : Jvm.MethodName) prog_15_method_12_code (4 : Nat) (Option.some Jvm.ClassFile.FieldType.int)) ∈ lw_all := lw_g (lw_at lw_m11 90 rfl) rfl
theorem q2549 : (Jvm.Cond.instanceMethod ({ cls := "FormulaEditorModel", name := "selection", desc := "(I)I" } : Jvm.MethodName)) ∈ lw_all := lw_g (lw_at lw_m11 92 rfl) rfl
theorem q2550 : (Jvm.Cond.selects "FormulaEditorModel" ({ cls := "FormulaEditorModel", name := "selection", desc := "(I)I" } : Jvm.MethodName) ({ cls := "FormulaEditorModel", name := "selection", desc := "(I)I" } : Jvm.MethodName)) ∈ lw_all := lw_g (lw_at lw_m11 93 rfl) rfl
theorem q2551 : (Jvm.Cond.code ({ cls := "FormulaEditorModel", name := "selection", desc := "(I)I" } : Jvm.MethodName) prog_15_method_43_code (3 : Nat) (Option.some Jvm.ClassFile.FieldType.int)) ∈ lw_all := lw_g (lw_at lw_m11 94 rfl) rfl
theorem q2552 : (Jvm.Cond.constantLong "FormulaEditorModel" (191 : Nat) (2 : Int64)) ∈ lw_all := lw_g (lw_at lw_m11 95 rfl) rfl
theorem q2554 : (Jvm.Cond.instanceMethod ({ cls := "FormulaEditorModel", name := "linearLength", desc := "()I" } : Jvm.MethodName)) ∈ lw_all := lw_g (lw_at lw_m11 97 rfl) rfl
theorem q2555 : (Jvm.Cond.selects "FormulaEditorModel" ({ cls := "FormulaEditorModel", name := "linearLength", desc := "()I" } : Jvm.MethodName) ({ cls := "FormulaEditorModel", name := "linearLength", desc := "()I" } : Jvm.MethodName)) ∈ lw_all := lw_g (lw_at lw_m11 98 rfl) rfl
theorem q2556 : (Jvm.Cond.code ({ cls := "FormulaEditorModel", name := "linearLength", desc := "()I" } : Jvm.MethodName) prog_15_method_48_code (1 : Nat) (Option.some Jvm.ClassFile.FieldType.int)) ∈ lw_all := lw_g (lw_at lw_m11 99 rfl) rfl
theorem q2557 : (Jvm.Cond.methodLink "FormulaEditorModel" (207 : Nat) ({ cls := "FormulaEditorModel", name := "layLine", desc := "([I)V" } : Jvm.MethodName)) ∈ lw_all := lw_g (lw_at lw_m11 100 rfl) rfl
theorem q2558 : (Jvm.Cond.privateMethod ({ cls := "FormulaEditorModel", name := "layLine", desc := "([I)V" } : Jvm.MethodName)) ∈ lw_tbl := lw_at lw_m11 101 rfl
theorem q2559 : (Jvm.Cond.instanceMethod ({ cls := "FormulaEditorModel", name := "layLine", desc := "([I)V" } : Jvm.MethodName)) ∈ lw_all := lw_g (lw_at lw_m11 102 rfl) rfl
theorem q2560 : (Jvm.Cond.code ({ cls := "FormulaEditorModel", name := "layLine", desc := "([I)V" } : Jvm.MethodName) prog_15_method_47_code (7 : Nat) (Option.none : Option Jvm.ClassFile.FieldType)) ∈ lw_all := lw_g (lw_at lw_m11 103 rfl) rfl
theorem q2561 : (Jvm.Cond.methodLink "FormulaEditorModel" (196 : Nat) ({ cls := "FormulaEditorModel", name := "say", desc := "(I)V" } : Jvm.MethodName)) ∈ lw_all := lw_g (lw_at lw_m11 104 rfl) rfl
theorem q2562 : (Jvm.Cond.privateMethod ({ cls := "FormulaEditorModel", name := "say", desc := "(I)V" } : Jvm.MethodName)) ∈ lw_tbl := lw_at lw_m11 105 rfl
theorem q2563 : (Jvm.Cond.instanceMethod ({ cls := "FormulaEditorModel", name := "say", desc := "(I)V" } : Jvm.MethodName)) ∈ lw_all := lw_g (lw_at lw_m11 106 rfl) rfl
theorem q2564 : (Jvm.Cond.code ({ cls := "FormulaEditorModel", name := "say", desc := "(I)V" } : Jvm.MethodName) prog_15_method_45_code (2 : Nat) (Option.none : Option Jvm.ClassFile.FieldType)) ∈ lw_all := lw_g (lw_at lw_m11 107 rfl) rfl
theorem q2565 : (Jvm.Cond.methodLink "FormulaEditorModel" (199 : Nat) ({ cls := "FormulaEditorModel", name := "isShort", desc := "([IIZ)Z" } : Jvm.MethodName)) ∈ lw_all := lw_g (lw_at lw_m11 108 rfl) rfl
theorem q2566 : (Jvm.Cond.static ({ cls := "FormulaEditorModel", name := "isShort", desc := "([IIZ)Z" } : Jvm.MethodName)) ∈ lw_all := lw_g (lw_at lw_m11 109 rfl) rfl
theorem q2567 : (Jvm.Cond.code ({ cls := "FormulaEditorModel", name := "isShort", desc := "([IIZ)Z" } : Jvm.MethodName) prog_15_method_44_code (8 : Nat) (Option.some Jvm.ClassFile.FieldType.boolean)) ∈ lw_all := lw_g (lw_at lw_m11 110 rfl) rfl
theorem q2568 : (Jvm.Cond.methodLink "FormulaEditorModel" (203 : Nat) ({ cls := "FormulaEditorModel", name := "sayUnless", desc := "(ZI)V" } : Jvm.MethodName)) ∈ lw_all := lw_g (lw_at lw_m11 111 rfl) rfl
theorem q2569 : (Jvm.Cond.privateMethod ({ cls := "FormulaEditorModel", name := "sayUnless", desc := "(ZI)V" } : Jvm.MethodName)) ∈ lw_tbl := lw_at lw_m11 112 rfl
theorem q2570 : (Jvm.Cond.instanceMethod ({ cls := "FormulaEditorModel", name := "sayUnless", desc := "(ZI)V" } : Jvm.MethodName)) ∈ lw_all := lw_g (lw_at lw_m11 113 rfl) rfl
theorem q2571 : (Jvm.Cond.code ({ cls := "FormulaEditorModel", name := "sayUnless", desc := "(ZI)V" } : Jvm.MethodName) prog_15_method_46_code (3 : Nat) (Option.none : Option Jvm.ClassFile.FieldType)) ∈ lw_all := lw_g (lw_at lw_m11 114 rfl) rfl
theorem q2572 : (Jvm.Cond.methodLink "FormulaEditorModel" (139 : Nat) ({ cls := "FormulaEditorModel", name := "itemStart", desc := "([II)I" } : Jvm.MethodName)) ∈ lw_all := lw_g (lw_at lw_m11 115 rfl) rfl
theorem q2573 : (Jvm.Cond.static ({ cls := "FormulaEditorModel", name := "itemStart", desc := "([II)I" } : Jvm.MethodName)) ∈ lw_all := lw_g (lw_at lw_m11 116 rfl) rfl
theorem q2574 : (Jvm.Cond.code ({ cls := "FormulaEditorModel", name := "itemStart", desc := "([II)I" } : Jvm.MethodName) prog_15_method_15_code (2 : Nat) (Option.some Jvm.ClassFile.FieldType.int)) ∈ lw_all := lw_g (lw_at lw_m11 117 rfl) rfl
theorem q2575 : (Jvm.Cond.methodLink "FormulaEditorModel" (100 : Nat) ({ cls := "FormulaEditorModel", name := "beginOf", desc := "([II)I" } : Jvm.MethodName)) ∈ lw_all := lw_g (lw_at lw_m11 118 rfl) rfl
theorem q2576 : (Jvm.Cond.static ({ cls := "FormulaEditorModel", name := "beginOf", desc := "([II)I" } : Jvm.MethodName)) ∈ lw_all := lw_g (lw_at lw_m11 119 rfl) rfl
theorem q2577 : (Jvm.Cond.code ({ cls := "FormulaEditorModel", name := "beginOf", desc := "([II)I" } : Jvm.MethodName) prog_15_method_11_code (4 : Nat) (Option.some Jvm.ClassFile.FieldType.int)) ∈ lw_all := lw_g (lw_at lw_m11 120 rfl) rfl
theorem q2579 : (Jvm.Cond.instanceMethod ({ cls := "FormulaEditorModel", name := "linearAt", desc := "(I)I" } : Jvm.MethodName)) ∈ lw_all := lw_g (lw_at lw_m11 122 rfl) rfl
theorem q2580 : (Jvm.Cond.selects "FormulaEditorModel" ({ cls := "FormulaEditorModel", name := "linearAt", desc := "(I)I" } : Jvm.MethodName) ({ cls := "FormulaEditorModel", name := "linearAt", desc := "(I)I" } : Jvm.MethodName)) ∈ lw_all := lw_g (lw_at lw_m11 123 rfl) rfl
theorem q2581 : (Jvm.Cond.code ({ cls := "FormulaEditorModel", name := "linearAt", desc := "(I)I" } : Jvm.MethodName) prog_15_method_49_code (2 : Nat) (Option.some Jvm.ClassFile.FieldType.int)) ∈ lw_all := lw_g (lw_at lw_m11 124 rfl) rfl
theorem q2583 : (Jvm.Cond.instanceMethod ({ cls := "FormulaEditorModel", name := "moveTo", desc := "(I)I" } : Jvm.MethodName)) ∈ lw_all := lw_g (lw_at lw_m11 126 rfl) rfl
theorem q2584 : (Jvm.Cond.selects "FormulaEditorModel" ({ cls := "FormulaEditorModel", name := "moveTo", desc := "(I)I" } : Jvm.MethodName) ({ cls := "FormulaEditorModel", name := "moveTo", desc := "(I)I" } : Jvm.MethodName)) ∈ lw_all := lw_g (lw_at lw_m11 127 rfl) rfl
theorem q2585 : (Jvm.Cond.code ({ cls := "FormulaEditorModel", name := "moveTo", desc := "(I)I" } : Jvm.MethodName) prog_15_method_50_code (3 : Nat) (Option.some Jvm.ClassFile.FieldType.int)) ∈ lw_all := lw_g (lw_at lw_m11 128 rfl) rfl
theorem q2587 : (Jvm.Cond.instanceMethod ({ cls := "FormulaEditorModel", name := "moveBy", desc := "(I)I" } : Jvm.MethodName)) ∈ lw_all := lw_g (lw_at lw_m11 130 rfl) rfl
theorem q2588 : (Jvm.Cond.selects "FormulaEditorModel" ({ cls := "FormulaEditorModel", name := "moveBy", desc := "(I)I" } : Jvm.MethodName) ({ cls := "FormulaEditorModel", name := "moveBy", desc := "(I)I" } : Jvm.MethodName)) ∈ lw_all := lw_g (lw_at lw_m11 131 rfl) rfl
theorem q2589 : (Jvm.Cond.code ({ cls := "FormulaEditorModel", name := "moveBy", desc := "(I)I" } : Jvm.MethodName) prog_15_method_51_code (2 : Nat) (Option.some Jvm.ClassFile.FieldType.int)) ∈ lw_all := lw_g (lw_at lw_m11 132 rfl) rfl
theorem q2590 : (Jvm.Cond.constantLong "FormulaEditorModel" (210 : Nat) (-200 : Int64)) ∈ lw_all := lw_g (lw_at lw_m11 133 rfl) rfl
theorem q2591 : (Jvm.Cond.constantLong "FormulaEditorModel" (212 : Nat) (200 : Int64)) ∈ lw_all := lw_g (lw_at lw_m11 134 rfl) rfl
theorem q2592 : (Jvm.Cond.methodLink "FormulaEditorModel" (214 : Nat) ({ cls := "FormulaEditorModel", name := "moves", desc := "([II)V" } : Jvm.MethodName)) ∈ lw_all := lw_g (lw_at lw_m11 135 rfl) rfl
theorem q2593 : (Jvm.Cond.static ({ cls := "FormulaEditorModel", name := "moves", desc := "([II)V" } : Jvm.MethodName)) ∈ lw_all := lw_g (lw_at lw_m11 136 rfl) rfl
theorem q2594 : (Jvm.Cond.code ({ cls := "FormulaEditorModel", name := "moves", desc := "([II)V" } : Jvm.MethodName) prog_15_method_28_code (3 : Nat) (Option.none : Option Jvm.ClassFile.FieldType)) ∈ lw_all := lw_g (lw_at lw_m11 137 rfl) rfl
theorem q2596 : (Jvm.Cond.instanceMethod ({ cls := "FormulaEditorModel", name := "moveVertically", desc := "(Z)I" } : Jvm.MethodName)) ∈ lw_all := lw_g (lw_at lw_m11 139 rfl) rfl
theorem q2597 : (Jvm.Cond.selects "FormulaEditorModel" ({ cls := "FormulaEditorModel", name := "moveVertically", desc := "(Z)I" } : Jvm.MethodName) ({ cls := "FormulaEditorModel", name := "moveVertically", desc := "(Z)I" } : Jvm.MethodName)) ∈ lw_all := lw_g (lw_at lw_m11 140 rfl) rfl
theorem q2598 : (Jvm.Cond.code ({ cls := "FormulaEditorModel", name := "moveVertically", desc := "(Z)I" } : Jvm.MethodName) prog_15_method_53_code (11 : Nat) (Option.some Jvm.ClassFile.FieldType.int)) ∈ lw_all := lw_g (lw_at lw_m11 141 rfl) rfl
theorem q2599 : (Jvm.Cond.methodLink "FormulaEditorModel" (218 : Nat) ({ cls := "FormulaEditorModel", name := "goTo", desc := "(I)I" } : Jvm.MethodName)) ∈ lw_all := lw_g (lw_at lw_m11 142 rfl) rfl
theorem q2600 : (Jvm.Cond.privateMethod ({ cls := "FormulaEditorModel", name := "goTo", desc := "(I)I" } : Jvm.MethodName)) ∈ lw_tbl := lw_at lw_m11 143 rfl
theorem q2601 : (Jvm.Cond.instanceMethod ({ cls := "FormulaEditorModel", name := "goTo", desc := "(I)I" } : Jvm.MethodName)) ∈ lw_all := lw_g (lw_at lw_m11 144 rfl) rfl
theorem q2602 : (Jvm.Cond.code ({ cls := "FormulaEditorModel", name := "goTo", desc := "(I)I" } : Jvm.MethodName) prog_15_method_52_code (2 : Nat) (Option.some Jvm.ClassFile.FieldType.int)) ∈ lw_all := lw_g (lw_at lw_m11 145 rfl) rfl
theorem q2604 : (Jvm.Cond.instanceMethod ({ cls := "FormulaEditorModel", name := "extend", desc := "(Z)I" } : Jvm.MethodName)) ∈ lw_all := lw_g (lw_at lw_m11 147 rfl) rfl
theorem q2605 : (Jvm.Cond.selects "FormulaEditorModel" ({ cls := "FormulaEditorModel", name := "extend", desc := "(Z)I" } : Jvm.MethodName) ({ cls := "FormulaEditorModel", name := "extend", desc := "(Z)I" } : Jvm.MethodName)) ∈ lw_all := lw_g (lw_at lw_m11 148 rfl) rfl
theorem q2606 : (Jvm.Cond.code ({ cls := "FormulaEditorModel", name := "extend", desc := "(Z)I" } : Jvm.MethodName) prog_15_method_54_code (4 : Nat) (Option.some Jvm.ClassFile.FieldType.int)) ∈ lw_all := lw_g (lw_at lw_m11 149 rfl) rfl
theorem q2608 : (Jvm.Cond.instanceMethod ({ cls := "FormulaEditorModel", name := "grow", desc := "()I" } : Jvm.MethodName)) ∈ lw_all := lw_g (lw_at lw_m11 151 rfl) rfl
theorem q2609 : (Jvm.Cond.selects "FormulaEditorModel" ({ cls := "FormulaEditorModel", name := "grow", desc := "()I" } : Jvm.MethodName) ({ cls := "FormulaEditorModel", name := "grow", desc := "()I" } : Jvm.MethodName)) ∈ lw_all := lw_g (lw_at lw_m11 152 rfl) rfl
theorem q2610 : (Jvm.Cond.code ({ cls := "FormulaEditorModel", name := "grow", desc := "()I" } : Jvm.MethodName) prog_15_method_55_code (1 : Nat) (Option.some Jvm.ClassFile.FieldType.int)) ∈ lw_all := lw_g (lw_at lw_m11 153 rfl) rfl
theorem q2611 : (Jvm.Cond.methodLink "FormulaEditorModel" (222 : Nat) ({ cls := "FormulaEditorModel", name := "grows", desc := "([I)Z" } : Jvm.MethodName)) ∈ lw_all := lw_g (lw_at lw_m11 154 rfl) rfl
theorem q2612 : (Jvm.Cond.static ({ cls := "FormulaEditorModel", name := "grows", desc := "([I)Z" } : Jvm.MethodName)) ∈ lw_all := lw_g (lw_at lw_m11 155 rfl) rfl
theorem q2613 : (Jvm.Cond.code ({ cls := "FormulaEditorModel", name := "grows", desc := "([I)Z" } : Jvm.MethodName) prog_15_method_27_code (5 : Nat) (Option.some Jvm.ClassFile.FieldType.boolean)) ∈ lw_all := lw_g (lw_at lw_m11 156 rfl) rfl
theorem q2615 : (Jvm.Cond.instanceMethod ({ cls := "FormulaEditorModel", name := "copy", desc := "()I" } : Jvm.MethodName)) ∈ lw_all := lw_g (lw_at lw_m11 158 rfl) rfl
theorem q2616 : (Jvm.Cond.selects "FormulaEditorModel" ({ cls := "FormulaEditorModel", name := "copy", desc := "()I" } : Jvm.MethodName) ({ cls := "FormulaEditorModel", name := "copy", desc := "()I" } : Jvm.MethodName)) ∈ lw_all := lw_g (lw_at lw_m11 159 rfl) rfl
theorem q2617 : (Jvm.Cond.code ({ cls := "FormulaEditorModel", name := "copy", desc := "()I" } : Jvm.MethodName) prog_15_method_56_code (2 : Nat) (Option.some Jvm.ClassFile.FieldType.int)) ∈ lw_all := lw_g (lw_at lw_m11 160 rfl) rfl
theorem q2619 : (Jvm.Cond.instanceMethod ({ cls := "FormulaEditorModel", name := "type", desc := "(I)I" } : Jvm.MethodName)) ∈ lw_all := lw_g (lw_at lw_m11 162 rfl) rfl
theorem q2620 : (Jvm.Cond.selects "FormulaEditorModel" ({ cls := "FormulaEditorModel", name := "type", desc := "(I)I" } : Jvm.MethodName) ({ cls := "FormulaEditorModel", name := "type", desc := "(I)I" } : Jvm.MethodName)) ∈ lw_all := lw_g (lw_at lw_m11 163 rfl) rfl
theorem q2621 : (Jvm.Cond.code ({ cls := "FormulaEditorModel", name := "type", desc := "(I)I" } : Jvm.MethodName) prog_15_method_59_code (2 : Nat) (Option.some Jvm.ClassFile.FieldType.int)) ∈ lw_all := lw_g (lw_at lw_m11 164 rfl) rfl
theorem q2622 : (Jvm.Cond.methodLink "FormulaEditorModel" (226 : Nat) ({ cls := "FormulaEditorModel", name := "copyPage", desc := "([II[II)V" } : Jvm.MethodName)) ∈ lw_all := lw_g (lw_at lw_m11 165 rfl) rfl
theorem q2623 : (Jvm.Cond.static ({ cls := "FormulaEditorModel", name := "copyPage", desc := "([II[II)V" } : Jvm.MethodName)) ∈ lw_all := lw_g (lw_at lw_m11 166 rfl) rfl
theorem q2624 : (Jvm.Cond.code ({ cls := "FormulaEditorModel", name := "copyPage", desc := "([II[II)V" } : Jvm.MethodName) prog_15_method_5_code (5 : Nat) (Option.none : Option Jvm.ClassFile.FieldType)) ∈ lw_all := lw_g (lw_at lw_m11 167 rfl) rfl
theorem q2625 : (Jvm.Cond.methodLink "FormulaEditorModel" (118 : Nat) ({ cls := "FormulaEditorModel", name := "isSymbol", desc := "(I)Z" } : Jvm.MethodName)) ∈ lw_all := lw_g (lw_at lw_m11 168 rfl) rfl
theorem q2626 : (Jvm.Cond.static ({ cls := "FormulaEditorModel", name := "isSymbol", desc := "(I)Z" } : Jvm.MethodName)) ∈ lw_all := lw_g (lw_at lw_m11 169 rfl) rfl
theorem q2627 : (Jvm.Cond.code ({ cls := "FormulaEditorModel", name := "isSymbol", desc := "(I)Z" } : Jvm.MethodName) prog_15_method_9_code (1 : Nat) (Option.some Jvm.ClassFile.FieldType.boolean)) ∈ lw_all := lw_g (lw_at lw_m11 170 rfl) rfl
theorem q2628 : (Jvm.Cond.methodLink "FormulaEditorModel" (233 : Nat) ({ cls := "FormulaEditorModel", name := "types", desc := "([II)Z" } : Jvm.MethodName)) ∈ lw_all := lw_g (lw_at lw_m11 171 rfl) rfl
theorem q2629 : (Jvm.Cond.static ({ cls := "FormulaEditorModel", name := "types", desc := "([II)Z" } : Jvm.MethodName)) ∈ lw_all := lw_g (lw_at lw_m11 172 rfl) rfl
theorem q2630 : (Jvm.Cond.code ({ cls := "FormulaEditorModel", name := "types", desc := "([II)Z" } : Jvm.MethodName) prog_15_method_24_code (3 : Nat) (Option.some Jvm.ClassFile.FieldType.boolean)) ∈ lw_all := lw_g (lw_at lw_m11 173 rfl) rfl
theorem q2631 : (Jvm.Cond.methodLink "FormulaEditorModel" (121 : Nat) ({ cls := "FormulaEditorModel", name := "clear", desc := "([I)V" } : Jvm.MethodName)) ∈ lw_all := lw_g (lw_at lw_m11 174 rfl) rfl
theorem q2632 : (Jvm.Cond.static ({ cls := "FormulaEditorModel", name := "clear", desc := "([I)V" } : Jvm.MethodName)) ∈ lw_all := lw_g (lw_at lw_m11 175 rfl) rfl
theorem q2633 : (Jvm.Cond.code ({ cls := "FormulaEditorModel", name := "clear", desc := "([I)V" } : Jvm.MethodName) prog_15_method_23_code (1 : Nat) (Option.none : Option Jvm.ClassFile.FieldType)) ∈ lw_all := lw_g (lw_at lw_m11 176 rfl) rfl
theorem q2634 : (Jvm.Cond.methodLink "FormulaEditorModel" (110 : Nat) ({ cls := "FormulaEditorModel", name := "remove", desc := "([III)V" } : Jvm.MethodName)) ∈ lw_all := lw_g (lw_at lw_m11 177 rfl) rfl
theorem q2635 : (Jvm.Cond.static ({ cls := "FormulaEditorModel", name := "remove", desc := "([III)V" } : Jvm.MethodName)) ∈ lw_all := lw_g (lw_at lw_m11 178 rfl) rfl
theorem q2636 : (Jvm.Cond.code ({ cls := "FormulaEditorModel", name := "remove", desc := "([III)V" } : Jvm.MethodName) prog_15_method_21_code (4 : Nat) (Option.none : Option Jvm.ClassFile.FieldType)) ∈ lw_all := lw_g (lw_at lw_m11 179 rfl) rfl
theorem q2637 : (Jvm.Cond.methodLink "FormulaEditorModel" (125 : Nat) ({ cls := "FormulaEditorModel", name := "put", desc := "([III)V" } : Jvm.MethodName)) ∈ lw_all := lw_g (lw_at lw_m11 180 rfl) rfl
theorem q2638 : (Jvm.Cond.static ({ cls := "FormulaEditorModel", name := "put", desc := "([III)V" } : Jvm.MethodName)) ∈ lw_all := lw_g (lw_at lw_m11 181 rfl) rfl
theorem q2639 : (Jvm.Cond.code ({ cls := "FormulaEditorModel", name := "put", desc := "([III)V" } : Jvm.MethodName) prog_15_method_22_code (4 : Nat) (Option.none : Option Jvm.ClassFile.FieldType)) ∈ lw_all := lw_g (lw_at lw_m11 182 rfl) rfl
theorem q2640 : (Jvm.Cond.methodLink "FormulaEditorModel" (237 : Nat) ({ cls := "FormulaEditorModel", name := "take", desc := "()V" } : Jvm.MethodName)) ∈ lw_all := lw_g (lw_at lw_m11 183 rfl) rfl
theorem q2641 : (Jvm.Cond.privateMethod ({ cls := "FormulaEditorModel", name := "take", desc := "()V" } : Jvm.MethodName)) ∈ lw_tbl := lw_at lw_m11 184 rfl
theorem q2642 : (Jvm.Cond.instanceMethod ({ cls := "FormulaEditorModel", name := "take", desc := "()V" } : Jvm.MethodName)) ∈ lw_all := lw_g (lw_at lw_m11 185 rfl) rfl
theorem q2643 : (Jvm.Cond.code ({ cls := "FormulaEditorModel", name := "take", desc := "()V" } : Jvm.MethodName) prog_15_method_58_code (1 : Nat) (Option.none : Option Jvm.ClassFile.FieldType)) ∈ lw_all := lw_g (lw_at lw_m11 186 rfl) rfl
theorem q2644 : (Jvm.Cond.methodLink "FormulaEditorModel" (230 : Nat) ({ cls := "FormulaEditorModel", name := "note", desc := "()V" } : Jvm.MethodName)) ∈ lw_all := lw_g (lw_at lw_m11 187 rfl) rfl
theorem q2645 : (Jvm.Cond.privateMethod ({ cls := "FormulaEditorModel", name := "note", desc := "()V" } : Jvm.MethodName)) ∈ lw_tbl := lw_at lw_m11 188 rfl
theorem q2646 : (Jvm.Cond.instanceMethod ({ cls := "FormulaEditorModel", name := "note", desc := "()V" } : Jvm.MethodName)) ∈ lw_all := lw_g (lw_at lw_m11 189 rfl) rfl
theorem q2647 : (Jvm.Cond.code ({ cls := "FormulaEditorModel", name := "note", desc := "()V" } : Jvm.MethodName) prog_15_method_57_code (2 : Nat) (Option.none : Option Jvm.ClassFile.FieldType)) ∈ lw_all := lw_g (lw_at lw_m11 190 rfl) rfl
theorem q2649 : (Jvm.Cond.instanceMethod ({ cls := "FormulaEditorModel", name := "wrap", desc := "(I)I" } : Jvm.MethodName)) ∈ lw_all := lw_g (lw_at lw_m11 192 rfl) rfl
theorem q2650 : (Jvm.Cond.selects "FormulaEditorModel" ({ cls := "FormulaEditorModel", name := "wrap", desc := "(I)I" } : Jvm.MethodName) ({ cls := "FormulaEditorModel", name := "wrap", desc := "(I)I" } : Jvm.MethodName)) ∈ lw_all := lw_g (lw_at lw_m11 193 rfl) rfl
theorem q2651 : (Jvm.Cond.code ({ cls := "FormulaEditorModel", name := "wrap", desc := "(I)I" } : Jvm.MethodName) prog_15_method_60_code (2 : Nat) (Option.some Jvm.ClassFile.FieldType.int)) ∈ lw_all := lw_g (lw_at lw_m11 194 rfl) rfl
theorem q2652 : (Jvm.Cond.methodLink "FormulaEditorModel" (240 : Nat) ({ cls := "FormulaEditorModel", name := "wraps", desc := "([II)Z" } : Jvm.MethodName)) ∈ lw_all := lw_g (lw_at lw_m11 195 rfl) rfl
theorem q2653 : (Jvm.Cond.static ({ cls := "FormulaEditorModel", name := "wraps", desc := "([II)Z" } : Jvm.MethodName)) ∈ lw_all := lw_g (lw_at lw_m11 196 rfl) rfl
theorem q2654 : (Jvm.Cond.code ({ cls := "FormulaEditorModel", name := "wraps", desc := "([II)Z" } : Jvm.MethodName) prog_15_method_25_code (4 : Nat) (Option.some Jvm.ClassFile.FieldType.boolean)) ∈ lw_all := lw_g (lw_at lw_m11 197 rfl) rfl
theorem q2656 : (Jvm.Cond.instanceMethod ({ cls := "FormulaEditorModel", name := "backspace", desc := "()I" } : Jvm.MethodName)) ∈ lw_all := lw_g (lw_at lw_m11 199 rfl) rfl
theorem q2657 : (Jvm.Cond.selects "FormulaEditorModel" ({ cls := "FormulaEditorModel", name := "backspace", desc := "()I" } : Jvm.MethodName) ({ cls := "FormulaEditorModel", name := "backspace", desc := "()I" } : Jvm.MethodName)) ∈ lw_all := lw_g (lw_at lw_m11 200 rfl) rfl
theorem q2658 : (Jvm.Cond.code ({ cls := "FormulaEditorModel", name := "backspace", desc := "()I" } : Jvm.MethodName) prog_15_method_61_code (2 : Nat) (Option.some Jvm.ClassFile.FieldType.int)) ∈ lw_all := lw_g (lw_at lw_m11 201 rfl) rfl
theorem q2659 : (Jvm.Cond.methodLink "FormulaEditorModel" (243 : Nat) ({ cls := "FormulaEditorModel", name := "backs", desc := "([I)Z" } : Jvm.MethodName)) ∈ lw_all := lw_g (lw_at lw_m11 202 rfl) rfl
theorem q2660 : (Jvm.Cond.static ({ cls := "FormulaEditorModel", name := "backs", desc := "([I)Z" } : Jvm.MethodName)) ∈ lw_all := lw_g (lw_at lw_m11 203 rfl) rfl
theorem q2661 : (Jvm.Cond.code ({ cls := "FormulaEditorModel", name := "backs", desc := "([I)Z" } : Jvm.MethodName) prog_15_method_26_code (7 : Nat) (Option.some Jvm.ClassFile.FieldType.boolean)) ∈ lw_all := lw_g (lw_at lw_m11 204 rfl) rfl
theorem q2663 : (Jvm.Cond.instanceMethod ({ cls := "FormulaEditorModel", name := "paste", desc := "()I" } : Jvm.MethodName)) ∈ lw_all := lw_g (lw_at lw_m11 206 rfl) rfl
theorem q2664 : (Jvm.Cond.selects "FormulaEditorModel" ({ cls := "FormulaEditorModel", name := "paste", desc := "()I" } : Jvm.MethodName) ({ cls := "FormulaEditorModel", name := "paste", desc := "()I" } : Jvm.MethodName)) ∈ lw_all := lw_g (lw_at lw_m11 207 rfl) rfl
theorem q2665 : (Jvm.Cond.code ({ cls := "FormulaEditorModel", name := "paste", desc := "()I" } : Jvm.MethodName) prog_15_method_62_code (3 : Nat) (Option.some Jvm.ClassFile.FieldType.int)) ∈ lw_all := lw_g (lw_at lw_m11 208 rfl) rfl
theorem q2667 : (Jvm.Cond.instanceMethod ({ cls := "FormulaEditorModel", name := "replace", desc := "(II)I" } : Jvm.MethodName)) ∈ lw_all := lw_g (lw_at lw_m11 210 rfl) rfl
theorem q2668 : (Jvm.Cond.selects "FormulaEditorModel" ({ cls := "FormulaEditorModel", name := "replace", desc := "(II)I" } : Jvm.MethodName) ({ cls := "FormulaEditorModel", name := "replace", desc := "(II)I" } : Jvm.MethodName)) ∈ lw_all := lw_g (lw_at lw_m11 211 rfl) rfl
theorem q2669 : (Jvm.Cond.code ({ cls := "FormulaEditorModel", name := "replace", desc := "(II)I" } : Jvm.MethodName) prog_15_method_63_code (5 : Nat) (Option.some Jvm.ClassFile.FieldType.int)) ∈ lw_all := lw_g (lw_at lw_m11 212 rfl) rfl
theorem q2671 : (Jvm.Cond.instanceMethod ({ cls := "FormulaEditorModel", name := "undo", desc := "()I" } : Jvm.MethodName)) ∈ lw_all := lw_g (lw_at lw_m11 214 rfl) rfl
theorem q2672 : (Jvm.Cond.selects "FormulaEditorModel" ({ cls := "FormulaEditorModel", name := "undo", desc := "()I" } : Jvm.MethodName) ({ cls := "FormulaEditorModel", name := "undo", desc := "()I" } : Jvm.MethodName)) ∈ lw_all := lw_g (lw_at lw_m11 215 rfl) rfl
theorem q2673 : (Jvm.Cond.code ({ cls := "FormulaEditorModel", name := "undo", desc := "()I" } : Jvm.MethodName) prog_15_method_64_code (1 : Nat) (Option.some Jvm.ClassFile.FieldType.int)) ∈ lw_all := lw_g (lw_at lw_m11 216 rfl) rfl
theorem q2675 : (Jvm.Cond.instanceMethod ({ cls := "FormulaEditorModel", name := "drawing", desc := "(I)I" } : Jvm.MethodName)) ∈ lw_all := lw_g (lw_at lw_m11 218 rfl) rfl
theorem q2676 : (Jvm.Cond.selects "FormulaEditorModel" ({ cls := "FormulaEditorModel", name := "drawing", desc := "(I)I" } : Jvm.MethodName) ({ cls := "FormulaEditorModel", name := "drawing", desc := "(I)I" } : Jvm.MethodName)) ∈ lw_all := lw_g (lw_at lw_m11 219 rfl) rfl
theorem q2677 : (Jvm.Cond.code ({ cls := "FormulaEditorModel", name := "drawing", desc := "(I)I" } : Jvm.MethodName) prog_15_method_67_code (2 : Nat) (Option.some Jvm.ClassFile.FieldType.int)) ∈ lw_all := lw_g (lw_at lw_m11 220 rfl) rfl
theorem q2678 : (Jvm.Cond.methodLink "FormulaEditorModel" (249 : Nat) ({ cls := "FormulaEditorModel", name := "layBoxes", desc := "([I)V" } : Jvm.MethodName)) ∈ lw_all := lw_g (lw_at lw_m11 221 rfl) rfl
theorem q2679 : (Jvm.Cond.privateMethod ({ cls := "FormulaEditorModel", name := "layBoxes", desc := "([I)V" } : Jvm.MethodName)) ∈ lw_tbl := lw_at lw_m11 222 rfl
theorem q2680 : (Jvm.Cond.instanceMethod ({ cls := "FormulaEditorModel", name := "layBoxes", desc := "([I)V" } : Jvm.MethodName)) ∈ lw_all := lw_g (lw_at lw_m11 223 rfl) rfl
theorem q2681 : (Jvm.Cond.code ({ cls := "FormulaEditorModel", name := "layBoxes", desc := "([I)V" } : Jvm.MethodName) prog_15_method_66_code (3 : Nat) (Option.none : Option Jvm.ClassFile.FieldType)) ∈ lw_all := lw_g (lw_at lw_m11 224 rfl) rfl
theorem q2682 : (Jvm.Cond.methodLink "FormulaEditorModel" (246 : Nat) ({ cls := "FormulaEditorModel", name := "layRow", desc := "([II)V" } : Jvm.MethodName)) ∈ lw_all := lw_g (lw_at lw_m11 225 rfl) rfl
theorem q2683 : (Jvm.Cond.privateMethod ({ cls := "FormulaEditorModel", name := "layRow", desc := "([II)V" } : Jvm.MethodName)) ∈ lw_tbl := lw_at lw_m11 226 rfl
theorem q2684 : (Jvm.Cond.instanceMethod ({ cls := "FormulaEditorModel", name := "layRow", desc := "([II)V" } : Jvm.MethodName)) ∈ lw_all := lw_g (lw_at lw_m11 227 rfl) rfl
theorem q2685 : (Jvm.Cond.code ({ cls := "FormulaEditorModel", name := "layRow", desc := "([II)V" } : Jvm.MethodName) prog_15_method_65_code (11 : Nat) (Option.none : Option Jvm.ClassFile.FieldType)) ∈ lw_all := lw_g (lw_at lw_m11 228 rfl) rfl
theorem q2687 : (Jvm.Cond.instanceMethod ({ cls := "FormulaEditorModel", name := "drawn", desc := "(II)I" } : Jvm.MethodName)) ∈ lw_all := lw_g (lw_at lw_m11 230 rfl) rfl
theorem q2688 : (Jvm.Cond.selects "FormulaEditorModel" ({ cls := "FormulaEditorModel", name := "drawn", desc := "(II)I" } : Jvm.MethodName) ({ cls := "FormulaEditorModel", name := "drawn", desc := "(II)I" } : Jvm.MethodName)) ∈ lw_all := lw_g (lw_at lw_m11 231 rfl) rfl
theorem q2689 : (Jvm.Cond.code ({ cls := "FormulaEditorModel", name := "drawn", desc := "(II)I" } : Jvm.MethodName) prog_15_method_69_code (3 : Nat) (Option.some Jvm.ClassFile.FieldType.int)) ∈ lw_all := lw_g (lw_at lw_m11 232 rfl) rfl
theorem q2690 : (Jvm.Cond.methodLink "FormulaEditorModel" (252 : Nat) ({ cls := "FormulaEditorModel", name := "signAt", desc := "([III)I" } : Jvm.MethodName)) ∈ lw_all := lw_g (lw_at lw_m11 233 rfl) rfl
theorem q2691 : (Jvm.Cond.privateMethod ({ cls := "FormulaEditorModel", name := "signAt", desc := "([III)I" } : Jvm.MethodName)) ∈ lw_tbl := lw_at lw_m11 234 rfl
theorem q2692 : (Jvm.Cond.instanceMethod ({ cls := "FormulaEditorModel", name := "signAt", desc := "([III)I" } : Jvm.MethodName)) ∈ lw_all := lw_g (lw_at lw_m11 235 rfl) rfl
theorem q2693 : (Jvm.Cond.code ({ cls := "FormulaEditorModel", name := "signAt", desc := "([III)I" } : Jvm.MethodName) prog_15_method_68_code (9 : Nat) (Option.some Jvm.ClassFile.FieldType.int)) ∈ lw_all := lw_g (lw_at lw_m11 236 rfl) rfl
theorem q2695 : (Jvm.Cond.instanceMethod ({ cls := "FormulaEditorModel", name := "runScript", desc := "(IJ)I" } : Jvm.MethodName)) ∈ lw_all := lw_g (lw_at lw_m11 238 rfl) rfl
theorem q2696 : (Jvm.Cond.selects "FormulaEditorModel" ({ cls := "FormulaEditorModel", name := "runScript", desc := "(IJ)I" } : Jvm.MethodName) ({ cls := "FormulaEditorModel", name := "runScript", desc := "(IJ)I" } : Jvm.MethodName)) ∈ lw_all := lw_g (lw_at lw_m11 239 rfl) rfl
theorem q2697 : (Jvm.Cond.code ({ cls := "FormulaEditorModel", name := "runScript", desc := "(IJ)I" } : Jvm.MethodName) prog_15_method_72_code (6 : Nat) (Option.some Jvm.ClassFile.FieldType.int)) ∈ lw_all := lw_g (lw_at lw_m12 0 rfl) rfl
theorem q2698 : (Jvm.Cond.constantLong "FormulaEditorModel" (257 : Nat) (4 : Int64)) ∈ lw_all := lw_g (lw_at lw_m12 1 rfl) rfl
theorem q2699 : (Jvm.Cond.methodLink "FormulaEditorModel" (259 : Nat) ({ cls := "FormulaEditorModel", name := "tenTo", desc := "(I)J" } : Jvm.MethodName)) ∈ lw_all := lw_g (lw_at lw_m12 2 rfl) rfl
theorem q2700 : (Jvm.Cond.static ({ cls := "FormulaEditorModel", name := "tenTo", desc := "(I)J" } : Jvm.MethodName)) ∈ lw_all := lw_g (lw_at lw_m12 3 rfl) rfl
theorem q2701 : (Jvm.Cond.code ({ cls := "FormulaEditorModel", name := "tenTo", desc := "(I)J" } : Jvm.MethodName) prog_15_method_71_code (4 : Nat) (Option.some Jvm.ClassFile.FieldType.long)) ∈ lw_all := lw_g (lw_at lw_m12 4 rfl) rfl
theorem q2702 : (Jvm.Cond.constantLong "FormulaEditorModel" (255 : Nat) (10 : Int64)) ∈ lw_all := lw_g (lw_at lw_m12 5 rfl) rfl
theorem q2703 : (Jvm.Cond.constantLong "FormulaEditorModel" (263 : Nat) (10000 : Int64)) ∈ lw_all := lw_g (lw_at lw_m12 6 rfl) rfl
theorem q2704 : (Jvm.Cond.methodLink "FormulaEditorModel" (265 : Nat) ({ cls := "FormulaEditorModel", name := "does", desc := "(III)Z" } : Jvm.MethodName)) ∈ lw_all := lw_g (lw_at lw_m12 7 rfl) rfl
theorem q2705 : (Jvm.Cond.privateMethod ({ cls := "FormulaEditorModel", name := "does", desc := "(III)Z" } : Jvm.MethodName)) ∈ lw_tbl := lw_at lw_m12 8 rfl
theorem q2706 : (Jvm.Cond.instanceMethod ({ cls := "FormulaEditorModel", name := "does", desc := "(III)Z" } : Jvm.MethodName)) ∈ lw_all := lw_g (lw_at lw_m12 9 rfl) rfl
theorem q2707 : (Jvm.Cond.code ({ cls := "FormulaEditorModel", name := "does", desc := "(III)Z" } : Jvm.MethodName) prog_15_method_70_code (4 : Nat) (Option.some Jvm.ClassFile.FieldType.boolean)) ∈ lw_all := lw_g (lw_at lw_m12 10 rfl) rfl
theorem q2709 : (Jvm.Cond.instanceMethod ({ cls := "FormulaEditorModel", name := "simulate", desc := "(JI)I" } : Jvm.MethodName)) ∈ lw_all := lw_g (lw_at lw_m12 12 rfl) rfl
theorem q2710 : (Jvm.Cond.selects "FormulaEditorModel" ({ cls := "FormulaEditorModel", name := "simulate", desc := "(JI)I" } : Jvm.MethodName) ({ cls := "FormulaEditorModel", name := "simulate", desc := "(JI)I" } : Jvm.MethodName)) ∈ lw_all := lw_g (lw_at lw_m12 13 rfl) rfl
theorem q2711 : (Jvm.Cond.code ({ cls := "FormulaEditorModel", name := "simulate", desc := "(JI)I" } : Jvm.MethodName) prog_15_method_73_code (9 : Nat) (Option.some Jvm.ClassFile.FieldType.int)) ∈ lw_all := lw_g (lw_at lw_m12 14 rfl) rfl
theorem q2712 : (Jvm.Cond.constantLong "FormulaEditorModel" (269 : Nat) (60 : Int64)) ∈ lw_all := lw_g (lw_at lw_m12 15 rfl) rfl
theorem q2713 : (Jvm.Cond.constantLong "FormulaEditorModel" (271 : Nat) (6364136223846793005 : Int64)) ∈ lw_all := lw_g (lw_at lw_m12 16 rfl) rfl
theorem q2714 : (Jvm.Cond.constantLong "FormulaEditorModel" (273 : Nat) (1442695040888963407 : Int64)) ∈ lw_all := lw_g (lw_at lw_m12 17 rfl) rfl
theorem q2716 : (Jvm.Cond.instanceMethod ({ cls := "FormulaEditorModel", name := "save", desc := "(I)I" } : Jvm.MethodName)) ∈ lw_all := lw_g (lw_at lw_m12 19 rfl) rfl
theorem q2717 : (Jvm.Cond.selects "FormulaEditorModel" ({ cls := "FormulaEditorModel", name := "save", desc := "(I)I" } : Jvm.MethodName) ({ cls := "FormulaEditorModel", name := "save", desc := "(I)I" } : Jvm.MethodName)) ∈ lw_all := lw_g (lw_at lw_m12 20 rfl) rfl
theorem q2718 : (Jvm.Cond.code ({ cls := "FormulaEditorModel", name := "save", desc := "(I)I" } : Jvm.MethodName) prog_15_method_74_code (2 : Nat) (Option.some Jvm.ClassFile.FieldType.int)) ∈ lw_all := lw_g (lw_at lw_m12 21 rfl) rfl
theorem q2720 : (Jvm.Cond.instanceMethod ({ cls := "FormulaEditorModel", name := "restore", desc := "(I)I" } : Jvm.MethodName)) ∈ lw_all := lw_g (lw_at lw_m12 23 rfl) rfl
theorem q2721 : (Jvm.Cond.selects "FormulaEditorModel" ({ cls := "FormulaEditorModel", name := "restore", desc := "(I)I" } : Jvm.MethodName) ({ cls := "FormulaEditorModel", name := "restore", desc := "(I)I" } : Jvm.MethodName)) ∈ lw_all := lw_g (lw_at lw_m12 24 rfl) rfl
theorem q2722 : (Jvm.Cond.code ({ cls := "FormulaEditorModel", name := "restore", desc := "(I)I" } : Jvm.MethodName) prog_15_method_75_code (2 : Nat) (Option.some Jvm.ClassFile.FieldType.int)) ∈ lw_all := lw_g (lw_at lw_m12 25 rfl) rfl
theorem q2753 : (Jvm.Cond.castable "FormulaEditorModel" "java/lang/Object") ∈ lw_tbl := lw_at lw_m12 56 rfl
