set_option maxRecDepth 100000
abbrev cX10_init : ByteArray := prog_9_method_1_code
def yX10_init : MethodName := ⟨RX10, "<init>", "(IZ)V"⟩
def dkwX10_init_0 : List UInt8 := [42, 183, 0, 1, 42, 27, 181, 0, 7, 42, 28, 181, 0, 13, 177]
abbrev dktX10_init_0 : List UInt8 := dkwX10_init_0 ++ []
theorem dksX10_init_0 : cX10_init.data.toList.drop 0 = dktX10_init_0 := by decide +kernel
theorem dX10_init_0 : decode cX10_init 0 = .ok (.aload_n 0, 1) := dk_42 (dk_at dksX10_init_0 0 rfl rfl)
theorem dX10_init_1 : decode cX10_init 1 = .ok (.invokespecial 1, 3) := dk_183 0 1 (dk_at dksX10_init_0 1 rfl rfl)
theorem dX10_init_4 : decode cX10_init 4 = .ok (.aload_n 0, 1) := dk_42 (dk_at dksX10_init_0 4 rfl rfl)
theorem dX10_init_5 : decode cX10_init 5 = .ok (.iload_n 1, 1) := dk_27 (dk_at dksX10_init_0 5 rfl rfl)
theorem dX10_init_6 : decode cX10_init 6 = .ok (.putfield 7, 3) := dk_181 0 7 (dk_at dksX10_init_0 6 rfl rfl)
theorem dX10_init_9 : decode cX10_init 9 = .ok (.aload_n 0, 1) := dk_42 (dk_at dksX10_init_0 9 rfl rfl)
theorem dX10_init_10 : decode cX10_init 10 = .ok (.iload_n 2, 1) := dk_28 (dk_at dksX10_init_0 10 rfl rfl)
theorem dX10_init_11 : decode cX10_init 11 = .ok (.putfield 13, 3) := dk_181 0 13 (dk_at dksX10_init_0 11 rfl rfl)
theorem dX10_init_14 : decode cX10_init 14 = .ok (.return_, 1) := dk_177 (dk_at dksX10_init_0 14 rfl rfl)
theorem q101 : (Jvm.Cond.initialized "FormulaEditor$Role") ∈ lw_all := lw_g (lw_at lw_m1 44 rfl) rfl
theorem q201 : (Jvm.Cond.selects "FormulaEditor$Role" ({ cls := "java/lang/Object", name := "hashCode", desc := "()I" } : Jvm.MethodName) ({ cls := "java/lang/Object", name := "hashCode", desc := "()I" } : Jvm.MethodName)) ∈ lw_all := lw_g (lw_at lw_m1 144 rfl) rfl
theorem q666 : (Jvm.Cond.selects "FormulaEditor$Role" ({ cls := "java/lang/Object", name := "getClass", desc := "()Ljava/lang/Class;" } : Jvm.MethodName) ({ cls := "java/lang/Object", name := "getClass", desc := "()Ljava/lang/Class;" } : Jvm.MethodName)) ∈ lw_all := lw_g (lw_at lw_m3 129 rfl) rfl
theorem q927 : (Jvm.Cond.selects "FormulaEditor$Role" ({ cls := "java/lang/Object", name := "equals", desc := "(Ljava/lang/Object;)Z" } : Jvm.MethodName) ({ cls := "java/lang/Object", name := "equals", desc := "(Ljava/lang/Object;)Z" } : Jvm.MethodName)) ∈ lw_all := lw_g (lw_at lw_m4 150 rfl) rfl
theorem q1593 : (Jvm.Cond.instantiable "FormulaEditor$Role" (2 : Nat)) ∈ lw_all := lw_g (lw_at lw_m7 96 rfl) rfl
theorem q1595 : (Jvm.Cond.instanceMethod ({ cls := "FormulaEditor$Role", name := "<init>", desc := "(IZ)V" } : Jvm.MethodName)) ∈ lw_all := lw_g (lw_at lw_m7 98 rfl) rfl
theorem q1596 : (Jvm.Cond.code ({ cls := "FormulaEditor$Role", name := "<init>", desc := "(IZ)V" } : Jvm.MethodName) prog_9_method_1_code (3 : Nat) (Option.none : Option Jvm.ClassFile.FieldType)) ∈ lw_all := lw_g (lw_at lw_m7 99 rfl) rfl
theorem q1597 : (Jvm.Cond.methodLink "FormulaEditor$Role" (1 : Nat) ({ cls := "java/lang/Object", name := "<init>", desc := "()V" } : Jvm.MethodName)) ∈ lw_all := lw_g (lw_at lw_m7 100 rfl) rfl
theorem q1598 : (Jvm.Cond.fieldLink "FormulaEditor$Role" (7 : Nat) "FormulaEditor$Role" "script" "I") ∈ lw_all := lw_g (lw_at lw_m7 101 rfl) rfl
theorem q1600 : (Jvm.Cond.fieldLink "FormulaEditor$Role" (13 : Nat) "FormulaEditor$Role" "isOfFactor" "Z") ∈ lw_all := lw_g (lw_at lw_m7 103 rfl) rfl
theorem q1602 : (Jvm.Cond.laysFinal "FormulaEditor$Role" "FormulaEditor$Role" "script" "I") ∈ lw_all := lw_g (lw_at lw_m7 105 rfl) rfl
theorem q1603 : (Jvm.Cond.soleField "FormulaEditor$Role" "script") ∈ lw_all := lw_g (lw_at lw_m7 106 rfl) rfl
theorem q1604 : (Jvm.Cond.laysFinal "FormulaEditor$Role" "FormulaEditor$Role" "isOfFactor" "Z") ∈ lw_all := lw_g (lw_at lw_m7 107 rfl) rfl
theorem q1605 : (Jvm.Cond.soleField "FormulaEditor$Role" "isOfFactor") ∈ lw_all := lw_g (lw_at lw_m7 108 rfl) rfl
theorem q1606 : (Jvm.Cond.superclass "FormulaEditor$Role" "java/lang/Object") ∈ lw_all := lw_g (lw_at lw_m7 109 rfl) rfl
theorem q2762 : (Jvm.Cond.castable "FormulaEditor$Role" "java/lang/Object") ∈ lw_tbl := lw_at lw_m12 65 rfl
abbrev cX11_code : ByteArray := prog_13_method_5_code
def yX11_code : MethodName := ⟨RX11, "code", "()I"⟩
theorem dX11_code_0 : decode cX11_code 0 = .ok (.aload_n 0, 1) := by decide +kernel
theorem dX11_code_1 : decode cX11_code 1 = .ok (.getfield 7, 3) := by decide +kernel
theorem dX11_code_4 : decode cX11_code 4 = .ok (.ireturn, 1) := by decide +kernel
abbrev cX11_init : ByteArray := prog_13_method_1_code
def yX11_init : MethodName := ⟨RX11, "<init>", "(I)V"⟩
def dkwX11_init_0 : List UInt8 := [42, 183, 0, 1, 42, 27, 146, 181, 0, 7, 177]
abbrev dktX11_init_0 : List UInt8 := dkwX11_init_0 ++ []
theorem dksX11_init_0 : cX11_init.data.toList.drop 0 = dktX11_init_0 := by decide +kernel
theorem dX11_init_0 : decode cX11_init 0 = .ok (.aload_n 0, 1) := dk_42 (dk_at dksX11_init_0 0 rfl rfl)
theorem dX11_init_1 : decode cX11_init 1 = .ok (.invokespecial 1, 3) := dk_183 0 1 (dk_at dksX11_init_0 1 rfl rfl)
theorem dX11_init_4 : decode cX11_init 4 = .ok (.aload_n 0, 1) := dk_42 (dk_at dksX11_init_0 4 rfl rfl)
theorem dX11_init_5 : decode cX11_init 5 = .ok (.iload_n 1, 1) := dk_27 (dk_at dksX11_init_0 5 rfl rfl)
theorem dX11_init_6 : decode cX11_init 6 = .ok (.i2c, 1) := dk_146 (dk_at dksX11_init_0 6 rfl rfl)
theorem dX11_init_7 : decode cX11_init 7 = .ok (.putfield 7, 3) := dk_181 0 7 (dk_at dksX11_init_0 7 rfl rfl)
theorem dX11_init_10 : decode cX11_init 10 = .ok (.return_, 1) := dk_177 (dk_at dksX11_init_0 10 rfl rfl)
abbrev cX11_isBase : ByteArray := prog_13_method_6_code
def yX11_isBase : MethodName := ⟨RX11, "isBase", "()Z"⟩
def dkwX11_isBase_0 : List UInt8 := [42, 180, 0, 7, 184, 0, 16, 172]
abbrev dktX11_isBase_0 : List UInt8 := dkwX11_isBase_0 ++ []
theorem dksX11_isBase_0 : cX11_isBase.data.toList.drop 0 = dktX11_isBase_0 := by decide +kernel
theorem dX11_isBase_0 : decode cX11_isBase 0 = .ok (.aload_n 0, 1) := dk_42 (dk_at dksX11_isBase_0 0 rfl rfl)
theorem dX11_isBase_1 : decode cX11_isBase 1 = .ok (.getfield 7, 3) := dk_180 0 7 (dk_at dksX11_isBase_0 1 rfl rfl)
theorem dX11_isBase_4 : decode cX11_isBase 4 = .ok (.invokestatic 16, 3) := dk_184 0 16 (dk_at dksX11_isBase_0 4 rfl rfl)
theorem dX11_isBase_7 : decode cX11_isBase 7 = .ok (.ireturn, 1) := dk_172 (dk_at dksX11_isBase_0 7 rfl rfl)
abbrev cX11_size : ByteArray := prog_13_method_3_code
def yX11_size : MethodName := ⟨RX11, "size", "()I"⟩
theorem dX11_size_0 : decode cX11_size 0 = .ok (.iconst 1, 1) := by decide +kernel
theorem dX11_size_1 : decode cX11_size 1 = .ok (.ireturn, 1) := by decide +kernel
abbrev cX11_depth : ByteArray := prog_13_method_4_code
def yX11_depth : MethodName := ⟨RX11, "depth", "()I"⟩
theorem dX11_depth_0 : decode cX11_depth 0 = .ok (.iconst 0, 1) := by decide +kernel
theorem dX11_depth_1 : decode cX11_depth 1 = .ok (.ireturn, 1) := by decide +kernel
abbrev cX11_copy : ByteArray := prog_13_method_2_code
def yX11_copy : MethodName := ⟨RX11, "copy", "()LFormulaEditor$Item;"⟩
def dkwX11_copy_0 : List UInt8 := [187, 0, 8, 89, 42, 180, 0, 7, 183, 0, 13, 176]
abbrev dktX11_copy_0 : List UInt8 := dkwX11_copy_0 ++ []
theorem dksX11_copy_0 : cX11_copy.data.toList.drop 0 = dktX11_copy_0 := by decide +kernel
theorem dX11_copy_0 : decode cX11_copy 0 = .ok (.new 8, 3) := dk_187 0 8 (dk_at dksX11_copy_0 0 rfl rfl)
theorem dX11_copy_3 : decode cX11_copy 3 = .ok (.dup, 1) := dk_89 (dk_at dksX11_copy_0 3 rfl rfl)
theorem dX11_copy_4 : decode cX11_copy 4 = .ok (.aload_n 0, 1) := dk_42 (dk_at dksX11_copy_0 4 rfl rfl)
theorem dX11_copy_5 : decode cX11_copy 5 = .ok (.getfield 7, 3) := dk_180 0 7 (dk_at dksX11_copy_0 5 rfl rfl)
theorem dX11_copy_8 : decode cX11_copy 8 = .ok (.invokespecial 13, 3) := dk_183 0 13 (dk_at dksX11_copy_0 8 rfl rfl)
theorem dX11_copy_11 : decode cX11_copy 11 = .ok (.areturn, 1) := dk_176 (dk_at dksX11_copy_0 11 rfl rfl)
theorem q102 : (Jvm.Cond.initialized "FormulaEditor$Symbol") ∈ lw_all := lw_g (lw_at lw_m1 45 rfl) rfl
theorem q204 : (Jvm.Cond.selects "FormulaEditor$Symbol" ({ cls := "java/lang/Object", name := "hashCode", desc := "()I" } : Jvm.MethodName) ({ cls := "java/lang/Object", name := "hashCode", desc := "()I" } : Jvm.MethodName)) ∈ lw_all := lw_g (lw_at lw_m1 147 rfl) rfl
theorem q669 : (Jvm.Cond.selects "FormulaEditor$Symbol" ({ cls := "java/lang/Object", name := "getClass", desc := "()Ljava/lang/Class;" } : Jvm.MethodName) ({ cls := "java/lang/Object", name := "getClass", desc := "()Ljava/lang/Class;" } : Jvm.MethodName)) ∈ lw_all := lw_g (lw_at lw_m3 132 rfl) rfl
theorem q930 : (Jvm.Cond.selects "FormulaEditor$Symbol" ({ cls := "java/lang/Object", name := "equals", desc := "(Ljava/lang/Object;)Z" } : Jvm.MethodName) ({ cls := "java/lang/Object", name := "equals", desc := "(Ljava/lang/Object;)Z" } : Jvm.MethodName)) ∈ lw_all := lw_g (lw_at lw_m4 153 rfl) rfl
theorem q1130 : (Jvm.Cond.selects "FormulaEditor$Symbol" ({ cls := "FormulaEditor$Item", name := "code", desc := "()I" } : Jvm.MethodName) ({ cls := "FormulaEditor$Symbol", name := "code", desc := "()I" } : Jvm.MethodName)) ∈ lw_all := lw_g (lw_at lw_m5 113 rfl) rfl
theorem q1131 : (Jvm.Cond.instanceMethod ({ cls := "FormulaEditor$Symbol", name := "code", desc := "()I" } : Jvm.MethodName)) ∈ lw_all := lw_g (lw_at lw_m5 114 rfl) rfl
theorem q1132 : (Jvm.Cond.code ({ cls := "FormulaEditor$Symbol", name := "code", desc := "()I" } : Jvm.MethodName) prog_13_method_5_code (1 : Nat) (Option.some Jvm.ClassFile.FieldType.int)) ∈ lw_all := lw_g (lw_at lw_m5 115 rfl) rfl
theorem q1608 : (Jvm.Cond.instantiable "FormulaEditor$Symbol" (2 : Nat)) ∈ lw_all := lw_g (lw_at lw_m7 111 rfl) rfl
theorem q1610 : (Jvm.Cond.instanceMethod ({ cls := "FormulaEditor$Symbol", name := "<init>", desc := "(I)V" } : Jvm.MethodName)) ∈ lw_all := lw_g (lw_at lw_m7 113 rfl) rfl
theorem q1611 : (Jvm.Cond.code ({ cls := "FormulaEditor$Symbol", name := "<init>", desc := "(I)V" } : Jvm.MethodName) prog_13_method_1_code (2 : Nat) (Option.none : Option Jvm.ClassFile.FieldType)) ∈ lw_all := lw_g (lw_at lw_m7 114 rfl) rfl
theorem q1612 : (Jvm.Cond.methodLinkNest "FormulaEditor$Symbol" (1 : Nat) ({ cls := "FormulaEditor$Item", name := "<init>", desc := "()V" } : Jvm.MethodName) "FormulaEditor") ∈ lw_tbl := lw_at lw_m7 115 rfl
theorem q1613 : (Jvm.Cond.fieldLink "FormulaEditor$Symbol" (7 : Nat) "FormulaEditor$Symbol" "sign" "C") ∈ lw_all := lw_g (lw_at lw_m7 116 rfl) rfl
theorem q1615 : (Jvm.Cond.lays "FormulaEditor$Symbol" "FormulaEditor$Symbol" "sign" "C") ∈ lw_all := lw_g (lw_at lw_m7 118 rfl) rfl
theorem q1616 : (Jvm.Cond.soleField "FormulaEditor$Symbol" "sign") ∈ lw_all := lw_g (lw_at lw_m7 119 rfl) rfl
theorem q1617 : (Jvm.Cond.lays "FormulaEditor$Symbol" "FormulaEditor$Item" "row" "LFormulaEditor$Row;") ∈ lw_all := lw_g (lw_at lw_m7 120 rfl) rfl
theorem q1618 : (Jvm.Cond.superclass "FormulaEditor$Symbol" "FormulaEditor$Item") ∈ lw_all := lw_g (lw_at lw_m7 121 rfl) rfl
theorem q1769 : (Jvm.Cond.selects "FormulaEditor$Symbol" ({ cls := "FormulaEditor$Item", name := "isBase", desc := "()Z" } : Jvm.MethodName) ({ cls := "FormulaEditor$Symbol", name := "isBase", desc := "()Z" } : Jvm.MethodName)) ∈ lw_all := lw_g (lw_at lw_m8 32 rfl) rfl
theorem q1770 : (Jvm.Cond.instanceMethod ({ cls := "FormulaEditor$Symbol", name := "isBase", desc := "()Z" } : Jvm.MethodName)) ∈ lw_all := lw_g (lw_at lw_m8 33 rfl) rfl
theorem q1771 : (Jvm.Cond.code ({ cls := "FormulaEditor$Symbol", name := "isBase", desc := "()Z" } : Jvm.MethodName) prog_13_method_6_code (1 : Nat) (Option.some Jvm.ClassFile.FieldType.boolean)) ∈ lw_all := lw_g (lw_at lw_m8 34 rfl) rfl
theorem q1772 : (Jvm.Cond.methodLinkNest "FormulaEditor$Symbol" (16 : Nat) ({ cls := "FormulaEditor", name := "isOperand", desc := "(I)Z" } : Jvm.MethodName) "FormulaEditor") ∈ lw_tbl := lw_at lw_m8 35 rfl
theorem q1925 : (Jvm.Cond.selects "FormulaEditor$Symbol" ({ cls := "FormulaEditor$Item", name := "size", desc := "()I" } : Jvm.MethodName) ({ cls := "FormulaEditor$Symbol", name := "size", desc := "()I" } : Jvm.MethodName)) ∈ lw_all := lw_g (lw_at lw_m8 188 rfl) rfl
theorem q1926 : (Jvm.Cond.instanceMethod ({ cls := "FormulaEditor$Symbol", name := "size", desc := "()I" } : Jvm.MethodName)) ∈ lw_all := lw_g (lw_at lw_m8 189 rfl) rfl
theorem q1927 : (Jvm.Cond.code ({ cls := "FormulaEditor$Symbol", name := "size", desc := "()I" } : Jvm.MethodName) prog_13_method_3_code (1 : Nat) (Option.some Jvm.ClassFile.FieldType.int)) ∈ lw_all := lw_g (lw_at lw_m8 190 rfl) rfl
theorem q1951 : (Jvm.Cond.selects "FormulaEditor$Symbol" ({ cls := "FormulaEditor$Item", name := "depth", desc := "()I" } : Jvm.MethodName) ({ cls := "FormulaEditor$Symbol", name := "depth", desc := "()I" } : Jvm.MethodName)) ∈ lw_all := lw_g (lw_at lw_m8 214 rfl) rfl
theorem q1952 : (Jvm.Cond.instanceMethod ({ cls := "FormulaEditor$Symbol", name := "depth", desc := "()I" } : Jvm.MethodName)) ∈ lw_all := lw_g (lw_at lw_m8 215 rfl) rfl
theorem q1953 : (Jvm.Cond.code ({ cls := "FormulaEditor$Symbol", name := "depth", desc := "()I" } : Jvm.MethodName) prog_13_method_4_code (1 : Nat) (Option.some Jvm.ClassFile.FieldType.int)) ∈ lw_all := lw_g (lw_at lw_m8 216 rfl) rfl
theorem q2114 : (Jvm.Cond.selects "FormulaEditor$Symbol" ({ cls := "FormulaEditor$Item", name := "copy", desc := "()LFormulaEditor$Item;" } : Jvm.MethodName) ({ cls := "FormulaEditor$Symbol", name := "copy", desc := "()LFormulaEditor$Item;" } : Jvm.MethodName)) ∈ lw_all := lw_g (lw_at lw_m9 137 rfl) rfl
theorem q2115 : (Jvm.Cond.instanceMethod ({ cls := "FormulaEditor$Symbol", name := "copy", desc := "()LFormulaEditor$Item;" } : Jvm.MethodName)) ∈ lw_all := lw_g (lw_at lw_m9 138 rfl) rfl
theorem q2116 : (Jvm.Cond.code ({ cls := "FormulaEditor$Symbol", name := "copy", desc := "()LFormulaEditor$Item;" } : Jvm.MethodName) prog_13_method_2_code (1 : Nat) (Option.some (Jvm.ClassFile.FieldType.object "FormulaEditor$Item"))) ∈ lw_all := lw_g (lw_at lw_m9 139 rfl) rfl
theorem q2117 : (Jvm.Cond.classLink "FormulaEditor$Symbol" (8 : Nat) "FormulaEditor$Symbol") ∈ lw_all := lw_g (lw_at lw_m9 140 rfl) rfl
theorem q2118 : (Jvm.Cond.methodLink "FormulaEditor$Symbol" (13 : Nat) ({ cls := "FormulaEditor$Symbol", name := "<init>", desc := "(I)V" } : Jvm.MethodName)) ∈ lw_all := lw_g (lw_at lw_m9 141 rfl) rfl
theorem q2739 : (Jvm.Cond.castable "FormulaEditor$Symbol" "FormulaEditor$Item") ∈ lw_tbl := lw_at lw_m12 42 rfl
theorem q2763 : (Jvm.Cond.castable "FormulaEditor$Symbol" "java/lang/Object") ∈ lw_tbl := lw_at lw_m12 66 rfl
abbrev cX2_lines : ByteArray := prog_2_method_2_code
def yX2_lines : MethodName := ⟨RX2, "lines", "()I"⟩
def dkwX2_lines_0 : List UInt8 := [42, 180, 0, 13, 4, 96, 42, 180, 0, 16, 96, 172]
abbrev dktX2_lines_0 : List UInt8 := dkwX2_lines_0 ++ []
theorem dksX2_lines_0 : cX2_lines.data.toList.drop 0 = dktX2_lines_0 := by decide +kernel
theorem dX2_lines_0 : decode cX2_lines 0 = .ok (.aload_n 0, 1) := dk_42 (dk_at dksX2_lines_0 0 rfl rfl)
theorem dX2_lines_1 : decode cX2_lines 1 = .ok (.getfield 13, 3) := dk_180 0 13 (dk_at dksX2_lines_0 1 rfl rfl)
theorem dX2_lines_4 : decode cX2_lines 4 = .ok (.iconst 1, 1) := dk_4 (dk_at dksX2_lines_0 4 rfl rfl)
theorem dX2_lines_5 : decode cX2_lines 5 = .ok (.iadd, 1) := dk_96 (dk_at dksX2_lines_0 5 rfl rfl)
theorem dX2_lines_6 : decode cX2_lines 6 = .ok (.aload_n 0, 1) := dk_42 (dk_at dksX2_lines_0 6 rfl rfl)
theorem dX2_lines_7 : decode cX2_lines 7 = .ok (.getfield 16, 3) := dk_180 0 16 (dk_at dksX2_lines_0 7 rfl rfl)
theorem dX2_lines_10 : decode cX2_lines 10 = .ok (.iadd, 1) := dk_96 (dk_at dksX2_lines_0 10 rfl rfl)
theorem dX2_lines_11 : decode cX2_lines 11 = .ok (.ireturn, 1) := dk_172 (dk_at dksX2_lines_0 11 rfl rfl)
abbrev cX2_init : ByteArray := prog_2_method_1_code
def yX2_init : MethodName := ⟨RX2, "<init>", "(III)V"⟩
def dkwX2_init_0 : List UInt8 := [42, 183, 0, 1, 42, 27, 181, 0, 7, 42, 28, 181, 0, 13, 42, 29, 181, 0, 16, 177]
abbrev dktX2_init_0 : List UInt8 := dkwX2_init_0 ++ []
theorem dksX2_init_0 : cX2_init.data.toList.drop 0 = dktX2_init_0 := by decide +kernel
theorem dX2_init_0 : decode cX2_init 0 = .ok (.aload_n 0, 1) := dk_42 (dk_at dksX2_init_0 0 rfl rfl)
theorem dX2_init_1 : decode cX2_init 1 = .ok (.invokespecial 1, 3) := dk_183 0 1 (dk_at dksX2_init_0 1 rfl rfl)
theorem dX2_init_4 : decode cX2_init 4 = .ok (.aload_n 0, 1) := dk_42 (dk_at dksX2_init_0 4 rfl rfl)
theorem dX2_init_5 : decode cX2_init 5 = .ok (.iload_n 1, 1) := dk_27 (dk_at dksX2_init_0 5 rfl rfl)
theorem dX2_init_6 : decode cX2_init 6 = .ok (.putfield 7, 3) := dk_181 0 7 (dk_at dksX2_init_0 6 rfl rfl)
theorem dX2_init_9 : decode cX2_init 9 = .ok (.aload_n 0, 1) := dk_42 (dk_at dksX2_init_0 9 rfl rfl)
theorem dX2_init_10 : decode cX2_init 10 = .ok (.iload_n 2, 1) := dk_28 (dk_at dksX2_init_0 10 rfl rfl)
theorem dX2_init_11 : decode cX2_init 11 = .ok (.putfield 13, 3) := dk_181 0 13 (dk_at dksX2_init_0 11 rfl rfl)
theorem dX2_init_14 : decode cX2_init 14 = .ok (.aload_n 0, 1) := dk_42 (dk_at dksX2_init_0 14 rfl rfl)
theorem dX2_init_15 : decode cX2_init 15 = .ok (.iload_n 3, 1) := dk_29 (dk_at dksX2_init_0 15 rfl rfl)
theorem dX2_init_16 : decode cX2_init 16 = .ok (.putfield 16, 3) := dk_181 0 16 (dk_at dksX2_init_0 16 rfl rfl)
theorem dX2_init_19 : decode cX2_init 19 = .ok (.return_, 1) := dk_177 (dk_at dksX2_init_0 19 rfl rfl)
theorem q86 : (Jvm.Cond.initialized "FormulaEditor$Box") ∈ lw_all := lw_g (lw_at lw_m1 29 rfl) rfl
theorem q197 : (Jvm.Cond.selects "FormulaEditor$Box" ({ cls := "java/lang/Object", name := "hashCode", desc := "()I" } : Jvm.MethodName) ({ cls := "java/lang/Object", name := "hashCode", desc := "()I" } : Jvm.MethodName)) ∈ lw_all := lw_g (lw_at lw_m1 140 rfl) rfl
theorem q662 : (Jvm.Cond.selects "FormulaEditor$Box" ({ cls := "java/lang/Object", name := "getClass", desc := "()Ljava/lang/Class;" } : Jvm.MethodName) ({ cls := "java/lang/Object", name := "getClass", desc := "()Ljava/lang/Class;" } : Jvm.MethodName)) ∈ lw_all := lw_g (lw_at lw_m3 125 rfl) rfl
theorem q923 : (Jvm.Cond.selects "FormulaEditor$Box" ({ cls := "java/lang/Object", name := "equals", desc := "(Ljava/lang/Object;)Z" } : Jvm.MethodName) ({ cls := "java/lang/Object", name := "equals", desc := "(Ljava/lang/Object;)Z" } : Jvm.MethodName)) ∈ lw_all := lw_g (lw_at lw_m4 146 rfl) rfl
theorem q1032 : (Jvm.Cond.instantiable "FormulaEditor$Box" (3 : Nat)) ∈ lw_all := lw_g (lw_at lw_m5 15 rfl) rfl
theorem q1039 : (Jvm.Cond.instanceMethod ({ cls := "FormulaEditor$Box", name := "lines", desc := "()I" } : Jvm.MethodName)) ∈ lw_all := lw_g (lw_at lw_m5 22 rfl) rfl
theorem q1040 : (Jvm.Cond.selects "FormulaEditor$Box" ({ cls := "FormulaEditor$Box", name := "lines", desc := "()I" } : Jvm.MethodName) ({ cls := "FormulaEditor$Box", name := "lines", desc := "()I" } : Jvm.MethodName)) ∈ lw_all := lw_g (lw_at lw_m5 23 rfl) rfl
theorem q1041 : (Jvm.Cond.code ({ cls := "FormulaEditor$Box", name := "lines", desc := "()I" } : Jvm.MethodName) prog_2_method_2_code (1 : Nat) (Option.some Jvm.ClassFile.FieldType.int)) ∈ lw_all := lw_g (lw_at lw_m5 24 rfl) rfl
theorem q1043 : (Jvm.Cond.instanceMethod ({ cls := "FormulaEditor$Box", name := "<init>", desc := "(III)V" } : Jvm.MethodName)) ∈ lw_all := lw_g (lw_at lw_m5 26 rfl) rfl
theorem q1044 : (Jvm.Cond.code ({ cls := "FormulaEditor$Box", name := "<init>", desc := "(III)V" } : Jvm.MethodName) prog_2_method_1_code (4 : Nat) (Option.none : Option Jvm.ClassFile.FieldType)) ∈ lw_all := lw_g (lw_at lw_m5 27 rfl) rfl
theorem q1045 : (Jvm.Cond.methodLink "FormulaEditor$Box" (1 : Nat) ({ cls := "java/lang/Object", name := "<init>", desc := "()V" } : Jvm.MethodName)) ∈ lw_all := lw_g (lw_at lw_m5 28 rfl) rfl
theorem q1046 : (Jvm.Cond.fieldLink "FormulaEditor$Box" (7 : Nat) "FormulaEditor$Box" "width" "I") ∈ lw_all := lw_g (lw_at lw_m5 29 rfl) rfl
theorem q1048 : (Jvm.Cond.fieldLink "FormulaEditor$Box" (13 : Nat) "FormulaEditor$Box" "above" "I") ∈ lw_all := lw_g (lw_at lw_m5 31 rfl) rfl
theorem q1050 : (Jvm.Cond.fieldLink "FormulaEditor$Box" (16 : Nat) "FormulaEditor$Box" "below" "I") ∈ lw_all := lw_g (lw_at lw_m5 33 rfl) rfl
theorem q1052 : (Jvm.Cond.laysFinal "FormulaEditor$Box" "FormulaEditor$Box" "width" "I") ∈ lw_all := lw_g (lw_at lw_m5 35 rfl) rfl
theorem q1053 : (Jvm.Cond.soleField "FormulaEditor$Box" "width") ∈ lw_all := lw_g (lw_at lw_m5 36 rfl) rfl
theorem q1054 : (Jvm.Cond.laysFinal "FormulaEditor$Box" "FormulaEditor$Box" "above" "I") ∈ lw_all := lw_g (lw_at lw_m5 37 rfl) rfl
theorem q1055 : (Jvm.Cond.soleField "FormulaEditor$Box" "above") ∈ lw_all := lw_g (lw_at lw_m5 38 rfl) rfl
theorem q1056 : (Jvm.Cond.laysFinal "FormulaEditor$Box" "FormulaEditor$Box" "below" "I") ∈ lw_all := lw_g (lw_at lw_m5 39 rfl) rfl
theorem q1057 : (Jvm.Cond.soleField "FormulaEditor$Box" "below") ∈ lw_all := lw_g (lw_at lw_m5 40 rfl) rfl
theorem q1058 : (Jvm.Cond.superclass "FormulaEditor$Box" "java/lang/Object") ∈ lw_all := lw_g (lw_at lw_m5 41 rfl) rfl
theorem q2750 : (Jvm.Cond.castable "FormulaEditor$Box" "java/lang/Object") ∈ lw_tbl := lw_at lw_m12 53 rfl
abbrev cX3_init : ByteArray := prog_5_method_1_code
def yX3_init : MethodName := ⟨RX3, "<init>", "(LFormulaEditor$Row;)V"⟩
def dkwX3_init_0 : List UInt8 := [42, 183, 0, 3, 42, 43, 181, 0, 9, 42, 43, 181, 0, 15, 177]
abbrev dktX3_init_0 : List UInt8 := dkwX3_init_0 ++ []
theorem dksX3_init_0 : cX3_init.data.toList.drop 0 = dktX3_init_0 := by decide +kernel
theorem dX3_init_0 : decode cX3_init 0 = .ok (.aload_n 0, 1) := dk_42 (dk_at dksX3_init_0 0 rfl rfl)
theorem dX3_init_1 : decode cX3_init 1 = .ok (.invokespecial 3, 3) := dk_183 0 3 (dk_at dksX3_init_0 1 rfl rfl)
theorem dX3_init_4 : decode cX3_init 4 = .ok (.aload_n 0, 1) := dk_42 (dk_at dksX3_init_0 4 rfl rfl)
theorem dX3_init_5 : decode cX3_init 5 = .ok (.aload_n 1, 1) := dk_43 (dk_at dksX3_init_0 5 rfl rfl)
theorem dX3_init_6 : decode cX3_init 6 = .ok (.putfield 9, 3) := dk_181 0 9 (dk_at dksX3_init_0 6 rfl rfl)
theorem dX3_init_9 : decode cX3_init 9 = .ok (.aload_n 0, 1) := dk_42 (dk_at dksX3_init_0 9 rfl rfl)
theorem dX3_init_10 : decode cX3_init 10 = .ok (.aload_n 1, 1) := dk_43 (dk_at dksX3_init_0 10 rfl rfl)
theorem dX3_init_11 : decode cX3_init 11 = .ok (.putfield 15, 3) := dk_181 0 15 (dk_at dksX3_init_0 11 rfl rfl)
theorem dX3_init_14 : decode cX3_init 14 = .ok (.return_, 1) := dk_177 (dk_at dksX3_init_0 14 rfl rfl)
abbrev cX3_text : ByteArray := prog_5_method_18_code
def yX3_text : MethodName := ⟨RX3, "text", "()Ljava/lang/String;"⟩
def dkwX3_text_0 : List UInt8 := [187, 0, 163, 89, 183, 0, 165, 76, 42, 180, 0, 9, 43, 182, 0, 166, 43, 182, 0, 170, 176]
abbrev dktX3_text_0 : List UInt8 := dkwX3_text_0 ++ []
theorem dksX3_text_0 : cX3_text.data.toList.drop 0 = dktX3_text_0 := by decide +kernel
theorem dX3_text_0 : decode cX3_text 0 = .ok (.new 163, 3) := dk_187 0 163 (dk_at dksX3_text_0 0 rfl rfl)
theorem dX3_text_3 : decode cX3_text 3 = .ok (.dup, 1) := dk_89 (dk_at dksX3_text_0 3 rfl rfl)
theorem dX3_text_4 : decode cX3_text 4 = .ok (.invokespecial 165, 3) := dk_183 0 165 (dk_at dksX3_text_0 4 rfl rfl)
theorem dX3_text_7 : decode cX3_text 7 = .ok (.astore_n 1, 1) := dk_76 (dk_at dksX3_text_0 7 rfl rfl)
theorem dX3_text_8 : decode cX3_text 8 = .ok (.aload_n 0, 1) := dk_42 (dk_at dksX3_text_0 8 rfl rfl)
theorem dX3_text_9 : decode cX3_text 9 = .ok (.getfield 9, 3) := dk_180 0 9 (dk_at dksX3_text_0 9 rfl rfl)
theorem dX3_text_12 : decode cX3_text 12 = .ok (.aload_n 1, 1) := dk_43 (dk_at dksX3_text_0 12 rfl rfl)
theorem dX3_text_13 : decode cX3_text 13 = .ok (.invokevirtual 166, 3) := dk_182 0 166 (dk_at dksX3_text_0 13 rfl rfl)
theorem dX3_text_16 : decode cX3_text 16 = .ok (.aload_n 1, 1) := dk_43 (dk_at dksX3_text_0 16 rfl rfl)
theorem dX3_text_17 : decode cX3_text 17 = .ok (.invokevirtual 170, 3) := dk_182 0 170 (dk_at dksX3_text_0 17 rfl rfl)
theorem dX3_text_20 : decode cX3_text 20 = .ok (.areturn, 1) := dk_176 (dk_at dksX3_text_0 20 rfl rfl)
abbrev cX3_moveVertically : ByteArray := prog_5_method_8_code
def yX3_moveVertically : MethodName := ⟨RX3, "moveVertically", "(Z)Z"⟩
def dkwX3_moveVertically_11 : List UInt8 := [25, 6, 180, 0, 101, 25, 6, 182, 0, 102, 4, 96, 182, 0, 97, 4, 172, 3, 172]
abbrev dktX3_moveVertically_11 : List UInt8 := dkwX3_moveVertically_11 ++ []
def dkwX3_moveVertically_10 : List UInt8 := [180, 0, 91, 21, 5, 160, 0, 35, 42, 180, 0, 15, 180, 0, 87, 58, 6, 42, 25, 6, 180, 0, 101]
abbrev dktX3_moveVertically_10 : List UInt8 := dkwX3_moveVertically_10 ++ dktX3_moveVertically_11
def dkwX3_moveVertically_9 : List UInt8 := [167, 0, 4, 5, 54, 5, 42, 180, 0, 15, 180, 0, 87, 198, 0, 50, 42, 180, 0, 15, 180, 0, 87]
abbrev dktX3_moveVertically_9 : List UInt8 := dkwX3_moveVertically_9 ++ dktX3_moveVertically_10
def dkwX3_moveVertically_8 : List UInt8 := [185, 0, 53, 2, 0, 192, 0, 63, 180, 0, 69, 3, 50, 3, 182, 0, 97, 4, 172, 27, 153, 0, 7, 6]
abbrev dktX3_moveVertically_8 : List UInt8 := dkwX3_moveVertically_8 ++ dktX3_moveVertically_9
def dkwX3_moveVertically_7 : List UInt8 := [182, 0, 105, 21, 4, 160, 0, 34, 42, 42, 180, 0, 15, 180, 0, 21, 42, 180, 0, 38]
abbrev dktX3_moveVertically_7 : List UInt8 := dkwX3_moveVertically_7 ++ dktX3_moveVertically_8
def dkwX3_moveVertically_6 : List UInt8 := [162, 0, 61, 42, 180, 0, 15, 180, 0, 21, 42, 180, 0, 38, 185, 0, 53, 2, 0, 192, 0, 57]
abbrev dktX3_moveVertically_6 : List UInt8 := dkwX3_moveVertically_6 ++ dktX3_moveVertically_7
def dkwX3_moveVertically_5 : List UInt8 := [167, 0, 4, 6, 54, 4, 42, 180, 0, 38, 42, 180, 0, 15, 180, 0, 21, 185, 0, 25, 1, 0]
abbrev dktX3_moveVertically_5 : List UInt8 := dkwX3_moveVertically_5 ++ dktX3_moveVertically_6
def dkwX3_moveVertically_4 : List UInt8 := [182, 0, 102, 62, 25, 4, 180, 0, 87, 180, 0, 101, 58, 4, 167, 255, 169, 27, 153, 0, 7, 5]
abbrev dktX3_moveVertically_4 : List UInt8 := dkwX3_moveVertically_4 ++ dktX3_moveVertically_5
def dkwX3_moveVertically_3 : List UInt8 := [180, 0, 21, 185, 0, 25, 1, 0, 184, 0, 78, 182, 0, 97, 4, 172, 25, 5, 180, 0, 101, 25, 5]
abbrev dktX3_moveVertically_3 : List UInt8 := dkwX3_moveVertically_3 ++ dktX3_moveVertically_4
def dkwX3_moveVertically_2 : List UInt8 := [180, 0, 94, 28, 160, 0, 36, 25, 5, 180, 0, 69, 4, 28, 100, 50, 58, 6, 42, 25, 6, 29, 25, 6]
abbrev dktX3_moveVertically_2 : List UInt8 := dkwX3_moveVertically_2 ++ dktX3_moveVertically_3
def dkwX3_moveVertically_1 : List UInt8 := [180, 0, 87, 198, 0, 85, 25, 4, 180, 0, 87, 58, 5, 25, 5, 180, 0, 91, 4, 160, 0, 45, 25, 4]
abbrev dktX3_moveVertically_1 : List UInt8 := dkwX3_moveVertically_1 ++ dktX3_moveVertically_2
def dkwX3_moveVertically_0 : List UInt8 := [27, 153, 0, 7, 4, 167, 0, 4, 3, 61, 42, 180, 0, 38, 62, 42, 180, 0, 15, 58, 4, 25, 4]
abbrev dktX3_moveVertically_0 : List UInt8 := dkwX3_moveVertically_0 ++ dktX3_moveVertically_1
theorem dksX3_moveVertically_0 : cX3_moveVertically.data.toList.drop 0 = dktX3_moveVertically_0 := by decide +kernel
theorem dksX3_moveVertically_1 : cX3_moveVertically.data.toList.drop 23 = dktX3_moveVertically_1 := dk_seg dksX3_moveVertically_0 23 rfl rfl
theorem dksX3_moveVertically_2 : cX3_moveVertically.data.toList.drop 47 = dktX3_moveVertically_2 := dk_seg dksX3_moveVertically_1 24 rfl rfl
theorem dksX3_moveVertically_3 : cX3_moveVertically.data.toList.drop 71 = dktX3_moveVertically_3 := dk_seg dksX3_moveVertically_2 24 rfl rfl
theorem dksX3_moveVertically_4 : cX3_moveVertically.data.toList.drop 94 = dktX3_moveVertically_4 := dk_seg dksX3_moveVertically_3 23 rfl rfl
theorem dksX3_moveVertically_5 : cX3_moveVertically.data.toList.drop 116 = dktX3_moveVertically_5 := dk_seg dksX3_moveVertically_4 22 rfl rfl
theorem dksX3_moveVertically_6 : cX3_moveVertically.data.toList.drop 138 = dktX3_moveVertically_6 := dk_seg dksX3_moveVertically_5 22 rfl rfl
theorem dksX3_moveVertically_7 : cX3_moveVertically.data.toList.drop 160 = dktX3_moveVertically_7 := dk_seg dksX3_moveVertically_6 22 rfl rfl
theorem dksX3_moveVertically_8 : cX3_moveVertically.data.toList.drop 180 = dktX3_moveVertically_8 := dk_seg dksX3_moveVertically_7 20 rfl rfl
theorem dksX3_moveVertically_9 : cX3_moveVertically.data.toList.drop 204 = dktX3_moveVertically_9 := dk_seg dksX3_moveVertically_8 24 rfl rfl
theorem dksX3_moveVertically_10 : cX3_moveVertically.data.toList.drop 227 = dktX3_moveVertically_10 := dk_seg dksX3_moveVertically_9 23 rfl rfl
theorem dksX3_moveVertically_11 : cX3_moveVertically.data.toList.drop 250 = dktX3_moveVertically_11 := dk_seg dksX3_moveVertically_10 23 rfl rfl
theorem dX3_moveVertically_0 : decode cX3_moveVertically 0 = .ok (.iload_n 1, 1) := dk_27 (dk_at dksX3_moveVertically_0 0 rfl rfl)
theorem dX3_moveVertically_1 : decode cX3_moveVertically 1 = .ok (.ifCond .eq 7, 3) := dk_153 0 7 (dk_at dksX3_moveVertically_0 1 rfl rfl)
theorem dX3_moveVertically_4 : decode cX3_moveVertically 4 = .ok (.iconst 1, 1) := dk_4 (dk_at dksX3_moveVertically_0 4 rfl rfl)
theorem dX3_moveVertically_5 : decode cX3_moveVertically 5 = .ok (.goto 4, 3) := dk_167 0 4 (dk_at dksX3_moveVertically_0 5 rfl rfl)
theorem dX3_moveVertically_8 : decode cX3_moveVertically 8 = .ok (.iconst 0, 1) := dk_3 (dk_at dksX3_moveVertically_0 8 rfl rfl)
theorem dX3_moveVertically_9 : decode cX3_moveVertically 9 = .ok (.istore_n 2, 1) := dk_61 (dk_at dksX3_moveVertically_0 9 rfl rfl)
theorem dX3_moveVertically_10 : decode cX3_moveVertically 10 = .ok (.aload_n 0, 1) := dk_42 (dk_at dksX3_moveVertically_0 10 rfl rfl)
theorem dX3_moveVertically_11 : decode cX3_moveVertically 11 = .ok (.getfield 38, 3) := dk_180 0 38 (dk_at dksX3_moveVertically_0 11 rfl rfl)
theorem dX3_moveVertically_14 : decode cX3_moveVertically 14 = .ok (.istore_n 3, 1) := dk_62 (dk_at dksX3_moveVertically_0 14 rfl rfl)
theorem dX3_moveVertically_15 : decode cX3_moveVertically 15 = .ok (.aload_n 0, 1) := dk_42 (dk_at dksX3_moveVertically_0 15 rfl rfl)
theorem dX3_moveVertically_16 : decode cX3_moveVertically 16 = .ok (.getfield 15, 3) := dk_180 0 15 (dk_at dksX3_moveVertically_0 16 rfl rfl)
theorem dX3_moveVertically_19 : decode cX3_moveVertically 19 = .ok (.astore 4, 2) := dk_58 4 (dk_at dksX3_moveVertically_0 19 rfl rfl)
theorem dX3_moveVertically_21 : decode cX3_moveVertically 21 = .ok (.aload 4, 2) := dk_25 4 (dk_at dksX3_moveVertically_0 21 rfl rfl)
theorem dX3_moveVertically_23 : decode cX3_moveVertically 23 = .ok (.getfield 87, 3) := dk_180 0 87 (dk_at dksX3_moveVertically_1 0 rfl rfl)
theorem dX3_moveVertically_26 : decode cX3_moveVertically 26 = .ok (.ifnull 85, 3) := dk_198 0 85 (dk_at dksX3_moveVertically_1 3 rfl rfl)
theorem dX3_moveVertically_29 : decode cX3_moveVertically 29 = .ok (.aload 4, 2) := dk_25 4 (dk_at dksX3_moveVertically_1 6 rfl rfl)
theorem dX3_moveVertically_31 : decode cX3_moveVertically 31 = .ok (.getfield 87, 3) := dk_180 0 87 (dk_at dksX3_moveVertically_1 8 rfl rfl)
theorem dX3_moveVertically_34 : decode cX3_moveVertically 34 = .ok (.astore 5, 2) := dk_58 5 (dk_at dksX3_moveVertically_1 11 rfl rfl)
theorem dX3_moveVertically_36 : decode cX3_moveVertically 36 = .ok (.aload 5, 2) := dk_25 5 (dk_at dksX3_moveVertically_1 13 rfl rfl)
theorem dX3_moveVertically_38 : decode cX3_moveVertically 38 = .ok (.getfield 91, 3) := dk_180 0 91 (dk_at dksX3_moveVertically_1 15 rfl rfl)
theorem dX3_moveVertically_41 : decode cX3_moveVertically 41 = .ok (.iconst 1, 1) := dk_4 (dk_at dksX3_moveVertically_1 18 rfl rfl)
theorem dX3_moveVertically_42 : decode cX3_moveVertically 42 = .ok (.if_icmp .ne 45, 3) := dk_160 0 45 (dk_at dksX3_moveVertically_1 19 rfl rfl)
theorem dX3_moveVertically_45 : decode cX3_moveVertically 45 = .ok (.aload 4, 2) := dk_25 4 (dk_at dksX3_moveVertically_1 22 rfl rfl)
theorem dX3_moveVertically_47 : decode cX3_moveVertically 47 = .ok (.getfield 94, 3) := dk_180 0 94 (dk_at dksX3_moveVertically_2 0 rfl rfl)
theorem dX3_moveVertically_50 : decode cX3_moveVertically 50 = .ok (.iload_n 2, 1) := dk_28 (dk_at dksX3_moveVertically_2 3 rfl rfl)
theorem dX3_moveVertically_51 : decode cX3_moveVertically 51 = .ok (.if_icmp .ne 36, 3) := dk_160 0 36 (dk_at dksX3_moveVertically_2 4 rfl rfl)
theorem dX3_moveVertically_54 : decode cX3_moveVertically 54 = .ok (.aload 5, 2) := dk_25 5 (dk_at dksX3_moveVertically_2 7 rfl rfl)
theorem dX3_moveVertically_56 : decode cX3_moveVertically 56 = .ok (.getfield 69, 3) := dk_180 0 69 (dk_at dksX3_moveVertically_2 9 rfl rfl)
theorem dX3_moveVertically_59 : decode cX3_moveVertically 59 = .ok (.iconst 1, 1) := dk_4 (dk_at dksX3_moveVertically_2 12 rfl rfl)
theorem dX3_moveVertically_60 : decode cX3_moveVertically 60 = .ok (.iload_n 2, 1) := dk_28 (dk_at dksX3_moveVertically_2 13 rfl rfl)
theorem dX3_moveVertically_61 : decode cX3_moveVertically 61 = .ok (.isub, 1) := dk_100 (dk_at dksX3_moveVertically_2 14 rfl rfl)
theorem dX3_moveVertically_62 : decode cX3_moveVertically 62 = .ok (.aaload, 1) := dk_50 (dk_at dksX3_moveVertically_2 15 rfl rfl)
theorem dX3_moveVertically_63 : decode cX3_moveVertically 63 = .ok (.astore 6, 2) := dk_58 6 (dk_at dksX3_moveVertically_2 16 rfl rfl)
theorem dX3_moveVertically_65 : decode cX3_moveVertically 65 = .ok (.aload_n 0, 1) := dk_42 (dk_at dksX3_moveVertically_2 18 rfl rfl)
theorem dX3_moveVertically_66 : decode cX3_moveVertically 66 = .ok (.aload 6, 2) := dk_25 6 (dk_at dksX3_moveVertically_2 19 rfl rfl)
theorem dX3_moveVertically_68 : decode cX3_moveVertically 68 = .ok (.iload_n 3, 1) := dk_29 (dk_at dksX3_moveVertically_2 21 rfl rfl)
theorem dX3_moveVertically_69 : decode cX3_moveVertically 69 = .ok (.aload 6, 2) := dk_25 6 (dk_at dksX3_moveVertically_2 22 rfl rfl)
theorem dX3_moveVertically_71 : decode cX3_moveVertically 71 = .ok (.getfield 21, 3) := dk_180 0 21 (dk_at dksX3_moveVertically_3 0 rfl rfl)
theorem dX3_moveVertically_74 : decode cX3_moveVertically 74 = .ok (.invokeinterface 25 1, 5) := by decide +kernel
theorem dX3_moveVertically_79 : decode cX3_moveVertically 79 = .ok (.invokestatic 78, 3) := dk_184 0 78 (dk_at dksX3_moveVertically_3 8 rfl rfl)
theorem dX3_moveVertically_82 : decode cX3_moveVertically 82 = .ok (.invokevirtual 97, 3) := dk_182 0 97 (dk_at dksX3_moveVertically_3 11 rfl rfl)
theorem dX3_moveVertically_85 : decode cX3_moveVertically 85 = .ok (.iconst 1, 1) := dk_4 (dk_at dksX3_moveVertically_3 14 rfl rfl)
theorem dX3_moveVertically_86 : decode cX3_moveVertically 86 = .ok (.ireturn, 1) := dk_172 (dk_at dksX3_moveVertically_3 15 rfl rfl)
theorem dX3_moveVertically_87 : decode cX3_moveVertically 87 = .ok (.aload 5, 2) := dk_25 5 (dk_at dksX3_moveVertically_3 16 rfl rfl)
theorem dX3_moveVertically_89 : decode cX3_moveVertically 89 = .ok (.getfield 101, 3) := dk_180 0 101 (dk_at dksX3_moveVertically_3 18 rfl rfl)
theorem dX3_moveVertically_92 : decode cX3_moveVertically 92 = .ok (.aload 5, 2) := dk_25 5 (dk_at dksX3_moveVertically_3 21 rfl rfl)
theorem dX3_moveVertically_94 : decode cX3_moveVertically 94 = .ok (.invokevirtual 102, 3) := dk_182 0 102 (dk_at dksX3_moveVertically_4 0 rfl rfl)
theorem dX3_moveVertically_97 : decode cX3_moveVertically 97 = .ok (.istore_n 3, 1) := dk_62 (dk_at dksX3_moveVertically_4 3 rfl rfl)
theorem dX3_moveVertically_98 : decode cX3_moveVertically 98 = .ok (.aload 4, 2) := dk_25 4 (dk_at dksX3_moveVertically_4 4 rfl rfl)
theorem dX3_moveVertically_100 : decode cX3_moveVertically 100 = .ok (.getfield 87, 3) := dk_180 0 87 (dk_at dksX3_moveVertically_4 6 rfl rfl)
theorem dX3_moveVertically_103 : decode cX3_moveVertically 103 = .ok (.getfield 101, 3) := dk_180 0 101 (dk_at dksX3_moveVertically_4 9 rfl rfl)
theorem dX3_moveVertically_106 : decode cX3_moveVertically 106 = .ok (.astore 4, 2) := dk_58 4 (dk_at dksX3_moveVertically_4 12 rfl rfl)
theorem dX3_moveVertically_108 : decode cX3_moveVertically 108 = .ok (.goto (-87), 3) := dk_167 255 169 (dk_at dksX3_moveVertically_4 14 rfl rfl)
theorem dX3_moveVertically_111 : decode cX3_moveVertically 111 = .ok (.iload_n 1, 1) := dk_27 (dk_at dksX3_moveVertically_4 17 rfl rfl)
theorem dX3_moveVertically_112 : decode cX3_moveVertically 112 = .ok (.ifCond .eq 7, 3) := dk_153 0 7 (dk_at dksX3_moveVertically_4 18 rfl rfl)
theorem dX3_moveVertically_115 : decode cX3_moveVertically 115 = .ok (.iconst 2, 1) := dk_5 (dk_at dksX3_moveVertically_4 21 rfl rfl)
theorem dX3_moveVertically_116 : decode cX3_moveVertically 116 = .ok (.goto 4, 3) := dk_167 0 4 (dk_at dksX3_moveVertically_5 0 rfl rfl)
theorem dX3_moveVertically_119 : decode cX3_moveVertically 119 = .ok (.iconst 3, 1) := dk_6 (dk_at dksX3_moveVertically_5 3 rfl rfl)
theorem dX3_moveVertically_120 : decode cX3_moveVertically 120 = .ok (.istore 4, 2) := dk_54 4 (dk_at dksX3_moveVertically_5 4 rfl rfl)
theorem dX3_moveVertically_122 : decode cX3_moveVertically 122 = .ok (.aload_n 0, 1) := dk_42 (dk_at dksX3_moveVertically_5 6 rfl rfl)
theorem dX3_moveVertically_123 : decode cX3_moveVertically 123 = .ok (.getfield 38, 3) := dk_180 0 38 (dk_at dksX3_moveVertically_5 7 rfl rfl)
theorem dX3_moveVertically_126 : decode cX3_moveVertically 126 = .ok (.aload_n 0, 1) := dk_42 (dk_at dksX3_moveVertically_5 10 rfl rfl)
theorem dX3_moveVertically_127 : decode cX3_moveVertically 127 = .ok (.getfield 15, 3) := dk_180 0 15 (dk_at dksX3_moveVertically_5 11 rfl rfl)
theorem dX3_moveVertically_130 : decode cX3_moveVertically 130 = .ok (.getfield 21, 3) := dk_180 0 21 (dk_at dksX3_moveVertically_5 14 rfl rfl)
theorem dX3_moveVertically_133 : decode cX3_moveVertically 133 = .ok (.invokeinterface 25 1, 5) := by decide +kernel
theorem dX3_moveVertically_138 : decode cX3_moveVertically 138 = .ok (.if_icmp .ge 61, 3) := dk_162 0 61 (dk_at dksX3_moveVertically_6 0 rfl rfl)
theorem dX3_moveVertically_141 : decode cX3_moveVertically 141 = .ok (.aload_n 0, 1) := dk_42 (dk_at dksX3_moveVertically_6 3 rfl rfl)
theorem dX3_moveVertically_142 : decode cX3_moveVertically 142 = .ok (.getfield 15, 3) := dk_180 0 15 (dk_at dksX3_moveVertically_6 4 rfl rfl)
theorem dX3_moveVertically_145 : decode cX3_moveVertically 145 = .ok (.getfield 21, 3) := dk_180 0 21 (dk_at dksX3_moveVertically_6 7 rfl rfl)
theorem dX3_moveVertically_148 : decode cX3_moveVertically 148 = .ok (.aload_n 0, 1) := dk_42 (dk_at dksX3_moveVertically_6 10 rfl rfl)
theorem dX3_moveVertically_149 : decode cX3_moveVertically 149 = .ok (.getfield 38, 3) := dk_180 0 38 (dk_at dksX3_moveVertically_6 11 rfl rfl)
theorem dX3_moveVertically_152 : decode cX3_moveVertically 152 = .ok (.invokeinterface 53 2, 5) := by decide +kernel
theorem dX3_moveVertically_157 : decode cX3_moveVertically 157 = .ok (.checkcast 57, 3) := dk_192 0 57 (dk_at dksX3_moveVertically_6 19 rfl rfl)
theorem dX3_moveVertically_160 : decode cX3_moveVertically 160 = .ok (.invokevirtual 105, 3) := dk_182 0 105 (dk_at dksX3_moveVertically_7 0 rfl rfl)
theorem dX3_moveVertically_163 : decode cX3_moveVertically 163 = .ok (.iload 4, 2) := dk_21 4 (dk_at dksX3_moveVertically_7 3 rfl rfl)
theorem dX3_moveVertically_165 : decode cX3_moveVertically 165 = .ok (.if_icmp .ne 34, 3) := dk_160 0 34 (dk_at dksX3_moveVertically_7 5 rfl rfl)
theorem dX3_moveVertically_168 : decode cX3_moveVertically 168 = .ok (.aload_n 0, 1) := dk_42 (dk_at dksX3_moveVertically_7 8 rfl rfl)
theorem dX3_moveVertically_169 : decode cX3_moveVertically 169 = .ok (.aload_n 0, 1) := dk_42 (dk_at dksX3_moveVertically_7 9 rfl rfl)
theorem dX3_moveVertically_170 : decode cX3_moveVertically 170 = .ok (.getfield 15, 3) := dk_180 0 15 (dk_at dksX3_moveVertically_7 10 rfl rfl)
theorem dX3_moveVertically_173 : decode cX3_moveVertically 173 = .ok (.getfield 21, 3) := dk_180 0 21 (dk_at dksX3_moveVertically_7 13 rfl rfl)
theorem dX3_moveVertically_176 : decode cX3_moveVertically 176 = .ok (.aload_n 0, 1) := dk_42 (dk_at dksX3_moveVertically_7 16 rfl rfl)
theorem dX3_moveVertically_177 : decode cX3_moveVertically 177 = .ok (.getfield 38, 3) := dk_180 0 38 (dk_at dksX3_moveVertically_7 17 rfl rfl)
theorem dX3_moveVertically_180 : decode cX3_moveVertically 180 = .ok (.invokeinterface 53 2, 5) := by decide +kernel
theorem dX3_moveVertically_185 : decode cX3_moveVertically 185 = .ok (.checkcast 63, 3) := dk_192 0 63 (dk_at dksX3_moveVertically_8 5 rfl rfl)
theorem dX3_moveVertically_188 : decode cX3_moveVertically 188 = .ok (.getfield 69, 3) := dk_180 0 69 (dk_at dksX3_moveVertically_8 8 rfl rfl)
theorem dX3_moveVertically_191 : decode cX3_moveVertically 191 = .ok (.iconst 0, 1) := dk_3 (dk_at dksX3_moveVertically_8 11 rfl rfl)
theorem dX3_moveVertically_192 : decode cX3_moveVertically 192 = .ok (.aaload, 1) := dk_50 (dk_at dksX3_moveVertically_8 12 rfl rfl)
theorem dX3_moveVertically_193 : decode cX3_moveVertically 193 = .ok (.iconst 0, 1) := dk_3 (dk_at dksX3_moveVertically_8 13 rfl rfl)
theorem dX3_moveVertically_194 : decode cX3_moveVertically 194 = .ok (.invokevirtual 97, 3) := dk_182 0 97 (dk_at dksX3_moveVertically_8 14 rfl rfl)
theorem dX3_moveVertically_197 : decode cX3_moveVertically 197 = .ok (.iconst 1, 1) := dk_4 (dk_at dksX3_moveVertically_8 17 rfl rfl)
theorem dX3_moveVertically_198 : decode cX3_moveVertically 198 = .ok (.ireturn, 1) := dk_172 (dk_at dksX3_moveVertically_8 18 rfl rfl)
theorem dX3_moveVertically_199 : decode cX3_moveVertically 199 = .ok (.iload_n 1, 1) := dk_27 (dk_at dksX3_moveVertically_8 19 rfl rfl)
theorem dX3_moveVertically_200 : decode cX3_moveVertically 200 = .ok (.ifCond .eq 7, 3) := dk_153 0 7 (dk_at dksX3_moveVertically_8 20 rfl rfl)
theorem dX3_moveVertically_203 : decode cX3_moveVertically 203 = .ok (.iconst 3, 1) := dk_6 (dk_at dksX3_moveVertically_8 23 rfl rfl)
theorem dX3_moveVertically_204 : decode cX3_moveVertically 204 = .ok (.goto 4, 3) := dk_167 0 4 (dk_at dksX3_moveVertically_9 0 rfl rfl)
theorem dX3_moveVertically_207 : decode cX3_moveVertically 207 = .ok (.iconst 2, 1) := dk_5 (dk_at dksX3_moveVertically_9 3 rfl rfl)
theorem dX3_moveVertically_208 : decode cX3_moveVertically 208 = .ok (.istore 5, 2) := dk_54 5 (dk_at dksX3_moveVertically_9 4 rfl rfl)
theorem dX3_moveVertically_210 : decode cX3_moveVertically 210 = .ok (.aload_n 0, 1) := dk_42 (dk_at dksX3_moveVertically_9 6 rfl rfl)
theorem dX3_moveVertically_211 : decode cX3_moveVertically 211 = .ok (.getfield 15, 3) := dk_180 0 15 (dk_at dksX3_moveVertically_9 7 rfl rfl)
theorem dX3_moveVertically_214 : decode cX3_moveVertically 214 = .ok (.getfield 87, 3) := dk_180 0 87 (dk_at dksX3_moveVertically_9 10 rfl rfl)
theorem dX3_moveVertically_217 : decode cX3_moveVertically 217 = .ok (.ifnull 50, 3) := dk_198 0 50 (dk_at dksX3_moveVertically_9 13 rfl rfl)
theorem dX3_moveVertically_220 : decode cX3_moveVertically 220 = .ok (.aload_n 0, 1) := dk_42 (dk_at dksX3_moveVertically_9 16 rfl rfl)
theorem dX3_moveVertically_221 : decode cX3_moveVertically 221 = .ok (.getfield 15, 3) := dk_180 0 15 (dk_at dksX3_moveVertically_9 17 rfl rfl)
theorem dX3_moveVertically_224 : decode cX3_moveVertically 224 = .ok (.getfield 87, 3) := dk_180 0 87 (dk_at dksX3_moveVertically_9 20 rfl rfl)
theorem dX3_moveVertically_227 : decode cX3_moveVertically 227 = .ok (.getfield 91, 3) := dk_180 0 91 (dk_at dksX3_moveVertically_10 0 rfl rfl)
theorem dX3_moveVertically_230 : decode cX3_moveVertically 230 = .ok (.iload 5, 2) := dk_21 5 (dk_at dksX3_moveVertically_10 3 rfl rfl)
theorem dX3_moveVertically_232 : decode cX3_moveVertically 232 = .ok (.if_icmp .ne 35, 3) := dk_160 0 35 (dk_at dksX3_moveVertically_10 5 rfl rfl)
theorem dX3_moveVertically_235 : decode cX3_moveVertically 235 = .ok (.aload_n 0, 1) := dk_42 (dk_at dksX3_moveVertically_10 8 rfl rfl)
theorem dX3_moveVertically_236 : decode cX3_moveVertically 236 = .ok (.getfield 15, 3) := dk_180 0 15 (dk_at dksX3_moveVertically_10 9 rfl rfl)
theorem dX3_moveVertically_239 : decode cX3_moveVertically 239 = .ok (.getfield 87, 3) := dk_180 0 87 (dk_at dksX3_moveVertically_10 12 rfl rfl)
theorem dX3_moveVertically_242 : decode cX3_moveVertically 242 = .ok (.astore 6, 2) := dk_58 6 (dk_at dksX3_moveVertically_10 15 rfl rfl)
theorem dX3_moveVertically_244 : decode cX3_moveVertically 244 = .ok (.aload_n 0, 1) := dk_42 (dk_at dksX3_moveVertically_10 17 rfl rfl)
theorem dX3_moveVertically_245 : decode cX3_moveVertically 245 = .ok (.aload 6, 2) := dk_25 6 (dk_at dksX3_moveVertically_10 18 rfl rfl)
theorem dX3_moveVertically_247 : decode cX3_moveVertically 247 = .ok (.getfield 101, 3) := dk_180 0 101 (dk_at dksX3_moveVertically_10 20 rfl rfl)
theorem dX3_moveVertically_250 : decode cX3_moveVertically 250 = .ok (.aload 6, 2) := dk_25 6 (dk_at dksX3_moveVertically_11 0 rfl rfl)
theorem dX3_moveVertically_252 : decode cX3_moveVertically 252 = .ok (.getfield 101, 3) := dk_180 0 101 (dk_at dksX3_moveVertically_11 2 rfl rfl)
theorem dX3_moveVertically_255 : decode cX3_moveVertically 255 = .ok (.aload 6, 2) := dk_25 6 (dk_at dksX3_moveVertically_11 5 rfl rfl)
theorem dX3_moveVertically_257 : decode cX3_moveVertically 257 = .ok (.invokevirtual 102, 3) := dk_182 0 102 (dk_at dksX3_moveVertically_11 7 rfl rfl)
theorem dX3_moveVertically_260 : decode cX3_moveVertically 260 = .ok (.iconst 1, 1) := dk_4 (dk_at dksX3_moveVertically_11 10 rfl rfl)
theorem dX3_moveVertically_261 : decode cX3_moveVertically 261 = .ok (.iadd, 1) := dk_96 (dk_at dksX3_moveVertically_11 11 rfl rfl)
theorem dX3_moveVertically_262 : decode cX3_moveVertically 262 = .ok (.invokevirtual 97, 3) := dk_182 0 97 (dk_at dksX3_moveVertically_11 12 rfl rfl)
theorem dX3_moveVertically_265 : decode cX3_moveVertically 265 = .ok (.iconst 1, 1) := dk_4 (dk_at dksX3_moveVertically_11 15 rfl rfl)
theorem dX3_moveVertically_266 : decode cX3_moveVertically 266 = .ok (.ireturn, 1) := dk_172 (dk_at dksX3_moveVertically_11 16 rfl rfl)
theorem dX3_moveVertically_267 : decode cX3_moveVertically 267 = .ok (.iconst 0, 1) := dk_3 (dk_at dksX3_moveVertically_11 17 rfl rfl)
theorem dX3_moveVertically_268 : decode cX3_moveVertically 268 = .ok (.ireturn, 1) := dk_172 (dk_at dksX3_moveVertically_11 18 rfl rfl)
abbrev cX3_goTo : ByteArray := prog_5_method_7_code
def yX3_goTo : MethodName := ⟨RX3, "goTo", "(LFormulaEditor$Row;I)V"⟩
def dkwX3_goTo_0 : List UInt8 := [42, 43, 181, 0, 15, 42, 28, 181, 0, 38, 42, 3, 181, 0, 50, 177]
abbrev dktX3_goTo_0 : List UInt8 := dkwX3_goTo_0 ++ []
theorem dksX3_goTo_0 : cX3_goTo.data.toList.drop 0 = dktX3_goTo_0 := by decide +kernel
theorem dX3_goTo_0 : decode cX3_goTo 0 = .ok (.aload_n 0, 1) := dk_42 (dk_at dksX3_goTo_0 0 rfl rfl)
theorem dX3_goTo_1 : decode cX3_goTo 1 = .ok (.aload_n 1, 1) := dk_43 (dk_at dksX3_goTo_0 1 rfl rfl)
theorem dX3_goTo_2 : decode cX3_goTo 2 = .ok (.putfield 15, 3) := dk_181 0 15 (dk_at dksX3_goTo_0 2 rfl rfl)
theorem dX3_goTo_5 : decode cX3_goTo 5 = .ok (.aload_n 0, 1) := dk_42 (dk_at dksX3_goTo_0 5 rfl rfl)
theorem dX3_goTo_6 : decode cX3_goTo 6 = .ok (.iload_n 2, 1) := dk_28 (dk_at dksX3_goTo_0 6 rfl rfl)
theorem dX3_goTo_7 : decode cX3_goTo 7 = .ok (.putfield 38, 3) := dk_181 0 38 (dk_at dksX3_goTo_0 7 rfl rfl)
theorem dX3_goTo_10 : decode cX3_goTo 10 = .ok (.aload_n 0, 1) := dk_42 (dk_at dksX3_goTo_0 10 rfl rfl)
theorem dX3_goTo_11 : decode cX3_goTo 11 = .ok (.iconst 0, 1) := dk_3 (dk_at dksX3_goTo_0 11 rfl rfl)
theorem dX3_goTo_12 : decode cX3_goTo 12 = .ok (.putfield 50, 3) := dk_181 0 50 (dk_at dksX3_goTo_0 12 rfl rfl)
theorem dX3_goTo_15 : decode cX3_goTo 15 = .ok (.return_, 1) := dk_177 (dk_at dksX3_goTo_0 15 rfl rfl)
abbrev cX3_place : ByteArray := prog_5_method_3_code
def yX3_place : MethodName := ⟨RX3, "place", "()I"⟩
def dkwX3_place_0 : List UInt8 := [42, 180, 0, 15, 42, 180, 0, 38, 182, 0, 42, 172]
abbrev dktX3_place_0 : List UInt8 := dkwX3_place_0 ++ []
theorem dksX3_place_0 : cX3_place.data.toList.drop 0 = dktX3_place_0 := by decide +kernel
theorem dX3_place_0 : decode cX3_place 0 = .ok (.aload_n 0, 1) := dk_42 (dk_at dksX3_place_0 0 rfl rfl)
theorem dX3_place_1 : decode cX3_place 1 = .ok (.getfield 15, 3) := dk_180 0 15 (dk_at dksX3_place_0 1 rfl rfl)
theorem dX3_place_4 : decode cX3_place 4 = .ok (.aload_n 0, 1) := dk_42 (dk_at dksX3_place_0 4 rfl rfl)
theorem dX3_place_5 : decode cX3_place 5 = .ok (.getfield 38, 3) := dk_180 0 38 (dk_at dksX3_place_0 5 rfl rfl)
theorem dX3_place_8 : decode cX3_place 8 = .ok (.invokevirtual 42, 3) := dk_182 0 42 (dk_at dksX3_place_0 8 rfl rfl)
theorem dX3_place_11 : decode cX3_place 11 = .ok (.ireturn, 1) := dk_172 (dk_at dksX3_place_0 11 rfl rfl)
abbrev cX3_moveTo : ByteArray := prog_5_method_4_code
def yX3_moveTo : MethodName := ⟨RX3, "moveTo", "(I)V"⟩
def dkwX3_moveTo_3 : List UInt8 := [181, 0, 38, 167, 0, 15, 42, 45, 192, 0, 63, 28, 4, 100, 182, 0, 65, 61, 167, 255, 188, 177]
abbrev dktX3_moveTo_3 : List UInt8 := dkwX3_moveTo_3 ++ []
def dkwX3_moveTo_2 : List UInt8 := [54, 4, 28, 21, 4, 164, 0, 23, 28, 21, 4, 4, 96, 100, 61, 42, 89, 180, 0, 38, 4, 96]
abbrev dktX3_moveTo_2 : List UInt8 := dkwX3_moveTo_2 ++ dktX3_moveTo_3
def dkwX3_moveTo_1 : List UInt8 := [42, 180, 0, 15, 180, 0, 21, 42, 180, 0, 38, 185, 0, 53, 2, 0, 192, 0, 57, 78, 45, 184, 0, 59]
abbrev dktX3_moveTo_1 : List UInt8 := dkwX3_moveTo_1 ++ dktX3_moveTo_2
def dkwX3_moveTo_0 : List UInt8 := [42, 3, 181, 0, 50, 42, 42, 180, 0, 9, 181, 0, 15, 42, 3, 181, 0, 38, 27, 61, 28, 158, 0, 70]
abbrev dktX3_moveTo_0 : List UInt8 := dkwX3_moveTo_0 ++ dktX3_moveTo_1
theorem dksX3_moveTo_0 : cX3_moveTo.data.toList.drop 0 = dktX3_moveTo_0 := by decide +kernel
theorem dksX3_moveTo_1 : cX3_moveTo.data.toList.drop 24 = dktX3_moveTo_1 := dk_seg dksX3_moveTo_0 24 rfl rfl
theorem dksX3_moveTo_2 : cX3_moveTo.data.toList.drop 48 = dktX3_moveTo_2 := dk_seg dksX3_moveTo_1 24 rfl rfl
theorem dksX3_moveTo_3 : cX3_moveTo.data.toList.drop 70 = dktX3_moveTo_3 := dk_seg dksX3_moveTo_2 22 rfl rfl
theorem dX3_moveTo_0 : decode cX3_moveTo 0 = .ok (.aload_n 0, 1) := dk_42 (dk_at dksX3_moveTo_0 0 rfl rfl)
theorem dX3_moveTo_1 : decode cX3_moveTo 1 = .ok (.iconst 0, 1) := dk_3 (dk_at dksX3_moveTo_0 1 rfl rfl)
theorem dX3_moveTo_2 : decode cX3_moveTo 2 = .ok (.putfield 50, 3) := dk_181 0 50 (dk_at dksX3_moveTo_0 2 rfl rfl)
theorem dX3_moveTo_5 : decode cX3_moveTo 5 = .ok (.aload_n 0, 1) := dk_42 (dk_at dksX3_moveTo_0 5 rfl rfl)
theorem dX3_moveTo_6 : decode cX3_moveTo 6 = .ok (.aload_n 0, 1) := dk_42 (dk_at dksX3_moveTo_0 6 rfl rfl)
theorem dX3_moveTo_7 : decode cX3_moveTo 7 = .ok (.getfield 9, 3) := dk_180 0 9 (dk_at dksX3_moveTo_0 7 rfl rfl)
theorem dX3_moveTo_10 : decode cX3_moveTo 10 = .ok (.putfield 15, 3) := dk_181 0 15 (dk_at dksX3_moveTo_0 10 rfl rfl)
theorem dX3_moveTo_13 : decode cX3_moveTo 13 = .ok (.aload_n 0, 1) := dk_42 (dk_at dksX3_moveTo_0 13 rfl rfl)
theorem dX3_moveTo_14 : decode cX3_moveTo 14 = .ok (.iconst 0, 1) := dk_3 (dk_at dksX3_moveTo_0 14 rfl rfl)
theorem dX3_moveTo_15 : decode cX3_moveTo 15 = .ok (.putfield 38, 3) := dk_181 0 38 (dk_at dksX3_moveTo_0 15 rfl rfl)
theorem dX3_moveTo_18 : decode cX3_moveTo 18 = .ok (.iload_n 1, 1) := dk_27 (dk_at dksX3_moveTo_0 18 rfl rfl)
theorem dX3_moveTo_19 : decode cX3_moveTo 19 = .ok (.istore_n 2, 1) := dk_61 (dk_at dksX3_moveTo_0 19 rfl rfl)
theorem dX3_moveTo_20 : decode cX3_moveTo 20 = .ok (.iload_n 2, 1) := dk_28 (dk_at dksX3_moveTo_0 20 rfl rfl)
theorem dX3_moveTo_21 : decode cX3_moveTo 21 = .ok (.ifCond .le 70, 3) := dk_158 0 70 (dk_at dksX3_moveTo_0 21 rfl rfl)
theorem dX3_moveTo_24 : decode cX3_moveTo 24 = .ok (.aload_n 0, 1) := dk_42 (dk_at dksX3_moveTo_1 0 rfl rfl)
theorem dX3_moveTo_25 : decode cX3_moveTo 25 = .ok (.getfield 15, 3) := dk_180 0 15 (dk_at dksX3_moveTo_1 1 rfl rfl)
theorem dX3_moveTo_28 : decode cX3_moveTo 28 = .ok (.getfield 21, 3) := dk_180 0 21 (dk_at dksX3_moveTo_1 4 rfl rfl)
theorem dX3_moveTo_31 : decode cX3_moveTo 31 = .ok (.aload_n 0, 1) := dk_42 (dk_at dksX3_moveTo_1 7 rfl rfl)
theorem dX3_moveTo_32 : decode cX3_moveTo 32 = .ok (.getfield 38, 3) := dk_180 0 38 (dk_at dksX3_moveTo_1 8 rfl rfl)
theorem dX3_moveTo_35 : decode cX3_moveTo 35 = .ok (.invokeinterface 53 2, 5) := by decide +kernel
theorem dX3_moveTo_40 : decode cX3_moveTo 40 = .ok (.checkcast 57, 3) := dk_192 0 57 (dk_at dksX3_moveTo_1 16 rfl rfl)
theorem dX3_moveTo_43 : decode cX3_moveTo 43 = .ok (.astore_n 3, 1) := dk_78 (dk_at dksX3_moveTo_1 19 rfl rfl)
theorem dX3_moveTo_44 : decode cX3_moveTo 44 = .ok (.aload_n 3, 1) := dk_45 (dk_at dksX3_moveTo_1 20 rfl rfl)
theorem dX3_moveTo_45 : decode cX3_moveTo 45 = .ok (.invokestatic 59, 3) := dk_184 0 59 (dk_at dksX3_moveTo_1 21 rfl rfl)
theorem dX3_moveTo_48 : decode cX3_moveTo 48 = .ok (.istore 4, 2) := dk_54 4 (dk_at dksX3_moveTo_2 0 rfl rfl)
theorem dX3_moveTo_50 : decode cX3_moveTo 50 = .ok (.iload_n 2, 1) := dk_28 (dk_at dksX3_moveTo_2 2 rfl rfl)
theorem dX3_moveTo_51 : decode cX3_moveTo 51 = .ok (.iload 4, 2) := dk_21 4 (dk_at dksX3_moveTo_2 3 rfl rfl)
theorem dX3_moveTo_53 : decode cX3_moveTo 53 = .ok (.if_icmp .le 23, 3) := dk_164 0 23 (dk_at dksX3_moveTo_2 5 rfl rfl)
theorem dX3_moveTo_56 : decode cX3_moveTo 56 = .ok (.iload_n 2, 1) := dk_28 (dk_at dksX3_moveTo_2 8 rfl rfl)
theorem dX3_moveTo_57 : decode cX3_moveTo 57 = .ok (.iload 4, 2) := dk_21 4 (dk_at dksX3_moveTo_2 9 rfl rfl)
theorem dX3_moveTo_59 : decode cX3_moveTo 59 = .ok (.iconst 1, 1) := dk_4 (dk_at dksX3_moveTo_2 11 rfl rfl)
theorem dX3_moveTo_60 : decode cX3_moveTo 60 = .ok (.iadd, 1) := dk_96 (dk_at dksX3_moveTo_2 12 rfl rfl)
theorem dX3_moveTo_61 : decode cX3_moveTo 61 = .ok (.isub, 1) := dk_100 (dk_at dksX3_moveTo_2 13 rfl rfl)
theorem dX3_moveTo_62 : decode cX3_moveTo 62 = .ok (.istore_n 2, 1) := dk_61 (dk_at dksX3_moveTo_2 14 rfl rfl)
theorem dX3_moveTo_63 : decode cX3_moveTo 63 = .ok (.aload_n 0, 1) := dk_42 (dk_at dksX3_moveTo_2 15 rfl rfl)
theorem dX3_moveTo_64 : decode cX3_moveTo 64 = .ok (.dup, 1) := dk_89 (dk_at dksX3_moveTo_2 16 rfl rfl)
theorem dX3_moveTo_65 : decode cX3_moveTo 65 = .ok (.getfield 38, 3) := dk_180 0 38 (dk_at dksX3_moveTo_2 17 rfl rfl)
theorem dX3_moveTo_68 : decode cX3_moveTo 68 = .ok (.iconst 1, 1) := dk_4 (dk_at dksX3_moveTo_2 20 rfl rfl)
theorem dX3_moveTo_69 : decode cX3_moveTo 69 = .ok (.iadd, 1) := dk_96 (dk_at dksX3_moveTo_2 21 rfl rfl)
theorem dX3_moveTo_70 : decode cX3_moveTo 70 = .ok (.putfield 38, 3) := dk_181 0 38 (dk_at dksX3_moveTo_3 0 rfl rfl)
theorem dX3_moveTo_73 : decode cX3_moveTo 73 = .ok (.goto 15, 3) := dk_167 0 15 (dk_at dksX3_moveTo_3 3 rfl rfl)
theorem dX3_moveTo_76 : decode cX3_moveTo 76 = .ok (.aload_n 0, 1) := dk_42 (dk_at dksX3_moveTo_3 6 rfl rfl)
theorem dX3_moveTo_77 : decode cX3_moveTo 77 = .ok (.aload_n 3, 1) := dk_45 (dk_at dksX3_moveTo_3 7 rfl rfl)
theorem dX3_moveTo_78 : decode cX3_moveTo 78 = .ok (.checkcast 63, 3) := dk_192 0 63 (dk_at dksX3_moveTo_3 8 rfl rfl)
theorem dX3_moveTo_81 : decode cX3_moveTo 81 = .ok (.iload_n 2, 1) := dk_28 (dk_at dksX3_moveTo_3 11 rfl rfl)
theorem dX3_moveTo_82 : decode cX3_moveTo 82 = .ok (.iconst 1, 1) := dk_4 (dk_at dksX3_moveTo_3 12 rfl rfl)
theorem dX3_moveTo_83 : decode cX3_moveTo 83 = .ok (.isub, 1) := dk_100 (dk_at dksX3_moveTo_3 13 rfl rfl)
theorem dX3_moveTo_84 : decode cX3_moveTo 84 = .ok (.invokevirtual 65, 3) := dk_182 0 65 (dk_at dksX3_moveTo_3 14 rfl rfl)
theorem dX3_moveTo_87 : decode cX3_moveTo 87 = .ok (.istore_n 2, 1) := dk_61 (dk_at dksX3_moveTo_3 17 rfl rfl)
theorem dX3_moveTo_88 : decode cX3_moveTo 88 = .ok (.goto (-68), 3) := dk_167 255 188 (dk_at dksX3_moveTo_3 18 rfl rfl)
theorem dX3_moveTo_91 : decode cX3_moveTo 91 = .ok (.return_, 1) := dk_177 (dk_at dksX3_moveTo_3 21 rfl rfl)
abbrev cX3_enter : ByteArray := prog_5_method_5_code
def yX3_enter : MethodName := ⟨RX3, "enter", "(LFormulaEditor$Structure;I)I"⟩
def dkwX3_enter_2 : List UInt8 := [181, 0, 15, 42, 3, 181, 0, 38, 29, 172]
abbrev dktX3_enter_2 : List UInt8 := dkwX3_enter_2 ++ []
def dkwX3_enter_1 : List UInt8 := [21, 4, 50, 182, 0, 73, 100, 62, 132, 4, 1, 167, 255, 226, 42, 43, 180, 0, 69, 21, 4, 50]
abbrev dktX3_enter_1 : List UInt8 := dkwX3_enter_1 ++ dktX3_enter_2
def dkwX3_enter_0 : List UInt8 := [28, 62, 3, 54, 4, 29, 43, 180, 0, 69, 21, 4, 50, 182, 0, 73, 161, 0, 22, 29, 43, 180, 0, 69]
abbrev dktX3_enter_0 : List UInt8 := dkwX3_enter_0 ++ dktX3_enter_1
theorem dksX3_enter_0 : cX3_enter.data.toList.drop 0 = dktX3_enter_0 := by decide +kernel
theorem dksX3_enter_1 : cX3_enter.data.toList.drop 24 = dktX3_enter_1 := dk_seg dksX3_enter_0 24 rfl rfl
theorem dksX3_enter_2 : cX3_enter.data.toList.drop 46 = dktX3_enter_2 := dk_seg dksX3_enter_1 22 rfl rfl
theorem dX3_enter_0 : decode cX3_enter 0 = .ok (.iload_n 2, 1) := dk_28 (dk_at dksX3_enter_0 0 rfl rfl)
theorem dX3_enter_1 : decode cX3_enter 1 = .ok (.istore_n 3, 1) := dk_62 (dk_at dksX3_enter_0 1 rfl rfl)
theorem dX3_enter_2 : decode cX3_enter 2 = .ok (.iconst 0, 1) := dk_3 (dk_at dksX3_enter_0 2 rfl rfl)
theorem dX3_enter_3 : decode cX3_enter 3 = .ok (.istore 4, 2) := dk_54 4 (dk_at dksX3_enter_0 3 rfl rfl)
theorem dX3_enter_5 : decode cX3_enter 5 = .ok (.iload_n 3, 1) := dk_29 (dk_at dksX3_enter_0 5 rfl rfl)
theorem dX3_enter_6 : decode cX3_enter 6 = .ok (.aload_n 1, 1) := dk_43 (dk_at dksX3_enter_0 6 rfl rfl)
theorem dX3_enter_7 : decode cX3_enter 7 = .ok (.getfield 69, 3) := dk_180 0 69 (dk_at dksX3_enter_0 7 rfl rfl)
theorem dX3_enter_10 : decode cX3_enter 10 = .ok (.iload 4, 2) := dk_21 4 (dk_at dksX3_enter_0 10 rfl rfl)
theorem dX3_enter_12 : decode cX3_enter 12 = .ok (.aaload, 1) := dk_50 (dk_at dksX3_enter_0 12 rfl rfl)
theorem dX3_enter_13 : decode cX3_enter 13 = .ok (.invokevirtual 73, 3) := dk_182 0 73 (dk_at dksX3_enter_0 13 rfl rfl)
theorem dX3_enter_16 : decode cX3_enter 16 = .ok (.if_icmp .lt 22, 3) := dk_161 0 22 (dk_at dksX3_enter_0 16 rfl rfl)
theorem dX3_enter_19 : decode cX3_enter 19 = .ok (.iload_n 3, 1) := dk_29 (dk_at dksX3_enter_0 19 rfl rfl)
theorem dX3_enter_20 : decode cX3_enter 20 = .ok (.aload_n 1, 1) := dk_43 (dk_at dksX3_enter_0 20 rfl rfl)
theorem dX3_enter_21 : decode cX3_enter 21 = .ok (.getfield 69, 3) := dk_180 0 69 (dk_at dksX3_enter_0 21 rfl rfl)
theorem dX3_enter_24 : decode cX3_enter 24 = .ok (.iload 4, 2) := dk_21 4 (dk_at dksX3_enter_1 0 rfl rfl)
theorem dX3_enter_26 : decode cX3_enter 26 = .ok (.aaload, 1) := dk_50 (dk_at dksX3_enter_1 2 rfl rfl)
theorem dX3_enter_27 : decode cX3_enter 27 = .ok (.invokevirtual 73, 3) := dk_182 0 73 (dk_at dksX3_enter_1 3 rfl rfl)
theorem dX3_enter_30 : decode cX3_enter 30 = .ok (.isub, 1) := dk_100 (dk_at dksX3_enter_1 6 rfl rfl)
theorem dX3_enter_31 : decode cX3_enter 31 = .ok (.istore_n 3, 1) := dk_62 (dk_at dksX3_enter_1 7 rfl rfl)
theorem dX3_enter_32 : decode cX3_enter 32 = .ok (.iinc 4 1, 3) := dk_132 4 1 (dk_at dksX3_enter_1 8 rfl rfl)
theorem dX3_enter_35 : decode cX3_enter 35 = .ok (.goto (-30), 3) := dk_167 255 226 (dk_at dksX3_enter_1 11 rfl rfl)
theorem dX3_enter_38 : decode cX3_enter 38 = .ok (.aload_n 0, 1) := dk_42 (dk_at dksX3_enter_1 14 rfl rfl)
theorem dX3_enter_39 : decode cX3_enter 39 = .ok (.aload_n 1, 1) := dk_43 (dk_at dksX3_enter_1 15 rfl rfl)
theorem dX3_enter_40 : decode cX3_enter 40 = .ok (.getfield 69, 3) := dk_180 0 69 (dk_at dksX3_enter_1 16 rfl rfl)
theorem dX3_enter_43 : decode cX3_enter 43 = .ok (.iload 4, 2) := dk_21 4 (dk_at dksX3_enter_1 19 rfl rfl)
theorem dX3_enter_45 : decode cX3_enter 45 = .ok (.aaload, 1) := dk_50 (dk_at dksX3_enter_1 21 rfl rfl)
theorem dX3_enter_46 : decode cX3_enter 46 = .ok (.putfield 15, 3) := dk_181 0 15 (dk_at dksX3_enter_2 0 rfl rfl)
theorem dX3_enter_49 : decode cX3_enter 49 = .ok (.aload_n 0, 1) := dk_42 (dk_at dksX3_enter_2 3 rfl rfl)
theorem dX3_enter_50 : decode cX3_enter 50 = .ok (.iconst 0, 1) := dk_3 (dk_at dksX3_enter_2 4 rfl rfl)
theorem dX3_enter_51 : decode cX3_enter 51 = .ok (.putfield 38, 3) := dk_181 0 38 (dk_at dksX3_enter_2 5 rfl rfl)
theorem dX3_enter_54 : decode cX3_enter 54 = .ok (.iload_n 3, 1) := dk_29 (dk_at dksX3_enter_2 8 rfl rfl)
theorem dX3_enter_55 : decode cX3_enter 55 = .ok (.ireturn, 1) := dk_172 (dk_at dksX3_enter_2 9 rfl rfl)
abbrev cX3_selectedSize : ByteArray := prog_5_method_11_code
def yX3_selectedSize : MethodName := ⟨RX3, "selectedSize", "()I"⟩
def dkwX3_selectedSize_0 : List UInt8 := [42, 180, 0, 15, 42, 180, 0, 38, 42, 180, 0, 50, 100, 42, 180, 0, 38, 182, 0, 108, 172]
abbrev dktX3_selectedSize_0 : List UInt8 := dkwX3_selectedSize_0 ++ []
theorem dksX3_selectedSize_0 : cX3_selectedSize.data.toList.drop 0 = dktX3_selectedSize_0 := by decide +kernel
theorem dX3_selectedSize_0 : decode cX3_selectedSize 0 = .ok (.aload_n 0, 1) := dk_42 (dk_at dksX3_selectedSize_0 0 rfl rfl)
theorem dX3_selectedSize_1 : decode cX3_selectedSize 1 = .ok (.getfield 15, 3) := dk_180 0 15 (dk_at dksX3_selectedSize_0 1 rfl rfl)
theorem dX3_selectedSize_4 : decode cX3_selectedSize 4 = .ok (.aload_n 0, 1) := dk_42 (dk_at dksX3_selectedSize_0 4 rfl rfl)
theorem dX3_selectedSize_5 : decode cX3_selectedSize 5 = .ok (.getfield 38, 3) := dk_180 0 38 (dk_at dksX3_selectedSize_0 5 rfl rfl)
theorem dX3_selectedSize_8 : decode cX3_selectedSize 8 = .ok (.aload_n 0, 1) := dk_42 (dk_at dksX3_selectedSize_0 8 rfl rfl)
theorem dX3_selectedSize_9 : decode cX3_selectedSize 9 = .ok (.getfield 50, 3) := dk_180 0 50 (dk_at dksX3_selectedSize_0 9 rfl rfl)
theorem dX3_selectedSize_12 : decode cX3_selectedSize 12 = .ok (.isub, 1) := dk_100 (dk_at dksX3_selectedSize_0 12 rfl rfl)
theorem dX3_selectedSize_13 : decode cX3_selectedSize 13 = .ok (.aload_n 0, 1) := dk_42 (dk_at dksX3_selectedSize_0 13 rfl rfl)
theorem dX3_selectedSize_14 : decode cX3_selectedSize 14 = .ok (.getfield 38, 3) := dk_180 0 38 (dk_at dksX3_selectedSize_0 14 rfl rfl)
theorem dX3_selectedSize_17 : decode cX3_selectedSize 17 = .ok (.invokevirtual 108, 3) := dk_182 0 108 (dk_at dksX3_selectedSize_0 17 rfl rfl)
theorem dX3_selectedSize_20 : decode cX3_selectedSize 20 = .ok (.ireturn, 1) := dk_172 (dk_at dksX3_selectedSize_0 20 rfl rfl)
abbrev cX3_moveBy : ByteArray := prog_5_method_6_code
def yX3_moveBy : MethodName := ⟨RX3, "moveBy", "(I)I"⟩
def dkwX3_moveBy_1 : List UInt8 := [182, 0, 46, 42, 182, 0, 76, 172]
abbrev dktX3_moveBy_1 : List UInt8 := dkwX3_moveBy_1 ++ []
def dkwX3_moveBy_0 : List UInt8 := [42, 3, 42, 180, 0, 9, 182, 0, 73, 4, 100, 42, 182, 0, 76, 27, 96, 184, 0, 78, 184, 0, 84]
abbrev dktX3_moveBy_0 : List UInt8 := dkwX3_moveBy_0 ++ dktX3_moveBy_1
theorem dksX3_moveBy_0 : cX3_moveBy.data.toList.drop 0 = dktX3_moveBy_0 := by decide +kernel
theorem dksX3_moveBy_1 : cX3_moveBy.data.toList.drop 23 = dktX3_moveBy_1 := dk_seg dksX3_moveBy_0 23 rfl rfl
theorem dX3_moveBy_0 : decode cX3_moveBy 0 = .ok (.aload_n 0, 1) := dk_42 (dk_at dksX3_moveBy_0 0 rfl rfl)
theorem dX3_moveBy_1 : decode cX3_moveBy 1 = .ok (.iconst 0, 1) := dk_3 (dk_at dksX3_moveBy_0 1 rfl rfl)
theorem dX3_moveBy_2 : decode cX3_moveBy 2 = .ok (.aload_n 0, 1) := dk_42 (dk_at dksX3_moveBy_0 2 rfl rfl)
theorem dX3_moveBy_3 : decode cX3_moveBy 3 = .ok (.getfield 9, 3) := dk_180 0 9 (dk_at dksX3_moveBy_0 3 rfl rfl)
theorem dX3_moveBy_6 : decode cX3_moveBy 6 = .ok (.invokevirtual 73, 3) := dk_182 0 73 (dk_at dksX3_moveBy_0 6 rfl rfl)
theorem dX3_moveBy_9 : decode cX3_moveBy 9 = .ok (.iconst 1, 1) := dk_4 (dk_at dksX3_moveBy_0 9 rfl rfl)
theorem dX3_moveBy_10 : decode cX3_moveBy 10 = .ok (.isub, 1) := dk_100 (dk_at dksX3_moveBy_0 10 rfl rfl)
theorem dX3_moveBy_11 : decode cX3_moveBy 11 = .ok (.aload_n 0, 1) := dk_42 (dk_at dksX3_moveBy_0 11 rfl rfl)
theorem dX3_moveBy_12 : decode cX3_moveBy 12 = .ok (.invokevirtual 76, 3) := dk_182 0 76 (dk_at dksX3_moveBy_0 12 rfl rfl)
theorem dX3_moveBy_15 : decode cX3_moveBy 15 = .ok (.iload_n 1, 1) := dk_27 (dk_at dksX3_moveBy_0 15 rfl rfl)
theorem dX3_moveBy_16 : decode cX3_moveBy 16 = .ok (.iadd, 1) := dk_96 (dk_at dksX3_moveBy_0 16 rfl rfl)
theorem dX3_moveBy_17 : decode cX3_moveBy 17 = .ok (.invokestatic 78, 3) := dk_184 0 78 (dk_at dksX3_moveBy_0 17 rfl rfl)
theorem dX3_moveBy_20 : decode cX3_moveBy 20 = .ok (.invokestatic 84, 3) := dk_184 0 84 (dk_at dksX3_moveBy_0 20 rfl rfl)
theorem dX3_moveBy_23 : decode cX3_moveBy 23 = .ok (.invokevirtual 46, 3) := dk_182 0 46 (dk_at dksX3_moveBy_1 0 rfl rfl)
theorem dX3_moveBy_26 : decode cX3_moveBy 26 = .ok (.aload_n 0, 1) := dk_42 (dk_at dksX3_moveBy_1 3 rfl rfl)
theorem dX3_moveBy_27 : decode cX3_moveBy 27 = .ok (.invokevirtual 76, 3) := dk_182 0 76 (dk_at dksX3_moveBy_1 4 rfl rfl)
theorem dX3_moveBy_30 : decode cX3_moveBy 30 = .ok (.ireturn, 1) := dk_172 (dk_at dksX3_moveBy_1 7 rfl rfl)
abbrev cX3_extend : ByteArray := prog_5_method_9_code
def yX3_extend : MethodName := ⟨RX3, "extend", "(Z)Z"⟩
def dkwX3_extend_3 : List UInt8 := [28, 153, 0, 11, 27, 153, 0, 7, 4, 167, 0, 4, 3, 96, 181, 0, 38, 28, 172]
abbrev dktX3_extend_3 : List UInt8 := dkwX3_extend_3 ++ []
def dkwX3_extend_2 : List UInt8 := [61, 42, 89, 180, 0, 50, 28, 153, 0, 7, 4, 167, 0, 4, 3, 96, 181, 0, 50, 42, 89, 180, 0, 38]
abbrev dktX3_extend_2 : List UInt8 := dkwX3_extend_2 ++ dktX3_extend_3
def dkwX3_extend_1 : List UInt8 := [167, 0, 24, 3, 167, 0, 20, 42, 180, 0, 38, 42, 180, 0, 50, 100, 158, 0, 7, 4, 167, 0, 4, 3]
abbrev dktX3_extend_1 : List UInt8 := dkwX3_extend_1 ++ dktX3_extend_2
def dkwX3_extend_0 : List UInt8 := [27, 153, 0, 30, 42, 180, 0, 38, 42, 180, 0, 15, 180, 0, 21, 185, 0, 25, 1, 0, 162, 0, 7, 4]
abbrev dktX3_extend_0 : List UInt8 := dkwX3_extend_0 ++ dktX3_extend_1
theorem dksX3_extend_0 : cX3_extend.data.toList.drop 0 = dktX3_extend_0 := by decide +kernel
theorem dksX3_extend_1 : cX3_extend.data.toList.drop 24 = dktX3_extend_1 := dk_seg dksX3_extend_0 24 rfl rfl
theorem dksX3_extend_2 : cX3_extend.data.toList.drop 48 = dktX3_extend_2 := dk_seg dksX3_extend_1 24 rfl rfl
theorem dksX3_extend_3 : cX3_extend.data.toList.drop 72 = dktX3_extend_3 := dk_seg dksX3_extend_2 24 rfl rfl
theorem dX3_extend_0 : decode cX3_extend 0 = .ok (.iload_n 1, 1) := dk_27 (dk_at dksX3_extend_0 0 rfl rfl)
theorem dX3_extend_1 : decode cX3_extend 1 = .ok (.ifCond .eq 30, 3) := dk_153 0 30 (dk_at dksX3_extend_0 1 rfl rfl)
theorem dX3_extend_4 : decode cX3_extend 4 = .ok (.aload_n 0, 1) := dk_42 (dk_at dksX3_extend_0 4 rfl rfl)
theorem dX3_extend_5 : decode cX3_extend 5 = .ok (.getfield 38, 3) := dk_180 0 38 (dk_at dksX3_extend_0 5 rfl rfl)
theorem dX3_extend_8 : decode cX3_extend 8 = .ok (.aload_n 0, 1) := dk_42 (dk_at dksX3_extend_0 8 rfl rfl)
theorem dX3_extend_9 : decode cX3_extend 9 = .ok (.getfield 15, 3) := dk_180 0 15 (dk_at dksX3_extend_0 9 rfl rfl)
theorem dX3_extend_12 : decode cX3_extend 12 = .ok (.getfield 21, 3) := dk_180 0 21 (dk_at dksX3_extend_0 12 rfl rfl)
theorem dX3_extend_15 : decode cX3_extend 15 = .ok (.invokeinterface 25 1, 5) := by decide +kernel
theorem dX3_extend_20 : decode cX3_extend 20 = .ok (.if_icmp .ge 7, 3) := dk_162 0 7 (dk_at dksX3_extend_0 20 rfl rfl)
theorem dX3_extend_23 : decode cX3_extend 23 = .ok (.iconst 1, 1) := dk_4 (dk_at dksX3_extend_0 23 rfl rfl)
theorem dX3_extend_24 : decode cX3_extend 24 = .ok (.goto 24, 3) := dk_167 0 24 (dk_at dksX3_extend_1 0 rfl rfl)
theorem dX3_extend_27 : decode cX3_extend 27 = .ok (.iconst 0, 1) := dk_3 (dk_at dksX3_extend_1 3 rfl rfl)
theorem dX3_extend_28 : decode cX3_extend 28 = .ok (.goto 20, 3) := dk_167 0 20 (dk_at dksX3_extend_1 4 rfl rfl)
theorem dX3_extend_31 : decode cX3_extend 31 = .ok (.aload_n 0, 1) := dk_42 (dk_at dksX3_extend_1 7 rfl rfl)
theorem dX3_extend_32 : decode cX3_extend 32 = .ok (.getfield 38, 3) := dk_180 0 38 (dk_at dksX3_extend_1 8 rfl rfl)
theorem dX3_extend_35 : decode cX3_extend 35 = .ok (.aload_n 0, 1) := dk_42 (dk_at dksX3_extend_1 11 rfl rfl)
theorem dX3_extend_36 : decode cX3_extend 36 = .ok (.getfield 50, 3) := dk_180 0 50 (dk_at dksX3_extend_1 12 rfl rfl)
theorem dX3_extend_39 : decode cX3_extend 39 = .ok (.isub, 1) := dk_100 (dk_at dksX3_extend_1 15 rfl rfl)
theorem dX3_extend_40 : decode cX3_extend 40 = .ok (.ifCond .le 7, 3) := dk_158 0 7 (dk_at dksX3_extend_1 16 rfl rfl)
theorem dX3_extend_43 : decode cX3_extend 43 = .ok (.iconst 1, 1) := dk_4 (dk_at dksX3_extend_1 19 rfl rfl)
theorem dX3_extend_44 : decode cX3_extend 44 = .ok (.goto 4, 3) := dk_167 0 4 (dk_at dksX3_extend_1 20 rfl rfl)
theorem dX3_extend_47 : decode cX3_extend 47 = .ok (.iconst 0, 1) := dk_3 (dk_at dksX3_extend_1 23 rfl rfl)
theorem dX3_extend_48 : decode cX3_extend 48 = .ok (.istore_n 2, 1) := dk_61 (dk_at dksX3_extend_2 0 rfl rfl)
theorem dX3_extend_49 : decode cX3_extend 49 = .ok (.aload_n 0, 1) := dk_42 (dk_at dksX3_extend_2 1 rfl rfl)
theorem dX3_extend_50 : decode cX3_extend 50 = .ok (.dup, 1) := dk_89 (dk_at dksX3_extend_2 2 rfl rfl)
theorem dX3_extend_51 : decode cX3_extend 51 = .ok (.getfield 50, 3) := dk_180 0 50 (dk_at dksX3_extend_2 3 rfl rfl)
theorem dX3_extend_54 : decode cX3_extend 54 = .ok (.iload_n 2, 1) := dk_28 (dk_at dksX3_extend_2 6 rfl rfl)
theorem dX3_extend_55 : decode cX3_extend 55 = .ok (.ifCond .eq 7, 3) := dk_153 0 7 (dk_at dksX3_extend_2 7 rfl rfl)
theorem dX3_extend_58 : decode cX3_extend 58 = .ok (.iconst 1, 1) := dk_4 (dk_at dksX3_extend_2 10 rfl rfl)
theorem dX3_extend_59 : decode cX3_extend 59 = .ok (.goto 4, 3) := dk_167 0 4 (dk_at dksX3_extend_2 11 rfl rfl)
theorem dX3_extend_62 : decode cX3_extend 62 = .ok (.iconst 0, 1) := dk_3 (dk_at dksX3_extend_2 14 rfl rfl)
theorem dX3_extend_63 : decode cX3_extend 63 = .ok (.iadd, 1) := dk_96 (dk_at dksX3_extend_2 15 rfl rfl)
theorem dX3_extend_64 : decode cX3_extend 64 = .ok (.putfield 50, 3) := dk_181 0 50 (dk_at dksX3_extend_2 16 rfl rfl)
theorem dX3_extend_67 : decode cX3_extend 67 = .ok (.aload_n 0, 1) := dk_42 (dk_at dksX3_extend_2 19 rfl rfl)
theorem dX3_extend_68 : decode cX3_extend 68 = .ok (.dup, 1) := dk_89 (dk_at dksX3_extend_2 20 rfl rfl)
theorem dX3_extend_69 : decode cX3_extend 69 = .ok (.getfield 38, 3) := dk_180 0 38 (dk_at dksX3_extend_2 21 rfl rfl)
theorem dX3_extend_72 : decode cX3_extend 72 = .ok (.iload_n 2, 1) := dk_28 (dk_at dksX3_extend_3 0 rfl rfl)
theorem dX3_extend_73 : decode cX3_extend 73 = .ok (.ifCond .eq 11, 3) := dk_153 0 11 (dk_at dksX3_extend_3 1 rfl rfl)
theorem dX3_extend_76 : decode cX3_extend 76 = .ok (.iload_n 1, 1) := dk_27 (dk_at dksX3_extend_3 4 rfl rfl)
theorem dX3_extend_77 : decode cX3_extend 77 = .ok (.ifCond .eq 7, 3) := dk_153 0 7 (dk_at dksX3_extend_3 5 rfl rfl)
theorem dX3_extend_80 : decode cX3_extend 80 = .ok (.iconst 1, 1) := dk_4 (dk_at dksX3_extend_3 8 rfl rfl)
theorem dX3_extend_81 : decode cX3_extend 81 = .ok (.goto 4, 3) := dk_167 0 4 (dk_at dksX3_extend_3 9 rfl rfl)
theorem dX3_extend_84 : decode cX3_extend 84 = .ok (.iconst 0, 1) := dk_3 (dk_at dksX3_extend_3 12 rfl rfl)
theorem dX3_extend_85 : decode cX3_extend 85 = .ok (.iadd, 1) := dk_96 (dk_at dksX3_extend_3 13 rfl rfl)
theorem dX3_extend_86 : decode cX3_extend 86 = .ok (.putfield 38, 3) := dk_181 0 38 (dk_at dksX3_extend_3 14 rfl rfl)
theorem dX3_extend_89 : decode cX3_extend 89 = .ok (.iload_n 2, 1) := dk_28 (dk_at dksX3_extend_3 17 rfl rfl)
theorem dX3_extend_90 : decode cX3_extend 90 = .ok (.ireturn, 1) := dk_172 (dk_at dksX3_extend_3 18 rfl rfl)
abbrev cX3_grow : ByteArray := prog_5_method_10_code
def yX3_grow : MethodName := ⟨RX3, "grow", "()Z"⟩
def dkwX3_grow_4 : List UInt8 := [181, 0, 50, 167, 0, 5, 3, 172, 4, 172]
abbrev dktX3_grow_4 : List UInt8 := dkwX3_grow_4 ++ []
def dkwX3_grow_3 : List UInt8 := [180, 0, 87, 77, 42, 44, 180, 0, 101, 44, 180, 0, 101, 44, 182, 0, 102, 4, 96, 182, 0, 97, 42, 4]
abbrev dktX3_grow_3 : List UInt8 := dkwX3_grow_3 ++ dktX3_grow_4
def dkwX3_grow_2 : List UInt8 := [42, 27, 181, 0, 38, 167, 0, 49, 42, 180, 0, 15, 180, 0, 87, 198, 0, 37, 42, 180, 0, 15]
abbrev dktX3_grow_2 : List UInt8 := dkwX3_grow_2 ++ dktX3_grow_3
def dkwX3_grow_1 : List UInt8 := [158, 0, 11, 42, 4, 181, 0, 50, 167, 0, 70, 42, 180, 0, 50, 27, 162, 0, 16, 42, 27, 181, 0, 50]
abbrev dktX3_grow_1 : List UInt8 := dkwX3_grow_1 ++ dktX3_grow_2
def dkwX3_grow_0 : List UInt8 := [42, 180, 0, 15, 180, 0, 21, 185, 0, 25, 1, 0, 60, 42, 180, 0, 50, 154, 0, 18, 42, 180, 0, 38]
abbrev dktX3_grow_0 : List UInt8 := dkwX3_grow_0 ++ dktX3_grow_1
theorem dksX3_grow_0 : cX3_grow.data.toList.drop 0 = dktX3_grow_0 := by decide +kernel
theorem dksX3_grow_1 : cX3_grow.data.toList.drop 24 = dktX3_grow_1 := dk_seg dksX3_grow_0 24 rfl rfl
theorem dksX3_grow_2 : cX3_grow.data.toList.drop 48 = dktX3_grow_2 := dk_seg dksX3_grow_1 24 rfl rfl
theorem dksX3_grow_3 : cX3_grow.data.toList.drop 70 = dktX3_grow_3 := dk_seg dksX3_grow_2 22 rfl rfl
theorem dksX3_grow_4 : cX3_grow.data.toList.drop 94 = dktX3_grow_4 := dk_seg dksX3_grow_3 24 rfl rfl
theorem dX3_grow_0 : decode cX3_grow 0 = .ok (.aload_n 0, 1) := dk_42 (dk_at dksX3_grow_0 0 rfl rfl)
theorem dX3_grow_1 : decode cX3_grow 1 = .ok (.getfield 15, 3) := dk_180 0 15 (dk_at dksX3_grow_0 1 rfl rfl)
theorem dX3_grow_4 : decode cX3_grow 4 = .ok (.getfield 21, 3) := dk_180 0 21 (dk_at dksX3_grow_0 4 rfl rfl)
theorem dX3_grow_7 : decode cX3_grow 7 = .ok (.invokeinterface 25 1, 5) := by decide +kernel
theorem dX3_grow_12 : decode cX3_grow 12 = .ok (.istore_n 1, 1) := dk_60 (dk_at dksX3_grow_0 12 rfl rfl)
theorem dX3_grow_13 : decode cX3_grow 13 = .ok (.aload_n 0, 1) := dk_42 (dk_at dksX3_grow_0 13 rfl rfl)
theorem dX3_grow_14 : decode cX3_grow 14 = .ok (.getfield 50, 3) := dk_180 0 50 (dk_at dksX3_grow_0 14 rfl rfl)
theorem dX3_grow_17 : decode cX3_grow 17 = .ok (.ifCond .ne 18, 3) := dk_154 0 18 (dk_at dksX3_grow_0 17 rfl rfl)
theorem dX3_grow_20 : decode cX3_grow 20 = .ok (.aload_n 0, 1) := dk_42 (dk_at dksX3_grow_0 20 rfl rfl)
theorem dX3_grow_21 : decode cX3_grow 21 = .ok (.getfield 38, 3) := dk_180 0 38 (dk_at dksX3_grow_0 21 rfl rfl)
theorem dX3_grow_24 : decode cX3_grow 24 = .ok (.ifCond .le 11, 3) := dk_158 0 11 (dk_at dksX3_grow_1 0 rfl rfl)
theorem dX3_grow_27 : decode cX3_grow 27 = .ok (.aload_n 0, 1) := dk_42 (dk_at dksX3_grow_1 3 rfl rfl)
theorem dX3_grow_28 : decode cX3_grow 28 = .ok (.iconst 1, 1) := dk_4 (dk_at dksX3_grow_1 4 rfl rfl)
theorem dX3_grow_29 : decode cX3_grow 29 = .ok (.putfield 50, 3) := dk_181 0 50 (dk_at dksX3_grow_1 5 rfl rfl)
theorem dX3_grow_32 : decode cX3_grow 32 = .ok (.goto 70, 3) := dk_167 0 70 (dk_at dksX3_grow_1 8 rfl rfl)
theorem dX3_grow_35 : decode cX3_grow 35 = .ok (.aload_n 0, 1) := dk_42 (dk_at dksX3_grow_1 11 rfl rfl)
theorem dX3_grow_36 : decode cX3_grow 36 = .ok (.getfield 50, 3) := dk_180 0 50 (dk_at dksX3_grow_1 12 rfl rfl)
theorem dX3_grow_39 : decode cX3_grow 39 = .ok (.iload_n 1, 1) := dk_27 (dk_at dksX3_grow_1 15 rfl rfl)
theorem dX3_grow_40 : decode cX3_grow 40 = .ok (.if_icmp .ge 16, 3) := dk_162 0 16 (dk_at dksX3_grow_1 16 rfl rfl)
theorem dX3_grow_43 : decode cX3_grow 43 = .ok (.aload_n 0, 1) := dk_42 (dk_at dksX3_grow_1 19 rfl rfl)
theorem dX3_grow_44 : decode cX3_grow 44 = .ok (.iload_n 1, 1) := dk_27 (dk_at dksX3_grow_1 20 rfl rfl)
theorem dX3_grow_45 : decode cX3_grow 45 = .ok (.putfield 50, 3) := dk_181 0 50 (dk_at dksX3_grow_1 21 rfl rfl)
theorem dX3_grow_48 : decode cX3_grow 48 = .ok (.aload_n 0, 1) := dk_42 (dk_at dksX3_grow_2 0 rfl rfl)
theorem dX3_grow_49 : decode cX3_grow 49 = .ok (.iload_n 1, 1) := dk_27 (dk_at dksX3_grow_2 1 rfl rfl)
theorem dX3_grow_50 : decode cX3_grow 50 = .ok (.putfield 38, 3) := dk_181 0 38 (dk_at dksX3_grow_2 2 rfl rfl)
theorem dX3_grow_53 : decode cX3_grow 53 = .ok (.goto 49, 3) := dk_167 0 49 (dk_at dksX3_grow_2 5 rfl rfl)
theorem dX3_grow_56 : decode cX3_grow 56 = .ok (.aload_n 0, 1) := dk_42 (dk_at dksX3_grow_2 8 rfl rfl)
theorem dX3_grow_57 : decode cX3_grow 57 = .ok (.getfield 15, 3) := dk_180 0 15 (dk_at dksX3_grow_2 9 rfl rfl)
theorem dX3_grow_60 : decode cX3_grow 60 = .ok (.getfield 87, 3) := dk_180 0 87 (dk_at dksX3_grow_2 12 rfl rfl)
theorem dX3_grow_63 : decode cX3_grow 63 = .ok (.ifnull 37, 3) := dk_198 0 37 (dk_at dksX3_grow_2 15 rfl rfl)
theorem dX3_grow_66 : decode cX3_grow 66 = .ok (.aload_n 0, 1) := dk_42 (dk_at dksX3_grow_2 18 rfl rfl)
theorem dX3_grow_67 : decode cX3_grow 67 = .ok (.getfield 15, 3) := dk_180 0 15 (dk_at dksX3_grow_2 19 rfl rfl)
theorem dX3_grow_70 : decode cX3_grow 70 = .ok (.getfield 87, 3) := dk_180 0 87 (dk_at dksX3_grow_3 0 rfl rfl)
theorem dX3_grow_73 : decode cX3_grow 73 = .ok (.astore_n 2, 1) := dk_77 (dk_at dksX3_grow_3 3 rfl rfl)
theorem dX3_grow_74 : decode cX3_grow 74 = .ok (.aload_n 0, 1) := dk_42 (dk_at dksX3_grow_3 4 rfl rfl)
theorem dX3_grow_75 : decode cX3_grow 75 = .ok (.aload_n 2, 1) := dk_44 (dk_at dksX3_grow_3 5 rfl rfl)
theorem dX3_grow_76 : decode cX3_grow 76 = .ok (.getfield 101, 3) := dk_180 0 101 (dk_at dksX3_grow_3 6 rfl rfl)
theorem dX3_grow_79 : decode cX3_grow 79 = .ok (.aload_n 2, 1) := dk_44 (dk_at dksX3_grow_3 9 rfl rfl)
theorem dX3_grow_80 : decode cX3_grow 80 = .ok (.getfield 101, 3) := dk_180 0 101 (dk_at dksX3_grow_3 10 rfl rfl)
theorem dX3_grow_83 : decode cX3_grow 83 = .ok (.aload_n 2, 1) := dk_44 (dk_at dksX3_grow_3 13 rfl rfl)
theorem dX3_grow_84 : decode cX3_grow 84 = .ok (.invokevirtual 102, 3) := dk_182 0 102 (dk_at dksX3_grow_3 14 rfl rfl)
theorem dX3_grow_87 : decode cX3_grow 87 = .ok (.iconst 1, 1) := dk_4 (dk_at dksX3_grow_3 17 rfl rfl)
theorem dX3_grow_88 : decode cX3_grow 88 = .ok (.iadd, 1) := dk_96 (dk_at dksX3_grow_3 18 rfl rfl)
theorem dX3_grow_89 : decode cX3_grow 89 = .ok (.invokevirtual 97, 3) := dk_182 0 97 (dk_at dksX3_grow_3 19 rfl rfl)
theorem dX3_grow_92 : decode cX3_grow 92 = .ok (.aload_n 0, 1) := dk_42 (dk_at dksX3_grow_3 22 rfl rfl)
theorem dX3_grow_93 : decode cX3_grow 93 = .ok (.iconst 1, 1) := dk_4 (dk_at dksX3_grow_3 23 rfl rfl)
theorem dX3_grow_94 : decode cX3_grow 94 = .ok (.putfield 50, 3) := dk_181 0 50 (dk_at dksX3_grow_4 0 rfl rfl)
theorem dX3_grow_97 : decode cX3_grow 97 = .ok (.goto 5, 3) := dk_167 0 5 (dk_at dksX3_grow_4 3 rfl rfl)
theorem dX3_grow_100 : decode cX3_grow 100 = .ok (.iconst 0, 1) := dk_3 (dk_at dksX3_grow_4 6 rfl rfl)
theorem dX3_grow_101 : decode cX3_grow 101 = .ok (.ireturn, 1) := dk_172 (dk_at dksX3_grow_4 7 rfl rfl)
theorem dX3_grow_102 : decode cX3_grow 102 = .ok (.iconst 1, 1) := dk_4 (dk_at dksX3_grow_4 8 rfl rfl)
theorem dX3_grow_103 : decode cX3_grow 103 = .ok (.ireturn, 1) := dk_172 (dk_at dksX3_grow_4 9 rfl rfl)
abbrev cX3_type : ByteArray := prog_5_method_13_code
def yX3_type : MethodName := ⟨RX3, "type", "(I)Z"⟩
def dkwX3_type_2 : List UInt8 := [182, 0, 127, 42, 89, 180, 0, 38, 4, 96, 181, 0, 38, 28, 172]
abbrev dktX3_type_2 : List UInt8 := dkwX3_type_2 ++ []
def dkwX3_type_1 : List UInt8 := [153, 0, 37, 42, 182, 0, 119, 87, 42, 180, 0, 15, 42, 180, 0, 38, 187, 0, 123, 89, 27, 183, 0, 125]
abbrev dktX3_type_1 : List UInt8 := dkwX3_type_1 ++ dktX3_type_2
def dkwX3_type_0 : List UInt8 := [42, 180, 0, 9, 182, 0, 115, 42, 182, 0, 116, 100, 16, 60, 162, 0, 7, 4, 167, 0, 4, 3, 61, 28]
abbrev dktX3_type_0 : List UInt8 := dkwX3_type_0 ++ dktX3_type_1
theorem dksX3_type_0 : cX3_type.data.toList.drop 0 = dktX3_type_0 := by decide +kernel
theorem dksX3_type_1 : cX3_type.data.toList.drop 24 = dktX3_type_1 := dk_seg dksX3_type_0 24 rfl rfl
theorem dksX3_type_2 : cX3_type.data.toList.drop 48 = dktX3_type_2 := dk_seg dksX3_type_1 24 rfl rfl
theorem dX3_type_0 : decode cX3_type 0 = .ok (.aload_n 0, 1) := dk_42 (dk_at dksX3_type_0 0 rfl rfl)
theorem dX3_type_1 : decode cX3_type 1 = .ok (.getfield 9, 3) := dk_180 0 9 (dk_at dksX3_type_0 1 rfl rfl)
theorem dX3_type_4 : decode cX3_type 4 = .ok (.invokevirtual 115, 3) := dk_182 0 115 (dk_at dksX3_type_0 4 rfl rfl)
theorem dX3_type_7 : decode cX3_type 7 = .ok (.aload_n 0, 1) := dk_42 (dk_at dksX3_type_0 7 rfl rfl)
theorem dX3_type_8 : decode cX3_type 8 = .ok (.invokevirtual 116, 3) := dk_182 0 116 (dk_at dksX3_type_0 8 rfl rfl)
theorem dX3_type_11 : decode cX3_type 11 = .ok (.isub, 1) := dk_100 (dk_at dksX3_type_0 11 rfl rfl)
theorem dX3_type_12 : decode cX3_type 12 = .ok (.bipush 60, 2) := dk_16 60 (dk_at dksX3_type_0 12 rfl rfl)
theorem dX3_type_14 : decode cX3_type 14 = .ok (.if_icmp .ge 7, 3) := dk_162 0 7 (dk_at dksX3_type_0 14 rfl rfl)
theorem dX3_type_17 : decode cX3_type 17 = .ok (.iconst 1, 1) := dk_4 (dk_at dksX3_type_0 17 rfl rfl)
theorem dX3_type_18 : decode cX3_type 18 = .ok (.goto 4, 3) := dk_167 0 4 (dk_at dksX3_type_0 18 rfl rfl)
theorem dX3_type_21 : decode cX3_type 21 = .ok (.iconst 0, 1) := dk_3 (dk_at dksX3_type_0 21 rfl rfl)
theorem dX3_type_22 : decode cX3_type 22 = .ok (.istore_n 2, 1) := dk_61 (dk_at dksX3_type_0 22 rfl rfl)
theorem dX3_type_23 : decode cX3_type 23 = .ok (.iload_n 2, 1) := dk_28 (dk_at dksX3_type_0 23 rfl rfl)
theorem dX3_type_24 : decode cX3_type 24 = .ok (.ifCond .eq 37, 3) := dk_153 0 37 (dk_at dksX3_type_1 0 rfl rfl)
theorem dX3_type_27 : decode cX3_type 27 = .ok (.aload_n 0, 1) := dk_42 (dk_at dksX3_type_1 3 rfl rfl)
theorem dX3_type_28 : decode cX3_type 28 = .ok (.invokevirtual 119, 3) := dk_182 0 119 (dk_at dksX3_type_1 4 rfl rfl)
theorem dX3_type_31 : decode cX3_type 31 = .ok (.pop, 1) := dk_87 (dk_at dksX3_type_1 7 rfl rfl)
theorem dX3_type_32 : decode cX3_type 32 = .ok (.aload_n 0, 1) := dk_42 (dk_at dksX3_type_1 8 rfl rfl)
theorem dX3_type_33 : decode cX3_type 33 = .ok (.getfield 15, 3) := dk_180 0 15 (dk_at dksX3_type_1 9 rfl rfl)
theorem dX3_type_36 : decode cX3_type 36 = .ok (.aload_n 0, 1) := dk_42 (dk_at dksX3_type_1 12 rfl rfl)
theorem dX3_type_37 : decode cX3_type 37 = .ok (.getfield 38, 3) := dk_180 0 38 (dk_at dksX3_type_1 13 rfl rfl)
theorem dX3_type_40 : decode cX3_type 40 = .ok (.new 123, 3) := dk_187 0 123 (dk_at dksX3_type_1 16 rfl rfl)
theorem dX3_type_43 : decode cX3_type 43 = .ok (.dup, 1) := dk_89 (dk_at dksX3_type_1 19 rfl rfl)
theorem dX3_type_44 : decode cX3_type 44 = .ok (.iload_n 1, 1) := dk_27 (dk_at dksX3_type_1 20 rfl rfl)
theorem dX3_type_45 : decode cX3_type 45 = .ok (.invokespecial 125, 3) := dk_183 0 125 (dk_at dksX3_type_1 21 rfl rfl)
theorem dX3_type_48 : decode cX3_type 48 = .ok (.invokevirtual 127, 3) := dk_182 0 127 (dk_at dksX3_type_2 0 rfl rfl)
theorem dX3_type_51 : decode cX3_type 51 = .ok (.aload_n 0, 1) := dk_42 (dk_at dksX3_type_2 3 rfl rfl)
theorem dX3_type_52 : decode cX3_type 52 = .ok (.dup, 1) := dk_89 (dk_at dksX3_type_2 4 rfl rfl)
theorem dX3_type_53 : decode cX3_type 53 = .ok (.getfield 38, 3) := dk_180 0 38 (dk_at dksX3_type_2 5 rfl rfl)
theorem dX3_type_56 : decode cX3_type 56 = .ok (.iconst 1, 1) := dk_4 (dk_at dksX3_type_2 8 rfl rfl)
theorem dX3_type_57 : decode cX3_type 57 = .ok (.iadd, 1) := dk_96 (dk_at dksX3_type_2 9 rfl rfl)
theorem dX3_type_58 : decode cX3_type 58 = .ok (.putfield 38, 3) := dk_181 0 38 (dk_at dksX3_type_2 10 rfl rfl)
theorem dX3_type_61 : decode cX3_type 61 = .ok (.iload_n 2, 1) := dk_28 (dk_at dksX3_type_2 13 rfl rfl)
theorem dX3_type_62 : decode cX3_type 62 = .ok (.ireturn, 1) := dk_172 (dk_at dksX3_type_2 14 rfl rfl)
abbrev cX3_takeSelected : ByteArray := prog_5_method_12_code
def yX3_takeSelected : MethodName := ⟨RX3, "takeSelected", "()LFormulaEditor$Row;"⟩
def dkwX3_takeSelected_1 : List UInt8 := [180, 0, 38, 42, 180, 0, 50, 100, 181, 0, 38, 42, 3, 181, 0, 50, 43, 176]
abbrev dktX3_takeSelected_1 : List UInt8 := dkwX3_takeSelected_1 ++ []
def dkwX3_takeSelected_0 : List UInt8 := [42, 180, 0, 15, 42, 180, 0, 38, 42, 180, 0, 50, 100, 42, 180, 0, 38, 182, 0, 111, 76, 42, 89]
abbrev dktX3_takeSelected_0 : List UInt8 := dkwX3_takeSelected_0 ++ dktX3_takeSelected_1
theorem dksX3_takeSelected_0 : cX3_takeSelected.data.toList.drop 0 = dktX3_takeSelected_0 := by decide +kernel
theorem dksX3_takeSelected_1 : cX3_takeSelected.data.toList.drop 23 = dktX3_takeSelected_1 := dk_seg dksX3_takeSelected_0 23 rfl rfl
theorem dX3_takeSelected_0 : decode cX3_takeSelected 0 = .ok (.aload_n 0, 1) := dk_42 (dk_at dksX3_takeSelected_0 0 rfl rfl)
theorem dX3_takeSelected_1 : decode cX3_takeSelected 1 = .ok (.getfield 15, 3) := dk_180 0 15 (dk_at dksX3_takeSelected_0 1 rfl rfl)
theorem dX3_takeSelected_4 : decode cX3_takeSelected 4 = .ok (.aload_n 0, 1) := dk_42 (dk_at dksX3_takeSelected_0 4 rfl rfl)
theorem dX3_takeSelected_5 : decode cX3_takeSelected 5 = .ok (.getfield 38, 3) := dk_180 0 38 (dk_at dksX3_takeSelected_0 5 rfl rfl)
theorem dX3_takeSelected_8 : decode cX3_takeSelected 8 = .ok (.aload_n 0, 1) := dk_42 (dk_at dksX3_takeSelected_0 8 rfl rfl)
theorem dX3_takeSelected_9 : decode cX3_takeSelected 9 = .ok (.getfield 50, 3) := dk_180 0 50 (dk_at dksX3_takeSelected_0 9 rfl rfl)
theorem dX3_takeSelected_12 : decode cX3_takeSelected 12 = .ok (.isub, 1) := dk_100 (dk_at dksX3_takeSelected_0 12 rfl rfl)
theorem dX3_takeSelected_13 : decode cX3_takeSelected 13 = .ok (.aload_n 0, 1) := dk_42 (dk_at dksX3_takeSelected_0 13 rfl rfl)
theorem dX3_takeSelected_14 : decode cX3_takeSelected 14 = .ok (.getfield 38, 3) := dk_180 0 38 (dk_at dksX3_takeSelected_0 14 rfl rfl)
theorem dX3_takeSelected_17 : decode cX3_takeSelected 17 = .ok (.invokevirtual 111, 3) := dk_182 0 111 (dk_at dksX3_takeSelected_0 17 rfl rfl)
theorem dX3_takeSelected_20 : decode cX3_takeSelected 20 = .ok (.astore_n 1, 1) := dk_76 (dk_at dksX3_takeSelected_0 20 rfl rfl)
theorem dX3_takeSelected_21 : decode cX3_takeSelected 21 = .ok (.aload_n 0, 1) := dk_42 (dk_at dksX3_takeSelected_0 21 rfl rfl)
theorem dX3_takeSelected_22 : decode cX3_takeSelected 22 = .ok (.dup, 1) := dk_89 (dk_at dksX3_takeSelected_0 22 rfl rfl)
theorem dX3_takeSelected_23 : decode cX3_takeSelected 23 = .ok (.getfield 38, 3) := dk_180 0 38 (dk_at dksX3_takeSelected_1 0 rfl rfl)
theorem dX3_takeSelected_26 : decode cX3_takeSelected 26 = .ok (.aload_n 0, 1) := dk_42 (dk_at dksX3_takeSelected_1 3 rfl rfl)
theorem dX3_takeSelected_27 : decode cX3_takeSelected 27 = .ok (.getfield 50, 3) := dk_180 0 50 (dk_at dksX3_takeSelected_1 4 rfl rfl)
theorem dX3_takeSelected_30 : decode cX3_takeSelected 30 = .ok (.isub, 1) := dk_100 (dk_at dksX3_takeSelected_1 7 rfl rfl)
theorem dX3_takeSelected_31 : decode cX3_takeSelected 31 = .ok (.putfield 38, 3) := dk_181 0 38 (dk_at dksX3_takeSelected_1 8 rfl rfl)
theorem dX3_takeSelected_34 : decode cX3_takeSelected 34 = .ok (.aload_n 0, 1) := dk_42 (dk_at dksX3_takeSelected_1 11 rfl rfl)
theorem dX3_takeSelected_35 : decode cX3_takeSelected 35 = .ok (.iconst 0, 1) := dk_3 (dk_at dksX3_takeSelected_1 12 rfl rfl)
theorem dX3_takeSelected_36 : decode cX3_takeSelected 36 = .ok (.putfield 50, 3) := dk_181 0 50 (dk_at dksX3_takeSelected_1 13 rfl rfl)
theorem dX3_takeSelected_39 : decode cX3_takeSelected 39 = .ok (.aload_n 1, 1) := dk_43 (dk_at dksX3_takeSelected_1 16 rfl rfl)
theorem dX3_takeSelected_40 : decode cX3_takeSelected 40 = .ok (.areturn, 1) := dk_176 (dk_at dksX3_takeSelected_1 17 rfl rfl)
abbrev cX3_copy : ByteArray := prog_5_method_2_code
def yX3_copy : MethodName := ⟨RX3, "copy", "()LFormulaEditor$Document;"⟩
def dkwX3_copy_2 : List UInt8 := [180, 0, 38, 182, 0, 42, 182, 0, 46, 44, 42, 180, 0, 50, 181, 0, 50, 44, 176]
abbrev dktX3_copy_2 : List UInt8 := dkwX3_copy_2 ++ []
def dkwX3_copy_1 : List UInt8 := [185, 0, 25, 1, 0, 182, 0, 31, 187, 0, 10, 89, 43, 183, 0, 35, 77, 44, 42, 180, 0, 15, 42]
abbrev dktX3_copy_1 : List UInt8 := dkwX3_copy_1 ++ dktX3_copy_2
def dkwX3_copy_0 : List UInt8 := [187, 0, 18, 89, 183, 0, 20, 76, 43, 42, 180, 0, 9, 3, 42, 180, 0, 9, 180, 0, 21]
abbrev dktX3_copy_0 : List UInt8 := dkwX3_copy_0 ++ dktX3_copy_1
theorem dksX3_copy_0 : cX3_copy.data.toList.drop 0 = dktX3_copy_0 := by decide +kernel
theorem dksX3_copy_1 : cX3_copy.data.toList.drop 21 = dktX3_copy_1 := dk_seg dksX3_copy_0 21 rfl rfl
theorem dksX3_copy_2 : cX3_copy.data.toList.drop 44 = dktX3_copy_2 := dk_seg dksX3_copy_1 23 rfl rfl
theorem dX3_copy_0 : decode cX3_copy 0 = .ok (.new 18, 3) := dk_187 0 18 (dk_at dksX3_copy_0 0 rfl rfl)
theorem dX3_copy_3 : decode cX3_copy 3 = .ok (.dup, 1) := dk_89 (dk_at dksX3_copy_0 3 rfl rfl)
theorem dX3_copy_4 : decode cX3_copy 4 = .ok (.invokespecial 20, 3) := dk_183 0 20 (dk_at dksX3_copy_0 4 rfl rfl)
theorem dX3_copy_7 : decode cX3_copy 7 = .ok (.astore_n 1, 1) := dk_76 (dk_at dksX3_copy_0 7 rfl rfl)
theorem dX3_copy_8 : decode cX3_copy 8 = .ok (.aload_n 1, 1) := dk_43 (dk_at dksX3_copy_0 8 rfl rfl)
theorem dX3_copy_9 : decode cX3_copy 9 = .ok (.aload_n 0, 1) := dk_42 (dk_at dksX3_copy_0 9 rfl rfl)
theorem dX3_copy_10 : decode cX3_copy 10 = .ok (.getfield 9, 3) := dk_180 0 9 (dk_at dksX3_copy_0 10 rfl rfl)
theorem dX3_copy_13 : decode cX3_copy 13 = .ok (.iconst 0, 1) := dk_3 (dk_at dksX3_copy_0 13 rfl rfl)
theorem dX3_copy_14 : decode cX3_copy 14 = .ok (.aload_n 0, 1) := dk_42 (dk_at dksX3_copy_0 14 rfl rfl)
theorem dX3_copy_15 : decode cX3_copy 15 = .ok (.getfield 9, 3) := dk_180 0 9 (dk_at dksX3_copy_0 15 rfl rfl)
theorem dX3_copy_18 : decode cX3_copy 18 = .ok (.getfield 21, 3) := dk_180 0 21 (dk_at dksX3_copy_0 18 rfl rfl)
theorem dX3_copy_21 : decode cX3_copy 21 = .ok (.invokeinterface 25 1, 5) := by decide +kernel
theorem dX3_copy_26 : decode cX3_copy 26 = .ok (.invokevirtual 31, 3) := dk_182 0 31 (dk_at dksX3_copy_1 5 rfl rfl)
theorem dX3_copy_29 : decode cX3_copy 29 = .ok (.new 10, 3) := dk_187 0 10 (dk_at dksX3_copy_1 8 rfl rfl)
theorem dX3_copy_32 : decode cX3_copy 32 = .ok (.dup, 1) := dk_89 (dk_at dksX3_copy_1 11 rfl rfl)
theorem dX3_copy_33 : decode cX3_copy 33 = .ok (.aload_n 1, 1) := dk_43 (dk_at dksX3_copy_1 12 rfl rfl)
theorem dX3_copy_34 : decode cX3_copy 34 = .ok (.invokespecial 35, 3) := dk_183 0 35 (dk_at dksX3_copy_1 13 rfl rfl)
theorem dX3_copy_37 : decode cX3_copy 37 = .ok (.astore_n 2, 1) := dk_77 (dk_at dksX3_copy_1 16 rfl rfl)
theorem dX3_copy_38 : decode cX3_copy 38 = .ok (.aload_n 2, 1) := dk_44 (dk_at dksX3_copy_1 17 rfl rfl)
theorem dX3_copy_39 : decode cX3_copy 39 = .ok (.aload_n 0, 1) := dk_42 (dk_at dksX3_copy_1 18 rfl rfl)
theorem dX3_copy_40 : decode cX3_copy 40 = .ok (.getfield 15, 3) := dk_180 0 15 (dk_at dksX3_copy_1 19 rfl rfl)
theorem dX3_copy_43 : decode cX3_copy 43 = .ok (.aload_n 0, 1) := dk_42 (dk_at dksX3_copy_1 22 rfl rfl)
theorem dX3_copy_44 : decode cX3_copy 44 = .ok (.getfield 38, 3) := dk_180 0 38 (dk_at dksX3_copy_2 0 rfl rfl)
theorem dX3_copy_47 : decode cX3_copy 47 = .ok (.invokevirtual 42, 3) := dk_182 0 42 (dk_at dksX3_copy_2 3 rfl rfl)
theorem dX3_copy_50 : decode cX3_copy 50 = .ok (.invokevirtual 46, 3) := dk_182 0 46 (dk_at dksX3_copy_2 6 rfl rfl)
theorem dX3_copy_53 : decode cX3_copy 53 = .ok (.aload_n 2, 1) := dk_44 (dk_at dksX3_copy_2 9 rfl rfl)
theorem dX3_copy_54 : decode cX3_copy 54 = .ok (.aload_n 0, 1) := dk_42 (dk_at dksX3_copy_2 10 rfl rfl)
theorem dX3_copy_55 : decode cX3_copy 55 = .ok (.getfield 50, 3) := dk_180 0 50 (dk_at dksX3_copy_2 11 rfl rfl)
theorem dX3_copy_58 : decode cX3_copy 58 = .ok (.putfield 50, 3) := dk_181 0 50 (dk_at dksX3_copy_2 14 rfl rfl)
theorem dX3_copy_61 : decode cX3_copy 61 = .ok (.aload_n 2, 1) := dk_44 (dk_at dksX3_copy_2 17 rfl rfl)
theorem dX3_copy_62 : decode cX3_copy 62 = .ok (.areturn, 1) := dk_176 (dk_at dksX3_copy_2 18 rfl rfl)
abbrev cX3_wrap : ByteArray := prog_5_method_14_code
def yX3_wrap : MethodName := ⟨RX3, "wrap", "(I)Z"⟩
def dkwX3_wrap_6 : List UInt8 := [182, 0, 97, 167, 0, 13, 42, 89, 180, 0, 38, 4, 96, 181, 0, 38, 28, 172]
abbrev dktX3_wrap_6 : List UInt8 := dkwX3_wrap_6 ++ []
def dkwX3_wrap_5 : List UInt8 := [25, 4, 182, 0, 149, 180, 0, 21, 185, 0, 152, 1, 0, 153, 0, 16, 42, 25, 4, 182, 0, 149, 3]
abbrev dktX3_wrap_5 : List UInt8 := dkwX3_wrap_5 ++ dktX3_wrap_6
def dkwX3_wrap_4 : List UInt8 := [87, 25, 4, 182, 0, 145, 153, 0, 18, 42, 25, 4, 180, 0, 69, 3, 50, 3, 182, 0, 97, 167, 0, 42]
abbrev dktX3_wrap_4 : List UInt8 := dkwX3_wrap_4 ++ dktX3_wrap_5
def dkwX3_wrap_3 : List UInt8 := [180, 0, 15, 42, 180, 0, 38, 25, 4, 182, 0, 127, 25, 4, 180, 0, 69, 3, 50, 3, 45, 182, 0, 141]
abbrev dktX3_wrap_3 : List UInt8 := dkwX3_wrap_3 ++ dktX3_wrap_4
def dkwX3_wrap_2 : List UInt8 := [4, 167, 0, 4, 3, 61, 28, 153, 0, 102, 42, 182, 0, 119, 78, 27, 184, 0, 137, 58, 4, 42]
abbrev dktX3_wrap_2 : List UInt8 := dkwX3_wrap_2 ++ dktX3_wrap_3
def dkwX3_wrap_1 : List UInt8 := [180, 0, 15, 42, 180, 0, 38, 42, 180, 0, 50, 100, 42, 180, 0, 38, 182, 0, 134, 96, 8, 163, 0, 7]
abbrev dktX3_wrap_1 : List UInt8 := dkwX3_wrap_1 ++ dktX3_wrap_2
def dkwX3_wrap_0 : List UInt8 := [42, 180, 0, 9, 182, 0, 115, 16, 60, 162, 0, 41, 42, 180, 0, 15, 182, 0, 131, 4, 96, 42]
abbrev dktX3_wrap_0 : List UInt8 := dkwX3_wrap_0 ++ dktX3_wrap_1
theorem dksX3_wrap_0 : cX3_wrap.data.toList.drop 0 = dktX3_wrap_0 := by decide +kernel
theorem dksX3_wrap_1 : cX3_wrap.data.toList.drop 22 = dktX3_wrap_1 := dk_seg dksX3_wrap_0 22 rfl rfl
theorem dksX3_wrap_2 : cX3_wrap.data.toList.drop 46 = dktX3_wrap_2 := dk_seg dksX3_wrap_1 24 rfl rfl
theorem dksX3_wrap_3 : cX3_wrap.data.toList.drop 68 = dktX3_wrap_3 := dk_seg dksX3_wrap_2 22 rfl rfl
theorem dksX3_wrap_4 : cX3_wrap.data.toList.drop 92 = dktX3_wrap_4 := dk_seg dksX3_wrap_3 24 rfl rfl
theorem dksX3_wrap_5 : cX3_wrap.data.toList.drop 116 = dktX3_wrap_5 := dk_seg dksX3_wrap_4 24 rfl rfl
theorem dksX3_wrap_6 : cX3_wrap.data.toList.drop 139 = dktX3_wrap_6 := dk_seg dksX3_wrap_5 23 rfl rfl
theorem dX3_wrap_0 : decode cX3_wrap 0 = .ok (.aload_n 0, 1) := dk_42 (dk_at dksX3_wrap_0 0 rfl rfl)
theorem dX3_wrap_1 : decode cX3_wrap 1 = .ok (.getfield 9, 3) := dk_180 0 9 (dk_at dksX3_wrap_0 1 rfl rfl)
theorem dX3_wrap_4 : decode cX3_wrap 4 = .ok (.invokevirtual 115, 3) := dk_182 0 115 (dk_at dksX3_wrap_0 4 rfl rfl)
theorem dX3_wrap_7 : decode cX3_wrap 7 = .ok (.bipush 60, 2) := dk_16 60 (dk_at dksX3_wrap_0 7 rfl rfl)
theorem dX3_wrap_9 : decode cX3_wrap 9 = .ok (.if_icmp .ge 41, 3) := dk_162 0 41 (dk_at dksX3_wrap_0 9 rfl rfl)
theorem dX3_wrap_12 : decode cX3_wrap 12 = .ok (.aload_n 0, 1) := dk_42 (dk_at dksX3_wrap_0 12 rfl rfl)
theorem dX3_wrap_13 : decode cX3_wrap 13 = .ok (.getfield 15, 3) := dk_180 0 15 (dk_at dksX3_wrap_0 13 rfl rfl)
theorem dX3_wrap_16 : decode cX3_wrap 16 = .ok (.invokevirtual 131, 3) := dk_182 0 131 (dk_at dksX3_wrap_0 16 rfl rfl)
theorem dX3_wrap_19 : decode cX3_wrap 19 = .ok (.iconst 1, 1) := dk_4 (dk_at dksX3_wrap_0 19 rfl rfl)
theorem dX3_wrap_20 : decode cX3_wrap 20 = .ok (.iadd, 1) := dk_96 (dk_at dksX3_wrap_0 20 rfl rfl)
theorem dX3_wrap_21 : decode cX3_wrap 21 = .ok (.aload_n 0, 1) := dk_42 (dk_at dksX3_wrap_0 21 rfl rfl)
theorem dX3_wrap_22 : decode cX3_wrap 22 = .ok (.getfield 15, 3) := dk_180 0 15 (dk_at dksX3_wrap_1 0 rfl rfl)
theorem dX3_wrap_25 : decode cX3_wrap 25 = .ok (.aload_n 0, 1) := dk_42 (dk_at dksX3_wrap_1 3 rfl rfl)
theorem dX3_wrap_26 : decode cX3_wrap 26 = .ok (.getfield 38, 3) := dk_180 0 38 (dk_at dksX3_wrap_1 4 rfl rfl)
theorem dX3_wrap_29 : decode cX3_wrap 29 = .ok (.aload_n 0, 1) := dk_42 (dk_at dksX3_wrap_1 7 rfl rfl)
theorem dX3_wrap_30 : decode cX3_wrap 30 = .ok (.getfield 50, 3) := dk_180 0 50 (dk_at dksX3_wrap_1 8 rfl rfl)
theorem dX3_wrap_33 : decode cX3_wrap 33 = .ok (.isub, 1) := dk_100 (dk_at dksX3_wrap_1 11 rfl rfl)
theorem dX3_wrap_34 : decode cX3_wrap 34 = .ok (.aload_n 0, 1) := dk_42 (dk_at dksX3_wrap_1 12 rfl rfl)
theorem dX3_wrap_35 : decode cX3_wrap 35 = .ok (.getfield 38, 3) := dk_180 0 38 (dk_at dksX3_wrap_1 13 rfl rfl)
theorem dX3_wrap_38 : decode cX3_wrap 38 = .ok (.invokevirtual 134, 3) := dk_182 0 134 (dk_at dksX3_wrap_1 16 rfl rfl)
theorem dX3_wrap_41 : decode cX3_wrap 41 = .ok (.iadd, 1) := dk_96 (dk_at dksX3_wrap_1 19 rfl rfl)
theorem dX3_wrap_42 : decode cX3_wrap 42 = .ok (.iconst 5, 1) := dk_8 (dk_at dksX3_wrap_1 20 rfl rfl)
theorem dX3_wrap_43 : decode cX3_wrap 43 = .ok (.if_icmp .gt 7, 3) := dk_163 0 7 (dk_at dksX3_wrap_1 21 rfl rfl)
theorem dX3_wrap_46 : decode cX3_wrap 46 = .ok (.iconst 1, 1) := dk_4 (dk_at dksX3_wrap_2 0 rfl rfl)
theorem dX3_wrap_47 : decode cX3_wrap 47 = .ok (.goto 4, 3) := dk_167 0 4 (dk_at dksX3_wrap_2 1 rfl rfl)
theorem dX3_wrap_50 : decode cX3_wrap 50 = .ok (.iconst 0, 1) := dk_3 (dk_at dksX3_wrap_2 4 rfl rfl)
theorem dX3_wrap_51 : decode cX3_wrap 51 = .ok (.istore_n 2, 1) := dk_61 (dk_at dksX3_wrap_2 5 rfl rfl)
theorem dX3_wrap_52 : decode cX3_wrap 52 = .ok (.iload_n 2, 1) := dk_28 (dk_at dksX3_wrap_2 6 rfl rfl)
theorem dX3_wrap_53 : decode cX3_wrap 53 = .ok (.ifCond .eq 102, 3) := dk_153 0 102 (dk_at dksX3_wrap_2 7 rfl rfl)
theorem dX3_wrap_56 : decode cX3_wrap 56 = .ok (.aload_n 0, 1) := dk_42 (dk_at dksX3_wrap_2 10 rfl rfl)
theorem dX3_wrap_57 : decode cX3_wrap 57 = .ok (.invokevirtual 119, 3) := dk_182 0 119 (dk_at dksX3_wrap_2 11 rfl rfl)
theorem dX3_wrap_60 : decode cX3_wrap 60 = .ok (.astore_n 3, 1) := dk_78 (dk_at dksX3_wrap_2 14 rfl rfl)
theorem dX3_wrap_61 : decode cX3_wrap 61 = .ok (.iload_n 1, 1) := dk_27 (dk_at dksX3_wrap_2 15 rfl rfl)
theorem dX3_wrap_62 : decode cX3_wrap 62 = .ok (.invokestatic 137, 3) := dk_184 0 137 (dk_at dksX3_wrap_2 16 rfl rfl)
theorem dX3_wrap_65 : decode cX3_wrap 65 = .ok (.astore 4, 2) := dk_58 4 (dk_at dksX3_wrap_2 19 rfl rfl)
theorem dX3_wrap_67 : decode cX3_wrap 67 = .ok (.aload_n 0, 1) := dk_42 (dk_at dksX3_wrap_2 21 rfl rfl)
theorem dX3_wrap_68 : decode cX3_wrap 68 = .ok (.getfield 15, 3) := dk_180 0 15 (dk_at dksX3_wrap_3 0 rfl rfl)
theorem dX3_wrap_71 : decode cX3_wrap 71 = .ok (.aload_n 0, 1) := dk_42 (dk_at dksX3_wrap_3 3 rfl rfl)
theorem dX3_wrap_72 : decode cX3_wrap 72 = .ok (.getfield 38, 3) := dk_180 0 38 (dk_at dksX3_wrap_3 4 rfl rfl)
theorem dX3_wrap_75 : decode cX3_wrap 75 = .ok (.aload 4, 2) := dk_25 4 (dk_at dksX3_wrap_3 7 rfl rfl)
theorem dX3_wrap_77 : decode cX3_wrap 77 = .ok (.invokevirtual 127, 3) := dk_182 0 127 (dk_at dksX3_wrap_3 9 rfl rfl)
theorem dX3_wrap_80 : decode cX3_wrap 80 = .ok (.aload 4, 2) := dk_25 4 (dk_at dksX3_wrap_3 12 rfl rfl)
theorem dX3_wrap_82 : decode cX3_wrap 82 = .ok (.getfield 69, 3) := dk_180 0 69 (dk_at dksX3_wrap_3 14 rfl rfl)
theorem dX3_wrap_85 : decode cX3_wrap 85 = .ok (.iconst 0, 1) := dk_3 (dk_at dksX3_wrap_3 17 rfl rfl)
theorem dX3_wrap_86 : decode cX3_wrap 86 = .ok (.aaload, 1) := dk_50 (dk_at dksX3_wrap_3 18 rfl rfl)
theorem dX3_wrap_87 : decode cX3_wrap 87 = .ok (.iconst 0, 1) := dk_3 (dk_at dksX3_wrap_3 19 rfl rfl)
theorem dX3_wrap_88 : decode cX3_wrap 88 = .ok (.aload_n 3, 1) := dk_45 (dk_at dksX3_wrap_3 20 rfl rfl)
theorem dX3_wrap_89 : decode cX3_wrap 89 = .ok (.invokevirtual 141, 3) := dk_182 0 141 (dk_at dksX3_wrap_3 21 rfl rfl)
theorem dX3_wrap_92 : decode cX3_wrap 92 = .ok (.pop, 1) := dk_87 (dk_at dksX3_wrap_4 0 rfl rfl)
theorem dX3_wrap_93 : decode cX3_wrap 93 = .ok (.aload 4, 2) := dk_25 4 (dk_at dksX3_wrap_4 1 rfl rfl)
theorem dX3_wrap_95 : decode cX3_wrap 95 = .ok (.invokevirtual 145, 3) := dk_182 0 145 (dk_at dksX3_wrap_4 3 rfl rfl)
theorem dX3_wrap_98 : decode cX3_wrap 98 = .ok (.ifCond .eq 18, 3) := dk_153 0 18 (dk_at dksX3_wrap_4 6 rfl rfl)
theorem dX3_wrap_101 : decode cX3_wrap 101 = .ok (.aload_n 0, 1) := dk_42 (dk_at dksX3_wrap_4 9 rfl rfl)
theorem dX3_wrap_102 : decode cX3_wrap 102 = .ok (.aload 4, 2) := dk_25 4 (dk_at dksX3_wrap_4 10 rfl rfl)
theorem dX3_wrap_104 : decode cX3_wrap 104 = .ok (.getfield 69, 3) := dk_180 0 69 (dk_at dksX3_wrap_4 12 rfl rfl)
theorem dX3_wrap_107 : decode cX3_wrap 107 = .ok (.iconst 0, 1) := dk_3 (dk_at dksX3_wrap_4 15 rfl rfl)
theorem dX3_wrap_108 : decode cX3_wrap 108 = .ok (.aaload, 1) := dk_50 (dk_at dksX3_wrap_4 16 rfl rfl)
theorem dX3_wrap_109 : decode cX3_wrap 109 = .ok (.iconst 0, 1) := dk_3 (dk_at dksX3_wrap_4 17 rfl rfl)
theorem dX3_wrap_110 : decode cX3_wrap 110 = .ok (.invokevirtual 97, 3) := dk_182 0 97 (dk_at dksX3_wrap_4 18 rfl rfl)
theorem dX3_wrap_113 : decode cX3_wrap 113 = .ok (.goto 42, 3) := dk_167 0 42 (dk_at dksX3_wrap_4 21 rfl rfl)
theorem dX3_wrap_116 : decode cX3_wrap 116 = .ok (.aload 4, 2) := dk_25 4 (dk_at dksX3_wrap_5 0 rfl rfl)
theorem dX3_wrap_118 : decode cX3_wrap 118 = .ok (.invokevirtual 149, 3) := dk_182 0 149 (dk_at dksX3_wrap_5 2 rfl rfl)
theorem dX3_wrap_121 : decode cX3_wrap 121 = .ok (.getfield 21, 3) := dk_180 0 21 (dk_at dksX3_wrap_5 5 rfl rfl)
theorem dX3_wrap_124 : decode cX3_wrap 124 = .ok (.invokeinterface 152 1, 5) := by decide +kernel
theorem dX3_wrap_129 : decode cX3_wrap 129 = .ok (.ifCond .eq 16, 3) := dk_153 0 16 (dk_at dksX3_wrap_5 13 rfl rfl)
theorem dX3_wrap_132 : decode cX3_wrap 132 = .ok (.aload_n 0, 1) := dk_42 (dk_at dksX3_wrap_5 16 rfl rfl)
theorem dX3_wrap_133 : decode cX3_wrap 133 = .ok (.aload 4, 2) := dk_25 4 (dk_at dksX3_wrap_5 17 rfl rfl)
theorem dX3_wrap_135 : decode cX3_wrap 135 = .ok (.invokevirtual 149, 3) := dk_182 0 149 (dk_at dksX3_wrap_5 19 rfl rfl)
theorem dX3_wrap_138 : decode cX3_wrap 138 = .ok (.iconst 0, 1) := dk_3 (dk_at dksX3_wrap_5 22 rfl rfl)
theorem dX3_wrap_139 : decode cX3_wrap 139 = .ok (.invokevirtual 97, 3) := dk_182 0 97 (dk_at dksX3_wrap_6 0 rfl rfl)
theorem dX3_wrap_142 : decode cX3_wrap 142 = .ok (.goto 13, 3) := dk_167 0 13 (dk_at dksX3_wrap_6 3 rfl rfl)
theorem dX3_wrap_145 : decode cX3_wrap 145 = .ok (.aload_n 0, 1) := dk_42 (dk_at dksX3_wrap_6 6 rfl rfl)
theorem dX3_wrap_146 : decode cX3_wrap 146 = .ok (.dup, 1) := dk_89 (dk_at dksX3_wrap_6 7 rfl rfl)
theorem dX3_wrap_147 : decode cX3_wrap 147 = .ok (.getfield 38, 3) := dk_180 0 38 (dk_at dksX3_wrap_6 8 rfl rfl)
theorem dX3_wrap_150 : decode cX3_wrap 150 = .ok (.iconst 1, 1) := dk_4 (dk_at dksX3_wrap_6 11 rfl rfl)
theorem dX3_wrap_151 : decode cX3_wrap 151 = .ok (.iadd, 1) := dk_96 (dk_at dksX3_wrap_6 12 rfl rfl)
theorem dX3_wrap_152 : decode cX3_wrap 152 = .ok (.putfield 38, 3) := dk_181 0 38 (dk_at dksX3_wrap_6 13 rfl rfl)
theorem dX3_wrap_155 : decode cX3_wrap 155 = .ok (.iload_n 2, 1) := dk_28 (dk_at dksX3_wrap_6 16 rfl rfl)
theorem dX3_wrap_156 : decode cX3_wrap 156 = .ok (.ireturn, 1) := dk_172 (dk_at dksX3_wrap_6 17 rfl rfl)
abbrev cX3_backspace : ByteArray := prog_5_method_15_code
def yX3_backspace : MethodName := ⟨RX3, "backspace", "()I"⟩
def dkwX3_backspace_6 : List UInt8 := [180, 0, 94, 182, 0, 156, 4, 172]
abbrev dktX3_backspace_6 : List UInt8 := dkwX3_backspace_6 ++ []
def dkwX3_backspace_5 : List UInt8 := [180, 0, 15, 180, 0, 87, 199, 0, 6, 16, 247, 172, 42, 42, 180, 0, 15, 180, 0, 87, 42, 180, 0, 15]
abbrev dktX3_backspace_5 : List UInt8 := dkwX3_backspace_5 ++ dktX3_backspace_6
def dkwX3_backspace_4 : List UInt8 := [180, 0, 38, 4, 100, 185, 0, 153, 2, 0, 87, 42, 89, 180, 0, 38, 4, 100, 181, 0, 38, 4, 172, 42]
abbrev dktX3_backspace_4 : List UInt8 := dkwX3_backspace_4 ++ dktX3_backspace_5
def dkwX3_backspace_3 : List UInt8 := [182, 0, 149, 180, 0, 21, 185, 0, 25, 1, 0, 182, 0, 97, 3, 172, 42, 180, 0, 15, 180, 0, 21, 42]
abbrev dktX3_backspace_3 : List UInt8 := dkwX3_backspace_3 ++ dktX3_backspace_4
def dkwX3_backspace_2 : List UInt8 := [193, 0, 63, 153, 0, 37, 43, 192, 0, 63, 77, 44, 182, 0, 145, 154, 0, 25, 42, 44, 182, 0, 149, 44]
abbrev dktX3_backspace_2 : List UInt8 := dkwX3_backspace_2 ++ dktX3_backspace_3
def dkwX3_backspace_1 : List UInt8 := [180, 0, 15, 180, 0, 21, 42, 180, 0, 38, 4, 100, 185, 0, 53, 2, 0, 192, 0, 57, 76, 43]
abbrev dktX3_backspace_1 : List UInt8 := dkwX3_backspace_1 ++ dktX3_backspace_2
def dkwX3_backspace_0 : List UInt8 := [42, 180, 0, 50, 158, 0, 11, 42, 182, 0, 119, 182, 0, 115, 172, 42, 180, 0, 38, 158, 0, 97, 42]
abbrev dktX3_backspace_0 : List UInt8 := dkwX3_backspace_0 ++ dktX3_backspace_1
theorem dksX3_backspace_0 : cX3_backspace.data.toList.drop 0 = dktX3_backspace_0 := by decide +kernel
theorem dksX3_backspace_1 : cX3_backspace.data.toList.drop 23 = dktX3_backspace_1 := dk_seg dksX3_backspace_0 23 rfl rfl
theorem dksX3_backspace_2 : cX3_backspace.data.toList.drop 45 = dktX3_backspace_2 := dk_seg dksX3_backspace_1 22 rfl rfl
theorem dksX3_backspace_3 : cX3_backspace.data.toList.drop 69 = dktX3_backspace_3 := dk_seg dksX3_backspace_2 24 rfl rfl
theorem dksX3_backspace_4 : cX3_backspace.data.toList.drop 93 = dktX3_backspace_4 := dk_seg dksX3_backspace_3 24 rfl rfl
theorem dksX3_backspace_5 : cX3_backspace.data.toList.drop 117 = dktX3_backspace_5 := dk_seg dksX3_backspace_4 24 rfl rfl
theorem dksX3_backspace_6 : cX3_backspace.data.toList.drop 141 = dktX3_backspace_6 := dk_seg dksX3_backspace_5 24 rfl rfl
theorem dX3_backspace_0 : decode cX3_backspace 0 = .ok (.aload_n 0, 1) := dk_42 (dk_at dksX3_backspace_0 0 rfl rfl)
theorem dX3_backspace_1 : decode cX3_backspace 1 = .ok (.getfield 50, 3) := dk_180 0 50 (dk_at dksX3_backspace_0 1 rfl rfl)
theorem dX3_backspace_4 : decode cX3_backspace 4 = .ok (.ifCond .le 11, 3) := dk_158 0 11 (dk_at dksX3_backspace_0 4 rfl rfl)
theorem dX3_backspace_7 : decode cX3_backspace 7 = .ok (.aload_n 0, 1) := dk_42 (dk_at dksX3_backspace_0 7 rfl rfl)
theorem dX3_backspace_8 : decode cX3_backspace 8 = .ok (.invokevirtual 119, 3) := dk_182 0 119 (dk_at dksX3_backspace_0 8 rfl rfl)
theorem dX3_backspace_11 : decode cX3_backspace 11 = .ok (.invokevirtual 115, 3) := dk_182 0 115 (dk_at dksX3_backspace_0 11 rfl rfl)
theorem dX3_backspace_14 : decode cX3_backspace 14 = .ok (.ireturn, 1) := dk_172 (dk_at dksX3_backspace_0 14 rfl rfl)
theorem dX3_backspace_15 : decode cX3_backspace 15 = .ok (.aload_n 0, 1) := dk_42 (dk_at dksX3_backspace_0 15 rfl rfl)
theorem dX3_backspace_16 : decode cX3_backspace 16 = .ok (.getfield 38, 3) := dk_180 0 38 (dk_at dksX3_backspace_0 16 rfl rfl)
theorem dX3_backspace_19 : decode cX3_backspace 19 = .ok (.ifCond .le 97, 3) := dk_158 0 97 (dk_at dksX3_backspace_0 19 rfl rfl)
theorem dX3_backspace_22 : decode cX3_backspace 22 = .ok (.aload_n 0, 1) := dk_42 (dk_at dksX3_backspace_0 22 rfl rfl)
theorem dX3_backspace_23 : decode cX3_backspace 23 = .ok (.getfield 15, 3) := dk_180 0 15 (dk_at dksX3_backspace_1 0 rfl rfl)
theorem dX3_backspace_26 : decode cX3_backspace 26 = .ok (.getfield 21, 3) := dk_180 0 21 (dk_at dksX3_backspace_1 3 rfl rfl)
theorem dX3_backspace_29 : decode cX3_backspace 29 = .ok (.aload_n 0, 1) := dk_42 (dk_at dksX3_backspace_1 6 rfl rfl)
theorem dX3_backspace_30 : decode cX3_backspace 30 = .ok (.getfield 38, 3) := dk_180 0 38 (dk_at dksX3_backspace_1 7 rfl rfl)
theorem dX3_backspace_33 : decode cX3_backspace 33 = .ok (.iconst 1, 1) := dk_4 (dk_at dksX3_backspace_1 10 rfl rfl)
theorem dX3_backspace_34 : decode cX3_backspace 34 = .ok (.isub, 1) := dk_100 (dk_at dksX3_backspace_1 11 rfl rfl)
theorem dX3_backspace_35 : decode cX3_backspace 35 = .ok (.invokeinterface 53 2, 5) := by decide +kernel
theorem dX3_backspace_40 : decode cX3_backspace 40 = .ok (.checkcast 57, 3) := dk_192 0 57 (dk_at dksX3_backspace_1 17 rfl rfl)
theorem dX3_backspace_43 : decode cX3_backspace 43 = .ok (.astore_n 1, 1) := dk_76 (dk_at dksX3_backspace_1 20 rfl rfl)
theorem dX3_backspace_44 : decode cX3_backspace 44 = .ok (.aload_n 1, 1) := dk_43 (dk_at dksX3_backspace_1 21 rfl rfl)
theorem dX3_backspace_45 : decode cX3_backspace 45 = .ok (.instanceof 63, 3) := dk_193 0 63 (dk_at dksX3_backspace_2 0 rfl rfl)
theorem dX3_backspace_48 : decode cX3_backspace 48 = .ok (.ifCond .eq 37, 3) := dk_153 0 37 (dk_at dksX3_backspace_2 3 rfl rfl)
theorem dX3_backspace_51 : decode cX3_backspace 51 = .ok (.aload_n 1, 1) := dk_43 (dk_at dksX3_backspace_2 6 rfl rfl)
theorem dX3_backspace_52 : decode cX3_backspace 52 = .ok (.checkcast 63, 3) := dk_192 0 63 (dk_at dksX3_backspace_2 7 rfl rfl)
theorem dX3_backspace_55 : decode cX3_backspace 55 = .ok (.astore_n 2, 1) := dk_77 (dk_at dksX3_backspace_2 10 rfl rfl)
theorem dX3_backspace_56 : decode cX3_backspace 56 = .ok (.aload_n 2, 1) := dk_44 (dk_at dksX3_backspace_2 11 rfl rfl)
theorem dX3_backspace_57 : decode cX3_backspace 57 = .ok (.invokevirtual 145, 3) := dk_182 0 145 (dk_at dksX3_backspace_2 12 rfl rfl)
theorem dX3_backspace_60 : decode cX3_backspace 60 = .ok (.ifCond .ne 25, 3) := dk_154 0 25 (dk_at dksX3_backspace_2 15 rfl rfl)
theorem dX3_backspace_63 : decode cX3_backspace 63 = .ok (.aload_n 0, 1) := dk_42 (dk_at dksX3_backspace_2 18 rfl rfl)
theorem dX3_backspace_64 : decode cX3_backspace 64 = .ok (.aload_n 2, 1) := dk_44 (dk_at dksX3_backspace_2 19 rfl rfl)
theorem dX3_backspace_65 : decode cX3_backspace 65 = .ok (.invokevirtual 149, 3) := dk_182 0 149 (dk_at dksX3_backspace_2 20 rfl rfl)
theorem dX3_backspace_68 : decode cX3_backspace 68 = .ok (.aload_n 2, 1) := dk_44 (dk_at dksX3_backspace_2 23 rfl rfl)
theorem dX3_backspace_69 : decode cX3_backspace 69 = .ok (.invokevirtual 149, 3) := dk_182 0 149 (dk_at dksX3_backspace_3 0 rfl rfl)
theorem dX3_backspace_72 : decode cX3_backspace 72 = .ok (.getfield 21, 3) := dk_180 0 21 (dk_at dksX3_backspace_3 3 rfl rfl)
theorem dX3_backspace_75 : decode cX3_backspace 75 = .ok (.invokeinterface 25 1, 5) := by decide +kernel
theorem dX3_backspace_80 : decode cX3_backspace 80 = .ok (.invokevirtual 97, 3) := dk_182 0 97 (dk_at dksX3_backspace_3 11 rfl rfl)
theorem dX3_backspace_83 : decode cX3_backspace 83 = .ok (.iconst 0, 1) := dk_3 (dk_at dksX3_backspace_3 14 rfl rfl)
theorem dX3_backspace_84 : decode cX3_backspace 84 = .ok (.ireturn, 1) := dk_172 (dk_at dksX3_backspace_3 15 rfl rfl)
theorem dX3_backspace_85 : decode cX3_backspace 85 = .ok (.aload_n 0, 1) := dk_42 (dk_at dksX3_backspace_3 16 rfl rfl)
theorem dX3_backspace_86 : decode cX3_backspace 86 = .ok (.getfield 15, 3) := dk_180 0 15 (dk_at dksX3_backspace_3 17 rfl rfl)
theorem dX3_backspace_89 : decode cX3_backspace 89 = .ok (.getfield 21, 3) := dk_180 0 21 (dk_at dksX3_backspace_3 20 rfl rfl)
theorem dX3_backspace_92 : decode cX3_backspace 92 = .ok (.aload_n 0, 1) := dk_42 (dk_at dksX3_backspace_3 23 rfl rfl)
theorem dX3_backspace_93 : decode cX3_backspace 93 = .ok (.getfield 38, 3) := dk_180 0 38 (dk_at dksX3_backspace_4 0 rfl rfl)
theorem dX3_backspace_96 : decode cX3_backspace 96 = .ok (.iconst 1, 1) := dk_4 (dk_at dksX3_backspace_4 3 rfl rfl)
theorem dX3_backspace_97 : decode cX3_backspace 97 = .ok (.isub, 1) := dk_100 (dk_at dksX3_backspace_4 4 rfl rfl)
theorem dX3_backspace_98 : decode cX3_backspace 98 = .ok (.invokeinterface 153 2, 5) := by decide +kernel
theorem dX3_backspace_103 : decode cX3_backspace 103 = .ok (.pop, 1) := dk_87 (dk_at dksX3_backspace_4 10 rfl rfl)
theorem dX3_backspace_104 : decode cX3_backspace 104 = .ok (.aload_n 0, 1) := dk_42 (dk_at dksX3_backspace_4 11 rfl rfl)
theorem dX3_backspace_105 : decode cX3_backspace 105 = .ok (.dup, 1) := dk_89 (dk_at dksX3_backspace_4 12 rfl rfl)
theorem dX3_backspace_106 : decode cX3_backspace 106 = .ok (.getfield 38, 3) := dk_180 0 38 (dk_at dksX3_backspace_4 13 rfl rfl)
theorem dX3_backspace_109 : decode cX3_backspace 109 = .ok (.iconst 1, 1) := dk_4 (dk_at dksX3_backspace_4 16 rfl rfl)
theorem dX3_backspace_110 : decode cX3_backspace 110 = .ok (.isub, 1) := dk_100 (dk_at dksX3_backspace_4 17 rfl rfl)
theorem dX3_backspace_111 : decode cX3_backspace 111 = .ok (.putfield 38, 3) := dk_181 0 38 (dk_at dksX3_backspace_4 18 rfl rfl)
theorem dX3_backspace_114 : decode cX3_backspace 114 = .ok (.iconst 1, 1) := dk_4 (dk_at dksX3_backspace_4 21 rfl rfl)
theorem dX3_backspace_115 : decode cX3_backspace 115 = .ok (.ireturn, 1) := dk_172 (dk_at dksX3_backspace_4 22 rfl rfl)
theorem dX3_backspace_116 : decode cX3_backspace 116 = .ok (.aload_n 0, 1) := dk_42 (dk_at dksX3_backspace_4 23 rfl rfl)
theorem dX3_backspace_117 : decode cX3_backspace 117 = .ok (.getfield 15, 3) := dk_180 0 15 (dk_at dksX3_backspace_5 0 rfl rfl)
theorem dX3_backspace_120 : decode cX3_backspace 120 = .ok (.getfield 87, 3) := dk_180 0 87 (dk_at dksX3_backspace_5 3 rfl rfl)
theorem dX3_backspace_123 : decode cX3_backspace 123 = .ok (.ifnonnull 6, 3) := dk_199 0 6 (dk_at dksX3_backspace_5 6 rfl rfl)
theorem dX3_backspace_126 : decode cX3_backspace 126 = .ok (.bipush (-9), 2) := dk_16 247 (dk_at dksX3_backspace_5 9 rfl rfl)
theorem dX3_backspace_128 : decode cX3_backspace 128 = .ok (.ireturn, 1) := dk_172 (dk_at dksX3_backspace_5 11 rfl rfl)
theorem dX3_backspace_129 : decode cX3_backspace 129 = .ok (.aload_n 0, 1) := dk_42 (dk_at dksX3_backspace_5 12 rfl rfl)
theorem dX3_backspace_130 : decode cX3_backspace 130 = .ok (.aload_n 0, 1) := dk_42 (dk_at dksX3_backspace_5 13 rfl rfl)
theorem dX3_backspace_131 : decode cX3_backspace 131 = .ok (.getfield 15, 3) := dk_180 0 15 (dk_at dksX3_backspace_5 14 rfl rfl)
theorem dX3_backspace_134 : decode cX3_backspace 134 = .ok (.getfield 87, 3) := dk_180 0 87 (dk_at dksX3_backspace_5 17 rfl rfl)
theorem dX3_backspace_137 : decode cX3_backspace 137 = .ok (.aload_n 0, 1) := dk_42 (dk_at dksX3_backspace_5 20 rfl rfl)
theorem dX3_backspace_138 : decode cX3_backspace 138 = .ok (.getfield 15, 3) := dk_180 0 15 (dk_at dksX3_backspace_5 21 rfl rfl)
theorem dX3_backspace_141 : decode cX3_backspace 141 = .ok (.getfield 94, 3) := dk_180 0 94 (dk_at dksX3_backspace_6 0 rfl rfl)
theorem dX3_backspace_144 : decode cX3_backspace 144 = .ok (.invokevirtual 156, 3) := dk_182 0 156 (dk_at dksX3_backspace_6 3 rfl rfl)
theorem dX3_backspace_147 : decode cX3_backspace 147 = .ok (.iconst 1, 1) := dk_4 (dk_at dksX3_backspace_6 6 rfl rfl)
theorem dX3_backspace_148 : decode cX3_backspace 148 = .ok (.ireturn, 1) := dk_172 (dk_at dksX3_backspace_6 7 rfl rfl)
abbrev cX3_dissolve : ByteArray := prog_5_method_16_code
def yX3_dissolve : MethodName := ⟨RX3, "dissolve", "(LFormulaEditor$Structure;I)V"⟩
def dkwX3_dissolve_3 : List UInt8 := [182, 0, 141, 96, 54, 5, 132, 7, 1, 167, 255, 210, 42, 45, 21, 6, 182, 0, 97, 177]
abbrev dktX3_dissolve_3 : List UInt8 := dkwX3_dissolve_3 ++ []
def dkwX3_dissolve_2 : List UInt8 := [160, 0, 8, 21, 5, 167, 0, 5, 21, 6, 54, 6, 21, 5, 45, 21, 5, 43, 180, 0, 69, 21, 7, 50]
abbrev dktX3_dissolve_2 : List UInt8 := dkwX3_dissolve_2 ++ dktX3_dissolve_3
def dkwX3_dissolve_1 : List UInt8 := [21, 4, 54, 5, 21, 4, 54, 6, 3, 54, 7, 21, 7, 43, 180, 0, 69, 190, 162, 0, 42, 21, 7, 28]
abbrev dktX3_dissolve_1 : List UInt8 := dkwX3_dissolve_1 ++ dktX3_dissolve_2
def dkwX3_dissolve_0 : List UInt8 := [43, 180, 0, 101, 78, 45, 43, 182, 0, 102, 54, 4, 45, 180, 0, 21, 21, 4, 185, 0, 153, 2, 0, 87]
abbrev dktX3_dissolve_0 : List UInt8 := dkwX3_dissolve_0 ++ dktX3_dissolve_1
theorem dksX3_dissolve_0 : cX3_dissolve.data.toList.drop 0 = dktX3_dissolve_0 := by decide +kernel
theorem dksX3_dissolve_1 : cX3_dissolve.data.toList.drop 24 = dktX3_dissolve_1 := dk_seg dksX3_dissolve_0 24 rfl rfl
theorem dksX3_dissolve_2 : cX3_dissolve.data.toList.drop 48 = dktX3_dissolve_2 := dk_seg dksX3_dissolve_1 24 rfl rfl
theorem dksX3_dissolve_3 : cX3_dissolve.data.toList.drop 72 = dktX3_dissolve_3 := dk_seg dksX3_dissolve_2 24 rfl rfl
theorem dX3_dissolve_0 : decode cX3_dissolve 0 = .ok (.aload_n 1, 1) := dk_43 (dk_at dksX3_dissolve_0 0 rfl rfl)
theorem dX3_dissolve_1 : decode cX3_dissolve 1 = .ok (.getfield 101, 3) := dk_180 0 101 (dk_at dksX3_dissolve_0 1 rfl rfl)
theorem dX3_dissolve_4 : decode cX3_dissolve 4 = .ok (.astore_n 3, 1) := dk_78 (dk_at dksX3_dissolve_0 4 rfl rfl)
theorem dX3_dissolve_5 : decode cX3_dissolve 5 = .ok (.aload_n 3, 1) := dk_45 (dk_at dksX3_dissolve_0 5 rfl rfl)
theorem dX3_dissolve_6 : decode cX3_dissolve 6 = .ok (.aload_n 1, 1) := dk_43 (dk_at dksX3_dissolve_0 6 rfl rfl)
theorem dX3_dissolve_7 : decode cX3_dissolve 7 = .ok (.invokevirtual 102, 3) := dk_182 0 102 (dk_at dksX3_dissolve_0 7 rfl rfl)
theorem dX3_dissolve_10 : decode cX3_dissolve 10 = .ok (.istore 4, 2) := dk_54 4 (dk_at dksX3_dissolve_0 10 rfl rfl)
theorem dX3_dissolve_12 : decode cX3_dissolve 12 = .ok (.aload_n 3, 1) := dk_45 (dk_at dksX3_dissolve_0 12 rfl rfl)
theorem dX3_dissolve_13 : decode cX3_dissolve 13 = .ok (.getfield 21, 3) := dk_180 0 21 (dk_at dksX3_dissolve_0 13 rfl rfl)
theorem dX3_dissolve_16 : decode cX3_dissolve 16 = .ok (.iload 4, 2) := dk_21 4 (dk_at dksX3_dissolve_0 16 rfl rfl)
theorem dX3_dissolve_18 : decode cX3_dissolve 18 = .ok (.invokeinterface 153 2, 5) := by decide +kernel
theorem dX3_dissolve_23 : decode cX3_dissolve 23 = .ok (.pop, 1) := dk_87 (dk_at dksX3_dissolve_0 23 rfl rfl)
theorem dX3_dissolve_24 : decode cX3_dissolve 24 = .ok (.iload 4, 2) := dk_21 4 (dk_at dksX3_dissolve_1 0 rfl rfl)
theorem dX3_dissolve_26 : decode cX3_dissolve 26 = .ok (.istore 5, 2) := dk_54 5 (dk_at dksX3_dissolve_1 2 rfl rfl)
theorem dX3_dissolve_28 : decode cX3_dissolve 28 = .ok (.iload 4, 2) := dk_21 4 (dk_at dksX3_dissolve_1 4 rfl rfl)
theorem dX3_dissolve_30 : decode cX3_dissolve 30 = .ok (.istore 6, 2) := dk_54 6 (dk_at dksX3_dissolve_1 6 rfl rfl)
theorem dX3_dissolve_32 : decode cX3_dissolve 32 = .ok (.iconst 0, 1) := dk_3 (dk_at dksX3_dissolve_1 8 rfl rfl)
theorem dX3_dissolve_33 : decode cX3_dissolve 33 = .ok (.istore 7, 2) := dk_54 7 (dk_at dksX3_dissolve_1 9 rfl rfl)
theorem dX3_dissolve_35 : decode cX3_dissolve 35 = .ok (.iload 7, 2) := dk_21 7 (dk_at dksX3_dissolve_1 11 rfl rfl)
theorem dX3_dissolve_37 : decode cX3_dissolve 37 = .ok (.aload_n 1, 1) := dk_43 (dk_at dksX3_dissolve_1 13 rfl rfl)
theorem dX3_dissolve_38 : decode cX3_dissolve 38 = .ok (.getfield 69, 3) := dk_180 0 69 (dk_at dksX3_dissolve_1 14 rfl rfl)
theorem dX3_dissolve_41 : decode cX3_dissolve 41 = .ok (.arraylength, 1) := dk_190 (dk_at dksX3_dissolve_1 17 rfl rfl)
theorem dX3_dissolve_42 : decode cX3_dissolve 42 = .ok (.if_icmp .ge 42, 3) := dk_162 0 42 (dk_at dksX3_dissolve_1 18 rfl rfl)
theorem dX3_dissolve_45 : decode cX3_dissolve 45 = .ok (.iload 7, 2) := dk_21 7 (dk_at dksX3_dissolve_1 21 rfl rfl)
theorem dX3_dissolve_47 : decode cX3_dissolve 47 = .ok (.iload_n 2, 1) := dk_28 (dk_at dksX3_dissolve_1 23 rfl rfl)
theorem dX3_dissolve_48 : decode cX3_dissolve 48 = .ok (.if_icmp .ne 8, 3) := dk_160 0 8 (dk_at dksX3_dissolve_2 0 rfl rfl)
theorem dX3_dissolve_51 : decode cX3_dissolve 51 = .ok (.iload 5, 2) := dk_21 5 (dk_at dksX3_dissolve_2 3 rfl rfl)
theorem dX3_dissolve_53 : decode cX3_dissolve 53 = .ok (.goto 5, 3) := dk_167 0 5 (dk_at dksX3_dissolve_2 5 rfl rfl)
theorem dX3_dissolve_56 : decode cX3_dissolve 56 = .ok (.iload 6, 2) := dk_21 6 (dk_at dksX3_dissolve_2 8 rfl rfl)
theorem dX3_dissolve_58 : decode cX3_dissolve 58 = .ok (.istore 6, 2) := dk_54 6 (dk_at dksX3_dissolve_2 10 rfl rfl)
theorem dX3_dissolve_60 : decode cX3_dissolve 60 = .ok (.iload 5, 2) := dk_21 5 (dk_at dksX3_dissolve_2 12 rfl rfl)
theorem dX3_dissolve_62 : decode cX3_dissolve 62 = .ok (.aload_n 3, 1) := dk_45 (dk_at dksX3_dissolve_2 14 rfl rfl)
theorem dX3_dissolve_63 : decode cX3_dissolve 63 = .ok (.iload 5, 2) := dk_21 5 (dk_at dksX3_dissolve_2 15 rfl rfl)
theorem dX3_dissolve_65 : decode cX3_dissolve 65 = .ok (.aload_n 1, 1) := dk_43 (dk_at dksX3_dissolve_2 17 rfl rfl)
theorem dX3_dissolve_66 : decode cX3_dissolve 66 = .ok (.getfield 69, 3) := dk_180 0 69 (dk_at dksX3_dissolve_2 18 rfl rfl)
theorem dX3_dissolve_69 : decode cX3_dissolve 69 = .ok (.iload 7, 2) := dk_21 7 (dk_at dksX3_dissolve_2 21 rfl rfl)
theorem dX3_dissolve_71 : decode cX3_dissolve 71 = .ok (.aaload, 1) := dk_50 (dk_at dksX3_dissolve_2 23 rfl rfl)
theorem dX3_dissolve_72 : decode cX3_dissolve 72 = .ok (.invokevirtual 141, 3) := dk_182 0 141 (dk_at dksX3_dissolve_3 0 rfl rfl)
theorem dX3_dissolve_75 : decode cX3_dissolve 75 = .ok (.iadd, 1) := dk_96 (dk_at dksX3_dissolve_3 3 rfl rfl)
theorem dX3_dissolve_76 : decode cX3_dissolve 76 = .ok (.istore 5, 2) := dk_54 5 (dk_at dksX3_dissolve_3 4 rfl rfl)
theorem dX3_dissolve_78 : decode cX3_dissolve 78 = .ok (.iinc 7 1, 3) := dk_132 7 1 (dk_at dksX3_dissolve_3 6 rfl rfl)
theorem dX3_dissolve_81 : decode cX3_dissolve 81 = .ok (.goto (-46), 3) := dk_167 255 210 (dk_at dksX3_dissolve_3 9 rfl rfl)
theorem dX3_dissolve_84 : decode cX3_dissolve 84 = .ok (.aload_n 0, 1) := dk_42 (dk_at dksX3_dissolve_3 12 rfl rfl)
theorem dX3_dissolve_85 : decode cX3_dissolve 85 = .ok (.aload_n 3, 1) := dk_45 (dk_at dksX3_dissolve_3 13 rfl rfl)
theorem dX3_dissolve_86 : decode cX3_dissolve 86 = .ok (.iload 6, 2) := dk_21 6 (dk_at dksX3_dissolve_3 14 rfl rfl)
theorem dX3_dissolve_88 : decode cX3_dissolve 88 = .ok (.invokevirtual 97, 3) := dk_182 0 97 (dk_at dksX3_dissolve_3 16 rfl rfl)
theorem dX3_dissolve_91 : decode cX3_dissolve 91 = .ok (.return_, 1) := dk_177 (dk_at dksX3_dissolve_3 19 rfl rfl)
abbrev cX3_paste : ByteArray := prog_5_method_17_code
def yX3_paste : MethodName := ⟨RX3, "paste", "(LFormulaEditor$Row;)Z"⟩
def dkwX3_paste_4 : List UInt8 := [182, 0, 141, 96, 181, 0, 38, 28, 172]
abbrev dktX3_paste_4 : List UInt8 := dkwX3_paste_4 ++ []
def dkwX3_paste_3 : List UInt8 := [185, 0, 25, 1, 0, 182, 0, 31, 42, 89, 180, 0, 38, 42, 180, 0, 15, 42, 180, 0, 38, 45]
abbrev dktX3_paste_3 : List UInt8 := dkwX3_paste_3 ++ dktX3_paste_4
def dkwX3_paste_2 : List UInt8 := [153, 0, 52, 42, 182, 0, 119, 87, 187, 0, 18, 89, 183, 0, 20, 78, 45, 43, 3, 43, 180, 0, 21]
abbrev dktX3_paste_2 : List UInt8 := dkwX3_paste_2 ++ dktX3_paste_3
def dkwX3_paste_1 : List UInt8 := [180, 0, 15, 182, 0, 131, 43, 182, 0, 160, 96, 8, 163, 0, 7, 4, 167, 0, 4, 3, 61, 28]
abbrev dktX3_paste_1 : List UInt8 := dkwX3_paste_1 ++ dktX3_paste_2
def dkwX3_paste_0 : List UInt8 := [42, 180, 0, 9, 182, 0, 115, 42, 182, 0, 116, 100, 43, 182, 0, 115, 96, 16, 60, 163, 0, 23, 42]
abbrev dktX3_paste_0 : List UInt8 := dkwX3_paste_0 ++ dktX3_paste_1
theorem dksX3_paste_0 : cX3_paste.data.toList.drop 0 = dktX3_paste_0 := by decide +kernel
theorem dksX3_paste_1 : cX3_paste.data.toList.drop 23 = dktX3_paste_1 := dk_seg dksX3_paste_0 23 rfl rfl
theorem dksX3_paste_2 : cX3_paste.data.toList.drop 45 = dktX3_paste_2 := dk_seg dksX3_paste_1 22 rfl rfl
theorem dksX3_paste_3 : cX3_paste.data.toList.drop 68 = dktX3_paste_3 := dk_seg dksX3_paste_2 23 rfl rfl
theorem dksX3_paste_4 : cX3_paste.data.toList.drop 90 = dktX3_paste_4 := dk_seg dksX3_paste_3 22 rfl rfl
theorem dX3_paste_0 : decode cX3_paste 0 = .ok (.aload_n 0, 1) := dk_42 (dk_at dksX3_paste_0 0 rfl rfl)
theorem dX3_paste_1 : decode cX3_paste 1 = .ok (.getfield 9, 3) := dk_180 0 9 (dk_at dksX3_paste_0 1 rfl rfl)
theorem dX3_paste_4 : decode cX3_paste 4 = .ok (.invokevirtual 115, 3) := dk_182 0 115 (dk_at dksX3_paste_0 4 rfl rfl)
theorem dX3_paste_7 : decode cX3_paste 7 = .ok (.aload_n 0, 1) := dk_42 (dk_at dksX3_paste_0 7 rfl rfl)
theorem dX3_paste_8 : decode cX3_paste 8 = .ok (.invokevirtual 116, 3) := dk_182 0 116 (dk_at dksX3_paste_0 8 rfl rfl)
theorem dX3_paste_11 : decode cX3_paste 11 = .ok (.isub, 1) := dk_100 (dk_at dksX3_paste_0 11 rfl rfl)
theorem dX3_paste_12 : decode cX3_paste 12 = .ok (.aload_n 1, 1) := dk_43 (dk_at dksX3_paste_0 12 rfl rfl)
theorem dX3_paste_13 : decode cX3_paste 13 = .ok (.invokevirtual 115, 3) := dk_182 0 115 (dk_at dksX3_paste_0 13 rfl rfl)
theorem dX3_paste_16 : decode cX3_paste 16 = .ok (.iadd, 1) := dk_96 (dk_at dksX3_paste_0 16 rfl rfl)
theorem dX3_paste_17 : decode cX3_paste 17 = .ok (.bipush 60, 2) := dk_16 60 (dk_at dksX3_paste_0 17 rfl rfl)
theorem dX3_paste_19 : decode cX3_paste 19 = .ok (.if_icmp .gt 23, 3) := dk_163 0 23 (dk_at dksX3_paste_0 19 rfl rfl)
theorem dX3_paste_22 : decode cX3_paste 22 = .ok (.aload_n 0, 1) := dk_42 (dk_at dksX3_paste_0 22 rfl rfl)
theorem dX3_paste_23 : decode cX3_paste 23 = .ok (.getfield 15, 3) := dk_180 0 15 (dk_at dksX3_paste_1 0 rfl rfl)
theorem dX3_paste_26 : decode cX3_paste 26 = .ok (.invokevirtual 131, 3) := dk_182 0 131 (dk_at dksX3_paste_1 3 rfl rfl)
theorem dX3_paste_29 : decode cX3_paste 29 = .ok (.aload_n 1, 1) := dk_43 (dk_at dksX3_paste_1 6 rfl rfl)
theorem dX3_paste_30 : decode cX3_paste 30 = .ok (.invokevirtual 160, 3) := dk_182 0 160 (dk_at dksX3_paste_1 7 rfl rfl)
theorem dX3_paste_33 : decode cX3_paste 33 = .ok (.iadd, 1) := dk_96 (dk_at dksX3_paste_1 10 rfl rfl)
theorem dX3_paste_34 : decode cX3_paste 34 = .ok (.iconst 5, 1) := dk_8 (dk_at dksX3_paste_1 11 rfl rfl)
theorem dX3_paste_35 : decode cX3_paste 35 = .ok (.if_icmp .gt 7, 3) := dk_163 0 7 (dk_at dksX3_paste_1 12 rfl rfl)
theorem dX3_paste_38 : decode cX3_paste 38 = .ok (.iconst 1, 1) := dk_4 (dk_at dksX3_paste_1 15 rfl rfl)
theorem dX3_paste_39 : decode cX3_paste 39 = .ok (.goto 4, 3) := dk_167 0 4 (dk_at dksX3_paste_1 16 rfl rfl)
theorem dX3_paste_42 : decode cX3_paste 42 = .ok (.iconst 0, 1) := dk_3 (dk_at dksX3_paste_1 19 rfl rfl)
theorem dX3_paste_43 : decode cX3_paste 43 = .ok (.istore_n 2, 1) := dk_61 (dk_at dksX3_paste_1 20 rfl rfl)
theorem dX3_paste_44 : decode cX3_paste 44 = .ok (.iload_n 2, 1) := dk_28 (dk_at dksX3_paste_1 21 rfl rfl)
theorem dX3_paste_45 : decode cX3_paste 45 = .ok (.ifCond .eq 52, 3) := dk_153 0 52 (dk_at dksX3_paste_2 0 rfl rfl)
theorem dX3_paste_48 : decode cX3_paste 48 = .ok (.aload_n 0, 1) := dk_42 (dk_at dksX3_paste_2 3 rfl rfl)
theorem dX3_paste_49 : decode cX3_paste 49 = .ok (.invokevirtual 119, 3) := dk_182 0 119 (dk_at dksX3_paste_2 4 rfl rfl)
theorem dX3_paste_52 : decode cX3_paste 52 = .ok (.pop, 1) := dk_87 (dk_at dksX3_paste_2 7 rfl rfl)
theorem dX3_paste_53 : decode cX3_paste 53 = .ok (.new 18, 3) := dk_187 0 18 (dk_at dksX3_paste_2 8 rfl rfl)
theorem dX3_paste_56 : decode cX3_paste 56 = .ok (.dup, 1) := dk_89 (dk_at dksX3_paste_2 11 rfl rfl)
theorem dX3_paste_57 : decode cX3_paste 57 = .ok (.invokespecial 20, 3) := dk_183 0 20 (dk_at dksX3_paste_2 12 rfl rfl)
theorem dX3_paste_60 : decode cX3_paste 60 = .ok (.astore_n 3, 1) := dk_78 (dk_at dksX3_paste_2 15 rfl rfl)
theorem dX3_paste_61 : decode cX3_paste 61 = .ok (.aload_n 3, 1) := dk_45 (dk_at dksX3_paste_2 16 rfl rfl)
theorem dX3_paste_62 : decode cX3_paste 62 = .ok (.aload_n 1, 1) := dk_43 (dk_at dksX3_paste_2 17 rfl rfl)
theorem dX3_paste_63 : decode cX3_paste 63 = .ok (.iconst 0, 1) := dk_3 (dk_at dksX3_paste_2 18 rfl rfl)
theorem dX3_paste_64 : decode cX3_paste 64 = .ok (.aload_n 1, 1) := dk_43 (dk_at dksX3_paste_2 19 rfl rfl)
theorem dX3_paste_65 : decode cX3_paste 65 = .ok (.getfield 21, 3) := dk_180 0 21 (dk_at dksX3_paste_2 20 rfl rfl)
theorem dX3_paste_68 : decode cX3_paste 68 = .ok (.invokeinterface 25 1, 5) := by decide +kernel
theorem dX3_paste_73 : decode cX3_paste 73 = .ok (.invokevirtual 31, 3) := dk_182 0 31 (dk_at dksX3_paste_3 5 rfl rfl)
theorem dX3_paste_76 : decode cX3_paste 76 = .ok (.aload_n 0, 1) := dk_42 (dk_at dksX3_paste_3 8 rfl rfl)
theorem dX3_paste_77 : decode cX3_paste 77 = .ok (.dup, 1) := dk_89 (dk_at dksX3_paste_3 9 rfl rfl)
theorem dX3_paste_78 : decode cX3_paste 78 = .ok (.getfield 38, 3) := dk_180 0 38 (dk_at dksX3_paste_3 10 rfl rfl)
theorem dX3_paste_81 : decode cX3_paste 81 = .ok (.aload_n 0, 1) := dk_42 (dk_at dksX3_paste_3 13 rfl rfl)
theorem dX3_paste_82 : decode cX3_paste 82 = .ok (.getfield 15, 3) := dk_180 0 15 (dk_at dksX3_paste_3 14 rfl rfl)
theorem dX3_paste_85 : decode cX3_paste 85 = .ok (.aload_n 0, 1) := dk_42 (dk_at dksX3_paste_3 17 rfl rfl)
theorem dX3_paste_86 : decode cX3_paste 86 = .ok (.getfield 38, 3) := dk_180 0 38 (dk_at dksX3_paste_3 18 rfl rfl)
theorem dX3_paste_89 : decode cX3_paste 89 = .ok (.aload_n 3, 1) := dk_45 (dk_at dksX3_paste_3 21 rfl rfl)
theorem dX3_paste_90 : decode cX3_paste 90 = .ok (.invokevirtual 141, 3) := dk_182 0 141 (dk_at dksX3_paste_4 0 rfl rfl)
theorem dX3_paste_93 : decode cX3_paste 93 = .ok (.iadd, 1) := dk_96 (dk_at dksX3_paste_4 3 rfl rfl)
theorem dX3_paste_94 : decode cX3_paste 94 = .ok (.putfield 38, 3) := dk_181 0 38 (dk_at dksX3_paste_4 4 rfl rfl)
theorem dX3_paste_97 : decode cX3_paste 97 = .ok (.iload_n 2, 1) := dk_28 (dk_at dksX3_paste_4 7 rfl rfl)
theorem dX3_paste_98 : decode cX3_paste 98 = .ok (.ireturn, 1) := dk_172 (dk_at dksX3_paste_4 8 rfl rfl)
theorem q88 : (Jvm.Cond.initialized "FormulaEditor$Document") ∈ lw_all := lw_g (lw_at lw_m1 31 rfl) rfl
theorem q198 : (Jvm.Cond.selects "FormulaEditor$Document" ({ cls := "java/lang/Object", name := "hashCode", desc := "()I" } : Jvm.MethodName) ({ cls := "java/lang/Object", name := "hashCode", desc := "()I" } : Jvm.MethodName)) ∈ lw_all := lw_g (lw_at lw_m1 141 rfl) rfl
theorem q663 : (Jvm.Cond.selects "FormulaEditor$Document" ({ cls := "java/lang/Object", name := "getClass", desc := "()Ljava/lang/Class;" } : Jvm.MethodName) ({ cls := "java/lang/Object", name := "getClass", desc := "()Ljava/lang/Class;" } : Jvm.MethodName)) ∈ lw_all := lw_g (lw_at lw_m3 126 rfl) rfl
theorem q924 : (Jvm.Cond.selects "FormulaEditor$Document" ({ cls := "java/lang/Object", name := "equals", desc := "(Ljava/lang/Object;)Z" } : Jvm.MethodName) ({ cls := "java/lang/Object", name := "equals", desc := "(Ljava/lang/Object;)Z" } : Jvm.MethodName)) ∈ lw_all := lw_g (lw_at lw_m4 147 rfl) rfl
theorem q1154 : (Jvm.Cond.instantiable "FormulaEditor$Document" (4 : Nat)) ∈ lw_all := lw_g (lw_at lw_m5 137 rfl) rfl
theorem q1189 : (Jvm.Cond.fieldLinkNest "FormulaEditor$Document" (21 : Nat) "FormulaEditor$Row" "items" "Ljava/util/List;" "FormulaEditor") ∈ lw_tbl := lw_at lw_m5 172 rfl
theorem q1196 : (Jvm.Cond.fieldLinkNest "FormulaEditor$Document" (87 : Nat) "FormulaEditor$Row" "owner" "LFormulaEditor$Structure;" "FormulaEditor") ∈ lw_tbl := lw_at lw_m5 179 rfl
theorem q1199 : (Jvm.Cond.fieldLinkNest "FormulaEditor$Document" (94 : Nat) "FormulaEditor$Row" "slot" "I" "FormulaEditor") ∈ lw_tbl := lw_at lw_m5 182 rfl
theorem q1213 : (Jvm.Cond.instanceMethod ({ cls := "FormulaEditor$Document", name := "<init>", desc := "(LFormulaEditor$Row;)V" } : Jvm.MethodName)) ∈ lw_all := lw_g (lw_at lw_m5 196 rfl) rfl
theorem q1214 : (Jvm.Cond.code ({ cls := "FormulaEditor$Document", name := "<init>", desc := "(LFormulaEditor$Row;)V" } : Jvm.MethodName) prog_5_method_1_code (2 : Nat) (Option.none : Option Jvm.ClassFile.FieldType)) ∈ lw_all := lw_g (lw_at lw_m5 197 rfl) rfl
theorem q1215 : (Jvm.Cond.methodLink "FormulaEditor$Document" (3 : Nat) ({ cls := "java/lang/Object", name := "<init>", desc := "()V" } : Jvm.MethodName)) ∈ lw_all := lw_g (lw_at lw_m5 198 rfl) rfl
theorem q1216 : (Jvm.Cond.fieldLink "FormulaEditor$Document" (9 : Nat) "FormulaEditor$Document" "main" "LFormulaEditor$Row;") ∈ lw_all := lw_g (lw_at lw_m5 199 rfl) rfl
theorem q1218 : (Jvm.Cond.fieldLink "FormulaEditor$Document" (15 : Nat) "FormulaEditor$Document" "row" "LFormulaEditor$Row;") ∈ lw_all := lw_g (lw_at lw_m5 201 rfl) rfl
theorem q1220 : (Jvm.Cond.fieldLink "FormulaEditor$Document" (38 : Nat) "FormulaEditor$Document" "index" "I") ∈ lw_all := lw_g (lw_at lw_m5 203 rfl) rfl
theorem q1222 : (Jvm.Cond.fieldLink "FormulaEditor$Document" (50 : Nat) "FormulaEditor$Document" "selected" "I") ∈ lw_all := lw_g (lw_at lw_m5 205 rfl) rfl
theorem q1224 : (Jvm.Cond.lays "FormulaEditor$Document" "FormulaEditor$Document" "main" "LFormulaEditor$Row;") ∈ lw_all := lw_g (lw_at lw_m5 207 rfl) rfl
theorem q1225 : (Jvm.Cond.soleField "FormulaEditor$Document" "main") ∈ lw_all := lw_g (lw_at lw_m5 208 rfl) rfl
theorem q1226 : (Jvm.Cond.lays "FormulaEditor$Document" "FormulaEditor$Document" "row" "LFormulaEditor$Row;") ∈ lw_all := lw_g (lw_at lw_m5 209 rfl) rfl
theorem q1227 : (Jvm.Cond.soleField "FormulaEditor$Document" "row") ∈ lw_all := lw_g (lw_at lw_m5 210 rfl) rfl
theorem q1228 : (Jvm.Cond.lays "FormulaEditor$Document" "FormulaEditor$Document" "index" "I") ∈ lw_all := lw_g (lw_at lw_m5 211 rfl) rfl
theorem q1229 : (Jvm.Cond.soleField "FormulaEditor$Document" "index") ∈ lw_all := lw_g (lw_at lw_m5 212 rfl) rfl
theorem q1230 : (Jvm.Cond.lays "FormulaEditor$Document" "FormulaEditor$Document" "selected" "I") ∈ lw_all := lw_g (lw_at lw_m5 213 rfl) rfl
theorem q1231 : (Jvm.Cond.soleField "FormulaEditor$Document" "selected") ∈ lw_all := lw_g (lw_at lw_m5 214 rfl) rfl
theorem q1232 : (Jvm.Cond.superclass "FormulaEditor$Document" "java/lang/Object") ∈ lw_all := lw_g (lw_at lw_m5 215 rfl) rfl
theorem q1561 : (Jvm.Cond.fieldLinkNest "FormulaEditor$Document" (91 : Nat) "FormulaEditor$Structure" "kind" "I" "FormulaEditor") ∈ lw_tbl := lw_at lw_m7 64 rfl
theorem q1566 : (Jvm.Cond.fieldLinkNest "FormulaEditor$Document" (69 : Nat) "FormulaEditor$Structure" "slots" "[LFormulaEditor$Row;" "FormulaEditor") ∈ lw_tbl := lw_at lw_m7 69 rfl
theorem q1577 : (Jvm.Cond.fieldLink "FormulaEditor$Document" (101 : Nat) "FormulaEditor$Structure" "row" "LFormulaEditor$Row;") ∈ lw_all := lw_g (lw_at lw_m7 80 rfl) rfl
theorem q1744 : (Jvm.Cond.instanceMethod ({ cls := "FormulaEditor$Document", name := "text", desc := "()Ljava/lang/String;" } : Jvm.MethodName)) ∈ lw_all := lw_g (lw_at lw_m8 7 rfl) rfl
theorem q1745 : (Jvm.Cond.selects "FormulaEditor$Document" ({ cls := "FormulaEditor$Document", name := "text", desc := "()Ljava/lang/String;" } : Jvm.MethodName) ({ cls := "FormulaEditor$Document", name := "text", desc := "()Ljava/lang/String;" } : Jvm.MethodName)) ∈ lw_all := lw_g (lw_at lw_m8 8 rfl) rfl
theorem q1746 : (Jvm.Cond.code ({ cls := "FormulaEditor$Document", name := "text", desc := "()Ljava/lang/String;" } : Jvm.MethodName) prog_5_method_18_code (2 : Nat) (Option.some (Jvm.ClassFile.FieldType.object "java/lang/String"))) ∈ lw_all := lw_g (lw_at lw_m8 9 rfl) rfl
theorem q1747 : (Jvm.Cond.classLink "FormulaEditor$Document" (163 : Nat) "java/lang/StringBuilder") ∈ lw_all := lw_g (lw_at lw_m8 10 rfl) rfl
theorem q1748 : (Jvm.Cond.methodLink "FormulaEditor$Document" (165 : Nat) ({ cls := "java/lang/StringBuilder", name := "<init>", desc := "()V" } : Jvm.MethodName)) ∈ lw_all := lw_g (lw_at lw_m8 11 rfl) rfl
theorem q1749 : (Jvm.Cond.methodLink "FormulaEditor$Document" (166 : Nat) ({ cls := "FormulaEditor$Row", name := "write", desc := "(Ljava/lang/StringBuilder;)V" } : Jvm.MethodName)) ∈ lw_all := lw_g (lw_at lw_m8 12 rfl) rfl
theorem q1815 : (Jvm.Cond.methodLink "FormulaEditor$Document" (170 : Nat) ({ cls := "java/lang/StringBuilder", name := "toString", desc := "()Ljava/lang/String;" } : Jvm.MethodName)) ∈ lw_all := lw_g (lw_at lw_m8 78 rfl) rfl
theorem q1822 : (Jvm.Cond.instanceMethod ({ cls := "FormulaEditor$Document", name := "moveVertically", desc := "(Z)Z" } : Jvm.MethodName)) ∈ lw_all := lw_g (lw_at lw_m8 85 rfl) rfl
theorem q1823 : (Jvm.Cond.selects "FormulaEditor$Document" ({ cls := "FormulaEditor$Document", name := "moveVertically", desc := "(Z)Z" } : Jvm.MethodName) ({ cls := "FormulaEditor$Document", name := "moveVertically", desc := "(Z)Z" } : Jvm.MethodName)) ∈ lw_all := lw_g (lw_at lw_m8 86 rfl) rfl
theorem q1824 : (Jvm.Cond.code ({ cls := "FormulaEditor$Document", name := "moveVertically", desc := "(Z)Z" } : Jvm.MethodName) prog_5_method_8_code (7 : Nat) (Option.some Jvm.ClassFile.FieldType.boolean)) ∈ lw_all := lw_g (lw_at lw_m8 87 rfl) rfl
theorem q1825 : (Jvm.Cond.interfaceEntry "FormulaEditor$Document" (25 : Nat)) ∈ lw_tbl := lw_at lw_m8 88 rfl
theorem q1826 : (Jvm.Cond.methodLink "FormulaEditor$Document" (25 : Nat) ({ cls := "java/util/List", name := "size", desc := "()I" } : Jvm.MethodName)) ∈ lw_all := lw_g (lw_at lw_m8 89 rfl) rfl
theorem q1827 : (Jvm.Cond.methodLink "FormulaEditor$Document" (78 : Nat) ({ cls := "java/lang/Math", name := "min", desc := "(II)I" } : Jvm.MethodName)) ∈ lw_all := lw_g (lw_at lw_m8 90 rfl) rfl
theorem q1828 : (Jvm.Cond.methodLink "FormulaEditor$Document" (97 : Nat) ({ cls := "FormulaEditor$Document", name := "goTo", desc := "(LFormulaEditor$Row;I)V" } : Jvm.MethodName)) ∈ lw_all := lw_g (lw_at lw_m8 91 rfl) rfl
theorem q1829 : (Jvm.Cond.privateMethod ({ cls := "FormulaEditor$Document", name := "goTo", desc := "(LFormulaEditor$Row;I)V" } : Jvm.MethodName)) ∈ lw_tbl := lw_at lw_m8 92 rfl
theorem q1830 : (Jvm.Cond.instanceMethod ({ cls := "FormulaEditor$Document", name := "goTo", desc := "(LFormulaEditor$Row;I)V" } : Jvm.MethodName)) ∈ lw_all := lw_g (lw_at lw_m8 93 rfl) rfl
theorem q1831 : (Jvm.Cond.code ({ cls := "FormulaEditor$Document", name := "goTo", desc := "(LFormulaEditor$Row;I)V" } : Jvm.MethodName) prog_5_method_7_code (3 : Nat) (Option.none : Option Jvm.ClassFile.FieldType)) ∈ lw_all := lw_g (lw_at lw_m8 94 rfl) rfl
theorem q1832 : (Jvm.Cond.methodLink "FormulaEditor$Document" (102 : Nat) ({ cls := "FormulaEditor$Row", name := "indexOf", desc := "(LFormulaEditor$Item;)I" } : Jvm.MethodName)) ∈ lw_all := lw_g (lw_at lw_m8 95 rfl) rfl
theorem q1836 : (Jvm.Cond.interfaceEntry "FormulaEditor$Document" (53 : Nat)) ∈ lw_tbl := lw_at lw_m8 99 rfl
theorem q1837 : (Jvm.Cond.methodLink "FormulaEditor$Document" (53 : Nat) ({ cls := "java/util/List", name := "get", desc := "(I)Ljava/lang/Object;" } : Jvm.MethodName)) ∈ lw_all := lw_g (lw_at lw_m8 100 rfl) rfl
theorem q1838 : (Jvm.Cond.classLink "FormulaEditor$Document" (57 : Nat) "FormulaEditor$Item") ∈ lw_all := lw_g (lw_at lw_m8 101 rfl) rfl
theorem q1839 : (Jvm.Cond.methodLink "FormulaEditor$Document" (105 : Nat) ({ cls := "FormulaEditor$Item", name := "code", desc := "()I" } : Jvm.MethodName)) ∈ lw_all := lw_g (lw_at lw_m8 102 rfl) rfl
theorem q1840 : (Jvm.Cond.classLink "FormulaEditor$Document" (63 : Nat) "FormulaEditor$Structure") ∈ lw_all := lw_g (lw_at lw_m8 103 rfl) rfl
theorem q1842 : (Jvm.Cond.instanceMethod ({ cls := "FormulaEditor$Document", name := "place", desc := "()I" } : Jvm.MethodName)) ∈ lw_all := lw_g (lw_at lw_m8 105 rfl) rfl
theorem q1843 : (Jvm.Cond.selects "FormulaEditor$Document" ({ cls := "FormulaEditor$Document", name := "place", desc := "()I" } : Jvm.MethodName) ({ cls := "FormulaEditor$Document", name := "place", desc := "()I" } : Jvm.MethodName)) ∈ lw_all := lw_g (lw_at lw_m8 106 rfl) rfl
theorem q1844 : (Jvm.Cond.code ({ cls := "FormulaEditor$Document", name := "place", desc := "()I" } : Jvm.MethodName) prog_5_method_3_code (1 : Nat) (Option.some Jvm.ClassFile.FieldType.int)) ∈ lw_all := lw_g (lw_at lw_m8 107 rfl) rfl
theorem q1845 : (Jvm.Cond.methodLink "FormulaEditor$Document" (42 : Nat) ({ cls := "FormulaEditor$Row", name := "place", desc := "(I)I" } : Jvm.MethodName)) ∈ lw_all := lw_g (lw_at lw_m8 108 rfl) rfl
theorem q1996 : (Jvm.Cond.instanceMethod ({ cls := "FormulaEditor$Document", name := "moveTo", desc := "(I)V" } : Jvm.MethodName)) ∈ lw_all := lw_g (lw_at lw_m9 19 rfl) rfl
theorem q1997 : (Jvm.Cond.selects "FormulaEditor$Document" ({ cls := "FormulaEditor$Document", name := "moveTo", desc := "(I)V" } : Jvm.MethodName) ({ cls := "FormulaEditor$Document", name := "moveTo", desc := "(I)V" } : Jvm.MethodName)) ∈ lw_all := lw_g (lw_at lw_m9 20 rfl) rfl
theorem q1998 : (Jvm.Cond.code ({ cls := "FormulaEditor$Document", name := "moveTo", desc := "(I)V" } : Jvm.MethodName) prog_5_method_4_code (5 : Nat) (Option.none : Option Jvm.ClassFile.FieldType)) ∈ lw_all := lw_g (lw_at lw_m9 21 rfl) rfl
theorem q1999 : (Jvm.Cond.methodLinkNest "FormulaEditor$Document" (59 : Nat) ({ cls := "FormulaEditor$Row", name := "placesIn", desc := "(LFormulaEditor$Item;)I" } : Jvm.MethodName) "FormulaEditor") ∈ lw_tbl := lw_at lw_m9 22 rfl
theorem q2000 : (Jvm.Cond.methodLink "FormulaEditor$Document" (65 : Nat) ({ cls := "FormulaEditor$Document", name := "enter", desc := "(LFormulaEditor$Structure;I)I" } : Jvm.MethodName)) ∈ lw_all := lw_g (lw_at lw_m9 23 rfl) rfl
theorem q2001 : (Jvm.Cond.privateMethod ({ cls := "FormulaEditor$Document", name := "enter", desc := "(LFormulaEditor$Structure;I)I" } : Jvm.MethodName)) ∈ lw_tbl := lw_at lw_m9 24 rfl
theorem q2002 : (Jvm.Cond.instanceMethod ({ cls := "FormulaEditor$Document", name := "enter", desc := "(LFormulaEditor$Structure;I)I" } : Jvm.MethodName)) ∈ lw_all := lw_g (lw_at lw_m9 25 rfl) rfl
theorem q2003 : (Jvm.Cond.code ({ cls := "FormulaEditor$Document", name := "enter", desc := "(LFormulaEditor$Structure;I)I" } : Jvm.MethodName) prog_5_method_5_code (5 : Nat) (Option.some Jvm.ClassFile.FieldType.int)) ∈ lw_all := lw_g (lw_at lw_m9 26 rfl) rfl
theorem q2004 : (Jvm.Cond.methodLink "FormulaEditor$Document" (73 : Nat) ({ cls := "FormulaEditor$Row", name := "places", desc := "()I" } : Jvm.MethodName)) ∈ lw_all := lw_g (lw_at lw_m9 27 rfl) rfl
theorem q2019 : (Jvm.Cond.instanceMethod ({ cls := "FormulaEditor$Document", name := "selectedSize", desc := "()I" } : Jvm.MethodName)) ∈ lw_all := lw_g (lw_at lw_m9 42 rfl) rfl
theorem q2020 : (Jvm.Cond.selects "FormulaEditor$Document" ({ cls := "FormulaEditor$Document", name := "selectedSize", desc := "()I" } : Jvm.MethodName) ({ cls := "FormulaEditor$Document", name := "selectedSize", desc := "()I" } : Jvm.MethodName)) ∈ lw_all := lw_g (lw_at lw_m9 43 rfl) rfl
theorem q2021 : (Jvm.Cond.code ({ cls := "FormulaEditor$Document", name := "selectedSize", desc := "()I" } : Jvm.MethodName) prog_5_method_11_code (1 : Nat) (Option.some Jvm.ClassFile.FieldType.int)) ∈ lw_all := lw_g (lw_at lw_m9 44 rfl) rfl
theorem q2022 : (Jvm.Cond.methodLink "FormulaEditor$Document" (108 : Nat) ({ cls := "FormulaEditor$Row", name := "sizeOf", desc := "(II)I" } : Jvm.MethodName)) ∈ lw_all := lw_g (lw_at lw_m9 45 rfl) rfl
theorem q2059 : (Jvm.Cond.instanceMethod ({ cls := "FormulaEditor$Document", name := "moveBy", desc := "(I)I" } : Jvm.MethodName)) ∈ lw_all := lw_g (lw_at lw_m9 82 rfl) rfl
theorem q2060 : (Jvm.Cond.selects "FormulaEditor$Document" ({ cls := "FormulaEditor$Document", name := "moveBy", desc := "(I)I" } : Jvm.MethodName) ({ cls := "FormulaEditor$Document", name := "moveBy", desc := "(I)I" } : Jvm.MethodName)) ∈ lw_all := lw_g (lw_at lw_m9 83 rfl) rfl
theorem q2061 : (Jvm.Cond.code ({ cls := "FormulaEditor$Document", name := "moveBy", desc := "(I)I" } : Jvm.MethodName) prog_5_method_6_code (2 : Nat) (Option.some Jvm.ClassFile.FieldType.int)) ∈ lw_all := lw_g (lw_at lw_m9 84 rfl) rfl
theorem q2062 : (Jvm.Cond.methodLink "FormulaEditor$Document" (76 : Nat) ({ cls := "FormulaEditor$Document", name := "place", desc := "()I" } : Jvm.MethodName)) ∈ lw_all := lw_g (lw_at lw_m9 85 rfl) rfl
theorem q2063 : (Jvm.Cond.methodLink "FormulaEditor$Document" (84 : Nat) ({ cls := "java/lang/Math", name := "max", desc := "(II)I" } : Jvm.MethodName)) ∈ lw_all := lw_g (lw_at lw_m9 86 rfl) rfl
theorem q2064 : (Jvm.Cond.methodLink "FormulaEditor$Document" (46 : Nat) ({ cls := "FormulaEditor$Document", name := "moveTo", desc := "(I)V" } : Jvm.MethodName)) ∈ lw_all := lw_g (lw_at lw_m9 87 rfl) rfl
theorem q2073 : (Jvm.Cond.instanceMethod ({ cls := "FormulaEditor$Document", name := "extend", desc := "(Z)Z" } : Jvm.MethodName)) ∈ lw_all := lw_g (lw_at lw_m9 96 rfl) rfl
theorem q2074 : (Jvm.Cond.selects "FormulaEditor$Document" ({ cls := "FormulaEditor$Document", name := "extend", desc := "(Z)Z" } : Jvm.MethodName) ({ cls := "FormulaEditor$Document", name := "extend", desc := "(Z)Z" } : Jvm.MethodName)) ∈ lw_all := lw_g (lw_at lw_m9 97 rfl) rfl
theorem q2075 : (Jvm.Cond.code ({ cls := "FormulaEditor$Document", name := "extend", desc := "(Z)Z" } : Jvm.MethodName) prog_5_method_9_code (3 : Nat) (Option.some Jvm.ClassFile.FieldType.boolean)) ∈ lw_all := lw_g (lw_at lw_m9 98 rfl) rfl
theorem q2084 : (Jvm.Cond.instanceMethod ({ cls := "FormulaEditor$Document", name := "grow", desc := "()Z" } : Jvm.MethodName)) ∈ lw_all := lw_g (lw_at lw_m9 107 rfl) rfl
theorem q2085 : (Jvm.Cond.selects "FormulaEditor$Document" ({ cls := "FormulaEditor$Document", name := "grow", desc := "()Z" } : Jvm.MethodName) ({ cls := "FormulaEditor$Document", name := "grow", desc := "()Z" } : Jvm.MethodName)) ∈ lw_all := lw_g (lw_at lw_m9 108 rfl) rfl
theorem q2086 : (Jvm.Cond.code ({ cls := "FormulaEditor$Document", name := "grow", desc := "()Z" } : Jvm.MethodName) prog_5_method_10_code (3 : Nat) (Option.some Jvm.ClassFile.FieldType.boolean)) ∈ lw_all := lw_g (lw_at lw_m9 109 rfl) rfl
theorem q2134 : (Jvm.Cond.instanceMethod ({ cls := "FormulaEditor$Document", name := "type", desc := "(I)Z" } : Jvm.MethodName)) ∈ lw_all := lw_g (lw_at lw_m9 157 rfl) rfl
theorem q2135 : (Jvm.Cond.selects "FormulaEditor$Document" ({ cls := "FormulaEditor$Document", name := "type", desc := "(I)Z" } : Jvm.MethodName) ({ cls := "FormulaEditor$Document", name := "type", desc := "(I)Z" } : Jvm.MethodName)) ∈ lw_all := lw_g (lw_at lw_m9 158 rfl) rfl
theorem q2136 : (Jvm.Cond.code ({ cls := "FormulaEditor$Document", name := "type", desc := "(I)Z" } : Jvm.MethodName) prog_5_method_13_code (3 : Nat) (Option.some Jvm.ClassFile.FieldType.boolean)) ∈ lw_all := lw_g (lw_at lw_m9 159 rfl) rfl
theorem q2137 : (Jvm.Cond.methodLink "FormulaEditor$Document" (115 : Nat) ({ cls := "FormulaEditor$Row", name := "size", desc := "()I" } : Jvm.MethodName)) ∈ lw_all := lw_g (lw_at lw_m9 160 rfl) rfl
theorem q2138 : (Jvm.Cond.methodLink "FormulaEditor$Document" (116 : Nat) ({ cls := "FormulaEditor$Document", name := "selectedSize", desc := "()I" } : Jvm.MethodName)) ∈ lw_all := lw_g (lw_at lw_m9 161 rfl) rfl
theorem q2139 : (Jvm.Cond.methodLink "FormulaEditor$Document" (119 : Nat) ({ cls := "FormulaEditor$Document", name := "takeSelected", desc := "()LFormulaEditor$Row;" } : Jvm.MethodName)) ∈ lw_all := lw_g (lw_at lw_m9 162 rfl) rfl
theorem q2140 : (Jvm.Cond.instanceMethod ({ cls := "FormulaEditor$Document", name := "takeSelected", desc := "()LFormulaEditor$Row;" } : Jvm.MethodName)) ∈ lw_all := lw_g (lw_at lw_m9 163 rfl) rfl
theorem q2141 : (Jvm.Cond.selects "FormulaEditor$Document" ({ cls := "FormulaEditor$Document", name := "takeSelected", desc := "()LFormulaEditor$Row;" } : Jvm.MethodName) ({ cls := "FormulaEditor$Document", name := "takeSelected", desc := "()LFormulaEditor$Row;" } : Jvm.MethodName)) ∈ lw_all := lw_g (lw_at lw_m9 164 rfl) rfl
theorem q2142 : (Jvm.Cond.code ({ cls := "FormulaEditor$Document", name := "takeSelected", desc := "()LFormulaEditor$Row;" } : Jvm.MethodName) prog_5_method_12_code (2 : Nat) (Option.some (Jvm.ClassFile.FieldType.object "FormulaEditor$Row"))) ∈ lw_all := lw_g (lw_at lw_m9 165 rfl) rfl
theorem q2143 : (Jvm.Cond.methodLink "FormulaEditor$Document" (111 : Nat) ({ cls := "FormulaEditor$Row", name := "split", desc := "(II)LFormulaEditor$Row;" } : Jvm.MethodName)) ∈ lw_all := lw_g (lw_at lw_m9 166 rfl) rfl
theorem q2144 : (Jvm.Cond.classLink "FormulaEditor$Document" (123 : Nat) "FormulaEditor$Symbol") ∈ lw_all := lw_g (lw_at lw_m9 167 rfl) rfl
theorem q2145 : (Jvm.Cond.methodLink "FormulaEditor$Document" (125 : Nat) ({ cls := "FormulaEditor$Symbol", name := "<init>", desc := "(I)V" } : Jvm.MethodName)) ∈ lw_all := lw_g (lw_at lw_m9 168 rfl) rfl
theorem q2146 : (Jvm.Cond.methodLink "FormulaEditor$Document" (127 : Nat) ({ cls := "FormulaEditor$Row", name := "insert", desc := "(ILFormulaEditor$Item;)V" } : Jvm.MethodName)) ∈ lw_all := lw_g (lw_at lw_m9 169 rfl) rfl
theorem q2152 : (Jvm.Cond.instanceMethod ({ cls := "FormulaEditor$Document", name := "copy", desc := "()LFormulaEditor$Document;" } : Jvm.MethodName)) ∈ lw_all := lw_g (lw_at lw_m9 175 rfl) rfl
theorem q2153 : (Jvm.Cond.selects "FormulaEditor$Document" ({ cls := "FormulaEditor$Document", name := "copy", desc := "()LFormulaEditor$Document;" } : Jvm.MethodName) ({ cls := "FormulaEditor$Document", name := "copy", desc := "()LFormulaEditor$Document;" } : Jvm.MethodName)) ∈ lw_all := lw_g (lw_at lw_m9 176 rfl) rfl
theorem q2154 : (Jvm.Cond.code ({ cls := "FormulaEditor$Document", name := "copy", desc := "()LFormulaEditor$Document;" } : Jvm.MethodName) prog_5_method_2_code (3 : Nat) (Option.some (Jvm.ClassFile.FieldType.object "FormulaEditor$Document"))) ∈ lw_all := lw_g (lw_at lw_m9 177 rfl) rfl
theorem q2155 : (Jvm.Cond.classLink "FormulaEditor$Document" (18 : Nat) "FormulaEditor$Row") ∈ lw_all := lw_g (lw_at lw_m9 178 rfl) rfl
theorem q2156 : (Jvm.Cond.methodLinkNest "FormulaEditor$Document" (20 : Nat) ({ cls := "FormulaEditor$Row", name := "<init>", desc := "()V" } : Jvm.MethodName) "FormulaEditor") ∈ lw_tbl := lw_at lw_m9 179 rfl
theorem q2157 : (Jvm.Cond.methodLink "FormulaEditor$Document" (31 : Nat) ({ cls := "FormulaEditor$Row", name := "addCopies", desc := "(LFormulaEditor$Row;II)V" } : Jvm.MethodName)) ∈ lw_all := lw_g (lw_at lw_m9 180 rfl) rfl
theorem q2158 : (Jvm.Cond.classLink "FormulaEditor$Document" (10 : Nat) "FormulaEditor$Document") ∈ lw_all := lw_g (lw_at lw_m9 181 rfl) rfl
theorem q2159 : (Jvm.Cond.methodLink "FormulaEditor$Document" (35 : Nat) ({ cls := "FormulaEditor$Document", name := "<init>", desc := "(LFormulaEditor$Row;)V" } : Jvm.MethodName)) ∈ lw_all := lw_g (lw_at lw_m9 182 rfl) rfl
theorem q2191 : (Jvm.Cond.instanceMethod ({ cls := "FormulaEditor$Document", name := "wrap", desc := "(I)Z" } : Jvm.MethodName)) ∈ lw_all := lw_g (lw_at lw_m9 214 rfl) rfl
theorem q2192 : (Jvm.Cond.selects "FormulaEditor$Document" ({ cls := "FormulaEditor$Document", name := "wrap", desc := "(I)Z" } : Jvm.MethodName) ({ cls := "FormulaEditor$Document", name := "wrap", desc := "(I)Z" } : Jvm.MethodName)) ∈ lw_all := lw_g (lw_at lw_m9 215 rfl) rfl
theorem q2193 : (Jvm.Cond.code ({ cls := "FormulaEditor$Document", name := "wrap", desc := "(I)Z" } : Jvm.MethodName) prog_5_method_14_code (5 : Nat) (Option.some Jvm.ClassFile.FieldType.boolean)) ∈ lw_all := lw_g (lw_at lw_m9 216 rfl) rfl
theorem q2194 : (Jvm.Cond.methodLink "FormulaEditor$Document" (131 : Nat) ({ cls := "FormulaEditor$Row", name := "level", desc := "()I" } : Jvm.MethodName)) ∈ lw_all := lw_g (lw_at lw_m9 217 rfl) rfl
theorem q2195 : (Jvm.Cond.methodLink "FormulaEditor$Document" (134 : Nat) ({ cls := "FormulaEditor$Row", name := "depthOf", desc := "(II)I" } : Jvm.MethodName)) ∈ lw_all := lw_g (lw_at lw_m9 218 rfl) rfl
theorem q2196 : (Jvm.Cond.methodLink "FormulaEditor$Document" (137 : Nat) ({ cls := "FormulaEditor$Structure", name := "empty", desc := "(I)LFormulaEditor$Structure;" } : Jvm.MethodName)) ∈ lw_all := lw_g (lw_at lw_m9 219 rfl) rfl
theorem q2197 : (Jvm.Cond.methodLink "FormulaEditor$Document" (141 : Nat) ({ cls := "FormulaEditor$Row", name := "take", desc := "(ILFormulaEditor$Row;)I" } : Jvm.MethodName)) ∈ lw_all := lw_g (lw_at lw_m9 220 rfl) rfl
theorem q2210 : (Jvm.Cond.methodLink "FormulaEditor$Document" (145 : Nat) ({ cls := "FormulaEditor$Structure", name := "isEmpty", desc := "()Z" } : Jvm.MethodName)) ∈ lw_all := lw_g (lw_at lw_m9 233 rfl) rfl
theorem q2216 : (Jvm.Cond.methodLink "FormulaEditor$Document" (149 : Nat) ({ cls := "FormulaEditor$Structure", name := "last", desc := "()LFormulaEditor$Row;" } : Jvm.MethodName)) ∈ lw_all := lw_g (lw_at lw_m9 239 rfl) rfl
theorem q2217 : (Jvm.Cond.interfaceEntry "FormulaEditor$Document" (152 : Nat)) ∈ lw_tbl := lw_at lw_m10 0 rfl
theorem q2218 : (Jvm.Cond.methodLink "FormulaEditor$Document" (152 : Nat) ({ cls := "java/util/List", name := "isEmpty", desc := "()Z" } : Jvm.MethodName)) ∈ lw_all := lw_g (lw_at lw_m10 1 rfl) rfl
theorem q2229 : (Jvm.Cond.instanceMethod ({ cls := "FormulaEditor$Document", name := "backspace", desc := "()I" } : Jvm.MethodName)) ∈ lw_all := lw_g (lw_at lw_m10 12 rfl) rfl
theorem q2230 : (Jvm.Cond.selects "FormulaEditor$Document" ({ cls := "FormulaEditor$Document", name := "backspace", desc := "()I" } : Jvm.MethodName) ({ cls := "FormulaEditor$Document", name := "backspace", desc := "()I" } : Jvm.MethodName)) ∈ lw_all := lw_g (lw_at lw_m10 13 rfl) rfl
theorem q2231 : (Jvm.Cond.code ({ cls := "FormulaEditor$Document", name := "backspace", desc := "()I" } : Jvm.MethodName) prog_5_method_15_code (3 : Nat) (Option.some Jvm.ClassFile.FieldType.int)) ∈ lw_all := lw_g (lw_at lw_m10 14 rfl) rfl
theorem q2232 : (Jvm.Cond.interfaceEntry "FormulaEditor$Document" (153 : Nat)) ∈ lw_tbl := lw_at lw_m10 15 rfl
theorem q2233 : (Jvm.Cond.methodLink "FormulaEditor$Document" (153 : Nat) ({ cls := "java/util/List", name := "remove", desc := "(I)Ljava/lang/Object;" } : Jvm.MethodName)) ∈ lw_all := lw_g (lw_at lw_m10 16 rfl) rfl
theorem q2234 : (Jvm.Cond.methodLink "FormulaEditor$Document" (156 : Nat) ({ cls := "FormulaEditor$Document", name := "dissolve", desc := "(LFormulaEditor$Structure;I)V" } : Jvm.MethodName)) ∈ lw_all := lw_g (lw_at lw_m10 17 rfl) rfl
theorem q2235 : (Jvm.Cond.privateMethod ({ cls := "FormulaEditor$Document", name := "dissolve", desc := "(LFormulaEditor$Structure;I)V" } : Jvm.MethodName)) ∈ lw_tbl := lw_at lw_m10 18 rfl
theorem q2236 : (Jvm.Cond.instanceMethod ({ cls := "FormulaEditor$Document", name := "dissolve", desc := "(LFormulaEditor$Structure;I)V" } : Jvm.MethodName)) ∈ lw_all := lw_g (lw_at lw_m10 19 rfl) rfl
theorem q2237 : (Jvm.Cond.code ({ cls := "FormulaEditor$Document", name := "dissolve", desc := "(LFormulaEditor$Structure;I)V" } : Jvm.MethodName) prog_5_method_16_code (8 : Nat) (Option.none : Option Jvm.ClassFile.FieldType)) ∈ lw_all := lw_g (lw_at lw_m10 20 rfl) rfl
theorem q2248 : (Jvm.Cond.instanceMethod ({ cls := "FormulaEditor$Document", name := "paste", desc := "(LFormulaEditor$Row;)Z" } : Jvm.MethodName)) ∈ lw_all := lw_g (lw_at lw_m10 31 rfl) rfl
theorem q2249 : (Jvm.Cond.selects "FormulaEditor$Document" ({ cls := "FormulaEditor$Document", name := "paste", desc := "(LFormulaEditor$Row;)Z" } : Jvm.MethodName) ({ cls := "FormulaEditor$Document", name := "paste", desc := "(LFormulaEditor$Row;)Z" } : Jvm.MethodName)) ∈ lw_all := lw_g (lw_at lw_m10 32 rfl) rfl
theorem q2250 : (Jvm.Cond.code ({ cls := "FormulaEditor$Document", name := "paste", desc := "(LFormulaEditor$Row;)Z" } : Jvm.MethodName) prog_5_method_17_code (4 : Nat) (Option.some Jvm.ClassFile.FieldType.boolean)) ∈ lw_all := lw_g (lw_at lw_m10 33 rfl) rfl
theorem q2251 : (Jvm.Cond.methodLink "FormulaEditor$Document" (160 : Nat) ({ cls := "FormulaEditor$Row", name := "depth", desc := "()I" } : Jvm.MethodName)) ∈ lw_all := lw_g (lw_at lw_m10 34 rfl) rfl
theorem q2743 : (Jvm.Cond.castable "FormulaEditor$Document" "java/lang/Object") ∈ lw_tbl := lw_at lw_m12 46 rfl
abbrev cX4_init : ByteArray := prog_10_method_1_code
def yX4_init : MethodName := ⟨RX4, "<init>", "()V"⟩
def dkwX4_init_0 : List UInt8 := [42, 183, 0, 3, 42, 187, 0, 9, 89, 183, 0, 11, 181, 0, 12, 177]
abbrev dktX4_init_0 : List UInt8 := dkwX4_init_0 ++ []
theorem dksX4_init_0 : cX4_init.data.toList.drop 0 = dktX4_init_0 := by decide +kernel
theorem dX4_init_0 : decode cX4_init 0 = .ok (.aload_n 0, 1) := dk_42 (dk_at dksX4_init_0 0 rfl rfl)
theorem dX4_init_1 : decode cX4_init 1 = .ok (.invokespecial 3, 3) := dk_183 0 3 (dk_at dksX4_init_0 1 rfl rfl)
theorem dX4_init_4 : decode cX4_init 4 = .ok (.aload_n 0, 1) := dk_42 (dk_at dksX4_init_0 4 rfl rfl)
theorem dX4_init_5 : decode cX4_init 5 = .ok (.new 9, 3) := dk_187 0 9 (dk_at dksX4_init_0 5 rfl rfl)
theorem dX4_init_8 : decode cX4_init 8 = .ok (.dup, 1) := dk_89 (dk_at dksX4_init_0 8 rfl rfl)
theorem dX4_init_9 : decode cX4_init 9 = .ok (.invokespecial 11, 3) := dk_183 0 11 (dk_at dksX4_init_0 9 rfl rfl)
theorem dX4_init_12 : decode cX4_init 12 = .ok (.putfield 12, 3) := dk_181 0 12 (dk_at dksX4_init_0 12 rfl rfl)
theorem dX4_init_15 : decode cX4_init 15 = .ok (.return_, 1) := dk_177 (dk_at dksX4_init_0 15 rfl rfl)
abbrev cX4_split : ByteArray := prog_10_method_6_code
def yX4_split : MethodName := ⟨RX4, "split", "(II)LFormulaEditor$Row;"⟩
def dkwX4_split_1 : List UInt8 := [185, 0, 53, 2, 0, 192, 0, 25, 182, 0, 46, 132, 4, 1, 167, 255, 230, 45, 176]
abbrev dktX4_split_1 : List UInt8 := dkwX4_split_1 ++ []
def dkwX4_split_0 : List UInt8 := [187, 0, 13, 89, 183, 0, 52, 78, 27, 54, 4, 21, 4, 28, 162, 0, 26, 45, 42, 180, 0, 12, 27]
abbrev dktX4_split_0 : List UInt8 := dkwX4_split_0 ++ dktX4_split_1
theorem dksX4_split_0 : cX4_split.data.toList.drop 0 = dktX4_split_0 := by decide +kernel
theorem dksX4_split_1 : cX4_split.data.toList.drop 23 = dktX4_split_1 := dk_seg dksX4_split_0 23 rfl rfl
theorem dX4_split_0 : decode cX4_split 0 = .ok (.new 13, 3) := dk_187 0 13 (dk_at dksX4_split_0 0 rfl rfl)
theorem dX4_split_3 : decode cX4_split 3 = .ok (.dup, 1) := dk_89 (dk_at dksX4_split_0 3 rfl rfl)
theorem dX4_split_4 : decode cX4_split 4 = .ok (.invokespecial 52, 3) := dk_183 0 52 (dk_at dksX4_split_0 4 rfl rfl)
theorem dX4_split_7 : decode cX4_split 7 = .ok (.astore_n 3, 1) := dk_78 (dk_at dksX4_split_0 7 rfl rfl)
theorem dX4_split_8 : decode cX4_split 8 = .ok (.iload_n 1, 1) := dk_27 (dk_at dksX4_split_0 8 rfl rfl)
theorem dX4_split_9 : decode cX4_split 9 = .ok (.istore 4, 2) := dk_54 4 (dk_at dksX4_split_0 9 rfl rfl)
theorem dX4_split_11 : decode cX4_split 11 = .ok (.iload 4, 2) := dk_21 4 (dk_at dksX4_split_0 11 rfl rfl)
theorem dX4_split_13 : decode cX4_split 13 = .ok (.iload_n 2, 1) := dk_28 (dk_at dksX4_split_0 13 rfl rfl)
theorem dX4_split_14 : decode cX4_split 14 = .ok (.if_icmp .ge 26, 3) := dk_162 0 26 (dk_at dksX4_split_0 14 rfl rfl)
theorem dX4_split_17 : decode cX4_split 17 = .ok (.aload_n 3, 1) := dk_45 (dk_at dksX4_split_0 17 rfl rfl)
theorem dX4_split_18 : decode cX4_split 18 = .ok (.aload_n 0, 1) := dk_42 (dk_at dksX4_split_0 18 rfl rfl)
theorem dX4_split_19 : decode cX4_split 19 = .ok (.getfield 12, 3) := dk_180 0 12 (dk_at dksX4_split_0 19 rfl rfl)
theorem dX4_split_22 : decode cX4_split 22 = .ok (.iload_n 1, 1) := dk_27 (dk_at dksX4_split_0 22 rfl rfl)
theorem dX4_split_23 : decode cX4_split 23 = .ok (.invokeinterface 53 2, 5) := by decide +kernel
theorem dX4_split_28 : decode cX4_split 28 = .ok (.checkcast 25, 3) := dk_192 0 25 (dk_at dksX4_split_1 5 rfl rfl)
theorem dX4_split_31 : decode cX4_split 31 = .ok (.invokevirtual 46, 3) := dk_182 0 46 (dk_at dksX4_split_1 8 rfl rfl)
theorem dX4_split_34 : decode cX4_split 34 = .ok (.iinc 4 1, 3) := dk_132 4 1 (dk_at dksX4_split_1 11 rfl rfl)
theorem dX4_split_37 : decode cX4_split 37 = .ok (.goto (-26), 3) := dk_167 255 230 (dk_at dksX4_split_1 14 rfl rfl)
theorem dX4_split_40 : decode cX4_split 40 = .ok (.aload_n 3, 1) := dk_45 (dk_at dksX4_split_1 17 rfl rfl)
theorem dX4_split_41 : decode cX4_split 41 = .ok (.areturn, 1) := dk_176 (dk_at dksX4_split_1 18 rfl rfl)
abbrev cX4_add : ByteArray := prog_10_method_3_code
def yX4_add : MethodName := ⟨RX4, "add", "(LFormulaEditor$Item;)V"⟩
def dkwX4_add_0 : List UInt8 := [42, 42, 180, 0, 12, 185, 0, 30, 1, 0, 43, 182, 0, 34, 177]
abbrev dktX4_add_0 : List UInt8 := dkwX4_add_0 ++ []
theorem dksX4_add_0 : cX4_add.data.toList.drop 0 = dktX4_add_0 := by decide +kernel
theorem dX4_add_0 : decode cX4_add 0 = .ok (.aload_n 0, 1) := dk_42 (dk_at dksX4_add_0 0 rfl rfl)
theorem dX4_add_1 : decode cX4_add 1 = .ok (.aload_n 0, 1) := dk_42 (dk_at dksX4_add_0 1 rfl rfl)
theorem dX4_add_2 : decode cX4_add 2 = .ok (.getfield 12, 3) := dk_180 0 12 (dk_at dksX4_add_0 2 rfl rfl)
theorem dX4_add_5 : decode cX4_add 5 = .ok (.invokeinterface 30 1, 5) := by decide +kernel
theorem dX4_add_10 : decode cX4_add 10 = .ok (.aload_n 1, 1) := dk_43 (dk_at dksX4_add_0 10 rfl rfl)
theorem dX4_add_11 : decode cX4_add 11 = .ok (.invokevirtual 34, 3) := dk_182 0 34 (dk_at dksX4_add_0 11 rfl rfl)
theorem dX4_add_14 : decode cX4_add 14 = .ok (.return_, 1) := dk_177 (dk_at dksX4_add_0 14 rfl rfl)
abbrev cX4_insert : ByteArray := prog_10_method_2_code
def yX4_insert : MethodName := ⟨RX4, "insert", "(ILFormulaEditor$Item;)V"⟩
def dkwX4_insert_0 : List UInt8 := [42, 180, 0, 12, 27, 44, 185, 0, 18, 3, 0, 44, 42, 181, 0, 24, 177]
abbrev dktX4_insert_0 : List UInt8 := dkwX4_insert_0 ++ []
theorem dksX4_insert_0 : cX4_insert.data.toList.drop 0 = dktX4_insert_0 := by decide +kernel
theorem dX4_insert_0 : decode cX4_insert 0 = .ok (.aload_n 0, 1) := dk_42 (dk_at dksX4_insert_0 0 rfl rfl)
theorem dX4_insert_1 : decode cX4_insert 1 = .ok (.getfield 12, 3) := dk_180 0 12 (dk_at dksX4_insert_0 1 rfl rfl)
theorem dX4_insert_4 : decode cX4_insert 4 = .ok (.iload_n 1, 1) := dk_27 (dk_at dksX4_insert_0 4 rfl rfl)
theorem dX4_insert_5 : decode cX4_insert 5 = .ok (.aload_n 2, 1) := dk_44 (dk_at dksX4_insert_0 5 rfl rfl)
theorem dX4_insert_6 : decode cX4_insert 6 = .ok (.invokeinterface 18 3, 5) := by decide +kernel
theorem dX4_insert_11 : decode cX4_insert 11 = .ok (.aload_n 2, 1) := dk_44 (dk_at dksX4_insert_0 11 rfl rfl)
theorem dX4_insert_12 : decode cX4_insert 12 = .ok (.aload_n 0, 1) := dk_42 (dk_at dksX4_insert_0 12 rfl rfl)
theorem dX4_insert_13 : decode cX4_insert 13 = .ok (.putfield 24, 3) := dk_181 0 24 (dk_at dksX4_insert_0 13 rfl rfl)
theorem dX4_insert_16 : decode cX4_insert 16 = .ok (.return_, 1) := dk_177 (dk_at dksX4_insert_0 16 rfl rfl)
abbrev cX4_readSize : ByteArray := prog_10_method_13_code
def yX4_readSize : MethodName := ⟨RX4, "readSize", "()I"⟩
def dkwX4_readSize_2 : List UInt8 := [180, 0, 82, 167, 0, 4, 4, 96, 60, 132, 2, 1, 167, 255, 203, 27, 172]
abbrev dktX4_readSize_2 : List UInt8 := dkwX4_readSize_2 ++ []
def dkwX4_readSize_1 : List UInt8 := [185, 0, 38, 2, 0, 58, 4, 25, 4, 193, 0, 61, 153, 0, 16, 25, 4, 192, 0, 61, 78, 45]
abbrev dktX4_readSize_1 : List UInt8 := dkwX4_readSize_1 ++ dktX4_readSize_2
def dkwX4_readSize_0 : List UInt8 := [3, 60, 3, 61, 28, 42, 180, 0, 12, 185, 0, 30, 1, 0, 162, 0, 46, 27, 42, 180, 0, 12, 28]
abbrev dktX4_readSize_0 : List UInt8 := dkwX4_readSize_0 ++ dktX4_readSize_1
theorem dksX4_readSize_0 : cX4_readSize.data.toList.drop 0 = dktX4_readSize_0 := by decide +kernel
theorem dksX4_readSize_1 : cX4_readSize.data.toList.drop 23 = dktX4_readSize_1 := dk_seg dksX4_readSize_0 23 rfl rfl
theorem dksX4_readSize_2 : cX4_readSize.data.toList.drop 45 = dktX4_readSize_2 := dk_seg dksX4_readSize_1 22 rfl rfl
theorem dX4_readSize_0 : decode cX4_readSize 0 = .ok (.iconst 0, 1) := dk_3 (dk_at dksX4_readSize_0 0 rfl rfl)
theorem dX4_readSize_1 : decode cX4_readSize 1 = .ok (.istore_n 1, 1) := dk_60 (dk_at dksX4_readSize_0 1 rfl rfl)
theorem dX4_readSize_2 : decode cX4_readSize 2 = .ok (.iconst 0, 1) := dk_3 (dk_at dksX4_readSize_0 2 rfl rfl)
theorem dX4_readSize_3 : decode cX4_readSize 3 = .ok (.istore_n 2, 1) := dk_61 (dk_at dksX4_readSize_0 3 rfl rfl)
theorem dX4_readSize_4 : decode cX4_readSize 4 = .ok (.iload_n 2, 1) := dk_28 (dk_at dksX4_readSize_0 4 rfl rfl)
theorem dX4_readSize_5 : decode cX4_readSize 5 = .ok (.aload_n 0, 1) := dk_42 (dk_at dksX4_readSize_0 5 rfl rfl)
theorem dX4_readSize_6 : decode cX4_readSize 6 = .ok (.getfield 12, 3) := dk_180 0 12 (dk_at dksX4_readSize_0 6 rfl rfl)
theorem dX4_readSize_9 : decode cX4_readSize 9 = .ok (.invokeinterface 30 1, 5) := by decide +kernel
theorem dX4_readSize_14 : decode cX4_readSize 14 = .ok (.if_icmp .ge 46, 3) := dk_162 0 46 (dk_at dksX4_readSize_0 14 rfl rfl)
theorem dX4_readSize_17 : decode cX4_readSize 17 = .ok (.iload_n 1, 1) := dk_27 (dk_at dksX4_readSize_0 17 rfl rfl)
theorem dX4_readSize_18 : decode cX4_readSize 18 = .ok (.aload_n 0, 1) := dk_42 (dk_at dksX4_readSize_0 18 rfl rfl)
theorem dX4_readSize_19 : decode cX4_readSize 19 = .ok (.getfield 12, 3) := dk_180 0 12 (dk_at dksX4_readSize_0 19 rfl rfl)
theorem dX4_readSize_22 : decode cX4_readSize 22 = .ok (.iload_n 2, 1) := dk_28 (dk_at dksX4_readSize_0 22 rfl rfl)
theorem dX4_readSize_23 : decode cX4_readSize 23 = .ok (.invokeinterface 38 2, 5) := by decide +kernel
theorem dX4_readSize_28 : decode cX4_readSize 28 = .ok (.astore 4, 2) := dk_58 4 (dk_at dksX4_readSize_1 5 rfl rfl)
theorem dX4_readSize_30 : decode cX4_readSize 30 = .ok (.aload 4, 2) := dk_25 4 (dk_at dksX4_readSize_1 7 rfl rfl)
theorem dX4_readSize_32 : decode cX4_readSize 32 = .ok (.instanceof 61, 3) := dk_193 0 61 (dk_at dksX4_readSize_1 9 rfl rfl)
theorem dX4_readSize_35 : decode cX4_readSize 35 = .ok (.ifCond .eq 16, 3) := dk_153 0 16 (dk_at dksX4_readSize_1 12 rfl rfl)
theorem dX4_readSize_38 : decode cX4_readSize 38 = .ok (.aload 4, 2) := dk_25 4 (dk_at dksX4_readSize_1 15 rfl rfl)
theorem dX4_readSize_40 : decode cX4_readSize 40 = .ok (.checkcast 61, 3) := dk_192 0 61 (dk_at dksX4_readSize_1 17 rfl rfl)
theorem dX4_readSize_43 : decode cX4_readSize 43 = .ok (.astore_n 3, 1) := dk_78 (dk_at dksX4_readSize_1 20 rfl rfl)
theorem dX4_readSize_44 : decode cX4_readSize 44 = .ok (.aload_n 3, 1) := dk_45 (dk_at dksX4_readSize_1 21 rfl rfl)
theorem dX4_readSize_45 : decode cX4_readSize 45 = .ok (.getfield 82, 3) := dk_180 0 82 (dk_at dksX4_readSize_2 0 rfl rfl)
theorem dX4_readSize_48 : decode cX4_readSize 48 = .ok (.goto 4, 3) := dk_167 0 4 (dk_at dksX4_readSize_2 3 rfl rfl)
theorem dX4_readSize_51 : decode cX4_readSize 51 = .ok (.iconst 1, 1) := dk_4 (dk_at dksX4_readSize_2 6 rfl rfl)
theorem dX4_readSize_52 : decode cX4_readSize 52 = .ok (.iadd, 1) := dk_96 (dk_at dksX4_readSize_2 7 rfl rfl)
theorem dX4_readSize_53 : decode cX4_readSize 53 = .ok (.istore_n 1, 1) := dk_60 (dk_at dksX4_readSize_2 8 rfl rfl)
theorem dX4_readSize_54 : decode cX4_readSize 54 = .ok (.iinc 2 1, 3) := dk_132 2 1 (dk_at dksX4_readSize_2 9 rfl rfl)
theorem dX4_readSize_57 : decode cX4_readSize 57 = .ok (.goto (-53), 3) := dk_167 255 203 (dk_at dksX4_readSize_2 12 rfl rfl)
theorem dX4_readSize_60 : decode cX4_readSize 60 = .ok (.iload_n 1, 1) := dk_27 (dk_at dksX4_readSize_2 15 rfl rfl)
theorem dX4_readSize_61 : decode cX4_readSize 61 = .ok (.ireturn, 1) := dk_172 (dk_at dksX4_readSize_2 16 rfl rfl)
abbrev cX4_readDepth : ByteArray := prog_10_method_14_code
def yX4_readDepth : MethodName := ⟨RX4, "readDepth", "()I"⟩
def dkwX4_readDepth_2 : List UInt8 := [180, 0, 86, 167, 0, 4, 3, 184, 0, 74, 60, 132, 2, 1, 167, 255, 201, 27, 172]
abbrev dktX4_readDepth_2 : List UInt8 := dkwX4_readDepth_2 ++ []
def dkwX4_readDepth_1 : List UInt8 := [185, 0, 38, 2, 0, 58, 4, 25, 4, 193, 0, 61, 153, 0, 16, 25, 4, 192, 0, 61, 78, 45]
abbrev dktX4_readDepth_1 : List UInt8 := dkwX4_readDepth_1 ++ dktX4_readDepth_2
def dkwX4_readDepth_0 : List UInt8 := [3, 60, 3, 61, 28, 42, 180, 0, 12, 185, 0, 30, 1, 0, 162, 0, 48, 27, 42, 180, 0, 12, 28]
abbrev dktX4_readDepth_0 : List UInt8 := dkwX4_readDepth_0 ++ dktX4_readDepth_1
theorem dksX4_readDepth_0 : cX4_readDepth.data.toList.drop 0 = dktX4_readDepth_0 := by decide +kernel
theorem dksX4_readDepth_1 : cX4_readDepth.data.toList.drop 23 = dktX4_readDepth_1 := dk_seg dksX4_readDepth_0 23 rfl rfl
theorem dksX4_readDepth_2 : cX4_readDepth.data.toList.drop 45 = dktX4_readDepth_2 := dk_seg dksX4_readDepth_1 22 rfl rfl
theorem dX4_readDepth_0 : decode cX4_readDepth 0 = .ok (.iconst 0, 1) := dk_3 (dk_at dksX4_readDepth_0 0 rfl rfl)
theorem dX4_readDepth_1 : decode cX4_readDepth 1 = .ok (.istore_n 1, 1) := dk_60 (dk_at dksX4_readDepth_0 1 rfl rfl)
theorem dX4_readDepth_2 : decode cX4_readDepth 2 = .ok (.iconst 0, 1) := dk_3 (dk_at dksX4_readDepth_0 2 rfl rfl)
theorem dX4_readDepth_3 : decode cX4_readDepth 3 = .ok (.istore_n 2, 1) := dk_61 (dk_at dksX4_readDepth_0 3 rfl rfl)
theorem dX4_readDepth_4 : decode cX4_readDepth 4 = .ok (.iload_n 2, 1) := dk_28 (dk_at dksX4_readDepth_0 4 rfl rfl)
theorem dX4_readDepth_5 : decode cX4_readDepth 5 = .ok (.aload_n 0, 1) := dk_42 (dk_at dksX4_readDepth_0 5 rfl rfl)
theorem dX4_readDepth_6 : decode cX4_readDepth 6 = .ok (.getfield 12, 3) := dk_180 0 12 (dk_at dksX4_readDepth_0 6 rfl rfl)
theorem dX4_readDepth_9 : decode cX4_readDepth 9 = .ok (.invokeinterface 30 1, 5) := by decide +kernel
theorem dX4_readDepth_14 : decode cX4_readDepth 14 = .ok (.if_icmp .ge 48, 3) := dk_162 0 48 (dk_at dksX4_readDepth_0 14 rfl rfl)
theorem dX4_readDepth_17 : decode cX4_readDepth 17 = .ok (.iload_n 1, 1) := dk_27 (dk_at dksX4_readDepth_0 17 rfl rfl)
theorem dX4_readDepth_18 : decode cX4_readDepth 18 = .ok (.aload_n 0, 1) := dk_42 (dk_at dksX4_readDepth_0 18 rfl rfl)
theorem dX4_readDepth_19 : decode cX4_readDepth 19 = .ok (.getfield 12, 3) := dk_180 0 12 (dk_at dksX4_readDepth_0 19 rfl rfl)
theorem dX4_readDepth_22 : decode cX4_readDepth 22 = .ok (.iload_n 2, 1) := dk_28 (dk_at dksX4_readDepth_0 22 rfl rfl)
theorem dX4_readDepth_23 : decode cX4_readDepth 23 = .ok (.invokeinterface 38 2, 5) := by decide +kernel
theorem dX4_readDepth_28 : decode cX4_readDepth 28 = .ok (.astore 4, 2) := dk_58 4 (dk_at dksX4_readDepth_1 5 rfl rfl)
theorem dX4_readDepth_30 : decode cX4_readDepth 30 = .ok (.aload 4, 2) := dk_25 4 (dk_at dksX4_readDepth_1 7 rfl rfl)
theorem dX4_readDepth_32 : decode cX4_readDepth 32 = .ok (.instanceof 61, 3) := dk_193 0 61 (dk_at dksX4_readDepth_1 9 rfl rfl)
theorem dX4_readDepth_35 : decode cX4_readDepth 35 = .ok (.ifCond .eq 16, 3) := dk_153 0 16 (dk_at dksX4_readDepth_1 12 rfl rfl)
theorem dX4_readDepth_38 : decode cX4_readDepth 38 = .ok (.aload 4, 2) := dk_25 4 (dk_at dksX4_readDepth_1 15 rfl rfl)
theorem dX4_readDepth_40 : decode cX4_readDepth 40 = .ok (.checkcast 61, 3) := dk_192 0 61 (dk_at dksX4_readDepth_1 17 rfl rfl)
theorem dX4_readDepth_43 : decode cX4_readDepth 43 = .ok (.astore_n 3, 1) := dk_78 (dk_at dksX4_readDepth_1 20 rfl rfl)
theorem dX4_readDepth_44 : decode cX4_readDepth 44 = .ok (.aload_n 3, 1) := dk_45 (dk_at dksX4_readDepth_1 21 rfl rfl)
theorem dX4_readDepth_45 : decode cX4_readDepth 45 = .ok (.getfield 86, 3) := dk_180 0 86 (dk_at dksX4_readDepth_2 0 rfl rfl)
theorem dX4_readDepth_48 : decode cX4_readDepth 48 = .ok (.goto 4, 3) := dk_167 0 4 (dk_at dksX4_readDepth_2 3 rfl rfl)
theorem dX4_readDepth_51 : decode cX4_readDepth 51 = .ok (.iconst 0, 1) := dk_3 (dk_at dksX4_readDepth_2 6 rfl rfl)
theorem dX4_readDepth_52 : decode cX4_readDepth 52 = .ok (.invokestatic 74, 3) := dk_184 0 74 (dk_at dksX4_readDepth_2 7 rfl rfl)
theorem dX4_readDepth_55 : decode cX4_readDepth 55 = .ok (.istore_n 1, 1) := dk_60 (dk_at dksX4_readDepth_2 10 rfl rfl)
theorem dX4_readDepth_56 : decode cX4_readDepth 56 = .ok (.iinc 2 1, 3) := dk_132 2 1 (dk_at dksX4_readDepth_2 11 rfl rfl)
theorem dX4_readDepth_59 : decode cX4_readDepth 59 = .ok (.goto (-55), 3) := dk_167 255 201 (dk_at dksX4_readDepth_2 14 rfl rfl)
theorem dX4_readDepth_62 : decode cX4_readDepth 62 = .ok (.iload_n 1, 1) := dk_27 (dk_at dksX4_readDepth_2 17 rfl rfl)
theorem dX4_readDepth_63 : decode cX4_readDepth 63 = .ok (.ireturn, 1) := dk_172 (dk_at dksX4_readDepth_2 18 rfl rfl)
abbrev cX4_write : ByteArray := prog_10_method_25_code
def yX4_write : MethodName := ⟨RX4, "write", "(Ljava/lang/StringBuilder;)V"⟩
def dkwX4_write_5 : List UInt8 := [167, 255, 149, 177]
abbrev dktX4_write_5 : List UInt8 := dkwX4_write_5 ++ []
def dkwX4_write_4 : List UInt8 := [180, 0, 12, 28, 185, 0, 38, 2, 0, 192, 0, 25, 182, 0, 137, 146, 182, 0, 140, 87, 132, 2, 1]
abbrev dktX4_write_4 : List UInt8 := dkwX4_write_4 ++ dktX4_write_5
def dkwX4_write_3 : List UInt8 := [160, 0, 7, 4, 167, 0, 4, 3, 54, 4, 45, 21, 4, 43, 184, 0, 153, 167, 0, 25, 43, 42]
abbrev dktX4_write_3 : List UInt8 := dkwX4_write_3 ++ dktX4_write_4
def dkwX4_write_2 : List UInt8 := [158, 0, 29, 42, 180, 0, 12, 28, 4, 100, 185, 0, 38, 2, 0, 192, 0, 25, 182, 0, 137, 4]
abbrev dktX4_write_2 : List UInt8 := dkwX4_write_2 ++ dktX4_write_3
def dkwX4_write_1 : List UInt8 := [185, 0, 38, 2, 0, 58, 4, 25, 4, 193, 0, 61, 153, 0, 52, 25, 4, 192, 0, 61, 78, 28]
abbrev dktX4_write_1 : List UInt8 := dkwX4_write_1 ++ dktX4_write_2
def dkwX4_write_0 : List UInt8 := [3, 61, 28, 42, 180, 0, 12, 185, 0, 30, 1, 0, 162, 0, 100, 42, 180, 0, 12, 28]
abbrev dktX4_write_0 : List UInt8 := dkwX4_write_0 ++ dktX4_write_1
theorem dksX4_write_0 : cX4_write.data.toList.drop 0 = dktX4_write_0 := by decide +kernel
theorem dksX4_write_1 : cX4_write.data.toList.drop 20 = dktX4_write_1 := dk_seg dksX4_write_0 20 rfl rfl
theorem dksX4_write_2 : cX4_write.data.toList.drop 42 = dktX4_write_2 := dk_seg dksX4_write_1 22 rfl rfl
theorem dksX4_write_3 : cX4_write.data.toList.drop 64 = dktX4_write_3 := dk_seg dksX4_write_2 22 rfl rfl
theorem dksX4_write_4 : cX4_write.data.toList.drop 86 = dktX4_write_4 := dk_seg dksX4_write_3 22 rfl rfl
theorem dksX4_write_5 : cX4_write.data.toList.drop 109 = dktX4_write_5 := dk_seg dksX4_write_4 23 rfl rfl
theorem dX4_write_0 : decode cX4_write 0 = .ok (.iconst 0, 1) := dk_3 (dk_at dksX4_write_0 0 rfl rfl)
theorem dX4_write_1 : decode cX4_write 1 = .ok (.istore_n 2, 1) := dk_61 (dk_at dksX4_write_0 1 rfl rfl)
theorem dX4_write_2 : decode cX4_write 2 = .ok (.iload_n 2, 1) := dk_28 (dk_at dksX4_write_0 2 rfl rfl)
theorem dX4_write_3 : decode cX4_write 3 = .ok (.aload_n 0, 1) := dk_42 (dk_at dksX4_write_0 3 rfl rfl)
theorem dX4_write_4 : decode cX4_write 4 = .ok (.getfield 12, 3) := dk_180 0 12 (dk_at dksX4_write_0 4 rfl rfl)
theorem dX4_write_7 : decode cX4_write 7 = .ok (.invokeinterface 30 1, 5) := by decide +kernel
theorem dX4_write_12 : decode cX4_write 12 = .ok (.if_icmp .ge 100, 3) := dk_162 0 100 (dk_at dksX4_write_0 12 rfl rfl)
theorem dX4_write_15 : decode cX4_write 15 = .ok (.aload_n 0, 1) := dk_42 (dk_at dksX4_write_0 15 rfl rfl)
theorem dX4_write_16 : decode cX4_write 16 = .ok (.getfield 12, 3) := dk_180 0 12 (dk_at dksX4_write_0 16 rfl rfl)
theorem dX4_write_19 : decode cX4_write 19 = .ok (.iload_n 2, 1) := dk_28 (dk_at dksX4_write_0 19 rfl rfl)
theorem dX4_write_20 : decode cX4_write 20 = .ok (.invokeinterface 38 2, 5) := by decide +kernel
theorem dX4_write_25 : decode cX4_write 25 = .ok (.astore 4, 2) := dk_58 4 (dk_at dksX4_write_1 5 rfl rfl)
theorem dX4_write_27 : decode cX4_write 27 = .ok (.aload 4, 2) := dk_25 4 (dk_at dksX4_write_1 7 rfl rfl)
theorem dX4_write_29 : decode cX4_write 29 = .ok (.instanceof 61, 3) := dk_193 0 61 (dk_at dksX4_write_1 9 rfl rfl)
theorem dX4_write_32 : decode cX4_write 32 = .ok (.ifCond .eq 52, 3) := dk_153 0 52 (dk_at dksX4_write_1 12 rfl rfl)
theorem dX4_write_35 : decode cX4_write 35 = .ok (.aload 4, 2) := dk_25 4 (dk_at dksX4_write_1 15 rfl rfl)
theorem dX4_write_37 : decode cX4_write 37 = .ok (.checkcast 61, 3) := dk_192 0 61 (dk_at dksX4_write_1 17 rfl rfl)
theorem dX4_write_40 : decode cX4_write 40 = .ok (.astore_n 3, 1) := dk_78 (dk_at dksX4_write_1 20 rfl rfl)
theorem dX4_write_41 : decode cX4_write 41 = .ok (.iload_n 2, 1) := dk_28 (dk_at dksX4_write_1 21 rfl rfl)
theorem dX4_write_42 : decode cX4_write 42 = .ok (.ifCond .le 29, 3) := dk_158 0 29 (dk_at dksX4_write_2 0 rfl rfl)
theorem dX4_write_45 : decode cX4_write 45 = .ok (.aload_n 0, 1) := dk_42 (dk_at dksX4_write_2 3 rfl rfl)
theorem dX4_write_46 : decode cX4_write 46 = .ok (.getfield 12, 3) := dk_180 0 12 (dk_at dksX4_write_2 4 rfl rfl)
theorem dX4_write_49 : decode cX4_write 49 = .ok (.iload_n 2, 1) := dk_28 (dk_at dksX4_write_2 7 rfl rfl)
theorem dX4_write_50 : decode cX4_write 50 = .ok (.iconst 1, 1) := dk_4 (dk_at dksX4_write_2 8 rfl rfl)
theorem dX4_write_51 : decode cX4_write 51 = .ok (.isub, 1) := dk_100 (dk_at dksX4_write_2 9 rfl rfl)
theorem dX4_write_52 : decode cX4_write 52 = .ok (.invokeinterface 38 2, 5) := by decide +kernel
theorem dX4_write_57 : decode cX4_write 57 = .ok (.checkcast 25, 3) := dk_192 0 25 (dk_at dksX4_write_2 15 rfl rfl)
theorem dX4_write_60 : decode cX4_write 60 = .ok (.invokevirtual 137, 3) := dk_182 0 137 (dk_at dksX4_write_2 18 rfl rfl)
theorem dX4_write_63 : decode cX4_write 63 = .ok (.iconst 1, 1) := dk_4 (dk_at dksX4_write_2 21 rfl rfl)
theorem dX4_write_64 : decode cX4_write 64 = .ok (.if_icmp .ne 7, 3) := dk_160 0 7 (dk_at dksX4_write_3 0 rfl rfl)
theorem dX4_write_67 : decode cX4_write 67 = .ok (.iconst 1, 1) := dk_4 (dk_at dksX4_write_3 3 rfl rfl)
theorem dX4_write_68 : decode cX4_write 68 = .ok (.goto 4, 3) := dk_167 0 4 (dk_at dksX4_write_3 4 rfl rfl)
theorem dX4_write_71 : decode cX4_write 71 = .ok (.iconst 0, 1) := dk_3 (dk_at dksX4_write_3 7 rfl rfl)
theorem dX4_write_72 : decode cX4_write 72 = .ok (.istore 4, 2) := dk_54 4 (dk_at dksX4_write_3 8 rfl rfl)
theorem dX4_write_74 : decode cX4_write 74 = .ok (.aload_n 3, 1) := dk_45 (dk_at dksX4_write_3 10 rfl rfl)
theorem dX4_write_75 : decode cX4_write 75 = .ok (.iload 4, 2) := dk_21 4 (dk_at dksX4_write_3 11 rfl rfl)
theorem dX4_write_77 : decode cX4_write 77 = .ok (.aload_n 1, 1) := dk_43 (dk_at dksX4_write_3 13 rfl rfl)
theorem dX4_write_78 : decode cX4_write 78 = .ok (.invokestatic 153, 3) := dk_184 0 153 (dk_at dksX4_write_3 14 rfl rfl)
theorem dX4_write_81 : decode cX4_write 81 = .ok (.goto 25, 3) := dk_167 0 25 (dk_at dksX4_write_3 17 rfl rfl)
theorem dX4_write_84 : decode cX4_write 84 = .ok (.aload_n 1, 1) := dk_43 (dk_at dksX4_write_3 20 rfl rfl)
theorem dX4_write_85 : decode cX4_write 85 = .ok (.aload_n 0, 1) := dk_42 (dk_at dksX4_write_3 21 rfl rfl)
theorem dX4_write_86 : decode cX4_write 86 = .ok (.getfield 12, 3) := dk_180 0 12 (dk_at dksX4_write_4 0 rfl rfl)
theorem dX4_write_89 : decode cX4_write 89 = .ok (.iload_n 2, 1) := dk_28 (dk_at dksX4_write_4 3 rfl rfl)
theorem dX4_write_90 : decode cX4_write 90 = .ok (.invokeinterface 38 2, 5) := by decide +kernel
theorem dX4_write_95 : decode cX4_write 95 = .ok (.checkcast 25, 3) := dk_192 0 25 (dk_at dksX4_write_4 9 rfl rfl)
theorem dX4_write_98 : decode cX4_write 98 = .ok (.invokevirtual 137, 3) := dk_182 0 137 (dk_at dksX4_write_4 12 rfl rfl)
theorem dX4_write_101 : decode cX4_write 101 = .ok (.i2c, 1) := dk_146 (dk_at dksX4_write_4 15 rfl rfl)
theorem dX4_write_102 : decode cX4_write 102 = .ok (.invokevirtual 140, 3) := dk_182 0 140 (dk_at dksX4_write_4 16 rfl rfl)
theorem dX4_write_105 : decode cX4_write 105 = .ok (.pop, 1) := dk_87 (dk_at dksX4_write_4 19 rfl rfl)
theorem dX4_write_106 : decode cX4_write 106 = .ok (.iinc 2 1, 3) := dk_132 2 1 (dk_at dksX4_write_4 20 rfl rfl)
theorem dX4_write_109 : decode cX4_write 109 = .ok (.goto (-107), 3) := dk_167 255 149 (dk_at dksX4_write_5 0 rfl rfl)
theorem dX4_write_112 : decode cX4_write 112 = .ok (.return_, 1) := dk_177 (dk_at dksX4_write_5 3 rfl rfl)
abbrev cX4_writeStructure : ByteArray := prog_10_method_26_code
def yX4_writeStructure : MethodName := ⟨RX4, "writeStructure", "(LFormulaEditor$Structure;ZLjava/lang/StringBuilder;)V"⟩
def dkwX4_writeStructure_6 : List UInt8 := [182, 0, 150, 177]
abbrev dktX4_writeStructure_6 : List UInt8 := dkwX4_writeStructure_6 ++ []
def dkwX4_writeStructure_5 : List UInt8 := [182, 0, 163, 167, 0, 23, 44, 16, 114, 182, 0, 140, 87, 45, 44, 182, 0, 150, 167, 0, 8, 45, 44]
abbrev dktX4_writeStructure_5 : List UInt8 := dkwX4_writeStructure_5 ++ dktX4_writeStructure_6
def dkwX4_writeStructure_4 : List UInt8 := [180, 0, 157, 5, 160, 0, 8, 16, 94, 167, 0, 5, 16, 95, 182, 0, 140, 87, 45, 45, 182, 0, 171, 44]
abbrev dktX4_writeStructure_4 : List UInt8 := dkwX4_writeStructure_4 ++ dktX4_writeStructure_5
def dkwX4_writeStructure_3 : List UInt8 := [182, 0, 160, 44, 182, 0, 163, 167, 0, 66, 27, 153, 0, 10, 44, 16, 32, 182, 0, 140, 87, 44, 42]
abbrev dktX4_writeStructure_3 : List UInt8 := dkwX4_writeStructure_3 ++ dktX4_writeStructure_4
def dkwX4_writeStructure_2 : List UInt8 := [45, 45, 182, 0, 160, 44, 182, 0, 163, 44, 16, 47, 182, 0, 140, 87, 42, 182, 0, 167, 42, 182, 0, 167]
abbrev dktX4_writeStructure_2 : List UInt8 := dkwX4_writeStructure_2 ++ dktX4_writeStructure_3
def dkwX4_writeStructure_1 : List UInt8 := [170, 0, 0, 0, 121, 0, 0, 0, 1, 0, 0, 0, 4, 0, 0, 0, 29, 0, 0, 0, 63, 0, 0, 0, 63, 0, 0, 0, 106]
abbrev dktX4_writeStructure_1 : List UInt8 := dkwX4_writeStructure_1 ++ dktX4_writeStructure_2
def dkwX4_writeStructure_0 : List UInt8 := [42, 180, 0, 89, 3, 50, 78, 42, 180, 0, 157]
abbrev dktX4_writeStructure_0 : List UInt8 := dkwX4_writeStructure_0 ++ dktX4_writeStructure_1
theorem dksX4_writeStructure_0 : cX4_writeStructure.data.toList.drop 0 = dktX4_writeStructure_0 := by decide +kernel
theorem dksX4_writeStructure_1 : cX4_writeStructure.data.toList.drop 11 = dktX4_writeStructure_1 := dk_seg dksX4_writeStructure_0 11 rfl rfl
theorem dksX4_writeStructure_2 : cX4_writeStructure.data.toList.drop 40 = dktX4_writeStructure_2 := dk_seg dksX4_writeStructure_1 29 rfl rfl
theorem dksX4_writeStructure_3 : cX4_writeStructure.data.toList.drop 64 = dktX4_writeStructure_3 := dk_seg dksX4_writeStructure_2 24 rfl rfl
theorem dksX4_writeStructure_4 : cX4_writeStructure.data.toList.drop 87 = dktX4_writeStructure_4 := dk_seg dksX4_writeStructure_3 23 rfl rfl
theorem dksX4_writeStructure_5 : cX4_writeStructure.data.toList.drop 111 = dktX4_writeStructure_5 := dk_seg dksX4_writeStructure_4 24 rfl rfl
theorem dksX4_writeStructure_6 : cX4_writeStructure.data.toList.drop 134 = dktX4_writeStructure_6 := dk_seg dksX4_writeStructure_5 23 rfl rfl
theorem dX4_writeStructure_0 : decode cX4_writeStructure 0 = .ok (.aload_n 0, 1) := dk_42 (dk_at dksX4_writeStructure_0 0 rfl rfl)
theorem dX4_writeStructure_1 : decode cX4_writeStructure 1 = .ok (.getfield 89, 3) := dk_180 0 89 (dk_at dksX4_writeStructure_0 1 rfl rfl)
theorem dX4_writeStructure_4 : decode cX4_writeStructure 4 = .ok (.iconst 0, 1) := dk_3 (dk_at dksX4_writeStructure_0 4 rfl rfl)
theorem dX4_writeStructure_5 : decode cX4_writeStructure 5 = .ok (.aaload, 1) := dk_50 (dk_at dksX4_writeStructure_0 5 rfl rfl)
theorem dX4_writeStructure_6 : decode cX4_writeStructure 6 = .ok (.astore_n 3, 1) := dk_78 (dk_at dksX4_writeStructure_0 6 rfl rfl)
theorem dX4_writeStructure_7 : decode cX4_writeStructure 7 = .ok (.aload_n 0, 1) := dk_42 (dk_at dksX4_writeStructure_0 7 rfl rfl)
theorem dX4_writeStructure_8 : decode cX4_writeStructure 8 = .ok (.getfield 157, 3) := dk_180 0 157 (dk_at dksX4_writeStructure_0 8 rfl rfl)
theorem dX4_writeStructure_11 : decode cX4_writeStructure 11 = .ok (.tableswitch 121 1 4 #[29, 63, 63, 106], 29) := by decide +kernel
theorem dX4_writeStructure_40 : decode cX4_writeStructure 40 = .ok (.aload_n 3, 1) := dk_45 (dk_at dksX4_writeStructure_2 0 rfl rfl)
theorem dX4_writeStructure_41 : decode cX4_writeStructure 41 = .ok (.aload_n 3, 1) := dk_45 (dk_at dksX4_writeStructure_2 1 rfl rfl)
theorem dX4_writeStructure_42 : decode cX4_writeStructure 42 = .ok (.invokevirtual 160, 3) := dk_182 0 160 (dk_at dksX4_writeStructure_2 2 rfl rfl)
theorem dX4_writeStructure_45 : decode cX4_writeStructure 45 = .ok (.aload_n 2, 1) := dk_44 (dk_at dksX4_writeStructure_2 5 rfl rfl)
theorem dX4_writeStructure_46 : decode cX4_writeStructure 46 = .ok (.invokevirtual 163, 3) := dk_182 0 163 (dk_at dksX4_writeStructure_2 6 rfl rfl)
theorem dX4_writeStructure_49 : decode cX4_writeStructure 49 = .ok (.aload_n 2, 1) := dk_44 (dk_at dksX4_writeStructure_2 9 rfl rfl)
theorem dX4_writeStructure_50 : decode cX4_writeStructure 50 = .ok (.bipush 47, 2) := dk_16 47 (dk_at dksX4_writeStructure_2 10 rfl rfl)
theorem dX4_writeStructure_52 : decode cX4_writeStructure 52 = .ok (.invokevirtual 140, 3) := dk_182 0 140 (dk_at dksX4_writeStructure_2 12 rfl rfl)
theorem dX4_writeStructure_55 : decode cX4_writeStructure 55 = .ok (.pop, 1) := dk_87 (dk_at dksX4_writeStructure_2 15 rfl rfl)
theorem dX4_writeStructure_56 : decode cX4_writeStructure 56 = .ok (.aload_n 0, 1) := dk_42 (dk_at dksX4_writeStructure_2 16 rfl rfl)
theorem dX4_writeStructure_57 : decode cX4_writeStructure 57 = .ok (.invokevirtual 167, 3) := dk_182 0 167 (dk_at dksX4_writeStructure_2 17 rfl rfl)
theorem dX4_writeStructure_60 : decode cX4_writeStructure 60 = .ok (.aload_n 0, 1) := dk_42 (dk_at dksX4_writeStructure_2 20 rfl rfl)
theorem dX4_writeStructure_61 : decode cX4_writeStructure 61 = .ok (.invokevirtual 167, 3) := dk_182 0 167 (dk_at dksX4_writeStructure_2 21 rfl rfl)
theorem dX4_writeStructure_64 : decode cX4_writeStructure 64 = .ok (.invokevirtual 160, 3) := dk_182 0 160 (dk_at dksX4_writeStructure_3 0 rfl rfl)
theorem dX4_writeStructure_67 : decode cX4_writeStructure 67 = .ok (.aload_n 2, 1) := dk_44 (dk_at dksX4_writeStructure_3 3 rfl rfl)
theorem dX4_writeStructure_68 : decode cX4_writeStructure 68 = .ok (.invokevirtual 163, 3) := dk_182 0 163 (dk_at dksX4_writeStructure_3 4 rfl rfl)
theorem dX4_writeStructure_71 : decode cX4_writeStructure 71 = .ok (.goto 66, 3) := dk_167 0 66 (dk_at dksX4_writeStructure_3 7 rfl rfl)
theorem dX4_writeStructure_74 : decode cX4_writeStructure 74 = .ok (.iload_n 1, 1) := dk_27 (dk_at dksX4_writeStructure_3 10 rfl rfl)
theorem dX4_writeStructure_75 : decode cX4_writeStructure 75 = .ok (.ifCond .eq 10, 3) := dk_153 0 10 (dk_at dksX4_writeStructure_3 11 rfl rfl)
theorem dX4_writeStructure_78 : decode cX4_writeStructure 78 = .ok (.aload_n 2, 1) := dk_44 (dk_at dksX4_writeStructure_3 14 rfl rfl)
theorem dX4_writeStructure_79 : decode cX4_writeStructure 79 = .ok (.bipush 32, 2) := dk_16 32 (dk_at dksX4_writeStructure_3 15 rfl rfl)
theorem dX4_writeStructure_81 : decode cX4_writeStructure 81 = .ok (.invokevirtual 140, 3) := dk_182 0 140 (dk_at dksX4_writeStructure_3 17 rfl rfl)
theorem dX4_writeStructure_84 : decode cX4_writeStructure 84 = .ok (.pop, 1) := dk_87 (dk_at dksX4_writeStructure_3 20 rfl rfl)
theorem dX4_writeStructure_85 : decode cX4_writeStructure 85 = .ok (.aload_n 2, 1) := dk_44 (dk_at dksX4_writeStructure_3 21 rfl rfl)
theorem dX4_writeStructure_86 : decode cX4_writeStructure 86 = .ok (.aload_n 0, 1) := dk_42 (dk_at dksX4_writeStructure_3 22 rfl rfl)
theorem dX4_writeStructure_87 : decode cX4_writeStructure 87 = .ok (.getfield 157, 3) := dk_180 0 157 (dk_at dksX4_writeStructure_4 0 rfl rfl)
theorem dX4_writeStructure_90 : decode cX4_writeStructure 90 = .ok (.iconst 2, 1) := dk_5 (dk_at dksX4_writeStructure_4 3 rfl rfl)
theorem dX4_writeStructure_91 : decode cX4_writeStructure 91 = .ok (.if_icmp .ne 8, 3) := dk_160 0 8 (dk_at dksX4_writeStructure_4 4 rfl rfl)
theorem dX4_writeStructure_94 : decode cX4_writeStructure 94 = .ok (.bipush 94, 2) := dk_16 94 (dk_at dksX4_writeStructure_4 7 rfl rfl)
theorem dX4_writeStructure_96 : decode cX4_writeStructure 96 = .ok (.goto 5, 3) := dk_167 0 5 (dk_at dksX4_writeStructure_4 9 rfl rfl)
theorem dX4_writeStructure_99 : decode cX4_writeStructure 99 = .ok (.bipush 95, 2) := dk_16 95 (dk_at dksX4_writeStructure_4 12 rfl rfl)
theorem dX4_writeStructure_101 : decode cX4_writeStructure 101 = .ok (.invokevirtual 140, 3) := dk_182 0 140 (dk_at dksX4_writeStructure_4 14 rfl rfl)
theorem dX4_writeStructure_104 : decode cX4_writeStructure 104 = .ok (.pop, 1) := dk_87 (dk_at dksX4_writeStructure_4 17 rfl rfl)
theorem dX4_writeStructure_105 : decode cX4_writeStructure 105 = .ok (.aload_n 3, 1) := dk_45 (dk_at dksX4_writeStructure_4 18 rfl rfl)
theorem dX4_writeStructure_106 : decode cX4_writeStructure 106 = .ok (.aload_n 3, 1) := dk_45 (dk_at dksX4_writeStructure_4 19 rfl rfl)
theorem dX4_writeStructure_107 : decode cX4_writeStructure 107 = .ok (.invokevirtual 171, 3) := dk_182 0 171 (dk_at dksX4_writeStructure_4 20 rfl rfl)
theorem dX4_writeStructure_110 : decode cX4_writeStructure 110 = .ok (.aload_n 2, 1) := dk_44 (dk_at dksX4_writeStructure_4 23 rfl rfl)
theorem dX4_writeStructure_111 : decode cX4_writeStructure 111 = .ok (.invokevirtual 163, 3) := dk_182 0 163 (dk_at dksX4_writeStructure_5 0 rfl rfl)
theorem dX4_writeStructure_114 : decode cX4_writeStructure 114 = .ok (.goto 23, 3) := dk_167 0 23 (dk_at dksX4_writeStructure_5 3 rfl rfl)
theorem dX4_writeStructure_117 : decode cX4_writeStructure 117 = .ok (.aload_n 2, 1) := dk_44 (dk_at dksX4_writeStructure_5 6 rfl rfl)
theorem dX4_writeStructure_118 : decode cX4_writeStructure 118 = .ok (.bipush 114, 2) := dk_16 114 (dk_at dksX4_writeStructure_5 7 rfl rfl)
theorem dX4_writeStructure_120 : decode cX4_writeStructure 120 = .ok (.invokevirtual 140, 3) := dk_182 0 140 (dk_at dksX4_writeStructure_5 9 rfl rfl)
theorem dX4_writeStructure_123 : decode cX4_writeStructure 123 = .ok (.pop, 1) := dk_87 (dk_at dksX4_writeStructure_5 12 rfl rfl)
theorem dX4_writeStructure_124 : decode cX4_writeStructure 124 = .ok (.aload_n 3, 1) := dk_45 (dk_at dksX4_writeStructure_5 13 rfl rfl)
theorem dX4_writeStructure_125 : decode cX4_writeStructure 125 = .ok (.aload_n 2, 1) := dk_44 (dk_at dksX4_writeStructure_5 14 rfl rfl)
theorem dX4_writeStructure_126 : decode cX4_writeStructure 126 = .ok (.invokevirtual 150, 3) := dk_182 0 150 (dk_at dksX4_writeStructure_5 15 rfl rfl)
theorem dX4_writeStructure_129 : decode cX4_writeStructure 129 = .ok (.goto 8, 3) := dk_167 0 8 (dk_at dksX4_writeStructure_5 18 rfl rfl)
theorem dX4_writeStructure_132 : decode cX4_writeStructure 132 = .ok (.aload_n 3, 1) := dk_45 (dk_at dksX4_writeStructure_5 21 rfl rfl)
theorem dX4_writeStructure_133 : decode cX4_writeStructure 133 = .ok (.aload_n 2, 1) := dk_44 (dk_at dksX4_writeStructure_5 22 rfl rfl)
theorem dX4_writeStructure_134 : decode cX4_writeStructure 134 = .ok (.invokevirtual 150, 3) := dk_182 0 150 (dk_at dksX4_writeStructure_6 0 rfl rfl)
theorem dX4_writeStructure_137 : decode cX4_writeStructure 137 = .ok (.return_, 1) := dk_177 (dk_at dksX4_writeStructure_6 3 rfl rfl)
abbrev cX4_isPlainOperand : ByteArray := prog_10_method_21_code
def yX4_isPlainOperand : MethodName := ⟨RX4, "isPlainOperand", "()Z"⟩
def dkwX4_isPlainOperand_3 : List UInt8 := [185, 0, 38, 2, 0, 192, 0, 25, 182, 0, 137, 8, 159, 0, 7, 4, 167, 0, 4, 3, 172]
abbrev dktX4_isPlainOperand_3 : List UInt8 := dkwX4_isPlainOperand_3 ++ []
def dkwX4_isPlainOperand_2 : List UInt8 := [153, 0, 40, 42, 180, 0, 12, 185, 0, 30, 1, 0, 4, 163, 0, 23, 42, 180, 0, 12, 3]
abbrev dktX4_isPlainOperand_2 : List UInt8 := dkwX4_isPlainOperand_2 ++ dktX4_isPlainOperand_3
def dkwX4_isPlainOperand_1 : List UInt8 := [192, 0, 25, 182, 0, 130, 153, 0, 15, 42, 4, 182, 0, 133, 153, 0, 7, 4, 167, 0, 4, 3, 60, 27]
abbrev dktX4_isPlainOperand_1 : List UInt8 := dkwX4_isPlainOperand_1 ++ dktX4_isPlainOperand_2
def dkwX4_isPlainOperand_0 : List UInt8 := [42, 180, 0, 12, 185, 0, 93, 1, 0, 154, 0, 34, 42, 180, 0, 12, 3, 185, 0, 38, 2, 0]
abbrev dktX4_isPlainOperand_0 : List UInt8 := dkwX4_isPlainOperand_0 ++ dktX4_isPlainOperand_1
theorem dksX4_isPlainOperand_0 : cX4_isPlainOperand.data.toList.drop 0 = dktX4_isPlainOperand_0 := by decide +kernel
theorem dksX4_isPlainOperand_1 : cX4_isPlainOperand.data.toList.drop 22 = dktX4_isPlainOperand_1 := dk_seg dksX4_isPlainOperand_0 22 rfl rfl
theorem dksX4_isPlainOperand_2 : cX4_isPlainOperand.data.toList.drop 46 = dktX4_isPlainOperand_2 := dk_seg dksX4_isPlainOperand_1 24 rfl rfl
theorem dksX4_isPlainOperand_3 : cX4_isPlainOperand.data.toList.drop 67 = dktX4_isPlainOperand_3 := dk_seg dksX4_isPlainOperand_2 21 rfl rfl
theorem dX4_isPlainOperand_0 : decode cX4_isPlainOperand 0 = .ok (.aload_n 0, 1) := dk_42 (dk_at dksX4_isPlainOperand_0 0 rfl rfl)
theorem dX4_isPlainOperand_1 : decode cX4_isPlainOperand 1 = .ok (.getfield 12, 3) := dk_180 0 12 (dk_at dksX4_isPlainOperand_0 1 rfl rfl)
theorem dX4_isPlainOperand_4 : decode cX4_isPlainOperand 4 = .ok (.invokeinterface 93 1, 5) := by decide +kernel
theorem dX4_isPlainOperand_9 : decode cX4_isPlainOperand 9 = .ok (.ifCond .ne 34, 3) := dk_154 0 34 (dk_at dksX4_isPlainOperand_0 9 rfl rfl)
theorem dX4_isPlainOperand_12 : decode cX4_isPlainOperand 12 = .ok (.aload_n 0, 1) := dk_42 (dk_at dksX4_isPlainOperand_0 12 rfl rfl)
theorem dX4_isPlainOperand_13 : decode cX4_isPlainOperand 13 = .ok (.getfield 12, 3) := dk_180 0 12 (dk_at dksX4_isPlainOperand_0 13 rfl rfl)
theorem dX4_isPlainOperand_16 : decode cX4_isPlainOperand 16 = .ok (.iconst 0, 1) := dk_3 (dk_at dksX4_isPlainOperand_0 16 rfl rfl)
theorem dX4_isPlainOperand_17 : decode cX4_isPlainOperand 17 = .ok (.invokeinterface 38 2, 5) := by decide +kernel
theorem dX4_isPlainOperand_22 : decode cX4_isPlainOperand 22 = .ok (.checkcast 25, 3) := dk_192 0 25 (dk_at dksX4_isPlainOperand_1 0 rfl rfl)
theorem dX4_isPlainOperand_25 : decode cX4_isPlainOperand 25 = .ok (.invokevirtual 130, 3) := dk_182 0 130 (dk_at dksX4_isPlainOperand_1 3 rfl rfl)
theorem dX4_isPlainOperand_28 : decode cX4_isPlainOperand 28 = .ok (.ifCond .eq 15, 3) := dk_153 0 15 (dk_at dksX4_isPlainOperand_1 6 rfl rfl)
theorem dX4_isPlainOperand_31 : decode cX4_isPlainOperand 31 = .ok (.aload_n 0, 1) := dk_42 (dk_at dksX4_isPlainOperand_1 9 rfl rfl)
theorem dX4_isPlainOperand_32 : decode cX4_isPlainOperand 32 = .ok (.iconst 1, 1) := dk_4 (dk_at dksX4_isPlainOperand_1 10 rfl rfl)
theorem dX4_isPlainOperand_33 : decode cX4_isPlainOperand 33 = .ok (.invokevirtual 133, 3) := dk_182 0 133 (dk_at dksX4_isPlainOperand_1 11 rfl rfl)
theorem dX4_isPlainOperand_36 : decode cX4_isPlainOperand 36 = .ok (.ifCond .eq 7, 3) := dk_153 0 7 (dk_at dksX4_isPlainOperand_1 14 rfl rfl)
theorem dX4_isPlainOperand_39 : decode cX4_isPlainOperand 39 = .ok (.iconst 1, 1) := dk_4 (dk_at dksX4_isPlainOperand_1 17 rfl rfl)
theorem dX4_isPlainOperand_40 : decode cX4_isPlainOperand 40 = .ok (.goto 4, 3) := dk_167 0 4 (dk_at dksX4_isPlainOperand_1 18 rfl rfl)
theorem dX4_isPlainOperand_43 : decode cX4_isPlainOperand 43 = .ok (.iconst 0, 1) := dk_3 (dk_at dksX4_isPlainOperand_1 21 rfl rfl)
theorem dX4_isPlainOperand_44 : decode cX4_isPlainOperand 44 = .ok (.istore_n 1, 1) := dk_60 (dk_at dksX4_isPlainOperand_1 22 rfl rfl)
theorem dX4_isPlainOperand_45 : decode cX4_isPlainOperand 45 = .ok (.iload_n 1, 1) := dk_27 (dk_at dksX4_isPlainOperand_1 23 rfl rfl)
theorem dX4_isPlainOperand_46 : decode cX4_isPlainOperand 46 = .ok (.ifCond .eq 40, 3) := dk_153 0 40 (dk_at dksX4_isPlainOperand_2 0 rfl rfl)
theorem dX4_isPlainOperand_49 : decode cX4_isPlainOperand 49 = .ok (.aload_n 0, 1) := dk_42 (dk_at dksX4_isPlainOperand_2 3 rfl rfl)
theorem dX4_isPlainOperand_50 : decode cX4_isPlainOperand 50 = .ok (.getfield 12, 3) := dk_180 0 12 (dk_at dksX4_isPlainOperand_2 4 rfl rfl)
theorem dX4_isPlainOperand_53 : decode cX4_isPlainOperand 53 = .ok (.invokeinterface 30 1, 5) := by decide +kernel
theorem dX4_isPlainOperand_58 : decode cX4_isPlainOperand 58 = .ok (.iconst 1, 1) := dk_4 (dk_at dksX4_isPlainOperand_2 12 rfl rfl)
theorem dX4_isPlainOperand_59 : decode cX4_isPlainOperand 59 = .ok (.if_icmp .gt 23, 3) := dk_163 0 23 (dk_at dksX4_isPlainOperand_2 13 rfl rfl)
theorem dX4_isPlainOperand_62 : decode cX4_isPlainOperand 62 = .ok (.aload_n 0, 1) := dk_42 (dk_at dksX4_isPlainOperand_2 16 rfl rfl)
theorem dX4_isPlainOperand_63 : decode cX4_isPlainOperand 63 = .ok (.getfield 12, 3) := dk_180 0 12 (dk_at dksX4_isPlainOperand_2 17 rfl rfl)
theorem dX4_isPlainOperand_66 : decode cX4_isPlainOperand 66 = .ok (.iconst 0, 1) := dk_3 (dk_at dksX4_isPlainOperand_2 20 rfl rfl)
theorem dX4_isPlainOperand_67 : decode cX4_isPlainOperand 67 = .ok (.invokeinterface 38 2, 5) := by decide +kernel
theorem dX4_isPlainOperand_72 : decode cX4_isPlainOperand 72 = .ok (.checkcast 25, 3) := dk_192 0 25 (dk_at dksX4_isPlainOperand_3 5 rfl rfl)
theorem dX4_isPlainOperand_75 : decode cX4_isPlainOperand 75 = .ok (.invokevirtual 137, 3) := dk_182 0 137 (dk_at dksX4_isPlainOperand_3 8 rfl rfl)
theorem dX4_isPlainOperand_78 : decode cX4_isPlainOperand 78 = .ok (.iconst 5, 1) := dk_8 (dk_at dksX4_isPlainOperand_3 11 rfl rfl)
theorem dX4_isPlainOperand_79 : decode cX4_isPlainOperand 79 = .ok (.if_icmp .eq 7, 3) := dk_159 0 7 (dk_at dksX4_isPlainOperand_3 12 rfl rfl)
theorem dX4_isPlainOperand_82 : decode cX4_isPlainOperand 82 = .ok (.iconst 1, 1) := dk_4 (dk_at dksX4_isPlainOperand_3 15 rfl rfl)
theorem dX4_isPlainOperand_83 : decode cX4_isPlainOperand 83 = .ok (.goto 4, 3) := dk_167 0 4 (dk_at dksX4_isPlainOperand_3 16 rfl rfl)
theorem dX4_isPlainOperand_86 : decode cX4_isPlainOperand 86 = .ok (.iconst 0, 1) := dk_3 (dk_at dksX4_isPlainOperand_3 19 rfl rfl)
theorem dX4_isPlainOperand_87 : decode cX4_isPlainOperand 87 = .ok (.ireturn, 1) := dk_172 (dk_at dksX4_isPlainOperand_3 20 rfl rfl)
abbrev cX4_isScriptFrom : ByteArray := prog_10_method_20_code
def yX4_isScriptFrom : MethodName := ⟨RX4, "isScriptFrom", "(I)Z"⟩
def dkwX4_isScriptFrom_2 : List UInt8 := [182, 0, 127, 153, 0, 7, 4, 167, 0, 4, 3, 126, 61, 132, 3, 1, 167, 255, 197, 28, 172]
abbrev dktX4_isScriptFrom_2 : List UInt8 := dkwX4_isScriptFrom_2 ++ []
def dkwX4_isScriptFrom_1 : List UInt8 := [185, 0, 38, 2, 0, 58, 5, 25, 5, 193, 0, 61, 153, 0, 22, 25, 5, 192, 0, 61, 58, 4, 25, 4]
abbrev dktX4_isScriptFrom_1 : List UInt8 := dkwX4_isScriptFrom_1 ++ dktX4_isScriptFrom_2
def dkwX4_isScriptFrom_0 : List UInt8 := [4, 61, 27, 62, 29, 42, 180, 0, 12, 185, 0, 30, 1, 0, 162, 0, 52, 28, 42, 180, 0, 12, 29]
abbrev dktX4_isScriptFrom_0 : List UInt8 := dkwX4_isScriptFrom_0 ++ dktX4_isScriptFrom_1
theorem dksX4_isScriptFrom_0 : cX4_isScriptFrom.data.toList.drop 0 = dktX4_isScriptFrom_0 := by decide +kernel
theorem dksX4_isScriptFrom_1 : cX4_isScriptFrom.data.toList.drop 23 = dktX4_isScriptFrom_1 := dk_seg dksX4_isScriptFrom_0 23 rfl rfl
theorem dksX4_isScriptFrom_2 : cX4_isScriptFrom.data.toList.drop 47 = dktX4_isScriptFrom_2 := dk_seg dksX4_isScriptFrom_1 24 rfl rfl
theorem dX4_isScriptFrom_0 : decode cX4_isScriptFrom 0 = .ok (.iconst 1, 1) := dk_4 (dk_at dksX4_isScriptFrom_0 0 rfl rfl)
theorem dX4_isScriptFrom_1 : decode cX4_isScriptFrom 1 = .ok (.istore_n 2, 1) := dk_61 (dk_at dksX4_isScriptFrom_0 1 rfl rfl)
theorem dX4_isScriptFrom_2 : decode cX4_isScriptFrom 2 = .ok (.iload_n 1, 1) := dk_27 (dk_at dksX4_isScriptFrom_0 2 rfl rfl)
theorem dX4_isScriptFrom_3 : decode cX4_isScriptFrom 3 = .ok (.istore_n 3, 1) := dk_62 (dk_at dksX4_isScriptFrom_0 3 rfl rfl)
theorem dX4_isScriptFrom_4 : decode cX4_isScriptFrom 4 = .ok (.iload_n 3, 1) := dk_29 (dk_at dksX4_isScriptFrom_0 4 rfl rfl)
theorem dX4_isScriptFrom_5 : decode cX4_isScriptFrom 5 = .ok (.aload_n 0, 1) := dk_42 (dk_at dksX4_isScriptFrom_0 5 rfl rfl)
theorem dX4_isScriptFrom_6 : decode cX4_isScriptFrom 6 = .ok (.getfield 12, 3) := dk_180 0 12 (dk_at dksX4_isScriptFrom_0 6 rfl rfl)
theorem dX4_isScriptFrom_9 : decode cX4_isScriptFrom 9 = .ok (.invokeinterface 30 1, 5) := by decide +kernel
theorem dX4_isScriptFrom_14 : decode cX4_isScriptFrom 14 = .ok (.if_icmp .ge 52, 3) := dk_162 0 52 (dk_at dksX4_isScriptFrom_0 14 rfl rfl)
theorem dX4_isScriptFrom_17 : decode cX4_isScriptFrom 17 = .ok (.iload_n 2, 1) := dk_28 (dk_at dksX4_isScriptFrom_0 17 rfl rfl)
theorem dX4_isScriptFrom_18 : decode cX4_isScriptFrom 18 = .ok (.aload_n 0, 1) := dk_42 (dk_at dksX4_isScriptFrom_0 18 rfl rfl)
theorem dX4_isScriptFrom_19 : decode cX4_isScriptFrom 19 = .ok (.getfield 12, 3) := dk_180 0 12 (dk_at dksX4_isScriptFrom_0 19 rfl rfl)
theorem dX4_isScriptFrom_22 : decode cX4_isScriptFrom 22 = .ok (.iload_n 3, 1) := dk_29 (dk_at dksX4_isScriptFrom_0 22 rfl rfl)
theorem dX4_isScriptFrom_23 : decode cX4_isScriptFrom 23 = .ok (.invokeinterface 38 2, 5) := by decide +kernel
theorem dX4_isScriptFrom_28 : decode cX4_isScriptFrom 28 = .ok (.astore 5, 2) := dk_58 5 (dk_at dksX4_isScriptFrom_1 5 rfl rfl)
theorem dX4_isScriptFrom_30 : decode cX4_isScriptFrom 30 = .ok (.aload 5, 2) := dk_25 5 (dk_at dksX4_isScriptFrom_1 7 rfl rfl)
theorem dX4_isScriptFrom_32 : decode cX4_isScriptFrom 32 = .ok (.instanceof 61, 3) := dk_193 0 61 (dk_at dksX4_isScriptFrom_1 9 rfl rfl)
theorem dX4_isScriptFrom_35 : decode cX4_isScriptFrom 35 = .ok (.ifCond .eq 22, 3) := dk_153 0 22 (dk_at dksX4_isScriptFrom_1 12 rfl rfl)
theorem dX4_isScriptFrom_38 : decode cX4_isScriptFrom 38 = .ok (.aload 5, 2) := dk_25 5 (dk_at dksX4_isScriptFrom_1 15 rfl rfl)
theorem dX4_isScriptFrom_40 : decode cX4_isScriptFrom 40 = .ok (.checkcast 61, 3) := dk_192 0 61 (dk_at dksX4_isScriptFrom_1 17 rfl rfl)
theorem dX4_isScriptFrom_43 : decode cX4_isScriptFrom 43 = .ok (.astore 4, 2) := dk_58 4 (dk_at dksX4_isScriptFrom_1 20 rfl rfl)
theorem dX4_isScriptFrom_45 : decode cX4_isScriptFrom 45 = .ok (.aload 4, 2) := dk_25 4 (dk_at dksX4_isScriptFrom_1 22 rfl rfl)
theorem dX4_isScriptFrom_47 : decode cX4_isScriptFrom 47 = .ok (.invokevirtual 127, 3) := dk_182 0 127 (dk_at dksX4_isScriptFrom_2 0 rfl rfl)
theorem dX4_isScriptFrom_50 : decode cX4_isScriptFrom 50 = .ok (.ifCond .eq 7, 3) := dk_153 0 7 (dk_at dksX4_isScriptFrom_2 3 rfl rfl)
theorem dX4_isScriptFrom_53 : decode cX4_isScriptFrom 53 = .ok (.iconst 1, 1) := dk_4 (dk_at dksX4_isScriptFrom_2 6 rfl rfl)
theorem dX4_isScriptFrom_54 : decode cX4_isScriptFrom 54 = .ok (.goto 4, 3) := dk_167 0 4 (dk_at dksX4_isScriptFrom_2 7 rfl rfl)
theorem dX4_isScriptFrom_57 : decode cX4_isScriptFrom 57 = .ok (.iconst 0, 1) := dk_3 (dk_at dksX4_isScriptFrom_2 10 rfl rfl)
theorem dX4_isScriptFrom_58 : decode cX4_isScriptFrom 58 = .ok (.iand, 1) := dk_126 (dk_at dksX4_isScriptFrom_2 11 rfl rfl)
theorem dX4_isScriptFrom_59 : decode cX4_isScriptFrom 59 = .ok (.istore_n 2, 1) := dk_61 (dk_at dksX4_isScriptFrom_2 12 rfl rfl)
theorem dX4_isScriptFrom_60 : decode cX4_isScriptFrom 60 = .ok (.iinc 3 1, 3) := dk_132 3 1 (dk_at dksX4_isScriptFrom_2 13 rfl rfl)
theorem dX4_isScriptFrom_63 : decode cX4_isScriptFrom 63 = .ok (.goto (-59), 3) := dk_167 255 197 (dk_at dksX4_isScriptFrom_2 16 rfl rfl)
theorem dX4_isScriptFrom_66 : decode cX4_isScriptFrom 66 = .ok (.iload_n 2, 1) := dk_28 (dk_at dksX4_isScriptFrom_2 19 rfl rfl)
theorem dX4_isScriptFrom_67 : decode cX4_isScriptFrom 67 = .ok (.ireturn, 1) := dk_172 (dk_at dksX4_isScriptFrom_2 20 rfl rfl)
abbrev cX4_writeAs : ByteArray := prog_10_method_24_code
def yX4_writeAs : MethodName := ⟨RX4, "writeAs", "(ZLjava/lang/StringBuilder;)V"⟩
def dkwX4_writeAs_0 : List UInt8 := [27, 153, 0, 11, 42, 44, 182, 0, 146, 167, 0, 8, 42, 44, 182, 0, 150, 177]
abbrev dktX4_writeAs_0 : List UInt8 := dkwX4_writeAs_0 ++ []
theorem dksX4_writeAs_0 : cX4_writeAs.data.toList.drop 0 = dktX4_writeAs_0 := by decide +kernel
theorem dX4_writeAs_0 : decode cX4_writeAs 0 = .ok (.iload_n 1, 1) := dk_27 (dk_at dksX4_writeAs_0 0 rfl rfl)
theorem dX4_writeAs_1 : decode cX4_writeAs 1 = .ok (.ifCond .eq 11, 3) := dk_153 0 11 (dk_at dksX4_writeAs_0 1 rfl rfl)
theorem dX4_writeAs_4 : decode cX4_writeAs 4 = .ok (.aload_n 0, 1) := dk_42 (dk_at dksX4_writeAs_0 4 rfl rfl)
theorem dX4_writeAs_5 : decode cX4_writeAs 5 = .ok (.aload_n 2, 1) := dk_44 (dk_at dksX4_writeAs_0 5 rfl rfl)
theorem dX4_writeAs_6 : decode cX4_writeAs 6 = .ok (.invokevirtual 146, 3) := dk_182 0 146 (dk_at dksX4_writeAs_0 6 rfl rfl)
theorem dX4_writeAs_9 : decode cX4_writeAs 9 = .ok (.goto 8, 3) := dk_167 0 8 (dk_at dksX4_writeAs_0 9 rfl rfl)
theorem dX4_writeAs_12 : decode cX4_writeAs 12 = .ok (.aload_n 0, 1) := dk_42 (dk_at dksX4_writeAs_0 12 rfl rfl)
theorem dX4_writeAs_13 : decode cX4_writeAs 13 = .ok (.aload_n 2, 1) := dk_44 (dk_at dksX4_writeAs_0 13 rfl rfl)
theorem dX4_writeAs_14 : decode cX4_writeAs 14 = .ok (.invokevirtual 150, 3) := dk_182 0 150 (dk_at dksX4_writeAs_0 14 rfl rfl)
theorem dX4_writeAs_17 : decode cX4_writeAs 17 = .ok (.return_, 1) := dk_177 (dk_at dksX4_writeAs_0 17 rfl rfl)
abbrev cX4_writeInParentheses : ByteArray := prog_10_method_23_code
def yX4_writeInParentheses : MethodName := ⟨RX4, "writeInParentheses", "(Ljava/lang/StringBuilder;)V"⟩
def dkwX4_writeInParentheses_0 : List UInt8 := [43, 16, 40, 182, 0, 140, 87, 42, 43, 182, 0, 146, 43, 16, 41, 182, 0, 140, 87, 177]
abbrev dktX4_writeInParentheses_0 : List UInt8 := dkwX4_writeInParentheses_0 ++ []
theorem dksX4_writeInParentheses_0 : cX4_writeInParentheses.data.toList.drop 0 = dktX4_writeInParentheses_0 := by decide +kernel
theorem dX4_writeInParentheses_0 : decode cX4_writeInParentheses 0 = .ok (.aload_n 1, 1) := dk_43 (dk_at dksX4_writeInParentheses_0 0 rfl rfl)
theorem dX4_writeInParentheses_1 : decode cX4_writeInParentheses 1 = .ok (.bipush 40, 2) := dk_16 40 (dk_at dksX4_writeInParentheses_0 1 rfl rfl)
theorem dX4_writeInParentheses_3 : decode cX4_writeInParentheses 3 = .ok (.invokevirtual 140, 3) := dk_182 0 140 (dk_at dksX4_writeInParentheses_0 3 rfl rfl)
theorem dX4_writeInParentheses_6 : decode cX4_writeInParentheses 6 = .ok (.pop, 1) := dk_87 (dk_at dksX4_writeInParentheses_0 6 rfl rfl)
theorem dX4_writeInParentheses_7 : decode cX4_writeInParentheses 7 = .ok (.aload_n 0, 1) := dk_42 (dk_at dksX4_writeInParentheses_0 7 rfl rfl)
theorem dX4_writeInParentheses_8 : decode cX4_writeInParentheses 8 = .ok (.aload_n 1, 1) := dk_43 (dk_at dksX4_writeInParentheses_0 8 rfl rfl)
theorem dX4_writeInParentheses_9 : decode cX4_writeInParentheses 9 = .ok (.invokevirtual 146, 3) := dk_182 0 146 (dk_at dksX4_writeInParentheses_0 9 rfl rfl)
theorem dX4_writeInParentheses_12 : decode cX4_writeInParentheses 12 = .ok (.aload_n 1, 1) := dk_43 (dk_at dksX4_writeInParentheses_0 12 rfl rfl)
theorem dX4_writeInParentheses_13 : decode cX4_writeInParentheses 13 = .ok (.bipush 41, 2) := dk_16 41 (dk_at dksX4_writeInParentheses_0 13 rfl rfl)
theorem dX4_writeInParentheses_15 : decode cX4_writeInParentheses 15 = .ok (.invokevirtual 140, 3) := dk_182 0 140 (dk_at dksX4_writeInParentheses_0 15 rfl rfl)
theorem dX4_writeInParentheses_18 : decode cX4_writeInParentheses 18 = .ok (.pop, 1) := dk_87 (dk_at dksX4_writeInParentheses_0 18 rfl rfl)
theorem dX4_writeInParentheses_19 : decode cX4_writeInParentheses 19 = .ok (.return_, 1) := dk_177 (dk_at dksX4_writeInParentheses_0 19 rfl rfl)
abbrev cX4_isPlainBase : ByteArray := prog_10_method_22_code
def yX4_isPlainBase : MethodName := ⟨RX4, "isPlainBase", "()Z"⟩
def dkwX4_isPlainBase_2 : List UInt8 := [182, 0, 137, 8, 159, 0, 7, 4, 167, 0, 4, 3, 172]
abbrev dktX4_isPlainBase_2 : List UInt8 := dkwX4_isPlainBase_2 ++ []
def dkwX4_isPlainBase_1 : List UInt8 := [192, 0, 25, 182, 0, 130, 153, 0, 27, 42, 180, 0, 12, 3, 185, 0, 38, 2, 0, 192, 0, 25]
abbrev dktX4_isPlainBase_1 : List UInt8 := dkwX4_isPlainBase_1 ++ dktX4_isPlainBase_2
def dkwX4_isPlainBase_0 : List UInt8 := [42, 180, 0, 12, 185, 0, 30, 1, 0, 4, 160, 0, 46, 42, 180, 0, 12, 3, 185, 0, 38, 2, 0]
abbrev dktX4_isPlainBase_0 : List UInt8 := dkwX4_isPlainBase_0 ++ dktX4_isPlainBase_1
theorem dksX4_isPlainBase_0 : cX4_isPlainBase.data.toList.drop 0 = dktX4_isPlainBase_0 := by decide +kernel
theorem dksX4_isPlainBase_1 : cX4_isPlainBase.data.toList.drop 23 = dktX4_isPlainBase_1 := dk_seg dksX4_isPlainBase_0 23 rfl rfl
theorem dksX4_isPlainBase_2 : cX4_isPlainBase.data.toList.drop 45 = dktX4_isPlainBase_2 := dk_seg dksX4_isPlainBase_1 22 rfl rfl
theorem dX4_isPlainBase_0 : decode cX4_isPlainBase 0 = .ok (.aload_n 0, 1) := dk_42 (dk_at dksX4_isPlainBase_0 0 rfl rfl)
theorem dX4_isPlainBase_1 : decode cX4_isPlainBase 1 = .ok (.getfield 12, 3) := dk_180 0 12 (dk_at dksX4_isPlainBase_0 1 rfl rfl)
theorem dX4_isPlainBase_4 : decode cX4_isPlainBase 4 = .ok (.invokeinterface 30 1, 5) := by decide +kernel
theorem dX4_isPlainBase_9 : decode cX4_isPlainBase 9 = .ok (.iconst 1, 1) := dk_4 (dk_at dksX4_isPlainBase_0 9 rfl rfl)
theorem dX4_isPlainBase_10 : decode cX4_isPlainBase 10 = .ok (.if_icmp .ne 46, 3) := dk_160 0 46 (dk_at dksX4_isPlainBase_0 10 rfl rfl)
theorem dX4_isPlainBase_13 : decode cX4_isPlainBase 13 = .ok (.aload_n 0, 1) := dk_42 (dk_at dksX4_isPlainBase_0 13 rfl rfl)
theorem dX4_isPlainBase_14 : decode cX4_isPlainBase 14 = .ok (.getfield 12, 3) := dk_180 0 12 (dk_at dksX4_isPlainBase_0 14 rfl rfl)
theorem dX4_isPlainBase_17 : decode cX4_isPlainBase 17 = .ok (.iconst 0, 1) := dk_3 (dk_at dksX4_isPlainBase_0 17 rfl rfl)
theorem dX4_isPlainBase_18 : decode cX4_isPlainBase 18 = .ok (.invokeinterface 38 2, 5) := by decide +kernel
theorem dX4_isPlainBase_23 : decode cX4_isPlainBase 23 = .ok (.checkcast 25, 3) := dk_192 0 25 (dk_at dksX4_isPlainBase_1 0 rfl rfl)
theorem dX4_isPlainBase_26 : decode cX4_isPlainBase 26 = .ok (.invokevirtual 130, 3) := dk_182 0 130 (dk_at dksX4_isPlainBase_1 3 rfl rfl)
theorem dX4_isPlainBase_29 : decode cX4_isPlainBase 29 = .ok (.ifCond .eq 27, 3) := dk_153 0 27 (dk_at dksX4_isPlainBase_1 6 rfl rfl)
theorem dX4_isPlainBase_32 : decode cX4_isPlainBase 32 = .ok (.aload_n 0, 1) := dk_42 (dk_at dksX4_isPlainBase_1 9 rfl rfl)
theorem dX4_isPlainBase_33 : decode cX4_isPlainBase 33 = .ok (.getfield 12, 3) := dk_180 0 12 (dk_at dksX4_isPlainBase_1 10 rfl rfl)
theorem dX4_isPlainBase_36 : decode cX4_isPlainBase 36 = .ok (.iconst 0, 1) := dk_3 (dk_at dksX4_isPlainBase_1 13 rfl rfl)
theorem dX4_isPlainBase_37 : decode cX4_isPlainBase 37 = .ok (.invokeinterface 38 2, 5) := by decide +kernel
theorem dX4_isPlainBase_42 : decode cX4_isPlainBase 42 = .ok (.checkcast 25, 3) := dk_192 0 25 (dk_at dksX4_isPlainBase_1 19 rfl rfl)
theorem dX4_isPlainBase_45 : decode cX4_isPlainBase 45 = .ok (.invokevirtual 137, 3) := dk_182 0 137 (dk_at dksX4_isPlainBase_2 0 rfl rfl)
theorem dX4_isPlainBase_48 : decode cX4_isPlainBase 48 = .ok (.iconst 5, 1) := dk_8 (dk_at dksX4_isPlainBase_2 3 rfl rfl)
theorem dX4_isPlainBase_49 : decode cX4_isPlainBase 49 = .ok (.if_icmp .eq 7, 3) := dk_159 0 7 (dk_at dksX4_isPlainBase_2 4 rfl rfl)
theorem dX4_isPlainBase_52 : decode cX4_isPlainBase 52 = .ok (.iconst 1, 1) := dk_4 (dk_at dksX4_isPlainBase_2 7 rfl rfl)
theorem dX4_isPlainBase_53 : decode cX4_isPlainBase 53 = .ok (.goto 4, 3) := dk_167 0 4 (dk_at dksX4_isPlainBase_2 8 rfl rfl)
theorem dX4_isPlainBase_56 : decode cX4_isPlainBase 56 = .ok (.iconst 0, 1) := dk_3 (dk_at dksX4_isPlainBase_2 11 rfl rfl)
theorem dX4_isPlainBase_57 : decode cX4_isPlainBase 57 = .ok (.ireturn, 1) := dk_172 (dk_at dksX4_isPlainBase_2 12 rfl rfl)
abbrev cX4_indexOf : ByteArray := prog_10_method_8_code
def yX4_indexOf : MethodName := ⟨RX4, "indexOf", "(LFormulaEditor$Item;)I"⟩
def dkwX4_indexOf_0 : List UInt8 := [3, 61, 42, 180, 0, 12, 28, 185, 0, 38, 2, 0, 43, 165, 0, 9, 132, 2, 1, 167, 255, 239, 28, 172]
abbrev dktX4_indexOf_0 : List UInt8 := dkwX4_indexOf_0 ++ []
theorem dksX4_indexOf_0 : cX4_indexOf.data.toList.drop 0 = dktX4_indexOf_0 := by decide +kernel
theorem dX4_indexOf_0 : decode cX4_indexOf 0 = .ok (.iconst 0, 1) := dk_3 (dk_at dksX4_indexOf_0 0 rfl rfl)
theorem dX4_indexOf_1 : decode cX4_indexOf 1 = .ok (.istore_n 2, 1) := dk_61 (dk_at dksX4_indexOf_0 1 rfl rfl)
theorem dX4_indexOf_2 : decode cX4_indexOf 2 = .ok (.aload_n 0, 1) := dk_42 (dk_at dksX4_indexOf_0 2 rfl rfl)
theorem dX4_indexOf_3 : decode cX4_indexOf 3 = .ok (.getfield 12, 3) := dk_180 0 12 (dk_at dksX4_indexOf_0 3 rfl rfl)
theorem dX4_indexOf_6 : decode cX4_indexOf 6 = .ok (.iload_n 2, 1) := dk_28 (dk_at dksX4_indexOf_0 6 rfl rfl)
theorem dX4_indexOf_7 : decode cX4_indexOf 7 = .ok (.invokeinterface 38 2, 5) := by decide +kernel
theorem dX4_indexOf_12 : decode cX4_indexOf 12 = .ok (.aload_n 1, 1) := dk_43 (dk_at dksX4_indexOf_0 12 rfl rfl)
theorem dX4_indexOf_13 : decode cX4_indexOf 13 = .ok (.if_acmp .eq 9, 3) := dk_165 0 9 (dk_at dksX4_indexOf_0 13 rfl rfl)
theorem dX4_indexOf_16 : decode cX4_indexOf 16 = .ok (.iinc 2 1, 3) := dk_132 2 1 (dk_at dksX4_indexOf_0 16 rfl rfl)
theorem dX4_indexOf_19 : decode cX4_indexOf 19 = .ok (.goto (-17), 3) := dk_167 255 239 (dk_at dksX4_indexOf_0 19 rfl rfl)
theorem dX4_indexOf_22 : decode cX4_indexOf 22 = .ok (.iload_n 2, 1) := dk_28 (dk_at dksX4_indexOf_0 22 rfl rfl)
theorem dX4_indexOf_23 : decode cX4_indexOf 23 = .ok (.ireturn, 1) := dk_172 (dk_at dksX4_indexOf_0 23 rfl rfl)
abbrev cX4_place : ByteArray := prog_10_method_19_code
def yX4_place : MethodName := ⟨RX4, "place", "(I)I"⟩
def dkwX4_place_4 : List UInt8 := [185, 0, 38, 2, 0, 192, 0, 25, 184, 0, 110, 96, 96, 61, 132, 3, 1, 167, 255, 227, 28, 172]
abbrev dktX4_place_4 : List UInt8 := dkwX4_place_4 ++ []
def dkwX4_place_3 : List UInt8 := [96, 61, 132, 3, 1, 167, 255, 223, 3, 62, 29, 27, 162, 0, 30, 28, 4, 42, 180, 0, 12, 29]
abbrev dktX4_place_3 : List UInt8 := dkwX4_place_3 ++ dktX4_place_4
def dkwX4_place_2 : List UInt8 := [198, 0, 32, 29, 42, 180, 0, 124, 162, 0, 24, 28, 42, 180, 0, 56, 180, 0, 89, 29, 50, 182, 0, 114]
abbrev dktX4_place_2 : List UInt8 := dkwX4_place_2 ++ dktX4_place_3
def dkwX4_place_1 : List UInt8 := [180, 0, 60, 42, 180, 0, 56, 182, 0, 117, 182, 0, 120, 4, 96, 61, 3, 62, 42, 180, 0, 56]
abbrev dktX4_place_1 : List UInt8 := dkwX4_place_1 ++ dktX4_place_2
def dkwX4_place_0 : List UInt8 := [42, 180, 0, 56, 199, 0, 7, 3, 167, 0, 29, 42, 180, 0, 56, 180, 0, 60, 42, 180, 0, 56]
abbrev dktX4_place_0 : List UInt8 := dkwX4_place_0 ++ dktX4_place_1
theorem dksX4_place_0 : cX4_place.data.toList.drop 0 = dktX4_place_0 := by decide +kernel
theorem dksX4_place_1 : cX4_place.data.toList.drop 22 = dktX4_place_1 := dk_seg dksX4_place_0 22 rfl rfl
theorem dksX4_place_2 : cX4_place.data.toList.drop 44 = dktX4_place_2 := dk_seg dksX4_place_1 22 rfl rfl
theorem dksX4_place_3 : cX4_place.data.toList.drop 68 = dktX4_place_3 := dk_seg dksX4_place_2 24 rfl rfl
theorem dksX4_place_4 : cX4_place.data.toList.drop 90 = dktX4_place_4 := dk_seg dksX4_place_3 22 rfl rfl
theorem dX4_place_0 : decode cX4_place 0 = .ok (.aload_n 0, 1) := dk_42 (dk_at dksX4_place_0 0 rfl rfl)
theorem dX4_place_1 : decode cX4_place 1 = .ok (.getfield 56, 3) := dk_180 0 56 (dk_at dksX4_place_0 1 rfl rfl)
theorem dX4_place_4 : decode cX4_place 4 = .ok (.ifnonnull 7, 3) := dk_199 0 7 (dk_at dksX4_place_0 4 rfl rfl)
theorem dX4_place_7 : decode cX4_place 7 = .ok (.iconst 0, 1) := dk_3 (dk_at dksX4_place_0 7 rfl rfl)
theorem dX4_place_8 : decode cX4_place 8 = .ok (.goto 29, 3) := dk_167 0 29 (dk_at dksX4_place_0 8 rfl rfl)
theorem dX4_place_11 : decode cX4_place 11 = .ok (.aload_n 0, 1) := dk_42 (dk_at dksX4_place_0 11 rfl rfl)
theorem dX4_place_12 : decode cX4_place 12 = .ok (.getfield 56, 3) := dk_180 0 56 (dk_at dksX4_place_0 12 rfl rfl)
theorem dX4_place_15 : decode cX4_place 15 = .ok (.getfield 60, 3) := dk_180 0 60 (dk_at dksX4_place_0 15 rfl rfl)
theorem dX4_place_18 : decode cX4_place 18 = .ok (.aload_n 0, 1) := dk_42 (dk_at dksX4_place_0 18 rfl rfl)
theorem dX4_place_19 : decode cX4_place 19 = .ok (.getfield 56, 3) := dk_180 0 56 (dk_at dksX4_place_0 19 rfl rfl)
theorem dX4_place_22 : decode cX4_place 22 = .ok (.getfield 60, 3) := dk_180 0 60 (dk_at dksX4_place_1 0 rfl rfl)
theorem dX4_place_25 : decode cX4_place 25 = .ok (.aload_n 0, 1) := dk_42 (dk_at dksX4_place_1 3 rfl rfl)
theorem dX4_place_26 : decode cX4_place 26 = .ok (.getfield 56, 3) := dk_180 0 56 (dk_at dksX4_place_1 4 rfl rfl)
theorem dX4_place_29 : decode cX4_place 29 = .ok (.invokevirtual 117, 3) := dk_182 0 117 (dk_at dksX4_place_1 7 rfl rfl)
theorem dX4_place_32 : decode cX4_place 32 = .ok (.invokevirtual 120, 3) := dk_182 0 120 (dk_at dksX4_place_1 10 rfl rfl)
theorem dX4_place_35 : decode cX4_place 35 = .ok (.iconst 1, 1) := dk_4 (dk_at dksX4_place_1 13 rfl rfl)
theorem dX4_place_36 : decode cX4_place 36 = .ok (.iadd, 1) := dk_96 (dk_at dksX4_place_1 14 rfl rfl)
theorem dX4_place_37 : decode cX4_place 37 = .ok (.istore_n 2, 1) := dk_61 (dk_at dksX4_place_1 15 rfl rfl)
theorem dX4_place_38 : decode cX4_place 38 = .ok (.iconst 0, 1) := dk_3 (dk_at dksX4_place_1 16 rfl rfl)
theorem dX4_place_39 : decode cX4_place 39 = .ok (.istore_n 3, 1) := dk_62 (dk_at dksX4_place_1 17 rfl rfl)
theorem dX4_place_40 : decode cX4_place 40 = .ok (.aload_n 0, 1) := dk_42 (dk_at dksX4_place_1 18 rfl rfl)
theorem dX4_place_41 : decode cX4_place 41 = .ok (.getfield 56, 3) := dk_180 0 56 (dk_at dksX4_place_1 19 rfl rfl)
theorem dX4_place_44 : decode cX4_place 44 = .ok (.ifnull 32, 3) := dk_198 0 32 (dk_at dksX4_place_2 0 rfl rfl)
theorem dX4_place_47 : decode cX4_place 47 = .ok (.iload_n 3, 1) := dk_29 (dk_at dksX4_place_2 3 rfl rfl)
theorem dX4_place_48 : decode cX4_place 48 = .ok (.aload_n 0, 1) := dk_42 (dk_at dksX4_place_2 4 rfl rfl)
theorem dX4_place_49 : decode cX4_place 49 = .ok (.getfield 124, 3) := dk_180 0 124 (dk_at dksX4_place_2 5 rfl rfl)
theorem dX4_place_52 : decode cX4_place 52 = .ok (.if_icmp .ge 24, 3) := dk_162 0 24 (dk_at dksX4_place_2 8 rfl rfl)
theorem dX4_place_55 : decode cX4_place 55 = .ok (.iload_n 2, 1) := dk_28 (dk_at dksX4_place_2 11 rfl rfl)
theorem dX4_place_56 : decode cX4_place 56 = .ok (.aload_n 0, 1) := dk_42 (dk_at dksX4_place_2 12 rfl rfl)
theorem dX4_place_57 : decode cX4_place 57 = .ok (.getfield 56, 3) := dk_180 0 56 (dk_at dksX4_place_2 13 rfl rfl)
theorem dX4_place_60 : decode cX4_place 60 = .ok (.getfield 89, 3) := dk_180 0 89 (dk_at dksX4_place_2 16 rfl rfl)
theorem dX4_place_63 : decode cX4_place 63 = .ok (.iload_n 3, 1) := dk_29 (dk_at dksX4_place_2 19 rfl rfl)
theorem dX4_place_64 : decode cX4_place 64 = .ok (.aaload, 1) := dk_50 (dk_at dksX4_place_2 20 rfl rfl)
theorem dX4_place_65 : decode cX4_place 65 = .ok (.invokevirtual 114, 3) := dk_182 0 114 (dk_at dksX4_place_2 21 rfl rfl)
theorem dX4_place_68 : decode cX4_place 68 = .ok (.iadd, 1) := dk_96 (dk_at dksX4_place_3 0 rfl rfl)
theorem dX4_place_69 : decode cX4_place 69 = .ok (.istore_n 2, 1) := dk_61 (dk_at dksX4_place_3 1 rfl rfl)
theorem dX4_place_70 : decode cX4_place 70 = .ok (.iinc 3 1, 3) := dk_132 3 1 (dk_at dksX4_place_3 2 rfl rfl)
theorem dX4_place_73 : decode cX4_place 73 = .ok (.goto (-33), 3) := dk_167 255 223 (dk_at dksX4_place_3 5 rfl rfl)
theorem dX4_place_76 : decode cX4_place 76 = .ok (.iconst 0, 1) := dk_3 (dk_at dksX4_place_3 8 rfl rfl)
theorem dX4_place_77 : decode cX4_place 77 = .ok (.istore_n 3, 1) := dk_62 (dk_at dksX4_place_3 9 rfl rfl)
theorem dX4_place_78 : decode cX4_place 78 = .ok (.iload_n 3, 1) := dk_29 (dk_at dksX4_place_3 10 rfl rfl)
theorem dX4_place_79 : decode cX4_place 79 = .ok (.iload_n 1, 1) := dk_27 (dk_at dksX4_place_3 11 rfl rfl)
theorem dX4_place_80 : decode cX4_place 80 = .ok (.if_icmp .ge 30, 3) := dk_162 0 30 (dk_at dksX4_place_3 12 rfl rfl)
theorem dX4_place_83 : decode cX4_place 83 = .ok (.iload_n 2, 1) := dk_28 (dk_at dksX4_place_3 15 rfl rfl)
theorem dX4_place_84 : decode cX4_place 84 = .ok (.iconst 1, 1) := dk_4 (dk_at dksX4_place_3 16 rfl rfl)
theorem dX4_place_85 : decode cX4_place 85 = .ok (.aload_n 0, 1) := dk_42 (dk_at dksX4_place_3 17 rfl rfl)
theorem dX4_place_86 : decode cX4_place 86 = .ok (.getfield 12, 3) := dk_180 0 12 (dk_at dksX4_place_3 18 rfl rfl)
theorem dX4_place_89 : decode cX4_place 89 = .ok (.iload_n 3, 1) := dk_29 (dk_at dksX4_place_3 21 rfl rfl)
theorem dX4_place_90 : decode cX4_place 90 = .ok (.invokeinterface 38 2, 5) := by decide +kernel
theorem dX4_place_95 : decode cX4_place 95 = .ok (.checkcast 25, 3) := dk_192 0 25 (dk_at dksX4_place_4 5 rfl rfl)
theorem dX4_place_98 : decode cX4_place 98 = .ok (.invokestatic 110, 3) := dk_184 0 110 (dk_at dksX4_place_4 8 rfl rfl)
theorem dX4_place_101 : decode cX4_place 101 = .ok (.iadd, 1) := dk_96 (dk_at dksX4_place_4 11 rfl rfl)
theorem dX4_place_102 : decode cX4_place 102 = .ok (.iadd, 1) := dk_96 (dk_at dksX4_place_4 12 rfl rfl)
theorem dX4_place_103 : decode cX4_place 103 = .ok (.istore_n 2, 1) := dk_61 (dk_at dksX4_place_4 13 rfl rfl)
theorem dX4_place_104 : decode cX4_place 104 = .ok (.iinc 3 1, 3) := dk_132 3 1 (dk_at dksX4_place_4 14 rfl rfl)
theorem dX4_place_107 : decode cX4_place 107 = .ok (.goto (-29), 3) := dk_167 255 227 (dk_at dksX4_place_4 17 rfl rfl)
theorem dX4_place_110 : decode cX4_place 110 = .ok (.iload_n 2, 1) := dk_28 (dk_at dksX4_place_4 20 rfl rfl)
theorem dX4_place_111 : decode cX4_place 111 = .ok (.ireturn, 1) := dk_172 (dk_at dksX4_place_4 21 rfl rfl)
abbrev cX4_places : ByteArray := prog_10_method_17_code
def yX4_places : MethodName := ⟨RX4, "places", "()I"⟩
def dkwX4_places_1 : List UInt8 := [185, 0, 38, 2, 0, 192, 0, 25, 184, 0, 110, 96, 96, 60, 132, 2, 1, 167, 255, 219, 27, 172]
abbrev dktX4_places_1 : List UInt8 := dkwX4_places_1 ++ []
def dkwX4_places_0 : List UInt8 := [4, 60, 3, 61, 28, 42, 180, 0, 12, 185, 0, 30, 1, 0, 162, 0, 30, 27, 4, 42, 180, 0, 12, 28]
abbrev dktX4_places_0 : List UInt8 := dkwX4_places_0 ++ dktX4_places_1
theorem dksX4_places_0 : cX4_places.data.toList.drop 0 = dktX4_places_0 := by decide +kernel
theorem dksX4_places_1 : cX4_places.data.toList.drop 24 = dktX4_places_1 := dk_seg dksX4_places_0 24 rfl rfl
theorem dX4_places_0 : decode cX4_places 0 = .ok (.iconst 1, 1) := dk_4 (dk_at dksX4_places_0 0 rfl rfl)
theorem dX4_places_1 : decode cX4_places 1 = .ok (.istore_n 1, 1) := dk_60 (dk_at dksX4_places_0 1 rfl rfl)
theorem dX4_places_2 : decode cX4_places 2 = .ok (.iconst 0, 1) := dk_3 (dk_at dksX4_places_0 2 rfl rfl)
theorem dX4_places_3 : decode cX4_places 3 = .ok (.istore_n 2, 1) := dk_61 (dk_at dksX4_places_0 3 rfl rfl)
theorem dX4_places_4 : decode cX4_places 4 = .ok (.iload_n 2, 1) := dk_28 (dk_at dksX4_places_0 4 rfl rfl)
theorem dX4_places_5 : decode cX4_places 5 = .ok (.aload_n 0, 1) := dk_42 (dk_at dksX4_places_0 5 rfl rfl)
theorem dX4_places_6 : decode cX4_places 6 = .ok (.getfield 12, 3) := dk_180 0 12 (dk_at dksX4_places_0 6 rfl rfl)
theorem dX4_places_9 : decode cX4_places 9 = .ok (.invokeinterface 30 1, 5) := by decide +kernel
theorem dX4_places_14 : decode cX4_places 14 = .ok (.if_icmp .ge 30, 3) := dk_162 0 30 (dk_at dksX4_places_0 14 rfl rfl)
theorem dX4_places_17 : decode cX4_places 17 = .ok (.iload_n 1, 1) := dk_27 (dk_at dksX4_places_0 17 rfl rfl)
theorem dX4_places_18 : decode cX4_places 18 = .ok (.iconst 1, 1) := dk_4 (dk_at dksX4_places_0 18 rfl rfl)
theorem dX4_places_19 : decode cX4_places 19 = .ok (.aload_n 0, 1) := dk_42 (dk_at dksX4_places_0 19 rfl rfl)
theorem dX4_places_20 : decode cX4_places 20 = .ok (.getfield 12, 3) := dk_180 0 12 (dk_at dksX4_places_0 20 rfl rfl)
theorem dX4_places_23 : decode cX4_places 23 = .ok (.iload_n 2, 1) := dk_28 (dk_at dksX4_places_0 23 rfl rfl)
theorem dX4_places_24 : decode cX4_places 24 = .ok (.invokeinterface 38 2, 5) := by decide +kernel
theorem dX4_places_29 : decode cX4_places 29 = .ok (.checkcast 25, 3) := dk_192 0 25 (dk_at dksX4_places_1 5 rfl rfl)
theorem dX4_places_32 : decode cX4_places 32 = .ok (.invokestatic 110, 3) := dk_184 0 110 (dk_at dksX4_places_1 8 rfl rfl)
theorem dX4_places_35 : decode cX4_places 35 = .ok (.iadd, 1) := dk_96 (dk_at dksX4_places_1 11 rfl rfl)
theorem dX4_places_36 : decode cX4_places 36 = .ok (.iadd, 1) := dk_96 (dk_at dksX4_places_1 12 rfl rfl)
theorem dX4_places_37 : decode cX4_places 37 = .ok (.istore_n 1, 1) := dk_60 (dk_at dksX4_places_1 13 rfl rfl)
theorem dX4_places_38 : decode cX4_places 38 = .ok (.iinc 2 1, 3) := dk_132 2 1 (dk_at dksX4_places_1 14 rfl rfl)
theorem dX4_places_41 : decode cX4_places 41 = .ok (.goto (-37), 3) := dk_167 255 219 (dk_at dksX4_places_1 17 rfl rfl)
theorem dX4_places_44 : decode cX4_places 44 = .ok (.iload_n 1, 1) := dk_27 (dk_at dksX4_places_1 20 rfl rfl)
theorem dX4_places_45 : decode cX4_places 45 = .ok (.ireturn, 1) := dk_172 (dk_at dksX4_places_1 21 rfl rfl)
abbrev cX4_placesIn : ByteArray := prog_10_method_18_code
def yX4_placesIn : MethodName := ⟨RX4, "placesIn", "(LFormulaEditor$Item;)I"⟩
def dkwX4_placesIn_1 : List UInt8 := [162, 0, 21, 27, 44, 180, 0, 89, 29, 50, 182, 0, 114, 96, 60, 132, 3, 1, 167, 255, 232, 27, 172]
abbrev dktX4_placesIn_1 : List UInt8 := dkwX4_placesIn_1 ++ []
def dkwX4_placesIn_0 : List UInt8 := [3, 60, 42, 193, 0, 61, 153, 0, 37, 42, 192, 0, 61, 77, 3, 62, 29, 44, 180, 0, 89, 190]
abbrev dktX4_placesIn_0 : List UInt8 := dkwX4_placesIn_0 ++ dktX4_placesIn_1
theorem dksX4_placesIn_0 : cX4_placesIn.data.toList.drop 0 = dktX4_placesIn_0 := by decide +kernel
theorem dksX4_placesIn_1 : cX4_placesIn.data.toList.drop 22 = dktX4_placesIn_1 := dk_seg dksX4_placesIn_0 22 rfl rfl
theorem dX4_placesIn_0 : decode cX4_placesIn 0 = .ok (.iconst 0, 1) := dk_3 (dk_at dksX4_placesIn_0 0 rfl rfl)
theorem dX4_placesIn_1 : decode cX4_placesIn 1 = .ok (.istore_n 1, 1) := dk_60 (dk_at dksX4_placesIn_0 1 rfl rfl)
theorem dX4_placesIn_2 : decode cX4_placesIn 2 = .ok (.aload_n 0, 1) := dk_42 (dk_at dksX4_placesIn_0 2 rfl rfl)
theorem dX4_placesIn_3 : decode cX4_placesIn 3 = .ok (.instanceof 61, 3) := dk_193 0 61 (dk_at dksX4_placesIn_0 3 rfl rfl)
theorem dX4_placesIn_6 : decode cX4_placesIn 6 = .ok (.ifCond .eq 37, 3) := dk_153 0 37 (dk_at dksX4_placesIn_0 6 rfl rfl)
theorem dX4_placesIn_9 : decode cX4_placesIn 9 = .ok (.aload_n 0, 1) := dk_42 (dk_at dksX4_placesIn_0 9 rfl rfl)
theorem dX4_placesIn_10 : decode cX4_placesIn 10 = .ok (.checkcast 61, 3) := dk_192 0 61 (dk_at dksX4_placesIn_0 10 rfl rfl)
theorem dX4_placesIn_13 : decode cX4_placesIn 13 = .ok (.astore_n 2, 1) := dk_77 (dk_at dksX4_placesIn_0 13 rfl rfl)
theorem dX4_placesIn_14 : decode cX4_placesIn 14 = .ok (.iconst 0, 1) := dk_3 (dk_at dksX4_placesIn_0 14 rfl rfl)
theorem dX4_placesIn_15 : decode cX4_placesIn 15 = .ok (.istore_n 3, 1) := dk_62 (dk_at dksX4_placesIn_0 15 rfl rfl)
theorem dX4_placesIn_16 : decode cX4_placesIn 16 = .ok (.iload_n 3, 1) := dk_29 (dk_at dksX4_placesIn_0 16 rfl rfl)
theorem dX4_placesIn_17 : decode cX4_placesIn 17 = .ok (.aload_n 2, 1) := dk_44 (dk_at dksX4_placesIn_0 17 rfl rfl)
theorem dX4_placesIn_18 : decode cX4_placesIn 18 = .ok (.getfield 89, 3) := dk_180 0 89 (dk_at dksX4_placesIn_0 18 rfl rfl)
theorem dX4_placesIn_21 : decode cX4_placesIn 21 = .ok (.arraylength, 1) := dk_190 (dk_at dksX4_placesIn_0 21 rfl rfl)
theorem dX4_placesIn_22 : decode cX4_placesIn 22 = .ok (.if_icmp .ge 21, 3) := dk_162 0 21 (dk_at dksX4_placesIn_1 0 rfl rfl)
theorem dX4_placesIn_25 : decode cX4_placesIn 25 = .ok (.iload_n 1, 1) := dk_27 (dk_at dksX4_placesIn_1 3 rfl rfl)
theorem dX4_placesIn_26 : decode cX4_placesIn 26 = .ok (.aload_n 2, 1) := dk_44 (dk_at dksX4_placesIn_1 4 rfl rfl)
theorem dX4_placesIn_27 : decode cX4_placesIn 27 = .ok (.getfield 89, 3) := dk_180 0 89 (dk_at dksX4_placesIn_1 5 rfl rfl)
theorem dX4_placesIn_30 : decode cX4_placesIn 30 = .ok (.iload_n 3, 1) := dk_29 (dk_at dksX4_placesIn_1 8 rfl rfl)
theorem dX4_placesIn_31 : decode cX4_placesIn 31 = .ok (.aaload, 1) := dk_50 (dk_at dksX4_placesIn_1 9 rfl rfl)
theorem dX4_placesIn_32 : decode cX4_placesIn 32 = .ok (.invokevirtual 114, 3) := dk_182 0 114 (dk_at dksX4_placesIn_1 10 rfl rfl)
theorem dX4_placesIn_35 : decode cX4_placesIn 35 = .ok (.iadd, 1) := dk_96 (dk_at dksX4_placesIn_1 13 rfl rfl)
theorem dX4_placesIn_36 : decode cX4_placesIn 36 = .ok (.istore_n 1, 1) := dk_60 (dk_at dksX4_placesIn_1 14 rfl rfl)
theorem dX4_placesIn_37 : decode cX4_placesIn 37 = .ok (.iinc 3 1, 3) := dk_132 3 1 (dk_at dksX4_placesIn_1 15 rfl rfl)
theorem dX4_placesIn_40 : decode cX4_placesIn 40 = .ok (.goto (-24), 3) := dk_167 255 232 (dk_at dksX4_placesIn_1 18 rfl rfl)
theorem dX4_placesIn_43 : decode cX4_placesIn 43 = .ok (.iload_n 1, 1) := dk_27 (dk_at dksX4_placesIn_1 21 rfl rfl)
theorem dX4_placesIn_44 : decode cX4_placesIn 44 = .ok (.ireturn, 1) := dk_172 (dk_at dksX4_placesIn_1 22 rfl rfl)
abbrev cX4_size : ByteArray := prog_10_method_10_code
def yX4_size : MethodName := ⟨RX4, "size", "()I"⟩
def dkwX4_size_0 : List UInt8 := [42, 3, 42, 180, 0, 12, 185, 0, 30, 1, 0, 182, 0, 67, 172]
abbrev dktX4_size_0 : List UInt8 := dkwX4_size_0 ++ []
theorem dksX4_size_0 : cX4_size.data.toList.drop 0 = dktX4_size_0 := by decide +kernel
theorem dX4_size_0 : decode cX4_size 0 = .ok (.aload_n 0, 1) := dk_42 (dk_at dksX4_size_0 0 rfl rfl)
theorem dX4_size_1 : decode cX4_size 1 = .ok (.iconst 0, 1) := dk_3 (dk_at dksX4_size_0 1 rfl rfl)
theorem dX4_size_2 : decode cX4_size 2 = .ok (.aload_n 0, 1) := dk_42 (dk_at dksX4_size_0 2 rfl rfl)
theorem dX4_size_3 : decode cX4_size 3 = .ok (.getfield 12, 3) := dk_180 0 12 (dk_at dksX4_size_0 3 rfl rfl)
theorem dX4_size_6 : decode cX4_size 6 = .ok (.invokeinterface 30 1, 5) := by decide +kernel
theorem dX4_size_11 : decode cX4_size 11 = .ok (.invokevirtual 67, 3) := dk_182 0 67 (dk_at dksX4_size_0 11 rfl rfl)
theorem dX4_size_14 : decode cX4_size 14 = .ok (.ireturn, 1) := dk_172 (dk_at dksX4_size_0 14 rfl rfl)
abbrev cX4_sizeOf : ByteArray := prog_10_method_9_code
def yX4_sizeOf : MethodName := ⟨RX4, "sizeOf", "(II)I"⟩
def dkwX4_sizeOf_1 : List UInt8 := [192, 0, 25, 182, 0, 66, 96, 62, 132, 4, 1, 167, 255, 227, 29, 172]
abbrev dktX4_sizeOf_1 : List UInt8 := dkwX4_sizeOf_1 ++ []
def dkwX4_sizeOf_0 : List UInt8 := [3, 62, 27, 54, 4, 21, 4, 28, 162, 0, 29, 29, 42, 180, 0, 12, 21, 4, 185, 0, 38, 2, 0]
abbrev dktX4_sizeOf_0 : List UInt8 := dkwX4_sizeOf_0 ++ dktX4_sizeOf_1
theorem dksX4_sizeOf_0 : cX4_sizeOf.data.toList.drop 0 = dktX4_sizeOf_0 := by decide +kernel
theorem dksX4_sizeOf_1 : cX4_sizeOf.data.toList.drop 23 = dktX4_sizeOf_1 := dk_seg dksX4_sizeOf_0 23 rfl rfl
theorem dX4_sizeOf_0 : decode cX4_sizeOf 0 = .ok (.iconst 0, 1) := dk_3 (dk_at dksX4_sizeOf_0 0 rfl rfl)
theorem dX4_sizeOf_1 : decode cX4_sizeOf 1 = .ok (.istore_n 3, 1) := dk_62 (dk_at dksX4_sizeOf_0 1 rfl rfl)
theorem dX4_sizeOf_2 : decode cX4_sizeOf 2 = .ok (.iload_n 1, 1) := dk_27 (dk_at dksX4_sizeOf_0 2 rfl rfl)
theorem dX4_sizeOf_3 : decode cX4_sizeOf 3 = .ok (.istore 4, 2) := dk_54 4 (dk_at dksX4_sizeOf_0 3 rfl rfl)
theorem dX4_sizeOf_5 : decode cX4_sizeOf 5 = .ok (.iload 4, 2) := dk_21 4 (dk_at dksX4_sizeOf_0 5 rfl rfl)
theorem dX4_sizeOf_7 : decode cX4_sizeOf 7 = .ok (.iload_n 2, 1) := dk_28 (dk_at dksX4_sizeOf_0 7 rfl rfl)
theorem dX4_sizeOf_8 : decode cX4_sizeOf 8 = .ok (.if_icmp .ge 29, 3) := dk_162 0 29 (dk_at dksX4_sizeOf_0 8 rfl rfl)
theorem dX4_sizeOf_11 : decode cX4_sizeOf 11 = .ok (.iload_n 3, 1) := dk_29 (dk_at dksX4_sizeOf_0 11 rfl rfl)
theorem dX4_sizeOf_12 : decode cX4_sizeOf 12 = .ok (.aload_n 0, 1) := dk_42 (dk_at dksX4_sizeOf_0 12 rfl rfl)
theorem dX4_sizeOf_13 : decode cX4_sizeOf 13 = .ok (.getfield 12, 3) := dk_180 0 12 (dk_at dksX4_sizeOf_0 13 rfl rfl)
theorem dX4_sizeOf_16 : decode cX4_sizeOf 16 = .ok (.iload 4, 2) := dk_21 4 (dk_at dksX4_sizeOf_0 16 rfl rfl)
theorem dX4_sizeOf_18 : decode cX4_sizeOf 18 = .ok (.invokeinterface 38 2, 5) := by decide +kernel
theorem dX4_sizeOf_23 : decode cX4_sizeOf 23 = .ok (.checkcast 25, 3) := dk_192 0 25 (dk_at dksX4_sizeOf_1 0 rfl rfl)
theorem dX4_sizeOf_26 : decode cX4_sizeOf 26 = .ok (.invokevirtual 66, 3) := dk_182 0 66 (dk_at dksX4_sizeOf_1 3 rfl rfl)
theorem dX4_sizeOf_29 : decode cX4_sizeOf 29 = .ok (.iadd, 1) := dk_96 (dk_at dksX4_sizeOf_1 6 rfl rfl)
theorem dX4_sizeOf_30 : decode cX4_sizeOf 30 = .ok (.istore_n 3, 1) := dk_62 (dk_at dksX4_sizeOf_1 7 rfl rfl)
theorem dX4_sizeOf_31 : decode cX4_sizeOf 31 = .ok (.iinc 4 1, 3) := dk_132 4 1 (dk_at dksX4_sizeOf_1 8 rfl rfl)
theorem dX4_sizeOf_34 : decode cX4_sizeOf 34 = .ok (.goto (-29), 3) := dk_167 255 227 (dk_at dksX4_sizeOf_1 11 rfl rfl)
theorem dX4_sizeOf_37 : decode cX4_sizeOf 37 = .ok (.iload_n 3, 1) := dk_29 (dk_at dksX4_sizeOf_1 14 rfl rfl)
theorem dX4_sizeOf_38 : decode cX4_sizeOf 38 = .ok (.ireturn, 1) := dk_172 (dk_at dksX4_sizeOf_1 15 rfl rfl)
abbrev cX4_depth : ByteArray := prog_10_method_12_code
def yX4_depth : MethodName := ⟨RX4, "depth", "()I"⟩
def dkwX4_depth_0 : List UInt8 := [42, 3, 42, 180, 0, 12, 185, 0, 30, 1, 0, 182, 0, 79, 172]
abbrev dktX4_depth_0 : List UInt8 := dkwX4_depth_0 ++ []
theorem dksX4_depth_0 : cX4_depth.data.toList.drop 0 = dktX4_depth_0 := by decide +kernel
theorem dX4_depth_0 : decode cX4_depth 0 = .ok (.aload_n 0, 1) := dk_42 (dk_at dksX4_depth_0 0 rfl rfl)
theorem dX4_depth_1 : decode cX4_depth 1 = .ok (.iconst 0, 1) := dk_3 (dk_at dksX4_depth_0 1 rfl rfl)
theorem dX4_depth_2 : decode cX4_depth 2 = .ok (.aload_n 0, 1) := dk_42 (dk_at dksX4_depth_0 2 rfl rfl)
theorem dX4_depth_3 : decode cX4_depth 3 = .ok (.getfield 12, 3) := dk_180 0 12 (dk_at dksX4_depth_0 3 rfl rfl)
theorem dX4_depth_6 : decode cX4_depth 6 = .ok (.invokeinterface 30 1, 5) := by decide +kernel
theorem dX4_depth_11 : decode cX4_depth 11 = .ok (.invokevirtual 79, 3) := dk_182 0 79 (dk_at dksX4_depth_0 11 rfl rfl)
theorem dX4_depth_14 : decode cX4_depth 14 = .ok (.ireturn, 1) := dk_172 (dk_at dksX4_depth_0 14 rfl rfl)
abbrev cX4_depthOf : ByteArray := prog_10_method_11_code
def yX4_depthOf : MethodName := ⟨RX4, "depthOf", "(II)I"⟩
def dkwX4_depthOf_1 : List UInt8 := [192, 0, 25, 182, 0, 71, 184, 0, 74, 62, 132, 4, 1, 167, 255, 225, 29, 172]
abbrev dktX4_depthOf_1 : List UInt8 := dkwX4_depthOf_1 ++ []
def dkwX4_depthOf_0 : List UInt8 := [3, 62, 27, 54, 4, 21, 4, 28, 162, 0, 31, 29, 42, 180, 0, 12, 21, 4, 185, 0, 38, 2, 0]
abbrev dktX4_depthOf_0 : List UInt8 := dkwX4_depthOf_0 ++ dktX4_depthOf_1
theorem dksX4_depthOf_0 : cX4_depthOf.data.toList.drop 0 = dktX4_depthOf_0 := by decide +kernel
theorem dksX4_depthOf_1 : cX4_depthOf.data.toList.drop 23 = dktX4_depthOf_1 := dk_seg dksX4_depthOf_0 23 rfl rfl
theorem dX4_depthOf_0 : decode cX4_depthOf 0 = .ok (.iconst 0, 1) := dk_3 (dk_at dksX4_depthOf_0 0 rfl rfl)
theorem dX4_depthOf_1 : decode cX4_depthOf 1 = .ok (.istore_n 3, 1) := dk_62 (dk_at dksX4_depthOf_0 1 rfl rfl)
theorem dX4_depthOf_2 : decode cX4_depthOf 2 = .ok (.iload_n 1, 1) := dk_27 (dk_at dksX4_depthOf_0 2 rfl rfl)
theorem dX4_depthOf_3 : decode cX4_depthOf 3 = .ok (.istore 4, 2) := dk_54 4 (dk_at dksX4_depthOf_0 3 rfl rfl)
theorem dX4_depthOf_5 : decode cX4_depthOf 5 = .ok (.iload 4, 2) := dk_21 4 (dk_at dksX4_depthOf_0 5 rfl rfl)
theorem dX4_depthOf_7 : decode cX4_depthOf 7 = .ok (.iload_n 2, 1) := dk_28 (dk_at dksX4_depthOf_0 7 rfl rfl)
theorem dX4_depthOf_8 : decode cX4_depthOf 8 = .ok (.if_icmp .ge 31, 3) := dk_162 0 31 (dk_at dksX4_depthOf_0 8 rfl rfl)
theorem dX4_depthOf_11 : decode cX4_depthOf 11 = .ok (.iload_n 3, 1) := dk_29 (dk_at dksX4_depthOf_0 11 rfl rfl)
theorem dX4_depthOf_12 : decode cX4_depthOf 12 = .ok (.aload_n 0, 1) := dk_42 (dk_at dksX4_depthOf_0 12 rfl rfl)
theorem dX4_depthOf_13 : decode cX4_depthOf 13 = .ok (.getfield 12, 3) := dk_180 0 12 (dk_at dksX4_depthOf_0 13 rfl rfl)
theorem dX4_depthOf_16 : decode cX4_depthOf 16 = .ok (.iload 4, 2) := dk_21 4 (dk_at dksX4_depthOf_0 16 rfl rfl)
theorem dX4_depthOf_18 : decode cX4_depthOf 18 = .ok (.invokeinterface 38 2, 5) := by decide +kernel
theorem dX4_depthOf_23 : decode cX4_depthOf 23 = .ok (.checkcast 25, 3) := dk_192 0 25 (dk_at dksX4_depthOf_1 0 rfl rfl)
theorem dX4_depthOf_26 : decode cX4_depthOf 26 = .ok (.invokevirtual 71, 3) := dk_182 0 71 (dk_at dksX4_depthOf_1 3 rfl rfl)
theorem dX4_depthOf_29 : decode cX4_depthOf 29 = .ok (.invokestatic 74, 3) := dk_184 0 74 (dk_at dksX4_depthOf_1 6 rfl rfl)
theorem dX4_depthOf_32 : decode cX4_depthOf 32 = .ok (.istore_n 3, 1) := dk_62 (dk_at dksX4_depthOf_1 9 rfl rfl)
theorem dX4_depthOf_33 : decode cX4_depthOf 33 = .ok (.iinc 4 1, 3) := dk_132 4 1 (dk_at dksX4_depthOf_1 10 rfl rfl)
theorem dX4_depthOf_36 : decode cX4_depthOf 36 = .ok (.goto (-31), 3) := dk_167 255 225 (dk_at dksX4_depthOf_1 13 rfl rfl)
theorem dX4_depthOf_39 : decode cX4_depthOf 39 = .ok (.iload_n 3, 1) := dk_29 (dk_at dksX4_depthOf_1 16 rfl rfl)
theorem dX4_depthOf_40 : decode cX4_depthOf 40 = .ok (.ireturn, 1) := dk_172 (dk_at dksX4_depthOf_1 17 rfl rfl)
abbrev cX4_emptySlots : ByteArray := prog_10_method_15_code
def yX4_emptySlots : MethodName := ⟨RX4, "emptySlots", "()I"⟩
def dkwX4_emptySlots_4 : List UInt8 := [132, 4, 1, 167, 255, 208, 132, 2, 1, 167, 255, 160, 27, 172]
abbrev dktX4_emptySlots_4 : List UInt8 := dkwX4_emptySlots_4 ++ []
def dkwX4_emptySlots_3 : List UInt8 := [185, 0, 93, 1, 0, 153, 0, 7, 4, 167, 0, 13, 45, 180, 0, 89, 21, 4, 50, 182, 0, 97, 96, 60]
abbrev dktX4_emptySlots_3 : List UInt8 := dkwX4_emptySlots_3 ++ dktX4_emptySlots_4
def dkwX4_emptySlots_2 : List UInt8 := [21, 4, 45, 180, 0, 89, 190, 162, 0, 44, 27, 45, 180, 0, 89, 21, 4, 50, 180, 0, 12]
abbrev dktX4_emptySlots_2 : List UInt8 := dkwX4_emptySlots_2 ++ dktX4_emptySlots_3
def dkwX4_emptySlots_1 : List UInt8 := [185, 0, 38, 2, 0, 58, 4, 25, 4, 193, 0, 61, 153, 0, 63, 25, 4, 192, 0, 61, 78, 3, 54, 4]
abbrev dktX4_emptySlots_1 : List UInt8 := dkwX4_emptySlots_1 ++ dktX4_emptySlots_2
def dkwX4_emptySlots_0 : List UInt8 := [3, 60, 3, 61, 28, 42, 180, 0, 12, 185, 0, 30, 1, 0, 162, 0, 89, 42, 180, 0, 12, 28]
abbrev dktX4_emptySlots_0 : List UInt8 := dkwX4_emptySlots_0 ++ dktX4_emptySlots_1
theorem dksX4_emptySlots_0 : cX4_emptySlots.data.toList.drop 0 = dktX4_emptySlots_0 := by decide +kernel
theorem dksX4_emptySlots_1 : cX4_emptySlots.data.toList.drop 22 = dktX4_emptySlots_1 := dk_seg dksX4_emptySlots_0 22 rfl rfl
theorem dksX4_emptySlots_2 : cX4_emptySlots.data.toList.drop 46 = dktX4_emptySlots_2 := dk_seg dksX4_emptySlots_1 24 rfl rfl
theorem dksX4_emptySlots_3 : cX4_emptySlots.data.toList.drop 67 = dktX4_emptySlots_3 := dk_seg dksX4_emptySlots_2 21 rfl rfl
theorem dksX4_emptySlots_4 : cX4_emptySlots.data.toList.drop 91 = dktX4_emptySlots_4 := dk_seg dksX4_emptySlots_3 24 rfl rfl
theorem dX4_emptySlots_0 : decode cX4_emptySlots 0 = .ok (.iconst 0, 1) := dk_3 (dk_at dksX4_emptySlots_0 0 rfl rfl)
theorem dX4_emptySlots_1 : decode cX4_emptySlots 1 = .ok (.istore_n 1, 1) := dk_60 (dk_at dksX4_emptySlots_0 1 rfl rfl)
theorem dX4_emptySlots_2 : decode cX4_emptySlots 2 = .ok (.iconst 0, 1) := dk_3 (dk_at dksX4_emptySlots_0 2 rfl rfl)
theorem dX4_emptySlots_3 : decode cX4_emptySlots 3 = .ok (.istore_n 2, 1) := dk_61 (dk_at dksX4_emptySlots_0 3 rfl rfl)
theorem dX4_emptySlots_4 : decode cX4_emptySlots 4 = .ok (.iload_n 2, 1) := dk_28 (dk_at dksX4_emptySlots_0 4 rfl rfl)
theorem dX4_emptySlots_5 : decode cX4_emptySlots 5 = .ok (.aload_n 0, 1) := dk_42 (dk_at dksX4_emptySlots_0 5 rfl rfl)
theorem dX4_emptySlots_6 : decode cX4_emptySlots 6 = .ok (.getfield 12, 3) := dk_180 0 12 (dk_at dksX4_emptySlots_0 6 rfl rfl)
theorem dX4_emptySlots_9 : decode cX4_emptySlots 9 = .ok (.invokeinterface 30 1, 5) := by decide +kernel
theorem dX4_emptySlots_14 : decode cX4_emptySlots 14 = .ok (.if_icmp .ge 89, 3) := dk_162 0 89 (dk_at dksX4_emptySlots_0 14 rfl rfl)
theorem dX4_emptySlots_17 : decode cX4_emptySlots 17 = .ok (.aload_n 0, 1) := dk_42 (dk_at dksX4_emptySlots_0 17 rfl rfl)
theorem dX4_emptySlots_18 : decode cX4_emptySlots 18 = .ok (.getfield 12, 3) := dk_180 0 12 (dk_at dksX4_emptySlots_0 18 rfl rfl)
theorem dX4_emptySlots_21 : decode cX4_emptySlots 21 = .ok (.iload_n 2, 1) := dk_28 (dk_at dksX4_emptySlots_0 21 rfl rfl)
theorem dX4_emptySlots_22 : decode cX4_emptySlots 22 = .ok (.invokeinterface 38 2, 5) := by decide +kernel
theorem dX4_emptySlots_27 : decode cX4_emptySlots 27 = .ok (.astore 4, 2) := dk_58 4 (dk_at dksX4_emptySlots_1 5 rfl rfl)
theorem dX4_emptySlots_29 : decode cX4_emptySlots 29 = .ok (.aload 4, 2) := dk_25 4 (dk_at dksX4_emptySlots_1 7 rfl rfl)
theorem dX4_emptySlots_31 : decode cX4_emptySlots 31 = .ok (.instanceof 61, 3) := dk_193 0 61 (dk_at dksX4_emptySlots_1 9 rfl rfl)
theorem dX4_emptySlots_34 : decode cX4_emptySlots 34 = .ok (.ifCond .eq 63, 3) := dk_153 0 63 (dk_at dksX4_emptySlots_1 12 rfl rfl)
theorem dX4_emptySlots_37 : decode cX4_emptySlots 37 = .ok (.aload 4, 2) := dk_25 4 (dk_at dksX4_emptySlots_1 15 rfl rfl)
theorem dX4_emptySlots_39 : decode cX4_emptySlots 39 = .ok (.checkcast 61, 3) := dk_192 0 61 (dk_at dksX4_emptySlots_1 17 rfl rfl)
theorem dX4_emptySlots_42 : decode cX4_emptySlots 42 = .ok (.astore_n 3, 1) := dk_78 (dk_at dksX4_emptySlots_1 20 rfl rfl)
theorem dX4_emptySlots_43 : decode cX4_emptySlots 43 = .ok (.iconst 0, 1) := dk_3 (dk_at dksX4_emptySlots_1 21 rfl rfl)
theorem dX4_emptySlots_44 : decode cX4_emptySlots 44 = .ok (.istore 4, 2) := dk_54 4 (dk_at dksX4_emptySlots_1 22 rfl rfl)
theorem dX4_emptySlots_46 : decode cX4_emptySlots 46 = .ok (.iload 4, 2) := dk_21 4 (dk_at dksX4_emptySlots_2 0 rfl rfl)
theorem dX4_emptySlots_48 : decode cX4_emptySlots 48 = .ok (.aload_n 3, 1) := dk_45 (dk_at dksX4_emptySlots_2 2 rfl rfl)
theorem dX4_emptySlots_49 : decode cX4_emptySlots 49 = .ok (.getfield 89, 3) := dk_180 0 89 (dk_at dksX4_emptySlots_2 3 rfl rfl)
theorem dX4_emptySlots_52 : decode cX4_emptySlots 52 = .ok (.arraylength, 1) := dk_190 (dk_at dksX4_emptySlots_2 6 rfl rfl)
theorem dX4_emptySlots_53 : decode cX4_emptySlots 53 = .ok (.if_icmp .ge 44, 3) := dk_162 0 44 (dk_at dksX4_emptySlots_2 7 rfl rfl)
theorem dX4_emptySlots_56 : decode cX4_emptySlots 56 = .ok (.iload_n 1, 1) := dk_27 (dk_at dksX4_emptySlots_2 10 rfl rfl)
theorem dX4_emptySlots_57 : decode cX4_emptySlots 57 = .ok (.aload_n 3, 1) := dk_45 (dk_at dksX4_emptySlots_2 11 rfl rfl)
theorem dX4_emptySlots_58 : decode cX4_emptySlots 58 = .ok (.getfield 89, 3) := dk_180 0 89 (dk_at dksX4_emptySlots_2 12 rfl rfl)
theorem dX4_emptySlots_61 : decode cX4_emptySlots 61 = .ok (.iload 4, 2) := dk_21 4 (dk_at dksX4_emptySlots_2 15 rfl rfl)
theorem dX4_emptySlots_63 : decode cX4_emptySlots 63 = .ok (.aaload, 1) := dk_50 (dk_at dksX4_emptySlots_2 17 rfl rfl)
theorem dX4_emptySlots_64 : decode cX4_emptySlots 64 = .ok (.getfield 12, 3) := dk_180 0 12 (dk_at dksX4_emptySlots_2 18 rfl rfl)
theorem dX4_emptySlots_67 : decode cX4_emptySlots 67 = .ok (.invokeinterface 93 1, 5) := by decide +kernel
theorem dX4_emptySlots_72 : decode cX4_emptySlots 72 = .ok (.ifCond .eq 7, 3) := dk_153 0 7 (dk_at dksX4_emptySlots_3 5 rfl rfl)
theorem dX4_emptySlots_75 : decode cX4_emptySlots 75 = .ok (.iconst 1, 1) := dk_4 (dk_at dksX4_emptySlots_3 8 rfl rfl)
theorem dX4_emptySlots_76 : decode cX4_emptySlots 76 = .ok (.goto 13, 3) := dk_167 0 13 (dk_at dksX4_emptySlots_3 9 rfl rfl)
theorem dX4_emptySlots_79 : decode cX4_emptySlots 79 = .ok (.aload_n 3, 1) := dk_45 (dk_at dksX4_emptySlots_3 12 rfl rfl)
theorem dX4_emptySlots_80 : decode cX4_emptySlots 80 = .ok (.getfield 89, 3) := dk_180 0 89 (dk_at dksX4_emptySlots_3 13 rfl rfl)
theorem dX4_emptySlots_83 : decode cX4_emptySlots 83 = .ok (.iload 4, 2) := dk_21 4 (dk_at dksX4_emptySlots_3 16 rfl rfl)
theorem dX4_emptySlots_85 : decode cX4_emptySlots 85 = .ok (.aaload, 1) := dk_50 (dk_at dksX4_emptySlots_3 18 rfl rfl)
theorem dX4_emptySlots_86 : decode cX4_emptySlots 86 = .ok (.invokevirtual 97, 3) := dk_182 0 97 (dk_at dksX4_emptySlots_3 19 rfl rfl)
theorem dX4_emptySlots_89 : decode cX4_emptySlots 89 = .ok (.iadd, 1) := dk_96 (dk_at dksX4_emptySlots_3 22 rfl rfl)
theorem dX4_emptySlots_90 : decode cX4_emptySlots 90 = .ok (.istore_n 1, 1) := dk_60 (dk_at dksX4_emptySlots_3 23 rfl rfl)
theorem dX4_emptySlots_91 : decode cX4_emptySlots 91 = .ok (.iinc 4 1, 3) := dk_132 4 1 (dk_at dksX4_emptySlots_4 0 rfl rfl)
theorem dX4_emptySlots_94 : decode cX4_emptySlots 94 = .ok (.goto (-48), 3) := dk_167 255 208 (dk_at dksX4_emptySlots_4 3 rfl rfl)
theorem dX4_emptySlots_97 : decode cX4_emptySlots 97 = .ok (.iinc 2 1, 3) := dk_132 2 1 (dk_at dksX4_emptySlots_4 6 rfl rfl)
theorem dX4_emptySlots_100 : decode cX4_emptySlots 100 = .ok (.goto (-96), 3) := dk_167 255 160 (dk_at dksX4_emptySlots_4 9 rfl rfl)
theorem dX4_emptySlots_103 : decode cX4_emptySlots 103 = .ok (.iload_n 1, 1) := dk_27 (dk_at dksX4_emptySlots_4 12 rfl rfl)
theorem dX4_emptySlots_104 : decode cX4_emptySlots 104 = .ok (.ireturn, 1) := dk_172 (dk_at dksX4_emptySlots_4 13 rfl rfl)
abbrev cX4_level : ByteArray := prog_10_method_7_code
def yX4_level : MethodName := ⟨RX4, "level", "()I"⟩
def dkwX4_level_0 : List UInt8 := [42, 180, 0, 56, 199, 0, 7, 3, 167, 0, 15, 4, 42, 180, 0, 56, 180, 0, 60, 182, 0, 63, 96, 172]
abbrev dktX4_level_0 : List UInt8 := dkwX4_level_0 ++ []
theorem dksX4_level_0 : cX4_level.data.toList.drop 0 = dktX4_level_0 := by decide +kernel
theorem dX4_level_0 : decode cX4_level 0 = .ok (.aload_n 0, 1) := dk_42 (dk_at dksX4_level_0 0 rfl rfl)
theorem dX4_level_1 : decode cX4_level 1 = .ok (.getfield 56, 3) := dk_180 0 56 (dk_at dksX4_level_0 1 rfl rfl)
theorem dX4_level_4 : decode cX4_level 4 = .ok (.ifnonnull 7, 3) := dk_199 0 7 (dk_at dksX4_level_0 4 rfl rfl)
theorem dX4_level_7 : decode cX4_level 7 = .ok (.iconst 0, 1) := dk_3 (dk_at dksX4_level_0 7 rfl rfl)
theorem dX4_level_8 : decode cX4_level 8 = .ok (.goto 15, 3) := dk_167 0 15 (dk_at dksX4_level_0 8 rfl rfl)
theorem dX4_level_11 : decode cX4_level 11 = .ok (.iconst 1, 1) := dk_4 (dk_at dksX4_level_0 11 rfl rfl)
theorem dX4_level_12 : decode cX4_level 12 = .ok (.aload_n 0, 1) := dk_42 (dk_at dksX4_level_0 12 rfl rfl)
theorem dX4_level_13 : decode cX4_level 13 = .ok (.getfield 56, 3) := dk_180 0 56 (dk_at dksX4_level_0 13 rfl rfl)
theorem dX4_level_16 : decode cX4_level 16 = .ok (.getfield 60, 3) := dk_180 0 60 (dk_at dksX4_level_0 16 rfl rfl)
theorem dX4_level_19 : decode cX4_level 19 = .ok (.invokevirtual 63, 3) := dk_182 0 63 (dk_at dksX4_level_0 19 rfl rfl)
theorem dX4_level_22 : decode cX4_level 22 = .ok (.iadd, 1) := dk_96 (dk_at dksX4_level_0 22 rfl rfl)
theorem dX4_level_23 : decode cX4_level 23 = .ok (.ireturn, 1) := dk_172 (dk_at dksX4_level_0 23 rfl rfl)
abbrev cX4_addCopies : ByteArray := prog_10_method_4_code
def yX4_addCopies : MethodName := ⟨RX4, "addCopies", "(LFormulaEditor$Row;II)V"⟩
def dkwX4_addCopies_1 : List UInt8 := [182, 0, 42, 182, 0, 46, 132, 4, 1, 167, 255, 226, 177]
abbrev dktX4_addCopies_1 : List UInt8 := dkwX4_addCopies_1 ++ []
def dkwX4_addCopies_0 : List UInt8 := [28, 54, 4, 21, 4, 29, 162, 0, 30, 42, 43, 180, 0, 12, 21, 4, 185, 0, 38, 2, 0, 192, 0, 25]
abbrev dktX4_addCopies_0 : List UInt8 := dkwX4_addCopies_0 ++ dktX4_addCopies_1
theorem dksX4_addCopies_0 : cX4_addCopies.data.toList.drop 0 = dktX4_addCopies_0 := by decide +kernel
theorem dksX4_addCopies_1 : cX4_addCopies.data.toList.drop 24 = dktX4_addCopies_1 := dk_seg dksX4_addCopies_0 24 rfl rfl
theorem dX4_addCopies_0 : decode cX4_addCopies 0 = .ok (.iload_n 2, 1) := dk_28 (dk_at dksX4_addCopies_0 0 rfl rfl)
theorem dX4_addCopies_1 : decode cX4_addCopies 1 = .ok (.istore 4, 2) := dk_54 4 (dk_at dksX4_addCopies_0 1 rfl rfl)
theorem dX4_addCopies_3 : decode cX4_addCopies 3 = .ok (.iload 4, 2) := dk_21 4 (dk_at dksX4_addCopies_0 3 rfl rfl)
theorem dX4_addCopies_5 : decode cX4_addCopies 5 = .ok (.iload_n 3, 1) := dk_29 (dk_at dksX4_addCopies_0 5 rfl rfl)
theorem dX4_addCopies_6 : decode cX4_addCopies 6 = .ok (.if_icmp .ge 30, 3) := dk_162 0 30 (dk_at dksX4_addCopies_0 6 rfl rfl)
theorem dX4_addCopies_9 : decode cX4_addCopies 9 = .ok (.aload_n 0, 1) := dk_42 (dk_at dksX4_addCopies_0 9 rfl rfl)
theorem dX4_addCopies_10 : decode cX4_addCopies 10 = .ok (.aload_n 1, 1) := dk_43 (dk_at dksX4_addCopies_0 10 rfl rfl)
theorem dX4_addCopies_11 : decode cX4_addCopies 11 = .ok (.getfield 12, 3) := dk_180 0 12 (dk_at dksX4_addCopies_0 11 rfl rfl)
theorem dX4_addCopies_14 : decode cX4_addCopies 14 = .ok (.iload 4, 2) := dk_21 4 (dk_at dksX4_addCopies_0 14 rfl rfl)
theorem dX4_addCopies_16 : decode cX4_addCopies 16 = .ok (.invokeinterface 38 2, 5) := by decide +kernel
theorem dX4_addCopies_21 : decode cX4_addCopies 21 = .ok (.checkcast 25, 3) := dk_192 0 25 (dk_at dksX4_addCopies_0 21 rfl rfl)
theorem dX4_addCopies_24 : decode cX4_addCopies 24 = .ok (.invokevirtual 42, 3) := dk_182 0 42 (dk_at dksX4_addCopies_1 0 rfl rfl)
theorem dX4_addCopies_27 : decode cX4_addCopies 27 = .ok (.invokevirtual 46, 3) := dk_182 0 46 (dk_at dksX4_addCopies_1 3 rfl rfl)
theorem dX4_addCopies_30 : decode cX4_addCopies 30 = .ok (.iinc 4 1, 3) := dk_132 4 1 (dk_at dksX4_addCopies_1 6 rfl rfl)
theorem dX4_addCopies_33 : decode cX4_addCopies 33 = .ok (.goto (-30), 3) := dk_167 255 226 (dk_at dksX4_addCopies_1 9 rfl rfl)
theorem dX4_addCopies_36 : decode cX4_addCopies 36 = .ok (.return_, 1) := dk_177 (dk_at dksX4_addCopies_1 12 rfl rfl)
abbrev cX4_take : ByteArray := prog_10_method_5_code
def yX4_take : MethodName := ⟨RX4, "take", "(ILFormulaEditor$Row;)I"⟩
def dkwX4_take_2 : List UInt8 := [180, 0, 12, 185, 0, 49, 1, 0, 29, 172]
abbrev dktX4_take_2 : List UInt8 := dkwX4_take_2 ++ []
def dkwX4_take_1 : List UInt8 := [44, 180, 0, 12, 21, 4, 185, 0, 38, 2, 0, 192, 0, 25, 182, 0, 34, 132, 4, 1, 167, 255, 225, 44]
abbrev dktX4_take_1 : List UInt8 := dkwX4_take_1 ++ dktX4_take_2
def dkwX4_take_0 : List UInt8 := [44, 180, 0, 12, 185, 0, 30, 1, 0, 62, 3, 54, 4, 21, 4, 29, 162, 0, 31, 42, 27, 21, 4, 96]
abbrev dktX4_take_0 : List UInt8 := dkwX4_take_0 ++ dktX4_take_1
theorem dksX4_take_0 : cX4_take.data.toList.drop 0 = dktX4_take_0 := by decide +kernel
theorem dksX4_take_1 : cX4_take.data.toList.drop 24 = dktX4_take_1 := dk_seg dksX4_take_0 24 rfl rfl
theorem dksX4_take_2 : cX4_take.data.toList.drop 48 = dktX4_take_2 := dk_seg dksX4_take_1 24 rfl rfl
theorem dX4_take_0 : decode cX4_take 0 = .ok (.aload_n 2, 1) := dk_44 (dk_at dksX4_take_0 0 rfl rfl)
theorem dX4_take_1 : decode cX4_take 1 = .ok (.getfield 12, 3) := dk_180 0 12 (dk_at dksX4_take_0 1 rfl rfl)
theorem dX4_take_4 : decode cX4_take 4 = .ok (.invokeinterface 30 1, 5) := by decide +kernel
theorem dX4_take_9 : decode cX4_take 9 = .ok (.istore_n 3, 1) := dk_62 (dk_at dksX4_take_0 9 rfl rfl)
theorem dX4_take_10 : decode cX4_take 10 = .ok (.iconst 0, 1) := dk_3 (dk_at dksX4_take_0 10 rfl rfl)
theorem dX4_take_11 : decode cX4_take 11 = .ok (.istore 4, 2) := dk_54 4 (dk_at dksX4_take_0 11 rfl rfl)
theorem dX4_take_13 : decode cX4_take 13 = .ok (.iload 4, 2) := dk_21 4 (dk_at dksX4_take_0 13 rfl rfl)
theorem dX4_take_15 : decode cX4_take 15 = .ok (.iload_n 3, 1) := dk_29 (dk_at dksX4_take_0 15 rfl rfl)
theorem dX4_take_16 : decode cX4_take 16 = .ok (.if_icmp .ge 31, 3) := dk_162 0 31 (dk_at dksX4_take_0 16 rfl rfl)
theorem dX4_take_19 : decode cX4_take 19 = .ok (.aload_n 0, 1) := dk_42 (dk_at dksX4_take_0 19 rfl rfl)
theorem dX4_take_20 : decode cX4_take 20 = .ok (.iload_n 1, 1) := dk_27 (dk_at dksX4_take_0 20 rfl rfl)
theorem dX4_take_21 : decode cX4_take 21 = .ok (.iload 4, 2) := dk_21 4 (dk_at dksX4_take_0 21 rfl rfl)
theorem dX4_take_23 : decode cX4_take 23 = .ok (.iadd, 1) := dk_96 (dk_at dksX4_take_0 23 rfl rfl)
theorem dX4_take_24 : decode cX4_take 24 = .ok (.aload_n 2, 1) := dk_44 (dk_at dksX4_take_1 0 rfl rfl)
theorem dX4_take_25 : decode cX4_take 25 = .ok (.getfield 12, 3) := dk_180 0 12 (dk_at dksX4_take_1 1 rfl rfl)
theorem dX4_take_28 : decode cX4_take 28 = .ok (.iload 4, 2) := dk_21 4 (dk_at dksX4_take_1 4 rfl rfl)
theorem dX4_take_30 : decode cX4_take 30 = .ok (.invokeinterface 38 2, 5) := by decide +kernel
theorem dX4_take_35 : decode cX4_take 35 = .ok (.checkcast 25, 3) := dk_192 0 25 (dk_at dksX4_take_1 11 rfl rfl)
theorem dX4_take_38 : decode cX4_take 38 = .ok (.invokevirtual 34, 3) := dk_182 0 34 (dk_at dksX4_take_1 14 rfl rfl)
theorem dX4_take_41 : decode cX4_take 41 = .ok (.iinc 4 1, 3) := dk_132 4 1 (dk_at dksX4_take_1 17 rfl rfl)
theorem dX4_take_44 : decode cX4_take 44 = .ok (.goto (-31), 3) := dk_167 255 225 (dk_at dksX4_take_1 20 rfl rfl)
theorem dX4_take_47 : decode cX4_take 47 = .ok (.aload_n 2, 1) := dk_44 (dk_at dksX4_take_1 23 rfl rfl)
theorem dX4_take_48 : decode cX4_take 48 = .ok (.getfield 12, 3) := dk_180 0 12 (dk_at dksX4_take_2 0 rfl rfl)
theorem dX4_take_51 : decode cX4_take 51 = .ok (.invokeinterface 49 1, 5) := by decide +kernel
theorem dX4_take_56 : decode cX4_take 56 = .ok (.iload_n 3, 1) := dk_29 (dk_at dksX4_take_2 8 rfl rfl)
theorem dX4_take_57 : decode cX4_take 57 = .ok (.ireturn, 1) := dk_172 (dk_at dksX4_take_2 9 rfl rfl)
abbrev cX4_replace : ByteArray := prog_10_method_16_code
def yX4_replace : MethodName := ⟨RX4, "replace", "(CC)I"⟩
def dkwX4_replace_6 : List UInt8 := [132, 8, 1, 167, 255, 226, 132, 4, 1, 167, 255, 114, 29, 172]
abbrev dktX4_replace_6 : List UInt8 := dkwX4_replace_6 ++ []
def dkwX4_replace_5 : List UInt8 := [180, 0, 89, 190, 162, 0, 25, 29, 25, 7, 180, 0, 89, 21, 8, 50, 27, 28, 182, 0, 106, 96, 62]
abbrev dktX4_replace_5 : List UInt8 := dkwX4_replace_5 ++ dktX4_replace_6
def dkwX4_replace_4 : List UInt8 := [25, 5, 193, 0, 61, 153, 0, 46, 25, 5, 192, 0, 61, 58, 7, 3, 54, 8, 21, 8, 25, 7]
abbrev dktX4_replace_4 : List UInt8 := dkwX4_replace_4 ++ dktX4_replace_5
def dkwX4_replace_3 : List UInt8 := [25, 6, 180, 0, 102, 27, 160, 0, 7, 28, 167, 0, 8, 25, 6, 180, 0, 102, 181, 0, 102, 167, 0, 54]
abbrev dktX4_replace_3 : List UInt8 := dkwX4_replace_3 ++ dktX4_replace_4
def dkwX4_replace_2 : List UInt8 := [192, 0, 100, 58, 6, 29, 25, 6, 180, 0, 102, 27, 160, 0, 7, 4, 167, 0, 4, 3, 96, 62, 25, 6]
abbrev dktX4_replace_2 : List UInt8 := dkwX4_replace_2 ++ dktX4_replace_3
def dkwX4_replace_1 : List UInt8 := [21, 4, 185, 0, 38, 2, 0, 192, 0, 25, 58, 5, 25, 5, 193, 0, 100, 153, 0, 53, 25, 5]
abbrev dktX4_replace_1 : List UInt8 := dkwX4_replace_1 ++ dktX4_replace_2
def dkwX4_replace_0 : List UInt8 := [3, 62, 3, 54, 4, 21, 4, 42, 180, 0, 12, 185, 0, 30, 1, 0, 162, 0, 134, 42, 180, 0, 12]
abbrev dktX4_replace_0 : List UInt8 := dkwX4_replace_0 ++ dktX4_replace_1
theorem dksX4_replace_0 : cX4_replace.data.toList.drop 0 = dktX4_replace_0 := by decide +kernel
theorem dksX4_replace_1 : cX4_replace.data.toList.drop 23 = dktX4_replace_1 := dk_seg dksX4_replace_0 23 rfl rfl
theorem dksX4_replace_2 : cX4_replace.data.toList.drop 45 = dktX4_replace_2 := dk_seg dksX4_replace_1 22 rfl rfl
theorem dksX4_replace_3 : cX4_replace.data.toList.drop 69 = dktX4_replace_3 := dk_seg dksX4_replace_2 24 rfl rfl
theorem dksX4_replace_4 : cX4_replace.data.toList.drop 93 = dktX4_replace_4 := dk_seg dksX4_replace_3 24 rfl rfl
theorem dksX4_replace_5 : cX4_replace.data.toList.drop 115 = dktX4_replace_5 := dk_seg dksX4_replace_4 22 rfl rfl
theorem dksX4_replace_6 : cX4_replace.data.toList.drop 138 = dktX4_replace_6 := dk_seg dksX4_replace_5 23 rfl rfl
theorem dX4_replace_0 : decode cX4_replace 0 = .ok (.iconst 0, 1) := dk_3 (dk_at dksX4_replace_0 0 rfl rfl)
theorem dX4_replace_1 : decode cX4_replace 1 = .ok (.istore_n 3, 1) := dk_62 (dk_at dksX4_replace_0 1 rfl rfl)
theorem dX4_replace_2 : decode cX4_replace 2 = .ok (.iconst 0, 1) := dk_3 (dk_at dksX4_replace_0 2 rfl rfl)
theorem dX4_replace_3 : decode cX4_replace 3 = .ok (.istore 4, 2) := dk_54 4 (dk_at dksX4_replace_0 3 rfl rfl)
theorem dX4_replace_5 : decode cX4_replace 5 = .ok (.iload 4, 2) := dk_21 4 (dk_at dksX4_replace_0 5 rfl rfl)
theorem dX4_replace_7 : decode cX4_replace 7 = .ok (.aload_n 0, 1) := dk_42 (dk_at dksX4_replace_0 7 rfl rfl)
theorem dX4_replace_8 : decode cX4_replace 8 = .ok (.getfield 12, 3) := dk_180 0 12 (dk_at dksX4_replace_0 8 rfl rfl)
theorem dX4_replace_11 : decode cX4_replace 11 = .ok (.invokeinterface 30 1, 5) := by decide +kernel
theorem dX4_replace_16 : decode cX4_replace 16 = .ok (.if_icmp .ge 134, 3) := dk_162 0 134 (dk_at dksX4_replace_0 16 rfl rfl)
theorem dX4_replace_19 : decode cX4_replace 19 = .ok (.aload_n 0, 1) := dk_42 (dk_at dksX4_replace_0 19 rfl rfl)
theorem dX4_replace_20 : decode cX4_replace 20 = .ok (.getfield 12, 3) := dk_180 0 12 (dk_at dksX4_replace_0 20 rfl rfl)
theorem dX4_replace_23 : decode cX4_replace 23 = .ok (.iload 4, 2) := dk_21 4 (dk_at dksX4_replace_1 0 rfl rfl)
theorem dX4_replace_25 : decode cX4_replace 25 = .ok (.invokeinterface 38 2, 5) := by decide +kernel
theorem dX4_replace_30 : decode cX4_replace 30 = .ok (.checkcast 25, 3) := dk_192 0 25 (dk_at dksX4_replace_1 7 rfl rfl)
theorem dX4_replace_33 : decode cX4_replace 33 = .ok (.astore 5, 2) := dk_58 5 (dk_at dksX4_replace_1 10 rfl rfl)
theorem dX4_replace_35 : decode cX4_replace 35 = .ok (.aload 5, 2) := dk_25 5 (dk_at dksX4_replace_1 12 rfl rfl)
theorem dX4_replace_37 : decode cX4_replace 37 = .ok (.instanceof 100, 3) := dk_193 0 100 (dk_at dksX4_replace_1 14 rfl rfl)
theorem dX4_replace_40 : decode cX4_replace 40 = .ok (.ifCond .eq 53, 3) := dk_153 0 53 (dk_at dksX4_replace_1 17 rfl rfl)
theorem dX4_replace_43 : decode cX4_replace 43 = .ok (.aload 5, 2) := dk_25 5 (dk_at dksX4_replace_1 20 rfl rfl)
theorem dX4_replace_45 : decode cX4_replace 45 = .ok (.checkcast 100, 3) := dk_192 0 100 (dk_at dksX4_replace_2 0 rfl rfl)
theorem dX4_replace_48 : decode cX4_replace 48 = .ok (.astore 6, 2) := dk_58 6 (dk_at dksX4_replace_2 3 rfl rfl)
theorem dX4_replace_50 : decode cX4_replace 50 = .ok (.iload_n 3, 1) := dk_29 (dk_at dksX4_replace_2 5 rfl rfl)
theorem dX4_replace_51 : decode cX4_replace 51 = .ok (.aload 6, 2) := dk_25 6 (dk_at dksX4_replace_2 6 rfl rfl)
theorem dX4_replace_53 : decode cX4_replace 53 = .ok (.getfield 102, 3) := dk_180 0 102 (dk_at dksX4_replace_2 8 rfl rfl)
theorem dX4_replace_56 : decode cX4_replace 56 = .ok (.iload_n 1, 1) := dk_27 (dk_at dksX4_replace_2 11 rfl rfl)
theorem dX4_replace_57 : decode cX4_replace 57 = .ok (.if_icmp .ne 7, 3) := dk_160 0 7 (dk_at dksX4_replace_2 12 rfl rfl)
theorem dX4_replace_60 : decode cX4_replace 60 = .ok (.iconst 1, 1) := dk_4 (dk_at dksX4_replace_2 15 rfl rfl)
theorem dX4_replace_61 : decode cX4_replace 61 = .ok (.goto 4, 3) := dk_167 0 4 (dk_at dksX4_replace_2 16 rfl rfl)
theorem dX4_replace_64 : decode cX4_replace 64 = .ok (.iconst 0, 1) := dk_3 (dk_at dksX4_replace_2 19 rfl rfl)
theorem dX4_replace_65 : decode cX4_replace 65 = .ok (.iadd, 1) := dk_96 (dk_at dksX4_replace_2 20 rfl rfl)
theorem dX4_replace_66 : decode cX4_replace 66 = .ok (.istore_n 3, 1) := dk_62 (dk_at dksX4_replace_2 21 rfl rfl)
theorem dX4_replace_67 : decode cX4_replace 67 = .ok (.aload 6, 2) := dk_25 6 (dk_at dksX4_replace_2 22 rfl rfl)
theorem dX4_replace_69 : decode cX4_replace 69 = .ok (.aload 6, 2) := dk_25 6 (dk_at dksX4_replace_3 0 rfl rfl)
theorem dX4_replace_71 : decode cX4_replace 71 = .ok (.getfield 102, 3) := dk_180 0 102 (dk_at dksX4_replace_3 2 rfl rfl)
theorem dX4_replace_74 : decode cX4_replace 74 = .ok (.iload_n 1, 1) := dk_27 (dk_at dksX4_replace_3 5 rfl rfl)
theorem dX4_replace_75 : decode cX4_replace 75 = .ok (.if_icmp .ne 7, 3) := dk_160 0 7 (dk_at dksX4_replace_3 6 rfl rfl)
theorem dX4_replace_78 : decode cX4_replace 78 = .ok (.iload_n 2, 1) := dk_28 (dk_at dksX4_replace_3 9 rfl rfl)
theorem dX4_replace_79 : decode cX4_replace 79 = .ok (.goto 8, 3) := dk_167 0 8 (dk_at dksX4_replace_3 10 rfl rfl)
theorem dX4_replace_82 : decode cX4_replace 82 = .ok (.aload 6, 2) := dk_25 6 (dk_at dksX4_replace_3 13 rfl rfl)
theorem dX4_replace_84 : decode cX4_replace 84 = .ok (.getfield 102, 3) := dk_180 0 102 (dk_at dksX4_replace_3 15 rfl rfl)
theorem dX4_replace_87 : decode cX4_replace 87 = .ok (.putfield 102, 3) := dk_181 0 102 (dk_at dksX4_replace_3 18 rfl rfl)
theorem dX4_replace_90 : decode cX4_replace 90 = .ok (.goto 54, 3) := dk_167 0 54 (dk_at dksX4_replace_3 21 rfl rfl)
theorem dX4_replace_93 : decode cX4_replace 93 = .ok (.aload 5, 2) := dk_25 5 (dk_at dksX4_replace_4 0 rfl rfl)
theorem dX4_replace_95 : decode cX4_replace 95 = .ok (.instanceof 61, 3) := dk_193 0 61 (dk_at dksX4_replace_4 2 rfl rfl)
theorem dX4_replace_98 : decode cX4_replace 98 = .ok (.ifCond .eq 46, 3) := dk_153 0 46 (dk_at dksX4_replace_4 5 rfl rfl)
theorem dX4_replace_101 : decode cX4_replace 101 = .ok (.aload 5, 2) := dk_25 5 (dk_at dksX4_replace_4 8 rfl rfl)
theorem dX4_replace_103 : decode cX4_replace 103 = .ok (.checkcast 61, 3) := dk_192 0 61 (dk_at dksX4_replace_4 10 rfl rfl)
theorem dX4_replace_106 : decode cX4_replace 106 = .ok (.astore 7, 2) := dk_58 7 (dk_at dksX4_replace_4 13 rfl rfl)
theorem dX4_replace_108 : decode cX4_replace 108 = .ok (.iconst 0, 1) := dk_3 (dk_at dksX4_replace_4 15 rfl rfl)
theorem dX4_replace_109 : decode cX4_replace 109 = .ok (.istore 8, 2) := dk_54 8 (dk_at dksX4_replace_4 16 rfl rfl)
theorem dX4_replace_111 : decode cX4_replace 111 = .ok (.iload 8, 2) := dk_21 8 (dk_at dksX4_replace_4 18 rfl rfl)
theorem dX4_replace_113 : decode cX4_replace 113 = .ok (.aload 7, 2) := dk_25 7 (dk_at dksX4_replace_4 20 rfl rfl)
theorem dX4_replace_115 : decode cX4_replace 115 = .ok (.getfield 89, 3) := dk_180 0 89 (dk_at dksX4_replace_5 0 rfl rfl)
theorem dX4_replace_118 : decode cX4_replace 118 = .ok (.arraylength, 1) := dk_190 (dk_at dksX4_replace_5 3 rfl rfl)
theorem dX4_replace_119 : decode cX4_replace 119 = .ok (.if_icmp .ge 25, 3) := dk_162 0 25 (dk_at dksX4_replace_5 4 rfl rfl)
theorem dX4_replace_122 : decode cX4_replace 122 = .ok (.iload_n 3, 1) := dk_29 (dk_at dksX4_replace_5 7 rfl rfl)
theorem dX4_replace_123 : decode cX4_replace 123 = .ok (.aload 7, 2) := dk_25 7 (dk_at dksX4_replace_5 8 rfl rfl)
theorem dX4_replace_125 : decode cX4_replace 125 = .ok (.getfield 89, 3) := dk_180 0 89 (dk_at dksX4_replace_5 10 rfl rfl)
theorem dX4_replace_128 : decode cX4_replace 128 = .ok (.iload 8, 2) := dk_21 8 (dk_at dksX4_replace_5 13 rfl rfl)
theorem dX4_replace_130 : decode cX4_replace 130 = .ok (.aaload, 1) := dk_50 (dk_at dksX4_replace_5 15 rfl rfl)
theorem dX4_replace_131 : decode cX4_replace 131 = .ok (.iload_n 1, 1) := dk_27 (dk_at dksX4_replace_5 16 rfl rfl)
theorem dX4_replace_132 : decode cX4_replace 132 = .ok (.iload_n 2, 1) := dk_28 (dk_at dksX4_replace_5 17 rfl rfl)
theorem dX4_replace_133 : decode cX4_replace 133 = .ok (.invokevirtual 106, 3) := dk_182 0 106 (dk_at dksX4_replace_5 18 rfl rfl)
theorem dX4_replace_136 : decode cX4_replace 136 = .ok (.iadd, 1) := dk_96 (dk_at dksX4_replace_5 21 rfl rfl)
theorem dX4_replace_137 : decode cX4_replace 137 = .ok (.istore_n 3, 1) := dk_62 (dk_at dksX4_replace_5 22 rfl rfl)
theorem dX4_replace_138 : decode cX4_replace 138 = .ok (.iinc 8 1, 3) := dk_132 8 1 (dk_at dksX4_replace_6 0 rfl rfl)
theorem dX4_replace_141 : decode cX4_replace 141 = .ok (.goto (-30), 3) := dk_167 255 226 (dk_at dksX4_replace_6 3 rfl rfl)
theorem dX4_replace_144 : decode cX4_replace 144 = .ok (.iinc 4 1, 3) := dk_132 4 1 (dk_at dksX4_replace_6 6 rfl rfl)
theorem dX4_replace_147 : decode cX4_replace 147 = .ok (.goto (-142), 3) := dk_167 255 114 (dk_at dksX4_replace_6 9 rfl rfl)
theorem dX4_replace_150 : decode cX4_replace 150 = .ok (.iload_n 3, 1) := dk_29 (dk_at dksX4_replace_6 12 rfl rfl)
theorem dX4_replace_151 : decode cX4_replace 151 = .ok (.ireturn, 1) := dk_172 (dk_at dksX4_replace_6 13 rfl rfl)
theorem q89 : (Jvm.Cond.initialized "FormulaEditor$Row") ∈ lw_all := lw_g (lw_at lw_m1 32 rfl) rfl
theorem q202 : (Jvm.Cond.selects "FormulaEditor$Row" ({ cls := "java/lang/Object", name := "hashCode", desc := "()I" } : Jvm.MethodName) ({ cls := "java/lang/Object", name := "hashCode", desc := "()I" } : Jvm.MethodName)) ∈ lw_all := lw_g (lw_at lw_m1 145 rfl) rfl
theorem q667 : (Jvm.Cond.selects "FormulaEditor$Row" ({ cls := "java/lang/Object", name := "getClass", desc := "()Ljava/lang/Class;" } : Jvm.MethodName) ({ cls := "java/lang/Object", name := "getClass", desc := "()Ljava/lang/Class;" } : Jvm.MethodName)) ∈ lw_all := lw_g (lw_at lw_m3 130 rfl) rfl
theorem q928 : (Jvm.Cond.selects "FormulaEditor$Row" ({ cls := "java/lang/Object", name := "equals", desc := "(Ljava/lang/Object;)Z" } : Jvm.MethodName) ({ cls := "java/lang/Object", name := "equals", desc := "(Ljava/lang/Object;)Z" } : Jvm.MethodName)) ∈ lw_all := lw_g (lw_at lw_m4 151 rfl) rfl
theorem q1156 : (Jvm.Cond.instantiable "FormulaEditor$Row" (4 : Nat)) ∈ lw_all := lw_g (lw_at lw_m5 139 rfl) rfl
theorem q1158 : (Jvm.Cond.instanceMethod ({ cls := "FormulaEditor$Row", name := "<init>", desc := "()V" } : Jvm.MethodName)) ∈ lw_all := lw_g (lw_at lw_m5 141 rfl) rfl
theorem q1159 : (Jvm.Cond.code ({ cls := "FormulaEditor$Row", name := "<init>", desc := "()V" } : Jvm.MethodName) prog_10_method_1_code (1 : Nat) (Option.none : Option Jvm.ClassFile.FieldType)) ∈ lw_all := lw_g (lw_at lw_m5 142 rfl) rfl
theorem q1160 : (Jvm.Cond.methodLink "FormulaEditor$Row" (3 : Nat) ({ cls := "java/lang/Object", name := "<init>", desc := "()V" } : Jvm.MethodName)) ∈ lw_all := lw_g (lw_at lw_m5 143 rfl) rfl
theorem q1161 : (Jvm.Cond.classLink "FormulaEditor$Row" (9 : Nat) "java/util/ArrayList") ∈ lw_all := lw_g (lw_at lw_m5 144 rfl) rfl
theorem q1163 : (Jvm.Cond.methodLink "FormulaEditor$Row" (11 : Nat) ({ cls := "java/util/ArrayList", name := "<init>", desc := "()V" } : Jvm.MethodName)) ∈ lw_all := lw_g (lw_at lw_m5 146 rfl) rfl
theorem q1187 : (Jvm.Cond.fieldLink "FormulaEditor$Row" (12 : Nat) "FormulaEditor$Row" "items" "Ljava/util/List;") ∈ lw_all := lw_g (lw_at lw_m5 170 rfl) rfl
theorem q1195 : (Jvm.Cond.fieldLink "FormulaEditor$Row" (56 : Nat) "FormulaEditor$Row" "owner" "LFormulaEditor$Structure;") ∈ lw_all := lw_g (lw_at lw_m5 178 rfl) rfl
theorem q1200 : (Jvm.Cond.fieldLink "FormulaEditor$Row" (124 : Nat) "FormulaEditor$Row" "slot" "I") ∈ lw_all := lw_g (lw_at lw_m5 183 rfl) rfl
theorem q1203 : (Jvm.Cond.laysFinal "FormulaEditor$Row" "FormulaEditor$Row" "items" "Ljava/util/List;") ∈ lw_all := lw_g (lw_at lw_m5 186 rfl) rfl
theorem q1204 : (Jvm.Cond.soleField "FormulaEditor$Row" "items") ∈ lw_all := lw_g (lw_at lw_m5 187 rfl) rfl
theorem q1205 : (Jvm.Cond.lays "FormulaEditor$Row" "FormulaEditor$Row" "owner" "LFormulaEditor$Structure;") ∈ lw_all := lw_g (lw_at lw_m5 188 rfl) rfl
theorem q1206 : (Jvm.Cond.soleField "FormulaEditor$Row" "owner") ∈ lw_all := lw_g (lw_at lw_m5 189 rfl) rfl
theorem q1207 : (Jvm.Cond.lays "FormulaEditor$Row" "FormulaEditor$Row" "slot" "I") ∈ lw_all := lw_g (lw_at lw_m5 190 rfl) rfl
theorem q1208 : (Jvm.Cond.soleField "FormulaEditor$Row" "slot") ∈ lw_all := lw_g (lw_at lw_m5 191 rfl) rfl
theorem q1209 : (Jvm.Cond.lays "FormulaEditor$Row" "FormulaEditor$Row" "box" "LFormulaEditor$Box;") ∈ lw_all := lw_g (lw_at lw_m5 192 rfl) rfl
theorem q1210 : (Jvm.Cond.soleField "FormulaEditor$Row" "box") ∈ lw_all := lw_g (lw_at lw_m5 193 rfl) rfl
theorem q1211 : (Jvm.Cond.superclass "FormulaEditor$Row" "java/lang/Object") ∈ lw_all := lw_g (lw_at lw_m5 194 rfl) rfl
theorem q1454 : (Jvm.Cond.instanceMethod ({ cls := "FormulaEditor$Row", name := "split", desc := "(II)LFormulaEditor$Row;" } : Jvm.MethodName)) ∈ lw_all := lw_g (lw_at lw_m6 197 rfl) rfl
theorem q1455 : (Jvm.Cond.selects "FormulaEditor$Row" ({ cls := "FormulaEditor$Row", name := "split", desc := "(II)LFormulaEditor$Row;" } : Jvm.MethodName) ({ cls := "FormulaEditor$Row", name := "split", desc := "(II)LFormulaEditor$Row;" } : Jvm.MethodName)) ∈ lw_all := lw_g (lw_at lw_m6 198 rfl) rfl
theorem q1456 : (Jvm.Cond.code ({ cls := "FormulaEditor$Row", name := "split", desc := "(II)LFormulaEditor$Row;" } : Jvm.MethodName) prog_10_method_6_code (5 : Nat) (Option.some (Jvm.ClassFile.FieldType.object "FormulaEditor$Row"))) ∈ lw_all := lw_g (lw_at lw_m6 199 rfl) rfl
theorem q1457 : (Jvm.Cond.classLink "FormulaEditor$Row" (13 : Nat) "FormulaEditor$Row") ∈ lw_all := lw_g (lw_at lw_m6 200 rfl) rfl
theorem q1458 : (Jvm.Cond.methodLink "FormulaEditor$Row" (52 : Nat) ({ cls := "FormulaEditor$Row", name := "<init>", desc := "()V" } : Jvm.MethodName)) ∈ lw_all := lw_g (lw_at lw_m6 201 rfl) rfl
theorem q1459 : (Jvm.Cond.interfaceEntry "FormulaEditor$Row" (53 : Nat)) ∈ lw_tbl := lw_at lw_m6 202 rfl
theorem q1460 : (Jvm.Cond.methodLink "FormulaEditor$Row" (53 : Nat) ({ cls := "java/util/List", name := "remove", desc := "(I)Ljava/lang/Object;" } : Jvm.MethodName)) ∈ lw_all := lw_g (lw_at lw_m6 203 rfl) rfl
theorem q1473 : (Jvm.Cond.classLink "FormulaEditor$Row" (25 : Nat) "FormulaEditor$Item") ∈ lw_all := lw_g (lw_at lw_m6 216 rfl) rfl
theorem q1474 : (Jvm.Cond.methodLink "FormulaEditor$Row" (46 : Nat) ({ cls := "FormulaEditor$Row", name := "add", desc := "(LFormulaEditor$Item;)V" } : Jvm.MethodName)) ∈ lw_all := lw_g (lw_at lw_m6 217 rfl) rfl
theorem q1475 : (Jvm.Cond.instanceMethod ({ cls := "FormulaEditor$Row", name := "add", desc := "(LFormulaEditor$Item;)V" } : Jvm.MethodName)) ∈ lw_all := lw_g (lw_at lw_m6 218 rfl) rfl
theorem q1476 : (Jvm.Cond.selects "FormulaEditor$Row" ({ cls := "FormulaEditor$Row", name := "add", desc := "(LFormulaEditor$Item;)V" } : Jvm.MethodName) ({ cls := "FormulaEditor$Row", name := "add", desc := "(LFormulaEditor$Item;)V" } : Jvm.MethodName)) ∈ lw_all := lw_g (lw_at lw_m6 219 rfl) rfl
theorem q1477 : (Jvm.Cond.code ({ cls := "FormulaEditor$Row", name := "add", desc := "(LFormulaEditor$Item;)V" } : Jvm.MethodName) prog_10_method_3_code (2 : Nat) (Option.none : Option Jvm.ClassFile.FieldType)) ∈ lw_all := lw_g (lw_at lw_m6 220 rfl) rfl
theorem q1478 : (Jvm.Cond.interfaceEntry "FormulaEditor$Row" (30 : Nat)) ∈ lw_tbl := lw_at lw_m6 221 rfl
theorem q1479 : (Jvm.Cond.methodLink "FormulaEditor$Row" (30 : Nat) ({ cls := "java/util/List", name := "size", desc := "()I" } : Jvm.MethodName)) ∈ lw_all := lw_g (lw_at lw_m6 222 rfl) rfl
theorem q1480 : (Jvm.Cond.methodLink "FormulaEditor$Row" (34 : Nat) ({ cls := "FormulaEditor$Row", name := "insert", desc := "(ILFormulaEditor$Item;)V" } : Jvm.MethodName)) ∈ lw_all := lw_g (lw_at lw_m6 223 rfl) rfl
theorem q1481 : (Jvm.Cond.instanceMethod ({ cls := "FormulaEditor$Row", name := "insert", desc := "(ILFormulaEditor$Item;)V" } : Jvm.MethodName)) ∈ lw_all := lw_g (lw_at lw_m6 224 rfl) rfl
theorem q1482 : (Jvm.Cond.selects "FormulaEditor$Row" ({ cls := "FormulaEditor$Row", name := "insert", desc := "(ILFormulaEditor$Item;)V" } : Jvm.MethodName) ({ cls := "FormulaEditor$Row", name := "insert", desc := "(ILFormulaEditor$Item;)V" } : Jvm.MethodName)) ∈ lw_all := lw_g (lw_at lw_m6 225 rfl) rfl
theorem q1483 : (Jvm.Cond.code ({ cls := "FormulaEditor$Row", name := "insert", desc := "(ILFormulaEditor$Item;)V" } : Jvm.MethodName) prog_10_method_2_code (3 : Nat) (Option.none : Option Jvm.ClassFile.FieldType)) ∈ lw_all := lw_g (lw_at lw_m6 226 rfl) rfl
theorem q1484 : (Jvm.Cond.interfaceEntry "FormulaEditor$Row" (18 : Nat)) ∈ lw_tbl := lw_at lw_m6 227 rfl
theorem q1485 : (Jvm.Cond.methodLink "FormulaEditor$Row" (18 : Nat) ({ cls := "java/util/List", name := "add", desc := "(ILjava/lang/Object;)V" } : Jvm.MethodName)) ∈ lw_all := lw_g (lw_at lw_m6 228 rfl) rfl
theorem q1548 : (Jvm.Cond.instanceMethod ({ cls := "FormulaEditor$Row", name := "readSize", desc := "()I" } : Jvm.MethodName)) ∈ lw_all := lw_g (lw_at lw_m7 51 rfl) rfl
theorem q1549 : (Jvm.Cond.selects "FormulaEditor$Row" ({ cls := "FormulaEditor$Row", name := "readSize", desc := "()I" } : Jvm.MethodName) ({ cls := "FormulaEditor$Row", name := "readSize", desc := "()I" } : Jvm.MethodName)) ∈ lw_all := lw_g (lw_at lw_m7 52 rfl) rfl
theorem q1550 : (Jvm.Cond.code ({ cls := "FormulaEditor$Row", name := "readSize", desc := "()I" } : Jvm.MethodName) prog_10_method_13_code (5 : Nat) (Option.some Jvm.ClassFile.FieldType.int)) ∈ lw_all := lw_g (lw_at lw_m7 53 rfl) rfl
theorem q1551 : (Jvm.Cond.interfaceEntry "FormulaEditor$Row" (38 : Nat)) ∈ lw_tbl := lw_at lw_m7 54 rfl
theorem q1552 : (Jvm.Cond.methodLink "FormulaEditor$Row" (38 : Nat) ({ cls := "java/util/List", name := "get", desc := "(I)Ljava/lang/Object;" } : Jvm.MethodName)) ∈ lw_all := lw_g (lw_at lw_m7 55 rfl) rfl
theorem q1553 : (Jvm.Cond.classLink "FormulaEditor$Row" (61 : Nat) "FormulaEditor$Structure") ∈ lw_all := lw_g (lw_at lw_m7 56 rfl) rfl
theorem q1555 : (Jvm.Cond.instanceMethod ({ cls := "FormulaEditor$Row", name := "readDepth", desc := "()I" } : Jvm.MethodName)) ∈ lw_all := lw_g (lw_at lw_m7 58 rfl) rfl
theorem q1556 : (Jvm.Cond.selects "FormulaEditor$Row" ({ cls := "FormulaEditor$Row", name := "readDepth", desc := "()I" } : Jvm.MethodName) ({ cls := "FormulaEditor$Row", name := "readDepth", desc := "()I" } : Jvm.MethodName)) ∈ lw_all := lw_g (lw_at lw_m7 59 rfl) rfl
theorem q1557 : (Jvm.Cond.code ({ cls := "FormulaEditor$Row", name := "readDepth", desc := "()I" } : Jvm.MethodName) prog_10_method_14_code (5 : Nat) (Option.some Jvm.ClassFile.FieldType.int)) ∈ lw_all := lw_g (lw_at lw_m7 60 rfl) rfl
theorem q1558 : (Jvm.Cond.methodLink "FormulaEditor$Row" (74 : Nat) ({ cls := "java/lang/Math", name := "max", desc := "(II)I" } : Jvm.MethodName)) ∈ lw_all := lw_g (lw_at lw_m7 61 rfl) rfl
theorem q1563 : (Jvm.Cond.fieldLinkNest "FormulaEditor$Row" (157 : Nat) "FormulaEditor$Structure" "kind" "I" "FormulaEditor") ∈ lw_tbl := lw_at lw_m7 66 rfl
theorem q1568 : (Jvm.Cond.fieldLinkNest "FormulaEditor$Row" (89 : Nat) "FormulaEditor$Structure" "slots" "[LFormulaEditor$Row;" "FormulaEditor") ∈ lw_tbl := lw_at lw_m7 71 rfl
theorem q1570 : (Jvm.Cond.fieldLinkNest "FormulaEditor$Row" (82 : Nat) "FormulaEditor$Structure" "readSize" "I" "FormulaEditor") ∈ lw_tbl := lw_at lw_m7 73 rfl
theorem q1572 : (Jvm.Cond.fieldLinkNest "FormulaEditor$Row" (86 : Nat) "FormulaEditor$Structure" "readDepth" "I" "FormulaEditor") ∈ lw_tbl := lw_at lw_m7 75 rfl
theorem q1574 : (Jvm.Cond.fieldLink "FormulaEditor$Row" (24 : Nat) "FormulaEditor$Item" "row" "LFormulaEditor$Row;") ∈ lw_all := lw_g (lw_at lw_m7 77 rfl) rfl
theorem q1575 : (Jvm.Cond.fieldLink "FormulaEditor$Row" (60 : Nat) "FormulaEditor$Structure" "row" "LFormulaEditor$Row;") ∈ lw_all := lw_g (lw_at lw_m7 78 rfl) rfl
theorem q1614 : (Jvm.Cond.fieldLinkNest "FormulaEditor$Row" (102 : Nat) "FormulaEditor$Symbol" "sign" "C" "FormulaEditor") ∈ lw_tbl := lw_at lw_m7 117 rfl
theorem q1750 : (Jvm.Cond.instanceMethod ({ cls := "FormulaEditor$Row", name := "write", desc := "(Ljava/lang/StringBuilder;)V" } : Jvm.MethodName)) ∈ lw_all := lw_g (lw_at lw_m8 13 rfl) rfl
theorem q1751 : (Jvm.Cond.selects "FormulaEditor$Row" ({ cls := "FormulaEditor$Row", name := "write", desc := "(Ljava/lang/StringBuilder;)V" } : Jvm.MethodName) ({ cls := "FormulaEditor$Row", name := "write", desc := "(Ljava/lang/StringBuilder;)V" } : Jvm.MethodName)) ∈ lw_all := lw_g (lw_at lw_m8 14 rfl) rfl
theorem q1752 : (Jvm.Cond.code ({ cls := "FormulaEditor$Row", name := "write", desc := "(Ljava/lang/StringBuilder;)V" } : Jvm.MethodName) prog_10_method_25_code (5 : Nat) (Option.none : Option Jvm.ClassFile.FieldType)) ∈ lw_all := lw_g (lw_at lw_m8 15 rfl) rfl
theorem q1753 : (Jvm.Cond.methodLink "FormulaEditor$Row" (137 : Nat) ({ cls := "FormulaEditor$Item", name := "code", desc := "()I" } : Jvm.MethodName)) ∈ lw_all := lw_g (lw_at lw_m8 16 rfl) rfl
theorem q1754 : (Jvm.Cond.methodLink "FormulaEditor$Row" (153 : Nat) ({ cls := "FormulaEditor$Row", name := "writeStructure", desc := "(LFormulaEditor$Structure;ZLjava/lang/StringBuilder;)V" } : Jvm.MethodName)) ∈ lw_all := lw_g (lw_at lw_m8 17 rfl) rfl
theorem q1755 : (Jvm.Cond.static ({ cls := "FormulaEditor$Row", name := "writeStructure", desc := "(LFormulaEditor$Structure;ZLjava/lang/StringBuilder;)V" } : Jvm.MethodName)) ∈ lw_all := lw_g (lw_at lw_m8 18 rfl) rfl
theorem q1756 : (Jvm.Cond.code ({ cls := "FormulaEditor$Row", name := "writeStructure", desc := "(LFormulaEditor$Structure;ZLjava/lang/StringBuilder;)V" } : Jvm.MethodName) prog_10_method_26_code (4 : Nat) (Option.none : Option Jvm.ClassFile.FieldType)) ∈ lw_all := lw_g (lw_at lw_m8 19 rfl) rfl
theorem q1757 : (Jvm.Cond.methodLink "FormulaEditor$Row" (160 : Nat) ({ cls := "FormulaEditor$Row", name := "isPlainOperand", desc := "()Z" } : Jvm.MethodName)) ∈ lw_all := lw_g (lw_at lw_m8 20 rfl) rfl
theorem q1758 : (Jvm.Cond.privateMethod ({ cls := "FormulaEditor$Row", name := "isPlainOperand", desc := "()Z" } : Jvm.MethodName)) ∈ lw_tbl := lw_at lw_m8 21 rfl
theorem q1759 : (Jvm.Cond.instanceMethod ({ cls := "FormulaEditor$Row", name := "isPlainOperand", desc := "()Z" } : Jvm.MethodName)) ∈ lw_all := lw_g (lw_at lw_m8 22 rfl) rfl
theorem q1760 : (Jvm.Cond.code ({ cls := "FormulaEditor$Row", name := "isPlainOperand", desc := "()Z" } : Jvm.MethodName) prog_10_method_21_code (2 : Nat) (Option.some Jvm.ClassFile.FieldType.boolean)) ∈ lw_all := lw_g (lw_at lw_m8 23 rfl) rfl
theorem q1761 : (Jvm.Cond.interfaceEntry "FormulaEditor$Row" (93 : Nat)) ∈ lw_tbl := lw_at lw_m8 24 rfl
theorem q1762 : (Jvm.Cond.methodLink "FormulaEditor$Row" (93 : Nat) ({ cls := "java/util/List", name := "isEmpty", desc := "()Z" } : Jvm.MethodName)) ∈ lw_all := lw_g (lw_at lw_m8 25 rfl) rfl
theorem q1763 : (Jvm.Cond.methodLink "FormulaEditor$Row" (130 : Nat) ({ cls := "FormulaEditor$Item", name := "isBase", desc := "()Z" } : Jvm.MethodName)) ∈ lw_all := lw_g (lw_at lw_m8 26 rfl) rfl
theorem q1773 : (Jvm.Cond.methodLink "FormulaEditor$Row" (133 : Nat) ({ cls := "FormulaEditor$Row", name := "isScriptFrom", desc := "(I)Z" } : Jvm.MethodName)) ∈ lw_all := lw_g (lw_at lw_m8 36 rfl) rfl
theorem q1774 : (Jvm.Cond.privateMethod ({ cls := "FormulaEditor$Row", name := "isScriptFrom", desc := "(I)Z" } : Jvm.MethodName)) ∈ lw_tbl := lw_at lw_m8 37 rfl
theorem q1775 : (Jvm.Cond.instanceMethod ({ cls := "FormulaEditor$Row", name := "isScriptFrom", desc := "(I)Z" } : Jvm.MethodName)) ∈ lw_all := lw_g (lw_at lw_m8 38 rfl) rfl
theorem q1776 : (Jvm.Cond.code ({ cls := "FormulaEditor$Row", name := "isScriptFrom", desc := "(I)Z" } : Jvm.MethodName) prog_10_method_20_code (6 : Nat) (Option.some Jvm.ClassFile.FieldType.boolean)) ∈ lw_all := lw_g (lw_at lw_m8 39 rfl) rfl
theorem q1777 : (Jvm.Cond.methodLink "FormulaEditor$Row" (127 : Nat) ({ cls := "FormulaEditor$Structure", name := "isScript", desc := "()Z" } : Jvm.MethodName)) ∈ lw_all := lw_g (lw_at lw_m8 40 rfl) rfl
theorem q1781 : (Jvm.Cond.methodLink "FormulaEditor$Row" (163 : Nat) ({ cls := "FormulaEditor$Row", name := "writeAs", desc := "(ZLjava/lang/StringBuilder;)V" } : Jvm.MethodName)) ∈ lw_all := lw_g (lw_at lw_m8 44 rfl) rfl
theorem q1782 : (Jvm.Cond.privateMethod ({ cls := "FormulaEditor$Row", name := "writeAs", desc := "(ZLjava/lang/StringBuilder;)V" } : Jvm.MethodName)) ∈ lw_tbl := lw_at lw_m8 45 rfl
theorem q1783 : (Jvm.Cond.instanceMethod ({ cls := "FormulaEditor$Row", name := "writeAs", desc := "(ZLjava/lang/StringBuilder;)V" } : Jvm.MethodName)) ∈ lw_all := lw_g (lw_at lw_m8 46 rfl) rfl
theorem q1784 : (Jvm.Cond.code ({ cls := "FormulaEditor$Row", name := "writeAs", desc := "(ZLjava/lang/StringBuilder;)V" } : Jvm.MethodName) prog_10_method_24_code (3 : Nat) (Option.none : Option Jvm.ClassFile.FieldType)) ∈ lw_all := lw_g (lw_at lw_m8 47 rfl) rfl
theorem q1785 : (Jvm.Cond.methodLink "FormulaEditor$Row" (146 : Nat) ({ cls := "FormulaEditor$Row", name := "write", desc := "(Ljava/lang/StringBuilder;)V" } : Jvm.MethodName)) ∈ lw_all := lw_g (lw_at lw_m8 48 rfl) rfl
theorem q1786 : (Jvm.Cond.methodLink "FormulaEditor$Row" (150 : Nat) ({ cls := "FormulaEditor$Row", name := "writeInParentheses", desc := "(Ljava/lang/StringBuilder;)V" } : Jvm.MethodName)) ∈ lw_all := lw_g (lw_at lw_m8 49 rfl) rfl
theorem q1787 : (Jvm.Cond.privateMethod ({ cls := "FormulaEditor$Row", name := "writeInParentheses", desc := "(Ljava/lang/StringBuilder;)V" } : Jvm.MethodName)) ∈ lw_tbl := lw_at lw_m8 50 rfl
theorem q1788 : (Jvm.Cond.instanceMethod ({ cls := "FormulaEditor$Row", name := "writeInParentheses", desc := "(Ljava/lang/StringBuilder;)V" } : Jvm.MethodName)) ∈ lw_all := lw_g (lw_at lw_m8 51 rfl) rfl
theorem q1789 : (Jvm.Cond.code ({ cls := "FormulaEditor$Row", name := "writeInParentheses", desc := "(Ljava/lang/StringBuilder;)V" } : Jvm.MethodName) prog_10_method_23_code (2 : Nat) (Option.none : Option Jvm.ClassFile.FieldType)) ∈ lw_all := lw_g (lw_at lw_m8 52 rfl) rfl
theorem q1790 : (Jvm.Cond.methodLink "FormulaEditor$Row" (140 : Nat) ({ cls := "java/lang/StringBuilder", name := "append", desc := "(C)Ljava/lang/StringBuilder;" } : Jvm.MethodName)) ∈ lw_all := lw_g (lw_at lw_m8 53 rfl) rfl
theorem q1810 : (Jvm.Cond.methodLink "FormulaEditor$Row" (167 : Nat) ({ cls := "FormulaEditor$Structure", name := "last", desc := "()LFormulaEditor$Row;" } : Jvm.MethodName)) ∈ lw_all := lw_g (lw_at lw_m8 73 rfl) rfl
theorem q1811 : (Jvm.Cond.methodLink "FormulaEditor$Row" (171 : Nat) ({ cls := "FormulaEditor$Row", name := "isPlainBase", desc := "()Z" } : Jvm.MethodName)) ∈ lw_all := lw_g (lw_at lw_m8 74 rfl) rfl
theorem q1812 : (Jvm.Cond.privateMethod ({ cls := "FormulaEditor$Row", name := "isPlainBase", desc := "()Z" } : Jvm.MethodName)) ∈ lw_tbl := lw_at lw_m8 75 rfl
theorem q1813 : (Jvm.Cond.instanceMethod ({ cls := "FormulaEditor$Row", name := "isPlainBase", desc := "()Z" } : Jvm.MethodName)) ∈ lw_all := lw_g (lw_at lw_m8 76 rfl) rfl
theorem q1814 : (Jvm.Cond.code ({ cls := "FormulaEditor$Row", name := "isPlainBase", desc := "()Z" } : Jvm.MethodName) prog_10_method_22_code (1 : Nat) (Option.some Jvm.ClassFile.FieldType.boolean)) ∈ lw_all := lw_g (lw_at lw_m8 77 rfl) rfl
theorem q1833 : (Jvm.Cond.instanceMethod ({ cls := "FormulaEditor$Row", name := "indexOf", desc := "(LFormulaEditor$Item;)I" } : Jvm.MethodName)) ∈ lw_all := lw_g (lw_at lw_m8 96 rfl) rfl
theorem q1834 : (Jvm.Cond.selects "FormulaEditor$Row" ({ cls := "FormulaEditor$Row", name := "indexOf", desc := "(LFormulaEditor$Item;)I" } : Jvm.MethodName) ({ cls := "FormulaEditor$Row", name := "indexOf", desc := "(LFormulaEditor$Item;)I" } : Jvm.MethodName)) ∈ lw_all := lw_g (lw_at lw_m8 97 rfl) rfl
theorem q1835 : (Jvm.Cond.code ({ cls := "FormulaEditor$Row", name := "indexOf", desc := "(LFormulaEditor$Item;)I" } : Jvm.MethodName) prog_10_method_8_code (3 : Nat) (Option.some Jvm.ClassFile.FieldType.int)) ∈ lw_all := lw_g (lw_at lw_m8 98 rfl) rfl
theorem q1846 : (Jvm.Cond.instanceMethod ({ cls := "FormulaEditor$Row", name := "place", desc := "(I)I" } : Jvm.MethodName)) ∈ lw_all := lw_g (lw_at lw_m8 109 rfl) rfl
theorem q1847 : (Jvm.Cond.selects "FormulaEditor$Row" ({ cls := "FormulaEditor$Row", name := "place", desc := "(I)I" } : Jvm.MethodName) ({ cls := "FormulaEditor$Row", name := "place", desc := "(I)I" } : Jvm.MethodName)) ∈ lw_all := lw_g (lw_at lw_m8 110 rfl) rfl
theorem q1848 : (Jvm.Cond.code ({ cls := "FormulaEditor$Row", name := "place", desc := "(I)I" } : Jvm.MethodName) prog_10_method_19_code (4 : Nat) (Option.some Jvm.ClassFile.FieldType.int)) ∈ lw_all := lw_g (lw_at lw_m8 111 rfl) rfl
theorem q1849 : (Jvm.Cond.methodLink "FormulaEditor$Row" (117 : Nat) ({ cls := "FormulaEditor$Row", name := "indexOf", desc := "(LFormulaEditor$Item;)I" } : Jvm.MethodName)) ∈ lw_all := lw_g (lw_at lw_m8 112 rfl) rfl
theorem q1850 : (Jvm.Cond.methodLink "FormulaEditor$Row" (120 : Nat) ({ cls := "FormulaEditor$Row", name := "place", desc := "(I)I" } : Jvm.MethodName)) ∈ lw_all := lw_g (lw_at lw_m8 113 rfl) rfl
theorem q1851 : (Jvm.Cond.methodLink "FormulaEditor$Row" (114 : Nat) ({ cls := "FormulaEditor$Row", name := "places", desc := "()I" } : Jvm.MethodName)) ∈ lw_all := lw_g (lw_at lw_m8 114 rfl) rfl
theorem q1852 : (Jvm.Cond.instanceMethod ({ cls := "FormulaEditor$Row", name := "places", desc := "()I" } : Jvm.MethodName)) ∈ lw_all := lw_g (lw_at lw_m8 115 rfl) rfl
theorem q1853 : (Jvm.Cond.selects "FormulaEditor$Row" ({ cls := "FormulaEditor$Row", name := "places", desc := "()I" } : Jvm.MethodName) ({ cls := "FormulaEditor$Row", name := "places", desc := "()I" } : Jvm.MethodName)) ∈ lw_all := lw_g (lw_at lw_m8 116 rfl) rfl
theorem q1854 : (Jvm.Cond.code ({ cls := "FormulaEditor$Row", name := "places", desc := "()I" } : Jvm.MethodName) prog_10_method_17_code (3 : Nat) (Option.some Jvm.ClassFile.FieldType.int)) ∈ lw_all := lw_g (lw_at lw_m8 117 rfl) rfl
theorem q1855 : (Jvm.Cond.methodLink "FormulaEditor$Row" (110 : Nat) ({ cls := "FormulaEditor$Row", name := "placesIn", desc := "(LFormulaEditor$Item;)I" } : Jvm.MethodName)) ∈ lw_all := lw_g (lw_at lw_m8 118 rfl) rfl
theorem q1856 : (Jvm.Cond.static ({ cls := "FormulaEditor$Row", name := "placesIn", desc := "(LFormulaEditor$Item;)I" } : Jvm.MethodName)) ∈ lw_all := lw_g (lw_at lw_m8 119 rfl) rfl
theorem q1857 : (Jvm.Cond.code ({ cls := "FormulaEditor$Row", name := "placesIn", desc := "(LFormulaEditor$Item;)I" } : Jvm.MethodName) prog_10_method_18_code (4 : Nat) (Option.some Jvm.ClassFile.FieldType.int)) ∈ lw_all := lw_g (lw_at lw_m8 120 rfl) rfl
theorem q1911 : (Jvm.Cond.instanceMethod ({ cls := "FormulaEditor$Row", name := "size", desc := "()I" } : Jvm.MethodName)) ∈ lw_all := lw_g (lw_at lw_m8 174 rfl) rfl
theorem q1912 : (Jvm.Cond.selects "FormulaEditor$Row" ({ cls := "FormulaEditor$Row", name := "size", desc := "()I" } : Jvm.MethodName) ({ cls := "FormulaEditor$Row", name := "size", desc := "()I" } : Jvm.MethodName)) ∈ lw_all := lw_g (lw_at lw_m8 175 rfl) rfl
theorem q1913 : (Jvm.Cond.code ({ cls := "FormulaEditor$Row", name := "size", desc := "()I" } : Jvm.MethodName) prog_10_method_10_code (1 : Nat) (Option.some Jvm.ClassFile.FieldType.int)) ∈ lw_all := lw_g (lw_at lw_m8 176 rfl) rfl
theorem q1914 : (Jvm.Cond.methodLink "FormulaEditor$Row" (67 : Nat) ({ cls := "FormulaEditor$Row", name := "sizeOf", desc := "(II)I" } : Jvm.MethodName)) ∈ lw_all := lw_g (lw_at lw_m8 177 rfl) rfl
theorem q1915 : (Jvm.Cond.instanceMethod ({ cls := "FormulaEditor$Row", name := "sizeOf", desc := "(II)I" } : Jvm.MethodName)) ∈ lw_all := lw_g (lw_at lw_m8 178 rfl) rfl
theorem q1916 : (Jvm.Cond.selects "FormulaEditor$Row" ({ cls := "FormulaEditor$Row", name := "sizeOf", desc := "(II)I" } : Jvm.MethodName) ({ cls := "FormulaEditor$Row", name := "sizeOf", desc := "(II)I" } : Jvm.MethodName)) ∈ lw_all := lw_g (lw_at lw_m8 179 rfl) rfl
theorem q1917 : (Jvm.Cond.code ({ cls := "FormulaEditor$Row", name := "sizeOf", desc := "(II)I" } : Jvm.MethodName) prog_10_method_9_code (5 : Nat) (Option.some Jvm.ClassFile.FieldType.int)) ∈ lw_all := lw_g (lw_at lw_m8 180 rfl) rfl
theorem q1918 : (Jvm.Cond.methodLink "FormulaEditor$Row" (66 : Nat) ({ cls := "FormulaEditor$Item", name := "size", desc := "()I" } : Jvm.MethodName)) ∈ lw_all := lw_g (lw_at lw_m8 181 rfl) rfl
theorem q1937 : (Jvm.Cond.instanceMethod ({ cls := "FormulaEditor$Row", name := "depth", desc := "()I" } : Jvm.MethodName)) ∈ lw_all := lw_g (lw_at lw_m8 200 rfl) rfl
theorem q1938 : (Jvm.Cond.selects "FormulaEditor$Row" ({ cls := "FormulaEditor$Row", name := "depth", desc := "()I" } : Jvm.MethodName) ({ cls := "FormulaEditor$Row", name := "depth", desc := "()I" } : Jvm.MethodName)) ∈ lw_all := lw_g (lw_at lw_m8 201 rfl) rfl
theorem q1939 : (Jvm.Cond.code ({ cls := "FormulaEditor$Row", name := "depth", desc := "()I" } : Jvm.MethodName) prog_10_method_12_code (1 : Nat) (Option.some Jvm.ClassFile.FieldType.int)) ∈ lw_all := lw_g (lw_at lw_m8 202 rfl) rfl
theorem q1940 : (Jvm.Cond.methodLink "FormulaEditor$Row" (79 : Nat) ({ cls := "FormulaEditor$Row", name := "depthOf", desc := "(II)I" } : Jvm.MethodName)) ∈ lw_all := lw_g (lw_at lw_m8 203 rfl) rfl
theorem q1941 : (Jvm.Cond.instanceMethod ({ cls := "FormulaEditor$Row", name := "depthOf", desc := "(II)I" } : Jvm.MethodName)) ∈ lw_all := lw_g (lw_at lw_m8 204 rfl) rfl
theorem q1942 : (Jvm.Cond.selects "FormulaEditor$Row" ({ cls := "FormulaEditor$Row", name := "depthOf", desc := "(II)I" } : Jvm.MethodName) ({ cls := "FormulaEditor$Row", name := "depthOf", desc := "(II)I" } : Jvm.MethodName)) ∈ lw_all := lw_g (lw_at lw_m8 205 rfl) rfl
theorem q1943 : (Jvm.Cond.code ({ cls := "FormulaEditor$Row", name := "depthOf", desc := "(II)I" } : Jvm.MethodName) prog_10_method_11_code (5 : Nat) (Option.some Jvm.ClassFile.FieldType.int)) ∈ lw_all := lw_g (lw_at lw_m8 206 rfl) rfl
theorem q1944 : (Jvm.Cond.methodLink "FormulaEditor$Row" (71 : Nat) ({ cls := "FormulaEditor$Item", name := "depth", desc := "()I" } : Jvm.MethodName)) ∈ lw_all := lw_g (lw_at lw_m8 207 rfl) rfl
theorem q1955 : (Jvm.Cond.instanceMethod ({ cls := "FormulaEditor$Row", name := "emptySlots", desc := "()I" } : Jvm.MethodName)) ∈ lw_all := lw_g (lw_at lw_m8 218 rfl) rfl
theorem q1956 : (Jvm.Cond.selects "FormulaEditor$Row" ({ cls := "FormulaEditor$Row", name := "emptySlots", desc := "()I" } : Jvm.MethodName) ({ cls := "FormulaEditor$Row", name := "emptySlots", desc := "()I" } : Jvm.MethodName)) ∈ lw_all := lw_g (lw_at lw_m8 219 rfl) rfl
theorem q1957 : (Jvm.Cond.code ({ cls := "FormulaEditor$Row", name := "emptySlots", desc := "()I" } : Jvm.MethodName) prog_10_method_15_code (5 : Nat) (Option.some Jvm.ClassFile.FieldType.int)) ∈ lw_all := lw_g (lw_at lw_m8 220 rfl) rfl
theorem q1958 : (Jvm.Cond.methodLink "FormulaEditor$Row" (97 : Nat) ({ cls := "FormulaEditor$Row", name := "emptySlots", desc := "()I" } : Jvm.MethodName)) ∈ lw_all := lw_g (lw_at lw_m8 221 rfl) rfl
theorem q2006 : (Jvm.Cond.instanceMethod ({ cls := "FormulaEditor$Row", name := "level", desc := "()I" } : Jvm.MethodName)) ∈ lw_all := lw_g (lw_at lw_m9 29 rfl) rfl
theorem q2007 : (Jvm.Cond.selects "FormulaEditor$Row" ({ cls := "FormulaEditor$Row", name := "level", desc := "()I" } : Jvm.MethodName) ({ cls := "FormulaEditor$Row", name := "level", desc := "()I" } : Jvm.MethodName)) ∈ lw_all := lw_g (lw_at lw_m9 30 rfl) rfl
theorem q2008 : (Jvm.Cond.code ({ cls := "FormulaEditor$Row", name := "level", desc := "()I" } : Jvm.MethodName) prog_10_method_7_code (1 : Nat) (Option.some Jvm.ClassFile.FieldType.int)) ∈ lw_all := lw_g (lw_at lw_m9 31 rfl) rfl
theorem q2009 : (Jvm.Cond.methodLink "FormulaEditor$Row" (63 : Nat) ({ cls := "FormulaEditor$Row", name := "level", desc := "()I" } : Jvm.MethodName)) ∈ lw_all := lw_g (lw_at lw_m9 32 rfl) rfl
theorem q2095 : (Jvm.Cond.instanceMethod ({ cls := "FormulaEditor$Row", name := "addCopies", desc := "(LFormulaEditor$Row;II)V" } : Jvm.MethodName)) ∈ lw_all := lw_g (lw_at lw_m9 118 rfl) rfl
theorem q2096 : (Jvm.Cond.selects "FormulaEditor$Row" ({ cls := "FormulaEditor$Row", name := "addCopies", desc := "(LFormulaEditor$Row;II)V" } : Jvm.MethodName) ({ cls := "FormulaEditor$Row", name := "addCopies", desc := "(LFormulaEditor$Row;II)V" } : Jvm.MethodName)) ∈ lw_all := lw_g (lw_at lw_m9 119 rfl) rfl
theorem q2097 : (Jvm.Cond.code ({ cls := "FormulaEditor$Row", name := "addCopies", desc := "(LFormulaEditor$Row;II)V" } : Jvm.MethodName) prog_10_method_4_code (5 : Nat) (Option.none : Option Jvm.ClassFile.FieldType)) ∈ lw_all := lw_g (lw_at lw_m9 120 rfl) rfl
theorem q2098 : (Jvm.Cond.methodLink "FormulaEditor$Row" (42 : Nat) ({ cls := "FormulaEditor$Item", name := "copy", desc := "()LFormulaEditor$Item;" } : Jvm.MethodName)) ∈ lw_all := lw_g (lw_at lw_m9 121 rfl) rfl
theorem q2198 : (Jvm.Cond.instanceMethod ({ cls := "FormulaEditor$Row", name := "take", desc := "(ILFormulaEditor$Row;)I" } : Jvm.MethodName)) ∈ lw_all := lw_g (lw_at lw_m9 221 rfl) rfl
theorem q2199 : (Jvm.Cond.selects "FormulaEditor$Row" ({ cls := "FormulaEditor$Row", name := "take", desc := "(ILFormulaEditor$Row;)I" } : Jvm.MethodName) ({ cls := "FormulaEditor$Row", name := "take", desc := "(ILFormulaEditor$Row;)I" } : Jvm.MethodName)) ∈ lw_all := lw_g (lw_at lw_m9 222 rfl) rfl
theorem q2200 : (Jvm.Cond.code ({ cls := "FormulaEditor$Row", name := "take", desc := "(ILFormulaEditor$Row;)I" } : Jvm.MethodName) prog_10_method_5_code (5 : Nat) (Option.some Jvm.ClassFile.FieldType.int)) ∈ lw_all := lw_g (lw_at lw_m9 223 rfl) rfl
theorem q2201 : (Jvm.Cond.interfaceEntry "FormulaEditor$Row" (49 : Nat)) ∈ lw_tbl := lw_at lw_m9 224 rfl
theorem q2202 : (Jvm.Cond.methodLink "FormulaEditor$Row" (49 : Nat) ({ cls := "java/util/List", name := "clear", desc := "()V" } : Jvm.MethodName)) ∈ lw_all := lw_g (lw_at lw_m9 225 rfl) rfl
theorem q2262 : (Jvm.Cond.instanceMethod ({ cls := "FormulaEditor$Row", name := "replace", desc := "(CC)I" } : Jvm.MethodName)) ∈ lw_all := lw_g (lw_at lw_m10 45 rfl) rfl
theorem q2263 : (Jvm.Cond.selects "FormulaEditor$Row" ({ cls := "FormulaEditor$Row", name := "replace", desc := "(CC)I" } : Jvm.MethodName) ({ cls := "FormulaEditor$Row", name := "replace", desc := "(CC)I" } : Jvm.MethodName)) ∈ lw_all := lw_g (lw_at lw_m10 46 rfl) rfl
theorem q2264 : (Jvm.Cond.code ({ cls := "FormulaEditor$Row", name := "replace", desc := "(CC)I" } : Jvm.MethodName) prog_10_method_16_code (9 : Nat) (Option.some Jvm.ClassFile.FieldType.int)) ∈ lw_all := lw_g (lw_at lw_m10 47 rfl) rfl
theorem q2265 : (Jvm.Cond.classLink "FormulaEditor$Row" (100 : Nat) "FormulaEditor$Symbol") ∈ lw_all := lw_g (lw_at lw_m10 48 rfl) rfl
theorem q2266 : (Jvm.Cond.methodLink "FormulaEditor$Row" (106 : Nat) ({ cls := "FormulaEditor$Row", name := "replace", desc := "(CC)I" } : Jvm.MethodName)) ∈ lw_all := lw_g (lw_at lw_m10 49 rfl) rfl
theorem q2744 : (Jvm.Cond.castable "FormulaEditor$Row" "java/lang/Object") ∈ lw_tbl := lw_at lw_m12 47 rfl
abbrev cX6_init : ByteArray := prog_8_method_1_code
def yX6_init : MethodName := ⟨RX6, "<init>", "(LFormulaEditor;)V"⟩
def dkwX6_init_1 : List UInt8 := [187, 0, 22, 89, 1, 3, 183, 0, 24, 185, 0, 27, 2, 0, 177]
abbrev dktX6_init_1 : List UInt8 := dkwX6_init_1 ++ []
def dkwX6_init_0 : List UInt8 := [42, 43, 181, 0, 3, 42, 183, 0, 9, 42, 187, 0, 15, 89, 183, 0, 17, 181, 0, 18, 42, 180, 0, 18]
abbrev dktX6_init_0 : List UInt8 := dkwX6_init_0 ++ dktX6_init_1
theorem dksX6_init_0 : cX6_init.data.toList.drop 0 = dktX6_init_0 := by decide +kernel
theorem dksX6_init_1 : cX6_init.data.toList.drop 24 = dktX6_init_1 := dk_seg dksX6_init_0 24 rfl rfl
theorem dX6_init_0 : decode cX6_init 0 = .ok (.aload_n 0, 1) := dk_42 (dk_at dksX6_init_0 0 rfl rfl)
theorem dX6_init_1 : decode cX6_init 1 = .ok (.aload_n 1, 1) := dk_43 (dk_at dksX6_init_0 1 rfl rfl)
theorem dX6_init_2 : decode cX6_init 2 = .ok (.putfield 3, 3) := dk_181 0 3 (dk_at dksX6_init_0 2 rfl rfl)
theorem dX6_init_5 : decode cX6_init 5 = .ok (.aload_n 0, 1) := dk_42 (dk_at dksX6_init_0 5 rfl rfl)
theorem dX6_init_6 : decode cX6_init 6 = .ok (.invokespecial 9, 3) := dk_183 0 9 (dk_at dksX6_init_0 6 rfl rfl)
theorem dX6_init_9 : decode cX6_init 9 = .ok (.aload_n 0, 1) := dk_42 (dk_at dksX6_init_0 9 rfl rfl)
theorem dX6_init_10 : decode cX6_init 10 = .ok (.new 15, 3) := dk_187 0 15 (dk_at dksX6_init_0 10 rfl rfl)
theorem dX6_init_13 : decode cX6_init 13 = .ok (.dup, 1) := dk_89 (dk_at dksX6_init_0 13 rfl rfl)
theorem dX6_init_14 : decode cX6_init 14 = .ok (.invokespecial 17, 3) := dk_183 0 17 (dk_at dksX6_init_0 14 rfl rfl)
theorem dX6_init_17 : decode cX6_init 17 = .ok (.putfield 18, 3) := dk_181 0 18 (dk_at dksX6_init_0 17 rfl rfl)
theorem dX6_init_20 : decode cX6_init 20 = .ok (.aload_n 0, 1) := dk_42 (dk_at dksX6_init_0 20 rfl rfl)
theorem dX6_init_21 : decode cX6_init 21 = .ok (.getfield 18, 3) := dk_180 0 18 (dk_at dksX6_init_0 21 rfl rfl)
theorem dX6_init_24 : decode cX6_init 24 = .ok (.new 22, 3) := dk_187 0 22 (dk_at dksX6_init_1 0 rfl rfl)
theorem dX6_init_27 : decode cX6_init 27 = .ok (.dup, 1) := dk_89 (dk_at dksX6_init_1 3 rfl rfl)
theorem dX6_init_28 : decode cX6_init 28 = .ok (.aconst_null, 1) := dk_1 (dk_at dksX6_init_1 4 rfl rfl)
theorem dX6_init_29 : decode cX6_init 29 = .ok (.iconst 0, 1) := dk_3 (dk_at dksX6_init_1 5 rfl rfl)
theorem dX6_init_30 : decode cX6_init 30 = .ok (.invokespecial 24, 3) := dk_183 0 24 (dk_at dksX6_init_1 6 rfl rfl)
theorem dX6_init_33 : decode cX6_init 33 = .ok (.invokeinterface 27 2, 5) := by decide +kernel
theorem dX6_init_38 : decode cX6_init 38 = .ok (.return_, 1) := dk_177 (dk_at dksX6_init_1 14 rfl rfl)
abbrev cX6_read : ByteArray := prog_8_method_3_code
def yX6_read : MethodName := ⟨RX6, "read", "()LFormulaEditor$Row;"⟩
def dkwX6_read_4 : List UInt8 := [180, 0, 67, 176]
abbrev dktX6_read_4 : List UInt8 := dkwX6_read_4 ++ []
def dkwX6_read_3 : List UInt8 := [185, 0, 56, 1, 0, 4, 164, 0, 5, 1, 176, 42, 182, 0, 60, 182, 0, 64, 42, 182, 0, 60]
abbrev dktX6_read_3 : List UInt8 := dkwX6_read_3 ++ dktX6_read_4
def dkwX6_read_2 : List UInt8 := [180, 0, 37, 42, 180, 0, 3, 180, 0, 41, 161, 0, 23, 42, 180, 0, 52, 199, 0, 16, 42, 180, 0, 18]
abbrev dktX6_read_2 : List UInt8 := dkwX6_read_2 ++ dktX6_read_3
def dkwX6_read_1 : List UInt8 := [180, 0, 37, 52, 182, 0, 48, 153, 0, 16, 42, 89, 180, 0, 37, 4, 96, 181, 0, 37, 167, 255, 213, 42]
abbrev dktX6_read_1 : List UInt8 := dkwX6_read_1 ++ dktX6_read_2
def dkwX6_read_0 : List UInt8 := [42, 180, 0, 37, 42, 180, 0, 3, 180, 0, 41, 162, 0, 35, 42, 42, 180, 0, 3, 180, 0, 44, 42]
abbrev dktX6_read_0 : List UInt8 := dkwX6_read_0 ++ dktX6_read_1
theorem dksX6_read_0 : cX6_read.data.toList.drop 0 = dktX6_read_0 := by decide +kernel
theorem dksX6_read_1 : cX6_read.data.toList.drop 23 = dktX6_read_1 := dk_seg dksX6_read_0 23 rfl rfl
theorem dksX6_read_2 : cX6_read.data.toList.drop 47 = dktX6_read_2 := dk_seg dksX6_read_1 24 rfl rfl
theorem dksX6_read_3 : cX6_read.data.toList.drop 71 = dktX6_read_3 := dk_seg dksX6_read_2 24 rfl rfl
theorem dksX6_read_4 : cX6_read.data.toList.drop 93 = dktX6_read_4 := dk_seg dksX6_read_3 22 rfl rfl
theorem dX6_read_0 : decode cX6_read 0 = .ok (.aload_n 0, 1) := dk_42 (dk_at dksX6_read_0 0 rfl rfl)
theorem dX6_read_1 : decode cX6_read 1 = .ok (.getfield 37, 3) := dk_180 0 37 (dk_at dksX6_read_0 1 rfl rfl)
theorem dX6_read_4 : decode cX6_read 4 = .ok (.aload_n 0, 1) := dk_42 (dk_at dksX6_read_0 4 rfl rfl)
theorem dX6_read_5 : decode cX6_read 5 = .ok (.getfield 3, 3) := dk_180 0 3 (dk_at dksX6_read_0 5 rfl rfl)
theorem dX6_read_8 : decode cX6_read 8 = .ok (.getfield 41, 3) := dk_180 0 41 (dk_at dksX6_read_0 8 rfl rfl)
theorem dX6_read_11 : decode cX6_read 11 = .ok (.if_icmp .ge 35, 3) := dk_162 0 35 (dk_at dksX6_read_0 11 rfl rfl)
theorem dX6_read_14 : decode cX6_read 14 = .ok (.aload_n 0, 1) := dk_42 (dk_at dksX6_read_0 14 rfl rfl)
theorem dX6_read_15 : decode cX6_read 15 = .ok (.aload_n 0, 1) := dk_42 (dk_at dksX6_read_0 15 rfl rfl)
theorem dX6_read_16 : decode cX6_read 16 = .ok (.getfield 3, 3) := dk_180 0 3 (dk_at dksX6_read_0 16 rfl rfl)
theorem dX6_read_19 : decode cX6_read 19 = .ok (.getfield 44, 3) := dk_180 0 44 (dk_at dksX6_read_0 19 rfl rfl)
theorem dX6_read_22 : decode cX6_read 22 = .ok (.aload_n 0, 1) := dk_42 (dk_at dksX6_read_0 22 rfl rfl)
theorem dX6_read_23 : decode cX6_read 23 = .ok (.getfield 37, 3) := dk_180 0 37 (dk_at dksX6_read_1 0 rfl rfl)
theorem dX6_read_26 : decode cX6_read 26 = .ok (.caload, 1) := dk_52 (dk_at dksX6_read_1 3 rfl rfl)
theorem dX6_read_27 : decode cX6_read 27 = .ok (.invokevirtual 48, 3) := dk_182 0 48 (dk_at dksX6_read_1 4 rfl rfl)
theorem dX6_read_30 : decode cX6_read 30 = .ok (.ifCond .eq 16, 3) := dk_153 0 16 (dk_at dksX6_read_1 7 rfl rfl)
theorem dX6_read_33 : decode cX6_read 33 = .ok (.aload_n 0, 1) := dk_42 (dk_at dksX6_read_1 10 rfl rfl)
theorem dX6_read_34 : decode cX6_read 34 = .ok (.dup, 1) := dk_89 (dk_at dksX6_read_1 11 rfl rfl)
theorem dX6_read_35 : decode cX6_read 35 = .ok (.getfield 37, 3) := dk_180 0 37 (dk_at dksX6_read_1 12 rfl rfl)
theorem dX6_read_38 : decode cX6_read 38 = .ok (.iconst 1, 1) := dk_4 (dk_at dksX6_read_1 15 rfl rfl)
theorem dX6_read_39 : decode cX6_read 39 = .ok (.iadd, 1) := dk_96 (dk_at dksX6_read_1 16 rfl rfl)
theorem dX6_read_40 : decode cX6_read 40 = .ok (.putfield 37, 3) := dk_181 0 37 (dk_at dksX6_read_1 17 rfl rfl)
theorem dX6_read_43 : decode cX6_read 43 = .ok (.goto (-43), 3) := dk_167 255 213 (dk_at dksX6_read_1 20 rfl rfl)
theorem dX6_read_46 : decode cX6_read 46 = .ok (.aload_n 0, 1) := dk_42 (dk_at dksX6_read_1 23 rfl rfl)
theorem dX6_read_47 : decode cX6_read 47 = .ok (.getfield 37, 3) := dk_180 0 37 (dk_at dksX6_read_2 0 rfl rfl)
theorem dX6_read_50 : decode cX6_read 50 = .ok (.aload_n 0, 1) := dk_42 (dk_at dksX6_read_2 3 rfl rfl)
theorem dX6_read_51 : decode cX6_read 51 = .ok (.getfield 3, 3) := dk_180 0 3 (dk_at dksX6_read_2 4 rfl rfl)
theorem dX6_read_54 : decode cX6_read 54 = .ok (.getfield 41, 3) := dk_180 0 41 (dk_at dksX6_read_2 7 rfl rfl)
theorem dX6_read_57 : decode cX6_read 57 = .ok (.if_icmp .lt 23, 3) := dk_161 0 23 (dk_at dksX6_read_2 10 rfl rfl)
theorem dX6_read_60 : decode cX6_read 60 = .ok (.aload_n 0, 1) := dk_42 (dk_at dksX6_read_2 13 rfl rfl)
theorem dX6_read_61 : decode cX6_read 61 = .ok (.getfield 52, 3) := dk_180 0 52 (dk_at dksX6_read_2 14 rfl rfl)
theorem dX6_read_64 : decode cX6_read 64 = .ok (.ifnonnull 16, 3) := dk_199 0 16 (dk_at dksX6_read_2 17 rfl rfl)
theorem dX6_read_67 : decode cX6_read 67 = .ok (.aload_n 0, 1) := dk_42 (dk_at dksX6_read_2 20 rfl rfl)
theorem dX6_read_68 : decode cX6_read 68 = .ok (.getfield 18, 3) := dk_180 0 18 (dk_at dksX6_read_2 21 rfl rfl)
theorem dX6_read_71 : decode cX6_read 71 = .ok (.invokeinterface 56 1, 5) := by decide +kernel
theorem dX6_read_76 : decode cX6_read 76 = .ok (.iconst 1, 1) := dk_4 (dk_at dksX6_read_3 5 rfl rfl)
theorem dX6_read_77 : decode cX6_read 77 = .ok (.if_icmp .le 5, 3) := dk_164 0 5 (dk_at dksX6_read_3 6 rfl rfl)
theorem dX6_read_80 : decode cX6_read 80 = .ok (.aconst_null, 1) := dk_1 (dk_at dksX6_read_3 9 rfl rfl)
theorem dX6_read_81 : decode cX6_read 81 = .ok (.areturn, 1) := dk_176 (dk_at dksX6_read_3 10 rfl rfl)
theorem dX6_read_82 : decode cX6_read 82 = .ok (.aload_n 0, 1) := dk_42 (dk_at dksX6_read_3 11 rfl rfl)
theorem dX6_read_83 : decode cX6_read 83 = .ok (.invokevirtual 60, 3) := dk_182 0 60 (dk_at dksX6_read_3 12 rfl rfl)
theorem dX6_read_86 : decode cX6_read 86 = .ok (.invokevirtual 64, 3) := dk_182 0 64 (dk_at dksX6_read_3 15 rfl rfl)
theorem dX6_read_89 : decode cX6_read 89 = .ok (.aload_n 0, 1) := dk_42 (dk_at dksX6_read_3 18 rfl rfl)
theorem dX6_read_90 : decode cX6_read 90 = .ok (.invokevirtual 60, 3) := dk_182 0 60 (dk_at dksX6_read_3 19 rfl rfl)
theorem dX6_read_93 : decode cX6_read 93 = .ok (.getfield 67, 3) := dk_180 0 67 (dk_at dksX6_read_4 0 rfl rfl)
theorem dX6_read_96 : decode cX6_read 96 = .ok (.areturn, 1) := dk_176 (dk_at dksX6_read_4 3 rfl rfl)
abbrev cX6_accepts : ByteArray := prog_8_method_4_code
def yX6_accepts : MethodName := ⟨RX6, "accepts", "(C)Z"⟩
def dkwX6_accepts_4 : List UInt8 := [27, 182, 0, 95, 153, 0, 7, 4, 167, 0, 4, 3, 172]
abbrev dktX6_accepts_4 : List UInt8 := dkwX6_accepts_4 ++ []
def dkwX6_accepts_3 : List UInt8 := [27, 16, 40, 160, 0, 13, 42, 182, 0, 83, 42, 3, 182, 0, 75, 172, 42, 180, 0, 52, 199, 0, 15, 42]
abbrev dktX6_accepts_3 : List UInt8 := dkwX6_accepts_3 ++ dktX6_accepts_4
def dkwX6_accepts_2 : List UInt8 := [183, 0, 88, 182, 0, 91, 172, 27, 16, 114, 160, 0, 14, 42, 182, 0, 83, 42, 4, 181, 0, 71, 4, 172]
abbrev dktX6_accepts_2 : List UInt8 := dkwX6_accepts_2 ++ dktX6_accepts_3
def dkwX6_accepts_1 : List UInt8 := [167, 0, 4, 3, 172, 27, 184, 0, 79, 153, 0, 20, 42, 182, 0, 83, 42, 187, 0, 86, 89, 27]
abbrev dktX6_accepts_1 : List UInt8 := dkwX6_accepts_1 ++ dktX6_accepts_2
def dkwX6_accepts_0 : List UInt8 := [42, 180, 0, 71, 153, 0, 23, 27, 16, 40, 160, 0, 15, 42, 4, 182, 0, 75, 153, 0, 7, 4]
abbrev dktX6_accepts_0 : List UInt8 := dkwX6_accepts_0 ++ dktX6_accepts_1
theorem dksX6_accepts_0 : cX6_accepts.data.toList.drop 0 = dktX6_accepts_0 := by decide +kernel
theorem dksX6_accepts_1 : cX6_accepts.data.toList.drop 22 = dktX6_accepts_1 := dk_seg dksX6_accepts_0 22 rfl rfl
theorem dksX6_accepts_2 : cX6_accepts.data.toList.drop 44 = dktX6_accepts_2 := dk_seg dksX6_accepts_1 22 rfl rfl
theorem dksX6_accepts_3 : cX6_accepts.data.toList.drop 68 = dktX6_accepts_3 := dk_seg dksX6_accepts_2 24 rfl rfl
theorem dksX6_accepts_4 : cX6_accepts.data.toList.drop 92 = dktX6_accepts_4 := dk_seg dksX6_accepts_3 24 rfl rfl
theorem dX6_accepts_0 : decode cX6_accepts 0 = .ok (.aload_n 0, 1) := dk_42 (dk_at dksX6_accepts_0 0 rfl rfl)
theorem dX6_accepts_1 : decode cX6_accepts 1 = .ok (.getfield 71, 3) := dk_180 0 71 (dk_at dksX6_accepts_0 1 rfl rfl)
theorem dX6_accepts_4 : decode cX6_accepts 4 = .ok (.ifCond .eq 23, 3) := dk_153 0 23 (dk_at dksX6_accepts_0 4 rfl rfl)
theorem dX6_accepts_7 : decode cX6_accepts 7 = .ok (.iload_n 1, 1) := dk_27 (dk_at dksX6_accepts_0 7 rfl rfl)
theorem dX6_accepts_8 : decode cX6_accepts 8 = .ok (.bipush 40, 2) := dk_16 40 (dk_at dksX6_accepts_0 8 rfl rfl)
theorem dX6_accepts_10 : decode cX6_accepts 10 = .ok (.if_icmp .ne 15, 3) := dk_160 0 15 (dk_at dksX6_accepts_0 10 rfl rfl)
theorem dX6_accepts_13 : decode cX6_accepts 13 = .ok (.aload_n 0, 1) := dk_42 (dk_at dksX6_accepts_0 13 rfl rfl)
theorem dX6_accepts_14 : decode cX6_accepts 14 = .ok (.iconst 1, 1) := dk_4 (dk_at dksX6_accepts_0 14 rfl rfl)
theorem dX6_accepts_15 : decode cX6_accepts 15 = .ok (.invokevirtual 75, 3) := dk_182 0 75 (dk_at dksX6_accepts_0 15 rfl rfl)
theorem dX6_accepts_18 : decode cX6_accepts 18 = .ok (.ifCond .eq 7, 3) := dk_153 0 7 (dk_at dksX6_accepts_0 18 rfl rfl)
theorem dX6_accepts_21 : decode cX6_accepts 21 = .ok (.iconst 1, 1) := dk_4 (dk_at dksX6_accepts_0 21 rfl rfl)
theorem dX6_accepts_22 : decode cX6_accepts 22 = .ok (.goto 4, 3) := dk_167 0 4 (dk_at dksX6_accepts_1 0 rfl rfl)
theorem dX6_accepts_25 : decode cX6_accepts 25 = .ok (.iconst 0, 1) := dk_3 (dk_at dksX6_accepts_1 3 rfl rfl)
theorem dX6_accepts_26 : decode cX6_accepts 26 = .ok (.ireturn, 1) := dk_172 (dk_at dksX6_accepts_1 4 rfl rfl)
theorem dX6_accepts_27 : decode cX6_accepts 27 = .ok (.iload_n 1, 1) := dk_27 (dk_at dksX6_accepts_1 5 rfl rfl)
theorem dX6_accepts_28 : decode cX6_accepts 28 = .ok (.invokestatic 79, 3) := dk_184 0 79 (dk_at dksX6_accepts_1 6 rfl rfl)
theorem dX6_accepts_31 : decode cX6_accepts 31 = .ok (.ifCond .eq 20, 3) := dk_153 0 20 (dk_at dksX6_accepts_1 9 rfl rfl)
theorem dX6_accepts_34 : decode cX6_accepts 34 = .ok (.aload_n 0, 1) := dk_42 (dk_at dksX6_accepts_1 12 rfl rfl)
theorem dX6_accepts_35 : decode cX6_accepts 35 = .ok (.invokevirtual 83, 3) := dk_182 0 83 (dk_at dksX6_accepts_1 13 rfl rfl)
theorem dX6_accepts_38 : decode cX6_accepts 38 = .ok (.aload_n 0, 1) := dk_42 (dk_at dksX6_accepts_1 16 rfl rfl)
theorem dX6_accepts_39 : decode cX6_accepts 39 = .ok (.new 86, 3) := dk_187 0 86 (dk_at dksX6_accepts_1 17 rfl rfl)
theorem dX6_accepts_42 : decode cX6_accepts 42 = .ok (.dup, 1) := dk_89 (dk_at dksX6_accepts_1 20 rfl rfl)
theorem dX6_accepts_43 : decode cX6_accepts 43 = .ok (.iload_n 1, 1) := dk_27 (dk_at dksX6_accepts_1 21 rfl rfl)
theorem dX6_accepts_44 : decode cX6_accepts 44 = .ok (.invokespecial 88, 3) := dk_183 0 88 (dk_at dksX6_accepts_2 0 rfl rfl)
theorem dX6_accepts_47 : decode cX6_accepts 47 = .ok (.invokevirtual 91, 3) := dk_182 0 91 (dk_at dksX6_accepts_2 3 rfl rfl)
theorem dX6_accepts_50 : decode cX6_accepts 50 = .ok (.ireturn, 1) := dk_172 (dk_at dksX6_accepts_2 6 rfl rfl)
theorem dX6_accepts_51 : decode cX6_accepts 51 = .ok (.iload_n 1, 1) := dk_27 (dk_at dksX6_accepts_2 7 rfl rfl)
theorem dX6_accepts_52 : decode cX6_accepts 52 = .ok (.bipush 114, 2) := dk_16 114 (dk_at dksX6_accepts_2 8 rfl rfl)
theorem dX6_accepts_54 : decode cX6_accepts 54 = .ok (.if_icmp .ne 14, 3) := dk_160 0 14 (dk_at dksX6_accepts_2 10 rfl rfl)
theorem dX6_accepts_57 : decode cX6_accepts 57 = .ok (.aload_n 0, 1) := dk_42 (dk_at dksX6_accepts_2 13 rfl rfl)
theorem dX6_accepts_58 : decode cX6_accepts 58 = .ok (.invokevirtual 83, 3) := dk_182 0 83 (dk_at dksX6_accepts_2 14 rfl rfl)
theorem dX6_accepts_61 : decode cX6_accepts 61 = .ok (.aload_n 0, 1) := dk_42 (dk_at dksX6_accepts_2 17 rfl rfl)
theorem dX6_accepts_62 : decode cX6_accepts 62 = .ok (.iconst 1, 1) := dk_4 (dk_at dksX6_accepts_2 18 rfl rfl)
theorem dX6_accepts_63 : decode cX6_accepts 63 = .ok (.putfield 71, 3) := dk_181 0 71 (dk_at dksX6_accepts_2 19 rfl rfl)
theorem dX6_accepts_66 : decode cX6_accepts 66 = .ok (.iconst 1, 1) := dk_4 (dk_at dksX6_accepts_2 22 rfl rfl)
theorem dX6_accepts_67 : decode cX6_accepts 67 = .ok (.ireturn, 1) := dk_172 (dk_at dksX6_accepts_2 23 rfl rfl)
theorem dX6_accepts_68 : decode cX6_accepts 68 = .ok (.iload_n 1, 1) := dk_27 (dk_at dksX6_accepts_3 0 rfl rfl)
theorem dX6_accepts_69 : decode cX6_accepts 69 = .ok (.bipush 40, 2) := dk_16 40 (dk_at dksX6_accepts_3 1 rfl rfl)
theorem dX6_accepts_71 : decode cX6_accepts 71 = .ok (.if_icmp .ne 13, 3) := dk_160 0 13 (dk_at dksX6_accepts_3 3 rfl rfl)
theorem dX6_accepts_74 : decode cX6_accepts 74 = .ok (.aload_n 0, 1) := dk_42 (dk_at dksX6_accepts_3 6 rfl rfl)
theorem dX6_accepts_75 : decode cX6_accepts 75 = .ok (.invokevirtual 83, 3) := dk_182 0 83 (dk_at dksX6_accepts_3 7 rfl rfl)
theorem dX6_accepts_78 : decode cX6_accepts 78 = .ok (.aload_n 0, 1) := dk_42 (dk_at dksX6_accepts_3 10 rfl rfl)
theorem dX6_accepts_79 : decode cX6_accepts 79 = .ok (.iconst 0, 1) := dk_3 (dk_at dksX6_accepts_3 11 rfl rfl)
theorem dX6_accepts_80 : decode cX6_accepts 80 = .ok (.invokevirtual 75, 3) := dk_182 0 75 (dk_at dksX6_accepts_3 12 rfl rfl)
theorem dX6_accepts_83 : decode cX6_accepts 83 = .ok (.ireturn, 1) := dk_172 (dk_at dksX6_accepts_3 15 rfl rfl)
theorem dX6_accepts_84 : decode cX6_accepts 84 = .ok (.aload_n 0, 1) := dk_42 (dk_at dksX6_accepts_3 16 rfl rfl)
theorem dX6_accepts_85 : decode cX6_accepts 85 = .ok (.getfield 52, 3) := dk_180 0 52 (dk_at dksX6_accepts_3 17 rfl rfl)
theorem dX6_accepts_88 : decode cX6_accepts 88 = .ok (.ifnonnull 15, 3) := dk_199 0 15 (dk_at dksX6_accepts_3 20 rfl rfl)
theorem dX6_accepts_91 : decode cX6_accepts 91 = .ok (.aload_n 0, 1) := dk_42 (dk_at dksX6_accepts_3 23 rfl rfl)
theorem dX6_accepts_92 : decode cX6_accepts 92 = .ok (.iload_n 1, 1) := dk_27 (dk_at dksX6_accepts_4 0 rfl rfl)
theorem dX6_accepts_93 : decode cX6_accepts 93 = .ok (.invokevirtual 95, 3) := dk_182 0 95 (dk_at dksX6_accepts_4 1 rfl rfl)
theorem dX6_accepts_96 : decode cX6_accepts 96 = .ok (.ifCond .eq 7, 3) := dk_153 0 7 (dk_at dksX6_accepts_4 4 rfl rfl)
theorem dX6_accepts_99 : decode cX6_accepts 99 = .ok (.iconst 1, 1) := dk_4 (dk_at dksX6_accepts_4 7 rfl rfl)
theorem dX6_accepts_100 : decode cX6_accepts 100 = .ok (.goto 4, 3) := dk_167 0 4 (dk_at dksX6_accepts_4 8 rfl rfl)
theorem dX6_accepts_103 : decode cX6_accepts 103 = .ok (.iconst 0, 1) := dk_3 (dk_at dksX6_accepts_4 11 rfl rfl)
theorem dX6_accepts_104 : decode cX6_accepts 104 = .ok (.ireturn, 1) := dk_172 (dk_at dksX6_accepts_4 12 rfl rfl)
abbrev cX6_open : ByteArray := prog_8_method_6_code
def yX6_open : MethodName := ⟨RX6, "open", "(Z)Z"⟩
def dkwX6_open_1 : List UInt8 := [181, 0, 52, 42, 3, 181, 0, 71, 4, 172]
abbrev dktX6_open_1 : List UInt8 := dkwX6_open_1 ++ []
def dkwX6_open_0 : List UInt8 := [42, 180, 0, 18, 187, 0, 22, 89, 42, 180, 0, 52, 27, 183, 0, 24, 185, 0, 27, 2, 0, 42, 1]
abbrev dktX6_open_0 : List UInt8 := dkwX6_open_0 ++ dktX6_open_1
theorem dksX6_open_0 : cX6_open.data.toList.drop 0 = dktX6_open_0 := by decide +kernel
theorem dksX6_open_1 : cX6_open.data.toList.drop 23 = dktX6_open_1 := dk_seg dksX6_open_0 23 rfl rfl
theorem dX6_open_0 : decode cX6_open 0 = .ok (.aload_n 0, 1) := dk_42 (dk_at dksX6_open_0 0 rfl rfl)
theorem dX6_open_1 : decode cX6_open 1 = .ok (.getfield 18, 3) := dk_180 0 18 (dk_at dksX6_open_0 1 rfl rfl)
theorem dX6_open_4 : decode cX6_open 4 = .ok (.new 22, 3) := dk_187 0 22 (dk_at dksX6_open_0 4 rfl rfl)
theorem dX6_open_7 : decode cX6_open 7 = .ok (.dup, 1) := dk_89 (dk_at dksX6_open_0 7 rfl rfl)
theorem dX6_open_8 : decode cX6_open 8 = .ok (.aload_n 0, 1) := dk_42 (dk_at dksX6_open_0 8 rfl rfl)
theorem dX6_open_9 : decode cX6_open 9 = .ok (.getfield 52, 3) := dk_180 0 52 (dk_at dksX6_open_0 9 rfl rfl)
theorem dX6_open_12 : decode cX6_open 12 = .ok (.iload_n 1, 1) := dk_27 (dk_at dksX6_open_0 12 rfl rfl)
theorem dX6_open_13 : decode cX6_open 13 = .ok (.invokespecial 24, 3) := dk_183 0 24 (dk_at dksX6_open_0 13 rfl rfl)
theorem dX6_open_16 : decode cX6_open 16 = .ok (.invokeinterface 27 2, 5) := by decide +kernel
theorem dX6_open_21 : decode cX6_open 21 = .ok (.aload_n 0, 1) := dk_42 (dk_at dksX6_open_0 21 rfl rfl)
theorem dX6_open_22 : decode cX6_open 22 = .ok (.aconst_null, 1) := dk_1 (dk_at dksX6_open_0 22 rfl rfl)
theorem dX6_open_23 : decode cX6_open 23 = .ok (.putfield 52, 3) := dk_181 0 52 (dk_at dksX6_open_1 0 rfl rfl)
theorem dX6_open_26 : decode cX6_open 26 = .ok (.aload_n 0, 1) := dk_42 (dk_at dksX6_open_1 3 rfl rfl)
theorem dX6_open_27 : decode cX6_open 27 = .ok (.iconst 0, 1) := dk_3 (dk_at dksX6_open_1 4 rfl rfl)
theorem dX6_open_28 : decode cX6_open 28 = .ok (.putfield 71, 3) := dk_181 0 71 (dk_at dksX6_open_1 5 rfl rfl)
theorem dX6_open_31 : decode cX6_open 31 = .ok (.iconst 1, 1) := dk_4 (dk_at dksX6_open_1 8 rfl rfl)
theorem dX6_open_32 : decode cX6_open 32 = .ok (.ireturn, 1) := dk_172 (dk_at dksX6_open_1 9 rfl rfl)
abbrev cX6_begin : ByteArray := prog_8_method_5_code
def yX6_begin : MethodName := ⟨RX6, "begin", "()V"⟩
def dkwX6_begin_1 : List UInt8 := [181, 0, 52, 177]
abbrev dktX6_begin_1 : List UInt8 := dkwX6_begin_1 ++ []
def dkwX6_begin_0 : List UInt8 := [42, 180, 0, 52, 199, 0, 23, 42, 182, 0, 60, 182, 0, 64, 42, 187, 0, 98, 89, 3, 3, 183, 0, 100]
abbrev dktX6_begin_0 : List UInt8 := dkwX6_begin_0 ++ dktX6_begin_1
theorem dksX6_begin_0 : cX6_begin.data.toList.drop 0 = dktX6_begin_0 := by decide +kernel
theorem dksX6_begin_1 : cX6_begin.data.toList.drop 24 = dktX6_begin_1 := dk_seg dksX6_begin_0 24 rfl rfl
theorem dX6_begin_0 : decode cX6_begin 0 = .ok (.aload_n 0, 1) := dk_42 (dk_at dksX6_begin_0 0 rfl rfl)
theorem dX6_begin_1 : decode cX6_begin 1 = .ok (.getfield 52, 3) := dk_180 0 52 (dk_at dksX6_begin_0 1 rfl rfl)
theorem dX6_begin_4 : decode cX6_begin 4 = .ok (.ifnonnull 23, 3) := dk_199 0 23 (dk_at dksX6_begin_0 4 rfl rfl)
theorem dX6_begin_7 : decode cX6_begin 7 = .ok (.aload_n 0, 1) := dk_42 (dk_at dksX6_begin_0 7 rfl rfl)
theorem dX6_begin_8 : decode cX6_begin 8 = .ok (.invokevirtual 60, 3) := dk_182 0 60 (dk_at dksX6_begin_0 8 rfl rfl)
theorem dX6_begin_11 : decode cX6_begin 11 = .ok (.invokevirtual 64, 3) := dk_182 0 64 (dk_at dksX6_begin_0 11 rfl rfl)
theorem dX6_begin_14 : decode cX6_begin 14 = .ok (.aload_n 0, 1) := dk_42 (dk_at dksX6_begin_0 14 rfl rfl)
theorem dX6_begin_15 : decode cX6_begin 15 = .ok (.new 98, 3) := dk_187 0 98 (dk_at dksX6_begin_0 15 rfl rfl)
theorem dX6_begin_18 : decode cX6_begin 18 = .ok (.dup, 1) := dk_89 (dk_at dksX6_begin_0 18 rfl rfl)
theorem dX6_begin_19 : decode cX6_begin 19 = .ok (.iconst 0, 1) := dk_3 (dk_at dksX6_begin_0 19 rfl rfl)
theorem dX6_begin_20 : decode cX6_begin 20 = .ok (.iconst 0, 1) := dk_3 (dk_at dksX6_begin_0 20 rfl rfl)
theorem dX6_begin_21 : decode cX6_begin 21 = .ok (.invokespecial 100, 3) := dk_183 0 100 (dk_at dksX6_begin_0 21 rfl rfl)
theorem dX6_begin_24 : decode cX6_begin 24 = .ok (.putfield 52, 3) := dk_181 0 52 (dk_at dksX6_begin_1 0 rfl rfl)
theorem dX6_begin_27 : decode cX6_begin 27 = .ok (.return_, 1) := dk_177 (dk_at dksX6_begin_1 3 rfl rfl)
abbrev cX6_level : ByteArray := prog_8_method_2_code
def yX6_level : MethodName := ⟨RX6, "level", "()LFormulaEditor$Level;"⟩
def dkwX6_level_0 : List UInt8 := [42, 180, 0, 18, 185, 0, 33, 1, 0, 192, 0, 22, 176]
abbrev dktX6_level_0 : List UInt8 := dkwX6_level_0 ++ []
theorem dksX6_level_0 : cX6_level.data.toList.drop 0 = dktX6_level_0 := by decide +kernel
theorem dX6_level_0 : decode cX6_level 0 = .ok (.aload_n 0, 1) := dk_42 (dk_at dksX6_level_0 0 rfl rfl)
theorem dX6_level_1 : decode cX6_level 1 = .ok (.getfield 18, 3) := dk_180 0 18 (dk_at dksX6_level_0 1 rfl rfl)
theorem dX6_level_4 : decode cX6_level 4 = .ok (.invokeinterface 33 1, 5) := by decide +kernel
theorem dX6_level_9 : decode cX6_level 9 = .ok (.checkcast 22, 3) := dk_192 0 22 (dk_at dksX6_level_0 9 rfl rfl)
theorem dX6_level_12 : decode cX6_level 12 = .ok (.areturn, 1) := dk_176 (dk_at dksX6_level_0 12 rfl rfl)
abbrev cX6_place : ByteArray := prog_8_method_9_code
def yX6_place : MethodName := ⟨RX6, "place", "(LFormulaEditor$Item;)Z"⟩
def dkwX6_place_3 : List UInt8 := [181, 0, 52, 4, 172]
abbrev dktX6_place_3 : List UInt8 := dkwX6_place_3 ++ []
def dkwX6_place_2 : List UInt8 := [181, 0, 124, 42, 182, 0, 60, 3, 181, 0, 164, 42, 182, 0, 60, 180, 0, 67, 43, 182, 0, 137, 42, 1]
abbrev dktX6_place_2 : List UInt8 := dkwX6_place_2 ++ dktX6_place_3
def dkwX6_place_1 : List UInt8 := [44, 182, 0, 160, 172, 42, 182, 0, 60, 42, 182, 0, 60, 180, 0, 67, 180, 0, 168, 185, 0, 172, 1, 0]
abbrev dktX6_place_1 : List UInt8 := dkwX6_place_1 ++ dktX6_place_2
def dkwX6_place_0 : List UInt8 := [42, 180, 0, 52, 180, 0, 157, 153, 0, 22, 187, 0, 138, 89, 183, 0, 167, 77, 44, 43, 182, 0, 137, 42]
abbrev dktX6_place_0 : List UInt8 := dkwX6_place_0 ++ dktX6_place_1
theorem dksX6_place_0 : cX6_place.data.toList.drop 0 = dktX6_place_0 := by decide +kernel
theorem dksX6_place_1 : cX6_place.data.toList.drop 24 = dktX6_place_1 := dk_seg dksX6_place_0 24 rfl rfl
theorem dksX6_place_2 : cX6_place.data.toList.drop 48 = dktX6_place_2 := dk_seg dksX6_place_1 24 rfl rfl
theorem dksX6_place_3 : cX6_place.data.toList.drop 72 = dktX6_place_3 := dk_seg dksX6_place_2 24 rfl rfl
theorem dX6_place_0 : decode cX6_place 0 = .ok (.aload_n 0, 1) := dk_42 (dk_at dksX6_place_0 0 rfl rfl)
theorem dX6_place_1 : decode cX6_place 1 = .ok (.getfield 52, 3) := dk_180 0 52 (dk_at dksX6_place_0 1 rfl rfl)
theorem dX6_place_4 : decode cX6_place 4 = .ok (.getfield 157, 3) := dk_180 0 157 (dk_at dksX6_place_0 4 rfl rfl)
theorem dX6_place_7 : decode cX6_place 7 = .ok (.ifCond .eq 22, 3) := dk_153 0 22 (dk_at dksX6_place_0 7 rfl rfl)
theorem dX6_place_10 : decode cX6_place 10 = .ok (.new 138, 3) := dk_187 0 138 (dk_at dksX6_place_0 10 rfl rfl)
theorem dX6_place_13 : decode cX6_place 13 = .ok (.dup, 1) := dk_89 (dk_at dksX6_place_0 13 rfl rfl)
theorem dX6_place_14 : decode cX6_place 14 = .ok (.invokespecial 167, 3) := dk_183 0 167 (dk_at dksX6_place_0 14 rfl rfl)
theorem dX6_place_17 : decode cX6_place 17 = .ok (.astore_n 2, 1) := dk_77 (dk_at dksX6_place_0 17 rfl rfl)
theorem dX6_place_18 : decode cX6_place 18 = .ok (.aload_n 2, 1) := dk_44 (dk_at dksX6_place_0 18 rfl rfl)
theorem dX6_place_19 : decode cX6_place 19 = .ok (.aload_n 1, 1) := dk_43 (dk_at dksX6_place_0 19 rfl rfl)
theorem dX6_place_20 : decode cX6_place 20 = .ok (.invokevirtual 137, 3) := dk_182 0 137 (dk_at dksX6_place_0 20 rfl rfl)
theorem dX6_place_23 : decode cX6_place 23 = .ok (.aload_n 0, 1) := dk_42 (dk_at dksX6_place_0 23 rfl rfl)
theorem dX6_place_24 : decode cX6_place 24 = .ok (.aload_n 2, 1) := dk_44 (dk_at dksX6_place_1 0 rfl rfl)
theorem dX6_place_25 : decode cX6_place 25 = .ok (.invokevirtual 160, 3) := dk_182 0 160 (dk_at dksX6_place_1 1 rfl rfl)
theorem dX6_place_28 : decode cX6_place 28 = .ok (.ireturn, 1) := dk_172 (dk_at dksX6_place_1 4 rfl rfl)
theorem dX6_place_29 : decode cX6_place 29 = .ok (.aload_n 0, 1) := dk_42 (dk_at dksX6_place_1 5 rfl rfl)
theorem dX6_place_30 : decode cX6_place 30 = .ok (.invokevirtual 60, 3) := dk_182 0 60 (dk_at dksX6_place_1 6 rfl rfl)
theorem dX6_place_33 : decode cX6_place 33 = .ok (.aload_n 0, 1) := dk_42 (dk_at dksX6_place_1 9 rfl rfl)
theorem dX6_place_34 : decode cX6_place 34 = .ok (.invokevirtual 60, 3) := dk_182 0 60 (dk_at dksX6_place_1 10 rfl rfl)
theorem dX6_place_37 : decode cX6_place 37 = .ok (.getfield 67, 3) := dk_180 0 67 (dk_at dksX6_place_1 13 rfl rfl)
theorem dX6_place_40 : decode cX6_place 40 = .ok (.getfield 168, 3) := dk_180 0 168 (dk_at dksX6_place_1 16 rfl rfl)
theorem dX6_place_43 : decode cX6_place 43 = .ok (.invokeinterface 172 1, 5) := by decide +kernel
theorem dX6_place_48 : decode cX6_place 48 = .ok (.putfield 124, 3) := dk_181 0 124 (dk_at dksX6_place_2 0 rfl rfl)
theorem dX6_place_51 : decode cX6_place 51 = .ok (.aload_n 0, 1) := dk_42 (dk_at dksX6_place_2 3 rfl rfl)
theorem dX6_place_52 : decode cX6_place 52 = .ok (.invokevirtual 60, 3) := dk_182 0 60 (dk_at dksX6_place_2 4 rfl rfl)
theorem dX6_place_55 : decode cX6_place 55 = .ok (.iconst 0, 1) := dk_3 (dk_at dksX6_place_2 7 rfl rfl)
theorem dX6_place_56 : decode cX6_place 56 = .ok (.putfield 164, 3) := dk_181 0 164 (dk_at dksX6_place_2 8 rfl rfl)
theorem dX6_place_59 : decode cX6_place 59 = .ok (.aload_n 0, 1) := dk_42 (dk_at dksX6_place_2 11 rfl rfl)
theorem dX6_place_60 : decode cX6_place 60 = .ok (.invokevirtual 60, 3) := dk_182 0 60 (dk_at dksX6_place_2 12 rfl rfl)
theorem dX6_place_63 : decode cX6_place 63 = .ok (.getfield 67, 3) := dk_180 0 67 (dk_at dksX6_place_2 15 rfl rfl)
theorem dX6_place_66 : decode cX6_place 66 = .ok (.aload_n 1, 1) := dk_43 (dk_at dksX6_place_2 18 rfl rfl)
theorem dX6_place_67 : decode cX6_place 67 = .ok (.invokevirtual 137, 3) := dk_182 0 137 (dk_at dksX6_place_2 19 rfl rfl)
theorem dX6_place_70 : decode cX6_place 70 = .ok (.aload_n 0, 1) := dk_42 (dk_at dksX6_place_2 22 rfl rfl)
theorem dX6_place_71 : decode cX6_place 71 = .ok (.aconst_null, 1) := dk_1 (dk_at dksX6_place_2 23 rfl rfl)
theorem dX6_place_72 : decode cX6_place 72 = .ok (.putfield 52, 3) := dk_181 0 52 (dk_at dksX6_place_3 0 rfl rfl)
theorem dX6_place_75 : decode cX6_place 75 = .ok (.iconst 1, 1) := dk_4 (dk_at dksX6_place_3 3 rfl rfl)
theorem dX6_place_76 : decode cX6_place 76 = .ok (.ireturn, 1) := dk_172 (dk_at dksX6_place_3 4 rfl rfl)
abbrev cX6_placeScript : ByteArray := prog_8_method_10_code
def yX6_placeScript : MethodName := ⟨RX6, "placeScript", "(LFormulaEditor$Row;)Z"⟩
def dkwX6_placeScript_2 : List UInt8 := [181, 0, 164, 42, 1, 181, 0, 52, 4, 172]
abbrev dktX6_placeScript_2 : List UInt8 := dkwX6_placeScript_2 ++ []
def dkwX6_placeScript_1 : List UInt8 := [43, 83, 183, 0, 154, 182, 0, 137, 42, 180, 0, 52, 180, 0, 175, 153, 0, 11, 42, 182, 0, 60, 3]
abbrev dktX6_placeScript_1 : List UInt8 := dkwX6_placeScript_1 ++ dktX6_placeScript_2
def dkwX6_placeScript_0 : List UInt8 := [42, 182, 0, 60, 180, 0, 67, 187, 0, 152, 89, 42, 180, 0, 52, 180, 0, 157, 4, 189, 0, 138, 89, 3]
abbrev dktX6_placeScript_0 : List UInt8 := dkwX6_placeScript_0 ++ dktX6_placeScript_1
theorem dksX6_placeScript_0 : cX6_placeScript.data.toList.drop 0 = dktX6_placeScript_0 := by decide +kernel
theorem dksX6_placeScript_1 : cX6_placeScript.data.toList.drop 24 = dktX6_placeScript_1 := dk_seg dksX6_placeScript_0 24 rfl rfl
theorem dksX6_placeScript_2 : cX6_placeScript.data.toList.drop 47 = dktX6_placeScript_2 := dk_seg dksX6_placeScript_1 23 rfl rfl
theorem dX6_placeScript_0 : decode cX6_placeScript 0 = .ok (.aload_n 0, 1) := dk_42 (dk_at dksX6_placeScript_0 0 rfl rfl)
theorem dX6_placeScript_1 : decode cX6_placeScript 1 = .ok (.invokevirtual 60, 3) := dk_182 0 60 (dk_at dksX6_placeScript_0 1 rfl rfl)
theorem dX6_placeScript_4 : decode cX6_placeScript 4 = .ok (.getfield 67, 3) := dk_180 0 67 (dk_at dksX6_placeScript_0 4 rfl rfl)
theorem dX6_placeScript_7 : decode cX6_placeScript 7 = .ok (.new 152, 3) := dk_187 0 152 (dk_at dksX6_placeScript_0 7 rfl rfl)
theorem dX6_placeScript_10 : decode cX6_placeScript 10 = .ok (.dup, 1) := dk_89 (dk_at dksX6_placeScript_0 10 rfl rfl)
theorem dX6_placeScript_11 : decode cX6_placeScript 11 = .ok (.aload_n 0, 1) := dk_42 (dk_at dksX6_placeScript_0 11 rfl rfl)
theorem dX6_placeScript_12 : decode cX6_placeScript 12 = .ok (.getfield 52, 3) := dk_180 0 52 (dk_at dksX6_placeScript_0 12 rfl rfl)
theorem dX6_placeScript_15 : decode cX6_placeScript 15 = .ok (.getfield 157, 3) := dk_180 0 157 (dk_at dksX6_placeScript_0 15 rfl rfl)
theorem dX6_placeScript_18 : decode cX6_placeScript 18 = .ok (.iconst 1, 1) := dk_4 (dk_at dksX6_placeScript_0 18 rfl rfl)
theorem dX6_placeScript_19 : decode cX6_placeScript 19 = .ok (.anewarray 138, 3) := dk_189 0 138 (dk_at dksX6_placeScript_0 19 rfl rfl)
theorem dX6_placeScript_22 : decode cX6_placeScript 22 = .ok (.dup, 1) := dk_89 (dk_at dksX6_placeScript_0 22 rfl rfl)
theorem dX6_placeScript_23 : decode cX6_placeScript 23 = .ok (.iconst 0, 1) := dk_3 (dk_at dksX6_placeScript_0 23 rfl rfl)
theorem dX6_placeScript_24 : decode cX6_placeScript 24 = .ok (.aload_n 1, 1) := dk_43 (dk_at dksX6_placeScript_1 0 rfl rfl)
theorem dX6_placeScript_25 : decode cX6_placeScript 25 = .ok (.aastore, 1) := dk_83 (dk_at dksX6_placeScript_1 1 rfl rfl)
theorem dX6_placeScript_26 : decode cX6_placeScript 26 = .ok (.invokespecial 154, 3) := dk_183 0 154 (dk_at dksX6_placeScript_1 2 rfl rfl)
theorem dX6_placeScript_29 : decode cX6_placeScript 29 = .ok (.invokevirtual 137, 3) := dk_182 0 137 (dk_at dksX6_placeScript_1 5 rfl rfl)
theorem dX6_placeScript_32 : decode cX6_placeScript 32 = .ok (.aload_n 0, 1) := dk_42 (dk_at dksX6_placeScript_1 8 rfl rfl)
theorem dX6_placeScript_33 : decode cX6_placeScript 33 = .ok (.getfield 52, 3) := dk_180 0 52 (dk_at dksX6_placeScript_1 9 rfl rfl)
theorem dX6_placeScript_36 : decode cX6_placeScript 36 = .ok (.getfield 175, 3) := dk_180 0 175 (dk_at dksX6_placeScript_1 12 rfl rfl)
theorem dX6_placeScript_39 : decode cX6_placeScript 39 = .ok (.ifCond .eq 11, 3) := dk_153 0 11 (dk_at dksX6_placeScript_1 15 rfl rfl)
theorem dX6_placeScript_42 : decode cX6_placeScript 42 = .ok (.aload_n 0, 1) := dk_42 (dk_at dksX6_placeScript_1 18 rfl rfl)
theorem dX6_placeScript_43 : decode cX6_placeScript 43 = .ok (.invokevirtual 60, 3) := dk_182 0 60 (dk_at dksX6_placeScript_1 19 rfl rfl)
theorem dX6_placeScript_46 : decode cX6_placeScript 46 = .ok (.iconst 0, 1) := dk_3 (dk_at dksX6_placeScript_1 22 rfl rfl)
theorem dX6_placeScript_47 : decode cX6_placeScript 47 = .ok (.putfield 164, 3) := dk_181 0 164 (dk_at dksX6_placeScript_2 0 rfl rfl)
theorem dX6_placeScript_50 : decode cX6_placeScript 50 = .ok (.aload_n 0, 1) := dk_42 (dk_at dksX6_placeScript_2 3 rfl rfl)
theorem dX6_placeScript_51 : decode cX6_placeScript 51 = .ok (.aconst_null, 1) := dk_1 (dk_at dksX6_placeScript_2 4 rfl rfl)
theorem dX6_placeScript_52 : decode cX6_placeScript 52 = .ok (.putfield 52, 3) := dk_181 0 52 (dk_at dksX6_placeScript_2 5 rfl rfl)
theorem dX6_placeScript_55 : decode cX6_placeScript 55 = .ok (.iconst 1, 1) := dk_4 (dk_at dksX6_placeScript_2 8 rfl rfl)
theorem dX6_placeScript_56 : decode cX6_placeScript 56 = .ok (.ireturn, 1) := dk_172 (dk_at dksX6_placeScript_2 9 rfl rfl)
abbrev cX6_acceptsMore : ByteArray := prog_8_method_7_code
def yX6_acceptsMore : MethodName := ⟨RX6, "acceptsMore", "(C)Z"⟩
def dkwX6_acceptsMore_8 : List UInt8 := [187, 0, 86, 89, 27, 183, 0, 88, 182, 0, 137, 29, 172]
abbrev dktX6_acceptsMore_8 : List UInt8 := dkwX6_acceptsMore_8 ++ []
def dkwX6_acceptsMore_7 : List UInt8 := [153, 0, 34, 42, 182, 0, 60, 182, 0, 64, 27, 16, 32, 159, 0, 21, 42, 182, 0, 60, 180, 0, 67]
abbrev dktX6_acceptsMore_7 : List UInt8 := dkwX6_acceptsMore_7 ++ dktX6_acceptsMore_8
def dkwX6_acceptsMore_6 : List UInt8 := [3, 172, 27, 16, 32, 159, 0, 10, 27, 184, 0, 134, 153, 0, 7, 4, 167, 0, 4, 3, 62, 29]
abbrev dktX6_acceptsMore_6 : List UInt8 := dkwX6_acceptsMore_6 ++ dktX6_acceptsMore_7
def dkwX6_acceptsMore_5 : List UInt8 := [42, 180, 0, 18, 185, 0, 56, 1, 0, 4, 164, 0, 14, 42, 182, 0, 130, 153, 0, 7, 4, 167, 0, 4]
abbrev dktX6_acceptsMore_5 : List UInt8 := dkwX6_acceptsMore_5 ++ dktX6_acceptsMore_6
def dkwX6_acceptsMore_4 : List UInt8 := [182, 0, 127, 42, 187, 0, 98, 89, 3, 3, 183, 0, 100, 181, 0, 52, 29, 172, 27, 16, 41, 160, 0, 29]
abbrev dktX6_acceptsMore_4 : List UInt8 := dkwX6_acceptsMore_4 ++ dktX6_acceptsMore_5
def dkwX6_acceptsMore_3 : List UInt8 := [180, 0, 124, 16, 247, 159, 0, 7, 4, 167, 0, 4, 3, 62, 29, 153, 0, 23, 42, 182, 0, 60]
abbrev dktX6_acceptsMore_3 : List UInt8 := dkwX6_acceptsMore_3 ++ dktX6_acceptsMore_4
def dkwX6_acceptsMore_2 : List UInt8 := [167, 0, 4, 3, 183, 0, 100, 181, 0, 52, 4, 172, 27, 16, 47, 160, 0, 47, 42, 182, 0, 60]
abbrev dktX6_acceptsMore_2 : List UInt8 := dkwX6_acceptsMore_2 ++ dktX6_acceptsMore_3
def dkwX6_acceptsMore_1 : List UInt8 := [42, 187, 0, 98, 89, 44, 182, 0, 121, 42, 182, 0, 60, 180, 0, 124, 16, 247, 159, 0, 7, 4]
abbrev dktX6_acceptsMore_1 : List UInt8 := dkwX6_acceptsMore_1 ++ dktX6_acceptsMore_2
def dkwX6_acceptsMore_0 : List UInt8 := [42, 180, 0, 3, 180, 0, 103, 27, 184, 0, 107, 185, 0, 113, 2, 0, 192, 0, 119, 77, 44, 198, 0, 37]
abbrev dktX6_acceptsMore_0 : List UInt8 := dkwX6_acceptsMore_0 ++ dktX6_acceptsMore_1
theorem dksX6_acceptsMore_0 : cX6_acceptsMore.data.toList.drop 0 = dktX6_acceptsMore_0 := by decide +kernel
theorem dksX6_acceptsMore_1 : cX6_acceptsMore.data.toList.drop 24 = dktX6_acceptsMore_1 := dk_seg dksX6_acceptsMore_0 24 rfl rfl
theorem dksX6_acceptsMore_2 : cX6_acceptsMore.data.toList.drop 46 = dktX6_acceptsMore_2 := dk_seg dksX6_acceptsMore_1 22 rfl rfl
theorem dksX6_acceptsMore_3 : cX6_acceptsMore.data.toList.drop 68 = dktX6_acceptsMore_3 := dk_seg dksX6_acceptsMore_2 22 rfl rfl
theorem dksX6_acceptsMore_4 : cX6_acceptsMore.data.toList.drop 90 = dktX6_acceptsMore_4 := dk_seg dksX6_acceptsMore_3 22 rfl rfl
theorem dksX6_acceptsMore_5 : cX6_acceptsMore.data.toList.drop 114 = dktX6_acceptsMore_5 := dk_seg dksX6_acceptsMore_4 24 rfl rfl
theorem dksX6_acceptsMore_6 : cX6_acceptsMore.data.toList.drop 138 = dktX6_acceptsMore_6 := dk_seg dksX6_acceptsMore_5 24 rfl rfl
theorem dksX6_acceptsMore_7 : cX6_acceptsMore.data.toList.drop 160 = dktX6_acceptsMore_7 := dk_seg dksX6_acceptsMore_6 22 rfl rfl
theorem dksX6_acceptsMore_8 : cX6_acceptsMore.data.toList.drop 183 = dktX6_acceptsMore_8 := dk_seg dksX6_acceptsMore_7 23 rfl rfl
theorem dX6_acceptsMore_0 : decode cX6_acceptsMore 0 = .ok (.aload_n 0, 1) := dk_42 (dk_at dksX6_acceptsMore_0 0 rfl rfl)
theorem dX6_acceptsMore_1 : decode cX6_acceptsMore 1 = .ok (.getfield 3, 3) := dk_180 0 3 (dk_at dksX6_acceptsMore_0 1 rfl rfl)
theorem dX6_acceptsMore_4 : decode cX6_acceptsMore 4 = .ok (.getfield 103, 3) := dk_180 0 103 (dk_at dksX6_acceptsMore_0 4 rfl rfl)
theorem dX6_acceptsMore_7 : decode cX6_acceptsMore 7 = .ok (.iload_n 1, 1) := dk_27 (dk_at dksX6_acceptsMore_0 7 rfl rfl)
theorem dX6_acceptsMore_8 : decode cX6_acceptsMore 8 = .ok (.invokestatic 107, 3) := dk_184 0 107 (dk_at dksX6_acceptsMore_0 8 rfl rfl)
theorem dX6_acceptsMore_11 : decode cX6_acceptsMore 11 = .ok (.invokeinterface 113 2, 5) := by decide +kernel
theorem dX6_acceptsMore_16 : decode cX6_acceptsMore 16 = .ok (.checkcast 119, 3) := dk_192 0 119 (dk_at dksX6_acceptsMore_0 16 rfl rfl)
theorem dX6_acceptsMore_19 : decode cX6_acceptsMore 19 = .ok (.astore_n 2, 1) := dk_77 (dk_at dksX6_acceptsMore_0 19 rfl rfl)
theorem dX6_acceptsMore_20 : decode cX6_acceptsMore 20 = .ok (.aload_n 2, 1) := dk_44 (dk_at dksX6_acceptsMore_0 20 rfl rfl)
theorem dX6_acceptsMore_21 : decode cX6_acceptsMore 21 = .ok (.ifnull 37, 3) := dk_198 0 37 (dk_at dksX6_acceptsMore_0 21 rfl rfl)
theorem dX6_acceptsMore_24 : decode cX6_acceptsMore 24 = .ok (.aload_n 0, 1) := dk_42 (dk_at dksX6_acceptsMore_1 0 rfl rfl)
theorem dX6_acceptsMore_25 : decode cX6_acceptsMore 25 = .ok (.new 98, 3) := dk_187 0 98 (dk_at dksX6_acceptsMore_1 1 rfl rfl)
theorem dX6_acceptsMore_28 : decode cX6_acceptsMore 28 = .ok (.dup, 1) := dk_89 (dk_at dksX6_acceptsMore_1 4 rfl rfl)
theorem dX6_acceptsMore_29 : decode cX6_acceptsMore 29 = .ok (.aload_n 2, 1) := dk_44 (dk_at dksX6_acceptsMore_1 5 rfl rfl)
theorem dX6_acceptsMore_30 : decode cX6_acceptsMore 30 = .ok (.invokevirtual 121, 3) := dk_182 0 121 (dk_at dksX6_acceptsMore_1 6 rfl rfl)
theorem dX6_acceptsMore_33 : decode cX6_acceptsMore 33 = .ok (.aload_n 0, 1) := dk_42 (dk_at dksX6_acceptsMore_1 9 rfl rfl)
theorem dX6_acceptsMore_34 : decode cX6_acceptsMore 34 = .ok (.invokevirtual 60, 3) := dk_182 0 60 (dk_at dksX6_acceptsMore_1 10 rfl rfl)
theorem dX6_acceptsMore_37 : decode cX6_acceptsMore 37 = .ok (.getfield 124, 3) := dk_180 0 124 (dk_at dksX6_acceptsMore_1 13 rfl rfl)
theorem dX6_acceptsMore_40 : decode cX6_acceptsMore 40 = .ok (.bipush (-9), 2) := dk_16 247 (dk_at dksX6_acceptsMore_1 16 rfl rfl)
theorem dX6_acceptsMore_42 : decode cX6_acceptsMore 42 = .ok (.if_icmp .eq 7, 3) := dk_159 0 7 (dk_at dksX6_acceptsMore_1 18 rfl rfl)
theorem dX6_acceptsMore_45 : decode cX6_acceptsMore 45 = .ok (.iconst 1, 1) := dk_4 (dk_at dksX6_acceptsMore_1 21 rfl rfl)
theorem dX6_acceptsMore_46 : decode cX6_acceptsMore 46 = .ok (.goto 4, 3) := dk_167 0 4 (dk_at dksX6_acceptsMore_2 0 rfl rfl)
theorem dX6_acceptsMore_49 : decode cX6_acceptsMore 49 = .ok (.iconst 0, 1) := dk_3 (dk_at dksX6_acceptsMore_2 3 rfl rfl)
theorem dX6_acceptsMore_50 : decode cX6_acceptsMore 50 = .ok (.invokespecial 100, 3) := dk_183 0 100 (dk_at dksX6_acceptsMore_2 4 rfl rfl)
theorem dX6_acceptsMore_53 : decode cX6_acceptsMore 53 = .ok (.putfield 52, 3) := dk_181 0 52 (dk_at dksX6_acceptsMore_2 7 rfl rfl)
theorem dX6_acceptsMore_56 : decode cX6_acceptsMore 56 = .ok (.iconst 1, 1) := dk_4 (dk_at dksX6_acceptsMore_2 10 rfl rfl)
theorem dX6_acceptsMore_57 : decode cX6_acceptsMore 57 = .ok (.ireturn, 1) := dk_172 (dk_at dksX6_acceptsMore_2 11 rfl rfl)
theorem dX6_acceptsMore_58 : decode cX6_acceptsMore 58 = .ok (.iload_n 1, 1) := dk_27 (dk_at dksX6_acceptsMore_2 12 rfl rfl)
theorem dX6_acceptsMore_59 : decode cX6_acceptsMore 59 = .ok (.bipush 47, 2) := dk_16 47 (dk_at dksX6_acceptsMore_2 13 rfl rfl)
theorem dX6_acceptsMore_61 : decode cX6_acceptsMore 61 = .ok (.if_icmp .ne 47, 3) := dk_160 0 47 (dk_at dksX6_acceptsMore_2 15 rfl rfl)
theorem dX6_acceptsMore_64 : decode cX6_acceptsMore 64 = .ok (.aload_n 0, 1) := dk_42 (dk_at dksX6_acceptsMore_2 18 rfl rfl)
theorem dX6_acceptsMore_65 : decode cX6_acceptsMore 65 = .ok (.invokevirtual 60, 3) := dk_182 0 60 (dk_at dksX6_acceptsMore_2 19 rfl rfl)
theorem dX6_acceptsMore_68 : decode cX6_acceptsMore 68 = .ok (.getfield 124, 3) := dk_180 0 124 (dk_at dksX6_acceptsMore_3 0 rfl rfl)
theorem dX6_acceptsMore_71 : decode cX6_acceptsMore 71 = .ok (.bipush (-9), 2) := dk_16 247 (dk_at dksX6_acceptsMore_3 3 rfl rfl)
theorem dX6_acceptsMore_73 : decode cX6_acceptsMore 73 = .ok (.if_icmp .eq 7, 3) := dk_159 0 7 (dk_at dksX6_acceptsMore_3 5 rfl rfl)
theorem dX6_acceptsMore_76 : decode cX6_acceptsMore 76 = .ok (.iconst 1, 1) := dk_4 (dk_at dksX6_acceptsMore_3 8 rfl rfl)
theorem dX6_acceptsMore_77 : decode cX6_acceptsMore 77 = .ok (.goto 4, 3) := dk_167 0 4 (dk_at dksX6_acceptsMore_3 9 rfl rfl)
theorem dX6_acceptsMore_80 : decode cX6_acceptsMore 80 = .ok (.iconst 0, 1) := dk_3 (dk_at dksX6_acceptsMore_3 12 rfl rfl)
theorem dX6_acceptsMore_81 : decode cX6_acceptsMore 81 = .ok (.istore_n 3, 1) := dk_62 (dk_at dksX6_acceptsMore_3 13 rfl rfl)
theorem dX6_acceptsMore_82 : decode cX6_acceptsMore 82 = .ok (.iload_n 3, 1) := dk_29 (dk_at dksX6_acceptsMore_3 14 rfl rfl)
theorem dX6_acceptsMore_83 : decode cX6_acceptsMore 83 = .ok (.ifCond .eq 23, 3) := dk_153 0 23 (dk_at dksX6_acceptsMore_3 15 rfl rfl)
theorem dX6_acceptsMore_86 : decode cX6_acceptsMore 86 = .ok (.aload_n 0, 1) := dk_42 (dk_at dksX6_acceptsMore_3 18 rfl rfl)
theorem dX6_acceptsMore_87 : decode cX6_acceptsMore 87 = .ok (.invokevirtual 60, 3) := dk_182 0 60 (dk_at dksX6_acceptsMore_3 19 rfl rfl)
theorem dX6_acceptsMore_90 : decode cX6_acceptsMore 90 = .ok (.invokevirtual 127, 3) := dk_182 0 127 (dk_at dksX6_acceptsMore_4 0 rfl rfl)
theorem dX6_acceptsMore_93 : decode cX6_acceptsMore 93 = .ok (.aload_n 0, 1) := dk_42 (dk_at dksX6_acceptsMore_4 3 rfl rfl)
theorem dX6_acceptsMore_94 : decode cX6_acceptsMore 94 = .ok (.new 98, 3) := dk_187 0 98 (dk_at dksX6_acceptsMore_4 4 rfl rfl)
theorem dX6_acceptsMore_97 : decode cX6_acceptsMore 97 = .ok (.dup, 1) := dk_89 (dk_at dksX6_acceptsMore_4 7 rfl rfl)
theorem dX6_acceptsMore_98 : decode cX6_acceptsMore 98 = .ok (.iconst 0, 1) := dk_3 (dk_at dksX6_acceptsMore_4 8 rfl rfl)
theorem dX6_acceptsMore_99 : decode cX6_acceptsMore 99 = .ok (.iconst 0, 1) := dk_3 (dk_at dksX6_acceptsMore_4 9 rfl rfl)
theorem dX6_acceptsMore_100 : decode cX6_acceptsMore 100 = .ok (.invokespecial 100, 3) := dk_183 0 100 (dk_at dksX6_acceptsMore_4 10 rfl rfl)
theorem dX6_acceptsMore_103 : decode cX6_acceptsMore 103 = .ok (.putfield 52, 3) := dk_181 0 52 (dk_at dksX6_acceptsMore_4 13 rfl rfl)
theorem dX6_acceptsMore_106 : decode cX6_acceptsMore 106 = .ok (.iload_n 3, 1) := dk_29 (dk_at dksX6_acceptsMore_4 16 rfl rfl)
theorem dX6_acceptsMore_107 : decode cX6_acceptsMore 107 = .ok (.ireturn, 1) := dk_172 (dk_at dksX6_acceptsMore_4 17 rfl rfl)
theorem dX6_acceptsMore_108 : decode cX6_acceptsMore 108 = .ok (.iload_n 1, 1) := dk_27 (dk_at dksX6_acceptsMore_4 18 rfl rfl)
theorem dX6_acceptsMore_109 : decode cX6_acceptsMore 109 = .ok (.bipush 41, 2) := dk_16 41 (dk_at dksX6_acceptsMore_4 19 rfl rfl)
theorem dX6_acceptsMore_111 : decode cX6_acceptsMore 111 = .ok (.if_icmp .ne 29, 3) := dk_160 0 29 (dk_at dksX6_acceptsMore_4 21 rfl rfl)
theorem dX6_acceptsMore_114 : decode cX6_acceptsMore 114 = .ok (.aload_n 0, 1) := dk_42 (dk_at dksX6_acceptsMore_5 0 rfl rfl)
theorem dX6_acceptsMore_115 : decode cX6_acceptsMore 115 = .ok (.getfield 18, 3) := dk_180 0 18 (dk_at dksX6_acceptsMore_5 1 rfl rfl)
theorem dX6_acceptsMore_118 : decode cX6_acceptsMore 118 = .ok (.invokeinterface 56 1, 5) := by decide +kernel
theorem dX6_acceptsMore_123 : decode cX6_acceptsMore 123 = .ok (.iconst 1, 1) := dk_4 (dk_at dksX6_acceptsMore_5 9 rfl rfl)
theorem dX6_acceptsMore_124 : decode cX6_acceptsMore 124 = .ok (.if_icmp .le 14, 3) := dk_164 0 14 (dk_at dksX6_acceptsMore_5 10 rfl rfl)
theorem dX6_acceptsMore_127 : decode cX6_acceptsMore 127 = .ok (.aload_n 0, 1) := dk_42 (dk_at dksX6_acceptsMore_5 13 rfl rfl)
theorem dX6_acceptsMore_128 : decode cX6_acceptsMore 128 = .ok (.invokevirtual 130, 3) := dk_182 0 130 (dk_at dksX6_acceptsMore_5 14 rfl rfl)
theorem dX6_acceptsMore_131 : decode cX6_acceptsMore 131 = .ok (.ifCond .eq 7, 3) := dk_153 0 7 (dk_at dksX6_acceptsMore_5 17 rfl rfl)
theorem dX6_acceptsMore_134 : decode cX6_acceptsMore 134 = .ok (.iconst 1, 1) := dk_4 (dk_at dksX6_acceptsMore_5 20 rfl rfl)
theorem dX6_acceptsMore_135 : decode cX6_acceptsMore 135 = .ok (.goto 4, 3) := dk_167 0 4 (dk_at dksX6_acceptsMore_5 21 rfl rfl)
theorem dX6_acceptsMore_138 : decode cX6_acceptsMore 138 = .ok (.iconst 0, 1) := dk_3 (dk_at dksX6_acceptsMore_6 0 rfl rfl)
theorem dX6_acceptsMore_139 : decode cX6_acceptsMore 139 = .ok (.ireturn, 1) := dk_172 (dk_at dksX6_acceptsMore_6 1 rfl rfl)
theorem dX6_acceptsMore_140 : decode cX6_acceptsMore 140 = .ok (.iload_n 1, 1) := dk_27 (dk_at dksX6_acceptsMore_6 2 rfl rfl)
theorem dX6_acceptsMore_141 : decode cX6_acceptsMore 141 = .ok (.bipush 32, 2) := dk_16 32 (dk_at dksX6_acceptsMore_6 3 rfl rfl)
theorem dX6_acceptsMore_143 : decode cX6_acceptsMore 143 = .ok (.if_icmp .eq 10, 3) := dk_159 0 10 (dk_at dksX6_acceptsMore_6 5 rfl rfl)
theorem dX6_acceptsMore_146 : decode cX6_acceptsMore 146 = .ok (.iload_n 1, 1) := dk_27 (dk_at dksX6_acceptsMore_6 8 rfl rfl)
theorem dX6_acceptsMore_147 : decode cX6_acceptsMore 147 = .ok (.invokestatic 134, 3) := dk_184 0 134 (dk_at dksX6_acceptsMore_6 9 rfl rfl)
theorem dX6_acceptsMore_150 : decode cX6_acceptsMore 150 = .ok (.ifCond .eq 7, 3) := dk_153 0 7 (dk_at dksX6_acceptsMore_6 12 rfl rfl)
theorem dX6_acceptsMore_153 : decode cX6_acceptsMore 153 = .ok (.iconst 1, 1) := dk_4 (dk_at dksX6_acceptsMore_6 15 rfl rfl)
theorem dX6_acceptsMore_154 : decode cX6_acceptsMore 154 = .ok (.goto 4, 3) := dk_167 0 4 (dk_at dksX6_acceptsMore_6 16 rfl rfl)
theorem dX6_acceptsMore_157 : decode cX6_acceptsMore 157 = .ok (.iconst 0, 1) := dk_3 (dk_at dksX6_acceptsMore_6 19 rfl rfl)
theorem dX6_acceptsMore_158 : decode cX6_acceptsMore 158 = .ok (.istore_n 3, 1) := dk_62 (dk_at dksX6_acceptsMore_6 20 rfl rfl)
theorem dX6_acceptsMore_159 : decode cX6_acceptsMore 159 = .ok (.iload_n 3, 1) := dk_29 (dk_at dksX6_acceptsMore_6 21 rfl rfl)
theorem dX6_acceptsMore_160 : decode cX6_acceptsMore 160 = .ok (.ifCond .eq 34, 3) := dk_153 0 34 (dk_at dksX6_acceptsMore_7 0 rfl rfl)
theorem dX6_acceptsMore_163 : decode cX6_acceptsMore 163 = .ok (.aload_n 0, 1) := dk_42 (dk_at dksX6_acceptsMore_7 3 rfl rfl)
theorem dX6_acceptsMore_164 : decode cX6_acceptsMore 164 = .ok (.invokevirtual 60, 3) := dk_182 0 60 (dk_at dksX6_acceptsMore_7 4 rfl rfl)
theorem dX6_acceptsMore_167 : decode cX6_acceptsMore 167 = .ok (.invokevirtual 64, 3) := dk_182 0 64 (dk_at dksX6_acceptsMore_7 7 rfl rfl)
theorem dX6_acceptsMore_170 : decode cX6_acceptsMore 170 = .ok (.iload_n 1, 1) := dk_27 (dk_at dksX6_acceptsMore_7 10 rfl rfl)
theorem dX6_acceptsMore_171 : decode cX6_acceptsMore 171 = .ok (.bipush 32, 2) := dk_16 32 (dk_at dksX6_acceptsMore_7 11 rfl rfl)
theorem dX6_acceptsMore_173 : decode cX6_acceptsMore 173 = .ok (.if_icmp .eq 21, 3) := dk_159 0 21 (dk_at dksX6_acceptsMore_7 13 rfl rfl)
theorem dX6_acceptsMore_176 : decode cX6_acceptsMore 176 = .ok (.aload_n 0, 1) := dk_42 (dk_at dksX6_acceptsMore_7 16 rfl rfl)
theorem dX6_acceptsMore_177 : decode cX6_acceptsMore 177 = .ok (.invokevirtual 60, 3) := dk_182 0 60 (dk_at dksX6_acceptsMore_7 17 rfl rfl)
theorem dX6_acceptsMore_180 : decode cX6_acceptsMore 180 = .ok (.getfield 67, 3) := dk_180 0 67 (dk_at dksX6_acceptsMore_7 20 rfl rfl)
theorem dX6_acceptsMore_183 : decode cX6_acceptsMore 183 = .ok (.new 86, 3) := dk_187 0 86 (dk_at dksX6_acceptsMore_8 0 rfl rfl)
theorem dX6_acceptsMore_186 : decode cX6_acceptsMore 186 = .ok (.dup, 1) := dk_89 (dk_at dksX6_acceptsMore_8 3 rfl rfl)
theorem dX6_acceptsMore_187 : decode cX6_acceptsMore 187 = .ok (.iload_n 1, 1) := dk_27 (dk_at dksX6_acceptsMore_8 4 rfl rfl)
theorem dX6_acceptsMore_188 : decode cX6_acceptsMore 188 = .ok (.invokespecial 88, 3) := dk_183 0 88 (dk_at dksX6_acceptsMore_8 5 rfl rfl)
theorem dX6_acceptsMore_191 : decode cX6_acceptsMore 191 = .ok (.invokevirtual 137, 3) := dk_182 0 137 (dk_at dksX6_acceptsMore_8 8 rfl rfl)
theorem dX6_acceptsMore_194 : decode cX6_acceptsMore 194 = .ok (.iload_n 3, 1) := dk_29 (dk_at dksX6_acceptsMore_8 11 rfl rfl)
theorem dX6_acceptsMore_195 : decode cX6_acceptsMore 195 = .ok (.ireturn, 1) := dk_172 (dk_at dksX6_acceptsMore_8 12 rfl rfl)
abbrev cX6_close : ByteArray := prog_8_method_8_code
def yX6_close : MethodName := ⟨RX6, "close", "()Z"⟩
def dkwX6_close_4 : List UInt8 := [183, 0, 154, 182, 0, 91, 87, 42, 182, 0, 60, 4, 181, 0, 164, 4, 172]
abbrev dktX6_close_4 : List UInt8 := dkwX6_close_4 ++ []
def dkwX6_close_3 : List UInt8 := [180, 0, 67, 182, 0, 160, 172, 42, 187, 0, 152, 89, 8, 4, 189, 0, 138, 89, 3, 43, 180, 0, 67, 83]
abbrev dktX6_close_3 : List UInt8 := dkwX6_close_3 ++ dktX6_close_4
def dkwX6_close_2 : List UInt8 := [180, 0, 67, 83, 183, 0, 154, 182, 0, 91, 172, 42, 180, 0, 52, 180, 0, 157, 153, 0, 12, 42, 43]
abbrev dktX6_close_2 : List UInt8 := dkwX6_close_2 ++ dktX6_close_3
def dkwX6_close_1 : List UInt8 := [181, 0, 52, 43, 180, 0, 149, 153, 0, 27, 42, 187, 0, 152, 89, 7, 4, 189, 0, 138, 89, 3, 43]
abbrev dktX6_close_1 : List UInt8 := dkwX6_close_1 ++ dktX6_close_2
def dkwX6_close_0 : List UInt8 := [42, 180, 0, 18, 185, 0, 143, 1, 0, 192, 0, 22, 76, 43, 182, 0, 64, 42, 43, 180, 0, 146]
abbrev dktX6_close_0 : List UInt8 := dkwX6_close_0 ++ dktX6_close_1
theorem dksX6_close_0 : cX6_close.data.toList.drop 0 = dktX6_close_0 := by decide +kernel
theorem dksX6_close_1 : cX6_close.data.toList.drop 22 = dktX6_close_1 := dk_seg dksX6_close_0 22 rfl rfl
theorem dksX6_close_2 : cX6_close.data.toList.drop 45 = dktX6_close_2 := dk_seg dksX6_close_1 23 rfl rfl
theorem dksX6_close_3 : cX6_close.data.toList.drop 68 = dktX6_close_3 := dk_seg dksX6_close_2 23 rfl rfl
theorem dksX6_close_4 : cX6_close.data.toList.drop 92 = dktX6_close_4 := dk_seg dksX6_close_3 24 rfl rfl
theorem dX6_close_0 : decode cX6_close 0 = .ok (.aload_n 0, 1) := dk_42 (dk_at dksX6_close_0 0 rfl rfl)
theorem dX6_close_1 : decode cX6_close 1 = .ok (.getfield 18, 3) := dk_180 0 18 (dk_at dksX6_close_0 1 rfl rfl)
theorem dX6_close_4 : decode cX6_close 4 = .ok (.invokeinterface 143 1, 5) := by decide +kernel
theorem dX6_close_9 : decode cX6_close 9 = .ok (.checkcast 22, 3) := dk_192 0 22 (dk_at dksX6_close_0 9 rfl rfl)
theorem dX6_close_12 : decode cX6_close 12 = .ok (.astore_n 1, 1) := dk_76 (dk_at dksX6_close_0 12 rfl rfl)
theorem dX6_close_13 : decode cX6_close 13 = .ok (.aload_n 1, 1) := dk_43 (dk_at dksX6_close_0 13 rfl rfl)
theorem dX6_close_14 : decode cX6_close 14 = .ok (.invokevirtual 64, 3) := dk_182 0 64 (dk_at dksX6_close_0 14 rfl rfl)
theorem dX6_close_17 : decode cX6_close 17 = .ok (.aload_n 0, 1) := dk_42 (dk_at dksX6_close_0 17 rfl rfl)
theorem dX6_close_18 : decode cX6_close 18 = .ok (.aload_n 1, 1) := dk_43 (dk_at dksX6_close_0 18 rfl rfl)
theorem dX6_close_19 : decode cX6_close 19 = .ok (.getfield 146, 3) := dk_180 0 146 (dk_at dksX6_close_0 19 rfl rfl)
theorem dX6_close_22 : decode cX6_close 22 = .ok (.putfield 52, 3) := dk_181 0 52 (dk_at dksX6_close_1 0 rfl rfl)
theorem dX6_close_25 : decode cX6_close 25 = .ok (.aload_n 1, 1) := dk_43 (dk_at dksX6_close_1 3 rfl rfl)
theorem dX6_close_26 : decode cX6_close 26 = .ok (.getfield 149, 3) := dk_180 0 149 (dk_at dksX6_close_1 4 rfl rfl)
theorem dX6_close_29 : decode cX6_close 29 = .ok (.ifCond .eq 27, 3) := dk_153 0 27 (dk_at dksX6_close_1 7 rfl rfl)
theorem dX6_close_32 : decode cX6_close 32 = .ok (.aload_n 0, 1) := dk_42 (dk_at dksX6_close_1 10 rfl rfl)
theorem dX6_close_33 : decode cX6_close 33 = .ok (.new 152, 3) := dk_187 0 152 (dk_at dksX6_close_1 11 rfl rfl)
theorem dX6_close_36 : decode cX6_close 36 = .ok (.dup, 1) := dk_89 (dk_at dksX6_close_1 14 rfl rfl)
theorem dX6_close_37 : decode cX6_close 37 = .ok (.iconst 4, 1) := dk_7 (dk_at dksX6_close_1 15 rfl rfl)
theorem dX6_close_38 : decode cX6_close 38 = .ok (.iconst 1, 1) := dk_4 (dk_at dksX6_close_1 16 rfl rfl)
theorem dX6_close_39 : decode cX6_close 39 = .ok (.anewarray 138, 3) := dk_189 0 138 (dk_at dksX6_close_1 17 rfl rfl)
theorem dX6_close_42 : decode cX6_close 42 = .ok (.dup, 1) := dk_89 (dk_at dksX6_close_1 20 rfl rfl)
theorem dX6_close_43 : decode cX6_close 43 = .ok (.iconst 0, 1) := dk_3 (dk_at dksX6_close_1 21 rfl rfl)
theorem dX6_close_44 : decode cX6_close 44 = .ok (.aload_n 1, 1) := dk_43 (dk_at dksX6_close_1 22 rfl rfl)
theorem dX6_close_45 : decode cX6_close 45 = .ok (.getfield 67, 3) := dk_180 0 67 (dk_at dksX6_close_2 0 rfl rfl)
theorem dX6_close_48 : decode cX6_close 48 = .ok (.aastore, 1) := dk_83 (dk_at dksX6_close_2 3 rfl rfl)
theorem dX6_close_49 : decode cX6_close 49 = .ok (.invokespecial 154, 3) := dk_183 0 154 (dk_at dksX6_close_2 4 rfl rfl)
theorem dX6_close_52 : decode cX6_close 52 = .ok (.invokevirtual 91, 3) := dk_182 0 91 (dk_at dksX6_close_2 7 rfl rfl)
theorem dX6_close_55 : decode cX6_close 55 = .ok (.ireturn, 1) := dk_172 (dk_at dksX6_close_2 10 rfl rfl)
theorem dX6_close_56 : decode cX6_close 56 = .ok (.aload_n 0, 1) := dk_42 (dk_at dksX6_close_2 11 rfl rfl)
theorem dX6_close_57 : decode cX6_close 57 = .ok (.getfield 52, 3) := dk_180 0 52 (dk_at dksX6_close_2 12 rfl rfl)
theorem dX6_close_60 : decode cX6_close 60 = .ok (.getfield 157, 3) := dk_180 0 157 (dk_at dksX6_close_2 15 rfl rfl)
theorem dX6_close_63 : decode cX6_close 63 = .ok (.ifCond .eq 12, 3) := dk_153 0 12 (dk_at dksX6_close_2 18 rfl rfl)
theorem dX6_close_66 : decode cX6_close 66 = .ok (.aload_n 0, 1) := dk_42 (dk_at dksX6_close_2 21 rfl rfl)
theorem dX6_close_67 : decode cX6_close 67 = .ok (.aload_n 1, 1) := dk_43 (dk_at dksX6_close_2 22 rfl rfl)
theorem dX6_close_68 : decode cX6_close 68 = .ok (.getfield 67, 3) := dk_180 0 67 (dk_at dksX6_close_3 0 rfl rfl)
theorem dX6_close_71 : decode cX6_close 71 = .ok (.invokevirtual 160, 3) := dk_182 0 160 (dk_at dksX6_close_3 3 rfl rfl)
theorem dX6_close_74 : decode cX6_close 74 = .ok (.ireturn, 1) := dk_172 (dk_at dksX6_close_3 6 rfl rfl)
theorem dX6_close_75 : decode cX6_close 75 = .ok (.aload_n 0, 1) := dk_42 (dk_at dksX6_close_3 7 rfl rfl)
theorem dX6_close_76 : decode cX6_close 76 = .ok (.new 152, 3) := dk_187 0 152 (dk_at dksX6_close_3 8 rfl rfl)
theorem dX6_close_79 : decode cX6_close 79 = .ok (.dup, 1) := dk_89 (dk_at dksX6_close_3 11 rfl rfl)
theorem dX6_close_80 : decode cX6_close 80 = .ok (.iconst 5, 1) := dk_8 (dk_at dksX6_close_3 12 rfl rfl)
theorem dX6_close_81 : decode cX6_close 81 = .ok (.iconst 1, 1) := dk_4 (dk_at dksX6_close_3 13 rfl rfl)
theorem dX6_close_82 : decode cX6_close 82 = .ok (.anewarray 138, 3) := dk_189 0 138 (dk_at dksX6_close_3 14 rfl rfl)
theorem dX6_close_85 : decode cX6_close 85 = .ok (.dup, 1) := dk_89 (dk_at dksX6_close_3 17 rfl rfl)
theorem dX6_close_86 : decode cX6_close 86 = .ok (.iconst 0, 1) := dk_3 (dk_at dksX6_close_3 18 rfl rfl)
theorem dX6_close_87 : decode cX6_close 87 = .ok (.aload_n 1, 1) := dk_43 (dk_at dksX6_close_3 19 rfl rfl)
theorem dX6_close_88 : decode cX6_close 88 = .ok (.getfield 67, 3) := dk_180 0 67 (dk_at dksX6_close_3 20 rfl rfl)
theorem dX6_close_91 : decode cX6_close 91 = .ok (.aastore, 1) := dk_83 (dk_at dksX6_close_3 23 rfl rfl)
theorem dX6_close_92 : decode cX6_close 92 = .ok (.invokespecial 154, 3) := dk_183 0 154 (dk_at dksX6_close_4 0 rfl rfl)
theorem dX6_close_95 : decode cX6_close 95 = .ok (.invokevirtual 91, 3) := dk_182 0 91 (dk_at dksX6_close_4 3 rfl rfl)
theorem dX6_close_98 : decode cX6_close 98 = .ok (.pop, 1) := dk_87 (dk_at dksX6_close_4 6 rfl rfl)
theorem dX6_close_99 : decode cX6_close 99 = .ok (.aload_n 0, 1) := dk_42 (dk_at dksX6_close_4 7 rfl rfl)
theorem dX6_close_100 : decode cX6_close 100 = .ok (.invokevirtual 60, 3) := dk_182 0 60 (dk_at dksX6_close_4 8 rfl rfl)
theorem dX6_close_103 : decode cX6_close 103 = .ok (.iconst 1, 1) := dk_4 (dk_at dksX6_close_4 11 rfl rfl)
theorem dX6_close_104 : decode cX6_close 104 = .ok (.putfield 164, 3) := dk_181 0 164 (dk_at dksX6_close_4 12 rfl rfl)
theorem dX6_close_107 : decode cX6_close 107 = .ok (.iconst 1, 1) := dk_4 (dk_at dksX6_close_4 15 rfl rfl)
theorem dX6_close_108 : decode cX6_close 108 = .ok (.ireturn, 1) := dk_172 (dk_at dksX6_close_4 16 rfl rfl)
theorem q96 : (Jvm.Cond.initialized "FormulaEditor$Parser") ∈ lw_all := lw_g (lw_at lw_m1 39 rfl) rfl
theorem q200 : (Jvm.Cond.selects "FormulaEditor$Parser" ({ cls := "java/lang/Object", name := "hashCode", desc := "()I" } : Jvm.MethodName) ({ cls := "java/lang/Object", name := "hashCode", desc := "()I" } : Jvm.MethodName)) ∈ lw_all := lw_g (lw_at lw_m1 143 rfl) rfl
theorem q665 : (Jvm.Cond.selects "FormulaEditor$Parser" ({ cls := "java/lang/Object", name := "getClass", desc := "()Ljava/lang/Class;" } : Jvm.MethodName) ({ cls := "java/lang/Object", name := "getClass", desc := "()Ljava/lang/Class;" } : Jvm.MethodName)) ∈ lw_all := lw_g (lw_at lw_m3 128 rfl) rfl
theorem q926 : (Jvm.Cond.selects "FormulaEditor$Parser" ({ cls := "java/lang/Object", name := "equals", desc := "(Ljava/lang/Object;)Z" } : Jvm.MethodName) ({ cls := "java/lang/Object", name := "equals", desc := "(Ljava/lang/Object;)Z" } : Jvm.MethodName)) ∈ lw_all := lw_g (lw_at lw_m4 149 rfl) rfl
theorem q1192 : (Jvm.Cond.fieldLinkNest "FormulaEditor$Parser" (168 : Nat) "FormulaEditor$Row" "items" "Ljava/util/List;" "FormulaEditor") ∈ lw_tbl := lw_at lw_m5 175 rfl
theorem q1252 : (Jvm.Cond.fieldLinkNest "FormulaEditor$Parser" (103 : Nat) "FormulaEditor" "scripts" "Ljava/util/Map;" "FormulaEditor") ∈ lw_tbl := lw_at lw_m5 235 rfl
theorem q1260 : (Jvm.Cond.fieldLinkNest "FormulaEditor$Parser" (44 : Nat) "FormulaEditor" "text" "[C" "FormulaEditor") ∈ lw_tbl := lw_at lw_m6 3 rfl
theorem q1262 : (Jvm.Cond.fieldLinkNest "FormulaEditor$Parser" (41 : Nat) "FormulaEditor" "textLength" "I" "FormulaEditor") ∈ lw_tbl := lw_at lw_m6 5 rfl
theorem q1293 : (Jvm.Cond.instantiable "FormulaEditor$Parser" (5 : Nat)) ∈ lw_all := lw_g (lw_at lw_m6 36 rfl) rfl
theorem q1295 : (Jvm.Cond.instanceMethod ({ cls := "FormulaEditor$Parser", name := "<init>", desc := "(LFormulaEditor;)V" } : Jvm.MethodName)) ∈ lw_all := lw_g (lw_at lw_m6 38 rfl) rfl
theorem q1296 : (Jvm.Cond.code ({ cls := "FormulaEditor$Parser", name := "<init>", desc := "(LFormulaEditor;)V" } : Jvm.MethodName) prog_8_method_1_code (2 : Nat) (Option.none : Option Jvm.ClassFile.FieldType)) ∈ lw_all := lw_g (lw_at lw_m6 39 rfl) rfl
theorem q1297 : (Jvm.Cond.methodLink "FormulaEditor$Parser" (9 : Nat) ({ cls := "java/lang/Object", name := "<init>", desc := "()V" } : Jvm.MethodName)) ∈ lw_all := lw_g (lw_at lw_m6 40 rfl) rfl
theorem q1298 : (Jvm.Cond.classLink "FormulaEditor$Parser" (15 : Nat) "java/util/ArrayDeque") ∈ lw_all := lw_g (lw_at lw_m6 41 rfl) rfl
theorem q1299 : (Jvm.Cond.methodLink "FormulaEditor$Parser" (17 : Nat) ({ cls := "java/util/ArrayDeque", name := "<init>", desc := "()V" } : Jvm.MethodName)) ∈ lw_all := lw_g (lw_at lw_m6 42 rfl) rfl
theorem q1300 : (Jvm.Cond.classLink "FormulaEditor$Parser" (22 : Nat) "FormulaEditor$Level") ∈ lw_all := lw_g (lw_at lw_m6 43 rfl) rfl
theorem q1302 : (Jvm.Cond.methodLink "FormulaEditor$Parser" (24 : Nat) ({ cls := "FormulaEditor$Level", name := "<init>", desc := "(LFormulaEditor$Role;Z)V" } : Jvm.MethodName)) ∈ lw_all := lw_g (lw_at lw_m6 45 rfl) rfl
theorem q1309 : (Jvm.Cond.fieldLinkNest "FormulaEditor$Parser" (67 : Nat) "FormulaEditor$Level" "row" "LFormulaEditor$Row;" "FormulaEditor") ∈ lw_tbl := lw_at lw_m6 52 rfl
theorem q1311 : (Jvm.Cond.fieldLinkNest "FormulaEditor$Parser" (146 : Nat) "FormulaEditor$Level" "role" "LFormulaEditor$Role;" "FormulaEditor") ∈ lw_tbl := lw_at lw_m6 54 rfl
theorem q1313 : (Jvm.Cond.fieldLinkNest "FormulaEditor$Parser" (149 : Nat) "FormulaEditor$Level" "isRoot" "Z" "FormulaEditor") ∈ lw_tbl := lw_at lw_m6 56 rfl
theorem q1316 : (Jvm.Cond.fieldLinkNest "FormulaEditor$Parser" (124 : Nat) "FormulaEditor$Level" "factor" "I" "FormulaEditor") ∈ lw_tbl := lw_at lw_m6 59 rfl
theorem q1318 : (Jvm.Cond.fieldLinkNest "FormulaEditor$Parser" (164 : Nat) "FormulaEditor$Level" "isParenthesesAlone" "Z" "FormulaEditor") ∈ lw_tbl := lw_at lw_m6 61 rfl
theorem q1332 : (Jvm.Cond.interfaceEntry "FormulaEditor$Parser" (27 : Nat)) ∈ lw_tbl := lw_at lw_m6 75 rfl
theorem q1333 : (Jvm.Cond.methodLink "FormulaEditor$Parser" (27 : Nat) ({ cls := "java/util/Deque", name := "addLast", desc := "(Ljava/lang/Object;)V" } : Jvm.MethodName)) ∈ lw_all := lw_g (lw_at lw_m6 76 rfl) rfl
theorem q1381 : (Jvm.Cond.fieldLink "FormulaEditor$Parser" (18 : Nat) "FormulaEditor$Parser" "levels" "Ljava/util/Deque;") ∈ lw_all := lw_g (lw_at lw_m6 124 rfl) rfl
theorem q1382 : (Jvm.Cond.fieldLink "FormulaEditor$Parser" (37 : Nat) "FormulaEditor$Parser" "position" "I") ∈ lw_all := lw_g (lw_at lw_m6 125 rfl) rfl
theorem q1384 : (Jvm.Cond.fieldLink "FormulaEditor$Parser" (52 : Nat) "FormulaEditor$Parser" "wanted" "LFormulaEditor$Role;") ∈ lw_all := lw_g (lw_at lw_m6 127 rfl) rfl
theorem q1385 : (Jvm.Cond.fieldLink "FormulaEditor$Parser" (71 : Nat) "FormulaEditor$Parser" "opensRoot" "Z") ∈ lw_all := lw_g (lw_at lw_m6 128 rfl) rfl
theorem q1386 : (Jvm.Cond.fieldLink "FormulaEditor$Parser" (3 : Nat) "FormulaEditor$Parser" "this$0" "LFormulaEditor;") ∈ lw_all := lw_g (lw_at lw_m6 129 rfl) rfl
theorem q1387 : (Jvm.Cond.laysFinal "FormulaEditor$Parser" "FormulaEditor$Parser" "levels" "Ljava/util/Deque;") ∈ lw_all := lw_g (lw_at lw_m6 130 rfl) rfl
theorem q1388 : (Jvm.Cond.soleField "FormulaEditor$Parser" "levels") ∈ lw_all := lw_g (lw_at lw_m6 131 rfl) rfl
theorem q1389 : (Jvm.Cond.lays "FormulaEditor$Parser" "FormulaEditor$Parser" "position" "I") ∈ lw_all := lw_g (lw_at lw_m6 132 rfl) rfl
theorem q1390 : (Jvm.Cond.soleField "FormulaEditor$Parser" "position") ∈ lw_all := lw_g (lw_at lw_m6 133 rfl) rfl
theorem q1391 : (Jvm.Cond.lays "FormulaEditor$Parser" "FormulaEditor$Parser" "wanted" "LFormulaEditor$Role;") ∈ lw_all := lw_g (lw_at lw_m6 134 rfl) rfl
theorem q1392 : (Jvm.Cond.soleField "FormulaEditor$Parser" "wanted") ∈ lw_all := lw_g (lw_at lw_m6 135 rfl) rfl
theorem q1393 : (Jvm.Cond.lays "FormulaEditor$Parser" "FormulaEditor$Parser" "opensRoot" "Z") ∈ lw_all := lw_g (lw_at lw_m6 136 rfl) rfl
theorem q1394 : (Jvm.Cond.soleField "FormulaEditor$Parser" "opensRoot") ∈ lw_all := lw_g (lw_at lw_m6 137 rfl) rfl
theorem q1395 : (Jvm.Cond.laysFinal "FormulaEditor$Parser" "FormulaEditor$Parser" "this$0" "LFormulaEditor;") ∈ lw_all := lw_g (lw_at lw_m6 138 rfl) rfl
theorem q1396 : (Jvm.Cond.soleField "FormulaEditor$Parser" "this$0") ∈ lw_all := lw_g (lw_at lw_m6 139 rfl) rfl
theorem q1397 : (Jvm.Cond.superclass "FormulaEditor$Parser" "java/lang/Object") ∈ lw_all := lw_g (lw_at lw_m6 140 rfl) rfl
theorem q1399 : (Jvm.Cond.instanceMethod ({ cls := "FormulaEditor$Parser", name := "read", desc := "()LFormulaEditor$Row;" } : Jvm.MethodName)) ∈ lw_all := lw_g (lw_at lw_m6 142 rfl) rfl
theorem q1400 : (Jvm.Cond.selects "FormulaEditor$Parser" ({ cls := "FormulaEditor$Parser", name := "read", desc := "()LFormulaEditor$Row;" } : Jvm.MethodName) ({ cls := "FormulaEditor$Parser", name := "read", desc := "()LFormulaEditor$Row;" } : Jvm.MethodName)) ∈ lw_all := lw_g (lw_at lw_m6 143 rfl) rfl
theorem q1401 : (Jvm.Cond.code ({ cls := "FormulaEditor$Parser", name := "read", desc := "()LFormulaEditor$Row;" } : Jvm.MethodName) prog_8_method_3_code (1 : Nat) (Option.some (Jvm.ClassFile.FieldType.object "FormulaEditor$Row"))) ∈ lw_all := lw_g (lw_at lw_m6 144 rfl) rfl
theorem q1402 : (Jvm.Cond.methodLink "FormulaEditor$Parser" (48 : Nat) ({ cls := "FormulaEditor$Parser", name := "accepts", desc := "(C)Z" } : Jvm.MethodName)) ∈ lw_all := lw_g (lw_at lw_m6 145 rfl) rfl
theorem q1403 : (Jvm.Cond.privateMethod ({ cls := "FormulaEditor$Parser", name := "accepts", desc := "(C)Z" } : Jvm.MethodName)) ∈ lw_tbl := lw_at lw_m6 146 rfl
theorem q1404 : (Jvm.Cond.instanceMethod ({ cls := "FormulaEditor$Parser", name := "accepts", desc := "(C)Z" } : Jvm.MethodName)) ∈ lw_all := lw_g (lw_at lw_m6 147 rfl) rfl
theorem q1405 : (Jvm.Cond.code ({ cls := "FormulaEditor$Parser", name := "accepts", desc := "(C)Z" } : Jvm.MethodName) prog_8_method_4_code (2 : Nat) (Option.some Jvm.ClassFile.FieldType.boolean)) ∈ lw_all := lw_g (lw_at lw_m6 148 rfl) rfl
theorem q1406 : (Jvm.Cond.methodLink "FormulaEditor$Parser" (75 : Nat) ({ cls := "FormulaEditor$Parser", name := "open", desc := "(Z)Z" } : Jvm.MethodName)) ∈ lw_all := lw_g (lw_at lw_m6 149 rfl) rfl
theorem q1407 : (Jvm.Cond.privateMethod ({ cls := "FormulaEditor$Parser", name := "open", desc := "(Z)Z" } : Jvm.MethodName)) ∈ lw_tbl := lw_at lw_m6 150 rfl
theorem q1408 : (Jvm.Cond.instanceMethod ({ cls := "FormulaEditor$Parser", name := "open", desc := "(Z)Z" } : Jvm.MethodName)) ∈ lw_all := lw_g (lw_at lw_m6 151 rfl) rfl
theorem q1409 : (Jvm.Cond.code ({ cls := "FormulaEditor$Parser", name := "open", desc := "(Z)Z" } : Jvm.MethodName) prog_8_method_6_code (2 : Nat) (Option.some Jvm.ClassFile.FieldType.boolean)) ∈ lw_all := lw_g (lw_at lw_m6 152 rfl) rfl
theorem q1410 : (Jvm.Cond.methodLinkNest "FormulaEditor$Parser" (79 : Nat) ({ cls := "FormulaEditor", name := "isOperand", desc := "(I)Z" } : Jvm.MethodName) "FormulaEditor") ∈ lw_tbl := lw_at lw_m6 153 rfl
theorem q1420 : (Jvm.Cond.methodLink "FormulaEditor$Parser" (83 : Nat) ({ cls := "FormulaEditor$Parser", name := "begin", desc := "()V" } : Jvm.MethodName)) ∈ lw_all := lw_g (lw_at lw_m6 163 rfl) rfl
theorem q1421 : (Jvm.Cond.privateMethod ({ cls := "FormulaEditor$Parser", name := "begin", desc := "()V" } : Jvm.MethodName)) ∈ lw_tbl := lw_at lw_m6 164 rfl
theorem q1422 : (Jvm.Cond.instanceMethod ({ cls := "FormulaEditor$Parser", name := "begin", desc := "()V" } : Jvm.MethodName)) ∈ lw_all := lw_g (lw_at lw_m6 165 rfl) rfl
theorem q1423 : (Jvm.Cond.code ({ cls := "FormulaEditor$Parser", name := "begin", desc := "()V" } : Jvm.MethodName) prog_8_method_5_code (1 : Nat) (Option.none : Option Jvm.ClassFile.FieldType)) ∈ lw_all := lw_g (lw_at lw_m6 166 rfl) rfl
theorem q1424 : (Jvm.Cond.methodLink "FormulaEditor$Parser" (60 : Nat) ({ cls := "FormulaEditor$Parser", name := "level", desc := "()LFormulaEditor$Level;" } : Jvm.MethodName)) ∈ lw_all := lw_g (lw_at lw_m6 167 rfl) rfl
theorem q1425 : (Jvm.Cond.privateMethod ({ cls := "FormulaEditor$Parser", name := "level", desc := "()LFormulaEditor$Level;" } : Jvm.MethodName)) ∈ lw_tbl := lw_at lw_m6 168 rfl
theorem q1426 : (Jvm.Cond.instanceMethod ({ cls := "FormulaEditor$Parser", name := "level", desc := "()LFormulaEditor$Level;" } : Jvm.MethodName)) ∈ lw_all := lw_g (lw_at lw_m6 169 rfl) rfl
theorem q1427 : (Jvm.Cond.code ({ cls := "FormulaEditor$Parser", name := "level", desc := "()LFormulaEditor$Level;" } : Jvm.MethodName) prog_8_method_2_code (1 : Nat) (Option.some (Jvm.ClassFile.FieldType.object "FormulaEditor$Level"))) ∈ lw_all := lw_g (lw_at lw_m6 170 rfl) rfl
theorem q1428 : (Jvm.Cond.interfaceEntry "FormulaEditor$Parser" (33 : Nat)) ∈ lw_tbl := lw_at lw_m6 171 rfl
theorem q1429 : (Jvm.Cond.methodLink "FormulaEditor$Parser" (33 : Nat) ({ cls := "java/util/Deque", name := "getLast", desc := "()Ljava/lang/Object;" } : Jvm.MethodName)) ∈ lw_all := lw_g (lw_at lw_m6 172 rfl) rfl
theorem q1443 : (Jvm.Cond.methodLink "FormulaEditor$Parser" (64 : Nat) ({ cls := "FormulaEditor$Level", name := "end", desc := "()V" } : Jvm.MethodName)) ∈ lw_all := lw_g (lw_at lw_m6 186 rfl) rfl
theorem q1592 : (Jvm.Cond.classLink "FormulaEditor$Parser" (98 : Nat) "FormulaEditor$Role") ∈ lw_all := lw_g (lw_at lw_m7 95 rfl) rfl
theorem q1594 : (Jvm.Cond.methodLink "FormulaEditor$Parser" (100 : Nat) ({ cls := "FormulaEditor$Role", name := "<init>", desc := "(IZ)V" } : Jvm.MethodName)) ∈ lw_all := lw_g (lw_at lw_m7 97 rfl) rfl
theorem q1599 : (Jvm.Cond.fieldLinkNest "FormulaEditor$Parser" (157 : Nat) "FormulaEditor$Role" "script" "I" "FormulaEditor") ∈ lw_tbl := lw_at lw_m7 102 rfl
theorem q1601 : (Jvm.Cond.fieldLinkNest "FormulaEditor$Parser" (175 : Nat) "FormulaEditor$Role" "isOfFactor" "Z" "FormulaEditor") ∈ lw_tbl := lw_at lw_m7 104 rfl
theorem q1607 : (Jvm.Cond.classLink "FormulaEditor$Parser" (86 : Nat) "FormulaEditor$Symbol") ∈ lw_all := lw_g (lw_at lw_m7 110 rfl) rfl
theorem q1609 : (Jvm.Cond.methodLink "FormulaEditor$Parser" (88 : Nat) ({ cls := "FormulaEditor$Symbol", name := "<init>", desc := "(I)V" } : Jvm.MethodName)) ∈ lw_all := lw_g (lw_at lw_m7 112 rfl) rfl
theorem q1619 : (Jvm.Cond.methodLink "FormulaEditor$Parser" (91 : Nat) ({ cls := "FormulaEditor$Parser", name := "place", desc := "(LFormulaEditor$Item;)Z" } : Jvm.MethodName)) ∈ lw_all := lw_g (lw_at lw_m7 122 rfl) rfl
theorem q1620 : (Jvm.Cond.privateMethod ({ cls := "FormulaEditor$Parser", name := "place", desc := "(LFormulaEditor$Item;)Z" } : Jvm.MethodName)) ∈ lw_tbl := lw_at lw_m7 123 rfl
theorem q1621 : (Jvm.Cond.instanceMethod ({ cls := "FormulaEditor$Parser", name := "place", desc := "(LFormulaEditor$Item;)Z" } : Jvm.MethodName)) ∈ lw_all := lw_g (lw_at lw_m7 124 rfl) rfl
theorem q1622 : (Jvm.Cond.code ({ cls := "FormulaEditor$Parser", name := "place", desc := "(LFormulaEditor$Item;)Z" } : Jvm.MethodName) prog_8_method_9_code (3 : Nat) (Option.some Jvm.ClassFile.FieldType.boolean)) ∈ lw_all := lw_g (lw_at lw_m7 125 rfl) rfl
theorem q1623 : (Jvm.Cond.classLink "FormulaEditor$Parser" (138 : Nat) "FormulaEditor$Row") ∈ lw_all := lw_g (lw_at lw_m7 126 rfl) rfl
theorem q1624 : (Jvm.Cond.methodLinkNest "FormulaEditor$Parser" (167 : Nat) ({ cls := "FormulaEditor$Row", name := "<init>", desc := "()V" } : Jvm.MethodName) "FormulaEditor") ∈ lw_tbl := lw_at lw_m7 127 rfl
theorem q1625 : (Jvm.Cond.methodLink "FormulaEditor$Parser" (137 : Nat) ({ cls := "FormulaEditor$Row", name := "add", desc := "(LFormulaEditor$Item;)V" } : Jvm.MethodName)) ∈ lw_all := lw_g (lw_at lw_m7 128 rfl) rfl
theorem q1626 : (Jvm.Cond.methodLink "FormulaEditor$Parser" (160 : Nat) ({ cls := "FormulaEditor$Parser", name := "placeScript", desc := "(LFormulaEditor$Row;)Z" } : Jvm.MethodName)) ∈ lw_all := lw_g (lw_at lw_m7 129 rfl) rfl
theorem q1627 : (Jvm.Cond.privateMethod ({ cls := "FormulaEditor$Parser", name := "placeScript", desc := "(LFormulaEditor$Row;)Z" } : Jvm.MethodName)) ∈ lw_tbl := lw_at lw_m7 130 rfl
theorem q1628 : (Jvm.Cond.instanceMethod ({ cls := "FormulaEditor$Parser", name := "placeScript", desc := "(LFormulaEditor$Row;)Z" } : Jvm.MethodName)) ∈ lw_all := lw_g (lw_at lw_m7 131 rfl) rfl
theorem q1629 : (Jvm.Cond.code ({ cls := "FormulaEditor$Parser", name := "placeScript", desc := "(LFormulaEditor$Row;)Z" } : Jvm.MethodName) prog_8_method_10_code (2 : Nat) (Option.some Jvm.ClassFile.FieldType.boolean)) ∈ lw_all := lw_g (lw_at lw_m7 132 rfl) rfl
theorem q1630 : (Jvm.Cond.classLink "FormulaEditor$Parser" (152 : Nat) "FormulaEditor$Structure") ∈ lw_all := lw_g (lw_at lw_m7 133 rfl) rfl
theorem q1631 : (Jvm.Cond.methodLink "FormulaEditor$Parser" (154 : Nat) ({ cls := "FormulaEditor$Structure", name := "<init>", desc := "(I[LFormulaEditor$Row;)V" } : Jvm.MethodName)) ∈ lw_all := lw_g (lw_at lw_m7 134 rfl) rfl
theorem q1632 : (Jvm.Cond.interfaceEntry "FormulaEditor$Parser" (172 : Nat)) ∈ lw_tbl := lw_at lw_m7 135 rfl
theorem q1633 : (Jvm.Cond.methodLink "FormulaEditor$Parser" (172 : Nat) ({ cls := "java/util/List", name := "size", desc := "()I" } : Jvm.MethodName)) ∈ lw_all := lw_g (lw_at lw_m7 136 rfl) rfl
theorem q1634 : (Jvm.Cond.methodLink "FormulaEditor$Parser" (95 : Nat) ({ cls := "FormulaEditor$Parser", name := "acceptsMore", desc := "(C)Z" } : Jvm.MethodName)) ∈ lw_all := lw_g (lw_at lw_m7 137 rfl) rfl
theorem q1635 : (Jvm.Cond.privateMethod ({ cls := "FormulaEditor$Parser", name := "acceptsMore", desc := "(C)Z" } : Jvm.MethodName)) ∈ lw_tbl := lw_at lw_m7 138 rfl
theorem q1636 : (Jvm.Cond.instanceMethod ({ cls := "FormulaEditor$Parser", name := "acceptsMore", desc := "(C)Z" } : Jvm.MethodName)) ∈ lw_all := lw_g (lw_at lw_m7 139 rfl) rfl
theorem q1637 : (Jvm.Cond.code ({ cls := "FormulaEditor$Parser", name := "acceptsMore", desc := "(C)Z" } : Jvm.MethodName) prog_8_method_7_code (4 : Nat) (Option.some Jvm.ClassFile.FieldType.boolean)) ∈ lw_all := lw_g (lw_at lw_m7 140 rfl) rfl
theorem q1638 : (Jvm.Cond.methodLink "FormulaEditor$Parser" (107 : Nat) ({ cls := "java/lang/Character", name := "valueOf", desc := "(C)Ljava/lang/Character;" } : Jvm.MethodName)) ∈ lw_all := lw_g (lw_at lw_m7 141 rfl) rfl
theorem q1639 : (Jvm.Cond.interfaceEntry "FormulaEditor$Parser" (113 : Nat)) ∈ lw_tbl := lw_at lw_m7 142 rfl
theorem q1640 : (Jvm.Cond.methodLink "FormulaEditor$Parser" (113 : Nat) ({ cls := "java/util/Map", name := "get", desc := "(Ljava/lang/Object;)Ljava/lang/Object;" } : Jvm.MethodName)) ∈ lw_all := lw_g (lw_at lw_m7 143 rfl) rfl
theorem q1656 : (Jvm.Cond.classLink "FormulaEditor$Parser" (119 : Nat) "java/lang/Integer") ∈ lw_all := lw_g (lw_at lw_m7 159 rfl) rfl
theorem q1657 : (Jvm.Cond.methodLink "FormulaEditor$Parser" (121 : Nat) ({ cls := "java/lang/Integer", name := "intValue", desc := "()I" } : Jvm.MethodName)) ∈ lw_all := lw_g (lw_at lw_m7 160 rfl) rfl
theorem q1658 : (Jvm.Cond.methodLink "FormulaEditor$Parser" (127 : Nat) ({ cls := "FormulaEditor$Level", name := "goOnWithChain", desc := "()V" } : Jvm.MethodName)) ∈ lw_all := lw_g (lw_at lw_m7 161 rfl) rfl
theorem q1662 : (Jvm.Cond.interfaceEntry "FormulaEditor$Parser" (56 : Nat)) ∈ lw_tbl := lw_at lw_m7 165 rfl
theorem q1663 : (Jvm.Cond.methodLink "FormulaEditor$Parser" (56 : Nat) ({ cls := "java/util/Deque", name := "size", desc := "()I" } : Jvm.MethodName)) ∈ lw_all := lw_g (lw_at lw_m7 166 rfl) rfl
theorem q1674 : (Jvm.Cond.methodLink "FormulaEditor$Parser" (130 : Nat) ({ cls := "FormulaEditor$Parser", name := "close", desc := "()Z" } : Jvm.MethodName)) ∈ lw_all := lw_g (lw_at lw_m7 177 rfl) rfl
theorem q1675 : (Jvm.Cond.privateMethod ({ cls := "FormulaEditor$Parser", name := "close", desc := "()Z" } : Jvm.MethodName)) ∈ lw_tbl := lw_at lw_m7 178 rfl
theorem q1676 : (Jvm.Cond.instanceMethod ({ cls := "FormulaEditor$Parser", name := "close", desc := "()Z" } : Jvm.MethodName)) ∈ lw_all := lw_g (lw_at lw_m7 179 rfl) rfl
theorem q1677 : (Jvm.Cond.code ({ cls := "FormulaEditor$Parser", name := "close", desc := "()Z" } : Jvm.MethodName) prog_8_method_8_code (2 : Nat) (Option.some Jvm.ClassFile.FieldType.boolean)) ∈ lw_all := lw_g (lw_at lw_m7 180 rfl) rfl
theorem q1678 : (Jvm.Cond.interfaceEntry "FormulaEditor$Parser" (143 : Nat)) ∈ lw_tbl := lw_at lw_m7 181 rfl
theorem q1679 : (Jvm.Cond.methodLink "FormulaEditor$Parser" (143 : Nat) ({ cls := "java/util/Deque", name := "removeLast", desc := "()Ljava/lang/Object;" } : Jvm.MethodName)) ∈ lw_all := lw_g (lw_at lw_m7 182 rfl) rfl
theorem q1691 : (Jvm.Cond.methodLinkNest "FormulaEditor$Parser" (134 : Nat) ({ cls := "FormulaEditor", name := "isOperator", desc := "(I)Z" } : Jvm.MethodName) "FormulaEditor") ∈ lw_tbl := lw_at lw_m7 194 rfl
theorem q2756 : (Jvm.Cond.castable "FormulaEditor$Parser" "java/lang/Object") ∈ lw_tbl := lw_at lw_m12 59 rfl
abbrev cX7_init : ByteArray := prog_7_method_1_code
def yX7_init : MethodName := ⟨RX7, "<init>", "(LFormulaEditor$Role;Z)V"⟩
def dkwX7_init_1 : List UInt8 := [181, 0, 22, 42, 28, 181, 0, 26, 177]
abbrev dktX7_init_1 : List UInt8 := dkwX7_init_1 ++ []
def dkwX7_init_0 : List UInt8 := [42, 183, 0, 3, 42, 187, 0, 9, 89, 183, 0, 11, 181, 0, 12, 42, 16, 247, 181, 0, 18, 42, 43]
abbrev dktX7_init_0 : List UInt8 := dkwX7_init_0 ++ dktX7_init_1
theorem dksX7_init_0 : cX7_init.data.toList.drop 0 = dktX7_init_0 := by decide +kernel
theorem dksX7_init_1 : cX7_init.data.toList.drop 23 = dktX7_init_1 := dk_seg dksX7_init_0 23 rfl rfl
theorem dX7_init_0 : decode cX7_init 0 = .ok (.aload_n 0, 1) := dk_42 (dk_at dksX7_init_0 0 rfl rfl)
theorem dX7_init_1 : decode cX7_init 1 = .ok (.invokespecial 3, 3) := dk_183 0 3 (dk_at dksX7_init_0 1 rfl rfl)
theorem dX7_init_4 : decode cX7_init 4 = .ok (.aload_n 0, 1) := dk_42 (dk_at dksX7_init_0 4 rfl rfl)
theorem dX7_init_5 : decode cX7_init 5 = .ok (.new 9, 3) := dk_187 0 9 (dk_at dksX7_init_0 5 rfl rfl)
theorem dX7_init_8 : decode cX7_init 8 = .ok (.dup, 1) := dk_89 (dk_at dksX7_init_0 8 rfl rfl)
theorem dX7_init_9 : decode cX7_init 9 = .ok (.invokespecial 11, 3) := dk_183 0 11 (dk_at dksX7_init_0 9 rfl rfl)
theorem dX7_init_12 : decode cX7_init 12 = .ok (.putfield 12, 3) := dk_181 0 12 (dk_at dksX7_init_0 12 rfl rfl)
theorem dX7_init_15 : decode cX7_init 15 = .ok (.aload_n 0, 1) := dk_42 (dk_at dksX7_init_0 15 rfl rfl)
theorem dX7_init_16 : decode cX7_init 16 = .ok (.bipush (-9), 2) := dk_16 247 (dk_at dksX7_init_0 16 rfl rfl)
theorem dX7_init_18 : decode cX7_init 18 = .ok (.putfield 18, 3) := dk_181 0 18 (dk_at dksX7_init_0 18 rfl rfl)
theorem dX7_init_21 : decode cX7_init 21 = .ok (.aload_n 0, 1) := dk_42 (dk_at dksX7_init_0 21 rfl rfl)
theorem dX7_init_22 : decode cX7_init 22 = .ok (.aload_n 1, 1) := dk_43 (dk_at dksX7_init_0 22 rfl rfl)
theorem dX7_init_23 : decode cX7_init 23 = .ok (.putfield 22, 3) := dk_181 0 22 (dk_at dksX7_init_1 0 rfl rfl)
theorem dX7_init_26 : decode cX7_init 26 = .ok (.aload_n 0, 1) := dk_42 (dk_at dksX7_init_1 3 rfl rfl)
theorem dX7_init_27 : decode cX7_init 27 = .ok (.iload_n 2, 1) := dk_28 (dk_at dksX7_init_1 4 rfl rfl)
theorem dX7_init_28 : decode cX7_init 28 = .ok (.putfield 26, 3) := dk_181 0 26 (dk_at dksX7_init_1 5 rfl rfl)
theorem dX7_init_31 : decode cX7_init 31 = .ok (.return_, 1) := dk_177 (dk_at dksX7_init_1 8 rfl rfl)
abbrev cX7_end : ByteArray := prog_7_method_4_code
def yX7_end : MethodName := ⟨RX7, "end", "()V"⟩
def dkwX7_end_2 : List UInt8 := [181, 0, 65, 42, 16, 247, 181, 0, 18, 177]
abbrev dktX7_end_2 : List UInt8 := dkwX7_end_2 ++ []
def dkwX7_end_1 : List UInt8 := [189, 0, 9, 89, 3, 42, 180, 0, 65, 83, 89, 4, 43, 83, 183, 0, 68, 182, 0, 71, 42, 1]
abbrev dktX7_end_1 : List UInt8 := dkwX7_end_1 ++ dktX7_end_2
def dkwX7_end_0 : List UInt8 := [42, 180, 0, 65, 198, 0, 43, 42, 182, 0, 61, 76, 42, 180, 0, 12, 187, 0, 51, 89, 4, 5]
abbrev dktX7_end_0 : List UInt8 := dkwX7_end_0 ++ dktX7_end_1
theorem dksX7_end_0 : cX7_end.data.toList.drop 0 = dktX7_end_0 := by decide +kernel
theorem dksX7_end_1 : cX7_end.data.toList.drop 22 = dktX7_end_1 := dk_seg dksX7_end_0 22 rfl rfl
theorem dksX7_end_2 : cX7_end.data.toList.drop 44 = dktX7_end_2 := dk_seg dksX7_end_1 22 rfl rfl
theorem dX7_end_0 : decode cX7_end 0 = .ok (.aload_n 0, 1) := dk_42 (dk_at dksX7_end_0 0 rfl rfl)
theorem dX7_end_1 : decode cX7_end 1 = .ok (.getfield 65, 3) := dk_180 0 65 (dk_at dksX7_end_0 1 rfl rfl)
theorem dX7_end_4 : decode cX7_end 4 = .ok (.ifnull 43, 3) := dk_198 0 43 (dk_at dksX7_end_0 4 rfl rfl)
theorem dX7_end_7 : decode cX7_end 7 = .ok (.aload_n 0, 1) := dk_42 (dk_at dksX7_end_0 7 rfl rfl)
theorem dX7_end_8 : decode cX7_end 8 = .ok (.invokevirtual 61, 3) := dk_182 0 61 (dk_at dksX7_end_0 8 rfl rfl)
theorem dX7_end_11 : decode cX7_end 11 = .ok (.astore_n 1, 1) := dk_76 (dk_at dksX7_end_0 11 rfl rfl)
theorem dX7_end_12 : decode cX7_end 12 = .ok (.aload_n 0, 1) := dk_42 (dk_at dksX7_end_0 12 rfl rfl)
theorem dX7_end_13 : decode cX7_end 13 = .ok (.getfield 12, 3) := dk_180 0 12 (dk_at dksX7_end_0 13 rfl rfl)
theorem dX7_end_16 : decode cX7_end 16 = .ok (.new 51, 3) := dk_187 0 51 (dk_at dksX7_end_0 16 rfl rfl)
theorem dX7_end_19 : decode cX7_end 19 = .ok (.dup, 1) := dk_89 (dk_at dksX7_end_0 19 rfl rfl)
theorem dX7_end_20 : decode cX7_end 20 = .ok (.iconst 1, 1) := dk_4 (dk_at dksX7_end_0 20 rfl rfl)
theorem dX7_end_21 : decode cX7_end 21 = .ok (.iconst 2, 1) := dk_5 (dk_at dksX7_end_0 21 rfl rfl)
theorem dX7_end_22 : decode cX7_end 22 = .ok (.anewarray 9, 3) := dk_189 0 9 (dk_at dksX7_end_1 0 rfl rfl)
theorem dX7_end_25 : decode cX7_end 25 = .ok (.dup, 1) := dk_89 (dk_at dksX7_end_1 3 rfl rfl)
theorem dX7_end_26 : decode cX7_end 26 = .ok (.iconst 0, 1) := dk_3 (dk_at dksX7_end_1 4 rfl rfl)
theorem dX7_end_27 : decode cX7_end 27 = .ok (.aload_n 0, 1) := dk_42 (dk_at dksX7_end_1 5 rfl rfl)
theorem dX7_end_28 : decode cX7_end 28 = .ok (.getfield 65, 3) := dk_180 0 65 (dk_at dksX7_end_1 6 rfl rfl)
theorem dX7_end_31 : decode cX7_end 31 = .ok (.aastore, 1) := dk_83 (dk_at dksX7_end_1 9 rfl rfl)
theorem dX7_end_32 : decode cX7_end 32 = .ok (.dup, 1) := dk_89 (dk_at dksX7_end_1 10 rfl rfl)
theorem dX7_end_33 : decode cX7_end 33 = .ok (.iconst 1, 1) := dk_4 (dk_at dksX7_end_1 11 rfl rfl)
theorem dX7_end_34 : decode cX7_end 34 = .ok (.aload_n 1, 1) := dk_43 (dk_at dksX7_end_1 12 rfl rfl)
theorem dX7_end_35 : decode cX7_end 35 = .ok (.aastore, 1) := dk_83 (dk_at dksX7_end_1 13 rfl rfl)
theorem dX7_end_36 : decode cX7_end 36 = .ok (.invokespecial 68, 3) := dk_183 0 68 (dk_at dksX7_end_1 14 rfl rfl)
theorem dX7_end_39 : decode cX7_end 39 = .ok (.invokevirtual 71, 3) := dk_182 0 71 (dk_at dksX7_end_1 17 rfl rfl)
theorem dX7_end_42 : decode cX7_end 42 = .ok (.aload_n 0, 1) := dk_42 (dk_at dksX7_end_1 20 rfl rfl)
theorem dX7_end_43 : decode cX7_end 43 = .ok (.aconst_null, 1) := dk_1 (dk_at dksX7_end_1 21 rfl rfl)
theorem dX7_end_44 : decode cX7_end 44 = .ok (.putfield 65, 3) := dk_181 0 65 (dk_at dksX7_end_2 0 rfl rfl)
theorem dX7_end_47 : decode cX7_end 47 = .ok (.aload_n 0, 1) := dk_42 (dk_at dksX7_end_2 3 rfl rfl)
theorem dX7_end_48 : decode cX7_end 48 = .ok (.bipush (-9), 2) := dk_16 247 (dk_at dksX7_end_2 4 rfl rfl)
theorem dX7_end_50 : decode cX7_end 50 = .ok (.putfield 18, 3) := dk_181 0 18 (dk_at dksX7_end_2 6 rfl rfl)
theorem dX7_end_53 : decode cX7_end 53 = .ok (.return_, 1) := dk_177 (dk_at dksX7_end_2 9 rfl rfl)
abbrev cX7_takeFactor : ByteArray := prog_7_method_2_code
def yX7_takeFactor : MethodName := ⟨RX7, "takeFactor", "()LFormulaEditor$Row;"⟩
def dkwX7_takeFactor_2 : List UInt8 := [50, 167, 0, 4, 43, 77, 42, 16, 247, 181, 0, 18, 44, 1, 181, 0, 57, 44, 176]
abbrev dktX7_takeFactor_2 : List UInt8 := dkwX7_takeFactor_2 ++ []
def dkwX7_takeFactor_1 : List UInt8 := [42, 180, 0, 44, 153, 0, 24, 43, 180, 0, 30, 3, 185, 0, 47, 2, 0, 192, 0, 51, 180, 0, 53, 3]
abbrev dktX7_takeFactor_1 : List UInt8 := dkwX7_takeFactor_1 ++ dktX7_takeFactor_2
def dkwX7_takeFactor_0 : List UInt8 := [42, 180, 0, 12, 42, 180, 0, 18, 42, 180, 0, 12, 180, 0, 30, 185, 0, 34, 1, 0, 182, 0, 40, 76]
abbrev dktX7_takeFactor_0 : List UInt8 := dkwX7_takeFactor_0 ++ dktX7_takeFactor_1
theorem dksX7_takeFactor_0 : cX7_takeFactor.data.toList.drop 0 = dktX7_takeFactor_0 := by decide +kernel
theorem dksX7_takeFactor_1 : cX7_takeFactor.data.toList.drop 24 = dktX7_takeFactor_1 := dk_seg dksX7_takeFactor_0 24 rfl rfl
theorem dksX7_takeFactor_2 : cX7_takeFactor.data.toList.drop 48 = dktX7_takeFactor_2 := dk_seg dksX7_takeFactor_1 24 rfl rfl
theorem dX7_takeFactor_0 : decode cX7_takeFactor 0 = .ok (.aload_n 0, 1) := dk_42 (dk_at dksX7_takeFactor_0 0 rfl rfl)
theorem dX7_takeFactor_1 : decode cX7_takeFactor 1 = .ok (.getfield 12, 3) := dk_180 0 12 (dk_at dksX7_takeFactor_0 1 rfl rfl)
theorem dX7_takeFactor_4 : decode cX7_takeFactor 4 = .ok (.aload_n 0, 1) := dk_42 (dk_at dksX7_takeFactor_0 4 rfl rfl)
theorem dX7_takeFactor_5 : decode cX7_takeFactor 5 = .ok (.getfield 18, 3) := dk_180 0 18 (dk_at dksX7_takeFactor_0 5 rfl rfl)
theorem dX7_takeFactor_8 : decode cX7_takeFactor 8 = .ok (.aload_n 0, 1) := dk_42 (dk_at dksX7_takeFactor_0 8 rfl rfl)
theorem dX7_takeFactor_9 : decode cX7_takeFactor 9 = .ok (.getfield 12, 3) := dk_180 0 12 (dk_at dksX7_takeFactor_0 9 rfl rfl)
theorem dX7_takeFactor_12 : decode cX7_takeFactor 12 = .ok (.getfield 30, 3) := dk_180 0 30 (dk_at dksX7_takeFactor_0 12 rfl rfl)
theorem dX7_takeFactor_15 : decode cX7_takeFactor 15 = .ok (.invokeinterface 34 1, 5) := by decide +kernel
theorem dX7_takeFactor_20 : decode cX7_takeFactor 20 = .ok (.invokevirtual 40, 3) := dk_182 0 40 (dk_at dksX7_takeFactor_0 20 rfl rfl)
theorem dX7_takeFactor_23 : decode cX7_takeFactor 23 = .ok (.astore_n 1, 1) := dk_76 (dk_at dksX7_takeFactor_0 23 rfl rfl)
theorem dX7_takeFactor_24 : decode cX7_takeFactor 24 = .ok (.aload_n 0, 1) := dk_42 (dk_at dksX7_takeFactor_1 0 rfl rfl)
theorem dX7_takeFactor_25 : decode cX7_takeFactor 25 = .ok (.getfield 44, 3) := dk_180 0 44 (dk_at dksX7_takeFactor_1 1 rfl rfl)
theorem dX7_takeFactor_28 : decode cX7_takeFactor 28 = .ok (.ifCond .eq 24, 3) := dk_153 0 24 (dk_at dksX7_takeFactor_1 4 rfl rfl)
theorem dX7_takeFactor_31 : decode cX7_takeFactor 31 = .ok (.aload_n 1, 1) := dk_43 (dk_at dksX7_takeFactor_1 7 rfl rfl)
theorem dX7_takeFactor_32 : decode cX7_takeFactor 32 = .ok (.getfield 30, 3) := dk_180 0 30 (dk_at dksX7_takeFactor_1 8 rfl rfl)
theorem dX7_takeFactor_35 : decode cX7_takeFactor 35 = .ok (.iconst 0, 1) := dk_3 (dk_at dksX7_takeFactor_1 11 rfl rfl)
theorem dX7_takeFactor_36 : decode cX7_takeFactor 36 = .ok (.invokeinterface 47 2, 5) := by decide +kernel
theorem dX7_takeFactor_41 : decode cX7_takeFactor 41 = .ok (.checkcast 51, 3) := dk_192 0 51 (dk_at dksX7_takeFactor_1 17 rfl rfl)
theorem dX7_takeFactor_44 : decode cX7_takeFactor 44 = .ok (.getfield 53, 3) := dk_180 0 53 (dk_at dksX7_takeFactor_1 20 rfl rfl)
theorem dX7_takeFactor_47 : decode cX7_takeFactor 47 = .ok (.iconst 0, 1) := dk_3 (dk_at dksX7_takeFactor_1 23 rfl rfl)
theorem dX7_takeFactor_48 : decode cX7_takeFactor 48 = .ok (.aaload, 1) := dk_50 (dk_at dksX7_takeFactor_2 0 rfl rfl)
theorem dX7_takeFactor_49 : decode cX7_takeFactor 49 = .ok (.goto 4, 3) := dk_167 0 4 (dk_at dksX7_takeFactor_2 1 rfl rfl)
theorem dX7_takeFactor_52 : decode cX7_takeFactor 52 = .ok (.aload_n 1, 1) := dk_43 (dk_at dksX7_takeFactor_2 4 rfl rfl)
theorem dX7_takeFactor_53 : decode cX7_takeFactor 53 = .ok (.astore_n 2, 1) := dk_77 (dk_at dksX7_takeFactor_2 5 rfl rfl)
theorem dX7_takeFactor_54 : decode cX7_takeFactor 54 = .ok (.aload_n 0, 1) := dk_42 (dk_at dksX7_takeFactor_2 6 rfl rfl)
theorem dX7_takeFactor_55 : decode cX7_takeFactor 55 = .ok (.bipush (-9), 2) := dk_16 247 (dk_at dksX7_takeFactor_2 7 rfl rfl)
theorem dX7_takeFactor_57 : decode cX7_takeFactor 57 = .ok (.putfield 18, 3) := dk_181 0 18 (dk_at dksX7_takeFactor_2 9 rfl rfl)
theorem dX7_takeFactor_60 : decode cX7_takeFactor 60 = .ok (.aload_n 2, 1) := dk_44 (dk_at dksX7_takeFactor_2 12 rfl rfl)
theorem dX7_takeFactor_61 : decode cX7_takeFactor 61 = .ok (.aconst_null, 1) := dk_1 (dk_at dksX7_takeFactor_2 13 rfl rfl)
theorem dX7_takeFactor_62 : decode cX7_takeFactor 62 = .ok (.putfield 57, 3) := dk_181 0 57 (dk_at dksX7_takeFactor_2 14 rfl rfl)
theorem dX7_takeFactor_65 : decode cX7_takeFactor 65 = .ok (.aload_n 2, 1) := dk_44 (dk_at dksX7_takeFactor_2 17 rfl rfl)
theorem dX7_takeFactor_66 : decode cX7_takeFactor 66 = .ok (.areturn, 1) := dk_176 (dk_at dksX7_takeFactor_2 18 rfl rfl)
abbrev cX7_goOnWithChain : ByteArray := prog_7_method_3_code
def yX7_goOnWithChain : MethodName := ⟨RX7, "goOnWithChain", "()V"⟩
def dkwX7_goOnWithChain_2 : List UInt8 := [83, 183, 0, 68, 182, 0, 71, 42, 44, 181, 0, 65, 177]
abbrev dktX7_goOnWithChain_2 : List UInt8 := dkwX7_goOnWithChain_2 ++ []
def dkwX7_goOnWithChain_1 : List UInt8 := [183, 0, 11, 77, 44, 187, 0, 51, 89, 4, 5, 189, 0, 9, 89, 3, 42, 180, 0, 65, 83, 89, 4, 43]
abbrev dktX7_goOnWithChain_1 : List UInt8 := dkwX7_goOnWithChain_1 ++ dktX7_goOnWithChain_2
def dkwX7_goOnWithChain_0 : List UInt8 := [42, 182, 0, 61, 76, 42, 180, 0, 65, 199, 0, 11, 42, 43, 181, 0, 65, 167, 0, 43, 187, 0, 9, 89]
abbrev dktX7_goOnWithChain_0 : List UInt8 := dkwX7_goOnWithChain_0 ++ dktX7_goOnWithChain_1
theorem dksX7_goOnWithChain_0 : cX7_goOnWithChain.data.toList.drop 0 = dktX7_goOnWithChain_0 := by decide +kernel
theorem dksX7_goOnWithChain_1 : cX7_goOnWithChain.data.toList.drop 24 = dktX7_goOnWithChain_1 := dk_seg dksX7_goOnWithChain_0 24 rfl rfl
theorem dksX7_goOnWithChain_2 : cX7_goOnWithChain.data.toList.drop 48 = dktX7_goOnWithChain_2 := dk_seg dksX7_goOnWithChain_1 24 rfl rfl
theorem dX7_goOnWithChain_0 : decode cX7_goOnWithChain 0 = .ok (.aload_n 0, 1) := dk_42 (dk_at dksX7_goOnWithChain_0 0 rfl rfl)
theorem dX7_goOnWithChain_1 : decode cX7_goOnWithChain 1 = .ok (.invokevirtual 61, 3) := dk_182 0 61 (dk_at dksX7_goOnWithChain_0 1 rfl rfl)
theorem dX7_goOnWithChain_4 : decode cX7_goOnWithChain 4 = .ok (.astore_n 1, 1) := dk_76 (dk_at dksX7_goOnWithChain_0 4 rfl rfl)
theorem dX7_goOnWithChain_5 : decode cX7_goOnWithChain 5 = .ok (.aload_n 0, 1) := dk_42 (dk_at dksX7_goOnWithChain_0 5 rfl rfl)
theorem dX7_goOnWithChain_6 : decode cX7_goOnWithChain 6 = .ok (.getfield 65, 3) := dk_180 0 65 (dk_at dksX7_goOnWithChain_0 6 rfl rfl)
theorem dX7_goOnWithChain_9 : decode cX7_goOnWithChain 9 = .ok (.ifnonnull 11, 3) := dk_199 0 11 (dk_at dksX7_goOnWithChain_0 9 rfl rfl)
theorem dX7_goOnWithChain_12 : decode cX7_goOnWithChain 12 = .ok (.aload_n 0, 1) := dk_42 (dk_at dksX7_goOnWithChain_0 12 rfl rfl)
theorem dX7_goOnWithChain_13 : decode cX7_goOnWithChain 13 = .ok (.aload_n 1, 1) := dk_43 (dk_at dksX7_goOnWithChain_0 13 rfl rfl)
theorem dX7_goOnWithChain_14 : decode cX7_goOnWithChain 14 = .ok (.putfield 65, 3) := dk_181 0 65 (dk_at dksX7_goOnWithChain_0 14 rfl rfl)
theorem dX7_goOnWithChain_17 : decode cX7_goOnWithChain 17 = .ok (.goto 43, 3) := dk_167 0 43 (dk_at dksX7_goOnWithChain_0 17 rfl rfl)
theorem dX7_goOnWithChain_20 : decode cX7_goOnWithChain 20 = .ok (.new 9, 3) := dk_187 0 9 (dk_at dksX7_goOnWithChain_0 20 rfl rfl)
theorem dX7_goOnWithChain_23 : decode cX7_goOnWithChain 23 = .ok (.dup, 1) := dk_89 (dk_at dksX7_goOnWithChain_0 23 rfl rfl)
theorem dX7_goOnWithChain_24 : decode cX7_goOnWithChain 24 = .ok (.invokespecial 11, 3) := dk_183 0 11 (dk_at dksX7_goOnWithChain_1 0 rfl rfl)
theorem dX7_goOnWithChain_27 : decode cX7_goOnWithChain 27 = .ok (.astore_n 2, 1) := dk_77 (dk_at dksX7_goOnWithChain_1 3 rfl rfl)
theorem dX7_goOnWithChain_28 : decode cX7_goOnWithChain 28 = .ok (.aload_n 2, 1) := dk_44 (dk_at dksX7_goOnWithChain_1 4 rfl rfl)
theorem dX7_goOnWithChain_29 : decode cX7_goOnWithChain 29 = .ok (.new 51, 3) := dk_187 0 51 (dk_at dksX7_goOnWithChain_1 5 rfl rfl)
theorem dX7_goOnWithChain_32 : decode cX7_goOnWithChain 32 = .ok (.dup, 1) := dk_89 (dk_at dksX7_goOnWithChain_1 8 rfl rfl)
theorem dX7_goOnWithChain_33 : decode cX7_goOnWithChain 33 = .ok (.iconst 1, 1) := dk_4 (dk_at dksX7_goOnWithChain_1 9 rfl rfl)
theorem dX7_goOnWithChain_34 : decode cX7_goOnWithChain 34 = .ok (.iconst 2, 1) := dk_5 (dk_at dksX7_goOnWithChain_1 10 rfl rfl)
theorem dX7_goOnWithChain_35 : decode cX7_goOnWithChain 35 = .ok (.anewarray 9, 3) := dk_189 0 9 (dk_at dksX7_goOnWithChain_1 11 rfl rfl)
theorem dX7_goOnWithChain_38 : decode cX7_goOnWithChain 38 = .ok (.dup, 1) := dk_89 (dk_at dksX7_goOnWithChain_1 14 rfl rfl)
theorem dX7_goOnWithChain_39 : decode cX7_goOnWithChain 39 = .ok (.iconst 0, 1) := dk_3 (dk_at dksX7_goOnWithChain_1 15 rfl rfl)
theorem dX7_goOnWithChain_40 : decode cX7_goOnWithChain 40 = .ok (.aload_n 0, 1) := dk_42 (dk_at dksX7_goOnWithChain_1 16 rfl rfl)
theorem dX7_goOnWithChain_41 : decode cX7_goOnWithChain 41 = .ok (.getfield 65, 3) := dk_180 0 65 (dk_at dksX7_goOnWithChain_1 17 rfl rfl)
theorem dX7_goOnWithChain_44 : decode cX7_goOnWithChain 44 = .ok (.aastore, 1) := dk_83 (dk_at dksX7_goOnWithChain_1 20 rfl rfl)
theorem dX7_goOnWithChain_45 : decode cX7_goOnWithChain 45 = .ok (.dup, 1) := dk_89 (dk_at dksX7_goOnWithChain_1 21 rfl rfl)
theorem dX7_goOnWithChain_46 : decode cX7_goOnWithChain 46 = .ok (.iconst 1, 1) := dk_4 (dk_at dksX7_goOnWithChain_1 22 rfl rfl)
theorem dX7_goOnWithChain_47 : decode cX7_goOnWithChain 47 = .ok (.aload_n 1, 1) := dk_43 (dk_at dksX7_goOnWithChain_1 23 rfl rfl)
theorem dX7_goOnWithChain_48 : decode cX7_goOnWithChain 48 = .ok (.aastore, 1) := dk_83 (dk_at dksX7_goOnWithChain_2 0 rfl rfl)
theorem dX7_goOnWithChain_49 : decode cX7_goOnWithChain 49 = .ok (.invokespecial 68, 3) := dk_183 0 68 (dk_at dksX7_goOnWithChain_2 1 rfl rfl)
theorem dX7_goOnWithChain_52 : decode cX7_goOnWithChain 52 = .ok (.invokevirtual 71, 3) := dk_182 0 71 (dk_at dksX7_goOnWithChain_2 4 rfl rfl)
theorem dX7_goOnWithChain_55 : decode cX7_goOnWithChain 55 = .ok (.aload_n 0, 1) := dk_42 (dk_at dksX7_goOnWithChain_2 7 rfl rfl)
theorem dX7_goOnWithChain_56 : decode cX7_goOnWithChain 56 = .ok (.aload_n 2, 1) := dk_44 (dk_at dksX7_goOnWithChain_2 8 rfl rfl)
theorem dX7_goOnWithChain_57 : decode cX7_goOnWithChain 57 = .ok (.putfield 65, 3) := dk_181 0 65 (dk_at dksX7_goOnWithChain_2 9 rfl rfl)
theorem dX7_goOnWithChain_60 : decode cX7_goOnWithChain 60 = .ok (.return_, 1) := dk_177 (dk_at dksX7_goOnWithChain_2 12 rfl rfl)
theorem q97 : (Jvm.Cond.initialized "FormulaEditor$Level") ∈ lw_all := lw_g (lw_at lw_m1 40 rfl) rfl
theorem q199 : (Jvm.Cond.selects "FormulaEditor$Level" ({ cls := "java/lang/Object", name := "hashCode", desc := "()I" } : Jvm.MethodName) ({ cls := "java/lang/Object", name := "hashCode", desc := "()I" } : Jvm.MethodName)) ∈ lw_all := lw_g (lw_at lw_m1 142 rfl) rfl
theorem q664 : (Jvm.Cond.selects "FormulaEditor$Level" ({ cls := "java/lang/Object", name := "getClass", desc := "()Ljava/lang/Class;" } : Jvm.MethodName) ({ cls := "java/lang/Object", name := "getClass", desc := "()Ljava/lang/Class;" } : Jvm.MethodName)) ∈ lw_all := lw_g (lw_at lw_m3 127 rfl) rfl
theorem q925 : (Jvm.Cond.selects "FormulaEditor$Level" ({ cls := "java/lang/Object", name := "equals", desc := "(Ljava/lang/Object;)Z" } : Jvm.MethodName) ({ cls := "java/lang/Object", name := "equals", desc := "(Ljava/lang/Object;)Z" } : Jvm.MethodName)) ∈ lw_all := lw_g (lw_at lw_m4 148 rfl) rfl
theorem q1188 : (Jvm.Cond.fieldLinkNest "FormulaEditor$Level" (30 : Nat) "FormulaEditor$Row" "items" "Ljava/util/List;" "FormulaEditor") ∈ lw_tbl := lw_at lw_m5 171 rfl
theorem q1194 : (Jvm.Cond.fieldLinkNest "FormulaEditor$Level" (57 : Nat) "FormulaEditor$Row" "owner" "LFormulaEditor$Structure;" "FormulaEditor") ∈ lw_tbl := lw_at lw_m5 177 rfl
theorem q1301 : (Jvm.Cond.instantiable "FormulaEditor$Level" (6 : Nat)) ∈ lw_all := lw_g (lw_at lw_m6 44 rfl) rfl
theorem q1303 : (Jvm.Cond.instanceMethod ({ cls := "FormulaEditor$Level", name := "<init>", desc := "(LFormulaEditor$Role;Z)V" } : Jvm.MethodName)) ∈ lw_all := lw_g (lw_at lw_m6 46 rfl) rfl
theorem q1304 : (Jvm.Cond.code ({ cls := "FormulaEditor$Level", name := "<init>", desc := "(LFormulaEditor$Role;Z)V" } : Jvm.MethodName) prog_7_method_1_code (3 : Nat) (Option.none : Option Jvm.ClassFile.FieldType)) ∈ lw_all := lw_g (lw_at lw_m6 47 rfl) rfl
theorem q1305 : (Jvm.Cond.methodLink "FormulaEditor$Level" (3 : Nat) ({ cls := "java/lang/Object", name := "<init>", desc := "()V" } : Jvm.MethodName)) ∈ lw_all := lw_g (lw_at lw_m6 48 rfl) rfl
theorem q1306 : (Jvm.Cond.classLink "FormulaEditor$Level" (9 : Nat) "FormulaEditor$Row") ∈ lw_all := lw_g (lw_at lw_m6 49 rfl) rfl
theorem q1307 : (Jvm.Cond.methodLinkNest "FormulaEditor$Level" (11 : Nat) ({ cls := "FormulaEditor$Row", name := "<init>", desc := "()V" } : Jvm.MethodName) "FormulaEditor") ∈ lw_tbl := lw_at lw_m6 50 rfl
theorem q1308 : (Jvm.Cond.fieldLink "FormulaEditor$Level" (12 : Nat) "FormulaEditor$Level" "row" "LFormulaEditor$Row;") ∈ lw_all := lw_g (lw_at lw_m6 51 rfl) rfl
theorem q1310 : (Jvm.Cond.fieldLink "FormulaEditor$Level" (22 : Nat) "FormulaEditor$Level" "role" "LFormulaEditor$Role;") ∈ lw_all := lw_g (lw_at lw_m6 53 rfl) rfl
theorem q1312 : (Jvm.Cond.fieldLink "FormulaEditor$Level" (26 : Nat) "FormulaEditor$Level" "isRoot" "Z") ∈ lw_all := lw_g (lw_at lw_m6 55 rfl) rfl
theorem q1314 : (Jvm.Cond.fieldLink "FormulaEditor$Level" (65 : Nat) "FormulaEditor$Level" "chain" "LFormulaEditor$Row;") ∈ lw_all := lw_g (lw_at lw_m6 57 rfl) rfl
theorem q1315 : (Jvm.Cond.fieldLink "FormulaEditor$Level" (18 : Nat) "FormulaEditor$Level" "factor" "I") ∈ lw_all := lw_g (lw_at lw_m6 58 rfl) rfl
theorem q1317 : (Jvm.Cond.fieldLink "FormulaEditor$Level" (44 : Nat) "FormulaEditor$Level" "isParenthesesAlone" "Z") ∈ lw_all := lw_g (lw_at lw_m6 60 rfl) rfl
theorem q1319 : (Jvm.Cond.laysFinal "FormulaEditor$Level" "FormulaEditor$Level" "row" "LFormulaEditor$Row;") ∈ lw_all := lw_g (lw_at lw_m6 62 rfl) rfl
theorem q1320 : (Jvm.Cond.soleField "FormulaEditor$Level" "row") ∈ lw_all := lw_g (lw_at lw_m6 63 rfl) rfl
theorem q1321 : (Jvm.Cond.laysFinal "FormulaEditor$Level" "FormulaEditor$Level" "role" "LFormulaEditor$Role;") ∈ lw_all := lw_g (lw_at lw_m6 64 rfl) rfl
theorem q1322 : (Jvm.Cond.soleField "FormulaEditor$Level" "role") ∈ lw_all := lw_g (lw_at lw_m6 65 rfl) rfl
theorem q1323 : (Jvm.Cond.laysFinal "FormulaEditor$Level" "FormulaEditor$Level" "isRoot" "Z") ∈ lw_all := lw_g (lw_at lw_m6 66 rfl) rfl
theorem q1324 : (Jvm.Cond.soleField "FormulaEditor$Level" "isRoot") ∈ lw_all := lw_g (lw_at lw_m6 67 rfl) rfl
theorem q1325 : (Jvm.Cond.lays "FormulaEditor$Level" "FormulaEditor$Level" "chain" "LFormulaEditor$Row;") ∈ lw_all := lw_g (lw_at lw_m6 68 rfl) rfl
theorem q1326 : (Jvm.Cond.soleField "FormulaEditor$Level" "chain") ∈ lw_all := lw_g (lw_at lw_m6 69 rfl) rfl
theorem q1327 : (Jvm.Cond.lays "FormulaEditor$Level" "FormulaEditor$Level" "factor" "I") ∈ lw_all := lw_g (lw_at lw_m6 70 rfl) rfl
theorem q1328 : (Jvm.Cond.soleField "FormulaEditor$Level" "factor") ∈ lw_all := lw_g (lw_at lw_m6 71 rfl) rfl
theorem q1329 : (Jvm.Cond.lays "FormulaEditor$Level" "FormulaEditor$Level" "isParenthesesAlone" "Z") ∈ lw_all := lw_g (lw_at lw_m6 72 rfl) rfl
theorem q1330 : (Jvm.Cond.soleField "FormulaEditor$Level" "isParenthesesAlone") ∈ lw_all := lw_g (lw_at lw_m6 73 rfl) rfl
theorem q1331 : (Jvm.Cond.superclass "FormulaEditor$Level" "java/lang/Object") ∈ lw_all := lw_g (lw_at lw_m6 74 rfl) rfl
theorem q1444 : (Jvm.Cond.instanceMethod ({ cls := "FormulaEditor$Level", name := "end", desc := "()V" } : Jvm.MethodName)) ∈ lw_all := lw_g (lw_at lw_m6 187 rfl) rfl
theorem q1445 : (Jvm.Cond.selects "FormulaEditor$Level" ({ cls := "FormulaEditor$Level", name := "end", desc := "()V" } : Jvm.MethodName) ({ cls := "FormulaEditor$Level", name := "end", desc := "()V" } : Jvm.MethodName)) ∈ lw_all := lw_g (lw_at lw_m6 188 rfl) rfl
theorem q1446 : (Jvm.Cond.code ({ cls := "FormulaEditor$Level", name := "end", desc := "()V" } : Jvm.MethodName) prog_7_method_4_code (2 : Nat) (Option.none : Option Jvm.ClassFile.FieldType)) ∈ lw_all := lw_g (lw_at lw_m6 189 rfl) rfl
theorem q1447 : (Jvm.Cond.methodLink "FormulaEditor$Level" (61 : Nat) ({ cls := "FormulaEditor$Level", name := "takeFactor", desc := "()LFormulaEditor$Row;" } : Jvm.MethodName)) ∈ lw_all := lw_g (lw_at lw_m6 190 rfl) rfl
theorem q1448 : (Jvm.Cond.privateMethod ({ cls := "FormulaEditor$Level", name := "takeFactor", desc := "()LFormulaEditor$Row;" } : Jvm.MethodName)) ∈ lw_tbl := lw_at lw_m6 191 rfl
theorem q1449 : (Jvm.Cond.instanceMethod ({ cls := "FormulaEditor$Level", name := "takeFactor", desc := "()LFormulaEditor$Row;" } : Jvm.MethodName)) ∈ lw_all := lw_g (lw_at lw_m6 192 rfl) rfl
theorem q1450 : (Jvm.Cond.code ({ cls := "FormulaEditor$Level", name := "takeFactor", desc := "()LFormulaEditor$Row;" } : Jvm.MethodName) prog_7_method_2_code (3 : Nat) (Option.some (Jvm.ClassFile.FieldType.object "FormulaEditor$Row"))) ∈ lw_all := lw_g (lw_at lw_m6 193 rfl) rfl
theorem q1451 : (Jvm.Cond.interfaceEntry "FormulaEditor$Level" (34 : Nat)) ∈ lw_tbl := lw_at lw_m6 194 rfl
theorem q1452 : (Jvm.Cond.methodLink "FormulaEditor$Level" (34 : Nat) ({ cls := "java/util/List", name := "size", desc := "()I" } : Jvm.MethodName)) ∈ lw_all := lw_g (lw_at lw_m6 195 rfl) rfl
theorem q1453 : (Jvm.Cond.methodLink "FormulaEditor$Level" (40 : Nat) ({ cls := "FormulaEditor$Row", name := "split", desc := "(II)LFormulaEditor$Row;" } : Jvm.MethodName)) ∈ lw_all := lw_g (lw_at lw_m6 196 rfl) rfl
theorem q1535 : (Jvm.Cond.interfaceEntry "FormulaEditor$Level" (47 : Nat)) ∈ lw_tbl := lw_at lw_m7 38 rfl
theorem q1536 : (Jvm.Cond.methodLink "FormulaEditor$Level" (47 : Nat) ({ cls := "java/util/List", name := "get", desc := "(I)Ljava/lang/Object;" } : Jvm.MethodName)) ∈ lw_all := lw_g (lw_at lw_m7 39 rfl) rfl
theorem q1537 : (Jvm.Cond.classLink "FormulaEditor$Level" (51 : Nat) "FormulaEditor$Structure") ∈ lw_all := lw_g (lw_at lw_m7 40 rfl) rfl
theorem q1540 : (Jvm.Cond.methodLink "FormulaEditor$Level" (68 : Nat) ({ cls := "FormulaEditor$Structure", name := "<init>", desc := "(I[LFormulaEditor$Row;)V" } : Jvm.MethodName)) ∈ lw_all := lw_g (lw_at lw_m7 43 rfl) rfl
theorem q1565 : (Jvm.Cond.fieldLinkNest "FormulaEditor$Level" (53 : Nat) "FormulaEditor$Structure" "slots" "[LFormulaEditor$Row;" "FormulaEditor") ∈ lw_tbl := lw_at lw_m7 68 rfl
theorem q1591 : (Jvm.Cond.methodLink "FormulaEditor$Level" (71 : Nat) ({ cls := "FormulaEditor$Row", name := "add", desc := "(LFormulaEditor$Item;)V" } : Jvm.MethodName)) ∈ lw_all := lw_g (lw_at lw_m7 94 rfl) rfl
theorem q1659 : (Jvm.Cond.instanceMethod ({ cls := "FormulaEditor$Level", name := "goOnWithChain", desc := "()V" } : Jvm.MethodName)) ∈ lw_all := lw_g (lw_at lw_m7 162 rfl) rfl
theorem q1660 : (Jvm.Cond.selects "FormulaEditor$Level" ({ cls := "FormulaEditor$Level", name := "goOnWithChain", desc := "()V" } : Jvm.MethodName) ({ cls := "FormulaEditor$Level", name := "goOnWithChain", desc := "()V" } : Jvm.MethodName)) ∈ lw_all := lw_g (lw_at lw_m7 163 rfl) rfl
theorem q1661 : (Jvm.Cond.code ({ cls := "FormulaEditor$Level", name := "goOnWithChain", desc := "()V" } : Jvm.MethodName) prog_7_method_3_code (3 : Nat) (Option.none : Option Jvm.ClassFile.FieldType)) ∈ lw_all := lw_g (lw_at lw_m7 164 rfl) rfl
theorem q2757 : (Jvm.Cond.castable "FormulaEditor$Level" "java/lang/Object") ∈ lw_tbl := lw_at lw_m12 60 rfl
abbrev cX8_init : ByteArray := prog_6_method_1_code
def yX8_init : MethodName := ⟨RX8, "<init>", "()V"⟩
theorem dX8_init_0 : decode cX8_init 0 = .ok (.aload_n 0, 1) := by decide +kernel
theorem dX8_init_1 : decode cX8_init 1 = .ok (.invokespecial 1, 3) := by decide +kernel
theorem dX8_init_4 : decode cX8_init 4 = .ok (.return_, 1) := by decide +kernel
theorem q99 : (Jvm.Cond.initialized "FormulaEditor$Item") ∈ lw_all := lw_g (lw_at lw_m1 42 rfl) rfl
theorem q1125 : (Jvm.Cond.declares ({ cls := "FormulaEditor$Item", name := "code", desc := "()I" } : Jvm.MethodName)) ∈ lw_tbl := lw_at lw_m5 108 rfl
theorem q1126 : (Jvm.Cond.sameMethod "FormulaEditor$Item" "FormulaEditor$Item" "code" "()I") ∈ lw_all := lw_g (lw_at lw_m5 109 rfl) rfl
theorem q1544 : (Jvm.Cond.instanceMethod ({ cls := "FormulaEditor$Item", name := "<init>", desc := "()V" } : Jvm.MethodName)) ∈ lw_all := lw_g (lw_at lw_m7 47 rfl) rfl
theorem q1545 : (Jvm.Cond.code ({ cls := "FormulaEditor$Item", name := "<init>", desc := "()V" } : Jvm.MethodName) prog_6_method_1_code (1 : Nat) (Option.none : Option Jvm.ClassFile.FieldType)) ∈ lw_all := lw_g (lw_at lw_m7 48 rfl) rfl
theorem q1546 : (Jvm.Cond.methodLink "FormulaEditor$Item" (1 : Nat) ({ cls := "java/lang/Object", name := "<init>", desc := "()V" } : Jvm.MethodName)) ∈ lw_all := lw_g (lw_at lw_m7 49 rfl) rfl
theorem q1589 : (Jvm.Cond.soleField "FormulaEditor$Item" "row") ∈ lw_all := lw_g (lw_at lw_m7 92 rfl) rfl
theorem q1764 : (Jvm.Cond.declares ({ cls := "FormulaEditor$Item", name := "isBase", desc := "()Z" } : Jvm.MethodName)) ∈ lw_tbl := lw_at lw_m8 27 rfl
theorem q1765 : (Jvm.Cond.sameMethod "FormulaEditor$Item" "FormulaEditor$Item" "isBase" "()Z") ∈ lw_all := lw_g (lw_at lw_m8 28 rfl) rfl
theorem q1919 : (Jvm.Cond.declares ({ cls := "FormulaEditor$Item", name := "size", desc := "()I" } : Jvm.MethodName)) ∈ lw_tbl := lw_at lw_m8 182 rfl
theorem q1920 : (Jvm.Cond.sameMethod "FormulaEditor$Item" "FormulaEditor$Item" "size" "()I") ∈ lw_all := lw_g (lw_at lw_m8 183 rfl) rfl
theorem q1945 : (Jvm.Cond.declares ({ cls := "FormulaEditor$Item", name := "depth", desc := "()I" } : Jvm.MethodName)) ∈ lw_tbl := lw_at lw_m8 208 rfl
theorem q1946 : (Jvm.Cond.sameMethod "FormulaEditor$Item" "FormulaEditor$Item" "depth" "()I") ∈ lw_all := lw_g (lw_at lw_m8 209 rfl) rfl
theorem q2099 : (Jvm.Cond.declares ({ cls := "FormulaEditor$Item", name := "copy", desc := "()LFormulaEditor$Item;" } : Jvm.MethodName)) ∈ lw_tbl := lw_at lw_m9 122 rfl
theorem q2100 : (Jvm.Cond.sameMethod "FormulaEditor$Item" "FormulaEditor$Item" "copy" "()LFormulaEditor$Item;") ∈ lw_all := lw_g (lw_at lw_m9 123 rfl) rfl
abbrev cX9_last : ByteArray := prog_12_method_3_code
def yX9_last : MethodName := ⟨RX9, "last", "()LFormulaEditor$Row;"⟩
def dkwX9_last_0 : List UInt8 := [42, 180, 0, 15, 42, 180, 0, 15, 190, 4, 100, 50, 176]
abbrev dktX9_last_0 : List UInt8 := dkwX9_last_0 ++ []
theorem dksX9_last_0 : cX9_last.data.toList.drop 0 = dktX9_last_0 := by decide +kernel
theorem dX9_last_0 : decode cX9_last 0 = .ok (.aload_n 0, 1) := dk_42 (dk_at dksX9_last_0 0 rfl rfl)
theorem dX9_last_1 : decode cX9_last 1 = .ok (.getfield 15, 3) := dk_180 0 15 (dk_at dksX9_last_0 1 rfl rfl)
theorem dX9_last_4 : decode cX9_last 4 = .ok (.aload_n 0, 1) := dk_42 (dk_at dksX9_last_0 4 rfl rfl)
theorem dX9_last_5 : decode cX9_last 5 = .ok (.getfield 15, 3) := dk_180 0 15 (dk_at dksX9_last_0 5 rfl rfl)
theorem dX9_last_8 : decode cX9_last 8 = .ok (.arraylength, 1) := dk_190 (dk_at dksX9_last_0 8 rfl rfl)
theorem dX9_last_9 : decode cX9_last 9 = .ok (.iconst 1, 1) := dk_4 (dk_at dksX9_last_0 9 rfl rfl)
theorem dX9_last_10 : decode cX9_last 10 = .ok (.isub, 1) := dk_100 (dk_at dksX9_last_0 10 rfl rfl)
theorem dX9_last_11 : decode cX9_last 11 = .ok (.aaload, 1) := dk_50 (dk_at dksX9_last_0 11 rfl rfl)
theorem dX9_last_12 : decode cX9_last 12 = .ok (.areturn, 1) := dk_176 (dk_at dksX9_last_0 12 rfl rfl)
abbrev cX9_code : ByteArray := prog_12_method_9_code
def yX9_code : MethodName := ⟨RX9, "code", "()I"⟩
theorem dX9_code_0 : decode cX9_code 0 = .ok (.aload_n 0, 1) := by decide +kernel
theorem dX9_code_1 : decode cX9_code 1 = .ok (.getfield 9, 3) := by decide +kernel
theorem dX9_code_4 : decode cX9_code 4 = .ok (.ireturn, 1) := by decide +kernel
abbrev cX9_init : ByteArray := prog_12_method_1_code
def yX9_init : MethodName := ⟨RX9, "<init>", "(I[LFormulaEditor$Row;)V"⟩
def dkwX9_init_3 : List UInt8 := [132, 5, 1, 167, 255, 205, 42, 29, 181, 0, 41, 42, 4, 21, 4, 96, 181, 0, 43, 177]
abbrev dktX9_init_3 : List UInt8 := dkwX9_init_3 ++ []
def dkwX9_init_2 : List UInt8 := [21, 5, 50, 182, 0, 28, 96, 62, 21, 4, 44, 21, 5, 50, 182, 0, 32, 184, 0, 35, 54, 4]
abbrev dktX9_init_2 : List UInt8 := dkwX9_init_2 ++ dktX9_init_3
def dkwX9_init_1 : List UInt8 := [44, 190, 162, 0, 50, 44, 21, 5, 50, 42, 181, 0, 19, 44, 21, 5, 50, 21, 5, 181, 0, 25, 29, 44]
abbrev dktX9_init_1 : List UInt8 := dkwX9_init_1 ++ dktX9_init_2
def dkwX9_init_0 : List UInt8 := [42, 183, 0, 3, 42, 27, 181, 0, 9, 42, 44, 181, 0, 15, 4, 62, 3, 54, 4, 3, 54, 5, 21, 5]
abbrev dktX9_init_0 : List UInt8 := dkwX9_init_0 ++ dktX9_init_1
theorem dksX9_init_0 : cX9_init.data.toList.drop 0 = dktX9_init_0 := by decide +kernel
theorem dksX9_init_1 : cX9_init.data.toList.drop 24 = dktX9_init_1 := dk_seg dksX9_init_0 24 rfl rfl
theorem dksX9_init_2 : cX9_init.data.toList.drop 48 = dktX9_init_2 := dk_seg dksX9_init_1 24 rfl rfl
theorem dksX9_init_3 : cX9_init.data.toList.drop 70 = dktX9_init_3 := dk_seg dksX9_init_2 22 rfl rfl
theorem dX9_init_0 : decode cX9_init 0 = .ok (.aload_n 0, 1) := dk_42 (dk_at dksX9_init_0 0 rfl rfl)
theorem dX9_init_1 : decode cX9_init 1 = .ok (.invokespecial 3, 3) := dk_183 0 3 (dk_at dksX9_init_0 1 rfl rfl)
theorem dX9_init_4 : decode cX9_init 4 = .ok (.aload_n 0, 1) := dk_42 (dk_at dksX9_init_0 4 rfl rfl)
theorem dX9_init_5 : decode cX9_init 5 = .ok (.iload_n 1, 1) := dk_27 (dk_at dksX9_init_0 5 rfl rfl)
theorem dX9_init_6 : decode cX9_init 6 = .ok (.putfield 9, 3) := dk_181 0 9 (dk_at dksX9_init_0 6 rfl rfl)
theorem dX9_init_9 : decode cX9_init 9 = .ok (.aload_n 0, 1) := dk_42 (dk_at dksX9_init_0 9 rfl rfl)
theorem dX9_init_10 : decode cX9_init 10 = .ok (.aload_n 2, 1) := dk_44 (dk_at dksX9_init_0 10 rfl rfl)
theorem dX9_init_11 : decode cX9_init 11 = .ok (.putfield 15, 3) := dk_181 0 15 (dk_at dksX9_init_0 11 rfl rfl)
theorem dX9_init_14 : decode cX9_init 14 = .ok (.iconst 1, 1) := dk_4 (dk_at dksX9_init_0 14 rfl rfl)
theorem dX9_init_15 : decode cX9_init 15 = .ok (.istore_n 3, 1) := dk_62 (dk_at dksX9_init_0 15 rfl rfl)
theorem dX9_init_16 : decode cX9_init 16 = .ok (.iconst 0, 1) := dk_3 (dk_at dksX9_init_0 16 rfl rfl)
theorem dX9_init_17 : decode cX9_init 17 = .ok (.istore 4, 2) := dk_54 4 (dk_at dksX9_init_0 17 rfl rfl)
theorem dX9_init_19 : decode cX9_init 19 = .ok (.iconst 0, 1) := dk_3 (dk_at dksX9_init_0 19 rfl rfl)
theorem dX9_init_20 : decode cX9_init 20 = .ok (.istore 5, 2) := dk_54 5 (dk_at dksX9_init_0 20 rfl rfl)
theorem dX9_init_22 : decode cX9_init 22 = .ok (.iload 5, 2) := dk_21 5 (dk_at dksX9_init_0 22 rfl rfl)
theorem dX9_init_24 : decode cX9_init 24 = .ok (.aload_n 2, 1) := dk_44 (dk_at dksX9_init_1 0 rfl rfl)
theorem dX9_init_25 : decode cX9_init 25 = .ok (.arraylength, 1) := dk_190 (dk_at dksX9_init_1 1 rfl rfl)
theorem dX9_init_26 : decode cX9_init 26 = .ok (.if_icmp .ge 50, 3) := dk_162 0 50 (dk_at dksX9_init_1 2 rfl rfl)
theorem dX9_init_29 : decode cX9_init 29 = .ok (.aload_n 2, 1) := dk_44 (dk_at dksX9_init_1 5 rfl rfl)
theorem dX9_init_30 : decode cX9_init 30 = .ok (.iload 5, 2) := dk_21 5 (dk_at dksX9_init_1 6 rfl rfl)
theorem dX9_init_32 : decode cX9_init 32 = .ok (.aaload, 1) := dk_50 (dk_at dksX9_init_1 8 rfl rfl)
theorem dX9_init_33 : decode cX9_init 33 = .ok (.aload_n 0, 1) := dk_42 (dk_at dksX9_init_1 9 rfl rfl)
theorem dX9_init_34 : decode cX9_init 34 = .ok (.putfield 19, 3) := dk_181 0 19 (dk_at dksX9_init_1 10 rfl rfl)
theorem dX9_init_37 : decode cX9_init 37 = .ok (.aload_n 2, 1) := dk_44 (dk_at dksX9_init_1 13 rfl rfl)
theorem dX9_init_38 : decode cX9_init 38 = .ok (.iload 5, 2) := dk_21 5 (dk_at dksX9_init_1 14 rfl rfl)
theorem dX9_init_40 : decode cX9_init 40 = .ok (.aaload, 1) := dk_50 (dk_at dksX9_init_1 16 rfl rfl)
theorem dX9_init_41 : decode cX9_init 41 = .ok (.iload 5, 2) := dk_21 5 (dk_at dksX9_init_1 17 rfl rfl)
theorem dX9_init_43 : decode cX9_init 43 = .ok (.putfield 25, 3) := dk_181 0 25 (dk_at dksX9_init_1 19 rfl rfl)
theorem dX9_init_46 : decode cX9_init 46 = .ok (.iload_n 3, 1) := dk_29 (dk_at dksX9_init_1 22 rfl rfl)
theorem dX9_init_47 : decode cX9_init 47 = .ok (.aload_n 2, 1) := dk_44 (dk_at dksX9_init_1 23 rfl rfl)
theorem dX9_init_48 : decode cX9_init 48 = .ok (.iload 5, 2) := dk_21 5 (dk_at dksX9_init_2 0 rfl rfl)
theorem dX9_init_50 : decode cX9_init 50 = .ok (.aaload, 1) := dk_50 (dk_at dksX9_init_2 2 rfl rfl)
theorem dX9_init_51 : decode cX9_init 51 = .ok (.invokevirtual 28, 3) := dk_182 0 28 (dk_at dksX9_init_2 3 rfl rfl)
theorem dX9_init_54 : decode cX9_init 54 = .ok (.iadd, 1) := dk_96 (dk_at dksX9_init_2 6 rfl rfl)
theorem dX9_init_55 : decode cX9_init 55 = .ok (.istore_n 3, 1) := dk_62 (dk_at dksX9_init_2 7 rfl rfl)
theorem dX9_init_56 : decode cX9_init 56 = .ok (.iload 4, 2) := dk_21 4 (dk_at dksX9_init_2 8 rfl rfl)
theorem dX9_init_58 : decode cX9_init 58 = .ok (.aload_n 2, 1) := dk_44 (dk_at dksX9_init_2 10 rfl rfl)
theorem dX9_init_59 : decode cX9_init 59 = .ok (.iload 5, 2) := dk_21 5 (dk_at dksX9_init_2 11 rfl rfl)
theorem dX9_init_61 : decode cX9_init 61 = .ok (.aaload, 1) := dk_50 (dk_at dksX9_init_2 13 rfl rfl)
theorem dX9_init_62 : decode cX9_init 62 = .ok (.invokevirtual 32, 3) := dk_182 0 32 (dk_at dksX9_init_2 14 rfl rfl)
theorem dX9_init_65 : decode cX9_init 65 = .ok (.invokestatic 35, 3) := dk_184 0 35 (dk_at dksX9_init_2 17 rfl rfl)
theorem dX9_init_68 : decode cX9_init 68 = .ok (.istore 4, 2) := dk_54 4 (dk_at dksX9_init_2 20 rfl rfl)
theorem dX9_init_70 : decode cX9_init 70 = .ok (.iinc 5 1, 3) := dk_132 5 1 (dk_at dksX9_init_3 0 rfl rfl)
theorem dX9_init_73 : decode cX9_init 73 = .ok (.goto (-51), 3) := dk_167 255 205 (dk_at dksX9_init_3 3 rfl rfl)
theorem dX9_init_76 : decode cX9_init 76 = .ok (.aload_n 0, 1) := dk_42 (dk_at dksX9_init_3 6 rfl rfl)
theorem dX9_init_77 : decode cX9_init 77 = .ok (.iload_n 3, 1) := dk_29 (dk_at dksX9_init_3 7 rfl rfl)
theorem dX9_init_78 : decode cX9_init 78 = .ok (.putfield 41, 3) := dk_181 0 41 (dk_at dksX9_init_3 8 rfl rfl)
theorem dX9_init_81 : decode cX9_init 81 = .ok (.aload_n 0, 1) := dk_42 (dk_at dksX9_init_3 11 rfl rfl)
theorem dX9_init_82 : decode cX9_init 82 = .ok (.iconst 1, 1) := dk_4 (dk_at dksX9_init_3 12 rfl rfl)
theorem dX9_init_83 : decode cX9_init 83 = .ok (.iload 4, 2) := dk_21 4 (dk_at dksX9_init_3 13 rfl rfl)
theorem dX9_init_85 : decode cX9_init 85 = .ok (.iadd, 1) := dk_96 (dk_at dksX9_init_3 15 rfl rfl)
theorem dX9_init_86 : decode cX9_init 86 = .ok (.putfield 43, 3) := dk_181 0 43 (dk_at dksX9_init_3 16 rfl rfl)
theorem dX9_init_89 : decode cX9_init 89 = .ok (.return_, 1) := dk_177 (dk_at dksX9_init_3 19 rfl rfl)
abbrev cX9_isBase : ByteArray := prog_12_method_10_code
def yX9_isBase : MethodName := ⟨RX9, "isBase", "()Z"⟩
def dkwX9_isBase_0 : List UInt8 := [42, 180, 0, 9, 7, 159, 0, 11, 42, 180, 0, 9, 8, 160, 0, 7, 4, 167, 0, 4, 3, 172]
abbrev dktX9_isBase_0 : List UInt8 := dkwX9_isBase_0 ++ []
theorem dksX9_isBase_0 : cX9_isBase.data.toList.drop 0 = dktX9_isBase_0 := by decide +kernel
theorem dX9_isBase_0 : decode cX9_isBase 0 = .ok (.aload_n 0, 1) := dk_42 (dk_at dksX9_isBase_0 0 rfl rfl)
theorem dX9_isBase_1 : decode cX9_isBase 1 = .ok (.getfield 9, 3) := dk_180 0 9 (dk_at dksX9_isBase_0 1 rfl rfl)
theorem dX9_isBase_4 : decode cX9_isBase 4 = .ok (.iconst 4, 1) := dk_7 (dk_at dksX9_isBase_0 4 rfl rfl)
theorem dX9_isBase_5 : decode cX9_isBase 5 = .ok (.if_icmp .eq 11, 3) := dk_159 0 11 (dk_at dksX9_isBase_0 5 rfl rfl)
theorem dX9_isBase_8 : decode cX9_isBase 8 = .ok (.aload_n 0, 1) := dk_42 (dk_at dksX9_isBase_0 8 rfl rfl)
theorem dX9_isBase_9 : decode cX9_isBase 9 = .ok (.getfield 9, 3) := dk_180 0 9 (dk_at dksX9_isBase_0 9 rfl rfl)
theorem dX9_isBase_12 : decode cX9_isBase 12 = .ok (.iconst 5, 1) := dk_8 (dk_at dksX9_isBase_0 12 rfl rfl)
theorem dX9_isBase_13 : decode cX9_isBase 13 = .ok (.if_icmp .ne 7, 3) := dk_160 0 7 (dk_at dksX9_isBase_0 13 rfl rfl)
theorem dX9_isBase_16 : decode cX9_isBase 16 = .ok (.iconst 1, 1) := dk_4 (dk_at dksX9_isBase_0 16 rfl rfl)
theorem dX9_isBase_17 : decode cX9_isBase 17 = .ok (.goto 4, 3) := dk_167 0 4 (dk_at dksX9_isBase_0 17 rfl rfl)
theorem dX9_isBase_20 : decode cX9_isBase 20 = .ok (.iconst 0, 1) := dk_3 (dk_at dksX9_isBase_0 20 rfl rfl)
theorem dX9_isBase_21 : decode cX9_isBase 21 = .ok (.ireturn, 1) := dk_172 (dk_at dksX9_isBase_0 21 rfl rfl)
abbrev cX9_isScript : ByteArray := prog_12_method_5_code
def yX9_isScript : MethodName := ⟨RX9, "isScript", "()Z"⟩
def dkwX9_isScript_0 : List UInt8 := [42, 180, 0, 9, 5, 159, 0, 11, 42, 180, 0, 9, 6, 160, 0, 7, 4, 167, 0, 4, 3, 172]
abbrev dktX9_isScript_0 : List UInt8 := dkwX9_isScript_0 ++ []
theorem dksX9_isScript_0 : cX9_isScript.data.toList.drop 0 = dktX9_isScript_0 := by decide +kernel
theorem dX9_isScript_0 : decode cX9_isScript 0 = .ok (.aload_n 0, 1) := dk_42 (dk_at dksX9_isScript_0 0 rfl rfl)
theorem dX9_isScript_1 : decode cX9_isScript 1 = .ok (.getfield 9, 3) := dk_180 0 9 (dk_at dksX9_isScript_0 1 rfl rfl)
theorem dX9_isScript_4 : decode cX9_isScript 4 = .ok (.iconst 2, 1) := dk_5 (dk_at dksX9_isScript_0 4 rfl rfl)
theorem dX9_isScript_5 : decode cX9_isScript 5 = .ok (.if_icmp .eq 11, 3) := dk_159 0 11 (dk_at dksX9_isScript_0 5 rfl rfl)
theorem dX9_isScript_8 : decode cX9_isScript 8 = .ok (.aload_n 0, 1) := dk_42 (dk_at dksX9_isScript_0 8 rfl rfl)
theorem dX9_isScript_9 : decode cX9_isScript 9 = .ok (.getfield 9, 3) := dk_180 0 9 (dk_at dksX9_isScript_0 9 rfl rfl)
theorem dX9_isScript_12 : decode cX9_isScript 12 = .ok (.iconst 3, 1) := dk_6 (dk_at dksX9_isScript_0 12 rfl rfl)
theorem dX9_isScript_13 : decode cX9_isScript 13 = .ok (.if_icmp .ne 7, 3) := dk_160 0 7 (dk_at dksX9_isScript_0 13 rfl rfl)
theorem dX9_isScript_16 : decode cX9_isScript 16 = .ok (.iconst 1, 1) := dk_4 (dk_at dksX9_isScript_0 16 rfl rfl)
theorem dX9_isScript_17 : decode cX9_isScript 17 = .ok (.goto 4, 3) := dk_167 0 4 (dk_at dksX9_isScript_0 17 rfl rfl)
theorem dX9_isScript_20 : decode cX9_isScript 20 = .ok (.iconst 0, 1) := dk_3 (dk_at dksX9_isScript_0 20 rfl rfl)
theorem dX9_isScript_21 : decode cX9_isScript 21 = .ok (.ireturn, 1) := dk_172 (dk_at dksX9_isScript_0 21 rfl rfl)
abbrev cX9_size : ByteArray := prog_12_method_7_code
def yX9_size : MethodName := ⟨RX9, "size", "()I"⟩
def dkwX9_size_1 : List UInt8 := [60, 132, 2, 1, 167, 255, 232, 27, 172]
abbrev dktX9_size_1 : List UInt8 := dkwX9_size_1 ++ []
def dkwX9_size_0 : List UInt8 := [4, 60, 3, 61, 28, 42, 180, 0, 15, 190, 162, 0, 21, 27, 42, 180, 0, 15, 28, 50, 182, 0, 70, 96]
abbrev dktX9_size_0 : List UInt8 := dkwX9_size_0 ++ dktX9_size_1
theorem dksX9_size_0 : cX9_size.data.toList.drop 0 = dktX9_size_0 := by decide +kernel
theorem dksX9_size_1 : cX9_size.data.toList.drop 24 = dktX9_size_1 := dk_seg dksX9_size_0 24 rfl rfl
theorem dX9_size_0 : decode cX9_size 0 = .ok (.iconst 1, 1) := dk_4 (dk_at dksX9_size_0 0 rfl rfl)
theorem dX9_size_1 : decode cX9_size 1 = .ok (.istore_n 1, 1) := dk_60 (dk_at dksX9_size_0 1 rfl rfl)
theorem dX9_size_2 : decode cX9_size 2 = .ok (.iconst 0, 1) := dk_3 (dk_at dksX9_size_0 2 rfl rfl)
theorem dX9_size_3 : decode cX9_size 3 = .ok (.istore_n 2, 1) := dk_61 (dk_at dksX9_size_0 3 rfl rfl)
theorem dX9_size_4 : decode cX9_size 4 = .ok (.iload_n 2, 1) := dk_28 (dk_at dksX9_size_0 4 rfl rfl)
theorem dX9_size_5 : decode cX9_size 5 = .ok (.aload_n 0, 1) := dk_42 (dk_at dksX9_size_0 5 rfl rfl)
theorem dX9_size_6 : decode cX9_size 6 = .ok (.getfield 15, 3) := dk_180 0 15 (dk_at dksX9_size_0 6 rfl rfl)
theorem dX9_size_9 : decode cX9_size 9 = .ok (.arraylength, 1) := dk_190 (dk_at dksX9_size_0 9 rfl rfl)
theorem dX9_size_10 : decode cX9_size 10 = .ok (.if_icmp .ge 21, 3) := dk_162 0 21 (dk_at dksX9_size_0 10 rfl rfl)
theorem dX9_size_13 : decode cX9_size 13 = .ok (.iload_n 1, 1) := dk_27 (dk_at dksX9_size_0 13 rfl rfl)
theorem dX9_size_14 : decode cX9_size 14 = .ok (.aload_n 0, 1) := dk_42 (dk_at dksX9_size_0 14 rfl rfl)
theorem dX9_size_15 : decode cX9_size 15 = .ok (.getfield 15, 3) := dk_180 0 15 (dk_at dksX9_size_0 15 rfl rfl)
theorem dX9_size_18 : decode cX9_size 18 = .ok (.iload_n 2, 1) := dk_28 (dk_at dksX9_size_0 18 rfl rfl)
theorem dX9_size_19 : decode cX9_size 19 = .ok (.aaload, 1) := dk_50 (dk_at dksX9_size_0 19 rfl rfl)
theorem dX9_size_20 : decode cX9_size 20 = .ok (.invokevirtual 70, 3) := dk_182 0 70 (dk_at dksX9_size_0 20 rfl rfl)
theorem dX9_size_23 : decode cX9_size 23 = .ok (.iadd, 1) := dk_96 (dk_at dksX9_size_0 23 rfl rfl)
theorem dX9_size_24 : decode cX9_size 24 = .ok (.istore_n 1, 1) := dk_60 (dk_at dksX9_size_1 0 rfl rfl)
theorem dX9_size_25 : decode cX9_size 25 = .ok (.iinc 2 1, 3) := dk_132 2 1 (dk_at dksX9_size_1 1 rfl rfl)
theorem dX9_size_28 : decode cX9_size 28 = .ok (.goto (-24), 3) := dk_167 255 232 (dk_at dksX9_size_1 4 rfl rfl)
theorem dX9_size_31 : decode cX9_size 31 = .ok (.iload_n 1, 1) := dk_27 (dk_at dksX9_size_1 7 rfl rfl)
theorem dX9_size_32 : decode cX9_size 32 = .ok (.ireturn, 1) := dk_172 (dk_at dksX9_size_1 8 rfl rfl)
abbrev cX9_depth : ByteArray := prog_12_method_8_code
def yX9_depth : MethodName := ⟨RX9, "depth", "()I"⟩
def dkwX9_depth_1 : List UInt8 := [184, 0, 35, 60, 132, 2, 1, 167, 255, 230, 4, 27, 96, 172]
abbrev dktX9_depth_1 : List UInt8 := dkwX9_depth_1 ++ []
def dkwX9_depth_0 : List UInt8 := [3, 60, 3, 61, 28, 42, 180, 0, 15, 190, 162, 0, 23, 27, 42, 180, 0, 15, 28, 50, 182, 0, 71]
abbrev dktX9_depth_0 : List UInt8 := dkwX9_depth_0 ++ dktX9_depth_1
theorem dksX9_depth_0 : cX9_depth.data.toList.drop 0 = dktX9_depth_0 := by decide +kernel
theorem dksX9_depth_1 : cX9_depth.data.toList.drop 23 = dktX9_depth_1 := dk_seg dksX9_depth_0 23 rfl rfl
theorem dX9_depth_0 : decode cX9_depth 0 = .ok (.iconst 0, 1) := dk_3 (dk_at dksX9_depth_0 0 rfl rfl)
theorem dX9_depth_1 : decode cX9_depth 1 = .ok (.istore_n 1, 1) := dk_60 (dk_at dksX9_depth_0 1 rfl rfl)
theorem dX9_depth_2 : decode cX9_depth 2 = .ok (.iconst 0, 1) := dk_3 (dk_at dksX9_depth_0 2 rfl rfl)
theorem dX9_depth_3 : decode cX9_depth 3 = .ok (.istore_n 2, 1) := dk_61 (dk_at dksX9_depth_0 3 rfl rfl)
theorem dX9_depth_4 : decode cX9_depth 4 = .ok (.iload_n 2, 1) := dk_28 (dk_at dksX9_depth_0 4 rfl rfl)
theorem dX9_depth_5 : decode cX9_depth 5 = .ok (.aload_n 0, 1) := dk_42 (dk_at dksX9_depth_0 5 rfl rfl)
theorem dX9_depth_6 : decode cX9_depth 6 = .ok (.getfield 15, 3) := dk_180 0 15 (dk_at dksX9_depth_0 6 rfl rfl)
theorem dX9_depth_9 : decode cX9_depth 9 = .ok (.arraylength, 1) := dk_190 (dk_at dksX9_depth_0 9 rfl rfl)
theorem dX9_depth_10 : decode cX9_depth 10 = .ok (.if_icmp .ge 23, 3) := dk_162 0 23 (dk_at dksX9_depth_0 10 rfl rfl)
theorem dX9_depth_13 : decode cX9_depth 13 = .ok (.iload_n 1, 1) := dk_27 (dk_at dksX9_depth_0 13 rfl rfl)
theorem dX9_depth_14 : decode cX9_depth 14 = .ok (.aload_n 0, 1) := dk_42 (dk_at dksX9_depth_0 14 rfl rfl)
theorem dX9_depth_15 : decode cX9_depth 15 = .ok (.getfield 15, 3) := dk_180 0 15 (dk_at dksX9_depth_0 15 rfl rfl)
theorem dX9_depth_18 : decode cX9_depth 18 = .ok (.iload_n 2, 1) := dk_28 (dk_at dksX9_depth_0 18 rfl rfl)
theorem dX9_depth_19 : decode cX9_depth 19 = .ok (.aaload, 1) := dk_50 (dk_at dksX9_depth_0 19 rfl rfl)
theorem dX9_depth_20 : decode cX9_depth 20 = .ok (.invokevirtual 71, 3) := dk_182 0 71 (dk_at dksX9_depth_0 20 rfl rfl)
theorem dX9_depth_23 : decode cX9_depth 23 = .ok (.invokestatic 35, 3) := dk_184 0 35 (dk_at dksX9_depth_1 0 rfl rfl)
theorem dX9_depth_26 : decode cX9_depth 26 = .ok (.istore_n 1, 1) := dk_60 (dk_at dksX9_depth_1 3 rfl rfl)
theorem dX9_depth_27 : decode cX9_depth 27 = .ok (.iinc 2 1, 3) := dk_132 2 1 (dk_at dksX9_depth_1 4 rfl rfl)
theorem dX9_depth_30 : decode cX9_depth 30 = .ok (.goto (-26), 3) := dk_167 255 230 (dk_at dksX9_depth_1 7 rfl rfl)
theorem dX9_depth_33 : decode cX9_depth 33 = .ok (.iconst 1, 1) := dk_4 (dk_at dksX9_depth_1 10 rfl rfl)
theorem dX9_depth_34 : decode cX9_depth 34 = .ok (.iload_n 1, 1) := dk_27 (dk_at dksX9_depth_1 11 rfl rfl)
theorem dX9_depth_35 : decode cX9_depth 35 = .ok (.iadd, 1) := dk_96 (dk_at dksX9_depth_1 12 rfl rfl)
theorem dX9_depth_36 : decode cX9_depth 36 = .ok (.ireturn, 1) := dk_172 (dk_at dksX9_depth_1 13 rfl rfl)
abbrev cX9_copy : ByteArray := prog_12_method_6_code
def yX9_copy : MethodName := ⟨RX9, "copy", "()LFormulaEditor$Item;"⟩
def dkwX9_copy_2 : List UInt8 := [182, 0, 66, 132, 2, 1, 167, 255, 214, 43, 176]
abbrev dktX9_copy_2 : List UInt8 := dkwX9_copy_2 ++ []
def dkwX9_copy_1 : List UInt8 := [50, 42, 180, 0, 15, 28, 50, 3, 42, 180, 0, 15, 28, 50, 180, 0, 49, 185, 0, 63, 1, 0]
abbrev dktX9_copy_1 : List UInt8 := dkwX9_copy_1 ++ dktX9_copy_2
def dkwX9_copy_0 : List UInt8 := [42, 180, 0, 9, 184, 0, 59, 76, 3, 61, 28, 42, 180, 0, 15, 190, 162, 0, 39, 43, 180, 0, 15, 28]
abbrev dktX9_copy_0 : List UInt8 := dkwX9_copy_0 ++ dktX9_copy_1
theorem dksX9_copy_0 : cX9_copy.data.toList.drop 0 = dktX9_copy_0 := by decide +kernel
theorem dksX9_copy_1 : cX9_copy.data.toList.drop 24 = dktX9_copy_1 := dk_seg dksX9_copy_0 24 rfl rfl
theorem dksX9_copy_2 : cX9_copy.data.toList.drop 46 = dktX9_copy_2 := dk_seg dksX9_copy_1 22 rfl rfl
theorem dX9_copy_0 : decode cX9_copy 0 = .ok (.aload_n 0, 1) := dk_42 (dk_at dksX9_copy_0 0 rfl rfl)
theorem dX9_copy_1 : decode cX9_copy 1 = .ok (.getfield 9, 3) := dk_180 0 9 (dk_at dksX9_copy_0 1 rfl rfl)
theorem dX9_copy_4 : decode cX9_copy 4 = .ok (.invokestatic 59, 3) := dk_184 0 59 (dk_at dksX9_copy_0 4 rfl rfl)
theorem dX9_copy_7 : decode cX9_copy 7 = .ok (.astore_n 1, 1) := dk_76 (dk_at dksX9_copy_0 7 rfl rfl)
theorem dX9_copy_8 : decode cX9_copy 8 = .ok (.iconst 0, 1) := dk_3 (dk_at dksX9_copy_0 8 rfl rfl)
theorem dX9_copy_9 : decode cX9_copy 9 = .ok (.istore_n 2, 1) := dk_61 (dk_at dksX9_copy_0 9 rfl rfl)
theorem dX9_copy_10 : decode cX9_copy 10 = .ok (.iload_n 2, 1) := dk_28 (dk_at dksX9_copy_0 10 rfl rfl)
theorem dX9_copy_11 : decode cX9_copy 11 = .ok (.aload_n 0, 1) := dk_42 (dk_at dksX9_copy_0 11 rfl rfl)
theorem dX9_copy_12 : decode cX9_copy 12 = .ok (.getfield 15, 3) := dk_180 0 15 (dk_at dksX9_copy_0 12 rfl rfl)
theorem dX9_copy_15 : decode cX9_copy 15 = .ok (.arraylength, 1) := dk_190 (dk_at dksX9_copy_0 15 rfl rfl)
theorem dX9_copy_16 : decode cX9_copy 16 = .ok (.if_icmp .ge 39, 3) := dk_162 0 39 (dk_at dksX9_copy_0 16 rfl rfl)
theorem dX9_copy_19 : decode cX9_copy 19 = .ok (.aload_n 1, 1) := dk_43 (dk_at dksX9_copy_0 19 rfl rfl)
theorem dX9_copy_20 : decode cX9_copy 20 = .ok (.getfield 15, 3) := dk_180 0 15 (dk_at dksX9_copy_0 20 rfl rfl)
theorem dX9_copy_23 : decode cX9_copy 23 = .ok (.iload_n 2, 1) := dk_28 (dk_at dksX9_copy_0 23 rfl rfl)
theorem dX9_copy_24 : decode cX9_copy 24 = .ok (.aaload, 1) := dk_50 (dk_at dksX9_copy_1 0 rfl rfl)
theorem dX9_copy_25 : decode cX9_copy 25 = .ok (.aload_n 0, 1) := dk_42 (dk_at dksX9_copy_1 1 rfl rfl)
theorem dX9_copy_26 : decode cX9_copy 26 = .ok (.getfield 15, 3) := dk_180 0 15 (dk_at dksX9_copy_1 2 rfl rfl)
theorem dX9_copy_29 : decode cX9_copy 29 = .ok (.iload_n 2, 1) := dk_28 (dk_at dksX9_copy_1 5 rfl rfl)
theorem dX9_copy_30 : decode cX9_copy 30 = .ok (.aaload, 1) := dk_50 (dk_at dksX9_copy_1 6 rfl rfl)
theorem dX9_copy_31 : decode cX9_copy 31 = .ok (.iconst 0, 1) := dk_3 (dk_at dksX9_copy_1 7 rfl rfl)
theorem dX9_copy_32 : decode cX9_copy 32 = .ok (.aload_n 0, 1) := dk_42 (dk_at dksX9_copy_1 8 rfl rfl)
theorem dX9_copy_33 : decode cX9_copy 33 = .ok (.getfield 15, 3) := dk_180 0 15 (dk_at dksX9_copy_1 9 rfl rfl)
theorem dX9_copy_36 : decode cX9_copy 36 = .ok (.iload_n 2, 1) := dk_28 (dk_at dksX9_copy_1 12 rfl rfl)
theorem dX9_copy_37 : decode cX9_copy 37 = .ok (.aaload, 1) := dk_50 (dk_at dksX9_copy_1 13 rfl rfl)
theorem dX9_copy_38 : decode cX9_copy 38 = .ok (.getfield 49, 3) := dk_180 0 49 (dk_at dksX9_copy_1 14 rfl rfl)
theorem dX9_copy_41 : decode cX9_copy 41 = .ok (.invokeinterface 63 1, 5) := by decide +kernel
theorem dX9_copy_46 : decode cX9_copy 46 = .ok (.invokevirtual 66, 3) := dk_182 0 66 (dk_at dksX9_copy_2 0 rfl rfl)
theorem dX9_copy_49 : decode cX9_copy 49 = .ok (.iinc 2 1, 3) := dk_132 2 1 (dk_at dksX9_copy_2 3 rfl rfl)
theorem dX9_copy_52 : decode cX9_copy 52 = .ok (.goto (-42), 3) := dk_167 255 214 (dk_at dksX9_copy_2 6 rfl rfl)
theorem dX9_copy_55 : decode cX9_copy 55 = .ok (.aload_n 1, 1) := dk_43 (dk_at dksX9_copy_2 9 rfl rfl)
theorem dX9_copy_56 : decode cX9_copy 56 = .ok (.areturn, 1) := dk_176 (dk_at dksX9_copy_2 10 rfl rfl)
abbrev cX9_empty : ByteArray := prog_12_method_2_code
def yX9_empty : MethodName := ⟨RX9, "empty", "(I)LFormulaEditor$Structure;"⟩
def dkwX9_empty_2 : List UInt8 := [189, 0, 20, 89, 3, 187, 0, 20, 89, 183, 0, 45, 83, 183, 0, 46, 176]
abbrev dktX9_empty_2 : List UInt8 := dkwX9_empty_2 ++ []
def dkwX9_empty_1 : List UInt8 := [89, 4, 187, 0, 20, 89, 183, 0, 45, 83, 183, 0, 46, 167, 0, 25, 187, 0, 10, 89, 26, 4]
abbrev dktX9_empty_1 : List UInt8 := dkwX9_empty_1 ++ dktX9_empty_2
def dkwX9_empty_0 : List UInt8 := [26, 4, 160, 0, 38, 187, 0, 10, 89, 26, 5, 189, 0, 20, 89, 3, 187, 0, 20, 89, 183, 0, 45, 83]
abbrev dktX9_empty_0 : List UInt8 := dkwX9_empty_0 ++ dktX9_empty_1
theorem dksX9_empty_0 : cX9_empty.data.toList.drop 0 = dktX9_empty_0 := by decide +kernel
theorem dksX9_empty_1 : cX9_empty.data.toList.drop 24 = dktX9_empty_1 := dk_seg dksX9_empty_0 24 rfl rfl
theorem dksX9_empty_2 : cX9_empty.data.toList.drop 46 = dktX9_empty_2 := dk_seg dksX9_empty_1 22 rfl rfl
theorem dX9_empty_0 : decode cX9_empty 0 = .ok (.iload_n 0, 1) := dk_26 (dk_at dksX9_empty_0 0 rfl rfl)
theorem dX9_empty_1 : decode cX9_empty 1 = .ok (.iconst 1, 1) := dk_4 (dk_at dksX9_empty_0 1 rfl rfl)
theorem dX9_empty_2 : decode cX9_empty 2 = .ok (.if_icmp .ne 38, 3) := dk_160 0 38 (dk_at dksX9_empty_0 2 rfl rfl)
theorem dX9_empty_5 : decode cX9_empty 5 = .ok (.new 10, 3) := dk_187 0 10 (dk_at dksX9_empty_0 5 rfl rfl)
theorem dX9_empty_8 : decode cX9_empty 8 = .ok (.dup, 1) := dk_89 (dk_at dksX9_empty_0 8 rfl rfl)
theorem dX9_empty_9 : decode cX9_empty 9 = .ok (.iload_n 0, 1) := dk_26 (dk_at dksX9_empty_0 9 rfl rfl)
theorem dX9_empty_10 : decode cX9_empty 10 = .ok (.iconst 2, 1) := dk_5 (dk_at dksX9_empty_0 10 rfl rfl)
theorem dX9_empty_11 : decode cX9_empty 11 = .ok (.anewarray 20, 3) := dk_189 0 20 (dk_at dksX9_empty_0 11 rfl rfl)
theorem dX9_empty_14 : decode cX9_empty 14 = .ok (.dup, 1) := dk_89 (dk_at dksX9_empty_0 14 rfl rfl)
theorem dX9_empty_15 : decode cX9_empty 15 = .ok (.iconst 0, 1) := dk_3 (dk_at dksX9_empty_0 15 rfl rfl)
theorem dX9_empty_16 : decode cX9_empty 16 = .ok (.new 20, 3) := dk_187 0 20 (dk_at dksX9_empty_0 16 rfl rfl)
theorem dX9_empty_19 : decode cX9_empty 19 = .ok (.dup, 1) := dk_89 (dk_at dksX9_empty_0 19 rfl rfl)
theorem dX9_empty_20 : decode cX9_empty 20 = .ok (.invokespecial 45, 3) := dk_183 0 45 (dk_at dksX9_empty_0 20 rfl rfl)
theorem dX9_empty_23 : decode cX9_empty 23 = .ok (.aastore, 1) := dk_83 (dk_at dksX9_empty_0 23 rfl rfl)
theorem dX9_empty_24 : decode cX9_empty 24 = .ok (.dup, 1) := dk_89 (dk_at dksX9_empty_1 0 rfl rfl)
theorem dX9_empty_25 : decode cX9_empty 25 = .ok (.iconst 1, 1) := dk_4 (dk_at dksX9_empty_1 1 rfl rfl)
theorem dX9_empty_26 : decode cX9_empty 26 = .ok (.new 20, 3) := dk_187 0 20 (dk_at dksX9_empty_1 2 rfl rfl)
theorem dX9_empty_29 : decode cX9_empty 29 = .ok (.dup, 1) := dk_89 (dk_at dksX9_empty_1 5 rfl rfl)
theorem dX9_empty_30 : decode cX9_empty 30 = .ok (.invokespecial 45, 3) := dk_183 0 45 (dk_at dksX9_empty_1 6 rfl rfl)
theorem dX9_empty_33 : decode cX9_empty 33 = .ok (.aastore, 1) := dk_83 (dk_at dksX9_empty_1 9 rfl rfl)
theorem dX9_empty_34 : decode cX9_empty 34 = .ok (.invokespecial 46, 3) := dk_183 0 46 (dk_at dksX9_empty_1 10 rfl rfl)
theorem dX9_empty_37 : decode cX9_empty 37 = .ok (.goto 25, 3) := dk_167 0 25 (dk_at dksX9_empty_1 13 rfl rfl)
theorem dX9_empty_40 : decode cX9_empty 40 = .ok (.new 10, 3) := dk_187 0 10 (dk_at dksX9_empty_1 16 rfl rfl)
theorem dX9_empty_43 : decode cX9_empty 43 = .ok (.dup, 1) := dk_89 (dk_at dksX9_empty_1 19 rfl rfl)
theorem dX9_empty_44 : decode cX9_empty 44 = .ok (.iload_n 0, 1) := dk_26 (dk_at dksX9_empty_1 20 rfl rfl)
theorem dX9_empty_45 : decode cX9_empty 45 = .ok (.iconst 1, 1) := dk_4 (dk_at dksX9_empty_1 21 rfl rfl)
theorem dX9_empty_46 : decode cX9_empty 46 = .ok (.anewarray 20, 3) := dk_189 0 20 (dk_at dksX9_empty_2 0 rfl rfl)
theorem dX9_empty_49 : decode cX9_empty 49 = .ok (.dup, 1) := dk_89 (dk_at dksX9_empty_2 3 rfl rfl)
theorem dX9_empty_50 : decode cX9_empty 50 = .ok (.iconst 0, 1) := dk_3 (dk_at dksX9_empty_2 4 rfl rfl)
theorem dX9_empty_51 : decode cX9_empty 51 = .ok (.new 20, 3) := dk_187 0 20 (dk_at dksX9_empty_2 5 rfl rfl)
theorem dX9_empty_54 : decode cX9_empty 54 = .ok (.dup, 1) := dk_89 (dk_at dksX9_empty_2 8 rfl rfl)
theorem dX9_empty_55 : decode cX9_empty 55 = .ok (.invokespecial 45, 3) := dk_183 0 45 (dk_at dksX9_empty_2 9 rfl rfl)
theorem dX9_empty_58 : decode cX9_empty 58 = .ok (.aastore, 1) := dk_83 (dk_at dksX9_empty_2 12 rfl rfl)
theorem dX9_empty_59 : decode cX9_empty 59 = .ok (.invokespecial 46, 3) := dk_183 0 46 (dk_at dksX9_empty_2 13 rfl rfl)
theorem dX9_empty_62 : decode cX9_empty 62 = .ok (.areturn, 1) := dk_176 (dk_at dksX9_empty_2 16 rfl rfl)
abbrev cX9_isEmpty : ByteArray := prog_12_method_4_code
def yX9_isEmpty : MethodName := ⟨RX9, "isEmpty", "()Z"⟩
def dkwX9_isEmpty_1 : List UInt8 := [185, 0, 53, 1, 0, 126, 60, 132, 2, 1, 167, 255, 227, 27, 172]
abbrev dktX9_isEmpty_1 : List UInt8 := dkwX9_isEmpty_1 ++ []
def dkwX9_isEmpty_0 : List UInt8 := [4, 60, 3, 61, 28, 42, 180, 0, 15, 190, 162, 0, 26, 27, 42, 180, 0, 15, 28, 50, 180, 0, 49]
abbrev dktX9_isEmpty_0 : List UInt8 := dkwX9_isEmpty_0 ++ dktX9_isEmpty_1
theorem dksX9_isEmpty_0 : cX9_isEmpty.data.toList.drop 0 = dktX9_isEmpty_0 := by decide +kernel
theorem dksX9_isEmpty_1 : cX9_isEmpty.data.toList.drop 23 = dktX9_isEmpty_1 := dk_seg dksX9_isEmpty_0 23 rfl rfl
theorem dX9_isEmpty_0 : decode cX9_isEmpty 0 = .ok (.iconst 1, 1) := dk_4 (dk_at dksX9_isEmpty_0 0 rfl rfl)
theorem dX9_isEmpty_1 : decode cX9_isEmpty 1 = .ok (.istore_n 1, 1) := dk_60 (dk_at dksX9_isEmpty_0 1 rfl rfl)
theorem dX9_isEmpty_2 : decode cX9_isEmpty 2 = .ok (.iconst 0, 1) := dk_3 (dk_at dksX9_isEmpty_0 2 rfl rfl)
theorem dX9_isEmpty_3 : decode cX9_isEmpty 3 = .ok (.istore_n 2, 1) := dk_61 (dk_at dksX9_isEmpty_0 3 rfl rfl)
theorem dX9_isEmpty_4 : decode cX9_isEmpty 4 = .ok (.iload_n 2, 1) := dk_28 (dk_at dksX9_isEmpty_0 4 rfl rfl)
theorem dX9_isEmpty_5 : decode cX9_isEmpty 5 = .ok (.aload_n 0, 1) := dk_42 (dk_at dksX9_isEmpty_0 5 rfl rfl)
theorem dX9_isEmpty_6 : decode cX9_isEmpty 6 = .ok (.getfield 15, 3) := dk_180 0 15 (dk_at dksX9_isEmpty_0 6 rfl rfl)
theorem dX9_isEmpty_9 : decode cX9_isEmpty 9 = .ok (.arraylength, 1) := dk_190 (dk_at dksX9_isEmpty_0 9 rfl rfl)
theorem dX9_isEmpty_10 : decode cX9_isEmpty 10 = .ok (.if_icmp .ge 26, 3) := dk_162 0 26 (dk_at dksX9_isEmpty_0 10 rfl rfl)
theorem dX9_isEmpty_13 : decode cX9_isEmpty 13 = .ok (.iload_n 1, 1) := dk_27 (dk_at dksX9_isEmpty_0 13 rfl rfl)
theorem dX9_isEmpty_14 : decode cX9_isEmpty 14 = .ok (.aload_n 0, 1) := dk_42 (dk_at dksX9_isEmpty_0 14 rfl rfl)
theorem dX9_isEmpty_15 : decode cX9_isEmpty 15 = .ok (.getfield 15, 3) := dk_180 0 15 (dk_at dksX9_isEmpty_0 15 rfl rfl)
theorem dX9_isEmpty_18 : decode cX9_isEmpty 18 = .ok (.iload_n 2, 1) := dk_28 (dk_at dksX9_isEmpty_0 18 rfl rfl)
theorem dX9_isEmpty_19 : decode cX9_isEmpty 19 = .ok (.aaload, 1) := dk_50 (dk_at dksX9_isEmpty_0 19 rfl rfl)
theorem dX9_isEmpty_20 : decode cX9_isEmpty 20 = .ok (.getfield 49, 3) := dk_180 0 49 (dk_at dksX9_isEmpty_0 20 rfl rfl)
theorem dX9_isEmpty_23 : decode cX9_isEmpty 23 = .ok (.invokeinterface 53 1, 5) := by decide +kernel
theorem dX9_isEmpty_28 : decode cX9_isEmpty 28 = .ok (.iand, 1) := dk_126 (dk_at dksX9_isEmpty_1 5 rfl rfl)
theorem dX9_isEmpty_29 : decode cX9_isEmpty 29 = .ok (.istore_n 1, 1) := dk_60 (dk_at dksX9_isEmpty_1 6 rfl rfl)
theorem dX9_isEmpty_30 : decode cX9_isEmpty 30 = .ok (.iinc 2 1, 3) := dk_132 2 1 (dk_at dksX9_isEmpty_1 7 rfl rfl)
theorem dX9_isEmpty_33 : decode cX9_isEmpty 33 = .ok (.goto (-29), 3) := dk_167 255 227 (dk_at dksX9_isEmpty_1 10 rfl rfl)
theorem dX9_isEmpty_36 : decode cX9_isEmpty 36 = .ok (.iload_n 1, 1) := dk_27 (dk_at dksX9_isEmpty_1 13 rfl rfl)
theorem dX9_isEmpty_37 : decode cX9_isEmpty 37 = .ok (.ireturn, 1) := dk_172 (dk_at dksX9_isEmpty_1 14 rfl rfl)
theorem q100 : (Jvm.Cond.initialized "FormulaEditor$Structure") ∈ lw_all := lw_g (lw_at lw_m1 43 rfl) rfl
theorem q203 : (Jvm.Cond.selects "FormulaEditor$Structure" ({ cls := "java/lang/Object", name := "hashCode", desc := "()I" } : Jvm.MethodName) ({ cls := "java/lang/Object", name := "hashCode", desc := "()I" } : Jvm.MethodName)) ∈ lw_all := lw_g (lw_at lw_m1 146 rfl) rfl
theorem q668 : (Jvm.Cond.selects "FormulaEditor$Structure" ({ cls := "java/lang/Object", name := "getClass", desc := "()Ljava/lang/Class;" } : Jvm.MethodName) ({ cls := "java/lang/Object", name := "getClass", desc := "()Ljava/lang/Class;" } : Jvm.MethodName)) ∈ lw_all := lw_g (lw_at lw_m3 131 rfl) rfl
theorem q929 : (Jvm.Cond.selects "FormulaEditor$Structure" ({ cls := "java/lang/Object", name := "equals", desc := "(Ljava/lang/Object;)Z" } : Jvm.MethodName) ({ cls := "java/lang/Object", name := "equals", desc := "(Ljava/lang/Object;)Z" } : Jvm.MethodName)) ∈ lw_all := lw_g (lw_at lw_m4 152 rfl) rfl
theorem q1034 : (Jvm.Cond.instanceMethod ({ cls := "FormulaEditor$Structure", name := "last", desc := "()LFormulaEditor$Row;" } : Jvm.MethodName)) ∈ lw_all := lw_g (lw_at lw_m5 17 rfl) rfl
theorem q1035 : (Jvm.Cond.selects "FormulaEditor$Structure" ({ cls := "FormulaEditor$Structure", name := "last", desc := "()LFormulaEditor$Row;" } : Jvm.MethodName) ({ cls := "FormulaEditor$Structure", name := "last", desc := "()LFormulaEditor$Row;" } : Jvm.MethodName)) ∈ lw_all := lw_g (lw_at lw_m5 18 rfl) rfl
theorem q1036 : (Jvm.Cond.code ({ cls := "FormulaEditor$Structure", name := "last", desc := "()LFormulaEditor$Row;" } : Jvm.MethodName) prog_12_method_3_code (1 : Nat) (Option.some (Jvm.ClassFile.FieldType.object "FormulaEditor$Row"))) ∈ lw_all := lw_g (lw_at lw_m5 19 rfl) rfl
theorem q1127 : (Jvm.Cond.selects "FormulaEditor$Structure" ({ cls := "FormulaEditor$Item", name := "code", desc := "()I" } : Jvm.MethodName) ({ cls := "FormulaEditor$Structure", name := "code", desc := "()I" } : Jvm.MethodName)) ∈ lw_all := lw_g (lw_at lw_m5 110 rfl) rfl
theorem q1128 : (Jvm.Cond.instanceMethod ({ cls := "FormulaEditor$Structure", name := "code", desc := "()I" } : Jvm.MethodName)) ∈ lw_all := lw_g (lw_at lw_m5 111 rfl) rfl
theorem q1129 : (Jvm.Cond.code ({ cls := "FormulaEditor$Structure", name := "code", desc := "()I" } : Jvm.MethodName) prog_12_method_9_code (1 : Nat) (Option.some Jvm.ClassFile.FieldType.int)) ∈ lw_all := lw_g (lw_at lw_m5 112 rfl) rfl
theorem q1190 : (Jvm.Cond.fieldLinkNest "FormulaEditor$Structure" (49 : Nat) "FormulaEditor$Row" "items" "Ljava/util/List;" "FormulaEditor") ∈ lw_tbl := lw_at lw_m5 173 rfl
theorem q1193 : (Jvm.Cond.fieldLinkNest "FormulaEditor$Structure" (19 : Nat) "FormulaEditor$Row" "owner" "LFormulaEditor$Structure;" "FormulaEditor") ∈ lw_tbl := lw_at lw_m5 176 rfl
theorem q1198 : (Jvm.Cond.fieldLinkNest "FormulaEditor$Structure" (25 : Nat) "FormulaEditor$Row" "slot" "I" "FormulaEditor") ∈ lw_tbl := lw_at lw_m5 181 rfl
theorem q1538 : (Jvm.Cond.instantiable "FormulaEditor$Structure" (6 : Nat)) ∈ lw_all := lw_g (lw_at lw_m7 41 rfl) rfl
theorem q1541 : (Jvm.Cond.instanceMethod ({ cls := "FormulaEditor$Structure", name := "<init>", desc := "(I[LFormulaEditor$Row;)V" } : Jvm.MethodName)) ∈ lw_all := lw_g (lw_at lw_m7 44 rfl) rfl
theorem q1542 : (Jvm.Cond.code ({ cls := "FormulaEditor$Structure", name := "<init>", desc := "(I[LFormulaEditor$Row;)V" } : Jvm.MethodName) prog_12_method_1_code (6 : Nat) (Option.none : Option Jvm.ClassFile.FieldType)) ∈ lw_all := lw_g (lw_at lw_m7 45 rfl) rfl
theorem q1543 : (Jvm.Cond.methodLinkNest "FormulaEditor$Structure" (3 : Nat) ({ cls := "FormulaEditor$Item", name := "<init>", desc := "()V" } : Jvm.MethodName) "FormulaEditor") ∈ lw_tbl := lw_at lw_m7 46 rfl
theorem q1547 : (Jvm.Cond.methodLink "FormulaEditor$Structure" (28 : Nat) ({ cls := "FormulaEditor$Row", name := "readSize", desc := "()I" } : Jvm.MethodName)) ∈ lw_all := lw_g (lw_at lw_m7 50 rfl) rfl
theorem q1554 : (Jvm.Cond.methodLink "FormulaEditor$Structure" (32 : Nat) ({ cls := "FormulaEditor$Row", name := "readDepth", desc := "()I" } : Jvm.MethodName)) ∈ lw_all := lw_g (lw_at lw_m7 57 rfl) rfl
theorem q1559 : (Jvm.Cond.methodLink "FormulaEditor$Structure" (35 : Nat) ({ cls := "java/lang/Math", name := "max", desc := "(II)I" } : Jvm.MethodName)) ∈ lw_all := lw_g (lw_at lw_m7 62 rfl) rfl
theorem q1560 : (Jvm.Cond.fieldLink "FormulaEditor$Structure" (9 : Nat) "FormulaEditor$Structure" "kind" "I") ∈ lw_all := lw_g (lw_at lw_m7 63 rfl) rfl
theorem q1564 : (Jvm.Cond.fieldLink "FormulaEditor$Structure" (15 : Nat) "FormulaEditor$Structure" "slots" "[LFormulaEditor$Row;") ∈ lw_all := lw_g (lw_at lw_m7 67 rfl) rfl
theorem q1569 : (Jvm.Cond.fieldLink "FormulaEditor$Structure" (41 : Nat) "FormulaEditor$Structure" "readSize" "I") ∈ lw_all := lw_g (lw_at lw_m7 72 rfl) rfl
theorem q1571 : (Jvm.Cond.fieldLink "FormulaEditor$Structure" (43 : Nat) "FormulaEditor$Structure" "readDepth" "I") ∈ lw_all := lw_g (lw_at lw_m7 74 rfl) rfl
theorem q1576 : (Jvm.Cond.sameField "FormulaEditor$Structure" "FormulaEditor$Item" "row" "LFormulaEditor$Row;") ∈ lw_all := lw_g (lw_at lw_m7 79 rfl) rfl
theorem q1578 : (Jvm.Cond.laysFinal "FormulaEditor$Structure" "FormulaEditor$Structure" "kind" "I") ∈ lw_all := lw_g (lw_at lw_m7 81 rfl) rfl
theorem q1579 : (Jvm.Cond.soleField "FormulaEditor$Structure" "kind") ∈ lw_all := lw_g (lw_at lw_m7 82 rfl) rfl
theorem q1580 : (Jvm.Cond.laysFinal "FormulaEditor$Structure" "FormulaEditor$Structure" "slots" "[LFormulaEditor$Row;") ∈ lw_all := lw_g (lw_at lw_m7 83 rfl) rfl
theorem q1581 : (Jvm.Cond.soleField "FormulaEditor$Structure" "slots") ∈ lw_all := lw_g (lw_at lw_m7 84 rfl) rfl
theorem q1582 : (Jvm.Cond.laysFinal "FormulaEditor$Structure" "FormulaEditor$Structure" "readSize" "I") ∈ lw_all := lw_g (lw_at lw_m7 85 rfl) rfl
theorem q1583 : (Jvm.Cond.soleField "FormulaEditor$Structure" "readSize") ∈ lw_all := lw_g (lw_at lw_m7 86 rfl) rfl
theorem q1584 : (Jvm.Cond.laysFinal "FormulaEditor$Structure" "FormulaEditor$Structure" "readDepth" "I") ∈ lw_all := lw_g (lw_at lw_m7 87 rfl) rfl
theorem q1585 : (Jvm.Cond.soleField "FormulaEditor$Structure" "readDepth") ∈ lw_all := lw_g (lw_at lw_m7 88 rfl) rfl
theorem q1586 : (Jvm.Cond.lays "FormulaEditor$Structure" "FormulaEditor$Structure" "box" "LFormulaEditor$Box;") ∈ lw_all := lw_g (lw_at lw_m7 89 rfl) rfl
theorem q1587 : (Jvm.Cond.soleField "FormulaEditor$Structure" "box") ∈ lw_all := lw_g (lw_at lw_m7 90 rfl) rfl
theorem q1588 : (Jvm.Cond.lays "FormulaEditor$Structure" "FormulaEditor$Item" "row" "LFormulaEditor$Row;") ∈ lw_all := lw_g (lw_at lw_m7 91 rfl) rfl
theorem q1590 : (Jvm.Cond.superclass "FormulaEditor$Structure" "FormulaEditor$Item") ∈ lw_all := lw_g (lw_at lw_m7 93 rfl) rfl
theorem q1766 : (Jvm.Cond.selects "FormulaEditor$Structure" ({ cls := "FormulaEditor$Item", name := "isBase", desc := "()Z" } : Jvm.MethodName) ({ cls := "FormulaEditor$Structure", name := "isBase", desc := "()Z" } : Jvm.MethodName)) ∈ lw_all := lw_g (lw_at lw_m8 29 rfl) rfl
theorem q1767 : (Jvm.Cond.instanceMethod ({ cls := "FormulaEditor$Structure", name := "isBase", desc := "()Z" } : Jvm.MethodName)) ∈ lw_all := lw_g (lw_at lw_m8 30 rfl) rfl
theorem q1768 : (Jvm.Cond.code ({ cls := "FormulaEditor$Structure", name := "isBase", desc := "()Z" } : Jvm.MethodName) prog_12_method_10_code (1 : Nat) (Option.some Jvm.ClassFile.FieldType.boolean)) ∈ lw_all := lw_g (lw_at lw_m8 31 rfl) rfl
theorem q1778 : (Jvm.Cond.instanceMethod ({ cls := "FormulaEditor$Structure", name := "isScript", desc := "()Z" } : Jvm.MethodName)) ∈ lw_all := lw_g (lw_at lw_m8 41 rfl) rfl
theorem q1779 : (Jvm.Cond.selects "FormulaEditor$Structure" ({ cls := "FormulaEditor$Structure", name := "isScript", desc := "()Z" } : Jvm.MethodName) ({ cls := "FormulaEditor$Structure", name := "isScript", desc := "()Z" } : Jvm.MethodName)) ∈ lw_all := lw_g (lw_at lw_m8 42 rfl) rfl
theorem q1780 : (Jvm.Cond.code ({ cls := "FormulaEditor$Structure", name := "isScript", desc := "()Z" } : Jvm.MethodName) prog_12_method_5_code (1 : Nat) (Option.some Jvm.ClassFile.FieldType.boolean)) ∈ lw_all := lw_g (lw_at lw_m8 43 rfl) rfl
theorem q1921 : (Jvm.Cond.selects "FormulaEditor$Structure" ({ cls := "FormulaEditor$Item", name := "size", desc := "()I" } : Jvm.MethodName) ({ cls := "FormulaEditor$Structure", name := "size", desc := "()I" } : Jvm.MethodName)) ∈ lw_all := lw_g (lw_at lw_m8 184 rfl) rfl
theorem q1922 : (Jvm.Cond.instanceMethod ({ cls := "FormulaEditor$Structure", name := "size", desc := "()I" } : Jvm.MethodName)) ∈ lw_all := lw_g (lw_at lw_m8 185 rfl) rfl
theorem q1923 : (Jvm.Cond.code ({ cls := "FormulaEditor$Structure", name := "size", desc := "()I" } : Jvm.MethodName) prog_12_method_7_code (3 : Nat) (Option.some Jvm.ClassFile.FieldType.int)) ∈ lw_all := lw_g (lw_at lw_m8 186 rfl) rfl
theorem q1924 : (Jvm.Cond.methodLink "FormulaEditor$Structure" (70 : Nat) ({ cls := "FormulaEditor$Row", name := "size", desc := "()I" } : Jvm.MethodName)) ∈ lw_all := lw_g (lw_at lw_m8 187 rfl) rfl
theorem q1947 : (Jvm.Cond.selects "FormulaEditor$Structure" ({ cls := "FormulaEditor$Item", name := "depth", desc := "()I" } : Jvm.MethodName) ({ cls := "FormulaEditor$Structure", name := "depth", desc := "()I" } : Jvm.MethodName)) ∈ lw_all := lw_g (lw_at lw_m8 210 rfl) rfl
theorem q1948 : (Jvm.Cond.instanceMethod ({ cls := "FormulaEditor$Structure", name := "depth", desc := "()I" } : Jvm.MethodName)) ∈ lw_all := lw_g (lw_at lw_m8 211 rfl) rfl
theorem q1949 : (Jvm.Cond.code ({ cls := "FormulaEditor$Structure", name := "depth", desc := "()I" } : Jvm.MethodName) prog_12_method_8_code (3 : Nat) (Option.some Jvm.ClassFile.FieldType.int)) ∈ lw_all := lw_g (lw_at lw_m8 212 rfl) rfl
theorem q1950 : (Jvm.Cond.methodLink "FormulaEditor$Structure" (71 : Nat) ({ cls := "FormulaEditor$Row", name := "depth", desc := "()I" } : Jvm.MethodName)) ∈ lw_all := lw_g (lw_at lw_m8 213 rfl) rfl
theorem q2101 : (Jvm.Cond.selects "FormulaEditor$Structure" ({ cls := "FormulaEditor$Item", name := "copy", desc := "()LFormulaEditor$Item;" } : Jvm.MethodName) ({ cls := "FormulaEditor$Structure", name := "copy", desc := "()LFormulaEditor$Item;" } : Jvm.MethodName)) ∈ lw_all := lw_g (lw_at lw_m9 124 rfl) rfl
theorem q2102 : (Jvm.Cond.instanceMethod ({ cls := "FormulaEditor$Structure", name := "copy", desc := "()LFormulaEditor$Item;" } : Jvm.MethodName)) ∈ lw_all := lw_g (lw_at lw_m9 125 rfl) rfl
theorem q2103 : (Jvm.Cond.code ({ cls := "FormulaEditor$Structure", name := "copy", desc := "()LFormulaEditor$Item;" } : Jvm.MethodName) prog_12_method_6_code (3 : Nat) (Option.some (Jvm.ClassFile.FieldType.object "FormulaEditor$Item"))) ∈ lw_all := lw_g (lw_at lw_m9 126 rfl) rfl
theorem q2104 : (Jvm.Cond.methodLink "FormulaEditor$Structure" (59 : Nat) ({ cls := "FormulaEditor$Structure", name := "empty", desc := "(I)LFormulaEditor$Structure;" } : Jvm.MethodName)) ∈ lw_all := lw_g (lw_at lw_m9 127 rfl) rfl
theorem q2105 : (Jvm.Cond.static ({ cls := "FormulaEditor$Structure", name := "empty", desc := "(I)LFormulaEditor$Structure;" } : Jvm.MethodName)) ∈ lw_all := lw_g (lw_at lw_m9 128 rfl) rfl
theorem q2106 : (Jvm.Cond.code ({ cls := "FormulaEditor$Structure", name := "empty", desc := "(I)LFormulaEditor$Structure;" } : Jvm.MethodName) prog_12_method_2_code (1 : Nat) (Option.some (Jvm.ClassFile.FieldType.object "FormulaEditor$Structure"))) ∈ lw_all := lw_g (lw_at lw_m9 129 rfl) rfl
theorem q2107 : (Jvm.Cond.classLink "FormulaEditor$Structure" (10 : Nat) "FormulaEditor$Structure") ∈ lw_all := lw_g (lw_at lw_m9 130 rfl) rfl
theorem q2108 : (Jvm.Cond.classLink "FormulaEditor$Structure" (20 : Nat) "FormulaEditor$Row") ∈ lw_all := lw_g (lw_at lw_m9 131 rfl) rfl
theorem q2109 : (Jvm.Cond.methodLinkNest "FormulaEditor$Structure" (45 : Nat) ({ cls := "FormulaEditor$Row", name := "<init>", desc := "()V" } : Jvm.MethodName) "FormulaEditor") ∈ lw_tbl := lw_at lw_m9 132 rfl
theorem q2110 : (Jvm.Cond.methodLink "FormulaEditor$Structure" (46 : Nat) ({ cls := "FormulaEditor$Structure", name := "<init>", desc := "(I[LFormulaEditor$Row;)V" } : Jvm.MethodName)) ∈ lw_all := lw_g (lw_at lw_m9 133 rfl) rfl
theorem q2111 : (Jvm.Cond.interfaceEntry "FormulaEditor$Structure" (63 : Nat)) ∈ lw_tbl := lw_at lw_m9 134 rfl
theorem q2112 : (Jvm.Cond.methodLink "FormulaEditor$Structure" (63 : Nat) ({ cls := "java/util/List", name := "size", desc := "()I" } : Jvm.MethodName)) ∈ lw_all := lw_g (lw_at lw_m9 135 rfl) rfl
theorem q2113 : (Jvm.Cond.methodLink "FormulaEditor$Structure" (66 : Nat) ({ cls := "FormulaEditor$Row", name := "addCopies", desc := "(LFormulaEditor$Row;II)V" } : Jvm.MethodName)) ∈ lw_all := lw_g (lw_at lw_m9 136 rfl) rfl
theorem q2211 : (Jvm.Cond.instanceMethod ({ cls := "FormulaEditor$Structure", name := "isEmpty", desc := "()Z" } : Jvm.MethodName)) ∈ lw_all := lw_g (lw_at lw_m9 234 rfl) rfl
theorem q2212 : (Jvm.Cond.selects "FormulaEditor$Structure" ({ cls := "FormulaEditor$Structure", name := "isEmpty", desc := "()Z" } : Jvm.MethodName) ({ cls := "FormulaEditor$Structure", name := "isEmpty", desc := "()Z" } : Jvm.MethodName)) ∈ lw_all := lw_g (lw_at lw_m9 235 rfl) rfl
theorem q2213 : (Jvm.Cond.code ({ cls := "FormulaEditor$Structure", name := "isEmpty", desc := "()Z" } : Jvm.MethodName) prog_12_method_4_code (3 : Nat) (Option.some Jvm.ClassFile.FieldType.boolean)) ∈ lw_all := lw_g (lw_at lw_m9 236 rfl) rfl
theorem q2214 : (Jvm.Cond.interfaceEntry "FormulaEditor$Structure" (53 : Nat)) ∈ lw_tbl := lw_at lw_m9 237 rfl
theorem q2215 : (Jvm.Cond.methodLink "FormulaEditor$Structure" (53 : Nat) ({ cls := "java/util/List", name := "isEmpty", desc := "()Z" } : Jvm.MethodName)) ∈ lw_all := lw_g (lw_at lw_m9 238 rfl) rfl
theorem q2738 : (Jvm.Cond.castable "FormulaEditor$Structure" "FormulaEditor$Item") ∈ lw_tbl := lw_at lw_m12 41 rfl
theorem q2761 : (Jvm.Cond.castable "FormulaEditor$Structure" "java/lang/Object") ∈ lw_tbl := lw_at lw_m12 64 rfl
