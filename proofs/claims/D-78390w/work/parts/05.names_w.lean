set_option maxRecDepth 100000
theorem q1122 : (Jvm.Cond.interfaceMethod "FormulaEditor$Brush" "FormulaEditor$Brush" "draw" "(LFormulaEditor$Structure;[[CII)V") ∈ lw_tbl := lw_at lw_m5 105 rfl
theorem q1123 : (Jvm.Cond.declares ({ cls := "FormulaEditor$Brush", name := "draw", desc := "(LFormulaEditor$Structure;[[CII)V" } : Jvm.MethodName)) ∈ lw_tbl := lw_at lw_m5 106 rfl
theorem q2742 : (Jvm.Cond.castable "FormulaEditor$Brush" "java/lang/Object") ∈ lw_tbl := lw_at lw_m12 45 rfl
theorem q2162 : (Jvm.Cond.interfaceMethod "FormulaEditor$Change" "FormulaEditor$Change" "make" "(LFormulaEditor$Document;)Z") ∈ lw_tbl := lw_at lw_m9 185 rfl
theorem q2163 : (Jvm.Cond.declares ({ cls := "FormulaEditor$Change", name := "make", desc := "(LFormulaEditor$Document;)Z" } : Jvm.MethodName)) ∈ lw_tbl := lw_at lw_m9 186 rfl
theorem q2297 : (Jvm.Cond.interfaceMethod "FormulaEditor$Shape" "FormulaEditor$Shape" "measure" "(LFormulaEditor$Structure;)LFormulaEditor$Box;") ∈ lw_tbl := lw_at lw_m10 80 rfl
theorem q2298 : (Jvm.Cond.declares ({ cls := "FormulaEditor$Shape", name := "measure", desc := "(LFormulaEditor$Structure;)LFormulaEditor$Box;" } : Jvm.MethodName)) ∈ lw_tbl := lw_at lw_m10 81 rfl
theorem q2741 : (Jvm.Cond.castable "FormulaEditor$Shape" "java/lang/Object") ∈ lw_tbl := lw_at lw_m12 44 rfl
theorem q391 : (Jvm.Cond.sameMethod "[B" "java/lang/Object" "clone" "()Ljava/lang/Object;") ∈ lw_all := lw_g (lw_at lw_m2 94 rfl) rfl
theorem q394 : (Jvm.Cond.selects "[B" ({ cls := "[B", name := "clone", desc := "()Ljava/lang/Object;" } : Jvm.MethodName) ({ cls := "java/lang/Object", name := "clone", desc := "()Ljava/lang/Object;" } : Jvm.MethodName)) ∈ lw_all := lw_g (lw_at lw_m2 97 rfl) rfl
theorem q395 : (Jvm.Cond.castable "[B" "java/lang/Cloneable") ∈ lw_tbl := lw_at lw_m2 98 rfl
theorem q2772 : (Jvm.Cond.castable "[B" "java/lang/Object") ∈ lw_tbl := lw_at lw_m12 75 rfl
theorem q2778 : (Jvm.Cond.castable "[C" "java/lang/Object") ∈ lw_tbl := lw_at lw_m12 81 rfl
theorem q2781 : (Jvm.Cond.castable "[I" "java/lang/Object") ∈ lw_tbl := lw_at lw_m12 84 rfl
theorem q2783 : (Jvm.Cond.castable "[J" "java/lang/Object") ∈ lw_tbl := lw_at lw_m12 86 rfl
theorem q2775 : (Jvm.Cond.castable "[LFormulaEditor$Brush;" "java/lang/Object") ∈ lw_tbl := lw_at lw_m12 78 rfl
theorem q2777 : (Jvm.Cond.castable "[LFormulaEditor$Document;" "java/lang/Object") ∈ lw_tbl := lw_at lw_m12 80 rfl
theorem q2779 : (Jvm.Cond.castable "[LFormulaEditor$Row;" "java/lang/Object") ∈ lw_tbl := lw_at lw_m12 82 rfl
theorem q2774 : (Jvm.Cond.castable "[LFormulaEditor$Shape;" "java/lang/Object") ∈ lw_tbl := lw_at lw_m12 77 rfl
theorem q2769 : (Jvm.Cond.sameMethod "[Ljava/lang/Object;" "java/lang/Object" "getClass" "()Ljava/lang/Class;") ∈ lw_all := lw_g (lw_at lw_m12 72 rfl) rfl
theorem q2770 : (Jvm.Cond.selects "[Ljava/lang/Object;" ({ cls := "java/lang/Object", name := "getClass", desc := "()Ljava/lang/Class;" } : Jvm.MethodName) ({ cls := "java/lang/Object", name := "getClass", desc := "()Ljava/lang/Class;" } : Jvm.MethodName)) ∈ lw_all := lw_g (lw_at lw_m12 73 rfl) rfl
theorem q2776 : (Jvm.Cond.castable "[Ljava/lang/Object;" "java/lang/Object") ∈ lw_tbl := lw_at lw_m12 79 rfl
theorem q2773 : (Jvm.Cond.castable "[Ljava/util/HashMap$Node;" "java/lang/Object") ∈ lw_tbl := lw_at lw_m12 76 rfl
theorem q2782 : (Jvm.Cond.castable "[Z" "java/lang/Object") ∈ lw_tbl := lw_at lw_m12 85 rfl
theorem q2780 : (Jvm.Cond.castable "[[C" "java/lang/Object") ∈ lw_tbl := lw_at lw_m12 83 rfl
theorem q62 : (Jvm.Cond.initialized "java/lang/Character$CharacterCache") ∈ lw_all := lw_g (lw_at lw_m1 5 rfl) rfl
theorem q148 : (Jvm.Cond.laysStatic "java/lang/Character$CharacterCache" "cache" "[Ljava/lang/Character;") ∈ lw_tbl := lw_at lw_m1 91 rfl
theorem q693 : (Jvm.Cond.interfaceMethod "java/lang/Comparable" "java/lang/Comparable" "compareTo" "(Ljava/lang/Object;)I") ∈ lw_tbl := lw_at lw_m3 156 rfl
theorem q694 : (Jvm.Cond.declares ({ cls := "java/lang/Comparable", name := "compareTo", desc := "(Ljava/lang/Object;)I" } : Jvm.MethodName)) ∈ lw_tbl := lw_at lw_m3 157 rfl
theorem q65 : (Jvm.Cond.initialized "java/lang/Integer$IntegerCache") ∈ lw_all := lw_g (lw_at lw_m1 8 rfl) rfl
theorem q163 : (Jvm.Cond.laysStatic "java/lang/Integer$IntegerCache" "high" "I") ∈ lw_tbl := lw_at lw_m1 106 rfl
theorem q165 : (Jvm.Cond.laysStatic "java/lang/Integer$IntegerCache" "cache" "[Ljava/lang/Integer;") ∈ lw_tbl := lw_at lw_m1 108 rfl
theorem q78 : (Jvm.Cond.initialized "java/lang/System") ∈ lw_all := lw_g (lw_at lw_m1 21 rfl) rfl
theorem q401 : (Jvm.Cond.static ({ cls := "java/lang/System", name := "arraycopy", desc := "(Ljava/lang/Object;ILjava/lang/Object;II)V" } : Jvm.MethodName)) ∈ lw_all := lw_g (lw_at lw_m2 104 rfl) rfl
theorem q402 : (Jvm.Cond.native ({ cls := "java/lang/System", name := "arraycopy", desc := "(Ljava/lang/Object;ILjava/lang/Object;II)V" } : Jvm.MethodName)) ∈ lw_all := lw_g (lw_at lw_m2 105 rfl) rfl
theorem q1900 : (Jvm.Cond.publicMethod ({ cls := "java/util/Collection", name := "clear", desc := "()V" } : Jvm.MethodName)) ∈ lw_tbl := lw_at lw_m8 163 rfl
theorem q1901 : (Jvm.Cond.declares ({ cls := "java/util/Collection", name := "clear", desc := "()V" } : Jvm.MethodName)) ∈ lw_tbl := lw_at lw_m8 164 rfl
theorem q2275 : (Jvm.Cond.publicMethod ({ cls := "java/util/Collection", name := "isEmpty", desc := "()Z" } : Jvm.MethodName)) ∈ lw_tbl := lw_at lw_m10 58 rfl
theorem q2276 : (Jvm.Cond.declares ({ cls := "java/util/Collection", name := "isEmpty", desc := "()Z" } : Jvm.MethodName)) ∈ lw_tbl := lw_at lw_m10 59 rfl
theorem q1334 : (Jvm.Cond.interfaceMethod "java/util/Deque" "java/util/Deque" "addLast" "(Ljava/lang/Object;)V") ∈ lw_tbl := lw_at lw_m6 77 rfl
theorem q1335 : (Jvm.Cond.declares ({ cls := "java/util/Deque", name := "addLast", desc := "(Ljava/lang/Object;)V" } : Jvm.MethodName)) ∈ lw_tbl := lw_at lw_m6 78 rfl
theorem q1430 : (Jvm.Cond.interfaceMethod "java/util/Deque" "java/util/Deque" "getLast" "()Ljava/lang/Object;") ∈ lw_tbl := lw_at lw_m6 173 rfl
theorem q1431 : (Jvm.Cond.declares ({ cls := "java/util/Deque", name := "getLast", desc := "()Ljava/lang/Object;" } : Jvm.MethodName)) ∈ lw_tbl := lw_at lw_m6 174 rfl
theorem q1664 : (Jvm.Cond.interfaceMethod "java/util/Deque" "java/util/Deque" "size" "()I") ∈ lw_tbl := lw_at lw_m7 167 rfl
theorem q1665 : (Jvm.Cond.declares ({ cls := "java/util/Deque", name := "size", desc := "()I" } : Jvm.MethodName)) ∈ lw_tbl := lw_at lw_m7 168 rfl
theorem q1680 : (Jvm.Cond.interfaceMethod "java/util/Deque" "java/util/Deque" "removeLast" "()Ljava/lang/Object;") ∈ lw_tbl := lw_at lw_m7 183 rfl
theorem q1681 : (Jvm.Cond.declares ({ cls := "java/util/Deque", name := "removeLast", desc := "()Ljava/lang/Object;" } : Jvm.MethodName)) ∈ lw_tbl := lw_at lw_m7 184 rfl
theorem q2168 : (Jvm.Cond.interfaceMethod "java/util/Deque" "java/util/Deque" "removeFirst" "()Ljava/lang/Object;") ∈ lw_tbl := lw_at lw_m9 191 rfl
theorem q2169 : (Jvm.Cond.declares ({ cls := "java/util/Deque", name := "removeFirst", desc := "()Ljava/lang/Object;" } : Jvm.MethodName)) ∈ lw_tbl := lw_at lw_m9 192 rfl
theorem q1082 : (Jvm.Cond.interfaceMethod "java/util/List" "java/util/List" "isEmpty" "()Z") ∈ lw_tbl := lw_at lw_m5 65 rfl
theorem q1083 : (Jvm.Cond.declares ({ cls := "java/util/List", name := "isEmpty", desc := "()Z" } : Jvm.MethodName)) ∈ lw_tbl := lw_at lw_m5 66 rfl
theorem q1092 : (Jvm.Cond.interfaceMethod "java/util/List" "java/util/List" "size" "()I") ∈ lw_tbl := lw_at lw_m5 75 rfl
theorem q1093 : (Jvm.Cond.declares ({ cls := "java/util/List", name := "size", desc := "()I" } : Jvm.MethodName)) ∈ lw_tbl := lw_at lw_m5 76 rfl
theorem q1101 : (Jvm.Cond.interfaceMethod "java/util/List" "java/util/List" "get" "(I)Ljava/lang/Object;") ∈ lw_tbl := lw_at lw_m5 84 rfl
theorem q1102 : (Jvm.Cond.declares ({ cls := "java/util/List", name := "get", desc := "(I)Ljava/lang/Object;" } : Jvm.MethodName)) ∈ lw_tbl := lw_at lw_m5 85 rfl
theorem q1461 : (Jvm.Cond.interfaceMethod "java/util/List" "java/util/List" "remove" "(I)Ljava/lang/Object;") ∈ lw_tbl := lw_at lw_m6 204 rfl
theorem q1462 : (Jvm.Cond.declares ({ cls := "java/util/List", name := "remove", desc := "(I)Ljava/lang/Object;" } : Jvm.MethodName)) ∈ lw_tbl := lw_at lw_m6 205 rfl
theorem q1486 : (Jvm.Cond.interfaceMethod "java/util/List" "java/util/List" "add" "(ILjava/lang/Object;)V") ∈ lw_tbl := lw_at lw_m6 229 rfl
theorem q1487 : (Jvm.Cond.declares ({ cls := "java/util/List", name := "add", desc := "(ILjava/lang/Object;)V" } : Jvm.MethodName)) ∈ lw_tbl := lw_at lw_m6 230 rfl
theorem q2203 : (Jvm.Cond.interfaceMethod "java/util/List" "java/util/List" "clear" "()V") ∈ lw_tbl := lw_at lw_m9 226 rfl
theorem q2204 : (Jvm.Cond.declares ({ cls := "java/util/List", name := "clear", desc := "()V" } : Jvm.MethodName)) ∈ lw_tbl := lw_at lw_m9 227 rfl
theorem q181 : (Jvm.Cond.interfaceMethod "java/util/Map" "java/util/Map" "put" "(Ljava/lang/Object;Ljava/lang/Object;)Ljava/lang/Object;") ∈ lw_tbl := lw_at lw_m1 124 rfl
theorem q182 : (Jvm.Cond.declares ({ cls := "java/util/Map", name := "put", desc := "(Ljava/lang/Object;Ljava/lang/Object;)Ljava/lang/Object;" } : Jvm.MethodName)) ∈ lw_tbl := lw_at lw_m1 125 rfl
theorem q1641 : (Jvm.Cond.interfaceMethod "java/util/Map" "java/util/Map" "get" "(Ljava/lang/Object;)Ljava/lang/Object;") ∈ lw_tbl := lw_at lw_m7 144 rfl
theorem q1642 : (Jvm.Cond.declares ({ cls := "java/util/Map", name := "get", desc := "(Ljava/lang/Object;)Ljava/lang/Object;" } : Jvm.MethodName)) ∈ lw_tbl := lw_at lw_m7 145 rfl
theorem q248 : (Jvm.Cond.interfaceMethod "jdk/internal/access/JavaLangAccess" "jdk/internal/access/JavaLangAccess" "getUTF16Char" "([BI)C") ∈ lw_tbl := lw_at lw_m1 191 rfl
theorem q249 : (Jvm.Cond.declares ({ cls := "jdk/internal/access/JavaLangAccess", name := "getUTF16Char", desc := "([BI)C" } : Jvm.MethodName)) ∈ lw_tbl := lw_at lw_m1 192 rfl
theorem q82 : (Jvm.Cond.initialized "jdk/internal/misc/UnsafeConstants") ∈ lw_all := lw_g (lw_at lw_m1 25 rfl) rfl
theorem q779 : (Jvm.Cond.laysStatic "jdk/internal/misc/UnsafeConstants" "BIG_ENDIAN" "Z") ∈ lw_tbl := lw_at lw_m4 2 rfl
theorem q355 : (Jvm.Cond.arrayClass Jvm.ClassFile.FieldType.byte) ∈ lw_all := lw_g (lw_at lw_m2 58 rfl) rfl
theorem q605 : (Jvm.Cond.arrayOver (Jvm.ClassFile.FieldType.object "java/util/HashMap$Node")) ∈ lw_tbl := lw_at lw_m3 68 rfl
theorem q1028 : (Jvm.Cond.arrayOver (Jvm.ClassFile.FieldType.object "FormulaEditor$Shape")) ∈ lw_tbl := lw_at lw_m5 11 rfl
theorem q1068 : (Jvm.Cond.arrayOver (Jvm.ClassFile.FieldType.object "FormulaEditor$Brush")) ∈ lw_tbl := lw_at lw_m5 51 rfl
theorem q1240 : (Jvm.Cond.arrayOver (Jvm.ClassFile.FieldType.object "java/lang/Object")) ∈ lw_tbl := lw_at lw_m5 223 rfl
theorem q1251 : (Jvm.Cond.arrayOver (Jvm.ClassFile.FieldType.object "FormulaEditor$Document")) ∈ lw_tbl := lw_at lw_m5 234 rfl
theorem q1283 : (Jvm.Cond.arrayClass Jvm.ClassFile.FieldType.char) ∈ lw_all := lw_g (lw_at lw_m6 26 rfl) rfl
theorem q1539 : (Jvm.Cond.arrayOver (Jvm.ClassFile.FieldType.object "FormulaEditor$Row")) ∈ lw_tbl := lw_at lw_m7 42 rfl
theorem q2307 : (Jvm.Cond.arrayOver (Jvm.ClassFile.FieldType.array Jvm.ClassFile.FieldType.char)) ∈ lw_tbl := lw_at lw_m10 90 rfl
theorem q2437 : (Jvm.Cond.arrayClass Jvm.ClassFile.FieldType.int) ∈ lw_all := lw_g (lw_at lw_m10 220 rfl) rfl
theorem q2438 : (Jvm.Cond.arrayClass Jvm.ClassFile.FieldType.boolean) ∈ lw_all := lw_g (lw_at lw_m10 221 rfl) rfl
theorem q2724 : (Jvm.Cond.arrayClass Jvm.ClassFile.FieldType.long) ∈ lw_all := lw_g (lw_at lw_m12 27 rfl) rfl
theorem q2784 : (Jvm.Cond.arrayClass Jvm.ClassFile.FieldType.short) ∈ lw_all := lw_g (lw_at lw_m12 87 rfl) rfl
