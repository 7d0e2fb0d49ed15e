/-! words of no class; Object -/
set_option maxRecDepth 100000
theorem q136 : (Jvm.Cond.initialized "DialMenusLaw") ∈ lw_all := lw_g (lw_at lw_m1 0 rfl) rfl
theorem q199 : (Jvm.Cond.classLink "DialMenusLaw" (7 : Nat) "DialMenus") ∈ lw_all := lw_g (lw_at lw_m1 63 rfl) rfl
theorem q201 : (Jvm.Cond.methodLink "DialMenusLaw" (9 : Nat) ({ cls := "DialMenus", name := "<init>", desc := "()V" } : Jvm.MethodName)) ∈ lw_all := lw_g (lw_at lw_m1 65 rfl) rfl
theorem q1074 : (Jvm.Cond.methodLink "DialMenusLaw" (13 : Nat) ({ cls := "DialMenus", name := "letter", desc := "(I)I" } : Jvm.MethodName)) ∈ lw_all := lw_g (lw_at lw_m4 218 rfl) rfl
theorem q1095 : (Jvm.Cond.methodLink "DialMenusLaw" (18 : Nat) ({ cls := "DialMenus", name := "blank", desc := "()I" } : Jvm.MethodName)) ∈ lw_all := lw_g (lw_at lw_m4 239 rfl) rfl
theorem q1119 : (Jvm.Cond.methodLink "DialMenusLaw" (23 : Nat) ({ cls := "DialMenus", name := "fault", desc := "()I" } : Jvm.MethodName)) ∈ lw_all := lw_g (lw_at lw_m5 23 rfl) rfl
theorem q1570 : (Jvm.Cond.methodLink "DialMenusLaw" (27 : Nat) ({ cls := "DialMenus", name := "names", desc := "()I" } : Jvm.MethodName)) ∈ lw_all := lw_g (lw_at lw_m6 234 rfl) rfl
theorem q2021 : (Jvm.Cond.methodLink "DialMenusLaw" (31 : Nat) ({ cls := "DialMenus", name := "dial", desc := "()I" } : Jvm.MethodName)) ∈ lw_all := lw_g (lw_at lw_m8 205 rfl) rfl
theorem q2137 : (Jvm.Cond.methodLink "DialMenusLaw" (35 : Nat) ({ cls := "DialMenus", name := "drop", desc := "(I)I" } : Jvm.MethodName)) ∈ lw_all := lw_g (lw_at lw_m9 81 rfl) rfl
theorem q2231 : (Jvm.Cond.methodLink "DialMenusLaw" (39 : Nat) ({ cls := "DialMenus", name := "use", desc := "(II)I" } : Jvm.MethodName)) ∈ lw_all := lw_g (lw_at lw_m9 175 rfl) rfl
theorem q2236 : (Jvm.Cond.methodLink "DialMenusLaw" (44 : Nat) ({ cls := "DialMenus", name := "name", desc := "(II)I" } : Jvm.MethodName)) ∈ lw_all := lw_g (lw_at lw_m9 180 rfl) rfl
theorem q2437 : (Jvm.Cond.methodLink "DialMenusLaw" (48 : Nat) ({ cls := "DialMenus", name := "sign", desc := "(II)I" } : Jvm.MethodName)) ∈ lw_all := lw_g (lw_at lw_m10 141 rfl) rfl
theorem q2441 : (Jvm.Cond.methodLink "DialMenusLaw" (52 : Nat) ({ cls := "DialMenus", name := "digit", desc := "(II)I" } : Jvm.MethodName)) ∈ lw_all := lw_g (lw_at lw_m10 145 rfl) rfl
theorem q2446 : (Jvm.Cond.methodLink "DialMenusLaw" (56 : Nat) ({ cls := "DialMenus", name := "laid", desc := "(I)I" } : Jvm.MethodName)) ∈ lw_all := lw_g (lw_at lw_m10 150 rfl) rfl
theorem q2450 : (Jvm.Cond.methodLink "DialMenusLaw" (60 : Nat) ({ cls := "DialMenus", name := "about", desc := "(I)I" } : Jvm.MethodName)) ∈ lw_all := lw_g (lw_at lw_m10 154 rfl) rfl
theorem q2492 : (Jvm.Cond.methodLink "DialMenusLaw" (64 : Nat) ({ cls := "DialMenus", name := "press", desc := "(I)I" } : Jvm.MethodName)) ∈ lw_all := lw_g (lw_at lw_m10 196 rfl) rfl
theorem q2497 : (Jvm.Cond.methodLink "DialMenusLaw" (68 : Nat) ({ cls := "DialMenus", name := "back", desc := "()I" } : Jvm.MethodName)) ∈ lw_all := lw_g (lw_at lw_m10 201 rfl) rfl
theorem q2526 : (Jvm.Cond.methodLink "DialMenusLaw" (72 : Nat) ({ cls := "DialMenus", name := "wipe", desc := "()I" } : Jvm.MethodName)) ∈ lw_all := lw_g (lw_at lw_m10 230 rfl) rfl
theorem q2534 : (Jvm.Cond.methodLink "DialMenusLaw" (76 : Nat) ({ cls := "DialMenus", name := "typed", desc := "(I)I" } : Jvm.MethodName)) ∈ lw_all := lw_g (lw_at lw_m10 238 rfl) rfl
theorem q2539 : (Jvm.Cond.methodLink "DialMenusLaw" (80 : Nat) ({ cls := "DialMenus", name := "choice", desc := "(I)I" } : Jvm.MethodName)) ∈ lw_all := lw_g (lw_at lw_m11 3 rfl) rfl
theorem q2617 : (Jvm.Cond.methodLink "DialMenusLaw" (84 : Nat) ({ cls := "DialMenus", name := "spelling", desc := "(I)I" } : Jvm.MethodName)) ∈ lw_all := lw_g (lw_at lw_m11 81 rfl) rfl
theorem q2638 : (Jvm.Cond.methodLink "DialMenusLaw" (88 : Nat) ({ cls := "DialMenus", name := "piece", desc := "(I)I" } : Jvm.MethodName)) ∈ lw_all := lw_g (lw_at lw_m11 102 rfl) rfl
theorem q2646 : (Jvm.Cond.methodLink "DialMenusLaw" (92 : Nat) ({ cls := "DialMenus", name := "build", desc := "(I)I" } : Jvm.MethodName)) ∈ lw_all := lw_g (lw_at lw_m11 110 rfl) rfl
theorem q2695 : (Jvm.Cond.methodLink "DialMenusLaw" (96 : Nat) ({ cls := "DialMenus", name := "tend", desc := "(I)I" } : Jvm.MethodName)) ∈ lw_all := lw_g (lw_at lw_m11 159 rfl) rfl
theorem q2750 : (Jvm.Cond.methodLink "DialMenusLaw" (100 : Nat) ({ cls := "DialMenus", name := "path", desc := "(II)I" } : Jvm.MethodName)) ∈ lw_all := lw_g (lw_at lw_m11 214 rfl) rfl
theorem q2754 : (Jvm.Cond.methodLink "DialMenusLaw" (104 : Nat) ({ cls := "DialMenus", name := "leads", desc := "(I)I" } : Jvm.MethodName)) ∈ lw_all := lw_g (lw_at lw_m11 218 rfl) rfl
theorem q2774 : (Jvm.Cond.methodLink "DialMenusLaw" (108 : Nat) ({ cls := "DialMenus", name := "menu", desc := "(I)I" } : Jvm.MethodName)) ∈ lw_all := lw_g (lw_at lw_m11 238 rfl) rfl
theorem q2793 : (Jvm.Cond.methodLink "DialMenusLaw" (112 : Nat) ({ cls := "DialMenus", name := "count", desc := "(I)I" } : Jvm.MethodName)) ∈ lw_all := lw_g (lw_at lw_m12 17 rfl) rfl
theorem q2801 : (Jvm.Cond.methodLink "DialMenusLaw" (116 : Nat) ({ cls := "DialMenus", name := "digest", desc := "()J" } : Jvm.MethodName)) ∈ lw_all := lw_g (lw_at lw_m12 25 rfl) rfl
theorem q2822 : (Jvm.Cond.classLink "DialMenusLaw" (10 : Nat) "DialMenusModel") ∈ lw_all := lw_g (lw_at lw_m12 46 rfl) rfl
theorem q2824 : (Jvm.Cond.methodLink "DialMenusLaw" (12 : Nat) ({ cls := "DialMenusModel", name := "<init>", desc := "()V" } : Jvm.MethodName)) ∈ lw_all := lw_g (lw_at lw_m12 48 rfl) rfl
theorem q2928 : (Jvm.Cond.methodLink "DialMenusLaw" (17 : Nat) ({ cls := "DialMenusModel", name := "letter", desc := "(I)I" } : Jvm.MethodName)) ∈ lw_all := lw_g (lw_at lw_m12 152 rfl) rfl
theorem q2935 : (Jvm.Cond.methodLink "DialMenusLaw" (22 : Nat) ({ cls := "DialMenusModel", name := "blank", desc := "()I" } : Jvm.MethodName)) ∈ lw_all := lw_g (lw_at lw_m12 159 rfl) rfl
theorem q2939 : (Jvm.Cond.methodLink "DialMenusLaw" (26 : Nat) ({ cls := "DialMenusModel", name := "fault", desc := "()I" } : Jvm.MethodName)) ∈ lw_all := lw_g (lw_at lw_m12 163 rfl) rfl
theorem q2967 : (Jvm.Cond.methodLink "DialMenusLaw" (30 : Nat) ({ cls := "DialMenusModel", name := "names", desc := "()I" } : Jvm.MethodName)) ∈ lw_all := lw_g (lw_at lw_m12 191 rfl) rfl
theorem q2987 : (Jvm.Cond.methodLink "DialMenusLaw" (34 : Nat) ({ cls := "DialMenusModel", name := "dial", desc := "()I" } : Jvm.MethodName)) ∈ lw_all := lw_g (lw_at lw_m12 211 rfl) rfl
theorem q2995 : (Jvm.Cond.methodLink "DialMenusLaw" (38 : Nat) ({ cls := "DialMenusModel", name := "drop", desc := "(I)I" } : Jvm.MethodName)) ∈ lw_all := lw_g (lw_at lw_m12 219 rfl) rfl
theorem q3003 : (Jvm.Cond.methodLink "DialMenusLaw" (43 : Nat) ({ cls := "DialMenusModel", name := "use", desc := "(II)I" } : Jvm.MethodName)) ∈ lw_all := lw_g (lw_at lw_m12 227 rfl) rfl
theorem q3007 : (Jvm.Cond.methodLink "DialMenusLaw" (47 : Nat) ({ cls := "DialMenusModel", name := "name", desc := "(II)I" } : Jvm.MethodName)) ∈ lw_all := lw_g (lw_at lw_m12 231 rfl) rfl
theorem q3088 : (Jvm.Cond.methodLink "DialMenusLaw" (51 : Nat) ({ cls := "DialMenusModel", name := "sign", desc := "(II)I" } : Jvm.MethodName)) ∈ lw_all := lw_g (lw_at lw_m13 72 rfl) rfl
theorem q3092 : (Jvm.Cond.methodLink "DialMenusLaw" (55 : Nat) ({ cls := "DialMenusModel", name := "digit", desc := "(II)I" } : Jvm.MethodName)) ∈ lw_all := lw_g (lw_at lw_m13 76 rfl) rfl
theorem q3096 : (Jvm.Cond.methodLink "DialMenusLaw" (59 : Nat) ({ cls := "DialMenusModel", name := "laid", desc := "(I)I" } : Jvm.MethodName)) ∈ lw_all := lw_g (lw_at lw_m13 80 rfl) rfl
theorem q3100 : (Jvm.Cond.methodLink "DialMenusLaw" (63 : Nat) ({ cls := "DialMenusModel", name := "about", desc := "(I)I" } : Jvm.MethodName)) ∈ lw_all := lw_g (lw_at lw_m13 84 rfl) rfl
theorem q3132 : (Jvm.Cond.methodLink "DialMenusLaw" (67 : Nat) ({ cls := "DialMenusModel", name := "press", desc := "(I)I" } : Jvm.MethodName)) ∈ lw_all := lw_g (lw_at lw_m13 116 rfl) rfl
theorem q3136 : (Jvm.Cond.methodLink "DialMenusLaw" (71 : Nat) ({ cls := "DialMenusModel", name := "back", desc := "()I" } : Jvm.MethodName)) ∈ lw_all := lw_g (lw_at lw_m13 120 rfl) rfl
theorem q3140 : (Jvm.Cond.methodLink "DialMenusLaw" (75 : Nat) ({ cls := "DialMenusModel", name := "wipe", desc := "()I" } : Jvm.MethodName)) ∈ lw_all := lw_g (lw_at lw_m13 124 rfl) rfl
theorem q3144 : (Jvm.Cond.methodLink "DialMenusLaw" (79 : Nat) ({ cls := "DialMenusModel", name := "typed", desc := "(I)I" } : Jvm.MethodName)) ∈ lw_all := lw_g (lw_at lw_m13 128 rfl) rfl
theorem q3148 : (Jvm.Cond.methodLink "DialMenusLaw" (83 : Nat) ({ cls := "DialMenusModel", name := "choice", desc := "(I)I" } : Jvm.MethodName)) ∈ lw_all := lw_g (lw_at lw_m13 132 rfl) rfl
theorem q3160 : (Jvm.Cond.methodLink "DialMenusLaw" (87 : Nat) ({ cls := "DialMenusModel", name := "spelling", desc := "(I)I" } : Jvm.MethodName)) ∈ lw_all := lw_g (lw_at lw_m13 144 rfl) rfl
theorem q3181 : (Jvm.Cond.methodLink "DialMenusLaw" (91 : Nat) ({ cls := "DialMenusModel", name := "piece", desc := "(I)I" } : Jvm.MethodName)) ∈ lw_all := lw_g (lw_at lw_m13 165 rfl) rfl
theorem q3193 : (Jvm.Cond.methodLink "DialMenusLaw" (95 : Nat) ({ cls := "DialMenusModel", name := "build", desc := "(I)I" } : Jvm.MethodName)) ∈ lw_all := lw_g (lw_at lw_m13 177 rfl) rfl
theorem q3209 : (Jvm.Cond.methodLink "DialMenusLaw" (99 : Nat) ({ cls := "DialMenusModel", name := "tend", desc := "(I)I" } : Jvm.MethodName)) ∈ lw_all := lw_g (lw_at lw_m13 193 rfl) rfl
theorem q3217 : (Jvm.Cond.methodLink "DialMenusLaw" (103 : Nat) ({ cls := "DialMenusModel", name := "path", desc := "(II)I" } : Jvm.MethodName)) ∈ lw_all := lw_g (lw_at lw_m13 201 rfl) rfl
theorem q3221 : (Jvm.Cond.methodLink "DialMenusLaw" (107 : Nat) ({ cls := "DialMenusModel", name := "leads", desc := "(I)I" } : Jvm.MethodName)) ∈ lw_all := lw_g (lw_at lw_m13 205 rfl) rfl
theorem q3233 : (Jvm.Cond.methodLink "DialMenusLaw" (111 : Nat) ({ cls := "DialMenusModel", name := "menu", desc := "(I)I" } : Jvm.MethodName)) ∈ lw_all := lw_g (lw_at lw_m13 217 rfl) rfl
theorem q3257 : (Jvm.Cond.methodLink "DialMenusLaw" (115 : Nat) ({ cls := "DialMenusModel", name := "count", desc := "(I)I" } : Jvm.MethodName)) ∈ lw_all := lw_g (lw_at lw_m14 1 rfl) rfl
theorem q3265 : (Jvm.Cond.methodLink "DialMenusLaw" (120 : Nat) ({ cls := "DialMenusModel", name := "digest", desc := "()J" } : Jvm.MethodName)) ∈ lw_all := lw_g (lw_at lw_m14 9 rfl) rfl
theorem q749 : (Jvm.Cond.sameMethod "[B" "java/lang/Object" "clone" "()Ljava/lang/Object;") ∈ lw_all := lw_g (lw_at lw_m3 133 rfl) rfl
theorem q752 : (Jvm.Cond.selects "[B" ({ cls := "[B", name := "clone", desc := "()Ljava/lang/Object;" } : Jvm.MethodName) ({ cls := "java/lang/Object", name := "clone", desc := "()Ljava/lang/Object;" } : Jvm.MethodName)) ∈ lw_all := lw_g (lw_at lw_m3 136 rfl) rfl
theorem q753 : (Jvm.Cond.castable "[B" "java/lang/Cloneable") ∈ lw_tbl := lw_at lw_m3 137 rfl
theorem q3361 : (Jvm.Cond.castable "[B" "java/lang/Object") ∈ lw_tbl := lw_at lw_m14 105 rfl
theorem q3360 : (Jvm.Cond.castable "[I" "java/lang/Object") ∈ lw_tbl := lw_at lw_m14 104 rfl
theorem q2312 : (Jvm.Cond.sameMethod "[J" "java/lang/Object" "clone" "()Ljava/lang/Object;") ∈ lw_all := lw_g (lw_at lw_m10 16 rfl) rfl
theorem q2313 : (Jvm.Cond.selects "[J" ({ cls := "[J", name := "clone", desc := "()Ljava/lang/Object;" } : Jvm.MethodName) ({ cls := "java/lang/Object", name := "clone", desc := "()Ljava/lang/Object;" } : Jvm.MethodName)) ∈ lw_all := lw_g (lw_at lw_m10 17 rfl) rfl
theorem q2314 : (Jvm.Cond.castable "[J" "java/lang/Cloneable") ∈ lw_tbl := lw_at lw_m10 18 rfl
theorem q3364 : (Jvm.Cond.castable "[J" "java/lang/Object") ∈ lw_tbl := lw_at lw_m14 108 rfl
theorem q3356 : (Jvm.Cond.sameMethod "[Ljava/lang/Object;" "java/lang/Object" "getClass" "()Ljava/lang/Class;") ∈ lw_all := lw_g (lw_at lw_m14 100 rfl) rfl
theorem q3357 : (Jvm.Cond.selects "[Ljava/lang/Object;" ({ cls := "java/lang/Object", name := "getClass", desc := "()Ljava/lang/Class;" } : Jvm.MethodName) ({ cls := "java/lang/Object", name := "getClass", desc := "()Ljava/lang/Class;" } : Jvm.MethodName)) ∈ lw_all := lw_g (lw_at lw_m14 101 rfl) rfl
theorem q3359 : (Jvm.Cond.castable "[Ljava/lang/Object;" "java/lang/Object") ∈ lw_tbl := lw_at lw_m14 103 rfl
theorem q3362 : (Jvm.Cond.castable "[[I" "java/lang/Object") ∈ lw_tbl := lw_at lw_m14 106 rfl
theorem q3363 : (Jvm.Cond.castable "[[[I" "java/lang/Object") ∈ lw_tbl := lw_at lw_m14 107 rfl
theorem q1254 : (Jvm.Cond.interfaceMethod "java/lang/Comparable" "java/lang/Comparable" "compareTo" "(Ljava/lang/Object;)I") ∈ lw_tbl := lw_at lw_m5 158 rfl
theorem q1255 : (Jvm.Cond.declares ({ cls := "java/lang/Comparable", name := "compareTo", desc := "(Ljava/lang/Object;)I" } : Jvm.MethodName)) ∈ lw_tbl := lw_at lw_m5 159 rfl
theorem q180 : (Jvm.Cond.initialized "java/lang/Integer$IntegerCache") ∈ lw_all := lw_g (lw_at lw_m1 44 rfl) rfl
theorem q1476 : (Jvm.Cond.laysStatic "java/lang/Integer$IntegerCache" "high" "I") ∈ lw_tbl := lw_at lw_m6 140 rfl
theorem q1478 : (Jvm.Cond.laysStatic "java/lang/Integer$IntegerCache" "cache" "[Ljava/lang/Integer;") ∈ lw_tbl := lw_at lw_m6 142 rfl
theorem q168 : (Jvm.Cond.initialized "java/lang/System") ∈ lw_all := lw_g (lw_at lw_m1 32 rfl) rfl
theorem q759 : (Jvm.Cond.static ({ cls := "java/lang/System", name := "arraycopy", desc := "(Ljava/lang/Object;ILjava/lang/Object;II)V" } : Jvm.MethodName)) ∈ lw_all := lw_g (lw_at lw_m3 143 rfl) rfl
theorem q760 : (Jvm.Cond.native ({ cls := "java/lang/System", name := "arraycopy", desc := "(Ljava/lang/Object;ILjava/lang/Object;II)V" } : Jvm.MethodName)) ∈ lw_all := lw_g (lw_at lw_m3 144 rfl) rfl
theorem q188 : (Jvm.Cond.initialized "java/util/Arrays$LegacyMergeSort") ∈ lw_all := lw_g (lw_at lw_m1 52 rfl) rfl
theorem q1754 : (Jvm.Cond.laysStatic "java/util/Arrays$LegacyMergeSort" "userRequested" "Z") ∈ lw_tbl := lw_at lw_m7 178 rfl
theorem q2079 : (Jvm.Cond.interfaceMethod "java/util/Collection" "java/util/Collection" "iterator" "()Ljava/util/Iterator;") ∈ lw_tbl := lw_at lw_m9 23 rfl
theorem q2080 : (Jvm.Cond.declares ({ cls := "java/util/Collection", name := "iterator", desc := "()Ljava/util/Iterator;" } : Jvm.MethodName)) ∈ lw_tbl := lw_at lw_m9 24 rfl
theorem q1248 : (Jvm.Cond.interfaceMethod "java/util/Comparator" "java/util/Comparator" "compare" "(Ljava/lang/Object;Ljava/lang/Object;)I") ∈ lw_tbl := lw_at lw_m5 152 rfl
theorem q1249 : (Jvm.Cond.declares ({ cls := "java/util/Comparator", name := "compare", desc := "(Ljava/lang/Object;Ljava/lang/Object;)I" } : Jvm.MethodName)) ∈ lw_tbl := lw_at lw_m5 153 rfl
theorem q545 : (Jvm.Cond.interfaceMethod "java/util/Iterator" "java/util/Iterator" "hasNext" "()Z") ∈ lw_tbl := lw_at lw_m2 169 rfl
theorem q546 : (Jvm.Cond.declares ({ cls := "java/util/Iterator", name := "hasNext", desc := "()Z" } : Jvm.MethodName)) ∈ lw_tbl := lw_at lw_m2 170 rfl
theorem q596 : (Jvm.Cond.interfaceMethod "java/util/Iterator" "java/util/Iterator" "next" "()Ljava/lang/Object;") ∈ lw_tbl := lw_at lw_m2 220 rfl
theorem q597 : (Jvm.Cond.declares ({ cls := "java/util/Iterator", name := "next", desc := "()Ljava/lang/Object;" } : Jvm.MethodName)) ∈ lw_tbl := lw_at lw_m2 221 rfl
theorem q2147 : (Jvm.Cond.interfaceMethod "java/util/Iterator" "java/util/Iterator" "remove" "()V") ∈ lw_tbl := lw_at lw_m9 91 rfl
theorem q2148 : (Jvm.Cond.declares ({ cls := "java/util/Iterator", name := "remove", desc := "()V" } : Jvm.MethodName)) ∈ lw_tbl := lw_at lw_m9 92 rfl
theorem q1936 : (Jvm.Cond.interfaceMethod "java/util/ListIterator" "java/util/ListIterator" "next" "()Ljava/lang/Object;") ∈ lw_tbl := lw_at lw_m8 120 rfl
theorem q1937 : (Jvm.Cond.declares ({ cls := "java/util/ListIterator", name := "next", desc := "()Ljava/lang/Object;" } : Jvm.MethodName)) ∈ lw_tbl := lw_at lw_m8 121 rfl
theorem q1948 : (Jvm.Cond.interfaceMethod "java/util/ListIterator" "java/util/ListIterator" "set" "(Ljava/lang/Object;)V") ∈ lw_tbl := lw_at lw_m8 132 rfl
theorem q1949 : (Jvm.Cond.declares ({ cls := "java/util/ListIterator", name := "set", desc := "(Ljava/lang/Object;)V" } : Jvm.MethodName)) ∈ lw_tbl := lw_at lw_m8 133 rfl
theorem q2723 : (Jvm.Cond.interfaceMethod "java/util/ListIterator" "java/util/ListIterator" "hasNext" "()Z") ∈ lw_tbl := lw_at lw_m11 187 rfl
theorem q2724 : (Jvm.Cond.declares ({ cls := "java/util/ListIterator", name := "hasNext", desc := "()Z" } : Jvm.MethodName)) ∈ lw_tbl := lw_at lw_m11 188 rfl
theorem q2511 : (Jvm.Cond.declares ({ cls := "java/util/Map", name := "size", desc := "()I" } : Jvm.MethodName)) ∈ lw_tbl := lw_at lw_m10 215 rfl
theorem q2611 : (Jvm.Cond.declares ({ cls := "java/util/Map", name := "put", desc := "(Ljava/lang/Object;Ljava/lang/Object;)Ljava/lang/Object;" } : Jvm.MethodName)) ∈ lw_tbl := lw_at lw_m11 75 rfl
theorem q1648 : (Jvm.Cond.interfaceMethod "java/util/NavigableMap" "java/util/NavigableMap" "navigableKeySet" "()Ljava/util/NavigableSet;") ∈ lw_tbl := lw_at lw_m7 72 rfl
theorem q1649 : (Jvm.Cond.declares ({ cls := "java/util/NavigableMap", name := "navigableKeySet", desc := "()Ljava/util/NavigableSet;" } : Jvm.MethodName)) ∈ lw_tbl := lw_at lw_m7 73 rfl
theorem q1656 : (Jvm.Cond.interfaceMethod "java/util/NavigableSet" "java/util/NavigableSet" "iterator" "()Ljava/util/Iterator;") ∈ lw_tbl := lw_at lw_m7 80 rfl
theorem q1657 : (Jvm.Cond.declares ({ cls := "java/util/NavigableSet", name := "iterator", desc := "()Ljava/util/Iterator;" } : Jvm.MethodName)) ∈ lw_tbl := lw_at lw_m7 81 rfl
theorem q1597 : (Jvm.Cond.interfaceMethod "java/util/Set" "java/util/Set" "iterator" "()Ljava/util/Iterator;") ∈ lw_tbl := lw_at lw_m7 21 rfl
theorem q1598 : (Jvm.Cond.declares ({ cls := "java/util/Set", name := "iterator", desc := "()Ljava/util/Iterator;" } : Jvm.MethodName)) ∈ lw_tbl := lw_at lw_m7 22 rfl
theorem q1638 : (Jvm.Cond.declares ({ cls := "java/util/TreeMap$NavigableSubMap", name := "keyIterator", desc := "()Ljava/util/Iterator;" } : Jvm.MethodName)) ∈ lw_tbl := lw_at lw_m7 62 rfl
theorem q1639 : (Jvm.Cond.selects "java/util/TreeMap$NavigableSubMap" ({ cls := "java/util/TreeMap$NavigableSubMap", name := "keyIterator", desc := "()Ljava/util/Iterator;" } : Jvm.MethodName) ({ cls := "java/util/TreeMap$NavigableSubMap", name := "keyIterator", desc := "()Ljava/util/Iterator;" } : Jvm.MethodName)) ∈ lw_all := lw_g (lw_at lw_m7 63 rfl) rfl
theorem q176 : (Jvm.Cond.initialized "jdk/internal/misc/UnsafeConstants") ∈ lw_all := lw_g (lw_at lw_m1 40 rfl) rfl
theorem q1329 : (Jvm.Cond.laysStatic "jdk/internal/misc/UnsafeConstants" "BIG_ENDIAN" "Z") ∈ lw_tbl := lw_at lw_m5 233 rfl
theorem q220 : (Jvm.Cond.arrayOver (Jvm.ClassFile.FieldType.object "java/lang/Object")) ∈ lw_tbl := lw_at lw_m1 84 rfl
theorem q243 : (Jvm.Cond.arrayClass Jvm.ClassFile.FieldType.int) ∈ lw_all := lw_g (lw_at lw_m1 107 rfl) rfl
theorem q325 : (Jvm.Cond.arrayClass Jvm.ClassFile.FieldType.byte) ∈ lw_all := lw_g (lw_at lw_m1 189 rfl) rfl
theorem q396 : (Jvm.Cond.arrayOver (Jvm.ClassFile.FieldType.array Jvm.ClassFile.FieldType.int)) ∈ lw_tbl := lw_at lw_m2 20 rfl
theorem q398 : (Jvm.Cond.arrayOver (Jvm.ClassFile.FieldType.array (Jvm.ClassFile.FieldType.array Jvm.ClassFile.FieldType.int))) ∈ lw_tbl := lw_at lw_m2 22 rfl
theorem q2276 : (Jvm.Cond.arrayClass Jvm.ClassFile.FieldType.long) ∈ lw_all := lw_g (lw_at lw_m9 220 rfl) rfl
abbrev cJ52_init : ByteArray := object_method_1_code
def yJ52_init : MethodName := ⟨RJ52, "<init>", "()V"⟩
theorem dJ52_init_0 : decode cJ52_init 0 = .ok (.return_, 1) := by decide +kernel
abbrev cJ52_equals : ByteArray := object_method_4_code
def yJ52_equals : MethodName := ⟨RJ52, "equals", "(Ljava/lang/Object;)Z"⟩
def dkwJ52_equals_0 : List UInt8 := [42, 43, 166, 0, 7, 4, 167, 0, 4, 3, 172]
abbrev dktJ52_equals_0 : List UInt8 := dkwJ52_equals_0 ++ []
theorem dksJ52_equals_0 : cJ52_equals.data.toList.drop 0 = dktJ52_equals_0 := by decide +kernel
theorem dJ52_equals_0 : decode cJ52_equals 0 = .ok (.aload_n 0, 1) := dk_42 (dk_at dksJ52_equals_0 0 rfl rfl)
theorem dJ52_equals_1 : decode cJ52_equals 1 = .ok (.aload_n 1, 1) := dk_43 (dk_at dksJ52_equals_0 1 rfl rfl)
theorem dJ52_equals_2 : decode cJ52_equals 2 = .ok (.if_acmp .ne 7, 3) := dk_166 0 7 (dk_at dksJ52_equals_0 2 rfl rfl)
theorem dJ52_equals_5 : decode cJ52_equals 5 = .ok (.iconst 1, 1) := dk_4 (dk_at dksJ52_equals_0 5 rfl rfl)
theorem dJ52_equals_6 : decode cJ52_equals 6 = .ok (.goto 4, 3) := dk_167 0 4 (dk_at dksJ52_equals_0 6 rfl rfl)
theorem dJ52_equals_9 : decode cJ52_equals 9 = .ok (.iconst 0, 1) := dk_3 (dk_at dksJ52_equals_0 9 rfl rfl)
theorem dJ52_equals_10 : decode cJ52_equals 10 = .ok (.ireturn, 1) := dk_172 (dk_at dksJ52_equals_0 10 rfl rfl)
theorem q205 : (Jvm.Cond.instanceMethod ({ cls := "java/lang/Object", name := "<init>", desc := "()V" } : Jvm.MethodName)) ∈ lw_all := lw_g (lw_at lw_m1 69 rfl) rfl
theorem q206 : (Jvm.Cond.code ({ cls := "java/lang/Object", name := "<init>", desc := "()V" } : Jvm.MethodName) object_method_1_code (1 : Nat) (Option.none : Option Jvm.ClassFile.FieldType)) ∈ lw_all := lw_g (lw_at lw_m1 70 rfl) rfl
theorem q262 : (Jvm.Cond.instanceMethod ({ cls := "java/lang/Object", name := "getClass", desc := "()Ljava/lang/Class;" } : Jvm.MethodName)) ∈ lw_all := lw_g (lw_at lw_m1 126 rfl) rfl
theorem q263 : (Jvm.Cond.sameMethod "java/lang/Object" "java/lang/Object" "getClass" "()Ljava/lang/Class;") ∈ lw_all := lw_g (lw_at lw_m1 127 rfl) rfl
theorem q296 : (Jvm.Cond.native ({ cls := "java/lang/Object", name := "getClass", desc := "()Ljava/lang/Class;" } : Jvm.MethodName)) ∈ lw_all := lw_g (lw_at lw_m1 160 rfl) rfl
theorem q750 : (Jvm.Cond.native ({ cls := "java/lang/Object", name := "clone", desc := "()Ljava/lang/Object;" } : Jvm.MethodName)) ∈ lw_all := lw_g (lw_at lw_m3 134 rfl) rfl
theorem q751 : (Jvm.Cond.instanceMethod ({ cls := "java/lang/Object", name := "clone", desc := "()Ljava/lang/Object;" } : Jvm.MethodName)) ∈ lw_all := lw_g (lw_at lw_m3 135 rfl) rfl
theorem q2731 : (Jvm.Cond.declares ({ cls := "java/lang/Object", name := "equals", desc := "(Ljava/lang/Object;)Z" } : Jvm.MethodName)) ∈ lw_tbl := lw_at lw_m11 195 rfl
theorem q2733 : (Jvm.Cond.instanceMethod ({ cls := "java/lang/Object", name := "equals", desc := "(Ljava/lang/Object;)Z" } : Jvm.MethodName)) ∈ lw_all := lw_g (lw_at lw_m11 197 rfl) rfl
theorem q2734 : (Jvm.Cond.sameMethod "java/lang/Object" "java/lang/Object" "equals" "(Ljava/lang/Object;)Z") ∈ lw_all := lw_g (lw_at lw_m11 198 rfl) rfl
theorem q2749 : (Jvm.Cond.code ({ cls := "java/lang/Object", name := "equals", desc := "(Ljava/lang/Object;)Z" } : Jvm.MethodName) object_method_4_code (2 : Nat) (Option.some Jvm.ClassFile.FieldType.boolean)) ∈ lw_all := lw_g (lw_at lw_m11 213 rfl) rfl
theorem q3358 : (Jvm.Cond.declares ({ cls := "java/lang/Object", name := "getClass", desc := "()Ljava/lang/Class;" } : Jvm.MethodName)) ∈ lw_tbl := lw_at lw_m14 102 rfl
