set_option maxRecDepth 100000
/-! J0 -/
def RJ0 : String := "java/util/AbstractCollection"
theorem q30 : (Jvm.Cond.initialized "java/util/AbstractCollection") ∈ lw_all := lw_g (lw_at lw_m1 2 rfl) rfl
theorem q87 : (Jvm.Cond.instanceMethod ({ cls := "java/util/AbstractCollection", name := "<init>", desc := "()V" } : Jvm.MethodName)) ∈ lw_all := lw_g (lw_at lw_m1 59 rfl) rfl
theorem q88 : (Jvm.Cond.code ({ cls := "java/util/AbstractCollection", name := "<init>", desc := "()V" } : Jvm.MethodName) prog_27_method_1_code (1 : Nat) (Option.none : Option Jvm.ClassFile.FieldType)) ∈ lw_all := lw_g (lw_at lw_m1 60 rfl) rfl
theorem q89 : (Jvm.Cond.methodLink "java/util/AbstractCollection" (1 : Nat) ({ cls := "java/lang/Object", name := "<init>", desc := "()V" } : Jvm.MethodName)) ∈ lw_all := lw_g (lw_at lw_m1 61 rfl) rfl
theorem q770 : (Jvm.Cond.instanceMethod ({ cls := "java/util/AbstractCollection", name := "toArray", desc := "()[Ljava/lang/Object;" } : Jvm.MethodName)) ∈ lw_all := lw_g (lw_at lw_m4 22 rfl) rfl
theorem q771 : (Jvm.Cond.publicMethod ({ cls := "java/util/AbstractCollection", name := "toArray", desc := "()[Ljava/lang/Object;" } : Jvm.MethodName)) ∈ lw_tbl := lw_at lw_m4 23 rfl
theorem q772 : (Jvm.Cond.code ({ cls := "java/util/AbstractCollection", name := "toArray", desc := "()[Ljava/lang/Object;" } : Jvm.MethodName) prog_27_method_6_code (4 : Nat) (Option.some (Jvm.ClassFile.FieldType.array (Jvm.ClassFile.FieldType.object "java/lang/Object")))) ∈ lw_all := lw_g (lw_at lw_m4 24 rfl) rfl
theorem q773 : (Jvm.Cond.methodLink "java/util/AbstractCollection" (7 : Nat) ({ cls := "java/util/AbstractCollection", name := "size", desc := "()I" } : Jvm.MethodName)) ∈ lw_all := lw_g (lw_at lw_m4 25 rfl) rfl
theorem q774 : (Jvm.Cond.declares ({ cls := "java/util/AbstractCollection", name := "size", desc := "()I" } : Jvm.MethodName)) ∈ lw_tbl := lw_at lw_m4 26 rfl
theorem q775 : (Jvm.Cond.sameMethod "java/util/AbstractCollection" "java/util/AbstractCollection" "size" "()I") ∈ lw_all := lw_g (lw_at lw_m4 27 rfl) rfl
theorem q782 : (Jvm.Cond.classLink "java/util/AbstractCollection" (2 : Nat) "java/lang/Object") ∈ lw_all := lw_g (lw_at lw_m4 34 rfl) rfl
theorem q783 : (Jvm.Cond.methodLink "java/util/AbstractCollection" (13 : Nat) ({ cls := "java/util/AbstractCollection", name := "iterator", desc := "()Ljava/util/Iterator;" } : Jvm.MethodName)) ∈ lw_all := lw_g (lw_at lw_m4 35 rfl) rfl
theorem q784 : (Jvm.Cond.declares ({ cls := "java/util/AbstractCollection", name := "iterator", desc := "()Ljava/util/Iterator;" } : Jvm.MethodName)) ∈ lw_tbl := lw_at lw_m4 36 rfl
theorem q785 : (Jvm.Cond.sameMethod "java/util/AbstractCollection" "java/util/AbstractCollection" "iterator" "()Ljava/util/Iterator;") ∈ lw_all := lw_g (lw_at lw_m4 37 rfl) rfl
theorem q836 : (Jvm.Cond.interfaceEntry "java/util/AbstractCollection" (17 : Nat)) ∈ lw_tbl := lw_at lw_m4 88 rfl
theorem q837 : (Jvm.Cond.methodLink "java/util/AbstractCollection" (17 : Nat) ({ cls := "java/util/Iterator", name := "hasNext", desc := "()Z" } : Jvm.MethodName)) ∈ lw_all := lw_g (lw_at lw_m4 89 rfl) rfl
theorem q852 : (Jvm.Cond.methodLink "java/util/AbstractCollection" (31 : Nat) ({ cls := "java/util/Arrays", name := "copyOf", desc := "([Ljava/lang/Object;I)[Ljava/lang/Object;" } : Jvm.MethodName)) ∈ lw_all := lw_g (lw_at lw_m4 104 rfl) rfl
theorem q853 : (Jvm.Cond.interfaceEntry "java/util/AbstractCollection" (23 : Nat)) ∈ lw_tbl := lw_at lw_m4 105 rfl
theorem q854 : (Jvm.Cond.methodLink "java/util/AbstractCollection" (23 : Nat) ({ cls := "java/util/Iterator", name := "next", desc := "()Ljava/lang/Object;" } : Jvm.MethodName)) ∈ lw_all := lw_g (lw_at lw_m4 106 rfl) rfl
theorem q881 : (Jvm.Cond.methodLink "java/util/AbstractCollection" (37 : Nat) ({ cls := "java/util/AbstractCollection", name := "finishToArray", desc := "([Ljava/lang/Object;Ljava/util/Iterator;)[Ljava/lang/Object;" } : Jvm.MethodName)) ∈ lw_all := lw_g (lw_at lw_m4 133 rfl) rfl
theorem q882 : (Jvm.Cond.static ({ cls := "java/util/AbstractCollection", name := "finishToArray", desc := "([Ljava/lang/Object;Ljava/util/Iterator;)[Ljava/lang/Object;" } : Jvm.MethodName)) ∈ lw_all := lw_g (lw_at lw_m4 134 rfl) rfl
theorem q883 : (Jvm.Cond.code ({ cls := "java/util/AbstractCollection", name := "finishToArray", desc := "([Ljava/lang/Object;Ljava/util/Iterator;)[Ljava/lang/Object;" } : Jvm.MethodName) prog_27_method_8_code (4 : Nat) (Option.some (Jvm.ClassFile.FieldType.array (Jvm.ClassFile.FieldType.object "java/lang/Object")))) ∈ lw_all := lw_g (lw_at lw_m4 135 rfl) rfl
theorem q884 : (Jvm.Cond.methodLink "java/util/AbstractCollection" (64 : Nat) ({ cls := "jdk/internal/util/ArraysSupport", name := "newLength", desc := "(III)I" } : Jvm.MethodName)) ∈ lw_all := lw_g (lw_at lw_m4 136 rfl) rfl
/-! J1 -/
def RJ1 : String := "java/util/AbstractList"
theorem q31 : (Jvm.Cond.initialized "java/util/AbstractList") ∈ lw_all := lw_g (lw_at lw_m1 3 rfl) rfl
theorem q84 : (Jvm.Cond.instanceMethod ({ cls := "java/util/AbstractList", name := "<init>", desc := "()V" } : Jvm.MethodName)) ∈ lw_all := lw_g (lw_at lw_m1 56 rfl) rfl
theorem q85 : (Jvm.Cond.code ({ cls := "java/util/AbstractList", name := "<init>", desc := "()V" } : Jvm.MethodName) prog_28_method_1_code (1 : Nat) (Option.none : Option Jvm.ClassFile.FieldType)) ∈ lw_all := lw_g (lw_at lw_m1 57 rfl) rfl
theorem q86 : (Jvm.Cond.methodLink "java/util/AbstractList" (1 : Nat) ({ cls := "java/util/AbstractCollection", name := "<init>", desc := "()V" } : Jvm.MethodName)) ∈ lw_all := lw_g (lw_at lw_m1 58 rfl) rfl
theorem q96 : (Jvm.Cond.fieldLink "java/util/AbstractList" (7 : Nat) "java/util/AbstractList" "modCount" "I") ∈ lw_all := lw_g (lw_at lw_m1 68 rfl) rfl
theorem q105 : (Jvm.Cond.soleField "java/util/AbstractList" "modCount") ∈ lw_all := lw_g (lw_at lw_m1 77 rfl) rfl
/-! J10 -/
def RJ10 : String := "jdk/internal/util/ArraysSupport"
theorem q43 : (Jvm.Cond.initialized "jdk/internal/util/ArraysSupport") ∈ lw_all := lw_g (lw_at lw_m1 15 rfl) rfl
theorem q294 : (Jvm.Cond.static ({ cls := "jdk/internal/util/ArraysSupport", name := "newLength", desc := "(III)I" } : Jvm.MethodName)) ∈ lw_all := lw_g (lw_at lw_m2 26 rfl) rfl
theorem q295 : (Jvm.Cond.code ({ cls := "jdk/internal/util/ArraysSupport", name := "newLength", desc := "(III)I" } : Jvm.MethodName) prog_53_method_27_code (4 : Nat) (Option.some Jvm.ClassFile.FieldType.int)) ∈ lw_all := lw_g (lw_at lw_m2 27 rfl) rfl
theorem q296 : (Jvm.Cond.methodLink "jdk/internal/util/ArraysSupport" (194 : Nat) ({ cls := "java/lang/Math", name := "max", desc := "(II)I" } : Jvm.MethodName)) ∈ lw_all := lw_g (lw_at lw_m2 28 rfl) rfl
theorem q299 : (Jvm.Cond.constant "jdk/internal/util/ArraysSupport" (200 : Nat) (2147483639 : Int32)) ∈ lw_all := lw_g (lw_at lw_m2 31 rfl) rfl
theorem q300 : (Jvm.Cond.methodLink "jdk/internal/util/ArraysSupport" (201 : Nat) ({ cls := "jdk/internal/util/ArraysSupport", name := "hugeLength", desc := "(II)I" } : Jvm.MethodName)) ∈ lw_all := lw_g (lw_at lw_m2 32 rfl) rfl
theorem q301 : (Jvm.Cond.static ({ cls := "jdk/internal/util/ArraysSupport", name := "hugeLength", desc := "(II)I" } : Jvm.MethodName)) ∈ lw_all := lw_g (lw_at lw_m2 33 rfl) rfl
theorem q302 : (Jvm.Cond.code ({ cls := "jdk/internal/util/ArraysSupport", name := "hugeLength", desc := "(II)I" } : Jvm.MethodName) prog_53_method_28_code (3 : Nat) (Option.some Jvm.ClassFile.FieldType.int)) ∈ lw_all := lw_g (lw_at lw_m2 34 rfl) rfl
/-! J11 -/
def RJ11 : String := "java/util/Arrays"
theorem q44 : (Jvm.Cond.initialized "java/util/Arrays") ∈ lw_all := lw_g (lw_at lw_m1 16 rfl) rfl
theorem q304 : (Jvm.Cond.static ({ cls := "java/util/Arrays", name := "copyOf", desc := "([Ljava/lang/Object;I)[Ljava/lang/Object;" } : Jvm.MethodName)) ∈ lw_all := lw_g (lw_at lw_m2 36 rfl) rfl
theorem q305 : (Jvm.Cond.code ({ cls := "java/util/Arrays", name := "copyOf", desc := "([Ljava/lang/Object;I)[Ljava/lang/Object;" } : Jvm.MethodName) prog_33_method_119_code (2 : Nat) (Option.some (Jvm.ClassFile.FieldType.array (Jvm.ClassFile.FieldType.object "java/lang/Object")))) ∈ lw_all := lw_g (lw_at lw_m2 37 rfl) rfl
theorem q306 : (Jvm.Cond.methodLink "java/util/Arrays" (86 : Nat) ({ cls := "java/lang/Object", name := "getClass", desc := "()Ljava/lang/Class;" } : Jvm.MethodName)) ∈ lw_all := lw_g (lw_at lw_m2 38 rfl) rfl
theorem q326 : (Jvm.Cond.methodLink "java/util/Arrays" (300 : Nat) ({ cls := "java/util/Arrays", name := "copyOf", desc := "([Ljava/lang/Object;ILjava/lang/Class;)[Ljava/lang/Object;" } : Jvm.MethodName)) ∈ lw_all := lw_g (lw_at lw_m2 58 rfl) rfl
theorem q327 : (Jvm.Cond.static ({ cls := "java/util/Arrays", name := "copyOf", desc := "([Ljava/lang/Object;ILjava/lang/Class;)[Ljava/lang/Object;" } : Jvm.MethodName)) ∈ lw_all := lw_g (lw_at lw_m2 59 rfl) rfl
theorem q328 : (Jvm.Cond.code ({ cls := "java/util/Arrays", name := "copyOf", desc := "([Ljava/lang/Object;ILjava/lang/Class;)[Ljava/lang/Object;" } : Jvm.MethodName) prog_33_method_120_code (4 : Nat) (Option.some (Jvm.ClassFile.FieldType.array (Jvm.ClassFile.FieldType.object "java/lang/Object")))) ∈ lw_all := lw_g (lw_at lw_m2 60 rfl) rfl
theorem q329 : (Jvm.Cond.classLink "java/util/Arrays" (110 : Nat) "[Ljava/lang/Object;") ∈ lw_all := lw_g (lw_at lw_m2 61 rfl) rfl
theorem q331 : (Jvm.Cond.classLink "java/util/Arrays" (2 : Nat) "java/lang/Object") ∈ lw_all := lw_g (lw_at lw_m2 63 rfl) rfl
theorem q332 : (Jvm.Cond.methodLink "java/util/Arrays" (304 : Nat) ({ cls := "java/lang/Math", name := "min", desc := "(II)I" } : Jvm.MethodName)) ∈ lw_all := lw_g (lw_at lw_m2 64 rfl) rfl
theorem q335 : (Jvm.Cond.methodLink "java/util/Arrays" (150 : Nat) ({ cls := "java/lang/System", name := "arraycopy", desc := "(Ljava/lang/Object;ILjava/lang/Object;II)V" } : Jvm.MethodName)) ∈ lw_all := lw_g (lw_at lw_m2 67 rfl) rfl
/-! J12 -/
def RJ12 : String := "java/lang/Boolean"
theorem q46 : (Jvm.Cond.initialized "java/lang/Boolean") ∈ lw_all := lw_g (lw_at lw_m1 18 rfl) rfl
theorem q315 : (Jvm.Cond.selects "java/lang/Boolean" ({ cls := "java/lang/Object", name := "getClass", desc := "()Ljava/lang/Class;" } : Jvm.MethodName) ({ cls := "java/lang/Object", name := "getClass", desc := "()Ljava/lang/Class;" } : Jvm.MethodName)) ∈ lw_all := lw_g (lw_at lw_m2 47 rfl) rfl
theorem q393 : (Jvm.Cond.selects "java/lang/Boolean" ({ cls := "java/lang/Object", name := "hashCode", desc := "()I" } : Jvm.MethodName) ({ cls := "java/lang/Boolean", name := "hashCode", desc := "()I" } : Jvm.MethodName)) ∈ lw_all := lw_g (lw_at lw_m2 125 rfl) rfl
theorem q394 : (Jvm.Cond.instanceMethod ({ cls := "java/lang/Boolean", name := "hashCode", desc := "()I" } : Jvm.MethodName)) ∈ lw_all := lw_g (lw_at lw_m2 126 rfl) rfl
theorem q395 : (Jvm.Cond.code ({ cls := "java/lang/Boolean", name := "hashCode", desc := "()I" } : Jvm.MethodName) prog_10_method_9_code (1 : Nat) (Option.some Jvm.ClassFile.FieldType.int)) ∈ lw_all := lw_g (lw_at lw_m2 127 rfl) rfl
theorem q396 : (Jvm.Cond.methodLink "java/lang/Boolean" (38 : Nat) ({ cls := "java/lang/Boolean", name := "hashCode", desc := "(Z)I" } : Jvm.MethodName)) ∈ lw_all := lw_g (lw_at lw_m2 128 rfl) rfl
theorem q397 : (Jvm.Cond.static ({ cls := "java/lang/Boolean", name := "hashCode", desc := "(Z)I" } : Jvm.MethodName)) ∈ lw_all := lw_g (lw_at lw_m2 129 rfl) rfl
theorem q398 : (Jvm.Cond.code ({ cls := "java/lang/Boolean", name := "hashCode", desc := "(Z)I" } : Jvm.MethodName) prog_10_method_10_code (1 : Nat) (Option.some Jvm.ClassFile.FieldType.int)) ∈ lw_all := lw_g (lw_at lw_m2 130 rfl) rfl
theorem q427 : (Jvm.Cond.selects "java/lang/Boolean" ({ cls := "java/lang/Object", name := "equals", desc := "(Ljava/lang/Object;)Z" } : Jvm.MethodName) ({ cls := "java/lang/Boolean", name := "equals", desc := "(Ljava/lang/Object;)Z" } : Jvm.MethodName)) ∈ lw_all := lw_g (lw_at lw_m2 159 rfl) rfl
theorem q428 : (Jvm.Cond.instanceMethod ({ cls := "java/lang/Boolean", name := "equals", desc := "(Ljava/lang/Object;)Z" } : Jvm.MethodName)) ∈ lw_all := lw_g (lw_at lw_m2 160 rfl) rfl
theorem q429 : (Jvm.Cond.code ({ cls := "java/lang/Boolean", name := "equals", desc := "(Ljava/lang/Object;)Z" } : Jvm.MethodName) prog_10_method_11_code (2 : Nat) (Option.some Jvm.ClassFile.FieldType.boolean)) ∈ lw_all := lw_g (lw_at lw_m2 161 rfl) rfl
theorem q430 : (Jvm.Cond.classLink "java/lang/Boolean" (8 : Nat) "java/lang/Boolean") ∈ lw_all := lw_g (lw_at lw_m2 162 rfl) rfl
theorem q431 : (Jvm.Cond.methodLink "java/lang/Boolean" (42 : Nat) ({ cls := "java/lang/Boolean", name := "booleanValue", desc := "()Z" } : Jvm.MethodName)) ∈ lw_all := lw_g (lw_at lw_m2 163 rfl) rfl
theorem q432 : (Jvm.Cond.instanceMethod ({ cls := "java/lang/Boolean", name := "booleanValue", desc := "()Z" } : Jvm.MethodName)) ∈ lw_all := lw_g (lw_at lw_m2 164 rfl) rfl
theorem q433 : (Jvm.Cond.selects "java/lang/Boolean" ({ cls := "java/lang/Boolean", name := "booleanValue", desc := "()Z" } : Jvm.MethodName) ({ cls := "java/lang/Boolean", name := "booleanValue", desc := "()Z" } : Jvm.MethodName)) ∈ lw_all := lw_g (lw_at lw_m2 165 rfl) rfl
theorem q434 : (Jvm.Cond.code ({ cls := "java/lang/Boolean", name := "booleanValue", desc := "()Z" } : Jvm.MethodName) prog_10_method_4_code (1 : Nat) (Option.some Jvm.ClassFile.FieldType.boolean)) ∈ lw_all := lw_g (lw_at lw_m2 166 rfl) rfl
theorem q470 : (Jvm.Cond.castable "java/lang/Boolean" "java/lang/Comparable") ∈ lw_tbl := lw_at lw_m2 202 rfl
theorem q471 : (Jvm.Cond.selects "java/lang/Boolean" ({ cls := "java/lang/Comparable", name := "compareTo", desc := "(Ljava/lang/Object;)I" } : Jvm.MethodName) ({ cls := "java/lang/Boolean", name := "compareTo", desc := "(Ljava/lang/Object;)I" } : Jvm.MethodName)) ∈ lw_all := lw_g (lw_at lw_m2 203 rfl) rfl
theorem q472 : (Jvm.Cond.unhidden "java/lang/Boolean" "compareTo" "(Ljava/lang/Object;)I") ∈ lw_tbl := lw_at lw_m2 204 rfl
theorem q473 : (Jvm.Cond.instanceMethod ({ cls := "java/lang/Boolean", name := "compareTo", desc := "(Ljava/lang/Object;)I" } : Jvm.MethodName)) ∈ lw_all := lw_g (lw_at lw_m2 205 rfl) rfl
theorem q474 : (Jvm.Cond.publicMethod ({ cls := "java/lang/Boolean", name := "compareTo", desc := "(Ljava/lang/Object;)I" } : Jvm.MethodName)) ∈ lw_tbl := lw_at lw_m2 206 rfl
theorem q475 : (Jvm.Cond.code ({ cls := "java/lang/Boolean", name := "compareTo", desc := "(Ljava/lang/Object;)I" } : Jvm.MethodName) prog_10_method_19_code (2 : Nat) (Option.some Jvm.ClassFile.FieldType.int)) ∈ lw_all := lw_g (lw_at lw_m2 207 rfl) rfl
theorem q476 : (Jvm.Cond.methodLink "java/lang/Boolean" (73 : Nat) ({ cls := "java/lang/Boolean", name := "compareTo", desc := "(Ljava/lang/Boolean;)I" } : Jvm.MethodName)) ∈ lw_all := lw_g (lw_at lw_m2 208 rfl) rfl
theorem q477 : (Jvm.Cond.instanceMethod ({ cls := "java/lang/Boolean", name := "compareTo", desc := "(Ljava/lang/Boolean;)I" } : Jvm.MethodName)) ∈ lw_all := lw_g (lw_at lw_m2 209 rfl) rfl
theorem q478 : (Jvm.Cond.selects "java/lang/Boolean" ({ cls := "java/lang/Boolean", name := "compareTo", desc := "(Ljava/lang/Boolean;)I" } : Jvm.MethodName) ({ cls := "java/lang/Boolean", name := "compareTo", desc := "(Ljava/lang/Boolean;)I" } : Jvm.MethodName)) ∈ lw_all := lw_g (lw_at lw_m2 210 rfl) rfl
theorem q479 : (Jvm.Cond.code ({ cls := "java/lang/Boolean", name := "compareTo", desc := "(Ljava/lang/Boolean;)I" } : Jvm.MethodName) prog_10_method_13_code (2 : Nat) (Option.some Jvm.ClassFile.FieldType.int)) ∈ lw_all := lw_g (lw_at lw_m2 211 rfl) rfl
theorem q480 : (Jvm.Cond.methodLink "java/lang/Boolean" (56 : Nat) ({ cls := "java/lang/Boolean", name := "compare", desc := "(ZZ)I" } : Jvm.MethodName)) ∈ lw_all := lw_g (lw_at lw_m2 212 rfl) rfl
theorem q481 : (Jvm.Cond.static ({ cls := "java/lang/Boolean", name := "compare", desc := "(ZZ)I" } : Jvm.MethodName)) ∈ lw_all := lw_g (lw_at lw_m2 213 rfl) rfl
theorem q482 : (Jvm.Cond.code ({ cls := "java/lang/Boolean", name := "compare", desc := "(ZZ)I" } : Jvm.MethodName) prog_10_method_14_code (2 : Nat) (Option.some Jvm.ClassFile.FieldType.int)) ∈ lw_all := lw_g (lw_at lw_m2 214 rfl) rfl
theorem q586 : (Jvm.Cond.static ({ cls := "java/lang/Boolean", name := "valueOf", desc := "(Z)Ljava/lang/Boolean;" } : Jvm.MethodName)) ∈ lw_all := lw_g (lw_at lw_m3 78 rfl) rfl
theorem q587 : (Jvm.Cond.code ({ cls := "java/lang/Boolean", name := "valueOf", desc := "(Z)Ljava/lang/Boolean;" } : Jvm.MethodName) prog_10_method_5_code (1 : Nat) (Option.some (Jvm.ClassFile.FieldType.object "java/lang/Boolean"))) ∈ lw_all := lw_g (lw_at lw_m3 79 rfl) rfl
theorem q588 : (Jvm.Cond.fieldLink "java/lang/Boolean" (27 : Nat) "java/lang/Boolean" "TRUE" "Ljava/lang/Boolean;") ∈ lw_all := lw_g (lw_at lw_m3 80 rfl) rfl
theorem q589 : (Jvm.Cond.laysStatic "java/lang/Boolean" "TRUE" "Ljava/lang/Boolean;") ∈ lw_tbl := lw_at lw_m3 81 rfl
theorem q590 : (Jvm.Cond.fieldLink "java/lang/Boolean" (31 : Nat) "java/lang/Boolean" "FALSE" "Ljava/lang/Boolean;") ∈ lw_all := lw_g (lw_at lw_m3 82 rfl) rfl
theorem q591 : (Jvm.Cond.laysStatic "java/lang/Boolean" "FALSE" "Ljava/lang/Boolean;") ∈ lw_tbl := lw_at lw_m3 83 rfl
theorem q1359 : (Jvm.Cond.castable "java/lang/Boolean" "java/lang/Object") ∈ lw_tbl := lw_at lw_m6 131 rfl
theorem q1382 : (Jvm.Cond.fieldLink "java/lang/Boolean" (7 : Nat) "java/lang/Boolean" "value" "Z") ∈ lw_all := lw_g (lw_at lw_m6 154 rfl) rfl
/-! J13 -/
def RJ13 : String := "java/util/HashMap$Node"
theorem q47 : (Jvm.Cond.initialized "java/util/HashMap$Node") ∈ lw_all := lw_g (lw_at lw_m1 19 rfl) rfl
theorem q319 : (Jvm.Cond.selects "java/util/HashMap$Node" ({ cls := "java/lang/Object", name := "getClass", desc := "()Ljava/lang/Class;" } : Jvm.MethodName) ({ cls := "java/lang/Object", name := "getClass", desc := "()Ljava/lang/Class;" } : Jvm.MethodName)) ∈ lw_all := lw_g (lw_at lw_m2 51 rfl) rfl
theorem q517 : (Jvm.Cond.instanceMethod ({ cls := "java/util/HashMap$Node", name := "<init>", desc := "(ILjava/lang/Object;Ljava/lang/Object;Ljava/util/HashMap$Node;)V" } : Jvm.MethodName)) ∈ lw_all := lw_g (lw_at lw_m3 9 rfl) rfl
theorem q518 : (Jvm.Cond.code ({ cls := "java/util/HashMap$Node", name := "<init>", desc := "(ILjava/lang/Object;Ljava/lang/Object;Ljava/util/HashMap$Node;)V" } : Jvm.MethodName) prog_36_method_1_code (5 : Nat) (Option.none : Option Jvm.ClassFile.FieldType)) ∈ lw_all := lw_g (lw_at lw_m3 10 rfl) rfl
theorem q519 : (Jvm.Cond.methodLink "java/util/HashMap$Node" (1 : Nat) ({ cls := "java/lang/Object", name := "<init>", desc := "()V" } : Jvm.MethodName)) ∈ lw_all := lw_g (lw_at lw_m3 11 rfl) rfl
theorem q524 : (Jvm.Cond.fieldLink "java/util/HashMap$Node" (7 : Nat) "java/util/HashMap$Node" "hash" "I") ∈ lw_all := lw_g (lw_at lw_m3 16 rfl) rfl
theorem q530 : (Jvm.Cond.fieldLink "java/util/HashMap$Node" (13 : Nat) "java/util/HashMap$Node" "key" "Ljava/lang/Object;") ∈ lw_all := lw_g (lw_at lw_m3 22 rfl) rfl
theorem q536 : (Jvm.Cond.fieldLink "java/util/HashMap$Node" (17 : Nat) "java/util/HashMap$Node" "value" "Ljava/lang/Object;") ∈ lw_all := lw_g (lw_at lw_m3 28 rfl) rfl
theorem q540 : (Jvm.Cond.fieldLink "java/util/HashMap$Node" (20 : Nat) "java/util/HashMap$Node" "next" "Ljava/util/HashMap$Node;") ∈ lw_all := lw_g (lw_at lw_m3 32 rfl) rfl
theorem q551 : (Jvm.Cond.soleField "java/util/HashMap$Node" "hash") ∈ lw_all := lw_g (lw_at lw_m3 43 rfl) rfl
theorem q553 : (Jvm.Cond.soleField "java/util/HashMap$Node" "key") ∈ lw_all := lw_g (lw_at lw_m3 45 rfl) rfl
theorem q555 : (Jvm.Cond.soleField "java/util/HashMap$Node" "value") ∈ lw_all := lw_g (lw_at lw_m3 47 rfl) rfl
theorem q557 : (Jvm.Cond.soleField "java/util/HashMap$Node" "next") ∈ lw_all := lw_g (lw_at lw_m3 49 rfl) rfl
theorem q946 : (Jvm.Cond.castable "java/util/HashMap$Node" "java/util/Map$Entry") ∈ lw_tbl := lw_at lw_m4 198 rfl
theorem q947 : (Jvm.Cond.selects "java/util/HashMap$Node" ({ cls := "java/util/Map$Entry", name := "getValue", desc := "()Ljava/lang/Object;" } : Jvm.MethodName) ({ cls := "java/util/HashMap$Node", name := "getValue", desc := "()Ljava/lang/Object;" } : Jvm.MethodName)) ∈ lw_all := lw_g (lw_at lw_m4 199 rfl) rfl
theorem q948 : (Jvm.Cond.unhidden "java/util/HashMap$Node" "getValue" "()Ljava/lang/Object;") ∈ lw_tbl := lw_at lw_m4 200 rfl
theorem q949 : (Jvm.Cond.instanceMethod ({ cls := "java/util/HashMap$Node", name := "getValue", desc := "()Ljava/lang/Object;" } : Jvm.MethodName)) ∈ lw_all := lw_g (lw_at lw_m4 201 rfl) rfl
theorem q950 : (Jvm.Cond.publicMethod ({ cls := "java/util/HashMap$Node", name := "getValue", desc := "()Ljava/lang/Object;" } : Jvm.MethodName)) ∈ lw_tbl := lw_at lw_m4 202 rfl
theorem q951 : (Jvm.Cond.code ({ cls := "java/util/HashMap$Node", name := "getValue", desc := "()Ljava/lang/Object;" } : Jvm.MethodName) prog_36_method_3_code (1 : Nat) (Option.some (Jvm.ClassFile.FieldType.object "java/lang/Object"))) ∈ lw_all := lw_g (lw_at lw_m4 203 rfl) rfl
theorem q964 : (Jvm.Cond.selects "java/util/HashMap$Node" ({ cls := "java/util/Map$Entry", name := "getKey", desc := "()Ljava/lang/Object;" } : Jvm.MethodName) ({ cls := "java/util/HashMap$Node", name := "getKey", desc := "()Ljava/lang/Object;" } : Jvm.MethodName)) ∈ lw_all := lw_g (lw_at lw_m4 216 rfl) rfl
theorem q965 : (Jvm.Cond.unhidden "java/util/HashMap$Node" "getKey" "()Ljava/lang/Object;") ∈ lw_tbl := lw_at lw_m4 217 rfl
theorem q966 : (Jvm.Cond.instanceMethod ({ cls := "java/util/HashMap$Node", name := "getKey", desc := "()Ljava/lang/Object;" } : Jvm.MethodName)) ∈ lw_all := lw_g (lw_at lw_m4 218 rfl) rfl
theorem q967 : (Jvm.Cond.publicMethod ({ cls := "java/util/HashMap$Node", name := "getKey", desc := "()Ljava/lang/Object;" } : Jvm.MethodName)) ∈ lw_tbl := lw_at lw_m4 219 rfl
theorem q968 : (Jvm.Cond.code ({ cls := "java/util/HashMap$Node", name := "getKey", desc := "()Ljava/lang/Object;" } : Jvm.MethodName) prog_36_method_2_code (1 : Nat) (Option.some (Jvm.ClassFile.FieldType.object "java/lang/Object"))) ∈ lw_all := lw_g (lw_at lw_m4 220 rfl) rfl
theorem q1351 : (Jvm.Cond.castable "java/util/HashMap$Node" "java/lang/Object") ∈ lw_tbl := lw_at lw_m6 123 rfl
/-! J14 -/
def RJ14 : String := "java/util/LinkedHashMap$Entry"
def TJ14 : u_T := fun k => match k with
  | 0 => ("java/util/HashMap$Node", "hash", "I", true)
  | 1 => ("java/util/HashMap$Node", "key", "Ljava/lang/Object;", true)
  | 2 => ("java/util/HashMap$Node", "value", "Ljava/lang/Object;", false)
  | 3 => ("java/util/HashMap$Node", "next", "Ljava/util/HashMap$Node;", false)
  | 4 => ("java/util/LinkedHashMap$Entry", "before", "Ljava/util/LinkedHashMap$Entry;", false)
  | _ => ("java/util/LinkedHashMap$Entry", "after", "Ljava/util/LinkedHashMap$Entry;", false)
def tyJ14 : Nat → FieldType := fun k => match k with
  | 0 => .int
  | 1 => .object "java/lang/Object"
  | 2 => .object "java/lang/Object"
  | 3 => .object "java/util/HashMap$Node"
  | 4 => .object "java/util/LinkedHashMap$Entry"
  | _ => .object "java/util/LinkedHashMap$Entry"
abbrev wsJ140 : List Cond := u_ws RJ14 TJ14 6
theorem nmJ14 : ∀ a, a < 6 → ∀ b, b < 6 → a ≠ b → (TJ14 a).2.1 ≠ (TJ14 b).2.1 := by decide +kernel
theorem tyJ14_ok : ∀ k, k < 6 → parseFieldDescriptor (TJ14 k).2.2.1 = some (tyJ14 k) := by decide +kernel
theorem q48 : (Jvm.Cond.initialized "java/util/LinkedHashMap$Entry") ∈ lw_all := lw_g (lw_at lw_m1 20 rfl) rfl
theorem q322 : (Jvm.Cond.selects "java/util/LinkedHashMap$Entry" ({ cls := "java/lang/Object", name := "getClass", desc := "()Ljava/lang/Class;" } : Jvm.MethodName) ({ cls := "java/lang/Object", name := "getClass", desc := "()Ljava/lang/Class;" } : Jvm.MethodName)) ∈ lw_all := lw_g (lw_at lw_m2 54 rfl) rfl
theorem q512 : (Jvm.Cond.instantiable "java/util/LinkedHashMap$Entry" (6 : Nat)) ∈ lw_all := lw_g (lw_at lw_m3 4 rfl) rfl
theorem q514 : (Jvm.Cond.instanceMethod ({ cls := "java/util/LinkedHashMap$Entry", name := "<init>", desc := "(ILjava/lang/Object;Ljava/lang/Object;Ljava/util/HashMap$Node;)V" } : Jvm.MethodName)) ∈ lw_all := lw_g (lw_at lw_m3 6 rfl) rfl
theorem q515 : (Jvm.Cond.code ({ cls := "java/util/LinkedHashMap$Entry", name := "<init>", desc := "(ILjava/lang/Object;Ljava/lang/Object;Ljava/util/HashMap$Node;)V" } : Jvm.MethodName) prog_40_method_1_code (5 : Nat) (Option.none : Option Jvm.ClassFile.FieldType)) ∈ lw_all := lw_g (lw_at lw_m3 7 rfl) rfl
theorem q516 : (Jvm.Cond.methodLink "java/util/LinkedHashMap$Entry" (1 : Nat) ({ cls := "java/util/HashMap$Node", name := "<init>", desc := "(ILjava/lang/Object;Ljava/lang/Object;Ljava/util/HashMap$Node;)V" } : Jvm.MethodName)) ∈ lw_all := lw_g (lw_at lw_m3 8 rfl) rfl
theorem q528 : (Jvm.Cond.sameField "java/util/LinkedHashMap$Entry" "java/util/HashMap$Node" "hash" "I") ∈ lw_all := lw_g (lw_at lw_m3 20 rfl) rfl
theorem q534 : (Jvm.Cond.sameField "java/util/LinkedHashMap$Entry" "java/util/HashMap$Node" "key" "Ljava/lang/Object;") ∈ lw_all := lw_g (lw_at lw_m3 26 rfl) rfl
theorem q538 : (Jvm.Cond.sameField "java/util/LinkedHashMap$Entry" "java/util/HashMap$Node" "value" "Ljava/lang/Object;") ∈ lw_all := lw_g (lw_at lw_m3 30 rfl) rfl
theorem q546 : (Jvm.Cond.lays "java/util/LinkedHashMap$Entry" "java/util/LinkedHashMap$Entry" "before" "Ljava/util/LinkedHashMap$Entry;") ∈ lw_all := lw_g (lw_at lw_m3 38 rfl) rfl
theorem q547 : (Jvm.Cond.soleField "java/util/LinkedHashMap$Entry" "before") ∈ lw_all := lw_g (lw_at lw_m3 39 rfl) rfl
theorem q548 : (Jvm.Cond.lays "java/util/LinkedHashMap$Entry" "java/util/LinkedHashMap$Entry" "after" "Ljava/util/LinkedHashMap$Entry;") ∈ lw_all := lw_g (lw_at lw_m3 40 rfl) rfl
theorem q549 : (Jvm.Cond.soleField "java/util/LinkedHashMap$Entry" "after") ∈ lw_all := lw_g (lw_at lw_m3 41 rfl) rfl
theorem q550 : (Jvm.Cond.laysFinal "java/util/LinkedHashMap$Entry" "java/util/HashMap$Node" "hash" "I") ∈ lw_all := lw_g (lw_at lw_m3 42 rfl) rfl
theorem q552 : (Jvm.Cond.laysFinal "java/util/LinkedHashMap$Entry" "java/util/HashMap$Node" "key" "Ljava/lang/Object;") ∈ lw_all := lw_g (lw_at lw_m3 44 rfl) rfl
theorem q554 : (Jvm.Cond.lays "java/util/LinkedHashMap$Entry" "java/util/HashMap$Node" "value" "Ljava/lang/Object;") ∈ lw_all := lw_g (lw_at lw_m3 46 rfl) rfl
theorem q556 : (Jvm.Cond.lays "java/util/LinkedHashMap$Entry" "java/util/HashMap$Node" "next" "Ljava/util/HashMap$Node;") ∈ lw_all := lw_g (lw_at lw_m3 48 rfl) rfl
theorem q558 : (Jvm.Cond.superclass "java/util/LinkedHashMap$Entry" "java/util/HashMap$Node") ∈ lw_all := lw_g (lw_at lw_m3 50 rfl) rfl
theorem q955 : (Jvm.Cond.castable "java/util/LinkedHashMap$Entry" "java/util/Map$Entry") ∈ lw_tbl := lw_at lw_m4 207 rfl
theorem q956 : (Jvm.Cond.selects "java/util/LinkedHashMap$Entry" ({ cls := "java/util/Map$Entry", name := "getValue", desc := "()Ljava/lang/Object;" } : Jvm.MethodName) ({ cls := "java/util/HashMap$Node", name := "getValue", desc := "()Ljava/lang/Object;" } : Jvm.MethodName)) ∈ lw_all := lw_g (lw_at lw_m4 208 rfl) rfl
theorem q957 : (Jvm.Cond.unhidden "java/util/LinkedHashMap$Entry" "getValue" "()Ljava/lang/Object;") ∈ lw_tbl := lw_at lw_m4 209 rfl
theorem q971 : (Jvm.Cond.selects "java/util/LinkedHashMap$Entry" ({ cls := "java/util/Map$Entry", name := "getKey", desc := "()Ljava/lang/Object;" } : Jvm.MethodName) ({ cls := "java/util/HashMap$Node", name := "getKey", desc := "()Ljava/lang/Object;" } : Jvm.MethodName)) ∈ lw_all := lw_g (lw_at lw_m4 223 rfl) rfl
theorem q972 : (Jvm.Cond.unhidden "java/util/LinkedHashMap$Entry" "getKey" "()Ljava/lang/Object;") ∈ lw_tbl := lw_at lw_m4 224 rfl
theorem q1358 : (Jvm.Cond.castable "java/util/LinkedHashMap$Entry" "java/lang/Object") ∈ lw_tbl := lw_at lw_m6 130 rfl
theorem q1369 : (Jvm.Cond.castable "java/util/LinkedHashMap$Entry" "java/util/HashMap$Node") ∈ lw_tbl := lw_at lw_m6 141 rfl
theorem in_J14 : ∀ w ∈ wsJ140, w ∈ lw_all := lw_in wsJ140 [550, 552, 554, 556, 546, 548] (by decide +kernel) (by decide +kernel)
/-! J15 -/
def RJ15 : String := "java/util/HashMap$TreeNode"
def TJ15 : u_T := fun k => match k with
  | 0 => ("java/util/HashMap$Node", "hash", "I", true)
  | 1 => ("java/util/HashMap$Node", "key", "Ljava/lang/Object;", true)
  | 2 => ("java/util/HashMap$Node", "value", "Ljava/lang/Object;", false)
  | 3 => ("java/util/HashMap$Node", "next", "Ljava/util/HashMap$Node;", false)
  | 4 => ("java/util/LinkedHashMap$Entry", "before", "Ljava/util/LinkedHashMap$Entry;", false)
  | 5 => ("java/util/LinkedHashMap$Entry", "after", "Ljava/util/LinkedHashMap$Entry;", false)
  | 6 => ("java/util/HashMap$TreeNode", "parent", "Ljava/util/HashMap$TreeNode;", false)
  | 7 => ("java/util/HashMap$TreeNode", "left", "Ljava/util/HashMap$TreeNode;", false)
  | 8 => ("java/util/HashMap$TreeNode", "right", "Ljava/util/HashMap$TreeNode;", false)
  | 9 => ("java/util/HashMap$TreeNode", "prev", "Ljava/util/HashMap$TreeNode;", false)
  | _ => ("java/util/HashMap$TreeNode", "red", "Z", false)
def tyJ15 : Nat → FieldType := fun k => match k with
  | 0 => .int
  | 1 => .object "java/lang/Object"
  | 2 => .object "java/lang/Object"
  | 3 => .object "java/util/HashMap$Node"
  | 4 => .object "java/util/LinkedHashMap$Entry"
  | 5 => .object "java/util/LinkedHashMap$Entry"
  | 6 => .object "java/util/HashMap$TreeNode"
  | 7 => .object "java/util/HashMap$TreeNode"
  | 8 => .object "java/util/HashMap$TreeNode"
  | 9 => .object "java/util/HashMap$TreeNode"
  | _ => .boolean
abbrev wsJ150 : List Cond := u_ws RJ15 TJ15 11
theorem nmJ15 : ∀ a, a < 11 → ∀ b, b < 11 → a ≠ b → (TJ15 a).2.1 ≠ (TJ15 b).2.1 := by decide +kernel
theorem tyJ15_ok : ∀ k, k < 11 → parseFieldDescriptor (TJ15 k).2.2.1 = some (tyJ15 k) := by decide +kernel
theorem q49 : (Jvm.Cond.initialized "java/util/HashMap$TreeNode") ∈ lw_all := lw_g (lw_at lw_m1 21 rfl) rfl
theorem q320 : (Jvm.Cond.selects "java/util/HashMap$TreeNode" ({ cls := "java/lang/Object", name := "getClass", desc := "()Ljava/lang/Class;" } : Jvm.MethodName) ({ cls := "java/lang/Object", name := "getClass", desc := "()Ljava/lang/Class;" } : Jvm.MethodName)) ∈ lw_all := lw_g (lw_at lw_m2 52 rfl) rfl
theorem q445 : (Jvm.Cond.instanceMethod ({ cls := "java/util/HashMap$TreeNode", name := "getTreeNode", desc := "(ILjava/lang/Object;)Ljava/util/HashMap$TreeNode;" } : Jvm.MethodName)) ∈ lw_all := lw_g (lw_at lw_m2 177 rfl) rfl
theorem q446 : (Jvm.Cond.selects "java/util/HashMap$TreeNode" ({ cls := "java/util/HashMap$TreeNode", name := "getTreeNode", desc := "(ILjava/lang/Object;)Ljava/util/HashMap$TreeNode;" } : Jvm.MethodName) ({ cls := "java/util/HashMap$TreeNode", name := "getTreeNode", desc := "(ILjava/lang/Object;)Ljava/util/HashMap$TreeNode;" } : Jvm.MethodName)) ∈ lw_all := lw_g (lw_at lw_m2 178 rfl) rfl
theorem q447 : (Jvm.Cond.code ({ cls := "java/util/HashMap$TreeNode", name := "getTreeNode", desc := "(ILjava/lang/Object;)Ljava/util/HashMap$TreeNode;" } : Jvm.MethodName) prog_37_method_5_code (3 : Nat) (Option.some (Jvm.ClassFile.FieldType.object "java/util/HashMap$TreeNode"))) ∈ lw_all := lw_g (lw_at lw_m2 179 rfl) rfl
theorem q448 : (Jvm.Cond.methodLink "java/util/HashMap$TreeNode" (67 : Nat) ({ cls := "java/util/HashMap$TreeNode", name := "root", desc := "()Ljava/util/HashMap$TreeNode;" } : Jvm.MethodName)) ∈ lw_all := lw_g (lw_at lw_m2 180 rfl) rfl
theorem q449 : (Jvm.Cond.instanceMethod ({ cls := "java/util/HashMap$TreeNode", name := "root", desc := "()Ljava/util/HashMap$TreeNode;" } : Jvm.MethodName)) ∈ lw_all := lw_g (lw_at lw_m2 181 rfl) rfl
theorem q450 : (Jvm.Cond.selects "java/util/HashMap$TreeNode" ({ cls := "java/util/HashMap$TreeNode", name := "root", desc := "()Ljava/util/HashMap$TreeNode;" } : Jvm.MethodName) ({ cls := "java/util/HashMap$TreeNode", name := "root", desc := "()Ljava/util/HashMap$TreeNode;" } : Jvm.MethodName)) ∈ lw_all := lw_g (lw_at lw_m2 182 rfl) rfl
theorem q451 : (Jvm.Cond.code ({ cls := "java/util/HashMap$TreeNode", name := "root", desc := "()Ljava/util/HashMap$TreeNode;" } : Jvm.MethodName) prog_37_method_2_code (3 : Nat) (Option.some (Jvm.ClassFile.FieldType.object "java/util/HashMap$TreeNode"))) ∈ lw_all := lw_g (lw_at lw_m2 183 rfl) rfl
theorem q452 : (Jvm.Cond.methodLink "java/util/HashMap$TreeNode" (63 : Nat) ({ cls := "java/util/HashMap$TreeNode", name := "find", desc := "(ILjava/lang/Object;Ljava/lang/Class;)Ljava/util/HashMap$TreeNode;" } : Jvm.MethodName)) ∈ lw_all := lw_g (lw_at lw_m2 184 rfl) rfl
theorem q453 : (Jvm.Cond.instanceMethod ({ cls := "java/util/HashMap$TreeNode", name := "find", desc := "(ILjava/lang/Object;Ljava/lang/Class;)Ljava/util/HashMap$TreeNode;" } : Jvm.MethodName)) ∈ lw_all := lw_g (lw_at lw_m2 185 rfl) rfl
theorem q454 : (Jvm.Cond.selects "java/util/HashMap$TreeNode" ({ cls := "java/util/HashMap$TreeNode", name := "find", desc := "(ILjava/lang/Object;Ljava/lang/Class;)Ljava/util/HashMap$TreeNode;" } : Jvm.MethodName) ({ cls := "java/util/HashMap$TreeNode", name := "find", desc := "(ILjava/lang/Object;Ljava/lang/Class;)Ljava/util/HashMap$TreeNode;" } : Jvm.MethodName)) ∈ lw_all := lw_g (lw_at lw_m2 186 rfl) rfl
theorem q455 : (Jvm.Cond.code ({ cls := "java/util/HashMap$TreeNode", name := "find", desc := "(ILjava/lang/Object;Ljava/lang/Class;)Ljava/util/HashMap$TreeNode;" } : Jvm.MethodName) prog_37_method_4_code (11 : Nat) (Option.some (Jvm.ClassFile.FieldType.object "java/util/HashMap$TreeNode"))) ∈ lw_all := lw_g (lw_at lw_m2 187 rfl) rfl
theorem q456 : (Jvm.Cond.methodLink "java/util/HashMap$TreeNode" (49 : Nat) ({ cls := "java/lang/Object", name := "equals", desc := "(Ljava/lang/Object;)Z" } : Jvm.MethodName)) ∈ lw_all := lw_g (lw_at lw_m2 188 rfl) rfl
theorem q457 : (Jvm.Cond.methodLink "java/util/HashMap$TreeNode" (55 : Nat) ({ cls := "java/util/HashMap", name := "comparableClassFor", desc := "(Ljava/lang/Object;)Ljava/lang/Class;" } : Jvm.MethodName)) ∈ lw_all := lw_g (lw_at lw_m2 189 rfl) rfl
theorem q463 : (Jvm.Cond.methodLink "java/util/HashMap$TreeNode" (59 : Nat) ({ cls := "java/util/HashMap", name := "compareComparables", desc := "(Ljava/lang/Class;Ljava/lang/Object;Ljava/lang/Object;)I" } : Jvm.MethodName)) ∈ lw_all := lw_g (lw_at lw_m2 195 rfl) rfl
theorem q497 : (Jvm.Cond.instanceMethod ({ cls := "java/util/HashMap$TreeNode", name := "removeTreeNode", desc := "(Ljava/util/HashMap;[Ljava/util/HashMap$Node;Z)V" } : Jvm.MethodName)) ∈ lw_all := lw_g (lw_at lw_m2 229 rfl) rfl
theorem q498 : (Jvm.Cond.selects "java/util/HashMap$TreeNode" ({ cls := "java/util/HashMap$TreeNode", name := "removeTreeNode", desc := "(Ljava/util/HashMap;[Ljava/util/HashMap$Node;Z)V" } : Jvm.MethodName) ({ cls := "java/util/HashMap$TreeNode", name := "removeTreeNode", desc := "(Ljava/util/HashMap;[Ljava/util/HashMap$Node;Z)V" } : Jvm.MethodName)) ∈ lw_all := lw_g (lw_at lw_m2 230 rfl) rfl
theorem q499 : (Jvm.Cond.code ({ cls := "java/util/HashMap$TreeNode", name := "removeTreeNode", desc := "(Ljava/util/HashMap;[Ljava/util/HashMap$Node;Z)V" } : Jvm.MethodName) prog_37_method_10_code (21 : Nat) (Option.none : Option Jvm.ClassFile.FieldType)) ∈ lw_all := lw_g (lw_at lw_m2 231 rfl) rfl
theorem q500 : (Jvm.Cond.classLink "java/util/HashMap$TreeNode" (10 : Nat) "java/util/HashMap$TreeNode") ∈ lw_all := lw_g (lw_at lw_m2 232 rfl) rfl
theorem q501 : (Jvm.Cond.methodLink "java/util/HashMap$TreeNode" (119 : Nat) ({ cls := "java/util/HashMap$TreeNode", name := "untreeify", desc := "(Ljava/util/HashMap;)Ljava/util/HashMap$Node;" } : Jvm.MethodName)) ∈ lw_all := lw_g (lw_at lw_m2 233 rfl) rfl
theorem q502 : (Jvm.Cond.instanceMethod ({ cls := "java/util/HashMap$TreeNode", name := "untreeify", desc := "(Ljava/util/HashMap;)Ljava/util/HashMap$Node;" } : Jvm.MethodName)) ∈ lw_all := lw_g (lw_at lw_m2 234 rfl) rfl
theorem q503 : (Jvm.Cond.selects "java/util/HashMap$TreeNode" ({ cls := "java/util/HashMap$TreeNode", name := "untreeify", desc := "(Ljava/util/HashMap;)Ljava/util/HashMap$Node;" } : Jvm.MethodName) ({ cls := "java/util/HashMap$TreeNode", name := "untreeify", desc := "(Ljava/util/HashMap;)Ljava/util/HashMap$Node;" } : Jvm.MethodName)) ∈ lw_all := lw_g (lw_at lw_m2 235 rfl) rfl
theorem q504 : (Jvm.Cond.code ({ cls := "java/util/HashMap$TreeNode", name := "untreeify", desc := "(Ljava/util/HashMap;)Ljava/util/HashMap$Node;" } : Jvm.MethodName) prog_37_method_8_code (6 : Nat) (Option.some (Jvm.ClassFile.FieldType.object "java/util/HashMap$Node"))) ∈ lw_all := lw_g (lw_at lw_m2 236 rfl) rfl
theorem q505 : (Jvm.Cond.methodLink "java/util/HashMap$TreeNode" (108 : Nat) ({ cls := "java/util/HashMap", name := "replacementNode", desc := "(Ljava/util/HashMap$Node;Ljava/util/HashMap$Node;)Ljava/util/HashMap$Node;" } : Jvm.MethodName)) ∈ lw_all := lw_g (lw_at lw_m2 237 rfl) rfl
theorem q525 : (Jvm.Cond.fieldLink "java/util/HashMap$TreeNode" (15 : Nat) "java/util/HashMap$TreeNode" "hash" "I") ∈ lw_all := lw_g (lw_at lw_m3 17 rfl) rfl
theorem q526 : (Jvm.Cond.sameField "java/util/HashMap$TreeNode" "java/util/HashMap$Node" "hash" "I") ∈ lw_all := lw_g (lw_at lw_m3 18 rfl) rfl
theorem q531 : (Jvm.Cond.fieldLink "java/util/HashMap$TreeNode" (45 : Nat) "java/util/HashMap$TreeNode" "key" "Ljava/lang/Object;") ∈ lw_all := lw_g (lw_at lw_m3 23 rfl) rfl
theorem q532 : (Jvm.Cond.sameField "java/util/HashMap$TreeNode" "java/util/HashMap$Node" "key" "Ljava/lang/Object;") ∈ lw_all := lw_g (lw_at lw_m3 24 rfl) rfl
theorem q541 : (Jvm.Cond.fieldLink "java/util/HashMap$TreeNode" (22 : Nat) "java/util/HashMap$TreeNode" "next" "Ljava/util/HashMap$Node;") ∈ lw_all := lw_g (lw_at lw_m3 33 rfl) rfl
theorem q542 : (Jvm.Cond.sameField "java/util/HashMap$TreeNode" "java/util/HashMap$Node" "next" "Ljava/util/HashMap$Node;") ∈ lw_all := lw_g (lw_at lw_m3 34 rfl) rfl
theorem q543 : (Jvm.Cond.fieldLink "java/util/HashMap$TreeNode" (112 : Nat) "java/util/HashMap$Node" "next" "Ljava/util/HashMap$Node;") ∈ lw_all := lw_g (lw_at lw_m3 35 rfl) rfl
theorem q564 : (Jvm.Cond.methodLink "java/util/HashMap$TreeNode" (123 : Nat) ({ cls := "java/util/HashMap$TreeNode", name := "balanceDeletion", desc := "(Ljava/util/HashMap$TreeNode;Ljava/util/HashMap$TreeNode;)Ljava/util/HashMap$TreeNode;" } : Jvm.MethodName)) ∈ lw_all := lw_g (lw_at lw_m3 56 rfl) rfl
theorem q565 : (Jvm.Cond.static ({ cls := "java/util/HashMap$TreeNode", name := "balanceDeletion", desc := "(Ljava/util/HashMap$TreeNode;Ljava/util/HashMap$TreeNode;)Ljava/util/HashMap$TreeNode;" } : Jvm.MethodName)) ∈ lw_all := lw_g (lw_at lw_m3 57 rfl) rfl
theorem q566 : (Jvm.Cond.code ({ cls := "java/util/HashMap$TreeNode", name := "balanceDeletion", desc := "(Ljava/util/HashMap$TreeNode;Ljava/util/HashMap$TreeNode;)Ljava/util/HashMap$TreeNode;" } : Jvm.MethodName) prog_37_method_15_code (7 : Nat) (Option.some (Jvm.ClassFile.FieldType.object "java/util/HashMap$TreeNode"))) ∈ lw_all := lw_g (lw_at lw_m3 58 rfl) rfl
theorem q567 : (Jvm.Cond.methodLink "java/util/HashMap$TreeNode" (130 : Nat) ({ cls := "java/util/HashMap$TreeNode", name := "rotateLeft", desc := "(Ljava/util/HashMap$TreeNode;Ljava/util/HashMap$TreeNode;)Ljava/util/HashMap$TreeNode;" } : Jvm.MethodName)) ∈ lw_all := lw_g (lw_at lw_m3 59 rfl) rfl
theorem q568 : (Jvm.Cond.static ({ cls := "java/util/HashMap$TreeNode", name := "rotateLeft", desc := "(Ljava/util/HashMap$TreeNode;Ljava/util/HashMap$TreeNode;)Ljava/util/HashMap$TreeNode;" } : Jvm.MethodName)) ∈ lw_all := lw_g (lw_at lw_m3 60 rfl) rfl
theorem q569 : (Jvm.Cond.code ({ cls := "java/util/HashMap$TreeNode", name := "rotateLeft", desc := "(Ljava/util/HashMap$TreeNode;Ljava/util/HashMap$TreeNode;)Ljava/util/HashMap$TreeNode;" } : Jvm.MethodName) prog_37_method_12_code (5 : Nat) (Option.some (Jvm.ClassFile.FieldType.object "java/util/HashMap$TreeNode"))) ∈ lw_all := lw_g (lw_at lw_m3 61 rfl) rfl
theorem q570 : (Jvm.Cond.methodLink "java/util/HashMap$TreeNode" (133 : Nat) ({ cls := "java/util/HashMap$TreeNode", name := "rotateRight", desc := "(Ljava/util/HashMap$TreeNode;Ljava/util/HashMap$TreeNode;)Ljava/util/HashMap$TreeNode;" } : Jvm.MethodName)) ∈ lw_all := lw_g (lw_at lw_m3 62 rfl) rfl
theorem q571 : (Jvm.Cond.static ({ cls := "java/util/HashMap$TreeNode", name := "rotateRight", desc := "(Ljava/util/HashMap$TreeNode;Ljava/util/HashMap$TreeNode;)Ljava/util/HashMap$TreeNode;" } : Jvm.MethodName)) ∈ lw_all := lw_g (lw_at lw_m3 63 rfl) rfl
theorem q572 : (Jvm.Cond.code ({ cls := "java/util/HashMap$TreeNode", name := "rotateRight", desc := "(Ljava/util/HashMap$TreeNode;Ljava/util/HashMap$TreeNode;)Ljava/util/HashMap$TreeNode;" } : Jvm.MethodName) prog_37_method_13_code (5 : Nat) (Option.some (Jvm.ClassFile.FieldType.object "java/util/HashMap$TreeNode"))) ∈ lw_all := lw_g (lw_at lw_m3 64 rfl) rfl
theorem q573 : (Jvm.Cond.methodLink "java/util/HashMap$TreeNode" (104 : Nat) ({ cls := "java/util/HashMap$TreeNode", name := "moveRootToFront", desc := "([Ljava/util/HashMap$Node;Ljava/util/HashMap$TreeNode;)V" } : Jvm.MethodName)) ∈ lw_all := lw_g (lw_at lw_m3 65 rfl) rfl
theorem q574 : (Jvm.Cond.static ({ cls := "java/util/HashMap$TreeNode", name := "moveRootToFront", desc := "([Ljava/util/HashMap$Node;Ljava/util/HashMap$TreeNode;)V" } : Jvm.MethodName)) ∈ lw_all := lw_g (lw_at lw_m3 66 rfl) rfl
theorem q575 : (Jvm.Cond.code ({ cls := "java/util/HashMap$TreeNode", name := "moveRootToFront", desc := "([Ljava/util/HashMap$Node;Ljava/util/HashMap$TreeNode;)V" } : Jvm.MethodName) prog_37_method_3_code (7 : Nat) (Option.none : Option Jvm.ClassFile.FieldType)) ∈ lw_all := lw_g (lw_at lw_m3 67 rfl) rfl
theorem q576 : (Jvm.Cond.fieldLink "java/util/HashMap$TreeNode" (26 : Nat) "java/util/HashMap$TreeNode" "$assertionsDisabled" "Z") ∈ lw_all := lw_g (lw_at lw_m3 68 rfl) rfl
theorem q577 : (Jvm.Cond.laysStatic "java/util/HashMap$TreeNode" "$assertionsDisabled" "Z") ∈ lw_tbl := lw_at lw_m3 69 rfl
theorem q614 : (Jvm.Cond.instanceMethod ({ cls := "java/util/HashMap$TreeNode", name := "split", desc := "(Ljava/util/HashMap;[Ljava/util/HashMap$Node;II)V" } : Jvm.MethodName)) ∈ lw_all := lw_g (lw_at lw_m3 106 rfl) rfl
theorem q615 : (Jvm.Cond.selects "java/util/HashMap$TreeNode" ({ cls := "java/util/HashMap$TreeNode", name := "split", desc := "(Ljava/util/HashMap;[Ljava/util/HashMap$Node;II)V" } : Jvm.MethodName) ({ cls := "java/util/HashMap$TreeNode", name := "split", desc := "(Ljava/util/HashMap;[Ljava/util/HashMap$Node;II)V" } : Jvm.MethodName)) ∈ lw_all := lw_g (lw_at lw_m3 107 rfl) rfl
theorem q616 : (Jvm.Cond.code ({ cls := "java/util/HashMap$TreeNode", name := "split", desc := "(Ljava/util/HashMap;[Ljava/util/HashMap$Node;II)V" } : Jvm.MethodName) prog_37_method_11_code (14 : Nat) (Option.none : Option Jvm.ClassFile.FieldType)) ∈ lw_all := lw_g (lw_at lw_m3 108 rfl) rfl
theorem q617 : (Jvm.Cond.methodLink "java/util/HashMap$TreeNode" (126 : Nat) ({ cls := "java/util/HashMap$TreeNode", name := "treeify", desc := "([Ljava/util/HashMap$Node;)V" } : Jvm.MethodName)) ∈ lw_all := lw_g (lw_at lw_m3 109 rfl) rfl
theorem q618 : (Jvm.Cond.instanceMethod ({ cls := "java/util/HashMap$TreeNode", name := "treeify", desc := "([Ljava/util/HashMap$Node;)V" } : Jvm.MethodName)) ∈ lw_all := lw_g (lw_at lw_m3 110 rfl) rfl
theorem q619 : (Jvm.Cond.selects "java/util/HashMap$TreeNode" ({ cls := "java/util/HashMap$TreeNode", name := "treeify", desc := "([Ljava/util/HashMap$Node;)V" } : Jvm.MethodName) ({ cls := "java/util/HashMap$TreeNode", name := "treeify", desc := "([Ljava/util/HashMap$Node;)V" } : Jvm.MethodName)) ∈ lw_all := lw_g (lw_at lw_m3 111 rfl) rfl
theorem q620 : (Jvm.Cond.code ({ cls := "java/util/HashMap$TreeNode", name := "treeify", desc := "([Ljava/util/HashMap$Node;)V" } : Jvm.MethodName) prog_37_method_7_code (13 : Nat) (Option.none : Option Jvm.ClassFile.FieldType)) ∈ lw_all := lw_g (lw_at lw_m3 112 rfl) rfl
theorem q621 : (Jvm.Cond.methodLink "java/util/HashMap$TreeNode" (100 : Nat) ({ cls := "java/util/HashMap$TreeNode", name := "balanceInsertion", desc := "(Ljava/util/HashMap$TreeNode;Ljava/util/HashMap$TreeNode;)Ljava/util/HashMap$TreeNode;" } : Jvm.MethodName)) ∈ lw_all := lw_g (lw_at lw_m3 113 rfl) rfl
theorem q622 : (Jvm.Cond.static ({ cls := "java/util/HashMap$TreeNode", name := "balanceInsertion", desc := "(Ljava/util/HashMap$TreeNode;Ljava/util/HashMap$TreeNode;)Ljava/util/HashMap$TreeNode;" } : Jvm.MethodName)) ∈ lw_all := lw_g (lw_at lw_m3 114 rfl) rfl
theorem q623 : (Jvm.Cond.code ({ cls := "java/util/HashMap$TreeNode", name := "balanceInsertion", desc := "(Ljava/util/HashMap$TreeNode;Ljava/util/HashMap$TreeNode;)Ljava/util/HashMap$TreeNode;" } : Jvm.MethodName) prog_37_method_14_code (6 : Nat) (Option.some (Jvm.ClassFile.FieldType.object "java/util/HashMap$TreeNode"))) ∈ lw_all := lw_g (lw_at lw_m3 115 rfl) rfl
theorem q636 : (Jvm.Cond.instanceMethod ({ cls := "java/util/HashMap$TreeNode", name := "putTreeVal", desc := "(Ljava/util/HashMap;[Ljava/util/HashMap$Node;ILjava/lang/Object;Ljava/lang/Object;)Ljava/util/HashMap$TreeNode;" } : Jvm.MethodName)) ∈ lw_all := lw_g (lw_at lw_m3 128 rfl) rfl
theorem q637 : (Jvm.Cond.selects "java/util/HashMap$TreeNode" ({ cls := "java/util/HashMap$TreeNode", name := "putTreeVal", desc := "(Ljava/util/HashMap;[Ljava/util/HashMap$Node;ILjava/lang/Object;Ljava/lang/Object;)Ljava/util/HashMap$TreeNode;" } : Jvm.MethodName) ({ cls := "java/util/HashMap$TreeNode", name := "putTreeVal", desc := "(Ljava/util/HashMap;[Ljava/util/HashMap$Node;ILjava/lang/Object;Ljava/lang/Object;)Ljava/util/HashMap$TreeNode;" } : Jvm.MethodName)) ∈ lw_all := lw_g (lw_at lw_m3 129 rfl) rfl
theorem q638 : (Jvm.Cond.code ({ cls := "java/util/HashMap$TreeNode", name := "putTreeVal", desc := "(Ljava/util/HashMap;[Ljava/util/HashMap$Node;ILjava/lang/Object;Ljava/lang/Object;)Ljava/util/HashMap$TreeNode;" } : Jvm.MethodName) prog_37_method_9_code (16 : Nat) (Option.some (Jvm.ClassFile.FieldType.object "java/util/HashMap$TreeNode"))) ∈ lw_all := lw_g (lw_at lw_m3 130 rfl) rfl
theorem q639 : (Jvm.Cond.methodLink "java/util/HashMap$TreeNode" (115 : Nat) ({ cls := "java/util/HashMap", name := "newTreeNode", desc := "(ILjava/lang/Object;Ljava/lang/Object;Ljava/util/HashMap$Node;)Ljava/util/HashMap$TreeNode;" } : Jvm.MethodName)) ∈ lw_all := lw_g (lw_at lw_m3 131 rfl) rfl
theorem q646 : (Jvm.Cond.instantiable "java/util/HashMap$TreeNode" (11 : Nat)) ∈ lw_all := lw_g (lw_at lw_m3 138 rfl) rfl
theorem q648 : (Jvm.Cond.instanceMethod ({ cls := "java/util/HashMap$TreeNode", name := "<init>", desc := "(ILjava/lang/Object;Ljava/lang/Object;Ljava/util/HashMap$Node;)V" } : Jvm.MethodName)) ∈ lw_all := lw_g (lw_at lw_m3 140 rfl) rfl
theorem q649 : (Jvm.Cond.code ({ cls := "java/util/HashMap$TreeNode", name := "<init>", desc := "(ILjava/lang/Object;Ljava/lang/Object;Ljava/util/HashMap$Node;)V" } : Jvm.MethodName) prog_37_method_1_code (5 : Nat) (Option.none : Option Jvm.ClassFile.FieldType)) ∈ lw_all := lw_g (lw_at lw_m3 141 rfl) rfl
theorem q650 : (Jvm.Cond.methodLink "java/util/HashMap$TreeNode" (3 : Nat) ({ cls := "java/util/LinkedHashMap$Entry", name := "<init>", desc := "(ILjava/lang/Object;Ljava/lang/Object;Ljava/util/HashMap$Node;)V" } : Jvm.MethodName)) ∈ lw_all := lw_g (lw_at lw_m3 142 rfl) rfl
theorem q651 : (Jvm.Cond.fieldLink "java/util/HashMap$TreeNode" (9 : Nat) "java/util/HashMap$TreeNode" "parent" "Ljava/util/HashMap$TreeNode;") ∈ lw_all := lw_g (lw_at lw_m3 143 rfl) rfl
theorem q652 : (Jvm.Cond.fieldLink "java/util/HashMap$TreeNode" (39 : Nat) "java/util/HashMap$TreeNode" "left" "Ljava/util/HashMap$TreeNode;") ∈ lw_all := lw_g (lw_at lw_m3 144 rfl) rfl
theorem q653 : (Jvm.Cond.fieldLink "java/util/HashMap$TreeNode" (42 : Nat) "java/util/HashMap$TreeNode" "right" "Ljava/util/HashMap$TreeNode;") ∈ lw_all := lw_g (lw_at lw_m3 145 rfl) rfl
theorem q654 : (Jvm.Cond.fieldLink "java/util/HashMap$TreeNode" (19 : Nat) "java/util/HashMap$TreeNode" "prev" "Ljava/util/HashMap$TreeNode;") ∈ lw_all := lw_g (lw_at lw_m3 146 rfl) rfl
theorem q656 : (Jvm.Cond.fieldLink "java/util/HashMap$TreeNode" (93 : Nat) "java/util/HashMap$TreeNode" "red" "Z") ∈ lw_all := lw_g (lw_at lw_m3 148 rfl) rfl
theorem q657 : (Jvm.Cond.lays "java/util/HashMap$TreeNode" "java/util/HashMap$TreeNode" "parent" "Ljava/util/HashMap$TreeNode;") ∈ lw_all := lw_g (lw_at lw_m3 149 rfl) rfl
theorem q658 : (Jvm.Cond.soleField "java/util/HashMap$TreeNode" "parent") ∈ lw_all := lw_g (lw_at lw_m3 150 rfl) rfl
theorem q659 : (Jvm.Cond.lays "java/util/HashMap$TreeNode" "java/util/HashMap$TreeNode" "left" "Ljava/util/HashMap$TreeNode;") ∈ lw_all := lw_g (lw_at lw_m3 151 rfl) rfl
theorem q660 : (Jvm.Cond.soleField "java/util/HashMap$TreeNode" "left") ∈ lw_all := lw_g (lw_at lw_m3 152 rfl) rfl
theorem q661 : (Jvm.Cond.lays "java/util/HashMap$TreeNode" "java/util/HashMap$TreeNode" "right" "Ljava/util/HashMap$TreeNode;") ∈ lw_all := lw_g (lw_at lw_m3 153 rfl) rfl
theorem q662 : (Jvm.Cond.soleField "java/util/HashMap$TreeNode" "right") ∈ lw_all := lw_g (lw_at lw_m3 154 rfl) rfl
theorem q663 : (Jvm.Cond.lays "java/util/HashMap$TreeNode" "java/util/HashMap$TreeNode" "prev" "Ljava/util/HashMap$TreeNode;") ∈ lw_all := lw_g (lw_at lw_m3 155 rfl) rfl
theorem q664 : (Jvm.Cond.soleField "java/util/HashMap$TreeNode" "prev") ∈ lw_all := lw_g (lw_at lw_m3 156 rfl) rfl
theorem q665 : (Jvm.Cond.lays "java/util/HashMap$TreeNode" "java/util/HashMap$TreeNode" "red" "Z") ∈ lw_all := lw_g (lw_at lw_m3 157 rfl) rfl
theorem q666 : (Jvm.Cond.soleField "java/util/HashMap$TreeNode" "red") ∈ lw_all := lw_g (lw_at lw_m3 158 rfl) rfl
theorem q667 : (Jvm.Cond.lays "java/util/HashMap$TreeNode" "java/util/LinkedHashMap$Entry" "before" "Ljava/util/LinkedHashMap$Entry;") ∈ lw_all := lw_g (lw_at lw_m3 159 rfl) rfl
theorem q668 : (Jvm.Cond.lays "java/util/HashMap$TreeNode" "java/util/LinkedHashMap$Entry" "after" "Ljava/util/LinkedHashMap$Entry;") ∈ lw_all := lw_g (lw_at lw_m3 160 rfl) rfl
theorem q669 : (Jvm.Cond.laysFinal "java/util/HashMap$TreeNode" "java/util/HashMap$Node" "hash" "I") ∈ lw_all := lw_g (lw_at lw_m3 161 rfl) rfl
theorem q670 : (Jvm.Cond.laysFinal "java/util/HashMap$TreeNode" "java/util/HashMap$Node" "key" "Ljava/lang/Object;") ∈ lw_all := lw_g (lw_at lw_m3 162 rfl) rfl
theorem q671 : (Jvm.Cond.lays "java/util/HashMap$TreeNode" "java/util/HashMap$Node" "value" "Ljava/lang/Object;") ∈ lw_all := lw_g (lw_at lw_m3 163 rfl) rfl
theorem q672 : (Jvm.Cond.lays "java/util/HashMap$TreeNode" "java/util/HashMap$Node" "next" "Ljava/util/HashMap$Node;") ∈ lw_all := lw_g (lw_at lw_m3 164 rfl) rfl
theorem q673 : (Jvm.Cond.superclass "java/util/HashMap$TreeNode" "java/util/LinkedHashMap$Entry") ∈ lw_all := lw_g (lw_at lw_m3 165 rfl) rfl
theorem q952 : (Jvm.Cond.castable "java/util/HashMap$TreeNode" "java/util/Map$Entry") ∈ lw_tbl := lw_at lw_m4 204 rfl
theorem q953 : (Jvm.Cond.selects "java/util/HashMap$TreeNode" ({ cls := "java/util/Map$Entry", name := "getValue", desc := "()Ljava/lang/Object;" } : Jvm.MethodName) ({ cls := "java/util/HashMap$Node", name := "getValue", desc := "()Ljava/lang/Object;" } : Jvm.MethodName)) ∈ lw_all := lw_g (lw_at lw_m4 205 rfl) rfl
theorem q954 : (Jvm.Cond.unhidden "java/util/HashMap$TreeNode" "getValue" "()Ljava/lang/Object;") ∈ lw_tbl := lw_at lw_m4 206 rfl
theorem q969 : (Jvm.Cond.selects "java/util/HashMap$TreeNode" ({ cls := "java/util/Map$Entry", name := "getKey", desc := "()Ljava/lang/Object;" } : Jvm.MethodName) ({ cls := "java/util/HashMap$Node", name := "getKey", desc := "()Ljava/lang/Object;" } : Jvm.MethodName)) ∈ lw_all := lw_g (lw_at lw_m4 221 rfl) rfl
theorem q970 : (Jvm.Cond.unhidden "java/util/HashMap$TreeNode" "getKey" "()Ljava/lang/Object;") ∈ lw_tbl := lw_at lw_m4 222 rfl
theorem q1349 : (Jvm.Cond.castable "java/util/HashMap$TreeNode" "java/util/LinkedHashMap$Entry") ∈ lw_tbl := lw_at lw_m6 121 rfl
theorem q1360 : (Jvm.Cond.castable "java/util/HashMap$TreeNode" "java/lang/Object") ∈ lw_tbl := lw_at lw_m6 132 rfl
theorem q1370 : (Jvm.Cond.castable "java/util/HashMap$TreeNode" "java/util/HashMap$Node") ∈ lw_tbl := lw_at lw_m6 142 rfl
theorem in_J15 : ∀ w ∈ wsJ150, w ∈ lw_all := lw_in wsJ150 [669, 670, 671, 672, 667, 668, 657, 659, 661, 663, 665] (by decide +kernel) (by decide +kernel)
/-! J16 -/
def RJ16 : String := "java/util/ArrayList$Itr"
def TJ16 : u_T := fun k => match k with
  | 0 => ("java/util/ArrayList$Itr", "cursor", "I", false)
  | 1 => ("java/util/ArrayList$Itr", "lastRet", "I", false)
  | 2 => ("java/util/ArrayList$Itr", "expectedModCount", "I", false)
  | _ => ("java/util/ArrayList$Itr", "this$0", "Ljava/util/ArrayList;", true)
def tyJ16 : Nat → FieldType := fun k => match k with
  | 0 => .int
  | 1 => .int
  | 2 => .int
  | _ => .object "java/util/ArrayList"
abbrev wsJ160 : List Cond := u_ws RJ16 TJ16 4
theorem nmJ16 : ∀ a, a < 4 → ∀ b, b < 4 → a ≠ b → (TJ16 a).2.1 ≠ (TJ16 b).2.1 := by decide +kernel
theorem tyJ16_ok : ∀ k, k < 4 → parseFieldDescriptor (TJ16 k).2.2.1 = some (tyJ16 k) := by decide +kernel
theorem q51 : (Jvm.Cond.initialized "java/util/ArrayList$Itr") ∈ lw_all := lw_g (lw_at lw_m1 23 rfl) rfl
theorem q93 : (Jvm.Cond.fieldLink "java/util/ArrayList$Itr" (37 : Nat) "java/util/ArrayList" "elementData" "[Ljava/lang/Object;") ∈ lw_all := lw_g (lw_at lw_m1 65 rfl) rfl
theorem q94 : (Jvm.Cond.fieldLinkNest "java/util/ArrayList$Itr" (28 : Nat) "java/util/ArrayList" "size" "I" "java/util/ArrayList") ∈ lw_tbl := lw_at lw_m1 66 rfl
theorem q97 : (Jvm.Cond.fieldLink "java/util/ArrayList$Itr" (17 : Nat) "java/util/ArrayList" "modCount" "I") ∈ lw_all := lw_g (lw_at lw_m1 69 rfl) rfl
theorem q318 : (Jvm.Cond.selects "java/util/ArrayList$Itr" ({ cls := "java/lang/Object", name := "getClass", desc := "()Ljava/lang/Class;" } : Jvm.MethodName) ({ cls := "java/lang/Object", name := "getClass", desc := "()Ljava/lang/Class;" } : Jvm.MethodName)) ∈ lw_all := lw_g (lw_at lw_m2 50 rfl) rfl
theorem q790 : (Jvm.Cond.instantiable "java/util/ArrayList$Itr" (4 : Nat)) ∈ lw_all := lw_g (lw_at lw_m4 42 rfl) rfl
theorem q792 : (Jvm.Cond.instanceMethod ({ cls := "java/util/ArrayList$Itr", name := "<init>", desc := "(Ljava/util/ArrayList;)V" } : Jvm.MethodName)) ∈ lw_all := lw_g (lw_at lw_m4 44 rfl) rfl
theorem q793 : (Jvm.Cond.code ({ cls := "java/util/ArrayList$Itr", name := "<init>", desc := "(Ljava/util/ArrayList;)V" } : Jvm.MethodName) prog_32_method_1_code (2 : Nat) (Option.none : Option Jvm.ClassFile.FieldType)) ∈ lw_all := lw_g (lw_at lw_m4 45 rfl) rfl
theorem q794 : (Jvm.Cond.methodLink "java/util/ArrayList$Itr" (7 : Nat) ({ cls := "java/lang/Object", name := "<init>", desc := "()V" } : Jvm.MethodName)) ∈ lw_all := lw_g (lw_at lw_m4 46 rfl) rfl
theorem q795 : (Jvm.Cond.fieldLink "java/util/ArrayList$Itr" (25 : Nat) "java/util/ArrayList$Itr" "cursor" "I") ∈ lw_all := lw_g (lw_at lw_m4 47 rfl) rfl
theorem q796 : (Jvm.Cond.fieldLink "java/util/ArrayList$Itr" (13 : Nat) "java/util/ArrayList$Itr" "lastRet" "I") ∈ lw_all := lw_g (lw_at lw_m4 48 rfl) rfl
theorem q797 : (Jvm.Cond.fieldLink "java/util/ArrayList$Itr" (22 : Nat) "java/util/ArrayList$Itr" "expectedModCount" "I") ∈ lw_all := lw_g (lw_at lw_m4 49 rfl) rfl
theorem q798 : (Jvm.Cond.fieldLink "java/util/ArrayList$Itr" (1 : Nat) "java/util/ArrayList$Itr" "this$0" "Ljava/util/ArrayList;") ∈ lw_all := lw_g (lw_at lw_m4 50 rfl) rfl
theorem q799 : (Jvm.Cond.lays "java/util/ArrayList$Itr" "java/util/ArrayList$Itr" "cursor" "I") ∈ lw_all := lw_g (lw_at lw_m4 51 rfl) rfl
theorem q800 : (Jvm.Cond.soleField "java/util/ArrayList$Itr" "cursor") ∈ lw_all := lw_g (lw_at lw_m4 52 rfl) rfl
theorem q801 : (Jvm.Cond.lays "java/util/ArrayList$Itr" "java/util/ArrayList$Itr" "lastRet" "I") ∈ lw_all := lw_g (lw_at lw_m4 53 rfl) rfl
theorem q802 : (Jvm.Cond.soleField "java/util/ArrayList$Itr" "lastRet") ∈ lw_all := lw_g (lw_at lw_m4 54 rfl) rfl
theorem q803 : (Jvm.Cond.lays "java/util/ArrayList$Itr" "java/util/ArrayList$Itr" "expectedModCount" "I") ∈ lw_all := lw_g (lw_at lw_m4 55 rfl) rfl
theorem q804 : (Jvm.Cond.soleField "java/util/ArrayList$Itr" "expectedModCount") ∈ lw_all := lw_g (lw_at lw_m4 56 rfl) rfl
theorem q805 : (Jvm.Cond.laysFinal "java/util/ArrayList$Itr" "java/util/ArrayList$Itr" "this$0" "Ljava/util/ArrayList;") ∈ lw_all := lw_g (lw_at lw_m4 57 rfl) rfl
theorem q806 : (Jvm.Cond.soleField "java/util/ArrayList$Itr" "this$0") ∈ lw_all := lw_g (lw_at lw_m4 58 rfl) rfl
theorem q807 : (Jvm.Cond.superclass "java/util/ArrayList$Itr" "java/lang/Object") ∈ lw_all := lw_g (lw_at lw_m4 59 rfl) rfl
theorem q840 : (Jvm.Cond.castable "java/util/ArrayList$Itr" "java/util/Iterator") ∈ lw_tbl := lw_at lw_m4 92 rfl
theorem q841 : (Jvm.Cond.selects "java/util/ArrayList$Itr" ({ cls := "java/util/Iterator", name := "hasNext", desc := "()Z" } : Jvm.MethodName) ({ cls := "java/util/ArrayList$Itr", name := "hasNext", desc := "()Z" } : Jvm.MethodName)) ∈ lw_all := lw_g (lw_at lw_m4 93 rfl) rfl
theorem q842 : (Jvm.Cond.unhidden "java/util/ArrayList$Itr" "hasNext" "()Z") ∈ lw_tbl := lw_at lw_m4 94 rfl
theorem q843 : (Jvm.Cond.instanceMethod ({ cls := "java/util/ArrayList$Itr", name := "hasNext", desc := "()Z" } : Jvm.MethodName)) ∈ lw_all := lw_g (lw_at lw_m4 95 rfl) rfl
theorem q844 : (Jvm.Cond.publicMethod ({ cls := "java/util/ArrayList$Itr", name := "hasNext", desc := "()Z" } : Jvm.MethodName)) ∈ lw_tbl := lw_at lw_m4 96 rfl
theorem q845 : (Jvm.Cond.code ({ cls := "java/util/ArrayList$Itr", name := "hasNext", desc := "()Z" } : Jvm.MethodName) prog_32_method_2_code (1 : Nat) (Option.some Jvm.ClassFile.FieldType.boolean)) ∈ lw_all := lw_g (lw_at lw_m4 97 rfl) rfl
theorem q857 : (Jvm.Cond.selects "java/util/ArrayList$Itr" ({ cls := "java/util/Iterator", name := "next", desc := "()Ljava/lang/Object;" } : Jvm.MethodName) ({ cls := "java/util/ArrayList$Itr", name := "next", desc := "()Ljava/lang/Object;" } : Jvm.MethodName)) ∈ lw_all := lw_g (lw_at lw_m4 109 rfl) rfl
theorem q858 : (Jvm.Cond.unhidden "java/util/ArrayList$Itr" "next" "()Ljava/lang/Object;") ∈ lw_tbl := lw_at lw_m4 110 rfl
theorem q859 : (Jvm.Cond.instanceMethod ({ cls := "java/util/ArrayList$Itr", name := "next", desc := "()Ljava/lang/Object;" } : Jvm.MethodName)) ∈ lw_all := lw_g (lw_at lw_m4 111 rfl) rfl
theorem q860 : (Jvm.Cond.publicMethod ({ cls := "java/util/ArrayList$Itr", name := "next", desc := "()Ljava/lang/Object;" } : Jvm.MethodName)) ∈ lw_tbl := lw_at lw_m4 112 rfl
theorem q861 : (Jvm.Cond.code ({ cls := "java/util/ArrayList$Itr", name := "next", desc := "()Ljava/lang/Object;" } : Jvm.MethodName) prog_32_method_3_code (3 : Nat) (Option.some (Jvm.ClassFile.FieldType.object "java/lang/Object"))) ∈ lw_all := lw_g (lw_at lw_m4 113 rfl) rfl
theorem q862 : (Jvm.Cond.methodLink "java/util/ArrayList$Itr" (31 : Nat) ({ cls := "java/util/ArrayList$Itr", name := "checkForComodification", desc := "()V" } : Jvm.MethodName)) ∈ lw_all := lw_g (lw_at lw_m4 114 rfl) rfl
theorem q863 : (Jvm.Cond.instanceMethod ({ cls := "java/util/ArrayList$Itr", name := "checkForComodification", desc := "()V" } : Jvm.MethodName)) ∈ lw_all := lw_g (lw_at lw_m4 115 rfl) rfl
theorem q864 : (Jvm.Cond.selects "java/util/ArrayList$Itr" ({ cls := "java/util/ArrayList$Itr", name := "checkForComodification", desc := "()V" } : Jvm.MethodName) ({ cls := "java/util/ArrayList$Itr", name := "checkForComodification", desc := "()V" } : Jvm.MethodName)) ∈ lw_all := lw_g (lw_at lw_m4 116 rfl) rfl
theorem q865 : (Jvm.Cond.code ({ cls := "java/util/ArrayList$Itr", name := "checkForComodification", desc := "()V" } : Jvm.MethodName) prog_32_method_6_code (1 : Nat) (Option.none : Option Jvm.ClassFile.FieldType)) ∈ lw_all := lw_g (lw_at lw_m4 117 rfl) rfl
theorem q1365 : (Jvm.Cond.castable "java/util/ArrayList$Itr" "java/lang/Object") ∈ lw_tbl := lw_at lw_m6 137 rfl
theorem in_J16 : ∀ w ∈ wsJ160, w ∈ lw_all := lw_in wsJ160 [799, 801, 803, 805] (by decide +kernel) (by decide +kernel)
/-! J17 -/
def RJ17 : String := "java/util/LinkedHashMap$LinkedHashIterator"
theorem q52 : (Jvm.Cond.initialized "java/util/LinkedHashMap$LinkedHashIterator") ∈ lw_all := lw_g (lw_at lw_m1 24 rfl) rfl
theorem q122 : (Jvm.Cond.fieldLink "java/util/LinkedHashMap$LinkedHashIterator" (23 : Nat) "java/util/LinkedHashMap" "head" "Ljava/util/LinkedHashMap$Entry;") ∈ lw_all := lw_g (lw_at lw_m1 94 rfl) rfl
theorem q123 : (Jvm.Cond.fieldLink "java/util/LinkedHashMap$LinkedHashIterator" (17 : Nat) "java/util/LinkedHashMap" "tail" "Ljava/util/LinkedHashMap$Entry;") ∈ lw_all := lw_g (lw_at lw_m1 95 rfl) rfl
theorem q133 : (Jvm.Cond.fieldLink "java/util/LinkedHashMap$LinkedHashIterator" (29 : Nat) "java/util/LinkedHashMap" "modCount" "I") ∈ lw_all := lw_g (lw_at lw_m1 105 rfl) rfl
theorem q521 : (Jvm.Cond.fieldLink "java/util/LinkedHashMap$LinkedHashIterator" (45 : Nat) "java/util/LinkedHashMap$Entry" "before" "Ljava/util/LinkedHashMap$Entry;") ∈ lw_all := lw_g (lw_at lw_m3 13 rfl) rfl
theorem q523 : (Jvm.Cond.fieldLink "java/util/LinkedHashMap$LinkedHashIterator" (50 : Nat) "java/util/LinkedHashMap$Entry" "after" "Ljava/util/LinkedHashMap$Entry;") ∈ lw_all := lw_g (lw_at lw_m3 15 rfl) rfl
theorem q817 : (Jvm.Cond.instanceMethod ({ cls := "java/util/LinkedHashMap$LinkedHashIterator", name := "<init>", desc := "(Ljava/util/LinkedHashMap;Z)V" } : Jvm.MethodName)) ∈ lw_all := lw_g (lw_at lw_m4 69 rfl) rfl
theorem q818 : (Jvm.Cond.code ({ cls := "java/util/LinkedHashMap$LinkedHashIterator", name := "<init>", desc := "(Ljava/util/LinkedHashMap;Z)V" } : Jvm.MethodName) prog_43_method_1_code (3 : Nat) (Option.none : Option Jvm.ClassFile.FieldType)) ∈ lw_all := lw_g (lw_at lw_m4 70 rfl) rfl
theorem q819 : (Jvm.Cond.methodLink "java/util/LinkedHashMap$LinkedHashIterator" (7 : Nat) ({ cls := "java/lang/Object", name := "<init>", desc := "()V" } : Jvm.MethodName)) ∈ lw_all := lw_g (lw_at lw_m4 71 rfl) rfl
theorem q820 : (Jvm.Cond.fieldLink "java/util/LinkedHashMap$LinkedHashIterator" (26 : Nat) "java/util/LinkedHashMap$LinkedHashIterator" "next" "Ljava/util/LinkedHashMap$Entry;") ∈ lw_all := lw_g (lw_at lw_m4 72 rfl) rfl
theorem q821 : (Jvm.Cond.fieldLink "java/util/LinkedHashMap$LinkedHashIterator" (36 : Nat) "java/util/LinkedHashMap$LinkedHashIterator" "current" "Ljava/util/LinkedHashMap$Entry;") ∈ lw_all := lw_g (lw_at lw_m4 73 rfl) rfl
theorem q822 : (Jvm.Cond.fieldLink "java/util/LinkedHashMap$LinkedHashIterator" (33 : Nat) "java/util/LinkedHashMap$LinkedHashIterator" "expectedModCount" "I") ∈ lw_all := lw_g (lw_at lw_m4 74 rfl) rfl
theorem q823 : (Jvm.Cond.fieldLink "java/util/LinkedHashMap$LinkedHashIterator" (13 : Nat) "java/util/LinkedHashMap$LinkedHashIterator" "reversed" "Z") ∈ lw_all := lw_g (lw_at lw_m4 75 rfl) rfl
theorem q824 : (Jvm.Cond.fieldLink "java/util/LinkedHashMap$LinkedHashIterator" (1 : Nat) "java/util/LinkedHashMap$LinkedHashIterator" "this$0" "Ljava/util/LinkedHashMap;") ∈ lw_all := lw_g (lw_at lw_m4 76 rfl) rfl
theorem q826 : (Jvm.Cond.soleField "java/util/LinkedHashMap$LinkedHashIterator" "next") ∈ lw_all := lw_g (lw_at lw_m4 78 rfl) rfl
theorem q828 : (Jvm.Cond.soleField "java/util/LinkedHashMap$LinkedHashIterator" "current") ∈ lw_all := lw_g (lw_at lw_m4 80 rfl) rfl
theorem q830 : (Jvm.Cond.soleField "java/util/LinkedHashMap$LinkedHashIterator" "expectedModCount") ∈ lw_all := lw_g (lw_at lw_m4 82 rfl) rfl
theorem q832 : (Jvm.Cond.soleField "java/util/LinkedHashMap$LinkedHashIterator" "reversed") ∈ lw_all := lw_g (lw_at lw_m4 84 rfl) rfl
theorem q834 : (Jvm.Cond.soleField "java/util/LinkedHashMap$LinkedHashIterator" "this$0") ∈ lw_all := lw_g (lw_at lw_m4 86 rfl) rfl
theorem q849 : (Jvm.Cond.instanceMethod ({ cls := "java/util/LinkedHashMap$LinkedHashIterator", name := "hasNext", desc := "()Z" } : Jvm.MethodName)) ∈ lw_all := lw_g (lw_at lw_m4 101 rfl) rfl
theorem q850 : (Jvm.Cond.publicMethod ({ cls := "java/util/LinkedHashMap$LinkedHashIterator", name := "hasNext", desc := "()Z" } : Jvm.MethodName)) ∈ lw_tbl := lw_at lw_m4 102 rfl
theorem q851 : (Jvm.Cond.code ({ cls := "java/util/LinkedHashMap$LinkedHashIterator", name := "hasNext", desc := "()Z" } : Jvm.MethodName) prog_43_method_2_code (1 : Nat) (Option.some Jvm.ClassFile.FieldType.boolean)) ∈ lw_all := lw_g (lw_at lw_m4 103 rfl) rfl
theorem q877 : (Jvm.Cond.declares ({ cls := "java/util/LinkedHashMap$LinkedHashIterator", name := "nextNode", desc := "()Ljava/util/LinkedHashMap$Entry;" } : Jvm.MethodName)) ∈ lw_tbl := lw_at lw_m4 129 rfl
theorem q879 : (Jvm.Cond.instanceMethod ({ cls := "java/util/LinkedHashMap$LinkedHashIterator", name := "nextNode", desc := "()Ljava/util/LinkedHashMap$Entry;" } : Jvm.MethodName)) ∈ lw_all := lw_g (lw_at lw_m4 131 rfl) rfl
theorem q880 : (Jvm.Cond.code ({ cls := "java/util/LinkedHashMap$LinkedHashIterator", name := "nextNode", desc := "()Ljava/util/LinkedHashMap$Entry;" } : Jvm.MethodName) prog_43_method_3_code (2 : Nat) (Option.some (Jvm.ClassFile.FieldType.object "java/util/LinkedHashMap$Entry"))) ∈ lw_all := lw_g (lw_at lw_m4 132 rfl) rfl
/-! J18 -/
def RJ18 : String := "java/util/LinkedHashMap$LinkedEntryIterator"
def TJ18 : u_T := fun k => match k with
  | 0 => ("java/util/LinkedHashMap$LinkedHashIterator", "next", "Ljava/util/LinkedHashMap$Entry;", false)
  | 1 => ("java/util/LinkedHashMap$LinkedHashIterator", "current", "Ljava/util/LinkedHashMap$Entry;", false)
  | 2 => ("java/util/LinkedHashMap$LinkedHashIterator", "expectedModCount", "I", false)
  | 3 => ("java/util/LinkedHashMap$LinkedHashIterator", "reversed", "Z", false)
  | _ => ("java/util/LinkedHashMap$LinkedHashIterator", "this$0", "Ljava/util/LinkedHashMap;", true)
def tyJ18 : Nat → FieldType := fun k => match k with
  | 0 => .object "java/util/LinkedHashMap$Entry"
  | 1 => .object "java/util/LinkedHashMap$Entry"
  | 2 => .int
  | 3 => .boolean
  | _ => .object "java/util/LinkedHashMap"
abbrev wsJ180 : List Cond := u_ws RJ18 TJ18 5
theorem nmJ18 : ∀ a, a < 5 → ∀ b, b < 5 → a ≠ b → (TJ18 a).2.1 ≠ (TJ18 b).2.1 := by decide +kernel
theorem tyJ18_ok : ∀ k, k < 5 → parseFieldDescriptor (TJ18 k).2.2.1 = some (tyJ18 k) := by decide +kernel
theorem q53 : (Jvm.Cond.initialized "java/util/LinkedHashMap$LinkedEntryIterator") ∈ lw_all := lw_g (lw_at lw_m1 25 rfl) rfl
theorem q323 : (Jvm.Cond.selects "java/util/LinkedHashMap$LinkedEntryIterator" ({ cls := "java/lang/Object", name := "getClass", desc := "()Ljava/lang/Class;" } : Jvm.MethodName) ({ cls := "java/lang/Object", name := "getClass", desc := "()Ljava/lang/Class;" } : Jvm.MethodName)) ∈ lw_all := lw_g (lw_at lw_m2 55 rfl) rfl
theorem q812 : (Jvm.Cond.instantiable "java/util/LinkedHashMap$LinkedEntryIterator" (5 : Nat)) ∈ lw_all := lw_g (lw_at lw_m4 64 rfl) rfl
theorem q814 : (Jvm.Cond.instanceMethod ({ cls := "java/util/LinkedHashMap$LinkedEntryIterator", name := "<init>", desc := "(Ljava/util/LinkedHashMap;Z)V" } : Jvm.MethodName)) ∈ lw_all := lw_g (lw_at lw_m4 66 rfl) rfl
theorem q815 : (Jvm.Cond.code ({ cls := "java/util/LinkedHashMap$LinkedEntryIterator", name := "<init>", desc := "(Ljava/util/LinkedHashMap;Z)V" } : Jvm.MethodName) prog_41_method_1_code (3 : Nat) (Option.none : Option Jvm.ClassFile.FieldType)) ∈ lw_all := lw_g (lw_at lw_m4 67 rfl) rfl
theorem q816 : (Jvm.Cond.methodLink "java/util/LinkedHashMap$LinkedEntryIterator" (1 : Nat) ({ cls := "java/util/LinkedHashMap$LinkedHashIterator", name := "<init>", desc := "(Ljava/util/LinkedHashMap;Z)V" } : Jvm.MethodName)) ∈ lw_all := lw_g (lw_at lw_m4 68 rfl) rfl
theorem q825 : (Jvm.Cond.lays "java/util/LinkedHashMap$LinkedEntryIterator" "java/util/LinkedHashMap$LinkedHashIterator" "next" "Ljava/util/LinkedHashMap$Entry;") ∈ lw_all := lw_g (lw_at lw_m4 77 rfl) rfl
theorem q827 : (Jvm.Cond.lays "java/util/LinkedHashMap$LinkedEntryIterator" "java/util/LinkedHashMap$LinkedHashIterator" "current" "Ljava/util/LinkedHashMap$Entry;") ∈ lw_all := lw_g (lw_at lw_m4 79 rfl) rfl
theorem q829 : (Jvm.Cond.lays "java/util/LinkedHashMap$LinkedEntryIterator" "java/util/LinkedHashMap$LinkedHashIterator" "expectedModCount" "I") ∈ lw_all := lw_g (lw_at lw_m4 81 rfl) rfl
theorem q831 : (Jvm.Cond.lays "java/util/LinkedHashMap$LinkedEntryIterator" "java/util/LinkedHashMap$LinkedHashIterator" "reversed" "Z") ∈ lw_all := lw_g (lw_at lw_m4 83 rfl) rfl
theorem q833 : (Jvm.Cond.laysFinal "java/util/LinkedHashMap$LinkedEntryIterator" "java/util/LinkedHashMap$LinkedHashIterator" "this$0" "Ljava/util/LinkedHashMap;") ∈ lw_all := lw_g (lw_at lw_m4 85 rfl) rfl
theorem q835 : (Jvm.Cond.superclass "java/util/LinkedHashMap$LinkedEntryIterator" "java/util/LinkedHashMap$LinkedHashIterator") ∈ lw_all := lw_g (lw_at lw_m4 87 rfl) rfl
theorem q846 : (Jvm.Cond.castable "java/util/LinkedHashMap$LinkedEntryIterator" "java/util/Iterator") ∈ lw_tbl := lw_at lw_m4 98 rfl
theorem q847 : (Jvm.Cond.selects "java/util/LinkedHashMap$LinkedEntryIterator" ({ cls := "java/util/Iterator", name := "hasNext", desc := "()Z" } : Jvm.MethodName) ({ cls := "java/util/LinkedHashMap$LinkedHashIterator", name := "hasNext", desc := "()Z" } : Jvm.MethodName)) ∈ lw_all := lw_g (lw_at lw_m4 99 rfl) rfl
theorem q848 : (Jvm.Cond.unhidden "java/util/LinkedHashMap$LinkedEntryIterator" "hasNext" "()Z") ∈ lw_tbl := lw_at lw_m4 100 rfl
theorem q866 : (Jvm.Cond.selects "java/util/LinkedHashMap$LinkedEntryIterator" ({ cls := "java/util/Iterator", name := "next", desc := "()Ljava/lang/Object;" } : Jvm.MethodName) ({ cls := "java/util/LinkedHashMap$LinkedEntryIterator", name := "next", desc := "()Ljava/lang/Object;" } : Jvm.MethodName)) ∈ lw_all := lw_g (lw_at lw_m4 118 rfl) rfl
theorem q867 : (Jvm.Cond.unhidden "java/util/LinkedHashMap$LinkedEntryIterator" "next" "()Ljava/lang/Object;") ∈ lw_tbl := lw_at lw_m4 119 rfl
theorem q868 : (Jvm.Cond.instanceMethod ({ cls := "java/util/LinkedHashMap$LinkedEntryIterator", name := "next", desc := "()Ljava/lang/Object;" } : Jvm.MethodName)) ∈ lw_all := lw_g (lw_at lw_m4 120 rfl) rfl
theorem q869 : (Jvm.Cond.publicMethod ({ cls := "java/util/LinkedHashMap$LinkedEntryIterator", name := "next", desc := "()Ljava/lang/Object;" } : Jvm.MethodName)) ∈ lw_tbl := lw_at lw_m4 121 rfl
theorem q870 : (Jvm.Cond.code ({ cls := "java/util/LinkedHashMap$LinkedEntryIterator", name := "next", desc := "()Ljava/lang/Object;" } : Jvm.MethodName) prog_41_method_3_code (1 : Nat) (Option.some (Jvm.ClassFile.FieldType.object "java/lang/Object"))) ∈ lw_all := lw_g (lw_at lw_m4 122 rfl) rfl
theorem q871 : (Jvm.Cond.methodLink "java/util/LinkedHashMap$LinkedEntryIterator" (13 : Nat) ({ cls := "java/util/LinkedHashMap$LinkedEntryIterator", name := "next", desc := "()Ljava/util/Map$Entry;" } : Jvm.MethodName)) ∈ lw_all := lw_g (lw_at lw_m4 123 rfl) rfl
theorem q872 : (Jvm.Cond.instanceMethod ({ cls := "java/util/LinkedHashMap$LinkedEntryIterator", name := "next", desc := "()Ljava/util/Map$Entry;" } : Jvm.MethodName)) ∈ lw_all := lw_g (lw_at lw_m4 124 rfl) rfl
theorem q873 : (Jvm.Cond.selects "java/util/LinkedHashMap$LinkedEntryIterator" ({ cls := "java/util/LinkedHashMap$LinkedEntryIterator", name := "next", desc := "()Ljava/util/Map$Entry;" } : Jvm.MethodName) ({ cls := "java/util/LinkedHashMap$LinkedEntryIterator", name := "next", desc := "()Ljava/util/Map$Entry;" } : Jvm.MethodName)) ∈ lw_all := lw_g (lw_at lw_m4 125 rfl) rfl
theorem q874 : (Jvm.Cond.code ({ cls := "java/util/LinkedHashMap$LinkedEntryIterator", name := "next", desc := "()Ljava/util/Map$Entry;" } : Jvm.MethodName) prog_41_method_2_code (1 : Nat) (Option.some (Jvm.ClassFile.FieldType.object "java/util/Map$Entry"))) ∈ lw_all := lw_g (lw_at lw_m4 126 rfl) rfl
theorem q875 : (Jvm.Cond.methodLink "java/util/LinkedHashMap$LinkedEntryIterator" (7 : Nat) ({ cls := "java/util/LinkedHashMap$LinkedEntryIterator", name := "nextNode", desc := "()Ljava/util/LinkedHashMap$Entry;" } : Jvm.MethodName)) ∈ lw_all := lw_g (lw_at lw_m4 127 rfl) rfl
theorem q876 : (Jvm.Cond.sameMethod "java/util/LinkedHashMap$LinkedEntryIterator" "java/util/LinkedHashMap$LinkedHashIterator" "nextNode" "()Ljava/util/LinkedHashMap$Entry;") ∈ lw_all := lw_g (lw_at lw_m4 128 rfl) rfl
theorem q878 : (Jvm.Cond.selects "java/util/LinkedHashMap$LinkedEntryIterator" ({ cls := "java/util/LinkedHashMap$LinkedEntryIterator", name := "nextNode", desc := "()Ljava/util/LinkedHashMap$Entry;" } : Jvm.MethodName) ({ cls := "java/util/LinkedHashMap$LinkedHashIterator", name := "nextNode", desc := "()Ljava/util/LinkedHashMap$Entry;" } : Jvm.MethodName)) ∈ lw_all := lw_g (lw_at lw_m4 130 rfl) rfl
theorem q1364 : (Jvm.Cond.castable "java/util/LinkedHashMap$LinkedEntryIterator" "java/lang/Object") ∈ lw_tbl := lw_at lw_m6 136 rfl
theorem in_J18 : ∀ w ∈ wsJ180, w ∈ lw_all := lw_in wsJ180 [825, 827, 829, 831, 833] (by decide +kernel) (by decide +kernel)
/-! J19 -/
def RJ19 : String := "java/util/AbstractSet"
theorem q55 : (Jvm.Cond.initialized "java/util/AbstractSet") ∈ lw_all := lw_g (lw_at lw_m1 27 rfl) rfl
theorem q918 : (Jvm.Cond.instanceMethod ({ cls := "java/util/AbstractSet", name := "<init>", desc := "()V" } : Jvm.MethodName)) ∈ lw_all := lw_g (lw_at lw_m4 170 rfl) rfl
theorem q919 : (Jvm.Cond.code ({ cls := "java/util/AbstractSet", name := "<init>", desc := "()V" } : Jvm.MethodName) prog_30_method_1_code (1 : Nat) (Option.none : Option Jvm.ClassFile.FieldType)) ∈ lw_all := lw_g (lw_at lw_m4 171 rfl) rfl
theorem q920 : (Jvm.Cond.methodLink "java/util/AbstractSet" (1 : Nat) ({ cls := "java/util/AbstractCollection", name := "<init>", desc := "()V" } : Jvm.MethodName)) ∈ lw_all := lw_g (lw_at lw_m4 172 rfl) rfl
/-! J2 -/
def RJ2 : String := "java/util/ArrayList"
def TJ2 : u_T := fun k => match k with
  | 0 => ("java/util/AbstractList", "modCount", "I", false)
  | 1 => ("java/util/ArrayList", "elementData", "[Ljava/lang/Object;", false)
  | _ => ("java/util/ArrayList", "size", "I", false)
def tyJ2 : Nat → FieldType := fun k => match k with
  | 0 => .int
  | 1 => .array (.object "java/lang/Object")
  | _ => .int
abbrev wsJ20 : List Cond := u_ws RJ2 TJ2 3
theorem nmJ2 : ∀ a, a < 3 → ∀ b, b < 3 → a ≠ b → (TJ2 a).2.1 ≠ (TJ2 b).2.1 := by decide +kernel
theorem tyJ2_ok : ∀ k, k < 3 → parseFieldDescriptor (TJ2 k).2.2.1 = some (tyJ2 k) := by decide +kernel
theorem q32 : (Jvm.Cond.initialized "java/util/ArrayList") ∈ lw_all := lw_g (lw_at lw_m1 4 rfl) rfl
theorem q79 : (Jvm.Cond.instantiable "java/util/ArrayList" (3 : Nat)) ∈ lw_all := lw_g (lw_at lw_m1 51 rfl) rfl
theorem q81 : (Jvm.Cond.instanceMethod ({ cls := "java/util/ArrayList", name := "<init>", desc := "()V" } : Jvm.MethodName)) ∈ lw_all := lw_g (lw_at lw_m1 53 rfl) rfl
theorem q82 : (Jvm.Cond.code ({ cls := "java/util/ArrayList", name := "<init>", desc := "()V" } : Jvm.MethodName) prog_31_method_2_code (1 : Nat) (Option.none : Option Jvm.ClassFile.FieldType)) ∈ lw_all := lw_g (lw_at lw_m1 54 rfl) rfl
theorem q83 : (Jvm.Cond.methodLink "java/util/ArrayList" (1 : Nat) ({ cls := "java/util/AbstractList", name := "<init>", desc := "()V" } : Jvm.MethodName)) ∈ lw_all := lw_g (lw_at lw_m1 55 rfl) rfl
theorem q90 : (Jvm.Cond.fieldLink "java/util/ArrayList" (39 : Nat) "java/util/ArrayList" "DEFAULTCAPACITY_EMPTY_ELEMENTDATA" "[Ljava/lang/Object;") ∈ lw_all := lw_g (lw_at lw_m1 62 rfl) rfl
theorem q91 : (Jvm.Cond.laysStatic "java/util/ArrayList" "DEFAULTCAPACITY_EMPTY_ELEMENTDATA" "[Ljava/lang/Object;") ∈ lw_tbl := lw_at lw_m1 63 rfl
theorem q92 : (Jvm.Cond.fieldLink "java/util/ArrayList" (9 : Nat) "java/util/ArrayList" "elementData" "[Ljava/lang/Object;") ∈ lw_all := lw_g (lw_at lw_m1 64 rfl) rfl
theorem q95 : (Jvm.Cond.fieldLink "java/util/ArrayList" (48 : Nat) "java/util/ArrayList" "size" "I") ∈ lw_all := lw_g (lw_at lw_m1 67 rfl) rfl
theorem q98 : (Jvm.Cond.sameField "java/util/ArrayList" "java/util/AbstractList" "modCount" "I") ∈ lw_all := lw_g (lw_at lw_m1 70 rfl) rfl
theorem q99 : (Jvm.Cond.fieldLink "java/util/ArrayList" (63 : Nat) "java/util/ArrayList" "modCount" "I") ∈ lw_all := lw_g (lw_at lw_m1 71 rfl) rfl
theorem q100 : (Jvm.Cond.lays "java/util/ArrayList" "java/util/ArrayList" "elementData" "[Ljava/lang/Object;") ∈ lw_all := lw_g (lw_at lw_m1 72 rfl) rfl
theorem q101 : (Jvm.Cond.soleField "java/util/ArrayList" "elementData") ∈ lw_all := lw_g (lw_at lw_m1 73 rfl) rfl
theorem q102 : (Jvm.Cond.lays "java/util/ArrayList" "java/util/ArrayList" "size" "I") ∈ lw_all := lw_g (lw_at lw_m1 74 rfl) rfl
theorem q103 : (Jvm.Cond.soleField "java/util/ArrayList" "size") ∈ lw_all := lw_g (lw_at lw_m1 75 rfl) rfl
theorem q104 : (Jvm.Cond.lays "java/util/ArrayList" "java/util/AbstractList" "modCount" "I") ∈ lw_all := lw_g (lw_at lw_m1 76 rfl) rfl
theorem q106 : (Jvm.Cond.superclass "java/util/ArrayList" "java/util/AbstractList") ∈ lw_all := lw_g (lw_at lw_m1 78 rfl) rfl
theorem q275 : (Jvm.Cond.castable "java/util/ArrayList" "java/util/List") ∈ lw_tbl := lw_at lw_m2 7 rfl
theorem q276 : (Jvm.Cond.selects "java/util/ArrayList" ({ cls := "java/util/List", name := "add", desc := "(Ljava/lang/Object;)Z" } : Jvm.MethodName) ({ cls := "java/util/ArrayList", name := "add", desc := "(Ljava/lang/Object;)Z" } : Jvm.MethodName)) ∈ lw_all := lw_g (lw_at lw_m2 8 rfl) rfl
theorem q277 : (Jvm.Cond.unhidden "java/util/ArrayList" "add" "(Ljava/lang/Object;)Z") ∈ lw_tbl := lw_at lw_m2 9 rfl
theorem q278 : (Jvm.Cond.instanceMethod ({ cls := "java/util/ArrayList", name := "add", desc := "(Ljava/lang/Object;)Z" } : Jvm.MethodName)) ∈ lw_all := lw_g (lw_at lw_m2 10 rfl) rfl
theorem q279 : (Jvm.Cond.publicMethod ({ cls := "java/util/ArrayList", name := "add", desc := "(Ljava/lang/Object;)Z" } : Jvm.MethodName)) ∈ lw_tbl := lw_at lw_m2 11 rfl
theorem q280 : (Jvm.Cond.code ({ cls := "java/util/ArrayList", name := "add", desc := "(Ljava/lang/Object;)Z" } : Jvm.MethodName) prog_31_method_25_code (2 : Nat) (Option.some Jvm.ClassFile.FieldType.boolean)) ∈ lw_all := lw_g (lw_at lw_m2 12 rfl) rfl
theorem q281 : (Jvm.Cond.methodLink "java/util/ArrayList" (131 : Nat) ({ cls := "java/util/ArrayList", name := "add", desc := "(Ljava/lang/Object;[Ljava/lang/Object;I)V" } : Jvm.MethodName)) ∈ lw_all := lw_g (lw_at lw_m2 13 rfl) rfl
theorem q282 : (Jvm.Cond.privateMethod ({ cls := "java/util/ArrayList", name := "add", desc := "(Ljava/lang/Object;[Ljava/lang/Object;I)V" } : Jvm.MethodName)) ∈ lw_tbl := lw_at lw_m2 14 rfl
theorem q283 : (Jvm.Cond.instanceMethod ({ cls := "java/util/ArrayList", name := "add", desc := "(Ljava/lang/Object;[Ljava/lang/Object;I)V" } : Jvm.MethodName)) ∈ lw_all := lw_g (lw_at lw_m2 15 rfl) rfl
theorem q284 : (Jvm.Cond.code ({ cls := "java/util/ArrayList", name := "add", desc := "(Ljava/lang/Object;[Ljava/lang/Object;I)V" } : Jvm.MethodName) prog_31_method_24_code (4 : Nat) (Option.none : Option Jvm.ClassFile.FieldType)) ∈ lw_all := lw_g (lw_at lw_m2 16 rfl) rfl
theorem q285 : (Jvm.Cond.methodLink "java/util/ArrayList" (129 : Nat) ({ cls := "java/util/ArrayList", name := "grow", desc := "()[Ljava/lang/Object;" } : Jvm.MethodName)) ∈ lw_all := lw_g (lw_at lw_m2 17 rfl) rfl
theorem q286 : (Jvm.Cond.privateMethod ({ cls := "java/util/ArrayList", name := "grow", desc := "()[Ljava/lang/Object;" } : Jvm.MethodName)) ∈ lw_tbl := lw_at lw_m2 18 rfl
theorem q287 : (Jvm.Cond.instanceMethod ({ cls := "java/util/ArrayList", name := "grow", desc := "()[Ljava/lang/Object;" } : Jvm.MethodName)) ∈ lw_all := lw_g (lw_at lw_m2 19 rfl) rfl
theorem q288 : (Jvm.Cond.code ({ cls := "java/util/ArrayList", name := "grow", desc := "()[Ljava/lang/Object;" } : Jvm.MethodName) prog_31_method_7_code (1 : Nat) (Option.some (Jvm.ClassFile.FieldType.array (Jvm.ClassFile.FieldType.object "java/lang/Object")))) ∈ lw_all := lw_g (lw_at lw_m2 20 rfl) rfl
theorem q289 : (Jvm.Cond.methodLink "java/util/ArrayList" (69 : Nat) ({ cls := "java/util/ArrayList", name := "grow", desc := "(I)[Ljava/lang/Object;" } : Jvm.MethodName)) ∈ lw_all := lw_g (lw_at lw_m2 21 rfl) rfl
theorem q290 : (Jvm.Cond.privateMethod ({ cls := "java/util/ArrayList", name := "grow", desc := "(I)[Ljava/lang/Object;" } : Jvm.MethodName)) ∈ lw_tbl := lw_at lw_m2 22 rfl
theorem q291 : (Jvm.Cond.instanceMethod ({ cls := "java/util/ArrayList", name := "grow", desc := "(I)[Ljava/lang/Object;" } : Jvm.MethodName)) ∈ lw_all := lw_g (lw_at lw_m2 23 rfl) rfl
theorem q292 : (Jvm.Cond.code ({ cls := "java/util/ArrayList", name := "grow", desc := "(I)[Ljava/lang/Object;" } : Jvm.MethodName) prog_31_method_6_code (4 : Nat) (Option.some (Jvm.ClassFile.FieldType.array (Jvm.ClassFile.FieldType.object "java/lang/Object")))) ∈ lw_all := lw_g (lw_at lw_m2 24 rfl) rfl
theorem q293 : (Jvm.Cond.methodLink "java/util/ArrayList" (73 : Nat) ({ cls := "jdk/internal/util/ArraysSupport", name := "newLength", desc := "(III)I" } : Jvm.MethodName)) ∈ lw_all := lw_g (lw_at lw_m2 25 rfl) rfl
theorem q303 : (Jvm.Cond.methodLink "java/util/ArrayList" (66 : Nat) ({ cls := "java/util/Arrays", name := "copyOf", desc := "([Ljava/lang/Object;I)[Ljava/lang/Object;" } : Jvm.MethodName)) ∈ lw_all := lw_g (lw_at lw_m2 35 rfl) rfl
theorem q317 : (Jvm.Cond.selects "java/util/ArrayList" ({ cls := "java/lang/Object", name := "getClass", desc := "()Ljava/lang/Class;" } : Jvm.MethodName) ({ cls := "java/lang/Object", name := "getClass", desc := "()Ljava/lang/Class;" } : Jvm.MethodName)) ∈ lw_all := lw_g (lw_at lw_m2 49 rfl) rfl
theorem q336 : (Jvm.Cond.methodLink "java/util/ArrayList" (79 : Nat) ({ cls := "java/lang/Math", name := "max", desc := "(II)I" } : Jvm.MethodName)) ∈ lw_all := lw_g (lw_at lw_m2 68 rfl) rfl
theorem q337 : (Jvm.Cond.classLink "java/util/ArrayList" (7 : Nat) "java/lang/Object") ∈ lw_all := lw_g (lw_at lw_m2 69 rfl) rfl
theorem q724 : (Jvm.Cond.selects "java/util/ArrayList" ({ cls := "java/util/List", name := "clear", desc := "()V" } : Jvm.MethodName) ({ cls := "java/util/ArrayList", name := "clear", desc := "()V" } : Jvm.MethodName)) ∈ lw_all := lw_g (lw_at lw_m3 216 rfl) rfl
theorem q725 : (Jvm.Cond.unhidden "java/util/ArrayList" "clear" "()V") ∈ lw_tbl := lw_at lw_m3 217 rfl
theorem q726 : (Jvm.Cond.instanceMethod ({ cls := "java/util/ArrayList", name := "clear", desc := "()V" } : Jvm.MethodName)) ∈ lw_all := lw_g (lw_at lw_m3 218 rfl) rfl
theorem q727 : (Jvm.Cond.publicMethod ({ cls := "java/util/ArrayList", name := "clear", desc := "()V" } : Jvm.MethodName)) ∈ lw_tbl := lw_at lw_m3 219 rfl
theorem q728 : (Jvm.Cond.code ({ cls := "java/util/ArrayList", name := "clear", desc := "()V" } : Jvm.MethodName) prog_31_method_40_code (4 : Nat) (Option.none : Option Jvm.ClassFile.FieldType)) ∈ lw_all := lw_g (lw_at lw_m3 220 rfl) rfl
theorem q752 : (Jvm.Cond.selects "java/util/ArrayList" ({ cls := "java/util/List", name := "addAll", desc := "(Ljava/util/Collection;)Z" } : Jvm.MethodName) ({ cls := "java/util/ArrayList", name := "addAll", desc := "(Ljava/util/Collection;)Z" } : Jvm.MethodName)) ∈ lw_all := lw_g (lw_at lw_m4 4 rfl) rfl
theorem q753 : (Jvm.Cond.unhidden "java/util/ArrayList" "addAll" "(Ljava/util/Collection;)Z") ∈ lw_tbl := lw_at lw_m4 5 rfl
theorem q754 : (Jvm.Cond.instanceMethod ({ cls := "java/util/ArrayList", name := "addAll", desc := "(Ljava/util/Collection;)Z" } : Jvm.MethodName)) ∈ lw_all := lw_g (lw_at lw_m4 6 rfl) rfl
theorem q755 : (Jvm.Cond.publicMethod ({ cls := "java/util/ArrayList", name := "addAll", desc := "(Ljava/util/Collection;)Z" } : Jvm.MethodName)) ∈ lw_tbl := lw_at lw_m4 7 rfl
theorem q756 : (Jvm.Cond.code ({ cls := "java/util/ArrayList", name := "addAll", desc := "(Ljava/util/Collection;)Z" } : Jvm.MethodName) prog_31_method_41_code (6 : Nat) (Option.some Jvm.ClassFile.FieldType.boolean)) ∈ lw_all := lw_g (lw_at lw_m4 8 rfl) rfl
theorem q757 : (Jvm.Cond.interfaceEntry "java/util/ArrayList" (42 : Nat)) ∈ lw_tbl := lw_at lw_m4 9 rfl
theorem q758 : (Jvm.Cond.methodLink "java/util/ArrayList" (42 : Nat) ({ cls := "java/util/Collection", name := "toArray", desc := "()[Ljava/lang/Object;" } : Jvm.MethodName)) ∈ lw_all := lw_g (lw_at lw_m4 10 rfl) rfl
theorem q761 : (Jvm.Cond.castable "java/util/ArrayList" "java/util/Collection") ∈ lw_tbl := lw_at lw_m4 13 rfl
theorem q762 : (Jvm.Cond.selects "java/util/ArrayList" ({ cls := "java/util/Collection", name := "toArray", desc := "()[Ljava/lang/Object;" } : Jvm.MethodName) ({ cls := "java/util/ArrayList", name := "toArray", desc := "()[Ljava/lang/Object;" } : Jvm.MethodName)) ∈ lw_all := lw_g (lw_at lw_m4 14 rfl) rfl
theorem q763 : (Jvm.Cond.unhidden "java/util/ArrayList" "toArray" "()[Ljava/lang/Object;") ∈ lw_tbl := lw_at lw_m4 15 rfl
theorem q764 : (Jvm.Cond.instanceMethod ({ cls := "java/util/ArrayList", name := "toArray", desc := "()[Ljava/lang/Object;" } : Jvm.MethodName)) ∈ lw_all := lw_g (lw_at lw_m4 16 rfl) rfl
theorem q765 : (Jvm.Cond.publicMethod ({ cls := "java/util/ArrayList", name := "toArray", desc := "()[Ljava/lang/Object;" } : Jvm.MethodName)) ∈ lw_tbl := lw_at lw_m4 17 rfl
theorem q766 : (Jvm.Cond.code ({ cls := "java/util/ArrayList", name := "toArray", desc := "()[Ljava/lang/Object;" } : Jvm.MethodName) prog_31_method_16_code (1 : Nat) (Option.some (Jvm.ClassFile.FieldType.array (Jvm.ClassFile.FieldType.object "java/lang/Object")))) ∈ lw_all := lw_g (lw_at lw_m4 18 rfl) rfl
theorem q776 : (Jvm.Cond.selects "java/util/ArrayList" ({ cls := "java/util/AbstractCollection", name := "size", desc := "()I" } : Jvm.MethodName) ({ cls := "java/util/ArrayList", name := "size", desc := "()I" } : Jvm.MethodName)) ∈ lw_all := lw_g (lw_at lw_m4 28 rfl) rfl
theorem q777 : (Jvm.Cond.instanceMethod ({ cls := "java/util/ArrayList", name := "size", desc := "()I" } : Jvm.MethodName)) ∈ lw_all := lw_g (lw_at lw_m4 29 rfl) rfl
theorem q778 : (Jvm.Cond.code ({ cls := "java/util/ArrayList", name := "size", desc := "()I" } : Jvm.MethodName) prog_31_method_8_code (1 : Nat) (Option.some Jvm.ClassFile.FieldType.int)) ∈ lw_all := lw_g (lw_at lw_m4 30 rfl) rfl
theorem q786 : (Jvm.Cond.selects "java/util/ArrayList" ({ cls := "java/util/AbstractCollection", name := "iterator", desc := "()Ljava/util/Iterator;" } : Jvm.MethodName) ({ cls := "java/util/ArrayList", name := "iterator", desc := "()Ljava/util/Iterator;" } : Jvm.MethodName)) ∈ lw_all := lw_g (lw_at lw_m4 38 rfl) rfl
theorem q787 : (Jvm.Cond.instanceMethod ({ cls := "java/util/ArrayList", name := "iterator", desc := "()Ljava/util/Iterator;" } : Jvm.MethodName)) ∈ lw_all := lw_g (lw_at lw_m4 39 rfl) rfl
theorem q788 : (Jvm.Cond.code ({ cls := "java/util/ArrayList", name := "iterator", desc := "()Ljava/util/Iterator;" } : Jvm.MethodName) prog_31_method_55_code (1 : Nat) (Option.some (Jvm.ClassFile.FieldType.object "java/util/Iterator"))) ∈ lw_all := lw_g (lw_at lw_m4 40 rfl) rfl
theorem q789 : (Jvm.Cond.classLink "java/util/ArrayList" (267 : Nat) "java/util/ArrayList$Itr") ∈ lw_all := lw_g (lw_at lw_m4 41 rfl) rfl
theorem q791 : (Jvm.Cond.methodLink "java/util/ArrayList" (269 : Nat) ({ cls := "java/util/ArrayList$Itr", name := "<init>", desc := "(Ljava/util/ArrayList;)V" } : Jvm.MethodName)) ∈ lw_all := lw_g (lw_at lw_m4 43 rfl) rfl
theorem q885 : (Jvm.Cond.methodLink "java/util/ArrayList" (112 : Nat) ({ cls := "java/lang/System", name := "arraycopy", desc := "(Ljava/lang/Object;ILjava/lang/Object;II)V" } : Jvm.MethodName)) ∈ lw_all := lw_g (lw_at lw_m4 137 rfl) rfl
theorem q985 : (Jvm.Cond.selects "java/util/ArrayList" ({ cls := "java/util/List", name := "size", desc := "()I" } : Jvm.MethodName) ({ cls := "java/util/ArrayList", name := "size", desc := "()I" } : Jvm.MethodName)) ∈ lw_all := lw_g (lw_at lw_m4 237 rfl) rfl
theorem q986 : (Jvm.Cond.unhidden "java/util/ArrayList" "size" "()I") ∈ lw_tbl := lw_at lw_m4 238 rfl
theorem q987 : (Jvm.Cond.publicMethod ({ cls := "java/util/ArrayList", name := "size", desc := "()I" } : Jvm.MethodName)) ∈ lw_tbl := lw_at lw_m4 239 rfl
theorem q992 : (Jvm.Cond.selects "java/util/ArrayList" ({ cls := "java/util/List", name := "get", desc := "(I)Ljava/lang/Object;" } : Jvm.MethodName) ({ cls := "java/util/ArrayList", name := "get", desc := "(I)Ljava/lang/Object;" } : Jvm.MethodName)) ∈ lw_all := lw_g (lw_at lw_m5 4 rfl) rfl
theorem q993 : (Jvm.Cond.unhidden "java/util/ArrayList" "get" "(I)Ljava/lang/Object;") ∈ lw_tbl := lw_at lw_m5 5 rfl
theorem q994 : (Jvm.Cond.instanceMethod ({ cls := "java/util/ArrayList", name := "get", desc := "(I)Ljava/lang/Object;" } : Jvm.MethodName)) ∈ lw_all := lw_g (lw_at lw_m5 6 rfl) rfl
theorem q995 : (Jvm.Cond.publicMethod ({ cls := "java/util/ArrayList", name := "get", desc := "(I)Ljava/lang/Object;" } : Jvm.MethodName)) ∈ lw_tbl := lw_at lw_m5 7 rfl
theorem q996 : (Jvm.Cond.code ({ cls := "java/util/ArrayList", name := "get", desc := "(I)Ljava/lang/Object;" } : Jvm.MethodName) prog_31_method_20_code (2 : Nat) (Option.some (Jvm.ClassFile.FieldType.object "java/lang/Object"))) ∈ lw_all := lw_g (lw_at lw_m5 8 rfl) rfl
theorem q997 : (Jvm.Cond.methodLink "java/util/ArrayList" (118 : Nat) ({ cls := "java/util/Objects", name := "checkIndex", desc := "(II)I" } : Jvm.MethodName)) ∈ lw_all := lw_g (lw_at lw_m5 9 rfl) rfl
theorem q1003 : (Jvm.Cond.methodLink "java/util/ArrayList" (123 : Nat) ({ cls := "java/util/ArrayList", name := "elementData", desc := "(I)Ljava/lang/Object;" } : Jvm.MethodName)) ∈ lw_all := lw_g (lw_at lw_m5 15 rfl) rfl
theorem q1004 : (Jvm.Cond.instanceMethod ({ cls := "java/util/ArrayList", name := "elementData", desc := "(I)Ljava/lang/Object;" } : Jvm.MethodName)) ∈ lw_all := lw_g (lw_at lw_m5 16 rfl) rfl
theorem q1005 : (Jvm.Cond.selects "java/util/ArrayList" ({ cls := "java/util/ArrayList", name := "elementData", desc := "(I)Ljava/lang/Object;" } : Jvm.MethodName) ({ cls := "java/util/ArrayList", name := "elementData", desc := "(I)Ljava/lang/Object;" } : Jvm.MethodName)) ∈ lw_all := lw_g (lw_at lw_m5 17 rfl) rfl
theorem q1006 : (Jvm.Cond.code ({ cls := "java/util/ArrayList", name := "elementData", desc := "(I)Ljava/lang/Object;" } : Jvm.MethodName) prog_31_method_18_code (2 : Nat) (Option.some (Jvm.ClassFile.FieldType.object "java/lang/Object"))) ∈ lw_all := lw_g (lw_at lw_m5 18 rfl) rfl
theorem q1354 : (Jvm.Cond.castable "java/util/ArrayList" "java/lang/Object") ∈ lw_tbl := lw_at lw_m6 126 rfl
theorem in_J2 : ∀ w ∈ wsJ20, w ∈ lw_all := lw_in wsJ20 [104, 100, 102] (by decide +kernel) (by decide +kernel)
/-! J20 -/
def RJ20 : String := "java/util/LinkedHashMap$LinkedEntrySet"
def TJ20 : u_T := fun k => match k with
  | 0 => ("java/util/LinkedHashMap$LinkedEntrySet", "reversed", "Z", true)
  | _ => ("java/util/LinkedHashMap$LinkedEntrySet", "this$0", "Ljava/util/LinkedHashMap;", true)
def tyJ20 : Nat → FieldType := fun k => match k with
  | 0 => .boolean
  | _ => .object "java/util/LinkedHashMap"
abbrev wsJ200 : List Cond := u_ws RJ20 TJ20 2
theorem nmJ20 : ∀ a, a < 2 → ∀ b, b < 2 → a ≠ b → (TJ20 a).2.1 ≠ (TJ20 b).2.1 := by decide +kernel
theorem tyJ20_ok : ∀ k, k < 2 → parseFieldDescriptor (TJ20 k).2.2.1 = some (tyJ20 k) := by decide +kernel
theorem q56 : (Jvm.Cond.initialized "java/util/LinkedHashMap$LinkedEntrySet") ∈ lw_all := lw_g (lw_at lw_m1 28 rfl) rfl
theorem q130 : (Jvm.Cond.fieldLink "java/util/LinkedHashMap$LinkedEntrySet" (17 : Nat) "java/util/LinkedHashMap" "size" "I") ∈ lw_all := lw_g (lw_at lw_m1 102 rfl) rfl
theorem q324 : (Jvm.Cond.selects "java/util/LinkedHashMap$LinkedEntrySet" ({ cls := "java/lang/Object", name := "getClass", desc := "()Ljava/lang/Class;" } : Jvm.MethodName) ({ cls := "java/lang/Object", name := "getClass", desc := "()Ljava/lang/Class;" } : Jvm.MethodName)) ∈ lw_all := lw_g (lw_at lw_m2 56 rfl) rfl
theorem q767 : (Jvm.Cond.castable "java/util/LinkedHashMap$LinkedEntrySet" "java/util/Collection") ∈ lw_tbl := lw_at lw_m4 19 rfl
theorem q768 : (Jvm.Cond.selects "java/util/LinkedHashMap$LinkedEntrySet" ({ cls := "java/util/Collection", name := "toArray", desc := "()[Ljava/lang/Object;" } : Jvm.MethodName) ({ cls := "java/util/AbstractCollection", name := "toArray", desc := "()[Ljava/lang/Object;" } : Jvm.MethodName)) ∈ lw_all := lw_g (lw_at lw_m4 20 rfl) rfl
theorem q769 : (Jvm.Cond.unhidden "java/util/LinkedHashMap$LinkedEntrySet" "toArray" "()[Ljava/lang/Object;") ∈ lw_tbl := lw_at lw_m4 21 rfl
theorem q779 : (Jvm.Cond.selects "java/util/LinkedHashMap$LinkedEntrySet" ({ cls := "java/util/AbstractCollection", name := "size", desc := "()I" } : Jvm.MethodName) ({ cls := "java/util/LinkedHashMap$LinkedEntrySet", name := "size", desc := "()I" } : Jvm.MethodName)) ∈ lw_all := lw_g (lw_at lw_m4 31 rfl) rfl
theorem q780 : (Jvm.Cond.instanceMethod ({ cls := "java/util/LinkedHashMap$LinkedEntrySet", name := "size", desc := "()I" } : Jvm.MethodName)) ∈ lw_all := lw_g (lw_at lw_m4 32 rfl) rfl
theorem q781 : (Jvm.Cond.code ({ cls := "java/util/LinkedHashMap$LinkedEntrySet", name := "size", desc := "()I" } : Jvm.MethodName) prog_42_method_2_code (1 : Nat) (Option.some Jvm.ClassFile.FieldType.int)) ∈ lw_all := lw_g (lw_at lw_m4 33 rfl) rfl
theorem q808 : (Jvm.Cond.selects "java/util/LinkedHashMap$LinkedEntrySet" ({ cls := "java/util/AbstractCollection", name := "iterator", desc := "()Ljava/util/Iterator;" } : Jvm.MethodName) ({ cls := "java/util/LinkedHashMap$LinkedEntrySet", name := "iterator", desc := "()Ljava/util/Iterator;" } : Jvm.MethodName)) ∈ lw_all := lw_g (lw_at lw_m4 60 rfl) rfl
theorem q809 : (Jvm.Cond.instanceMethod ({ cls := "java/util/LinkedHashMap$LinkedEntrySet", name := "iterator", desc := "()Ljava/util/Iterator;" } : Jvm.MethodName)) ∈ lw_all := lw_g (lw_at lw_m4 61 rfl) rfl
theorem q810 : (Jvm.Cond.code ({ cls := "java/util/LinkedHashMap$LinkedEntrySet", name := "iterator", desc := "()Ljava/util/Iterator;" } : Jvm.MethodName) prog_42_method_4_code (1 : Nat) (Option.some (Jvm.ClassFile.FieldType.object "java/util/Iterator"))) ∈ lw_all := lw_g (lw_at lw_m4 62 rfl) rfl
theorem q811 : (Jvm.Cond.classLink "java/util/LinkedHashMap$LinkedEntrySet" (26 : Nat) "java/util/LinkedHashMap$LinkedEntryIterator") ∈ lw_all := lw_g (lw_at lw_m4 63 rfl) rfl
theorem q813 : (Jvm.Cond.methodLink "java/util/LinkedHashMap$LinkedEntrySet" (28 : Nat) ({ cls := "java/util/LinkedHashMap$LinkedEntryIterator", name := "<init>", desc := "(Ljava/util/LinkedHashMap;Z)V" } : Jvm.MethodName)) ∈ lw_all := lw_g (lw_at lw_m4 65 rfl) rfl
theorem q913 : (Jvm.Cond.instantiable "java/util/LinkedHashMap$LinkedEntrySet" (2 : Nat)) ∈ lw_all := lw_g (lw_at lw_m4 165 rfl) rfl
theorem q915 : (Jvm.Cond.instanceMethod ({ cls := "java/util/LinkedHashMap$LinkedEntrySet", name := "<init>", desc := "(Ljava/util/LinkedHashMap;Z)V" } : Jvm.MethodName)) ∈ lw_all := lw_g (lw_at lw_m4 167 rfl) rfl
theorem q916 : (Jvm.Cond.code ({ cls := "java/util/LinkedHashMap$LinkedEntrySet", name := "<init>", desc := "(Ljava/util/LinkedHashMap;Z)V" } : Jvm.MethodName) prog_42_method_1_code (3 : Nat) (Option.none : Option Jvm.ClassFile.FieldType)) ∈ lw_all := lw_g (lw_at lw_m4 168 rfl) rfl
theorem q917 : (Jvm.Cond.methodLink "java/util/LinkedHashMap$LinkedEntrySet" (7 : Nat) ({ cls := "java/util/AbstractSet", name := "<init>", desc := "()V" } : Jvm.MethodName)) ∈ lw_all := lw_g (lw_at lw_m4 169 rfl) rfl
theorem q921 : (Jvm.Cond.fieldLink "java/util/LinkedHashMap$LinkedEntrySet" (13 : Nat) "java/util/LinkedHashMap$LinkedEntrySet" "reversed" "Z") ∈ lw_all := lw_g (lw_at lw_m4 173 rfl) rfl
theorem q922 : (Jvm.Cond.fieldLink "java/util/LinkedHashMap$LinkedEntrySet" (1 : Nat) "java/util/LinkedHashMap$LinkedEntrySet" "this$0" "Ljava/util/LinkedHashMap;") ∈ lw_all := lw_g (lw_at lw_m4 174 rfl) rfl
theorem q923 : (Jvm.Cond.laysFinal "java/util/LinkedHashMap$LinkedEntrySet" "java/util/LinkedHashMap$LinkedEntrySet" "reversed" "Z") ∈ lw_all := lw_g (lw_at lw_m4 175 rfl) rfl
theorem q924 : (Jvm.Cond.soleField "java/util/LinkedHashMap$LinkedEntrySet" "reversed") ∈ lw_all := lw_g (lw_at lw_m4 176 rfl) rfl
theorem q925 : (Jvm.Cond.laysFinal "java/util/LinkedHashMap$LinkedEntrySet" "java/util/LinkedHashMap$LinkedEntrySet" "this$0" "Ljava/util/LinkedHashMap;") ∈ lw_all := lw_g (lw_at lw_m4 177 rfl) rfl
theorem q926 : (Jvm.Cond.soleField "java/util/LinkedHashMap$LinkedEntrySet" "this$0") ∈ lw_all := lw_g (lw_at lw_m4 178 rfl) rfl
theorem q927 : (Jvm.Cond.superclass "java/util/LinkedHashMap$LinkedEntrySet" "java/util/AbstractSet") ∈ lw_all := lw_g (lw_at lw_m4 179 rfl) rfl
theorem q933 : (Jvm.Cond.castable "java/util/LinkedHashMap$LinkedEntrySet" "java/util/Set") ∈ lw_tbl := lw_at lw_m4 185 rfl
theorem q934 : (Jvm.Cond.selects "java/util/LinkedHashMap$LinkedEntrySet" ({ cls := "java/util/Set", name := "iterator", desc := "()Ljava/util/Iterator;" } : Jvm.MethodName) ({ cls := "java/util/LinkedHashMap$LinkedEntrySet", name := "iterator", desc := "()Ljava/util/Iterator;" } : Jvm.MethodName)) ∈ lw_all := lw_g (lw_at lw_m4 186 rfl) rfl
theorem q935 : (Jvm.Cond.unhidden "java/util/LinkedHashMap$LinkedEntrySet" "iterator" "()Ljava/util/Iterator;") ∈ lw_tbl := lw_at lw_m4 187 rfl
theorem q936 : (Jvm.Cond.publicMethod ({ cls := "java/util/LinkedHashMap$LinkedEntrySet", name := "iterator", desc := "()Ljava/util/Iterator;" } : Jvm.MethodName)) ∈ lw_tbl := lw_at lw_m4 188 rfl
theorem q1348 : (Jvm.Cond.castable "java/util/LinkedHashMap$LinkedEntrySet" "java/util/SequencedSet") ∈ lw_tbl := lw_at lw_m6 120 rfl
theorem q1363 : (Jvm.Cond.castable "java/util/LinkedHashMap$LinkedEntrySet" "java/lang/Object") ∈ lw_tbl := lw_at lw_m6 135 rfl
theorem in_J20 : ∀ w ∈ wsJ200, w ∈ lw_all := lw_in wsJ200 [923, 925] (by decide +kernel) (by decide +kernel)
/-! J21 -/
def RJ21 : String := "java/util/Objects"
theorem q57 : (Jvm.Cond.initialized "java/util/Objects") ∈ lw_all := lw_g (lw_at lw_m1 29 rfl) rfl
theorem q998 : (Jvm.Cond.static ({ cls := "java/util/Objects", name := "checkIndex", desc := "(II)I" } : Jvm.MethodName)) ∈ lw_all := lw_g (lw_at lw_m5 10 rfl) rfl
theorem q999 : (Jvm.Cond.code ({ cls := "java/util/Objects", name := "checkIndex", desc := "(II)I" } : Jvm.MethodName) prog_47_method_17_code (2 : Nat) (Option.some Jvm.ClassFile.FieldType.int)) ∈ lw_all := lw_g (lw_at lw_m5 11 rfl) rfl
theorem q1000 : (Jvm.Cond.methodLink "java/util/Objects" (105 : Nat) ({ cls := "jdk/internal/util/Preconditions", name := "checkIndex", desc := "(IILjava/util/function/BiFunction;)I" } : Jvm.MethodName)) ∈ lw_all := lw_g (lw_at lw_m5 12 rfl) rfl
/-! J22 -/
def RJ22 : String := "jdk/internal/util/Preconditions"
theorem q58 : (Jvm.Cond.initialized "jdk/internal/util/Preconditions") ∈ lw_all := lw_g (lw_at lw_m1 30 rfl) rfl
theorem q1001 : (Jvm.Cond.static ({ cls := "jdk/internal/util/Preconditions", name := "checkIndex", desc := "(IILjava/util/function/BiFunction;)I" } : Jvm.MethodName)) ∈ lw_all := lw_g (lw_at lw_m5 13 rfl) rfl
theorem q1002 : (Jvm.Cond.code ({ cls := "jdk/internal/util/Preconditions", name := "checkIndex", desc := "(IILjava/util/function/BiFunction;)I" } : Jvm.MethodName) prog_54_method_11_code (3 : Nat) (Option.some Jvm.ClassFile.FieldType.int)) ∈ lw_all := lw_g (lw_at lw_m5 14 rfl) rfl
/-! J23 -/
def RJ23 : String := "java/lang/Throwable"
def TJ23 : u_T := fun k => match k with
  | 0 => ("java/lang/Throwable", "cause", "Ljava/lang/Throwable;", false)
  | 1 => ("java/lang/Throwable", "stackTrace", "[Ljava/lang/StackTraceElement;", false)
  | 2 => ("java/lang/Throwable", "suppressedExceptions", "Ljava/util/List;", false)
  | 3 => ("java/lang/Throwable", "detailMessage", "Ljava/lang/String;", false)
  | _ => ("java/lang/Throwable", "backtrace", "Ljava/lang/Object;", false)
def tyJ23 : Nat → FieldType := fun k => match k with
  | 0 => .object "java/lang/Throwable"
  | 1 => .array (.object "java/lang/StackTraceElement")
  | 2 => .object "java/util/List"
  | 3 => .object "java/lang/String"
  | _ => .object "java/lang/Object"
abbrev wsJ230 : List Cond := u_ws RJ23 TJ23 5
theorem nmJ23 : ∀ a, a < 5 → ∀ b, b < 5 → a ≠ b → (TJ23 a).2.1 ≠ (TJ23 b).2.1 := by decide +kernel
theorem tyJ23_ok : ∀ k, k < 5 → parseFieldDescriptor (TJ23 k).2.2.1 = some (tyJ23 k) := by decide +kernel
theorem q59 : (Jvm.Cond.initialized "java/lang/Throwable") ∈ lw_all := lw_g (lw_at lw_m1 31 rfl) rfl
theorem q1083 : (Jvm.Cond.instanceMethod ({ cls := "java/lang/Throwable", name := "<init>", desc := "(Ljava/lang/String;)V" } : Jvm.MethodName)) ∈ lw_all := lw_g (lw_at lw_m5 95 rfl) rfl
theorem q1084 : (Jvm.Cond.code ({ cls := "java/lang/Throwable", name := "<init>", desc := "(Ljava/lang/String;)V" } : Jvm.MethodName) prog_24_method_2_code (2 : Nat) (Option.none : Option Jvm.ClassFile.FieldType)) ∈ lw_all := lw_g (lw_at lw_m5 96 rfl) rfl
theorem q1085 : (Jvm.Cond.methodLink "java/lang/Throwable" (1 : Nat) ({ cls := "java/lang/Object", name := "<init>", desc := "()V" } : Jvm.MethodName)) ∈ lw_all := lw_g (lw_at lw_m5 97 rfl) rfl
theorem q1086 : (Jvm.Cond.fieldLink "java/lang/Throwable" (13 : Nat) "java/lang/Throwable" "UNASSIGNED_STACK" "[Ljava/lang/StackTraceElement;") ∈ lw_all := lw_g (lw_at lw_m5 98 rfl) rfl
theorem q1087 : (Jvm.Cond.laysStatic "java/lang/Throwable" "UNASSIGNED_STACK" "[Ljava/lang/StackTraceElement;") ∈ lw_tbl := lw_at lw_m5 99 rfl
theorem q1088 : (Jvm.Cond.fieldLink "java/lang/Throwable" (20 : Nat) "java/lang/Throwable" "SUPPRESSED_SENTINEL" "Ljava/util/List;") ∈ lw_all := lw_g (lw_at lw_m5 100 rfl) rfl
theorem q1089 : (Jvm.Cond.laysStatic "java/lang/Throwable" "SUPPRESSED_SENTINEL" "Ljava/util/List;") ∈ lw_tbl := lw_at lw_m5 101 rfl
theorem q1090 : (Jvm.Cond.methodLink "java/lang/Throwable" (27 : Nat) ({ cls := "java/lang/Throwable", name := "fillInStackTrace", desc := "()Ljava/lang/Throwable;" } : Jvm.MethodName)) ∈ lw_all := lw_g (lw_at lw_m5 102 rfl) rfl
theorem q1091 : (Jvm.Cond.instanceMethod ({ cls := "java/lang/Throwable", name := "fillInStackTrace", desc := "()Ljava/lang/Throwable;" } : Jvm.MethodName)) ∈ lw_all := lw_g (lw_at lw_m5 103 rfl) rfl
theorem q1092 : (Jvm.Cond.sameMethod "java/lang/Throwable" "java/lang/Throwable" "fillInStackTrace" "()Ljava/lang/Throwable;") ∈ lw_all := lw_g (lw_at lw_m5 104 rfl) rfl
theorem q1094 : (Jvm.Cond.codeSync ({ cls := "java/lang/Throwable", name := "fillInStackTrace", desc := "()Ljava/lang/Throwable;" } : Jvm.MethodName) prog_24_method_18_code (1 : Nat) (Option.some (Jvm.ClassFile.FieldType.object "java/lang/Throwable"))) ∈ lw_all := lw_g (lw_at lw_m5 106 rfl) rfl
theorem q1095 : (Jvm.Cond.methodLink "java/lang/Throwable" (202 : Nat) ({ cls := "java/lang/Throwable", name := "fillInStackTrace", desc := "(I)Ljava/lang/Throwable;" } : Jvm.MethodName)) ∈ lw_all := lw_g (lw_at lw_m5 107 rfl) rfl
theorem q1096 : (Jvm.Cond.privateMethod ({ cls := "java/lang/Throwable", name := "fillInStackTrace", desc := "(I)Ljava/lang/Throwable;" } : Jvm.MethodName)) ∈ lw_tbl := lw_at lw_m5 108 rfl
theorem q1097 : (Jvm.Cond.instanceMethod ({ cls := "java/lang/Throwable", name := "fillInStackTrace", desc := "(I)Ljava/lang/Throwable;" } : Jvm.MethodName)) ∈ lw_all := lw_g (lw_at lw_m5 109 rfl) rfl
theorem q1098 : (Jvm.Cond.instantiable "java/lang/Throwable" (6 : Nat)) ∈ lw_all := lw_g (lw_at lw_m5 110 rfl) rfl
theorem q1099 : (Jvm.Cond.native ({ cls := "java/lang/Throwable", name := "fillInStackTrace", desc := "(I)Ljava/lang/Throwable;" } : Jvm.MethodName)) ∈ lw_all := lw_g (lw_at lw_m5 111 rfl) rfl
theorem q1100 : (Jvm.Cond.fieldLink "java/lang/Throwable" (198 : Nat) "java/lang/Throwable" "backtrace" "Ljava/lang/Object;") ∈ lw_all := lw_g (lw_at lw_m5 112 rfl) rfl
theorem q1101 : (Jvm.Cond.fieldLink "java/lang/Throwable" (31 : Nat) "java/lang/Throwable" "detailMessage" "Ljava/lang/String;") ∈ lw_all := lw_g (lw_at lw_m5 113 rfl) rfl
theorem q1102 : (Jvm.Cond.fieldLink "java/lang/Throwable" (7 : Nat) "java/lang/Throwable" "cause" "Ljava/lang/Throwable;") ∈ lw_all := lw_g (lw_at lw_m5 114 rfl) rfl
theorem q1103 : (Jvm.Cond.fieldLink "java/lang/Throwable" (17 : Nat) "java/lang/Throwable" "stackTrace" "[Ljava/lang/StackTraceElement;") ∈ lw_all := lw_g (lw_at lw_m5 115 rfl) rfl
theorem q1104 : (Jvm.Cond.fieldLink "java/lang/Throwable" (24 : Nat) "java/lang/Throwable" "suppressedExceptions" "Ljava/util/List;") ∈ lw_all := lw_g (lw_at lw_m5 116 rfl) rfl
theorem q1106 : (Jvm.Cond.soleField "java/lang/Throwable" "backtrace") ∈ lw_all := lw_g (lw_at lw_m5 118 rfl) rfl
theorem q1108 : (Jvm.Cond.soleField "java/lang/Throwable" "detailMessage") ∈ lw_all := lw_g (lw_at lw_m5 120 rfl) rfl
theorem q1110 : (Jvm.Cond.soleField "java/lang/Throwable" "cause") ∈ lw_all := lw_g (lw_at lw_m5 122 rfl) rfl
theorem q1112 : (Jvm.Cond.soleField "java/lang/Throwable" "stackTrace") ∈ lw_all := lw_g (lw_at lw_m5 124 rfl) rfl
theorem q1114 : (Jvm.Cond.soleField "java/lang/Throwable" "depth") ∈ lw_all := lw_g (lw_at lw_m5 126 rfl) rfl
theorem q1116 : (Jvm.Cond.soleField "java/lang/Throwable" "suppressedExceptions") ∈ lw_all := lw_g (lw_at lw_m5 128 rfl) rfl
theorem q1125 : (Jvm.Cond.declares ({ cls := "java/lang/Throwable", name := "<init>", desc := "()V" } : Jvm.MethodName)) ∈ lw_tbl := lw_at lw_m5 137 rfl
theorem q1126 : (Jvm.Cond.declares ({ cls := "java/lang/Throwable", name := "<init>", desc := "(Ljava/lang/String;)V" } : Jvm.MethodName)) ∈ lw_tbl := lw_at lw_m5 138 rfl
theorem q1128 : (Jvm.Cond.lays "java/lang/Throwable" "java/lang/Throwable" "cause" "Ljava/lang/Throwable;") ∈ lw_all := lw_g (lw_at lw_m5 140 rfl) rfl
theorem q1129 : (Jvm.Cond.lays "java/lang/Throwable" "java/lang/Throwable" "stackTrace" "[Ljava/lang/StackTraceElement;") ∈ lw_all := lw_g (lw_at lw_m5 141 rfl) rfl
theorem q1130 : (Jvm.Cond.lays "java/lang/Throwable" "java/lang/Throwable" "suppressedExceptions" "Ljava/util/List;") ∈ lw_all := lw_g (lw_at lw_m5 142 rfl) rfl
theorem q1131 : (Jvm.Cond.lays "java/lang/Throwable" "java/lang/Throwable" "detailMessage" "Ljava/lang/String;") ∈ lw_all := lw_g (lw_at lw_m5 143 rfl) rfl
theorem q1132 : (Jvm.Cond.lays "java/lang/Throwable" "java/lang/Throwable" "backtrace" "Ljava/lang/Object;") ∈ lw_all := lw_g (lw_at lw_m5 144 rfl) rfl
theorem q1133 : (Jvm.Cond.fieldLink "java/lang/Throwable" (198 : Nat) "java/lang/Throwable" "backtrace" "Ljava/lang/Object;") ∈ lw_all := lw_g (lw_at lw_m5 145 rfl) rfl
theorem q1134 : (Jvm.Cond.superclass "java/lang/Throwable" "java/lang/Object") ∈ lw_all := lw_g (lw_at lw_m5 146 rfl) rfl
theorem q1135 : (Jvm.Cond.instanceMethod ({ cls := "java/lang/Throwable", name := "<init>", desc := "()V" } : Jvm.MethodName)) ∈ lw_all := lw_g (lw_at lw_m5 147 rfl) rfl
theorem q1136 : (Jvm.Cond.code ({ cls := "java/lang/Throwable", name := "<init>", desc := "()V" } : Jvm.MethodName) prog_24_method_1_code (1 : Nat) (Option.none : Option Jvm.ClassFile.FieldType)) ∈ lw_all := lw_g (lw_at lw_m5 148 rfl) rfl
theorem q1347 : (Jvm.Cond.sameMethod "java/lang/Throwable" "java/lang/Throwable" "fillInStackTrace" "(I)Ljava/lang/Throwable;") ∈ lw_all := lw_g (lw_at lw_m6 119 rfl) rfl
theorem q1367 : (Jvm.Cond.castable "java/lang/Throwable" "java/lang/Object") ∈ lw_tbl := lw_at lw_m6 139 rfl
theorem in_J23 : ∀ w ∈ wsJ230, w ∈ lw_all := lw_in wsJ230 [1128, 1129, 1130, 1131, 1132] (by decide +kernel) (by decide +kernel)
/-! J24 -/
def RJ24 : String := "java/lang/Exception"
theorem q60 : (Jvm.Cond.initialized "java/lang/Exception") ∈ lw_all := lw_g (lw_at lw_m1 32 rfl) rfl
theorem q1080 : (Jvm.Cond.instanceMethod ({ cls := "java/lang/Exception", name := "<init>", desc := "(Ljava/lang/String;)V" } : Jvm.MethodName)) ∈ lw_all := lw_g (lw_at lw_m5 92 rfl) rfl
theorem q1081 : (Jvm.Cond.code ({ cls := "java/lang/Exception", name := "<init>", desc := "(Ljava/lang/String;)V" } : Jvm.MethodName) prog_13_method_2_code (2 : Nat) (Option.none : Option Jvm.ClassFile.FieldType)) ∈ lw_all := lw_g (lw_at lw_m5 93 rfl) rfl
theorem q1082 : (Jvm.Cond.methodLink "java/lang/Exception" (7 : Nat) ({ cls := "java/lang/Throwable", name := "<init>", desc := "(Ljava/lang/String;)V" } : Jvm.MethodName)) ∈ lw_all := lw_g (lw_at lw_m5 94 rfl) rfl
theorem q1123 : (Jvm.Cond.declares ({ cls := "java/lang/Exception", name := "<init>", desc := "()V" } : Jvm.MethodName)) ∈ lw_tbl := lw_at lw_m5 135 rfl
theorem q1124 : (Jvm.Cond.declares ({ cls := "java/lang/Exception", name := "<init>", desc := "(Ljava/lang/String;)V" } : Jvm.MethodName)) ∈ lw_tbl := lw_at lw_m5 136 rfl
/-! J25 -/
def RJ25 : String := "java/lang/RuntimeException"
theorem q61 : (Jvm.Cond.initialized "java/lang/RuntimeException") ∈ lw_all := lw_g (lw_at lw_m1 33 rfl) rfl
theorem q1077 : (Jvm.Cond.instanceMethod ({ cls := "java/lang/RuntimeException", name := "<init>", desc := "(Ljava/lang/String;)V" } : Jvm.MethodName)) ∈ lw_all := lw_g (lw_at lw_m5 89 rfl) rfl
theorem q1078 : (Jvm.Cond.code ({ cls := "java/lang/RuntimeException", name := "<init>", desc := "(Ljava/lang/String;)V" } : Jvm.MethodName) prog_21_method_2_code (2 : Nat) (Option.none : Option Jvm.ClassFile.FieldType)) ∈ lw_all := lw_g (lw_at lw_m5 90 rfl) rfl
theorem q1079 : (Jvm.Cond.methodLink "java/lang/RuntimeException" (7 : Nat) ({ cls := "java/lang/Exception", name := "<init>", desc := "(Ljava/lang/String;)V" } : Jvm.MethodName)) ∈ lw_all := lw_g (lw_at lw_m5 91 rfl) rfl
theorem q1121 : (Jvm.Cond.declares ({ cls := "java/lang/RuntimeException", name := "<init>", desc := "()V" } : Jvm.MethodName)) ∈ lw_tbl := lw_at lw_m5 133 rfl
theorem q1122 : (Jvm.Cond.declares ({ cls := "java/lang/RuntimeException", name := "<init>", desc := "(Ljava/lang/String;)V" } : Jvm.MethodName)) ∈ lw_tbl := lw_at lw_m5 134 rfl
/-! J26 -/
def RJ26 : String := "java/lang/IndexOutOfBoundsException"
theorem q62 : (Jvm.Cond.initialized "java/lang/IndexOutOfBoundsException") ∈ lw_all := lw_g (lw_at lw_m1 34 rfl) rfl
theorem q1074 : (Jvm.Cond.instanceMethod ({ cls := "java/lang/IndexOutOfBoundsException", name := "<init>", desc := "(Ljava/lang/String;)V" } : Jvm.MethodName)) ∈ lw_all := lw_g (lw_at lw_m5 86 rfl) rfl
theorem q1075 : (Jvm.Cond.code ({ cls := "java/lang/IndexOutOfBoundsException", name := "<init>", desc := "(Ljava/lang/String;)V" } : Jvm.MethodName) prog_14_method_2_code (2 : Nat) (Option.none : Option Jvm.ClassFile.FieldType)) ∈ lw_all := lw_g (lw_at lw_m5 87 rfl) rfl
theorem q1076 : (Jvm.Cond.methodLink "java/lang/IndexOutOfBoundsException" (7 : Nat) ({ cls := "java/lang/RuntimeException", name := "<init>", desc := "(Ljava/lang/String;)V" } : Jvm.MethodName)) ∈ lw_all := lw_g (lw_at lw_m5 88 rfl) rfl
theorem q1119 : (Jvm.Cond.declares ({ cls := "java/lang/IndexOutOfBoundsException", name := "<init>", desc := "()V" } : Jvm.MethodName)) ∈ lw_tbl := lw_at lw_m5 131 rfl
theorem q1120 : (Jvm.Cond.declares ({ cls := "java/lang/IndexOutOfBoundsException", name := "<init>", desc := "(Ljava/lang/String;)V" } : Jvm.MethodName)) ∈ lw_tbl := lw_at lw_m5 132 rfl
/-! J27 -/
def RJ27 : String := "java/lang/ArrayIndexOutOfBoundsException"
def TJ27 : u_T := fun k => match k with
  | 0 => ("java/lang/Throwable", "backtrace", "Ljava/lang/Object;", false)
  | 1 => ("java/lang/Throwable", "detailMessage", "Ljava/lang/String;", false)
  | 2 => ("java/lang/Throwable", "cause", "Ljava/lang/Throwable;", false)
  | 3 => ("java/lang/Throwable", "stackTrace", "[Ljava/lang/StackTraceElement;", false)
  | 4 => ("java/lang/Throwable", "depth", "I", false)
  | _ => ("java/lang/Throwable", "suppressedExceptions", "Ljava/util/List;", false)
def tyJ27 : Nat → FieldType := fun k => match k with
  | 0 => .object "java/lang/Object"
  | 1 => .object "java/lang/String"
  | 2 => .object "java/lang/Throwable"
  | 3 => .array (.object "java/lang/StackTraceElement")
  | 4 => .int
  | _ => .object "java/util/List"
abbrev wsJ270 : List Cond := u_ws RJ27 TJ27 6
theorem nmJ27 : ∀ a, a < 6 → ∀ b, b < 6 → a ≠ b → (TJ27 a).2.1 ≠ (TJ27 b).2.1 := by decide +kernel
theorem tyJ27_ok : ∀ k, k < 6 → parseFieldDescriptor (TJ27 k).2.2.1 = some (tyJ27 k) := by decide +kernel
theorem q63 : (Jvm.Cond.initialized "java/lang/ArrayIndexOutOfBoundsException") ∈ lw_all := lw_g (lw_at lw_m1 35 rfl) rfl
theorem q314 : (Jvm.Cond.selects "java/lang/ArrayIndexOutOfBoundsException" ({ cls := "java/lang/Object", name := "getClass", desc := "()Ljava/lang/Class;" } : Jvm.MethodName) ({ cls := "java/lang/Object", name := "getClass", desc := "()Ljava/lang/Class;" } : Jvm.MethodName)) ∈ lw_all := lw_g (lw_at lw_m2 46 rfl) rfl
theorem q392 : (Jvm.Cond.selects "java/lang/ArrayIndexOutOfBoundsException" ({ cls := "java/lang/Object", name := "hashCode", desc := "()I" } : Jvm.MethodName) ({ cls := "java/lang/Object", name := "hashCode", desc := "()I" } : Jvm.MethodName)) ∈ lw_all := lw_g (lw_at lw_m2 124 rfl) rfl
theorem q426 : (Jvm.Cond.selects "java/lang/ArrayIndexOutOfBoundsException" ({ cls := "java/lang/Object", name := "equals", desc := "(Ljava/lang/Object;)Z" } : Jvm.MethodName) ({ cls := "java/lang/Object", name := "equals", desc := "(Ljava/lang/Object;)Z" } : Jvm.MethodName)) ∈ lw_all := lw_g (lw_at lw_m2 158 rfl) rfl
theorem q1070 : (Jvm.Cond.instantiable "java/lang/ArrayIndexOutOfBoundsException" (6 : Nat)) ∈ lw_all := lw_g (lw_at lw_m5 82 rfl) rfl
theorem q1071 : (Jvm.Cond.instanceMethod ({ cls := "java/lang/ArrayIndexOutOfBoundsException", name := "<init>", desc := "(Ljava/lang/String;)V" } : Jvm.MethodName)) ∈ lw_all := lw_g (lw_at lw_m5 83 rfl) rfl
theorem q1072 : (Jvm.Cond.code ({ cls := "java/lang/ArrayIndexOutOfBoundsException", name := "<init>", desc := "(Ljava/lang/String;)V" } : Jvm.MethodName) prog_9_method_2_code (2 : Nat) (Option.none : Option Jvm.ClassFile.FieldType)) ∈ lw_all := lw_g (lw_at lw_m5 84 rfl) rfl
theorem q1073 : (Jvm.Cond.methodLink "java/lang/ArrayIndexOutOfBoundsException" (7 : Nat) ({ cls := "java/lang/IndexOutOfBoundsException", name := "<init>", desc := "(Ljava/lang/String;)V" } : Jvm.MethodName)) ∈ lw_all := lw_g (lw_at lw_m5 85 rfl) rfl
theorem q1093 : (Jvm.Cond.selects "java/lang/ArrayIndexOutOfBoundsException" ({ cls := "java/lang/Throwable", name := "fillInStackTrace", desc := "()Ljava/lang/Throwable;" } : Jvm.MethodName) ({ cls := "java/lang/Throwable", name := "fillInStackTrace", desc := "()Ljava/lang/Throwable;" } : Jvm.MethodName)) ∈ lw_all := lw_g (lw_at lw_m5 105 rfl) rfl
theorem q1105 : (Jvm.Cond.lays "java/lang/ArrayIndexOutOfBoundsException" "java/lang/Throwable" "backtrace" "Ljava/lang/Object;") ∈ lw_all := lw_g (lw_at lw_m5 117 rfl) rfl
theorem q1107 : (Jvm.Cond.lays "java/lang/ArrayIndexOutOfBoundsException" "java/lang/Throwable" "detailMessage" "Ljava/lang/String;") ∈ lw_all := lw_g (lw_at lw_m5 119 rfl) rfl
theorem q1109 : (Jvm.Cond.lays "java/lang/ArrayIndexOutOfBoundsException" "java/lang/Throwable" "cause" "Ljava/lang/Throwable;") ∈ lw_all := lw_g (lw_at lw_m5 121 rfl) rfl
theorem q1111 : (Jvm.Cond.lays "java/lang/ArrayIndexOutOfBoundsException" "java/lang/Throwable" "stackTrace" "[Ljava/lang/StackTraceElement;") ∈ lw_all := lw_g (lw_at lw_m5 123 rfl) rfl
theorem q1113 : (Jvm.Cond.lays "java/lang/ArrayIndexOutOfBoundsException" "java/lang/Throwable" "depth" "I") ∈ lw_all := lw_g (lw_at lw_m5 125 rfl) rfl
theorem q1115 : (Jvm.Cond.lays "java/lang/ArrayIndexOutOfBoundsException" "java/lang/Throwable" "suppressedExceptions" "Ljava/util/List;") ∈ lw_all := lw_g (lw_at lw_m5 127 rfl) rfl
theorem q1117 : (Jvm.Cond.superclass "java/lang/ArrayIndexOutOfBoundsException" "java/lang/IndexOutOfBoundsException") ∈ lw_all := lw_g (lw_at lw_m5 129 rfl) rfl
theorem q1118 : (Jvm.Cond.castable "java/lang/ArrayIndexOutOfBoundsException" "java/lang/ArrayIndexOutOfBoundsException") ∈ lw_tbl := lw_at lw_m5 130 rfl
theorem q1127 : (Jvm.Cond.selects "java/lang/ArrayIndexOutOfBoundsException" ({ cls := "java/lang/Throwable", name := "fillInStackTrace", desc := "(I)Ljava/lang/Throwable;" } : Jvm.MethodName) ({ cls := "java/lang/Throwable", name := "fillInStackTrace", desc := "(I)Ljava/lang/Throwable;" } : Jvm.MethodName)) ∈ lw_all := lw_g (lw_at lw_m5 139 rfl) rfl
theorem q1366 : (Jvm.Cond.castable "java/lang/ArrayIndexOutOfBoundsException" "java/lang/Object") ∈ lw_tbl := lw_at lw_m6 138 rfl
theorem in_J27 : ∀ w ∈ wsJ270, w ∈ lw_all := lw_in wsJ270 [1105, 1107, 1109, 1111, 1113, 1115] (by decide +kernel) (by decide +kernel)
/-! J28 -/
def RJ28 : String := "java/lang/String"
def TJ28 : u_T := fun k => match k with
  | 0 => ("java/lang/String", "value", "[B", true)
  | _ => ("java/lang/String", "coder", "B", true)
def tyJ28 : Nat → FieldType := fun k => match k with
  | 0 => .array .byte
  | _ => .byte
abbrev wsJ280 : List Cond := u_ws RJ28 TJ28 2
theorem nmJ28 : ∀ a, a < 2 → ∀ b, b < 2 → a ≠ b → (TJ28 a).2.1 ≠ (TJ28 b).2.1 := by decide +kernel
theorem tyJ28_ok : ∀ k, k < 2 → parseFieldDescriptor (TJ28 k).2.2.1 = some (tyJ28 k) := by decide +kernel
theorem q64 : (Jvm.Cond.initialized "java/lang/String") ∈ lw_all := lw_g (lw_at lw_m1 36 rfl) rfl
theorem q1137 : (Jvm.Cond.instantiable "java/lang/String" (4 : Nat)) ∈ lw_all := lw_g (lw_at lw_m5 149 rfl) rfl
theorem q1139 : (Jvm.Cond.laysFinal "java/lang/String" "java/lang/String" "value" "[B") ∈ lw_all := lw_g (lw_at lw_m5 151 rfl) rfl
theorem q1140 : (Jvm.Cond.soleField "java/lang/String" "value") ∈ lw_all := lw_g (lw_at lw_m5 152 rfl) rfl
theorem q1141 : (Jvm.Cond.laysFinal "java/lang/String" "java/lang/String" "coder" "B") ∈ lw_all := lw_g (lw_at lw_m5 153 rfl) rfl
theorem q1142 : (Jvm.Cond.soleField "java/lang/String" "coder") ∈ lw_all := lw_g (lw_at lw_m5 154 rfl) rfl
theorem q1352 : (Jvm.Cond.castable "java/lang/String" "java/lang/Comparable") ∈ lw_tbl := lw_at lw_m6 124 rfl
theorem q1368 : (Jvm.Cond.castable "java/lang/String" "java/lang/Object") ∈ lw_tbl := lw_at lw_m6 140 rfl
theorem in_J28 : ∀ w ∈ wsJ280, w ∈ lw_all := lw_in wsJ280 [1139, 1141] (by decide +kernel) (by decide +kernel)
/-! J29 -/
def RJ29 : String := "java/lang/Object"
theorem q71 : (Jvm.Cond.instanceMethod ({ cls := "java/lang/Object", name := "<init>", desc := "()V" } : Jvm.MethodName)) ∈ lw_all := lw_g (lw_at lw_m1 43 rfl) rfl
theorem q72 : (Jvm.Cond.code ({ cls := "java/lang/Object", name := "<init>", desc := "()V" } : Jvm.MethodName) object_method_1_code (1 : Nat) (Option.none : Option Jvm.ClassFile.FieldType)) ∈ lw_all := lw_g (lw_at lw_m1 44 rfl) rfl
theorem q307 : (Jvm.Cond.instanceMethod ({ cls := "java/lang/Object", name := "getClass", desc := "()Ljava/lang/Class;" } : Jvm.MethodName)) ∈ lw_all := lw_g (lw_at lw_m2 39 rfl) rfl
theorem q308 : (Jvm.Cond.sameMethod "java/lang/Object" "java/lang/Object" "getClass" "()Ljava/lang/Class;") ∈ lw_all := lw_g (lw_at lw_m2 40 rfl) rfl
theorem q325 : (Jvm.Cond.native ({ cls := "java/lang/Object", name := "getClass", desc := "()Ljava/lang/Class;" } : Jvm.MethodName)) ∈ lw_all := lw_g (lw_at lw_m2 57 rfl) rfl
theorem q377 : (Jvm.Cond.declares ({ cls := "java/lang/Object", name := "hashCode", desc := "()I" } : Jvm.MethodName)) ∈ lw_tbl := lw_at lw_m2 109 rfl
theorem q379 : (Jvm.Cond.instanceMethod ({ cls := "java/lang/Object", name := "hashCode", desc := "()I" } : Jvm.MethodName)) ∈ lw_all := lw_g (lw_at lw_m2 111 rfl) rfl
theorem q380 : (Jvm.Cond.sameMethod "java/lang/Object" "java/lang/Object" "hashCode" "()I") ∈ lw_all := lw_g (lw_at lw_m2 112 rfl) rfl
theorem q405 : (Jvm.Cond.native ({ cls := "java/lang/Object", name := "hashCode", desc := "()I" } : Jvm.MethodName)) ∈ lw_all := lw_g (lw_at lw_m2 137 rfl) rfl
theorem q411 : (Jvm.Cond.declares ({ cls := "java/lang/Object", name := "equals", desc := "(Ljava/lang/Object;)Z" } : Jvm.MethodName)) ∈ lw_tbl := lw_at lw_m2 143 rfl
theorem q413 : (Jvm.Cond.instanceMethod ({ cls := "java/lang/Object", name := "equals", desc := "(Ljava/lang/Object;)Z" } : Jvm.MethodName)) ∈ lw_all := lw_g (lw_at lw_m2 145 rfl) rfl
theorem q414 : (Jvm.Cond.sameMethod "java/lang/Object" "java/lang/Object" "equals" "(Ljava/lang/Object;)Z") ∈ lw_all := lw_g (lw_at lw_m2 146 rfl) rfl
theorem q442 : (Jvm.Cond.code ({ cls := "java/lang/Object", name := "equals", desc := "(Ljava/lang/Object;)Z" } : Jvm.MethodName) object_method_4_code (2 : Nat) (Option.some Jvm.ClassFile.FieldType.boolean)) ∈ lw_all := lw_g (lw_at lw_m2 174 rfl) rfl
theorem q1373 : (Jvm.Cond.declares ({ cls := "java/lang/Object", name := "getClass", desc := "()Ljava/lang/Class;" } : Jvm.MethodName)) ∈ lw_tbl := lw_at lw_m6 145 rfl
/-! J3 -/
def RJ3 : String := "java/util/AbstractMap"
theorem q33 : (Jvm.Cond.initialized "java/util/AbstractMap") ∈ lw_all := lw_g (lw_at lw_m1 5 rfl) rfl
theorem q117 : (Jvm.Cond.instanceMethod ({ cls := "java/util/AbstractMap", name := "<init>", desc := "()V" } : Jvm.MethodName)) ∈ lw_all := lw_g (lw_at lw_m1 89 rfl) rfl
theorem q118 : (Jvm.Cond.code ({ cls := "java/util/AbstractMap", name := "<init>", desc := "()V" } : Jvm.MethodName) prog_29_method_1_code (1 : Nat) (Option.none : Option Jvm.ClassFile.FieldType)) ∈ lw_all := lw_g (lw_at lw_m1 90 rfl) rfl
theorem q119 : (Jvm.Cond.methodLink "java/util/AbstractMap" (1 : Nat) ({ cls := "java/lang/Object", name := "<init>", desc := "()V" } : Jvm.MethodName)) ∈ lw_all := lw_g (lw_at lw_m1 91 rfl) rfl
theorem q160 : (Jvm.Cond.soleField "java/util/AbstractMap" "keySet") ∈ lw_all := lw_g (lw_at lw_m1 132 rfl) rfl
theorem q162 : (Jvm.Cond.soleField "java/util/AbstractMap" "values") ∈ lw_all := lw_g (lw_at lw_m1 134 rfl) rfl
/-! J4 -/
def RJ4 : String := "java/util/HashMap"
theorem q34 : (Jvm.Cond.initialized "java/util/HashMap") ∈ lw_all := lw_g (lw_at lw_m1 6 rfl) rfl
theorem q114 : (Jvm.Cond.instanceMethod ({ cls := "java/util/HashMap", name := "<init>", desc := "()V" } : Jvm.MethodName)) ∈ lw_all := lw_g (lw_at lw_m1 86 rfl) rfl
theorem q115 : (Jvm.Cond.code ({ cls := "java/util/HashMap", name := "<init>", desc := "()V" } : Jvm.MethodName) prog_35_method_7_code (1 : Nat) (Option.none : Option Jvm.ClassFile.FieldType)) ∈ lw_all := lw_g (lw_at lw_m1 87 rfl) rfl
theorem q116 : (Jvm.Cond.methodLink "java/util/HashMap" (43 : Nat) ({ cls := "java/util/AbstractMap", name := "<init>", desc := "()V" } : Jvm.MethodName)) ∈ lw_all := lw_g (lw_at lw_m1 88 rfl) rfl
theorem q120 : (Jvm.Cond.constantFloat "java/util/HashMap" (92 : Nat) (1061158912 : UInt32)) ∈ lw_all := lw_g (lw_at lw_m1 92 rfl) rfl
theorem q127 : (Jvm.Cond.fieldLink "java/util/HashMap" (105 : Nat) "java/util/HashMap" "table" "[Ljava/util/HashMap$Node;") ∈ lw_all := lw_g (lw_at lw_m1 99 rfl) rfl
theorem q132 : (Jvm.Cond.fieldLink "java/util/HashMap" (156 : Nat) "java/util/HashMap" "size" "I") ∈ lw_all := lw_g (lw_at lw_m1 104 rfl) rfl
theorem q136 : (Jvm.Cond.fieldLink "java/util/HashMap" (202 : Nat) "java/util/HashMap" "modCount" "I") ∈ lw_all := lw_g (lw_at lw_m1 108 rfl) rfl
theorem q137 : (Jvm.Cond.fieldLink "java/util/HashMap" (88 : Nat) "java/util/HashMap" "threshold" "I") ∈ lw_all := lw_g (lw_at lw_m1 109 rfl) rfl
theorem q138 : (Jvm.Cond.fieldLink "java/util/HashMap" (81 : Nat) "java/util/HashMap" "loadFactor" "F") ∈ lw_all := lw_g (lw_at lw_m1 110 rfl) rfl
theorem q148 : (Jvm.Cond.soleField "java/util/HashMap" "table") ∈ lw_all := lw_g (lw_at lw_m1 120 rfl) rfl
theorem q150 : (Jvm.Cond.soleField "java/util/HashMap" "entrySet") ∈ lw_all := lw_g (lw_at lw_m1 122 rfl) rfl
theorem q152 : (Jvm.Cond.soleField "java/util/HashMap" "size") ∈ lw_all := lw_g (lw_at lw_m1 124 rfl) rfl
theorem q154 : (Jvm.Cond.soleField "java/util/HashMap" "modCount") ∈ lw_all := lw_g (lw_at lw_m1 126 rfl) rfl
theorem q156 : (Jvm.Cond.soleField "java/util/HashMap" "threshold") ∈ lw_all := lw_g (lw_at lw_m1 128 rfl) rfl
theorem q158 : (Jvm.Cond.soleField "java/util/HashMap" "loadFactor") ∈ lw_all := lw_g (lw_at lw_m1 130 rfl) rfl
theorem q370 : (Jvm.Cond.declares ({ cls := "java/util/HashMap", name := "remove", desc := "(Ljava/lang/Object;)Ljava/lang/Object;" } : Jvm.MethodName)) ∈ lw_tbl := lw_at lw_m2 102 rfl
theorem q372 : (Jvm.Cond.instanceMethod ({ cls := "java/util/HashMap", name := "remove", desc := "(Ljava/lang/Object;)Ljava/lang/Object;" } : Jvm.MethodName)) ∈ lw_all := lw_g (lw_at lw_m2 104 rfl) rfl
theorem q373 : (Jvm.Cond.code ({ cls := "java/util/HashMap", name := "remove", desc := "(Ljava/lang/Object;)Ljava/lang/Object;" } : Jvm.MethodName) prog_35_method_20_code (3 : Nat) (Option.some (Jvm.ClassFile.FieldType.object "java/lang/Object"))) ∈ lw_all := lw_g (lw_at lw_m2 105 rfl) rfl
theorem q374 : (Jvm.Cond.methodLink "java/util/HashMap" (149 : Nat) ({ cls := "java/util/HashMap", name := "hash", desc := "(Ljava/lang/Object;)I" } : Jvm.MethodName)) ∈ lw_all := lw_g (lw_at lw_m2 106 rfl) rfl
theorem q375 : (Jvm.Cond.static ({ cls := "java/util/HashMap", name := "hash", desc := "(Ljava/lang/Object;)I" } : Jvm.MethodName)) ∈ lw_all := lw_g (lw_at lw_m2 107 rfl) rfl
theorem q376 : (Jvm.Cond.code ({ cls := "java/util/HashMap", name := "hash", desc := "(Ljava/lang/Object;)I" } : Jvm.MethodName) prog_35_method_1_code (2 : Nat) (Option.some Jvm.ClassFile.FieldType.int)) ∈ lw_all := lw_g (lw_at lw_m2 108 rfl) rfl
theorem q378 : (Jvm.Cond.methodLink "java/util/HashMap" (1 : Nat) ({ cls := "java/lang/Object", name := "hashCode", desc := "()I" } : Jvm.MethodName)) ∈ lw_all := lw_g (lw_at lw_m2 110 rfl) rfl
theorem q406 : (Jvm.Cond.methodLink "java/util/HashMap" (228 : Nat) ({ cls := "java/util/HashMap", name := "removeNode", desc := "(ILjava/lang/Object;Ljava/lang/Object;ZZ)Ljava/util/HashMap$Node;" } : Jvm.MethodName)) ∈ lw_all := lw_g (lw_at lw_m2 138 rfl) rfl
theorem q407 : (Jvm.Cond.instanceMethod ({ cls := "java/util/HashMap", name := "removeNode", desc := "(ILjava/lang/Object;Ljava/lang/Object;ZZ)Ljava/util/HashMap$Node;" } : Jvm.MethodName)) ∈ lw_all := lw_g (lw_at lw_m2 139 rfl) rfl
theorem q408 : (Jvm.Cond.sameMethod "java/util/HashMap" "java/util/HashMap" "removeNode" "(ILjava/lang/Object;Ljava/lang/Object;ZZ)Ljava/util/HashMap$Node;") ∈ lw_all := lw_g (lw_at lw_m2 140 rfl) rfl
theorem q410 : (Jvm.Cond.code ({ cls := "java/util/HashMap", name := "removeNode", desc := "(ILjava/lang/Object;Ljava/lang/Object;ZZ)Ljava/util/HashMap$Node;" } : Jvm.MethodName) prog_35_method_21_code (14 : Nat) (Option.some (Jvm.ClassFile.FieldType.object "java/util/HashMap$Node"))) ∈ lw_all := lw_g (lw_at lw_m2 142 rfl) rfl
theorem q412 : (Jvm.Cond.methodLink "java/util/HashMap" (173 : Nat) ({ cls := "java/lang/Object", name := "equals", desc := "(Ljava/lang/Object;)Z" } : Jvm.MethodName)) ∈ lw_all := lw_g (lw_at lw_m2 144 rfl) rfl
theorem q443 : (Jvm.Cond.classLink "java/util/HashMap" (180 : Nat) "java/util/HashMap$TreeNode") ∈ lw_all := lw_g (lw_at lw_m2 175 rfl) rfl
theorem q444 : (Jvm.Cond.methodLink "java/util/HashMap" (182 : Nat) ({ cls := "java/util/HashMap$TreeNode", name := "getTreeNode", desc := "(ILjava/lang/Object;)Ljava/util/HashMap$TreeNode;" } : Jvm.MethodName)) ∈ lw_all := lw_g (lw_at lw_m2 176 rfl) rfl
theorem q458 : (Jvm.Cond.static ({ cls := "java/util/HashMap", name := "comparableClassFor", desc := "(Ljava/lang/Object;)Ljava/lang/Class;" } : Jvm.MethodName)) ∈ lw_all := lw_g (lw_at lw_m2 190 rfl) rfl
theorem q459 : (Jvm.Cond.code ({ cls := "java/util/HashMap", name := "comparableClassFor", desc := "(Ljava/lang/Object;)Ljava/lang/Class;" } : Jvm.MethodName) prog_35_method_2_code (9 : Nat) (Option.some (Jvm.ClassFile.FieldType.object "java/lang/Class"))) ∈ lw_all := lw_g (lw_at lw_m2 191 rfl) rfl
theorem q460 : (Jvm.Cond.classLink "java/util/HashMap" (7 : Nat) "java/lang/Comparable") ∈ lw_all := lw_g (lw_at lw_m2 192 rfl) rfl
theorem q461 : (Jvm.Cond.methodLink "java/util/HashMap" (9 : Nat) ({ cls := "java/lang/Object", name := "getClass", desc := "()Ljava/lang/Class;" } : Jvm.MethodName)) ∈ lw_all := lw_g (lw_at lw_m2 193 rfl) rfl
theorem q462 : (Jvm.Cond.classLink "java/util/HashMap" (13 : Nat) "java/lang/String") ∈ lw_all := lw_g (lw_at lw_m2 194 rfl) rfl
theorem q464 : (Jvm.Cond.static ({ cls := "java/util/HashMap", name := "compareComparables", desc := "(Ljava/lang/Class;Ljava/lang/Object;Ljava/lang/Object;)I" } : Jvm.MethodName)) ∈ lw_all := lw_g (lw_at lw_m2 196 rfl) rfl
theorem q465 : (Jvm.Cond.code ({ cls := "java/util/HashMap", name := "compareComparables", desc := "(Ljava/lang/Class;Ljava/lang/Object;Ljava/lang/Object;)I" } : Jvm.MethodName) prog_35_method_3_code (3 : Nat) (Option.some Jvm.ClassFile.FieldType.int)) ∈ lw_all := lw_g (lw_at lw_m2 197 rfl) rfl
theorem q466 : (Jvm.Cond.interfaceEntry "java/util/HashMap" (30 : Nat)) ∈ lw_tbl := lw_at lw_m2 198 rfl
theorem q467 : (Jvm.Cond.methodLink "java/util/HashMap" (30 : Nat) ({ cls := "java/lang/Comparable", name := "compareTo", desc := "(Ljava/lang/Object;)I" } : Jvm.MethodName)) ∈ lw_all := lw_g (lw_at lw_m2 199 rfl) rfl
theorem q496 : (Jvm.Cond.methodLink "java/util/HashMap" (232 : Nat) ({ cls := "java/util/HashMap$TreeNode", name := "removeTreeNode", desc := "(Ljava/util/HashMap;[Ljava/util/HashMap$Node;Z)V" } : Jvm.MethodName)) ∈ lw_all := lw_g (lw_at lw_m2 228 rfl) rfl
theorem q506 : (Jvm.Cond.instanceMethod ({ cls := "java/util/HashMap", name := "replacementNode", desc := "(Ljava/util/HashMap$Node;Ljava/util/HashMap$Node;)Ljava/util/HashMap$Node;" } : Jvm.MethodName)) ∈ lw_all := lw_g (lw_at lw_m2 238 rfl) rfl
theorem q507 : (Jvm.Cond.sameMethod "java/util/HashMap" "java/util/HashMap" "replacementNode" "(Ljava/util/HashMap$Node;Ljava/util/HashMap$Node;)Ljava/util/HashMap$Node;") ∈ lw_all := lw_g (lw_at lw_m2 239 rfl) rfl
theorem q529 : (Jvm.Cond.fieldLink "java/util/HashMap" (168 : Nat) "java/util/HashMap$Node" "hash" "I") ∈ lw_all := lw_g (lw_at lw_m3 21 rfl) rfl
theorem q535 : (Jvm.Cond.fieldLink "java/util/HashMap" (170 : Nat) "java/util/HashMap$Node" "key" "Ljava/lang/Object;") ∈ lw_all := lw_g (lw_at lw_m3 27 rfl) rfl
theorem q539 : (Jvm.Cond.fieldLink "java/util/HashMap" (162 : Nat) "java/util/HashMap$Node" "value" "Ljava/lang/Object;") ∈ lw_all := lw_g (lw_at lw_m3 31 rfl) rfl
theorem q544 : (Jvm.Cond.fieldLink "java/util/HashMap" (177 : Nat) "java/util/HashMap$Node" "next" "Ljava/util/HashMap$Node;") ∈ lw_all := lw_g (lw_at lw_m3 36 rfl) rfl
theorem q545 : (Jvm.Cond.fieldLink "java/util/HashMap" (223 : Nat) "java/util/HashMap$TreeNode" "next" "Ljava/util/HashMap$Node;") ∈ lw_all := lw_g (lw_at lw_m3 37 rfl) rfl
theorem q563 : (Jvm.Cond.declares ({ cls := "java/util/HashMap", name := "replacementNode", desc := "(Ljava/util/HashMap$Node;Ljava/util/HashMap$Node;)Ljava/util/HashMap$Node;" } : Jvm.MethodName)) ∈ lw_tbl := lw_at lw_m3 55 rfl
theorem q578 : (Jvm.Cond.methodLink "java/util/HashMap" (236 : Nat) ({ cls := "java/util/HashMap", name := "afterNodeRemoval", desc := "(Ljava/util/HashMap$Node;)V" } : Jvm.MethodName)) ∈ lw_all := lw_g (lw_at lw_m3 70 rfl) rfl
theorem q579 : (Jvm.Cond.instanceMethod ({ cls := "java/util/HashMap", name := "afterNodeRemoval", desc := "(Ljava/util/HashMap$Node;)V" } : Jvm.MethodName)) ∈ lw_all := lw_g (lw_at lw_m3 71 rfl) rfl
theorem q580 : (Jvm.Cond.sameMethod "java/util/HashMap" "java/util/HashMap" "afterNodeRemoval" "(Ljava/util/HashMap$Node;)V") ∈ lw_all := lw_g (lw_at lw_m3 72 rfl) rfl
theorem q584 : (Jvm.Cond.declares ({ cls := "java/util/HashMap", name := "afterNodeRemoval", desc := "(Ljava/util/HashMap$Node;)V" } : Jvm.MethodName)) ∈ lw_tbl := lw_at lw_m3 76 rfl
theorem q594 : (Jvm.Cond.declares ({ cls := "java/util/HashMap", name := "put", desc := "(Ljava/lang/Object;Ljava/lang/Object;)Ljava/lang/Object;" } : Jvm.MethodName)) ∈ lw_tbl := lw_at lw_m3 86 rfl
theorem q596 : (Jvm.Cond.instanceMethod ({ cls := "java/util/HashMap", name := "put", desc := "(Ljava/lang/Object;Ljava/lang/Object;)Ljava/lang/Object;" } : Jvm.MethodName)) ∈ lw_all := lw_g (lw_at lw_m3 88 rfl) rfl
theorem q597 : (Jvm.Cond.code ({ cls := "java/util/HashMap", name := "put", desc := "(Ljava/lang/Object;Ljava/lang/Object;)Ljava/lang/Object;" } : Jvm.MethodName) prog_35_method_15_code (3 : Nat) (Option.some (Jvm.ClassFile.FieldType.object "java/lang/Object"))) ∈ lw_all := lw_g (lw_at lw_m3 89 rfl) rfl
theorem q598 : (Jvm.Cond.methodLink "java/util/HashMap" (152 : Nat) ({ cls := "java/util/HashMap", name := "putVal", desc := "(ILjava/lang/Object;Ljava/lang/Object;ZZ)Ljava/lang/Object;" } : Jvm.MethodName)) ∈ lw_all := lw_g (lw_at lw_m3 90 rfl) rfl
theorem q599 : (Jvm.Cond.instanceMethod ({ cls := "java/util/HashMap", name := "putVal", desc := "(ILjava/lang/Object;Ljava/lang/Object;ZZ)Ljava/lang/Object;" } : Jvm.MethodName)) ∈ lw_all := lw_g (lw_at lw_m3 91 rfl) rfl
theorem q600 : (Jvm.Cond.sameMethod "java/util/HashMap" "java/util/HashMap" "putVal" "(ILjava/lang/Object;Ljava/lang/Object;ZZ)Ljava/lang/Object;") ∈ lw_all := lw_g (lw_at lw_m3 92 rfl) rfl
theorem q602 : (Jvm.Cond.code ({ cls := "java/util/HashMap", name := "putVal", desc := "(ILjava/lang/Object;Ljava/lang/Object;ZZ)Ljava/lang/Object;" } : Jvm.MethodName) prog_35_method_16_code (13 : Nat) (Option.some (Jvm.ClassFile.FieldType.object "java/lang/Object"))) ∈ lw_all := lw_g (lw_at lw_m3 94 rfl) rfl
theorem q603 : (Jvm.Cond.methodLink "java/util/HashMap" (117 : Nat) ({ cls := "java/util/HashMap", name := "resize", desc := "()[Ljava/util/HashMap$Node;" } : Jvm.MethodName)) ∈ lw_all := lw_g (lw_at lw_m3 95 rfl) rfl
theorem q604 : (Jvm.Cond.instanceMethod ({ cls := "java/util/HashMap", name := "resize", desc := "()[Ljava/util/HashMap$Node;" } : Jvm.MethodName)) ∈ lw_all := lw_g (lw_at lw_m3 96 rfl) rfl
theorem q605 : (Jvm.Cond.sameMethod "java/util/HashMap" "java/util/HashMap" "resize" "()[Ljava/util/HashMap$Node;") ∈ lw_all := lw_g (lw_at lw_m3 97 rfl) rfl
theorem q607 : (Jvm.Cond.code ({ cls := "java/util/HashMap", name := "resize", desc := "()[Ljava/util/HashMap$Node;" } : Jvm.MethodName) prog_35_method_17_code (14 : Nat) (Option.some (Jvm.ClassFile.FieldType.array (Jvm.ClassFile.FieldType.object "java/util/HashMap$Node")))) ∈ lw_all := lw_g (lw_at lw_m3 99 rfl) rfl
theorem q608 : (Jvm.Cond.constant "java/util/HashMap" (42 : Nat) (1073741824 : Int32)) ∈ lw_all := lw_g (lw_at lw_m3 100 rfl) rfl
theorem q609 : (Jvm.Cond.constant "java/util/HashMap" (209 : Nat) (2147483647 : Int32)) ∈ lw_all := lw_g (lw_at lw_m3 101 rfl) rfl
theorem q610 : (Jvm.Cond.constantFloat "java/util/HashMap" (210 : Nat) (1317011456 : UInt32)) ∈ lw_all := lw_g (lw_at lw_m3 102 rfl) rfl
theorem q611 : (Jvm.Cond.classLink "java/util/HashMap" (163 : Nat) "java/util/HashMap$Node") ∈ lw_all := lw_g (lw_at lw_m3 103 rfl) rfl
theorem q613 : (Jvm.Cond.methodLink "java/util/HashMap" (211 : Nat) ({ cls := "java/util/HashMap$TreeNode", name := "split", desc := "(Ljava/util/HashMap;[Ljava/util/HashMap$Node;II)V" } : Jvm.MethodName)) ∈ lw_all := lw_g (lw_at lw_m3 105 rfl) rfl
theorem q624 : (Jvm.Cond.methodLink "java/util/HashMap" (186 : Nat) ({ cls := "java/util/HashMap", name := "newNode", desc := "(ILjava/lang/Object;Ljava/lang/Object;Ljava/util/HashMap$Node;)Ljava/util/HashMap$Node;" } : Jvm.MethodName)) ∈ lw_all := lw_g (lw_at lw_m3 116 rfl) rfl
theorem q625 : (Jvm.Cond.instanceMethod ({ cls := "java/util/HashMap", name := "newNode", desc := "(ILjava/lang/Object;Ljava/lang/Object;Ljava/util/HashMap$Node;)Ljava/util/HashMap$Node;" } : Jvm.MethodName)) ∈ lw_all := lw_g (lw_at lw_m3 117 rfl) rfl
theorem q626 : (Jvm.Cond.sameMethod "java/util/HashMap" "java/util/HashMap" "newNode" "(ILjava/lang/Object;Ljava/lang/Object;Ljava/util/HashMap$Node;)Ljava/util/HashMap$Node;") ∈ lw_all := lw_g (lw_at lw_m3 118 rfl) rfl
theorem q634 : (Jvm.Cond.declares ({ cls := "java/util/HashMap", name := "newNode", desc := "(ILjava/lang/Object;Ljava/lang/Object;Ljava/util/HashMap$Node;)Ljava/util/HashMap$Node;" } : Jvm.MethodName)) ∈ lw_tbl := lw_at lw_m3 126 rfl
theorem q635 : (Jvm.Cond.methodLink "java/util/HashMap" (190 : Nat) ({ cls := "java/util/HashMap$TreeNode", name := "putTreeVal", desc := "(Ljava/util/HashMap;[Ljava/util/HashMap$Node;ILjava/lang/Object;Ljava/lang/Object;)Ljava/util/HashMap$TreeNode;" } : Jvm.MethodName)) ∈ lw_all := lw_g (lw_at lw_m3 127 rfl) rfl
theorem q640 : (Jvm.Cond.instanceMethod ({ cls := "java/util/HashMap", name := "newTreeNode", desc := "(ILjava/lang/Object;Ljava/lang/Object;Ljava/util/HashMap$Node;)Ljava/util/HashMap$TreeNode;" } : Jvm.MethodName)) ∈ lw_all := lw_g (lw_at lw_m3 132 rfl) rfl
theorem q641 : (Jvm.Cond.sameMethod "java/util/HashMap" "java/util/HashMap" "newTreeNode" "(ILjava/lang/Object;Ljava/lang/Object;Ljava/util/HashMap$Node;)Ljava/util/HashMap$TreeNode;") ∈ lw_all := lw_g (lw_at lw_m3 133 rfl) rfl
theorem q655 : (Jvm.Cond.fieldLink "java/util/HashMap" (219 : Nat) "java/util/HashMap$TreeNode" "prev" "Ljava/util/HashMap$TreeNode;") ∈ lw_all := lw_g (lw_at lw_m3 147 rfl) rfl
theorem q674 : (Jvm.Cond.declares ({ cls := "java/util/HashMap", name := "newTreeNode", desc := "(ILjava/lang/Object;Ljava/lang/Object;Ljava/util/HashMap$Node;)Ljava/util/HashMap$TreeNode;" } : Jvm.MethodName)) ∈ lw_tbl := lw_at lw_m3 166 rfl
theorem q675 : (Jvm.Cond.methodLink "java/util/HashMap" (194 : Nat) ({ cls := "java/util/HashMap", name := "treeifyBin", desc := "([Ljava/util/HashMap$Node;I)V" } : Jvm.MethodName)) ∈ lw_all := lw_g (lw_at lw_m3 167 rfl) rfl
theorem q676 : (Jvm.Cond.instanceMethod ({ cls := "java/util/HashMap", name := "treeifyBin", desc := "([Ljava/util/HashMap$Node;I)V" } : Jvm.MethodName)) ∈ lw_all := lw_g (lw_at lw_m3 168 rfl) rfl
theorem q677 : (Jvm.Cond.sameMethod "java/util/HashMap" "java/util/HashMap" "treeifyBin" "([Ljava/util/HashMap$Node;I)V") ∈ lw_all := lw_g (lw_at lw_m3 169 rfl) rfl
theorem q679 : (Jvm.Cond.code ({ cls := "java/util/HashMap", name := "treeifyBin", desc := "([Ljava/util/HashMap$Node;I)V" } : Jvm.MethodName) prog_35_method_18_code (9 : Nat) (Option.none : Option Jvm.ClassFile.FieldType)) ∈ lw_all := lw_g (lw_at lw_m3 171 rfl) rfl
theorem q680 : (Jvm.Cond.methodLink "java/util/HashMap" (215 : Nat) ({ cls := "java/util/HashMap", name := "replacementTreeNode", desc := "(Ljava/util/HashMap$Node;Ljava/util/HashMap$Node;)Ljava/util/HashMap$TreeNode;" } : Jvm.MethodName)) ∈ lw_all := lw_g (lw_at lw_m3 172 rfl) rfl
theorem q681 : (Jvm.Cond.instanceMethod ({ cls := "java/util/HashMap", name := "replacementTreeNode", desc := "(Ljava/util/HashMap$Node;Ljava/util/HashMap$Node;)Ljava/util/HashMap$TreeNode;" } : Jvm.MethodName)) ∈ lw_all := lw_g (lw_at lw_m3 173 rfl) rfl
theorem q682 : (Jvm.Cond.sameMethod "java/util/HashMap" "java/util/HashMap" "replacementTreeNode" "(Ljava/util/HashMap$Node;Ljava/util/HashMap$Node;)Ljava/util/HashMap$TreeNode;") ∈ lw_all := lw_g (lw_at lw_m3 174 rfl) rfl
theorem q686 : (Jvm.Cond.declares ({ cls := "java/util/HashMap", name := "replacementTreeNode", desc := "(Ljava/util/HashMap$Node;Ljava/util/HashMap$Node;)Ljava/util/HashMap$TreeNode;" } : Jvm.MethodName)) ∈ lw_tbl := lw_at lw_m3 178 rfl
theorem q687 : (Jvm.Cond.methodLink "java/util/HashMap" (224 : Nat) ({ cls := "java/util/HashMap$TreeNode", name := "treeify", desc := "([Ljava/util/HashMap$Node;)V" } : Jvm.MethodName)) ∈ lw_all := lw_g (lw_at lw_m3 179 rfl) rfl
theorem q688 : (Jvm.Cond.methodLink "java/util/HashMap" (198 : Nat) ({ cls := "java/util/HashMap", name := "afterNodeAccess", desc := "(Ljava/util/HashMap$Node;)V" } : Jvm.MethodName)) ∈ lw_all := lw_g (lw_at lw_m3 180 rfl) rfl
theorem q689 : (Jvm.Cond.instanceMethod ({ cls := "java/util/HashMap", name := "afterNodeAccess", desc := "(Ljava/util/HashMap$Node;)V" } : Jvm.MethodName)) ∈ lw_all := lw_g (lw_at lw_m3 181 rfl) rfl
theorem q690 : (Jvm.Cond.sameMethod "java/util/HashMap" "java/util/HashMap" "afterNodeAccess" "(Ljava/util/HashMap$Node;)V") ∈ lw_all := lw_g (lw_at lw_m3 182 rfl) rfl
theorem q694 : (Jvm.Cond.declares ({ cls := "java/util/HashMap", name := "afterNodeAccess", desc := "(Ljava/util/HashMap$Node;)V" } : Jvm.MethodName)) ∈ lw_tbl := lw_at lw_m3 186 rfl
theorem q695 : (Jvm.Cond.methodLink "java/util/HashMap" (205 : Nat) ({ cls := "java/util/HashMap", name := "afterNodeInsertion", desc := "(Z)V" } : Jvm.MethodName)) ∈ lw_all := lw_g (lw_at lw_m3 187 rfl) rfl
theorem q696 : (Jvm.Cond.instanceMethod ({ cls := "java/util/HashMap", name := "afterNodeInsertion", desc := "(Z)V" } : Jvm.MethodName)) ∈ lw_all := lw_g (lw_at lw_m3 188 rfl) rfl
theorem q697 : (Jvm.Cond.sameMethod "java/util/HashMap" "java/util/HashMap" "afterNodeInsertion" "(Z)V") ∈ lw_all := lw_g (lw_at lw_m3 189 rfl) rfl
theorem q705 : (Jvm.Cond.declares ({ cls := "java/util/HashMap", name := "afterNodeInsertion", desc := "(Z)V" } : Jvm.MethodName)) ∈ lw_tbl := lw_at lw_m3 197 rfl
theorem q708 : (Jvm.Cond.declares ({ cls := "java/util/HashMap", name := "size", desc := "()I" } : Jvm.MethodName)) ∈ lw_tbl := lw_at lw_m3 200 rfl
theorem q710 : (Jvm.Cond.instanceMethod ({ cls := "java/util/HashMap", name := "size", desc := "()I" } : Jvm.MethodName)) ∈ lw_all := lw_g (lw_at lw_m3 202 rfl) rfl
theorem q711 : (Jvm.Cond.code ({ cls := "java/util/HashMap", name := "size", desc := "()I" } : Jvm.MethodName) prog_35_method_10_code (1 : Nat) (Option.some Jvm.ClassFile.FieldType.int)) ∈ lw_all := lw_g (lw_at lw_m3 203 rfl) rfl
/-! J5 -/
def RJ5 : String := "java/util/LinkedHashMap"
def TJ5 : u_T := fun k => match k with
  | 0 => ("java/util/HashMap", "table", "[Ljava/util/HashMap$Node;", false)
  | 1 => ("java/util/HashMap", "entrySet", "Ljava/util/Set;", false)
  | 2 => ("java/util/HashMap", "size", "I", false)
  | 3 => ("java/util/HashMap", "modCount", "I", false)
  | 4 => ("java/util/HashMap", "threshold", "I", false)
  | 5 => ("java/util/HashMap", "loadFactor", "F", true)
  | 6 => ("java/util/AbstractMap", "keySet", "Ljava/util/Set;", false)
  | 7 => ("java/util/AbstractMap", "values", "Ljava/util/Collection;", false)
  | 8 => ("java/util/LinkedHashMap", "head", "Ljava/util/LinkedHashMap$Entry;", false)
  | 9 => ("java/util/LinkedHashMap", "tail", "Ljava/util/LinkedHashMap$Entry;", false)
  | 10 => ("java/util/LinkedHashMap", "accessOrder", "Z", true)
  | _ => ("java/util/LinkedHashMap", "putMode", "I", false)
def tyJ5 : Nat → FieldType := fun k => match k with
  | 0 => .array (.object "java/util/HashMap$Node")
  | 1 => .object "java/util/Set"
  | 2 => .int
  | 3 => .int
  | 4 => .int
  | 5 => .float
  | 6 => .object "java/util/Set"
  | 7 => .object "java/util/Collection"
  | 8 => .object "java/util/LinkedHashMap$Entry"
  | 9 => .object "java/util/LinkedHashMap$Entry"
  | 10 => .boolean
  | _ => .int
abbrev wsJ50 : List Cond := u_ws RJ5 TJ5 12
theorem nmJ5 : ∀ a, a < 12 → ∀ b, b < 12 → a ≠ b → (TJ5 a).2.1 ≠ (TJ5 b).2.1 := by decide +kernel
theorem tyJ5_ok : ∀ k, k < 12 → parseFieldDescriptor (TJ5 k).2.2.1 = some (tyJ5 k) := by decide +kernel
theorem q35 : (Jvm.Cond.initialized "java/util/LinkedHashMap") ∈ lw_all := lw_g (lw_at lw_m1 7 rfl) rfl
theorem q109 : (Jvm.Cond.instantiable "java/util/LinkedHashMap" (12 : Nat)) ∈ lw_all := lw_g (lw_at lw_m1 81 rfl) rfl
theorem q111 : (Jvm.Cond.instanceMethod ({ cls := "java/util/LinkedHashMap", name := "<init>", desc := "()V" } : Jvm.MethodName)) ∈ lw_all := lw_g (lw_at lw_m1 83 rfl) rfl
theorem q112 : (Jvm.Cond.code ({ cls := "java/util/LinkedHashMap", name := "<init>", desc := "()V" } : Jvm.MethodName) prog_39_method_16_code (1 : Nat) (Option.none : Option Jvm.ClassFile.FieldType)) ∈ lw_all := lw_g (lw_at lw_m1 84 rfl) rfl
theorem q113 : (Jvm.Cond.methodLink "java/util/LinkedHashMap" (87 : Nat) ({ cls := "java/util/HashMap", name := "<init>", desc := "()V" } : Jvm.MethodName)) ∈ lw_all := lw_g (lw_at lw_m1 85 rfl) rfl
theorem q121 : (Jvm.Cond.fieldLink "java/util/LinkedHashMap" (7 : Nat) "java/util/LinkedHashMap" "head" "Ljava/util/LinkedHashMap$Entry;") ∈ lw_all := lw_g (lw_at lw_m1 93 rfl) rfl
theorem q124 : (Jvm.Cond.fieldLink "java/util/LinkedHashMap" (11 : Nat) "java/util/LinkedHashMap" "tail" "Ljava/util/LinkedHashMap$Entry;") ∈ lw_all := lw_g (lw_at lw_m1 96 rfl) rfl
theorem q125 : (Jvm.Cond.fieldLink "java/util/LinkedHashMap" (64 : Nat) "java/util/LinkedHashMap" "accessOrder" "Z") ∈ lw_all := lw_g (lw_at lw_m1 97 rfl) rfl
theorem q126 : (Jvm.Cond.fieldLink "java/util/LinkedHashMap" (1 : Nat) "java/util/LinkedHashMap" "putMode" "I") ∈ lw_all := lw_g (lw_at lw_m1 98 rfl) rfl
theorem q128 : (Jvm.Cond.fieldLink "java/util/LinkedHashMap" (151 : Nat) "java/util/LinkedHashMap" "entrySet" "Ljava/util/Set;") ∈ lw_all := lw_g (lw_at lw_m1 100 rfl) rfl
theorem q129 : (Jvm.Cond.sameField "java/util/LinkedHashMap" "java/util/HashMap" "entrySet" "Ljava/util/Set;") ∈ lw_all := lw_g (lw_at lw_m1 101 rfl) rfl
theorem q131 : (Jvm.Cond.sameField "java/util/LinkedHashMap" "java/util/HashMap" "size" "I") ∈ lw_all := lw_g (lw_at lw_m1 103 rfl) rfl
theorem q134 : (Jvm.Cond.sameField "java/util/LinkedHashMap" "java/util/HashMap" "modCount" "I") ∈ lw_all := lw_g (lw_at lw_m1 106 rfl) rfl
theorem q135 : (Jvm.Cond.fieldLink "java/util/LinkedHashMap" (68 : Nat) "java/util/LinkedHashMap" "modCount" "I") ∈ lw_all := lw_g (lw_at lw_m1 107 rfl) rfl
theorem q139 : (Jvm.Cond.lays "java/util/LinkedHashMap" "java/util/LinkedHashMap" "head" "Ljava/util/LinkedHashMap$Entry;") ∈ lw_all := lw_g (lw_at lw_m1 111 rfl) rfl
theorem q140 : (Jvm.Cond.soleField "java/util/LinkedHashMap" "head") ∈ lw_all := lw_g (lw_at lw_m1 112 rfl) rfl
theorem q141 : (Jvm.Cond.lays "java/util/LinkedHashMap" "java/util/LinkedHashMap" "tail" "Ljava/util/LinkedHashMap$Entry;") ∈ lw_all := lw_g (lw_at lw_m1 113 rfl) rfl
theorem q142 : (Jvm.Cond.soleField "java/util/LinkedHashMap" "tail") ∈ lw_all := lw_g (lw_at lw_m1 114 rfl) rfl
theorem q143 : (Jvm.Cond.laysFinal "java/util/LinkedHashMap" "java/util/LinkedHashMap" "accessOrder" "Z") ∈ lw_all := lw_g (lw_at lw_m1 115 rfl) rfl
theorem q144 : (Jvm.Cond.soleField "java/util/LinkedHashMap" "accessOrder") ∈ lw_all := lw_g (lw_at lw_m1 116 rfl) rfl
theorem q145 : (Jvm.Cond.lays "java/util/LinkedHashMap" "java/util/LinkedHashMap" "putMode" "I") ∈ lw_all := lw_g (lw_at lw_m1 117 rfl) rfl
theorem q146 : (Jvm.Cond.soleField "java/util/LinkedHashMap" "putMode") ∈ lw_all := lw_g (lw_at lw_m1 118 rfl) rfl
theorem q147 : (Jvm.Cond.lays "java/util/LinkedHashMap" "java/util/HashMap" "table" "[Ljava/util/HashMap$Node;") ∈ lw_all := lw_g (lw_at lw_m1 119 rfl) rfl
theorem q149 : (Jvm.Cond.lays "java/util/LinkedHashMap" "java/util/HashMap" "entrySet" "Ljava/util/Set;") ∈ lw_all := lw_g (lw_at lw_m1 121 rfl) rfl
theorem q151 : (Jvm.Cond.lays "java/util/LinkedHashMap" "java/util/HashMap" "size" "I") ∈ lw_all := lw_g (lw_at lw_m1 123 rfl) rfl
theorem q153 : (Jvm.Cond.lays "java/util/LinkedHashMap" "java/util/HashMap" "modCount" "I") ∈ lw_all := lw_g (lw_at lw_m1 125 rfl) rfl
theorem q155 : (Jvm.Cond.lays "java/util/LinkedHashMap" "java/util/HashMap" "threshold" "I") ∈ lw_all := lw_g (lw_at lw_m1 127 rfl) rfl
theorem q157 : (Jvm.Cond.laysFinal "java/util/LinkedHashMap" "java/util/HashMap" "loadFactor" "F") ∈ lw_all := lw_g (lw_at lw_m1 129 rfl) rfl
theorem q159 : (Jvm.Cond.lays "java/util/LinkedHashMap" "java/util/AbstractMap" "keySet" "Ljava/util/Set;") ∈ lw_all := lw_g (lw_at lw_m1 131 rfl) rfl
theorem q161 : (Jvm.Cond.lays "java/util/LinkedHashMap" "java/util/AbstractMap" "values" "Ljava/util/Collection;") ∈ lw_all := lw_g (lw_at lw_m1 133 rfl) rfl
theorem q163 : (Jvm.Cond.superclass "java/util/LinkedHashMap" "java/util/HashMap") ∈ lw_all := lw_g (lw_at lw_m1 135 rfl) rfl
theorem q321 : (Jvm.Cond.selects "java/util/LinkedHashMap" ({ cls := "java/lang/Object", name := "getClass", desc := "()Ljava/lang/Class;" } : Jvm.MethodName) ({ cls := "java/lang/Object", name := "getClass", desc := "()Ljava/lang/Class;" } : Jvm.MethodName)) ∈ lw_all := lw_g (lw_at lw_m2 53 rfl) rfl
theorem q369 : (Jvm.Cond.sameMethod "java/util/LinkedHashMap" "java/util/HashMap" "remove" "(Ljava/lang/Object;)Ljava/lang/Object;") ∈ lw_all := lw_g (lw_at lw_m2 101 rfl) rfl
theorem q371 : (Jvm.Cond.selects "java/util/LinkedHashMap" ({ cls := "java/util/LinkedHashMap", name := "remove", desc := "(Ljava/lang/Object;)Ljava/lang/Object;" } : Jvm.MethodName) ({ cls := "java/util/HashMap", name := "remove", desc := "(Ljava/lang/Object;)Ljava/lang/Object;" } : Jvm.MethodName)) ∈ lw_all := lw_g (lw_at lw_m2 103 rfl) rfl
theorem q409 : (Jvm.Cond.selects "java/util/LinkedHashMap" ({ cls := "java/util/HashMap", name := "removeNode", desc := "(ILjava/lang/Object;Ljava/lang/Object;ZZ)Ljava/util/HashMap$Node;" } : Jvm.MethodName) ({ cls := "java/util/HashMap", name := "removeNode", desc := "(ILjava/lang/Object;Ljava/lang/Object;ZZ)Ljava/util/HashMap$Node;" } : Jvm.MethodName)) ∈ lw_all := lw_g (lw_at lw_m2 141 rfl) rfl
theorem q508 : (Jvm.Cond.selects "java/util/LinkedHashMap" ({ cls := "java/util/HashMap", name := "replacementNode", desc := "(Ljava/util/HashMap$Node;Ljava/util/HashMap$Node;)Ljava/util/HashMap$Node;" } : Jvm.MethodName) ({ cls := "java/util/LinkedHashMap", name := "replacementNode", desc := "(Ljava/util/HashMap$Node;Ljava/util/HashMap$Node;)Ljava/util/HashMap$Node;" } : Jvm.MethodName)) ∈ lw_all := lw_g (lw_at lw_m3 0 rfl) rfl
theorem q509 : (Jvm.Cond.instanceMethod ({ cls := "java/util/LinkedHashMap", name := "replacementNode", desc := "(Ljava/util/HashMap$Node;Ljava/util/HashMap$Node;)Ljava/util/HashMap$Node;" } : Jvm.MethodName)) ∈ lw_all := lw_g (lw_at lw_m3 1 rfl) rfl
theorem q510 : (Jvm.Cond.code ({ cls := "java/util/LinkedHashMap", name := "replacementNode", desc := "(Ljava/util/HashMap$Node;Ljava/util/HashMap$Node;)Ljava/util/HashMap$Node;" } : Jvm.MethodName) prog_39_method_5_code (5 : Nat) (Option.some (Jvm.ClassFile.FieldType.object "java/util/HashMap$Node"))) ∈ lw_all := lw_g (lw_at lw_m3 2 rfl) rfl
theorem q511 : (Jvm.Cond.classLink "java/util/LinkedHashMap" (15 : Nat) "java/util/LinkedHashMap$Entry") ∈ lw_all := lw_g (lw_at lw_m3 3 rfl) rfl
theorem q513 : (Jvm.Cond.methodLink "java/util/LinkedHashMap" (28 : Nat) ({ cls := "java/util/LinkedHashMap$Entry", name := "<init>", desc := "(ILjava/lang/Object;Ljava/lang/Object;Ljava/util/HashMap$Node;)V" } : Jvm.MethodName)) ∈ lw_all := lw_g (lw_at lw_m3 5 rfl) rfl
theorem q520 : (Jvm.Cond.fieldLink "java/util/LinkedHashMap" (19 : Nat) "java/util/LinkedHashMap$Entry" "before" "Ljava/util/LinkedHashMap$Entry;") ∈ lw_all := lw_g (lw_at lw_m3 12 rfl) rfl
theorem q522 : (Jvm.Cond.fieldLink "java/util/LinkedHashMap" (14 : Nat) "java/util/LinkedHashMap$Entry" "after" "Ljava/util/LinkedHashMap$Entry;") ∈ lw_all := lw_g (lw_at lw_m3 14 rfl) rfl
theorem q527 : (Jvm.Cond.fieldLink "java/util/LinkedHashMap" (36 : Nat) "java/util/LinkedHashMap$Entry" "hash" "I") ∈ lw_all := lw_g (lw_at lw_m3 19 rfl) rfl
theorem q533 : (Jvm.Cond.fieldLink "java/util/LinkedHashMap" (39 : Nat) "java/util/LinkedHashMap$Entry" "key" "Ljava/lang/Object;") ∈ lw_all := lw_g (lw_at lw_m3 25 rfl) rfl
theorem q537 : (Jvm.Cond.fieldLink "java/util/LinkedHashMap" (43 : Nat) "java/util/LinkedHashMap$Entry" "value" "Ljava/lang/Object;") ∈ lw_all := lw_g (lw_at lw_m3 29 rfl) rfl
theorem q559 : (Jvm.Cond.methodLink "java/util/LinkedHashMap" (46 : Nat) ({ cls := "java/util/LinkedHashMap", name := "transferLinks", desc := "(Ljava/util/LinkedHashMap$Entry;Ljava/util/LinkedHashMap$Entry;)V" } : Jvm.MethodName)) ∈ lw_all := lw_g (lw_at lw_m3 51 rfl) rfl
theorem q560 : (Jvm.Cond.privateMethod ({ cls := "java/util/LinkedHashMap", name := "transferLinks", desc := "(Ljava/util/LinkedHashMap$Entry;Ljava/util/LinkedHashMap$Entry;)V" } : Jvm.MethodName)) ∈ lw_tbl := lw_at lw_m3 52 rfl
theorem q561 : (Jvm.Cond.instanceMethod ({ cls := "java/util/LinkedHashMap", name := "transferLinks", desc := "(Ljava/util/LinkedHashMap$Entry;Ljava/util/LinkedHashMap$Entry;)V" } : Jvm.MethodName)) ∈ lw_all := lw_g (lw_at lw_m3 53 rfl) rfl
theorem q562 : (Jvm.Cond.code ({ cls := "java/util/LinkedHashMap", name := "transferLinks", desc := "(Ljava/util/LinkedHashMap$Entry;Ljava/util/LinkedHashMap$Entry;)V" } : Jvm.MethodName) prog_39_method_2_code (5 : Nat) (Option.none : Option Jvm.ClassFile.FieldType)) ∈ lw_all := lw_g (lw_at lw_m3 54 rfl) rfl
theorem q581 : (Jvm.Cond.selects "java/util/LinkedHashMap" ({ cls := "java/util/HashMap", name := "afterNodeRemoval", desc := "(Ljava/util/HashMap$Node;)V" } : Jvm.MethodName) ({ cls := "java/util/LinkedHashMap", name := "afterNodeRemoval", desc := "(Ljava/util/HashMap$Node;)V" } : Jvm.MethodName)) ∈ lw_all := lw_g (lw_at lw_m3 73 rfl) rfl
theorem q582 : (Jvm.Cond.instanceMethod ({ cls := "java/util/LinkedHashMap", name := "afterNodeRemoval", desc := "(Ljava/util/HashMap$Node;)V" } : Jvm.MethodName)) ∈ lw_all := lw_g (lw_at lw_m3 74 rfl) rfl
theorem q583 : (Jvm.Cond.code ({ cls := "java/util/LinkedHashMap", name := "afterNodeRemoval", desc := "(Ljava/util/HashMap$Node;)V" } : Jvm.MethodName) prog_39_method_8_code (5 : Nat) (Option.none : Option Jvm.ClassFile.FieldType)) ∈ lw_all := lw_g (lw_at lw_m3 75 rfl) rfl
theorem q593 : (Jvm.Cond.sameMethod "java/util/LinkedHashMap" "java/util/HashMap" "put" "(Ljava/lang/Object;Ljava/lang/Object;)Ljava/lang/Object;") ∈ lw_all := lw_g (lw_at lw_m3 85 rfl) rfl
theorem q595 : (Jvm.Cond.selects "java/util/LinkedHashMap" ({ cls := "java/util/LinkedHashMap", name := "put", desc := "(Ljava/lang/Object;Ljava/lang/Object;)Ljava/lang/Object;" } : Jvm.MethodName) ({ cls := "java/util/HashMap", name := "put", desc := "(Ljava/lang/Object;Ljava/lang/Object;)Ljava/lang/Object;" } : Jvm.MethodName)) ∈ lw_all := lw_g (lw_at lw_m3 87 rfl) rfl
theorem q601 : (Jvm.Cond.selects "java/util/LinkedHashMap" ({ cls := "java/util/HashMap", name := "putVal", desc := "(ILjava/lang/Object;Ljava/lang/Object;ZZ)Ljava/lang/Object;" } : Jvm.MethodName) ({ cls := "java/util/HashMap", name := "putVal", desc := "(ILjava/lang/Object;Ljava/lang/Object;ZZ)Ljava/lang/Object;" } : Jvm.MethodName)) ∈ lw_all := lw_g (lw_at lw_m3 93 rfl) rfl
theorem q606 : (Jvm.Cond.selects "java/util/LinkedHashMap" ({ cls := "java/util/HashMap", name := "resize", desc := "()[Ljava/util/HashMap$Node;" } : Jvm.MethodName) ({ cls := "java/util/HashMap", name := "resize", desc := "()[Ljava/util/HashMap$Node;" } : Jvm.MethodName)) ∈ lw_all := lw_g (lw_at lw_m3 98 rfl) rfl
theorem q627 : (Jvm.Cond.selects "java/util/LinkedHashMap" ({ cls := "java/util/HashMap", name := "newNode", desc := "(ILjava/lang/Object;Ljava/lang/Object;Ljava/util/HashMap$Node;)Ljava/util/HashMap$Node;" } : Jvm.MethodName) ({ cls := "java/util/LinkedHashMap", name := "newNode", desc := "(ILjava/lang/Object;Ljava/lang/Object;Ljava/util/HashMap$Node;)Ljava/util/HashMap$Node;" } : Jvm.MethodName)) ∈ lw_all := lw_g (lw_at lw_m3 119 rfl) rfl
theorem q628 : (Jvm.Cond.instanceMethod ({ cls := "java/util/LinkedHashMap", name := "newNode", desc := "(ILjava/lang/Object;Ljava/lang/Object;Ljava/util/HashMap$Node;)Ljava/util/HashMap$Node;" } : Jvm.MethodName)) ∈ lw_all := lw_g (lw_at lw_m3 120 rfl) rfl
theorem q629 : (Jvm.Cond.code ({ cls := "java/util/LinkedHashMap", name := "newNode", desc := "(ILjava/lang/Object;Ljava/lang/Object;Ljava/util/HashMap$Node;)Ljava/util/HashMap$Node;" } : Jvm.MethodName) prog_39_method_4_code (6 : Nat) (Option.some (Jvm.ClassFile.FieldType.object "java/util/HashMap$Node"))) ∈ lw_all := lw_g (lw_at lw_m3 121 rfl) rfl
theorem q630 : (Jvm.Cond.methodLink "java/util/LinkedHashMap" (32 : Nat) ({ cls := "java/util/LinkedHashMap", name := "linkNodeAtEnd", desc := "(Ljava/util/LinkedHashMap$Entry;)V" } : Jvm.MethodName)) ∈ lw_all := lw_g (lw_at lw_m3 122 rfl) rfl
theorem q631 : (Jvm.Cond.privateMethod ({ cls := "java/util/LinkedHashMap", name := "linkNodeAtEnd", desc := "(Ljava/util/LinkedHashMap$Entry;)V" } : Jvm.MethodName)) ∈ lw_tbl := lw_at lw_m3 123 rfl
theorem q632 : (Jvm.Cond.instanceMethod ({ cls := "java/util/LinkedHashMap", name := "linkNodeAtEnd", desc := "(Ljava/util/LinkedHashMap$Entry;)V" } : Jvm.MethodName)) ∈ lw_all := lw_g (lw_at lw_m3 124 rfl) rfl
theorem q633 : (Jvm.Cond.code ({ cls := "java/util/LinkedHashMap", name := "linkNodeAtEnd", desc := "(Ljava/util/LinkedHashMap$Entry;)V" } : Jvm.MethodName) prog_39_method_1_code (3 : Nat) (Option.none : Option Jvm.ClassFile.FieldType)) ∈ lw_all := lw_g (lw_at lw_m3 125 rfl) rfl
theorem q642 : (Jvm.Cond.selects "java/util/LinkedHashMap" ({ cls := "java/util/HashMap", name := "newTreeNode", desc := "(ILjava/lang/Object;Ljava/lang/Object;Ljava/util/HashMap$Node;)Ljava/util/HashMap$TreeNode;" } : Jvm.MethodName) ({ cls := "java/util/LinkedHashMap", name := "newTreeNode", desc := "(ILjava/lang/Object;Ljava/lang/Object;Ljava/util/HashMap$Node;)Ljava/util/HashMap$TreeNode;" } : Jvm.MethodName)) ∈ lw_all := lw_g (lw_at lw_m3 134 rfl) rfl
theorem q643 : (Jvm.Cond.instanceMethod ({ cls := "java/util/LinkedHashMap", name := "newTreeNode", desc := "(ILjava/lang/Object;Ljava/lang/Object;Ljava/util/HashMap$Node;)Ljava/util/HashMap$TreeNode;" } : Jvm.MethodName)) ∈ lw_all := lw_g (lw_at lw_m3 135 rfl) rfl
theorem q644 : (Jvm.Cond.code ({ cls := "java/util/LinkedHashMap", name := "newTreeNode", desc := "(ILjava/lang/Object;Ljava/lang/Object;Ljava/util/HashMap$Node;)Ljava/util/HashMap$TreeNode;" } : Jvm.MethodName) prog_39_method_6_code (6 : Nat) (Option.some (Jvm.ClassFile.FieldType.object "java/util/HashMap$TreeNode"))) ∈ lw_all := lw_g (lw_at lw_m3 136 rfl) rfl
theorem q645 : (Jvm.Cond.classLink "java/util/LinkedHashMap" (50 : Nat) "java/util/HashMap$TreeNode") ∈ lw_all := lw_g (lw_at lw_m3 137 rfl) rfl
theorem q647 : (Jvm.Cond.methodLink "java/util/LinkedHashMap" (52 : Nat) ({ cls := "java/util/HashMap$TreeNode", name := "<init>", desc := "(ILjava/lang/Object;Ljava/lang/Object;Ljava/util/HashMap$Node;)V" } : Jvm.MethodName)) ∈ lw_all := lw_g (lw_at lw_m3 139 rfl) rfl
theorem q678 : (Jvm.Cond.selects "java/util/LinkedHashMap" ({ cls := "java/util/HashMap", name := "treeifyBin", desc := "([Ljava/util/HashMap$Node;I)V" } : Jvm.MethodName) ({ cls := "java/util/HashMap", name := "treeifyBin", desc := "([Ljava/util/HashMap$Node;I)V" } : Jvm.MethodName)) ∈ lw_all := lw_g (lw_at lw_m3 170 rfl) rfl
theorem q683 : (Jvm.Cond.selects "java/util/LinkedHashMap" ({ cls := "java/util/HashMap", name := "replacementTreeNode", desc := "(Ljava/util/HashMap$Node;Ljava/util/HashMap$Node;)Ljava/util/HashMap$TreeNode;" } : Jvm.MethodName) ({ cls := "java/util/LinkedHashMap", name := "replacementTreeNode", desc := "(Ljava/util/HashMap$Node;Ljava/util/HashMap$Node;)Ljava/util/HashMap$TreeNode;" } : Jvm.MethodName)) ∈ lw_all := lw_g (lw_at lw_m3 175 rfl) rfl
theorem q684 : (Jvm.Cond.instanceMethod ({ cls := "java/util/LinkedHashMap", name := "replacementTreeNode", desc := "(Ljava/util/HashMap$Node;Ljava/util/HashMap$Node;)Ljava/util/HashMap$TreeNode;" } : Jvm.MethodName)) ∈ lw_all := lw_g (lw_at lw_m3 176 rfl) rfl
theorem q685 : (Jvm.Cond.code ({ cls := "java/util/LinkedHashMap", name := "replacementTreeNode", desc := "(Ljava/util/HashMap$Node;Ljava/util/HashMap$Node;)Ljava/util/HashMap$TreeNode;" } : Jvm.MethodName) prog_39_method_7_code (5 : Nat) (Option.some (Jvm.ClassFile.FieldType.object "java/util/HashMap$TreeNode"))) ∈ lw_all := lw_g (lw_at lw_m3 177 rfl) rfl
theorem q691 : (Jvm.Cond.selects "java/util/LinkedHashMap" ({ cls := "java/util/HashMap", name := "afterNodeAccess", desc := "(Ljava/util/HashMap$Node;)V" } : Jvm.MethodName) ({ cls := "java/util/LinkedHashMap", name := "afterNodeAccess", desc := "(Ljava/util/HashMap$Node;)V" } : Jvm.MethodName)) ∈ lw_all := lw_g (lw_at lw_m3 183 rfl) rfl
theorem q692 : (Jvm.Cond.instanceMethod ({ cls := "java/util/LinkedHashMap", name := "afterNodeAccess", desc := "(Ljava/util/HashMap$Node;)V" } : Jvm.MethodName)) ∈ lw_all := lw_g (lw_at lw_m3 184 rfl) rfl
theorem q693 : (Jvm.Cond.code ({ cls := "java/util/LinkedHashMap", name := "afterNodeAccess", desc := "(Ljava/util/HashMap$Node;)V" } : Jvm.MethodName) prog_39_method_10_code (7 : Nat) (Option.none : Option Jvm.ClassFile.FieldType)) ∈ lw_all := lw_g (lw_at lw_m3 185 rfl) rfl
theorem q698 : (Jvm.Cond.selects "java/util/LinkedHashMap" ({ cls := "java/util/HashMap", name := "afterNodeInsertion", desc := "(Z)V" } : Jvm.MethodName) ({ cls := "java/util/LinkedHashMap", name := "afterNodeInsertion", desc := "(Z)V" } : Jvm.MethodName)) ∈ lw_all := lw_g (lw_at lw_m3 190 rfl) rfl
theorem q699 : (Jvm.Cond.instanceMethod ({ cls := "java/util/LinkedHashMap", name := "afterNodeInsertion", desc := "(Z)V" } : Jvm.MethodName)) ∈ lw_all := lw_g (lw_at lw_m3 191 rfl) rfl
theorem q700 : (Jvm.Cond.code ({ cls := "java/util/LinkedHashMap", name := "afterNodeInsertion", desc := "(Z)V" } : Jvm.MethodName) prog_39_method_9_code (4 : Nat) (Option.none : Option Jvm.ClassFile.FieldType)) ∈ lw_all := lw_g (lw_at lw_m3 192 rfl) rfl
theorem q701 : (Jvm.Cond.methodLink "java/util/LinkedHashMap" (53 : Nat) ({ cls := "java/util/LinkedHashMap", name := "removeEldestEntry", desc := "(Ljava/util/Map$Entry;)Z" } : Jvm.MethodName)) ∈ lw_all := lw_g (lw_at lw_m3 193 rfl) rfl
theorem q702 : (Jvm.Cond.instanceMethod ({ cls := "java/util/LinkedHashMap", name := "removeEldestEntry", desc := "(Ljava/util/Map$Entry;)Z" } : Jvm.MethodName)) ∈ lw_all := lw_g (lw_at lw_m3 194 rfl) rfl
theorem q703 : (Jvm.Cond.selects "java/util/LinkedHashMap" ({ cls := "java/util/LinkedHashMap", name := "removeEldestEntry", desc := "(Ljava/util/Map$Entry;)Z" } : Jvm.MethodName) ({ cls := "java/util/LinkedHashMap", name := "removeEldestEntry", desc := "(Ljava/util/Map$Entry;)Z" } : Jvm.MethodName)) ∈ lw_all := lw_g (lw_at lw_m3 195 rfl) rfl
theorem q704 : (Jvm.Cond.code ({ cls := "java/util/LinkedHashMap", name := "removeEldestEntry", desc := "(Ljava/util/Map$Entry;)Z" } : Jvm.MethodName) prog_39_method_23_code (2 : Nat) (Option.some Jvm.ClassFile.FieldType.boolean)) ∈ lw_all := lw_g (lw_at lw_m3 196 rfl) rfl
theorem q707 : (Jvm.Cond.sameMethod "java/util/LinkedHashMap" "java/util/HashMap" "size" "()I") ∈ lw_all := lw_g (lw_at lw_m3 199 rfl) rfl
theorem q709 : (Jvm.Cond.selects "java/util/LinkedHashMap" ({ cls := "java/util/LinkedHashMap", name := "size", desc := "()I" } : Jvm.MethodName) ({ cls := "java/util/HashMap", name := "size", desc := "()I" } : Jvm.MethodName)) ∈ lw_all := lw_g (lw_at lw_m3 201 rfl) rfl
theorem q905 : (Jvm.Cond.instanceMethod ({ cls := "java/util/LinkedHashMap", name := "entrySet", desc := "()Ljava/util/Set;" } : Jvm.MethodName)) ∈ lw_all := lw_g (lw_at lw_m4 157 rfl) rfl
theorem q906 : (Jvm.Cond.selects "java/util/LinkedHashMap" ({ cls := "java/util/LinkedHashMap", name := "entrySet", desc := "()Ljava/util/Set;" } : Jvm.MethodName) ({ cls := "java/util/LinkedHashMap", name := "entrySet", desc := "()Ljava/util/Set;" } : Jvm.MethodName)) ∈ lw_all := lw_g (lw_at lw_m4 158 rfl) rfl
theorem q907 : (Jvm.Cond.code ({ cls := "java/util/LinkedHashMap", name := "entrySet", desc := "()Ljava/util/Set;" } : Jvm.MethodName) prog_39_method_32_code (1 : Nat) (Option.some (Jvm.ClassFile.FieldType.object "java/util/Set"))) ∈ lw_all := lw_g (lw_at lw_m4 159 rfl) rfl
theorem q908 : (Jvm.Cond.methodLink "java/util/LinkedHashMap" (148 : Nat) ({ cls := "java/util/LinkedHashMap", name := "sequencedEntrySet", desc := "()Ljava/util/SequencedSet;" } : Jvm.MethodName)) ∈ lw_all := lw_g (lw_at lw_m4 160 rfl) rfl
theorem q909 : (Jvm.Cond.instanceMethod ({ cls := "java/util/LinkedHashMap", name := "sequencedEntrySet", desc := "()Ljava/util/SequencedSet;" } : Jvm.MethodName)) ∈ lw_all := lw_g (lw_at lw_m4 161 rfl) rfl
theorem q910 : (Jvm.Cond.selects "java/util/LinkedHashMap" ({ cls := "java/util/LinkedHashMap", name := "sequencedEntrySet", desc := "()Ljava/util/SequencedSet;" } : Jvm.MethodName) ({ cls := "java/util/LinkedHashMap", name := "sequencedEntrySet", desc := "()Ljava/util/SequencedSet;" } : Jvm.MethodName)) ∈ lw_all := lw_g (lw_at lw_m4 162 rfl) rfl
theorem q911 : (Jvm.Cond.code ({ cls := "java/util/LinkedHashMap", name := "sequencedEntrySet", desc := "()Ljava/util/SequencedSet;" } : Jvm.MethodName) prog_39_method_33_code (3 : Nat) (Option.some (Jvm.ClassFile.FieldType.object "java/util/SequencedSet"))) ∈ lw_all := lw_g (lw_at lw_m4 163 rfl) rfl
theorem q912 : (Jvm.Cond.classLink "java/util/LinkedHashMap" (154 : Nat) "java/util/LinkedHashMap$LinkedEntrySet") ∈ lw_all := lw_g (lw_at lw_m4 164 rfl) rfl
theorem q914 : (Jvm.Cond.methodLink "java/util/LinkedHashMap" (156 : Nat) ({ cls := "java/util/LinkedHashMap$LinkedEntrySet", name := "<init>", desc := "(Ljava/util/LinkedHashMap;Z)V" } : Jvm.MethodName)) ∈ lw_all := lw_g (lw_at lw_m4 166 rfl) rfl
theorem q928 : (Jvm.Cond.classLink "java/util/LinkedHashMap" (126 : Nat) "java/util/SequencedSet") ∈ lw_all := lw_g (lw_at lw_m4 180 rfl) rfl
theorem q1355 : (Jvm.Cond.castable "java/util/LinkedHashMap" "java/lang/Object") ∈ lw_tbl := lw_at lw_m6 127 rfl
theorem in_J5 : ∀ w ∈ wsJ50, w ∈ lw_all := lw_in wsJ50 [147, 149, 151, 153, 155, 157, 159, 161, 139, 141, 143, 145] (by decide +kernel) (by decide +kernel)
/-! J6 -/
def RJ6 : String := "java/lang/Number"
theorem q38 : (Jvm.Cond.initialized "java/lang/Number") ∈ lw_all := lw_g (lw_at lw_m1 10 rfl) rfl
theorem q357 : (Jvm.Cond.instanceMethod ({ cls := "java/lang/Number", name := "<init>", desc := "()V" } : Jvm.MethodName)) ∈ lw_all := lw_g (lw_at lw_m2 89 rfl) rfl
theorem q358 : (Jvm.Cond.code ({ cls := "java/lang/Number", name := "<init>", desc := "()V" } : Jvm.MethodName) prog_19_method_1_code (1 : Nat) (Option.none : Option Jvm.ClassFile.FieldType)) ∈ lw_all := lw_g (lw_at lw_m2 90 rfl) rfl
theorem q359 : (Jvm.Cond.methodLink "java/lang/Number" (1 : Nat) ({ cls := "java/lang/Object", name := "<init>", desc := "()V" } : Jvm.MethodName)) ∈ lw_all := lw_g (lw_at lw_m2 91 rfl) rfl
/-! J7 -/
def RJ7 : String := "java/lang/Integer"
def TJ7 : u_T := fun k => match k with
  | _ => ("java/lang/Integer", "value", "I", true)
def tyJ7 : Nat → FieldType := fun k => match k with
  | _ => .int
abbrev wsJ70 : List Cond := u_ws RJ7 TJ7 1
theorem nmJ7 : ∀ a, a < 1 → ∀ b, b < 1 → a ≠ b → (TJ7 a).2.1 ≠ (TJ7 b).2.1 := by decide +kernel
theorem tyJ7_ok : ∀ k, k < 1 → parseFieldDescriptor (TJ7 k).2.2.1 = some (tyJ7 k) := by decide +kernel
theorem q39 : (Jvm.Cond.initialized "java/lang/Integer") ∈ lw_all := lw_g (lw_at lw_m1 11 rfl) rfl
theorem q237 : (Jvm.Cond.static ({ cls := "java/lang/Integer", name := "bitCount", desc := "(I)I" } : Jvm.MethodName)) ∈ lw_all := lw_g (lw_at lw_m1 209 rfl) rfl
theorem q238 : (Jvm.Cond.code ({ cls := "java/lang/Integer", name := "bitCount", desc := "(I)I" } : Jvm.MethodName) prog_15_method_49_code (1 : Nat) (Option.some Jvm.ClassFile.FieldType.int)) ∈ lw_all := lw_g (lw_at lw_m1 210 rfl) rfl
theorem q239 : (Jvm.Cond.constant "java/lang/Integer" (265 : Nat) (1431655765 : Int32)) ∈ lw_all := lw_g (lw_at lw_m1 211 rfl) rfl
theorem q240 : (Jvm.Cond.constant "java/lang/Integer" (266 : Nat) (858993459 : Int32)) ∈ lw_all := lw_g (lw_at lw_m1 212 rfl) rfl
theorem q241 : (Jvm.Cond.constant "java/lang/Integer" (267 : Nat) (252645135 : Int32)) ∈ lw_all := lw_g (lw_at lw_m1 213 rfl) rfl
theorem q316 : (Jvm.Cond.selects "java/lang/Integer" ({ cls := "java/lang/Object", name := "getClass", desc := "()Ljava/lang/Class;" } : Jvm.MethodName) ({ cls := "java/lang/Object", name := "getClass", desc := "()Ljava/lang/Class;" } : Jvm.MethodName)) ∈ lw_all := lw_g (lw_at lw_m2 48 rfl) rfl
theorem q345 : (Jvm.Cond.static ({ cls := "java/lang/Integer", name := "valueOf", desc := "(I)Ljava/lang/Integer;" } : Jvm.MethodName)) ∈ lw_all := lw_g (lw_at lw_m2 77 rfl) rfl
theorem q346 : (Jvm.Cond.code ({ cls := "java/lang/Integer", name := "valueOf", desc := "(I)Ljava/lang/Integer;" } : Jvm.MethodName) prog_15_method_22_code (1 : Nat) (Option.some (Jvm.ClassFile.FieldType.object "java/lang/Integer"))) ∈ lw_all := lw_g (lw_at lw_m2 78 rfl) rfl
theorem q347 : (Jvm.Cond.fieldLink "java/lang/Integer" (191 : Nat) "java/lang/Integer$IntegerCache" "high" "I") ∈ lw_all := lw_g (lw_at lw_m2 79 rfl) rfl
theorem q349 : (Jvm.Cond.fieldLink "java/lang/Integer" (195 : Nat) "java/lang/Integer$IntegerCache" "cache" "[Ljava/lang/Integer;") ∈ lw_all := lw_g (lw_at lw_m2 81 rfl) rfl
theorem q351 : (Jvm.Cond.classLink "java/lang/Integer" (1 : Nat) "java/lang/Integer") ∈ lw_all := lw_g (lw_at lw_m2 83 rfl) rfl
theorem q352 : (Jvm.Cond.instantiable "java/lang/Integer" (1 : Nat)) ∈ lw_all := lw_g (lw_at lw_m2 84 rfl) rfl
theorem q353 : (Jvm.Cond.methodLink "java/lang/Integer" (199 : Nat) ({ cls := "java/lang/Integer", name := "<init>", desc := "(I)V" } : Jvm.MethodName)) ∈ lw_all := lw_g (lw_at lw_m2 85 rfl) rfl
theorem q354 : (Jvm.Cond.instanceMethod ({ cls := "java/lang/Integer", name := "<init>", desc := "(I)V" } : Jvm.MethodName)) ∈ lw_all := lw_g (lw_at lw_m2 86 rfl) rfl
theorem q355 : (Jvm.Cond.code ({ cls := "java/lang/Integer", name := "<init>", desc := "(I)V" } : Jvm.MethodName) prog_15_method_23_code (2 : Nat) (Option.none : Option Jvm.ClassFile.FieldType)) ∈ lw_all := lw_g (lw_at lw_m2 87 rfl) rfl
theorem q356 : (Jvm.Cond.methodLink "java/lang/Integer" (202 : Nat) ({ cls := "java/lang/Number", name := "<init>", desc := "()V" } : Jvm.MethodName)) ∈ lw_all := lw_g (lw_at lw_m2 88 rfl) rfl
theorem q360 : (Jvm.Cond.fieldLink "java/lang/Integer" (205 : Nat) "java/lang/Integer" "value" "I") ∈ lw_all := lw_g (lw_at lw_m2 92 rfl) rfl
theorem q361 : (Jvm.Cond.laysFinal "java/lang/Integer" "java/lang/Integer" "value" "I") ∈ lw_all := lw_g (lw_at lw_m2 93 rfl) rfl
theorem q362 : (Jvm.Cond.soleField "java/lang/Integer" "value") ∈ lw_all := lw_g (lw_at lw_m2 94 rfl) rfl
theorem q363 : (Jvm.Cond.superclass "java/lang/Integer" "java/lang/Number") ∈ lw_all := lw_g (lw_at lw_m2 95 rfl) rfl
theorem q399 : (Jvm.Cond.selects "java/lang/Integer" ({ cls := "java/lang/Object", name := "hashCode", desc := "()I" } : Jvm.MethodName) ({ cls := "java/lang/Integer", name := "hashCode", desc := "()I" } : Jvm.MethodName)) ∈ lw_all := lw_g (lw_at lw_m2 131 rfl) rfl
theorem q400 : (Jvm.Cond.instanceMethod ({ cls := "java/lang/Integer", name := "hashCode", desc := "()I" } : Jvm.MethodName)) ∈ lw_all := lw_g (lw_at lw_m2 132 rfl) rfl
theorem q401 : (Jvm.Cond.code ({ cls := "java/lang/Integer", name := "hashCode", desc := "()I" } : Jvm.MethodName) prog_15_method_32_code (1 : Nat) (Option.some Jvm.ClassFile.FieldType.int)) ∈ lw_all := lw_g (lw_at lw_m2 133 rfl) rfl
theorem q402 : (Jvm.Cond.methodLink "java/lang/Integer" (208 : Nat) ({ cls := "java/lang/Integer", name := "hashCode", desc := "(I)I" } : Jvm.MethodName)) ∈ lw_all := lw_g (lw_at lw_m2 134 rfl) rfl
theorem q403 : (Jvm.Cond.static ({ cls := "java/lang/Integer", name := "hashCode", desc := "(I)I" } : Jvm.MethodName)) ∈ lw_all := lw_g (lw_at lw_m2 135 rfl) rfl
theorem q404 : (Jvm.Cond.code ({ cls := "java/lang/Integer", name := "hashCode", desc := "(I)I" } : Jvm.MethodName) prog_15_method_33_code (1 : Nat) (Option.some Jvm.ClassFile.FieldType.int)) ∈ lw_all := lw_g (lw_at lw_m2 136 rfl) rfl
theorem q435 : (Jvm.Cond.selects "java/lang/Integer" ({ cls := "java/lang/Object", name := "equals", desc := "(Ljava/lang/Object;)Z" } : Jvm.MethodName) ({ cls := "java/lang/Integer", name := "equals", desc := "(Ljava/lang/Object;)Z" } : Jvm.MethodName)) ∈ lw_all := lw_g (lw_at lw_m2 167 rfl) rfl
theorem q436 : (Jvm.Cond.instanceMethod ({ cls := "java/lang/Integer", name := "equals", desc := "(Ljava/lang/Object;)Z" } : Jvm.MethodName)) ∈ lw_all := lw_g (lw_at lw_m2 168 rfl) rfl
theorem q437 : (Jvm.Cond.code ({ cls := "java/lang/Integer", name := "equals", desc := "(Ljava/lang/Object;)Z" } : Jvm.MethodName) prog_15_method_34_code (2 : Nat) (Option.some Jvm.ClassFile.FieldType.boolean)) ∈ lw_all := lw_g (lw_at lw_m2 169 rfl) rfl
theorem q438 : (Jvm.Cond.methodLink "java/lang/Integer" (211 : Nat) ({ cls := "java/lang/Integer", name := "intValue", desc := "()I" } : Jvm.MethodName)) ∈ lw_all := lw_g (lw_at lw_m2 170 rfl) rfl
theorem q439 : (Jvm.Cond.instanceMethod ({ cls := "java/lang/Integer", name := "intValue", desc := "()I" } : Jvm.MethodName)) ∈ lw_all := lw_g (lw_at lw_m2 171 rfl) rfl
theorem q440 : (Jvm.Cond.selects "java/lang/Integer" ({ cls := "java/lang/Integer", name := "intValue", desc := "()I" } : Jvm.MethodName) ({ cls := "java/lang/Integer", name := "intValue", desc := "()I" } : Jvm.MethodName)) ∈ lw_all := lw_g (lw_at lw_m2 172 rfl) rfl
theorem q441 : (Jvm.Cond.code ({ cls := "java/lang/Integer", name := "intValue", desc := "()I" } : Jvm.MethodName) prog_15_method_27_code (1 : Nat) (Option.some Jvm.ClassFile.FieldType.int)) ∈ lw_all := lw_g (lw_at lw_m2 173 rfl) rfl
theorem q483 : (Jvm.Cond.castable "java/lang/Integer" "java/lang/Comparable") ∈ lw_tbl := lw_at lw_m2 215 rfl
theorem q484 : (Jvm.Cond.selects "java/lang/Integer" ({ cls := "java/lang/Comparable", name := "compareTo", desc := "(Ljava/lang/Object;)I" } : Jvm.MethodName) ({ cls := "java/lang/Integer", name := "compareTo", desc := "(Ljava/lang/Object;)I" } : Jvm.MethodName)) ∈ lw_all := lw_g (lw_at lw_m2 216 rfl) rfl
theorem q485 : (Jvm.Cond.unhidden "java/lang/Integer" "compareTo" "(Ljava/lang/Object;)I") ∈ lw_tbl := lw_at lw_m2 217 rfl
theorem q486 : (Jvm.Cond.instanceMethod ({ cls := "java/lang/Integer", name := "compareTo", desc := "(Ljava/lang/Object;)I" } : Jvm.MethodName)) ∈ lw_all := lw_g (lw_at lw_m2 218 rfl) rfl
theorem q487 : (Jvm.Cond.publicMethod ({ cls := "java/lang/Integer", name := "compareTo", desc := "(Ljava/lang/Object;)I" } : Jvm.MethodName)) ∈ lw_tbl := lw_at lw_m2 219 rfl
theorem q488 : (Jvm.Cond.code ({ cls := "java/lang/Integer", name := "compareTo", desc := "(Ljava/lang/Object;)I" } : Jvm.MethodName) prog_15_method_63_code (2 : Nat) (Option.some Jvm.ClassFile.FieldType.int)) ∈ lw_all := lw_g (lw_at lw_m2 220 rfl) rfl
theorem q489 : (Jvm.Cond.methodLink "java/lang/Integer" (284 : Nat) ({ cls := "java/lang/Integer", name := "compareTo", desc := "(Ljava/lang/Integer;)I" } : Jvm.MethodName)) ∈ lw_all := lw_g (lw_at lw_m2 221 rfl) rfl
theorem q490 : (Jvm.Cond.instanceMethod ({ cls := "java/lang/Integer", name := "compareTo", desc := "(Ljava/lang/Integer;)I" } : Jvm.MethodName)) ∈ lw_all := lw_g (lw_at lw_m2 222 rfl) rfl
theorem q491 : (Jvm.Cond.selects "java/lang/Integer" ({ cls := "java/lang/Integer", name := "compareTo", desc := "(Ljava/lang/Integer;)I" } : Jvm.MethodName) ({ cls := "java/lang/Integer", name := "compareTo", desc := "(Ljava/lang/Integer;)I" } : Jvm.MethodName)) ∈ lw_all := lw_g (lw_at lw_m2 223 rfl) rfl
theorem q492 : (Jvm.Cond.code ({ cls := "java/lang/Integer", name := "compareTo", desc := "(Ljava/lang/Integer;)I" } : Jvm.MethodName) prog_15_method_39_code (2 : Nat) (Option.some Jvm.ClassFile.FieldType.int)) ∈ lw_all := lw_g (lw_at lw_m2 224 rfl) rfl
theorem q493 : (Jvm.Cond.methodLink "java/lang/Integer" (259 : Nat) ({ cls := "java/lang/Integer", name := "compare", desc := "(II)I" } : Jvm.MethodName)) ∈ lw_all := lw_g (lw_at lw_m2 225 rfl) rfl
theorem q494 : (Jvm.Cond.static ({ cls := "java/lang/Integer", name := "compare", desc := "(II)I" } : Jvm.MethodName)) ∈ lw_all := lw_g (lw_at lw_m2 226 rfl) rfl
theorem q495 : (Jvm.Cond.code ({ cls := "java/lang/Integer", name := "compare", desc := "(II)I" } : Jvm.MethodName) prog_15_method_40_code (2 : Nat) (Option.some Jvm.ClassFile.FieldType.int)) ∈ lw_all := lw_g (lw_at lw_m2 227 rfl) rfl
theorem q1350 : (Jvm.Cond.castable "java/lang/Integer" "java/lang/Object") ∈ lw_tbl := lw_at lw_m6 122 rfl
theorem in_J7 : ∀ w ∈ wsJ70, w ∈ lw_all := lw_in wsJ70 [361] (by decide +kernel) (by decide +kernel)
/-! J8 -/
def RJ8 : String := "java/lang/Math"
theorem q40 : (Jvm.Cond.initialized "java/lang/Math") ∈ lw_all := lw_g (lw_at lw_m1 12 rfl) rfl
theorem q252 : (Jvm.Cond.static ({ cls := "java/lang/Math", name := "abs", desc := "(I)I" } : Jvm.MethodName)) ∈ lw_all := lw_g (lw_at lw_m1 224 rfl) rfl
theorem q253 : (Jvm.Cond.code ({ cls := "java/lang/Math", name := "abs", desc := "(I)I" } : Jvm.MethodName) prog_18_method_59_code (1 : Nat) (Option.some Jvm.ClassFile.FieldType.int)) ∈ lw_all := lw_g (lw_at lw_m1 225 rfl) rfl
theorem q297 : (Jvm.Cond.static ({ cls := "java/lang/Math", name := "max", desc := "(II)I" } : Jvm.MethodName)) ∈ lw_all := lw_g (lw_at lw_m2 29 rfl) rfl
theorem q298 : (Jvm.Cond.code ({ cls := "java/lang/Math", name := "max", desc := "(II)I" } : Jvm.MethodName) prog_18_method_65_code (2 : Nat) (Option.some Jvm.ClassFile.FieldType.int)) ∈ lw_all := lw_g (lw_at lw_m2 30 rfl) rfl
theorem q333 : (Jvm.Cond.static ({ cls := "java/lang/Math", name := "min", desc := "(II)I" } : Jvm.MethodName)) ∈ lw_all := lw_g (lw_at lw_m2 65 rfl) rfl
theorem q334 : (Jvm.Cond.code ({ cls := "java/lang/Math", name := "min", desc := "(II)I" } : Jvm.MethodName) prog_18_method_69_code (2 : Nat) (Option.some Jvm.ClassFile.FieldType.int)) ∈ lw_all := lw_g (lw_at lw_m2 66 rfl) rfl
/-! J9 -/
def RJ9 : String := "java/lang/Record"
theorem q41 : (Jvm.Cond.initialized "java/lang/Record") ∈ lw_all := lw_g (lw_at lw_m1 13 rfl) rfl
theorem q261 : (Jvm.Cond.instanceMethod ({ cls := "java/lang/Record", name := "<init>", desc := "()V" } : Jvm.MethodName)) ∈ lw_all := lw_g (lw_at lw_m1 233 rfl) rfl
theorem q262 : (Jvm.Cond.code ({ cls := "java/lang/Record", name := "<init>", desc := "()V" } : Jvm.MethodName) prog_20_method_1_code (1 : Nat) (Option.none : Option Jvm.ClassFile.FieldType)) ∈ lw_all := lw_g (lw_at lw_m1 234 rfl) rfl
theorem q263 : (Jvm.Cond.methodLink "java/lang/Record" (1 : Nat) ({ cls := "java/lang/Object", name := "<init>", desc := "()V" } : Jvm.MethodName)) ∈ lw_all := lw_g (lw_at lw_m1 235 rfl) rfl
/-! L -/
/-! X0 -/
def RX0 : String := "FeatureSolveLaw"
theorem q28 : (Jvm.Cond.initialized "FeatureSolveLaw") ∈ lw_all := lw_g (lw_at lw_m1 0 rfl) rfl
theorem q65 : (Jvm.Cond.classLink "FeatureSolveLaw" (8 : Nat) "FeatureSolve") ∈ lw_all := lw_g (lw_at lw_m1 37 rfl) rfl
theorem q67 : (Jvm.Cond.methodLink "FeatureSolveLaw" (15 : Nat) ({ cls := "FeatureSolve", name := "<init>", desc := "()V" } : Jvm.MethodName)) ∈ lw_all := lw_g (lw_at lw_m1 39 rfl) rfl
theorem q210 : (Jvm.Cond.methodLink "FeatureSolveLaw" (19 : Nat) ({ cls := "FeatureSolve", name := "feature", desc := "(II)I" } : Jvm.MethodName)) ∈ lw_all := lw_g (lw_at lw_m1 182 rfl) rfl
theorem q225 : (Jvm.Cond.methodLink "FeatureSolveLaw" (24 : Nat) ({ cls := "FeatureSolve", name := "group", desc := "(III)I" } : Jvm.MethodName)) ∈ lw_all := lw_g (lw_at lw_m1 197 rfl) rfl
theorem q242 : (Jvm.Cond.methodLink "FeatureSolveLaw" (29 : Nat) ({ cls := "FeatureSolve", name := "formula", desc := "(III)I" } : Jvm.MethodName)) ∈ lw_all := lw_g (lw_at lw_m1 214 rfl) rfl
theorem q338 : (Jvm.Cond.methodLink "FeatureSolveLaw" (33 : Nat) ({ cls := "FeatureSolve", name := "attribute", desc := "(III)I" } : Jvm.MethodName)) ∈ lw_all := lw_g (lw_at lw_m2 70 rfl) rfl
theorem q364 : (Jvm.Cond.methodLink "FeatureSolveLaw" (37 : Nat) ({ cls := "FeatureSolve", name := "choose", desc := "(IZ)I" } : Jvm.MethodName)) ∈ lw_all := lw_g (lw_at lw_m2 96 rfl) rfl
theorem q712 : (Jvm.Cond.methodLink "FeatureSolveLaw" (42 : Nat) ({ cls := "FeatureSolve", name := "solve", desc := "()I" } : Jvm.MethodName)) ∈ lw_all := lw_g (lw_at lw_m3 204 rfl) rfl
theorem q1040 : (Jvm.Cond.methodLink "FeatureSolveLaw" (47 : Nat) ({ cls := "FeatureSolve", name := "chosen", desc := "(I)Z" } : Jvm.MethodName)) ∈ lw_all := lw_g (lw_at lw_m5 52 rfl) rfl
theorem q1044 : (Jvm.Cond.methodLink "FeatureSolveLaw" (52 : Nat) ({ cls := "FeatureSolve", name := "why", desc := "(I)I" } : Jvm.MethodName)) ∈ lw_all := lw_g (lw_at lw_m5 56 rfl) rfl
theorem q1048 : (Jvm.Cond.methodLink "FeatureSolveLaw" (58 : Nat) ({ cls := "FeatureSolve", name := "count", desc := "(J)J" } : Jvm.MethodName)) ∈ lw_all := lw_g (lw_at lw_m5 60 rfl) rfl
theorem q1058 : (Jvm.Cond.methodLink "FeatureSolveLaw" (63 : Nat) ({ cls := "FeatureSolve", name := "forces", desc := "(II)I" } : Jvm.MethodName)) ∈ lw_all := lw_g (lw_at lw_m5 70 rfl) rfl
theorem q1062 : (Jvm.Cond.methodLink "FeatureSolveLaw" (67 : Nat) ({ cls := "FeatureSolve", name := "differ", desc := "(II)I" } : Jvm.MethodName)) ∈ lw_all := lw_g (lw_at lw_m5 74 rfl) rfl
theorem q1066 : (Jvm.Cond.methodLink "FeatureSolveLaw" (71 : Nat) ({ cls := "FeatureSolveLaw", name := "level", desc := "(LFeatureSolve;I[J)I" } : Jvm.MethodName)) ∈ lw_all := lw_g (lw_at lw_m5 78 rfl) rfl
theorem q1067 : (Jvm.Cond.static ({ cls := "FeatureSolveLaw", name := "level", desc := "(LFeatureSolve;I[J)I" } : Jvm.MethodName)) ∈ lw_all := lw_g (lw_at lw_m5 79 rfl) rfl
theorem q1068 : (Jvm.Cond.codeWith ({ cls := "FeatureSolveLaw", name := "level", desc := "(LFeatureSolve;I[J)I" } : Jvm.MethodName) method_3_code (4 : Nat) (Option.some Jvm.ClassFile.FieldType.int) [((0 : Nat), (9 : Nat), (12 : Nat), (13 : Nat))]) ∈ lw_all := lw_g (lw_at lw_m5 80 rfl) rfl
theorem q1069 : (Jvm.Cond.classLink "FeatureSolveLaw" (13 : Nat) "java/lang/ArrayIndexOutOfBoundsException") ∈ lw_all := lw_g (lw_at lw_m5 81 rfl) rfl
theorem q1143 : (Jvm.Cond.methodLink "FeatureSolveLaw" (7 : Nat) ({ cls := "FeatureSolve", name := "level", desc := "(I)I" } : Jvm.MethodName)) ∈ lw_all := lw_g (lw_at lw_m5 155 rfl) rfl
theorem q1147 : (Jvm.Cond.classLink "FeatureSolveLaw" (16 : Nat) "FeatureSolveModel") ∈ lw_all := lw_g (lw_at lw_m5 159 rfl) rfl
theorem q1149 : (Jvm.Cond.methodLink "FeatureSolveLaw" (18 : Nat) ({ cls := "FeatureSolveModel", name := "<init>", desc := "()V" } : Jvm.MethodName)) ∈ lw_all := lw_g (lw_at lw_m5 161 rfl) rfl
theorem q1236 : (Jvm.Cond.methodLink "FeatureSolveLaw" (77 : Nat) ({ cls := "FeatureSolveModel", name := "thrown", desc := "()I" } : Jvm.MethodName)) ∈ lw_all := lw_g (lw_at lw_m6 8 rfl) rfl
theorem q1240 : (Jvm.Cond.methodLink "FeatureSolveLaw" (23 : Nat) ({ cls := "FeatureSolveModel", name := "feature", desc := "(II)I" } : Jvm.MethodName)) ∈ lw_all := lw_g (lw_at lw_m6 12 rfl) rfl
theorem q1248 : (Jvm.Cond.methodLink "FeatureSolveLaw" (28 : Nat) ({ cls := "FeatureSolveModel", name := "group", desc := "(III)I" } : Jvm.MethodName)) ∈ lw_all := lw_g (lw_at lw_m6 20 rfl) rfl
theorem q1256 : (Jvm.Cond.methodLink "FeatureSolveLaw" (32 : Nat) ({ cls := "FeatureSolveModel", name := "formula", desc := "(III)I" } : Jvm.MethodName)) ∈ lw_all := lw_g (lw_at lw_m6 28 rfl) rfl
theorem q1264 : (Jvm.Cond.methodLink "FeatureSolveLaw" (36 : Nat) ({ cls := "FeatureSolveModel", name := "attribute", desc := "(III)I" } : Jvm.MethodName)) ∈ lw_all := lw_g (lw_at lw_m6 36 rfl) rfl
theorem q1268 : (Jvm.Cond.methodLink "FeatureSolveLaw" (41 : Nat) ({ cls := "FeatureSolveModel", name := "choose", desc := "(IZ)I" } : Jvm.MethodName)) ∈ lw_all := lw_g (lw_at lw_m6 40 rfl) rfl
theorem q1280 : (Jvm.Cond.methodLink "FeatureSolveLaw" (46 : Nat) ({ cls := "FeatureSolveModel", name := "solve", desc := "()I" } : Jvm.MethodName)) ∈ lw_all := lw_g (lw_at lw_m6 52 rfl) rfl
theorem q1316 : (Jvm.Cond.methodLink "FeatureSolveLaw" (51 : Nat) ({ cls := "FeatureSolveModel", name := "chosen", desc := "(I)Z" } : Jvm.MethodName)) ∈ lw_all := lw_g (lw_at lw_m6 88 rfl) rfl
theorem q1323 : (Jvm.Cond.methodLink "FeatureSolveLaw" (55 : Nat) ({ cls := "FeatureSolveModel", name := "why", desc := "(I)I" } : Jvm.MethodName)) ∈ lw_all := lw_g (lw_at lw_m6 95 rfl) rfl
theorem q1327 : (Jvm.Cond.methodLink "FeatureSolveLaw" (62 : Nat) ({ cls := "FeatureSolveModel", name := "count", desc := "(J)J" } : Jvm.MethodName)) ∈ lw_all := lw_g (lw_at lw_m6 99 rfl) rfl
theorem q1333 : (Jvm.Cond.methodLink "FeatureSolveLaw" (66 : Nat) ({ cls := "FeatureSolveModel", name := "forces", desc := "(II)I" } : Jvm.MethodName)) ∈ lw_all := lw_g (lw_at lw_m6 105 rfl) rfl
theorem q1337 : (Jvm.Cond.methodLink "FeatureSolveLaw" (70 : Nat) ({ cls := "FeatureSolveModel", name := "differ", desc := "(II)I" } : Jvm.MethodName)) ∈ lw_all := lw_g (lw_at lw_m6 109 rfl) rfl
theorem q1341 : (Jvm.Cond.methodLink "FeatureSolveLaw" (76 : Nat) ({ cls := "FeatureSolveModel", name := "level", desc := "(I)I" } : Jvm.MethodName)) ∈ lw_all := lw_g (lw_at lw_m6 113 rfl) rfl
theorem q1345 : (Jvm.Cond.constantLong "FeatureSolveLaw" (56 : Nat) (4294967295 : Int64)) ∈ lw_all := lw_g (lw_at lw_m6 117 rfl) rfl
/-! X1 -/
def RX1 : String := "FeatureSolve"
def TX1 : u_T := fun k => match k with
  | 0 => ("FeatureSolve", "parents", "[I", true)
  | 1 => ("FeatureSolve", "kinds", "[I", true)
  | 2 => ("FeatureSolve", "levels", "[I", false)
  | 3 => ("FeatureSolve", "attributes", "[[I", true)
  | 4 => ("FeatureSolve", "limits", "[Ljava/lang/Integer;", true)
  | 5 => ("FeatureSolve", "groups", "[[I", true)
  | 6 => ("FeatureSolve", "formulas", "Ljava/util/List;", true)
  | 7 => ("FeatureSolve", "formulaCount", "I", false)
  | 8 => ("FeatureSolve", "choices", "Ljava/util/LinkedHashMap;", true)
  | 9 => ("FeatureSolve", "rules", "Ljava/util/List;", true)
  | 10 => ("FeatureSolve", "made", "Z", false)
  | 11 => ("FeatureSolve", "features", "I", false)
  | 12 => ("FeatureSolve", "found", "Ljava/util/List;", true)
  | 13 => ("FeatureSolve", "variant", "I", false)
  | _ => ("FeatureSolve", "why", "Ljava/util/List;", true)
def tyX1 : Nat → FieldType := fun k => match k with
  | 0 => .array .int
  | 1 => .array .int
  | 2 => .array .int
  | 3 => .array (.array .int)
  | 4 => .array (.object "java/lang/Integer")
  | 5 => .array (.array .int)
  | 6 => .object "java/util/List"
  | 7 => .int
  | 8 => .object "java/util/LinkedHashMap"
  | 9 => .object "java/util/List"
  | 10 => .boolean
  | 11 => .int
  | 12 => .object "java/util/List"
  | 13 => .int
  | _ => .object "java/util/List"
abbrev wsX10 : List Cond := u_ws RX1 TX1 15
theorem nmX1 : ∀ a, a < 15 → ∀ b, b < 15 → a ≠ b → (TX1 a).2.1 ≠ (TX1 b).2.1 := by decide +kernel
theorem tyX1_ok : ∀ k, k < 15 → parseFieldDescriptor (TX1 k).2.2.1 = some (tyX1 k) := by decide +kernel
theorem q29 : (Jvm.Cond.initialized "FeatureSolve") ∈ lw_all := lw_g (lw_at lw_m1 1 rfl) rfl
theorem q66 : (Jvm.Cond.instantiable "FeatureSolve" (15 : Nat)) ∈ lw_all := lw_g (lw_at lw_m1 38 rfl) rfl
theorem q68 : (Jvm.Cond.instanceMethod ({ cls := "FeatureSolve", name := "<init>", desc := "()V" } : Jvm.MethodName)) ∈ lw_all := lw_g (lw_at lw_m1 40 rfl) rfl
theorem q69 : (Jvm.Cond.code ({ cls := "FeatureSolve", name := "<init>", desc := "()V" } : Jvm.MethodName) prog_1_method_3_code (1 : Nat) (Option.none : Option Jvm.ClassFile.FieldType)) ∈ lw_all := lw_g (lw_at lw_m1 41 rfl) rfl
theorem q70 : (Jvm.Cond.methodLink "FeatureSolve" (1 : Nat) ({ cls := "java/lang/Object", name := "<init>", desc := "()V" } : Jvm.MethodName)) ∈ lw_all := lw_g (lw_at lw_m1 42 rfl) rfl
theorem q73 : (Jvm.Cond.classLink "FeatureSolve" (19 : Nat) "[[I") ∈ lw_all := lw_g (lw_at lw_m1 45 rfl) rfl
theorem q75 : (Jvm.Cond.classLink "FeatureSolve" (24 : Nat) "java/lang/Integer") ∈ lw_all := lw_g (lw_at lw_m1 47 rfl) rfl
theorem q77 : (Jvm.Cond.classLink "FeatureSolve" (30 : Nat) "[I") ∈ lw_all := lw_g (lw_at lw_m1 49 rfl) rfl
theorem q78 : (Jvm.Cond.classLink "FeatureSolve" (34 : Nat) "java/util/ArrayList") ∈ lw_all := lw_g (lw_at lw_m1 50 rfl) rfl
theorem q80 : (Jvm.Cond.methodLink "FeatureSolve" (36 : Nat) ({ cls := "java/util/ArrayList", name := "<init>", desc := "()V" } : Jvm.MethodName)) ∈ lw_all := lw_g (lw_at lw_m1 52 rfl) rfl
theorem q108 : (Jvm.Cond.classLink "FeatureSolve" (41 : Nat) "java/util/LinkedHashMap") ∈ lw_all := lw_g (lw_at lw_m1 80 rfl) rfl
theorem q110 : (Jvm.Cond.methodLink "FeatureSolve" (43 : Nat) ({ cls := "java/util/LinkedHashMap", name := "<init>", desc := "()V" } : Jvm.MethodName)) ∈ lw_all := lw_g (lw_at lw_m1 82 rfl) rfl
theorem q164 : (Jvm.Cond.fieldLink "FeatureSolve" (7 : Nat) "FeatureSolve" "parents" "[I") ∈ lw_all := lw_g (lw_at lw_m1 136 rfl) rfl
theorem q165 : (Jvm.Cond.fieldLink "FeatureSolve" (13 : Nat) "FeatureSolve" "kinds" "[I") ∈ lw_all := lw_g (lw_at lw_m1 137 rfl) rfl
theorem q166 : (Jvm.Cond.fieldLink "FeatureSolve" (16 : Nat) "FeatureSolve" "levels" "[I") ∈ lw_all := lw_g (lw_at lw_m1 138 rfl) rfl
theorem q167 : (Jvm.Cond.fieldLink "FeatureSolve" (21 : Nat) "FeatureSolve" "attributes" "[[I") ∈ lw_all := lw_g (lw_at lw_m1 139 rfl) rfl
theorem q168 : (Jvm.Cond.fieldLink "FeatureSolve" (26 : Nat) "FeatureSolve" "limits" "[Ljava/lang/Integer;") ∈ lw_all := lw_g (lw_at lw_m1 140 rfl) rfl
theorem q169 : (Jvm.Cond.fieldLink "FeatureSolve" (31 : Nat) "FeatureSolve" "groups" "[[I") ∈ lw_all := lw_g (lw_at lw_m1 141 rfl) rfl
theorem q170 : (Jvm.Cond.fieldLink "FeatureSolve" (37 : Nat) "FeatureSolve" "formulas" "Ljava/util/List;") ∈ lw_all := lw_g (lw_at lw_m1 142 rfl) rfl
theorem q171 : (Jvm.Cond.fieldLink "FeatureSolve" (105 : Nat) "FeatureSolve" "formulaCount" "I") ∈ lw_all := lw_g (lw_at lw_m1 143 rfl) rfl
theorem q172 : (Jvm.Cond.fieldLink "FeatureSolve" (44 : Nat) "FeatureSolve" "choices" "Ljava/util/LinkedHashMap;") ∈ lw_all := lw_g (lw_at lw_m1 144 rfl) rfl
theorem q173 : (Jvm.Cond.fieldLink "FeatureSolve" (48 : Nat) "FeatureSolve" "rules" "Ljava/util/List;") ∈ lw_all := lw_g (lw_at lw_m1 145 rfl) rfl
theorem q174 : (Jvm.Cond.fieldLink "FeatureSolve" (80 : Nat) "FeatureSolve" "made" "Z") ∈ lw_all := lw_g (lw_at lw_m1 146 rfl) rfl
theorem q175 : (Jvm.Cond.fieldLink "FeatureSolve" (61 : Nat) "FeatureSolve" "features" "I") ∈ lw_all := lw_g (lw_at lw_m1 147 rfl) rfl
theorem q176 : (Jvm.Cond.fieldLink "FeatureSolve" (51 : Nat) "FeatureSolve" "found" "Ljava/util/List;") ∈ lw_all := lw_g (lw_at lw_m1 148 rfl) rfl
theorem q177 : (Jvm.Cond.fieldLink "FeatureSolve" (54 : Nat) "FeatureSolve" "variant" "I") ∈ lw_all := lw_g (lw_at lw_m1 149 rfl) rfl
theorem q178 : (Jvm.Cond.fieldLink "FeatureSolve" (58 : Nat) "FeatureSolve" "why" "Ljava/util/List;") ∈ lw_all := lw_g (lw_at lw_m1 150 rfl) rfl
theorem q179 : (Jvm.Cond.laysFinal "FeatureSolve" "FeatureSolve" "parents" "[I") ∈ lw_all := lw_g (lw_at lw_m1 151 rfl) rfl
theorem q180 : (Jvm.Cond.soleField "FeatureSolve" "parents") ∈ lw_all := lw_g (lw_at lw_m1 152 rfl) rfl
theorem q181 : (Jvm.Cond.laysFinal "FeatureSolve" "FeatureSolve" "kinds" "[I") ∈ lw_all := lw_g (lw_at lw_m1 153 rfl) rfl
theorem q182 : (Jvm.Cond.soleField "FeatureSolve" "kinds") ∈ lw_all := lw_g (lw_at lw_m1 154 rfl) rfl
theorem q183 : (Jvm.Cond.lays "FeatureSolve" "FeatureSolve" "levels" "[I") ∈ lw_all := lw_g (lw_at lw_m1 155 rfl) rfl
theorem q184 : (Jvm.Cond.soleField "FeatureSolve" "levels") ∈ lw_all := lw_g (lw_at lw_m1 156 rfl) rfl
theorem q185 : (Jvm.Cond.laysFinal "FeatureSolve" "FeatureSolve" "attributes" "[[I") ∈ lw_all := lw_g (lw_at lw_m1 157 rfl) rfl
theorem q186 : (Jvm.Cond.soleField "FeatureSolve" "attributes") ∈ lw_all := lw_g (lw_at lw_m1 158 rfl) rfl
theorem q187 : (Jvm.Cond.laysFinal "FeatureSolve" "FeatureSolve" "limits" "[Ljava/lang/Integer;") ∈ lw_all := lw_g (lw_at lw_m1 159 rfl) rfl
theorem q188 : (Jvm.Cond.soleField "FeatureSolve" "limits") ∈ lw_all := lw_g (lw_at lw_m1 160 rfl) rfl
theorem q189 : (Jvm.Cond.laysFinal "FeatureSolve" "FeatureSolve" "groups" "[[I") ∈ lw_all := lw_g (lw_at lw_m1 161 rfl) rfl
theorem q190 : (Jvm.Cond.soleField "FeatureSolve" "groups") ∈ lw_all := lw_g (lw_at lw_m1 162 rfl) rfl
theorem q191 : (Jvm.Cond.laysFinal "FeatureSolve" "FeatureSolve" "formulas" "Ljava/util/List;") ∈ lw_all := lw_g (lw_at lw_m1 163 rfl) rfl
theorem q192 : (Jvm.Cond.soleField "FeatureSolve" "formulas") ∈ lw_all := lw_g (lw_at lw_m1 164 rfl) rfl
theorem q193 : (Jvm.Cond.lays "FeatureSolve" "FeatureSolve" "formulaCount" "I") ∈ lw_all := lw_g (lw_at lw_m1 165 rfl) rfl
theorem q194 : (Jvm.Cond.soleField "FeatureSolve" "formulaCount") ∈ lw_all := lw_g (lw_at lw_m1 166 rfl) rfl
theorem q195 : (Jvm.Cond.laysFinal "FeatureSolve" "FeatureSolve" "choices" "Ljava/util/LinkedHashMap;") ∈ lw_all := lw_g (lw_at lw_m1 167 rfl) rfl
theorem q196 : (Jvm.Cond.soleField "FeatureSolve" "choices") ∈ lw_all := lw_g (lw_at lw_m1 168 rfl) rfl
theorem q197 : (Jvm.Cond.laysFinal "FeatureSolve" "FeatureSolve" "rules" "Ljava/util/List;") ∈ lw_all := lw_g (lw_at lw_m1 169 rfl) rfl
theorem q198 : (Jvm.Cond.soleField "FeatureSolve" "rules") ∈ lw_all := lw_g (lw_at lw_m1 170 rfl) rfl
theorem q199 : (Jvm.Cond.lays "FeatureSolve" "FeatureSolve" "made" "Z") ∈ lw_all := lw_g (lw_at lw_m1 171 rfl) rfl
theorem q200 : (Jvm.Cond.soleField "FeatureSolve" "made") ∈ lw_all := lw_g (lw_at lw_m1 172 rfl) rfl
theorem q201 : (Jvm.Cond.lays "FeatureSolve" "FeatureSolve" "features" "I") ∈ lw_all := lw_g (lw_at lw_m1 173 rfl) rfl
theorem q202 : (Jvm.Cond.soleField "FeatureSolve" "features") ∈ lw_all := lw_g (lw_at lw_m1 174 rfl) rfl
theorem q203 : (Jvm.Cond.laysFinal "FeatureSolve" "FeatureSolve" "found" "Ljava/util/List;") ∈ lw_all := lw_g (lw_at lw_m1 175 rfl) rfl
theorem q204 : (Jvm.Cond.soleField "FeatureSolve" "found") ∈ lw_all := lw_g (lw_at lw_m1 176 rfl) rfl
theorem q205 : (Jvm.Cond.lays "FeatureSolve" "FeatureSolve" "variant" "I") ∈ lw_all := lw_g (lw_at lw_m1 177 rfl) rfl
theorem q206 : (Jvm.Cond.soleField "FeatureSolve" "variant") ∈ lw_all := lw_g (lw_at lw_m1 178 rfl) rfl
theorem q207 : (Jvm.Cond.laysFinal "FeatureSolve" "FeatureSolve" "why" "Ljava/util/List;") ∈ lw_all := lw_g (lw_at lw_m1 179 rfl) rfl
theorem q208 : (Jvm.Cond.soleField "FeatureSolve" "why") ∈ lw_all := lw_g (lw_at lw_m1 180 rfl) rfl
theorem q209 : (Jvm.Cond.superclass "FeatureSolve" "java/lang/Object") ∈ lw_all := lw_g (lw_at lw_m1 181 rfl) rfl
theorem q211 : (Jvm.Cond.instanceMethod ({ cls := "FeatureSolve", name := "feature", desc := "(II)I" } : Jvm.MethodName)) ∈ lw_all := lw_g (lw_at lw_m1 183 rfl) rfl
theorem q212 : (Jvm.Cond.selects "FeatureSolve" ({ cls := "FeatureSolve", name := "feature", desc := "(II)I" } : Jvm.MethodName) ({ cls := "FeatureSolve", name := "feature", desc := "(II)I" } : Jvm.MethodName)) ∈ lw_all := lw_g (lw_at lw_m1 184 rfl) rfl
theorem q213 : (Jvm.Cond.code ({ cls := "FeatureSolve", name := "feature", desc := "(II)I" } : Jvm.MethodName) prog_1_method_5_code (4 : Nat) (Option.some Jvm.ClassFile.FieldType.int)) ∈ lw_all := lw_g (lw_at lw_m1 185 rfl) rfl
theorem q214 : (Jvm.Cond.methodLink "FeatureSolve" (64 : Nat) ({ cls := "FeatureSolve", name := "is", desc := "(I)Z" } : Jvm.MethodName)) ∈ lw_all := lw_g (lw_at lw_m1 186 rfl) rfl
theorem q215 : (Jvm.Cond.privateMethod ({ cls := "FeatureSolve", name := "is", desc := "(I)Z" } : Jvm.MethodName)) ∈ lw_tbl := lw_at lw_m1 187 rfl
theorem q216 : (Jvm.Cond.instanceMethod ({ cls := "FeatureSolve", name := "is", desc := "(I)Z" } : Jvm.MethodName)) ∈ lw_all := lw_g (lw_at lw_m1 188 rfl) rfl
theorem q217 : (Jvm.Cond.code ({ cls := "FeatureSolve", name := "is", desc := "(I)Z" } : Jvm.MethodName) prog_1_method_4_code (2 : Nat) (Option.some Jvm.ClassFile.FieldType.boolean)) ∈ lw_all := lw_g (lw_at lw_m1 189 rfl) rfl
theorem q218 : (Jvm.Cond.constantLong "FeatureSolve" (68 : Nat) (2 : Int64)) ∈ lw_all := lw_g (lw_at lw_m1 190 rfl) rfl
theorem q219 : (Jvm.Cond.methodLink "FeatureSolve" (70 : Nat) ({ cls := "FeatureSolve", name := "isIn", desc := "(JJJ)Z" } : Jvm.MethodName)) ∈ lw_all := lw_g (lw_at lw_m1 191 rfl) rfl
theorem q220 : (Jvm.Cond.static ({ cls := "FeatureSolve", name := "isIn", desc := "(JJJ)Z" } : Jvm.MethodName)) ∈ lw_all := lw_g (lw_at lw_m1 192 rfl) rfl
theorem q221 : (Jvm.Cond.code ({ cls := "FeatureSolve", name := "isIn", desc := "(JJJ)Z" } : Jvm.MethodName) prog_1_method_1_code (6 : Nat) (Option.some Jvm.ClassFile.FieldType.boolean)) ∈ lw_all := lw_g (lw_at lw_m1 193 rfl) rfl
theorem q222 : (Jvm.Cond.methodLink "FeatureSolve" (74 : Nat) ({ cls := "java/lang/System", name := "arraycopy", desc := "(Ljava/lang/Object;ILjava/lang/Object;II)V" } : Jvm.MethodName)) ∈ lw_all := lw_g (lw_at lw_m1 194 rfl) rfl
theorem q226 : (Jvm.Cond.instanceMethod ({ cls := "FeatureSolve", name := "group", desc := "(III)I" } : Jvm.MethodName)) ∈ lw_all := lw_g (lw_at lw_m1 198 rfl) rfl
theorem q227 : (Jvm.Cond.selects "FeatureSolve" ({ cls := "FeatureSolve", name := "group", desc := "(III)I" } : Jvm.MethodName) ({ cls := "FeatureSolve", name := "group", desc := "(III)I" } : Jvm.MethodName)) ∈ lw_all := lw_g (lw_at lw_m1 199 rfl) rfl
theorem q228 : (Jvm.Cond.code ({ cls := "FeatureSolve", name := "group", desc := "(III)I" } : Jvm.MethodName) prog_1_method_7_code (4 : Nat) (Option.some Jvm.ClassFile.FieldType.int)) ∈ lw_all := lw_g (lw_at lw_m1 200 rfl) rfl
theorem q229 : (Jvm.Cond.methodLink "FeatureSolve" (88 : Nat) ({ cls := "FeatureSolve", name := "groupedBelow", desc := "(I)I" } : Jvm.MethodName)) ∈ lw_all := lw_g (lw_at lw_m1 201 rfl) rfl
theorem q230 : (Jvm.Cond.privateMethod ({ cls := "FeatureSolve", name := "groupedBelow", desc := "(I)I" } : Jvm.MethodName)) ∈ lw_tbl := lw_at lw_m1 202 rfl
theorem q231 : (Jvm.Cond.instanceMethod ({ cls := "FeatureSolve", name := "groupedBelow", desc := "(I)I" } : Jvm.MethodName)) ∈ lw_all := lw_g (lw_at lw_m1 203 rfl) rfl
theorem q232 : (Jvm.Cond.code ({ cls := "FeatureSolve", name := "groupedBelow", desc := "(I)I" } : Jvm.MethodName) prog_1_method_6_code (4 : Nat) (Option.some Jvm.ClassFile.FieldType.int)) ∈ lw_all := lw_g (lw_at lw_m1 204 rfl) rfl
theorem q233 : (Jvm.Cond.methodLink "FeatureSolve" (84 : Nat) ({ cls := "FeatureSolve", name := "bit", desc := "(I)I" } : Jvm.MethodName)) ∈ lw_all := lw_g (lw_at lw_m1 205 rfl) rfl
theorem q234 : (Jvm.Cond.static ({ cls := "FeatureSolve", name := "bit", desc := "(I)I" } : Jvm.MethodName)) ∈ lw_all := lw_g (lw_at lw_m1 206 rfl) rfl
theorem q235 : (Jvm.Cond.code ({ cls := "FeatureSolve", name := "bit", desc := "(I)I" } : Jvm.MethodName) prog_1_method_2_code (1 : Nat) (Option.some Jvm.ClassFile.FieldType.int)) ∈ lw_all := lw_g (lw_at lw_m1 207 rfl) rfl
theorem q236 : (Jvm.Cond.methodLink "FeatureSolve" (91 : Nat) ({ cls := "java/lang/Integer", name := "bitCount", desc := "(I)I" } : Jvm.MethodName)) ∈ lw_all := lw_g (lw_at lw_m1 208 rfl) rfl
theorem q243 : (Jvm.Cond.instanceMethod ({ cls := "FeatureSolve", name := "formula", desc := "(III)I" } : Jvm.MethodName)) ∈ lw_all := lw_g (lw_at lw_m1 215 rfl) rfl
theorem q244 : (Jvm.Cond.selects "FeatureSolve" ({ cls := "FeatureSolve", name := "formula", desc := "(III)I" } : Jvm.MethodName) ({ cls := "FeatureSolve", name := "formula", desc := "(III)I" } : Jvm.MethodName)) ∈ lw_all := lw_g (lw_at lw_m1 216 rfl) rfl
theorem q245 : (Jvm.Cond.code ({ cls := "FeatureSolve", name := "formula", desc := "(III)I" } : Jvm.MethodName) prog_1_method_9_code (5 : Nat) (Option.some Jvm.ClassFile.FieldType.int)) ∈ lw_all := lw_g (lw_at lw_m1 217 rfl) rfl
theorem q246 : (Jvm.Cond.methodLink "FeatureSolve" (100 : Nat) ({ cls := "FeatureSolve", name := "isSigned", desc := "(I)Z" } : Jvm.MethodName)) ∈ lw_all := lw_g (lw_at lw_m1 218 rfl) rfl
theorem q247 : (Jvm.Cond.privateMethod ({ cls := "FeatureSolve", name := "isSigned", desc := "(I)Z" } : Jvm.MethodName)) ∈ lw_tbl := lw_at lw_m1 219 rfl
theorem q248 : (Jvm.Cond.instanceMethod ({ cls := "FeatureSolve", name := "isSigned", desc := "(I)Z" } : Jvm.MethodName)) ∈ lw_all := lw_g (lw_at lw_m1 220 rfl) rfl
theorem q249 : (Jvm.Cond.code ({ cls := "FeatureSolve", name := "isSigned", desc := "(I)Z" } : Jvm.MethodName) prog_1_method_8_code (2 : Nat) (Option.some Jvm.ClassFile.FieldType.boolean)) ∈ lw_all := lw_g (lw_at lw_m1 221 rfl) rfl
theorem q250 : (Jvm.Cond.constant "FeatureSolve" (94 : Nat) (-2147483648 : Int32)) ∈ lw_all := lw_g (lw_at lw_m1 222 rfl) rfl
theorem q251 : (Jvm.Cond.methodLink "FeatureSolve" (95 : Nat) ({ cls := "java/lang/Math", name := "abs", desc := "(I)I" } : Jvm.MethodName)) ∈ lw_all := lw_g (lw_at lw_m1 223 rfl) rfl
theorem q254 : (Jvm.Cond.constantLong "FeatureSolve" (103 : Nat) (3 : Int64)) ∈ lw_all := lw_g (lw_at lw_m1 226 rfl) rfl
theorem q255 : (Jvm.Cond.classLink "FeatureSolve" (108 : Nat) "FeatureSolve$Either") ∈ lw_all := lw_g (lw_at lw_m1 227 rfl) rfl
theorem q257 : (Jvm.Cond.methodLinkNest "FeatureSolve" (110 : Nat) ({ cls := "FeatureSolve$Either", name := "<init>", desc := "(II)V" } : Jvm.MethodName) "FeatureSolve") ∈ lw_tbl := lw_at lw_m1 229 rfl
theorem q271 : (Jvm.Cond.interfaceEntry "FeatureSolve" (113 : Nat)) ∈ lw_tbl := lw_at lw_m2 3 rfl
theorem q272 : (Jvm.Cond.methodLink "FeatureSolve" (113 : Nat) ({ cls := "java/util/List", name := "add", desc := "(Ljava/lang/Object;)Z" } : Jvm.MethodName)) ∈ lw_all := lw_g (lw_at lw_m2 4 rfl) rfl
theorem q309 : (Jvm.Cond.selects "FeatureSolve" ({ cls := "java/lang/Object", name := "getClass", desc := "()Ljava/lang/Class;" } : Jvm.MethodName) ({ cls := "java/lang/Object", name := "getClass", desc := "()Ljava/lang/Class;" } : Jvm.MethodName)) ∈ lw_all := lw_g (lw_at lw_m2 41 rfl) rfl
theorem q339 : (Jvm.Cond.instanceMethod ({ cls := "FeatureSolve", name := "attribute", desc := "(III)I" } : Jvm.MethodName)) ∈ lw_all := lw_g (lw_at lw_m2 71 rfl) rfl
theorem q340 : (Jvm.Cond.selects "FeatureSolve" ({ cls := "FeatureSolve", name := "attribute", desc := "(III)I" } : Jvm.MethodName) ({ cls := "FeatureSolve", name := "attribute", desc := "(III)I" } : Jvm.MethodName)) ∈ lw_all := lw_g (lw_at lw_m2 72 rfl) rfl
theorem q341 : (Jvm.Cond.code ({ cls := "FeatureSolve", name := "attribute", desc := "(III)I" } : Jvm.MethodName) prog_1_method_10_code (6 : Nat) (Option.some Jvm.ClassFile.FieldType.int)) ∈ lw_all := lw_g (lw_at lw_m2 73 rfl) rfl
theorem q342 : (Jvm.Cond.constantLong "FeatureSolve" (119 : Nat) (10000 : Int64)) ∈ lw_all := lw_g (lw_at lw_m2 74 rfl) rfl
theorem q343 : (Jvm.Cond.constantLong "FeatureSolve" (121 : Nat) (1000 : Int64)) ∈ lw_all := lw_g (lw_at lw_m2 75 rfl) rfl
theorem q344 : (Jvm.Cond.methodLink "FeatureSolve" (123 : Nat) ({ cls := "java/lang/Integer", name := "valueOf", desc := "(I)Ljava/lang/Integer;" } : Jvm.MethodName)) ∈ lw_all := lw_g (lw_at lw_m2 76 rfl) rfl
theorem q365 : (Jvm.Cond.instanceMethod ({ cls := "FeatureSolve", name := "choose", desc := "(IZ)I" } : Jvm.MethodName)) ∈ lw_all := lw_g (lw_at lw_m2 97 rfl) rfl
theorem q366 : (Jvm.Cond.selects "FeatureSolve" ({ cls := "FeatureSolve", name := "choose", desc := "(IZ)I" } : Jvm.MethodName) ({ cls := "FeatureSolve", name := "choose", desc := "(IZ)I" } : Jvm.MethodName)) ∈ lw_all := lw_g (lw_at lw_m2 98 rfl) rfl
theorem q367 : (Jvm.Cond.code ({ cls := "FeatureSolve", name := "choose", desc := "(IZ)I" } : Jvm.MethodName) prog_1_method_11_code (3 : Nat) (Option.some Jvm.ClassFile.FieldType.int)) ∈ lw_all := lw_g (lw_at lw_m2 99 rfl) rfl
theorem q368 : (Jvm.Cond.methodLink "FeatureSolve" (127 : Nat) ({ cls := "java/util/LinkedHashMap", name := "remove", desc := "(Ljava/lang/Object;)Ljava/lang/Object;" } : Jvm.MethodName)) ∈ lw_all := lw_g (lw_at lw_m2 100 rfl) rfl
theorem q381 : (Jvm.Cond.selects "FeatureSolve" ({ cls := "java/lang/Object", name := "hashCode", desc := "()I" } : Jvm.MethodName) ({ cls := "java/lang/Object", name := "hashCode", desc := "()I" } : Jvm.MethodName)) ∈ lw_all := lw_g (lw_at lw_m2 113 rfl) rfl
theorem q415 : (Jvm.Cond.selects "FeatureSolve" ({ cls := "java/lang/Object", name := "equals", desc := "(Ljava/lang/Object;)Z" } : Jvm.MethodName) ({ cls := "java/lang/Object", name := "equals", desc := "(Ljava/lang/Object;)Z" } : Jvm.MethodName)) ∈ lw_all := lw_g (lw_at lw_m2 147 rfl) rfl
theorem q585 : (Jvm.Cond.methodLink "FeatureSolve" (131 : Nat) ({ cls := "java/lang/Boolean", name := "valueOf", desc := "(Z)Ljava/lang/Boolean;" } : Jvm.MethodName)) ∈ lw_all := lw_g (lw_at lw_m3 77 rfl) rfl
theorem q592 : (Jvm.Cond.methodLink "FeatureSolve" (136 : Nat) ({ cls := "java/util/LinkedHashMap", name := "put", desc := "(Ljava/lang/Object;Ljava/lang/Object;)Ljava/lang/Object;" } : Jvm.MethodName)) ∈ lw_all := lw_g (lw_at lw_m3 84 rfl) rfl
theorem q706 : (Jvm.Cond.methodLink "FeatureSolve" (140 : Nat) ({ cls := "java/util/LinkedHashMap", name := "size", desc := "()I" } : Jvm.MethodName)) ∈ lw_all := lw_g (lw_at lw_m3 198 rfl) rfl
theorem q713 : (Jvm.Cond.instanceMethod ({ cls := "FeatureSolve", name := "solve", desc := "()I" } : Jvm.MethodName)) ∈ lw_all := lw_g (lw_at lw_m3 205 rfl) rfl
theorem q714 : (Jvm.Cond.selects "FeatureSolve" ({ cls := "FeatureSolve", name := "solve", desc := "()I" } : Jvm.MethodName) ({ cls := "FeatureSolve", name := "solve", desc := "()I" } : Jvm.MethodName)) ∈ lw_all := lw_g (lw_at lw_m3 206 rfl) rfl
theorem q715 : (Jvm.Cond.code ({ cls := "FeatureSolve", name := "solve", desc := "()I" } : Jvm.MethodName) prog_1_method_18_code (4 : Nat) (Option.some Jvm.ClassFile.FieldType.int)) ∈ lw_all := lw_g (lw_at lw_m3 207 rfl) rfl
theorem q716 : (Jvm.Cond.methodLink "FeatureSolve" (218 : Nat) ({ cls := "FeatureSolve", name := "make", desc := "()V" } : Jvm.MethodName)) ∈ lw_all := lw_g (lw_at lw_m3 208 rfl) rfl
theorem q717 : (Jvm.Cond.privateMethod ({ cls := "FeatureSolve", name := "make", desc := "()V" } : Jvm.MethodName)) ∈ lw_tbl := lw_at lw_m3 209 rfl
theorem q718 : (Jvm.Cond.instanceMethod ({ cls := "FeatureSolve", name := "make", desc := "()V" } : Jvm.MethodName)) ∈ lw_all := lw_g (lw_at lw_m3 210 rfl) rfl
theorem q719 : (Jvm.Cond.code ({ cls := "FeatureSolve", name := "make", desc := "()V" } : Jvm.MethodName) prog_1_method_12_code (2 : Nat) (Option.none : Option Jvm.ClassFile.FieldType)) ∈ lw_all := lw_g (lw_at lw_m3 211 rfl) rfl
theorem q720 : (Jvm.Cond.interfaceEntry "FeatureSolve" (144 : Nat)) ∈ lw_tbl := lw_at lw_m3 212 rfl
theorem q721 : (Jvm.Cond.methodLink "FeatureSolve" (144 : Nat) ({ cls := "java/util/List", name := "clear", desc := "()V" } : Jvm.MethodName)) ∈ lw_all := lw_g (lw_at lw_m3 213 rfl) rfl
theorem q729 : (Jvm.Cond.classLink "FeatureSolve" (147 : Nat) "FeatureSolve$Count") ∈ lw_all := lw_g (lw_at lw_m3 221 rfl) rfl
theorem q731 : (Jvm.Cond.methodLinkNest "FeatureSolve" (149 : Nat) ({ cls := "FeatureSolve$Count", name := "<init>", desc := "(IIII)V" } : Jvm.MethodName) "FeatureSolve") ∈ lw_tbl := lw_at lw_m3 223 rfl
theorem q748 : (Jvm.Cond.interfaceEntry "FeatureSolve" (152 : Nat)) ∈ lw_tbl := lw_at lw_m4 0 rfl
theorem q749 : (Jvm.Cond.methodLink "FeatureSolve" (152 : Nat) ({ cls := "java/util/List", name := "addAll", desc := "(Ljava/util/Collection;)Z" } : Jvm.MethodName)) ∈ lw_all := lw_g (lw_at lw_m4 1 rfl) rfl
theorem q886 : (Jvm.Cond.classLink "FeatureSolve" (156 : Nat) "FeatureSolve$Sum") ∈ lw_all := lw_g (lw_at lw_m4 138 rfl) rfl
theorem q888 : (Jvm.Cond.methodLink "FeatureSolve" (158 : Nat) ({ cls := "java/lang/Integer", name := "intValue", desc := "()I" } : Jvm.MethodName)) ∈ lw_all := lw_g (lw_at lw_m4 140 rfl) rfl
theorem q889 : (Jvm.Cond.methodLinkNest "FeatureSolve" (161 : Nat) ({ cls := "FeatureSolve$Sum", name := "<init>", desc := "(I[I)V" } : Jvm.MethodName) "FeatureSolve") ∈ lw_tbl := lw_at lw_m4 141 rfl
theorem q900 : (Jvm.Cond.methodLink "FeatureSolve" (221 : Nat) ({ cls := "FeatureSolve", name := "given", desc := "(ZI)I" } : Jvm.MethodName)) ∈ lw_all := lw_g (lw_at lw_m4 152 rfl) rfl
theorem q901 : (Jvm.Cond.privateMethod ({ cls := "FeatureSolve", name := "given", desc := "(ZI)I" } : Jvm.MethodName)) ∈ lw_tbl := lw_at lw_m4 153 rfl
theorem q902 : (Jvm.Cond.instanceMethod ({ cls := "FeatureSolve", name := "given", desc := "(ZI)I" } : Jvm.MethodName)) ∈ lw_all := lw_g (lw_at lw_m4 154 rfl) rfl
theorem q903 : (Jvm.Cond.code ({ cls := "FeatureSolve", name := "given", desc := "(ZI)I" } : Jvm.MethodName) prog_1_method_17_code (6 : Nat) (Option.some Jvm.ClassFile.FieldType.int)) ∈ lw_all := lw_g (lw_at lw_m4 155 rfl) rfl
theorem q904 : (Jvm.Cond.methodLink "FeatureSolve" (187 : Nat) ({ cls := "java/util/LinkedHashMap", name := "entrySet", desc := "()Ljava/util/Set;" } : Jvm.MethodName)) ∈ lw_all := lw_g (lw_at lw_m4 156 rfl) rfl
theorem q929 : (Jvm.Cond.interfaceEntry "FeatureSolve" (191 : Nat)) ∈ lw_tbl := lw_at lw_m4 181 rfl
theorem q930 : (Jvm.Cond.methodLink "FeatureSolve" (191 : Nat) ({ cls := "java/util/Set", name := "iterator", desc := "()Ljava/util/Iterator;" } : Jvm.MethodName)) ∈ lw_all := lw_g (lw_at lw_m4 182 rfl) rfl
theorem q937 : (Jvm.Cond.interfaceEntry "FeatureSolve" (197 : Nat)) ∈ lw_tbl := lw_at lw_m4 189 rfl
theorem q938 : (Jvm.Cond.methodLink "FeatureSolve" (197 : Nat) ({ cls := "java/util/Iterator", name := "hasNext", desc := "()Z" } : Jvm.MethodName)) ∈ lw_all := lw_g (lw_at lw_m4 190 rfl) rfl
theorem q939 : (Jvm.Cond.interfaceEntry "FeatureSolve" (203 : Nat)) ∈ lw_tbl := lw_at lw_m4 191 rfl
theorem q940 : (Jvm.Cond.methodLink "FeatureSolve" (203 : Nat) ({ cls := "java/util/Iterator", name := "next", desc := "()Ljava/lang/Object;" } : Jvm.MethodName)) ∈ lw_all := lw_g (lw_at lw_m4 192 rfl) rfl
theorem q941 : (Jvm.Cond.classLink "FeatureSolve" (207 : Nat) "java/util/Map$Entry") ∈ lw_all := lw_g (lw_at lw_m4 193 rfl) rfl
theorem q942 : (Jvm.Cond.interfaceEntry "FeatureSolve" (209 : Nat)) ∈ lw_tbl := lw_at lw_m4 194 rfl
theorem q943 : (Jvm.Cond.methodLink "FeatureSolve" (209 : Nat) ({ cls := "java/util/Map$Entry", name := "getValue", desc := "()Ljava/lang/Object;" } : Jvm.MethodName)) ∈ lw_all := lw_g (lw_at lw_m4 195 rfl) rfl
theorem q958 : (Jvm.Cond.classLink "FeatureSolve" (132 : Nat) "java/lang/Boolean") ∈ lw_all := lw_g (lw_at lw_m4 210 rfl) rfl
theorem q959 : (Jvm.Cond.methodLink "FeatureSolve" (212 : Nat) ({ cls := "java/lang/Boolean", name := "booleanValue", desc := "()Z" } : Jvm.MethodName)) ∈ lw_all := lw_g (lw_at lw_m4 211 rfl) rfl
theorem q960 : (Jvm.Cond.interfaceEntry "FeatureSolve" (215 : Nat)) ∈ lw_tbl := lw_at lw_m4 212 rfl
theorem q961 : (Jvm.Cond.methodLink "FeatureSolve" (215 : Nat) ({ cls := "java/util/Map$Entry", name := "getKey", desc := "()Ljava/lang/Object;" } : Jvm.MethodName)) ∈ lw_all := lw_g (lw_at lw_m4 213 rfl) rfl
theorem q973 : (Jvm.Cond.methodLink "FeatureSolve" (179 : Nat) ({ cls := "FeatureSolve", name := "first", desc := "(II)I" } : Jvm.MethodName)) ∈ lw_all := lw_g (lw_at lw_m4 225 rfl) rfl
theorem q974 : (Jvm.Cond.privateMethod ({ cls := "FeatureSolve", name := "first", desc := "(II)I" } : Jvm.MethodName)) ∈ lw_tbl := lw_at lw_m4 226 rfl
theorem q975 : (Jvm.Cond.instanceMethod ({ cls := "FeatureSolve", name := "first", desc := "(II)I" } : Jvm.MethodName)) ∈ lw_all := lw_g (lw_at lw_m4 227 rfl) rfl
theorem q976 : (Jvm.Cond.code ({ cls := "FeatureSolve", name := "first", desc := "(II)I" } : Jvm.MethodName) prog_1_method_15_code (10 : Nat) (Option.some Jvm.ClassFile.FieldType.int)) ∈ lw_all := lw_g (lw_at lw_m4 228 rfl) rfl
theorem q977 : (Jvm.Cond.methodLink "FeatureSolve" (175 : Nat) ({ cls := "FeatureSolve", name := "isBroken", desc := "(II)Z" } : Jvm.MethodName)) ∈ lw_all := lw_g (lw_at lw_m4 229 rfl) rfl
theorem q978 : (Jvm.Cond.privateMethod ({ cls := "FeatureSolve", name := "isBroken", desc := "(II)Z" } : Jvm.MethodName)) ∈ lw_tbl := lw_at lw_m4 230 rfl
theorem q979 : (Jvm.Cond.instanceMethod ({ cls := "FeatureSolve", name := "isBroken", desc := "(II)Z" } : Jvm.MethodName)) ∈ lw_all := lw_g (lw_at lw_m4 231 rfl) rfl
theorem q980 : (Jvm.Cond.code ({ cls := "FeatureSolve", name := "isBroken", desc := "(II)Z" } : Jvm.MethodName) prog_1_method_14_code (4 : Nat) (Option.some Jvm.ClassFile.FieldType.boolean)) ∈ lw_all := lw_g (lw_at lw_m4 232 rfl) rfl
theorem q981 : (Jvm.Cond.interfaceEntry "FeatureSolve" (164 : Nat)) ∈ lw_tbl := lw_at lw_m4 233 rfl
theorem q982 : (Jvm.Cond.methodLink "FeatureSolve" (164 : Nat) ({ cls := "java/util/List", name := "size", desc := "()I" } : Jvm.MethodName)) ∈ lw_all := lw_g (lw_at lw_m4 234 rfl) rfl
theorem q988 : (Jvm.Cond.interfaceEntry "FeatureSolve" (165 : Nat)) ∈ lw_tbl := lw_at lw_m5 0 rfl
theorem q989 : (Jvm.Cond.methodLink "FeatureSolve" (165 : Nat) ({ cls := "java/util/List", name := "get", desc := "(I)Ljava/lang/Object;" } : Jvm.MethodName)) ∈ lw_all := lw_g (lw_at lw_m5 1 rfl) rfl
theorem q1007 : (Jvm.Cond.classLink "FeatureSolve" (169 : Nat) "FeatureSolve$Rule") ∈ lw_all := lw_g (lw_at lw_m5 19 rfl) rfl
theorem q1008 : (Jvm.Cond.interfaceEntry "FeatureSolve" (171 : Nat)) ∈ lw_tbl := lw_at lw_m5 20 rfl
theorem q1009 : (Jvm.Cond.methodLink "FeatureSolve" (171 : Nat) ({ cls := "FeatureSolve$Rule", name := "isBroken", desc := "(II)Z" } : Jvm.MethodName)) ∈ lw_all := lw_g (lw_at lw_m5 21 rfl) rfl
theorem q1036 : (Jvm.Cond.methodLink "FeatureSolve" (176 : Nat) ({ cls := "FeatureSolve", name := "all", desc := "()I" } : Jvm.MethodName)) ∈ lw_all := lw_g (lw_at lw_m5 48 rfl) rfl
theorem q1037 : (Jvm.Cond.privateMethod ({ cls := "FeatureSolve", name := "all", desc := "()I" } : Jvm.MethodName)) ∈ lw_tbl := lw_at lw_m5 49 rfl
theorem q1038 : (Jvm.Cond.instanceMethod ({ cls := "FeatureSolve", name := "all", desc := "()I" } : Jvm.MethodName)) ∈ lw_all := lw_g (lw_at lw_m5 50 rfl) rfl
theorem q1039 : (Jvm.Cond.code ({ cls := "FeatureSolve", name := "all", desc := "()I" } : Jvm.MethodName) prog_1_method_13_code (1 : Nat) (Option.some Jvm.ClassFile.FieldType.int)) ∈ lw_all := lw_g (lw_at lw_m5 51 rfl) rfl
theorem q1041 : (Jvm.Cond.instanceMethod ({ cls := "FeatureSolve", name := "chosen", desc := "(I)Z" } : Jvm.MethodName)) ∈ lw_all := lw_g (lw_at lw_m5 53 rfl) rfl
theorem q1042 : (Jvm.Cond.selects "FeatureSolve" ({ cls := "FeatureSolve", name := "chosen", desc := "(I)Z" } : Jvm.MethodName) ({ cls := "FeatureSolve", name := "chosen", desc := "(I)Z" } : Jvm.MethodName)) ∈ lw_all := lw_g (lw_at lw_m5 54 rfl) rfl
theorem q1043 : (Jvm.Cond.code ({ cls := "FeatureSolve", name := "chosen", desc := "(I)Z" } : Jvm.MethodName) prog_1_method_19_code (2 : Nat) (Option.some Jvm.ClassFile.FieldType.boolean)) ∈ lw_all := lw_g (lw_at lw_m5 55 rfl) rfl
theorem q1045 : (Jvm.Cond.instanceMethod ({ cls := "FeatureSolve", name := "why", desc := "(I)I" } : Jvm.MethodName)) ∈ lw_all := lw_g (lw_at lw_m5 57 rfl) rfl
theorem q1046 : (Jvm.Cond.selects "FeatureSolve" ({ cls := "FeatureSolve", name := "why", desc := "(I)I" } : Jvm.MethodName) ({ cls := "FeatureSolve", name := "why", desc := "(I)I" } : Jvm.MethodName)) ∈ lw_all := lw_g (lw_at lw_m5 58 rfl) rfl
theorem q1047 : (Jvm.Cond.code ({ cls := "FeatureSolve", name := "why", desc := "(I)I" } : Jvm.MethodName) prog_1_method_20_code (2 : Nat) (Option.some Jvm.ClassFile.FieldType.int)) ∈ lw_all := lw_g (lw_at lw_m5 59 rfl) rfl
theorem q1049 : (Jvm.Cond.instanceMethod ({ cls := "FeatureSolve", name := "count", desc := "(J)J" } : Jvm.MethodName)) ∈ lw_all := lw_g (lw_at lw_m5 61 rfl) rfl
theorem q1050 : (Jvm.Cond.selects "FeatureSolve" ({ cls := "FeatureSolve", name := "count", desc := "(J)J" } : Jvm.MethodName) ({ cls := "FeatureSolve", name := "count", desc := "(J)J" } : Jvm.MethodName)) ∈ lw_all := lw_g (lw_at lw_m5 62 rfl) rfl
theorem q1051 : (Jvm.Cond.code ({ cls := "FeatureSolve", name := "count", desc := "(J)J" } : Jvm.MethodName) prog_1_method_21_code (3 : Nat) (Option.some Jvm.ClassFile.FieldType.long)) ∈ lw_all := lw_g (lw_at lw_m5 63 rfl) rfl
theorem q1052 : (Jvm.Cond.constantLong "FeatureSolve" (225 : Nat) (-2 : Int64)) ∈ lw_all := lw_g (lw_at lw_m5 64 rfl) rfl
theorem q1053 : (Jvm.Cond.constantLong "FeatureSolve" (227 : Nat) (-1 : Int64)) ∈ lw_all := lw_g (lw_at lw_m5 65 rfl) rfl
theorem q1054 : (Jvm.Cond.methodLink "FeatureSolve" (183 : Nat) ({ cls := "FeatureSolve", name := "countFrom", desc := "(II)J" } : Jvm.MethodName)) ∈ lw_all := lw_g (lw_at lw_m5 66 rfl) rfl
theorem q1055 : (Jvm.Cond.privateMethod ({ cls := "FeatureSolve", name := "countFrom", desc := "(II)J" } : Jvm.MethodName)) ∈ lw_tbl := lw_at lw_m5 67 rfl
theorem q1056 : (Jvm.Cond.instanceMethod ({ cls := "FeatureSolve", name := "countFrom", desc := "(II)J" } : Jvm.MethodName)) ∈ lw_all := lw_g (lw_at lw_m5 68 rfl) rfl
theorem q1057 : (Jvm.Cond.code ({ cls := "FeatureSolve", name := "countFrom", desc := "(II)J" } : Jvm.MethodName) prog_1_method_16_code (5 : Nat) (Option.some Jvm.ClassFile.FieldType.long)) ∈ lw_all := lw_g (lw_at lw_m5 69 rfl) rfl
theorem q1059 : (Jvm.Cond.instanceMethod ({ cls := "FeatureSolve", name := "forces", desc := "(II)I" } : Jvm.MethodName)) ∈ lw_all := lw_g (lw_at lw_m5 71 rfl) rfl
theorem q1060 : (Jvm.Cond.selects "FeatureSolve" ({ cls := "FeatureSolve", name := "forces", desc := "(II)I" } : Jvm.MethodName) ({ cls := "FeatureSolve", name := "forces", desc := "(II)I" } : Jvm.MethodName)) ∈ lw_all := lw_g (lw_at lw_m5 72 rfl) rfl
theorem q1061 : (Jvm.Cond.code ({ cls := "FeatureSolve", name := "forces", desc := "(II)I" } : Jvm.MethodName) prog_1_method_22_code (9 : Nat) (Option.some Jvm.ClassFile.FieldType.int)) ∈ lw_all := lw_g (lw_at lw_m5 73 rfl) rfl
theorem q1063 : (Jvm.Cond.instanceMethod ({ cls := "FeatureSolve", name := "differ", desc := "(II)I" } : Jvm.MethodName)) ∈ lw_all := lw_g (lw_at lw_m5 75 rfl) rfl
theorem q1064 : (Jvm.Cond.selects "FeatureSolve" ({ cls := "FeatureSolve", name := "differ", desc := "(II)I" } : Jvm.MethodName) ({ cls := "FeatureSolve", name := "differ", desc := "(II)I" } : Jvm.MethodName)) ∈ lw_all := lw_g (lw_at lw_m5 76 rfl) rfl
theorem q1065 : (Jvm.Cond.code ({ cls := "FeatureSolve", name := "differ", desc := "(II)I" } : Jvm.MethodName) prog_1_method_23_code (3 : Nat) (Option.some Jvm.ClassFile.FieldType.int)) ∈ lw_all := lw_g (lw_at lw_m5 77 rfl) rfl
theorem q1144 : (Jvm.Cond.instanceMethod ({ cls := "FeatureSolve", name := "level", desc := "(I)I" } : Jvm.MethodName)) ∈ lw_all := lw_g (lw_at lw_m5 156 rfl) rfl
theorem q1145 : (Jvm.Cond.selects "FeatureSolve" ({ cls := "FeatureSolve", name := "level", desc := "(I)I" } : Jvm.MethodName) ({ cls := "FeatureSolve", name := "level", desc := "(I)I" } : Jvm.MethodName)) ∈ lw_all := lw_g (lw_at lw_m5 157 rfl) rfl
theorem q1146 : (Jvm.Cond.code ({ cls := "FeatureSolve", name := "level", desc := "(I)I" } : Jvm.MethodName) prog_1_method_24_code (2 : Nat) (Option.some Jvm.ClassFile.FieldType.int)) ∈ lw_all := lw_g (lw_at lw_m5 158 rfl) rfl
theorem q1353 : (Jvm.Cond.castable "FeatureSolve" "java/lang/Object") ∈ lw_tbl := lw_at lw_m6 125 rfl
theorem in_X1 : ∀ w ∈ wsX10, w ∈ lw_all := lw_in wsX10 [179, 181, 183, 185, 187, 189, 191, 193, 195, 197, 199, 201, 203, 205, 207] (by decide +kernel) (by decide +kernel)
/-! X2 -/
def RX2 : String := "FeatureSolveModel"
def TX2 : u_T := fun k => match k with
  | 0 => ("FeatureSolveModel", "thrown", "I", false)
  | 1 => ("FeatureSolveModel", "parents", "[I", true)
  | 2 => ("FeatureSolveModel", "kinds", "[I", true)
  | 3 => ("FeatureSolveModel", "grouped", "[Z", true)
  | 4 => ("FeatureSolveModel", "least", "[I", true)
  | 5 => ("FeatureSolveModel", "most", "[I", true)
  | 6 => ("FeatureSolveModel", "sums", "[I", true)
  | 7 => ("FeatureSolveModel", "features", "I", false)
  | 8 => ("FeatureSolveModel", "ops", "[I", true)
  | 9 => ("FeatureSolveModel", "as", "[I", true)
  | 10 => ("FeatureSolveModel", "bs", "[I", true)
  | 11 => ("FeatureSolveModel", "formulas", "I", false)
  | 12 => ("FeatureSolveModel", "limited", "[Z", true)
  | 13 => ("FeatureSolveModel", "limits", "[I", true)
  | 14 => ("FeatureSolveModel", "choices", "[I", true)
  | 15 => ("FeatureSolveModel", "choiceCount", "I", false)
  | 16 => ("FeatureSolveModel", "known", "Z", false)
  | 17 => ("FeatureSolveModel", "sets", "[I", true)
  | 18 => ("FeatureSolveModel", "setCount", "I", false)
  | 19 => ("FeatureSolveModel", "found", "[I", true)
  | 20 => ("FeatureSolveModel", "foundCount", "I", false)
  | 21 => ("FeatureSolveModel", "foundFeatures", "[I", true)
  | 22 => ("FeatureSolveModel", "solved", "Z", false)
  | 23 => ("FeatureSolveModel", "last", "I", false)
  | 24 => ("FeatureSolveModel", "lastFeatures", "I", false)
  | 25 => ("FeatureSolveModel", "whys", "[I", true)
  | _ => ("FeatureSolveModel", "whyCount", "I", false)
def tyX2 : Nat → FieldType := fun k => match k with
  | 0 => .int
  | 1 => .array .int
  | 2 => .array .int
  | 3 => .array .boolean
  | 4 => .array .int
  | 5 => .array .int
  | 6 => .array .int
  | 7 => .int
  | 8 => .array .int
  | 9 => .array .int
  | 10 => .array .int
  | 11 => .int
  | 12 => .array .boolean
  | 13 => .array .int
  | 14 => .array .int
  | 15 => .int
  | 16 => .boolean
  | 17 => .array .int
  | 18 => .int
  | 19 => .array .int
  | 20 => .int
  | 21 => .array .int
  | 22 => .boolean
  | 23 => .int
  | 24 => .int
  | 25 => .array .int
  | _ => .int
abbrev wsX20 : List Cond := u_ws RX2 TX2 27
theorem nmX2 : ∀ a, a < 27 → ∀ b, b < 27 → a ≠ b → (TX2 a).2.1 ≠ (TX2 b).2.1 := by decide +kernel
theorem tyX2_ok : ∀ k, k < 27 → parseFieldDescriptor (TX2 k).2.2.1 = some (tyX2 k) := by decide +kernel
theorem q36 : (Jvm.Cond.initialized "FeatureSolveModel") ∈ lw_all := lw_g (lw_at lw_m1 8 rfl) rfl
theorem q313 : (Jvm.Cond.selects "FeatureSolveModel" ({ cls := "java/lang/Object", name := "getClass", desc := "()Ljava/lang/Class;" } : Jvm.MethodName) ({ cls := "java/lang/Object", name := "getClass", desc := "()Ljava/lang/Class;" } : Jvm.MethodName)) ∈ lw_all := lw_g (lw_at lw_m2 45 rfl) rfl
theorem q391 : (Jvm.Cond.selects "FeatureSolveModel" ({ cls := "java/lang/Object", name := "hashCode", desc := "()I" } : Jvm.MethodName) ({ cls := "java/lang/Object", name := "hashCode", desc := "()I" } : Jvm.MethodName)) ∈ lw_all := lw_g (lw_at lw_m2 123 rfl) rfl
theorem q425 : (Jvm.Cond.selects "FeatureSolveModel" ({ cls := "java/lang/Object", name := "equals", desc := "(Ljava/lang/Object;)Z" } : Jvm.MethodName) ({ cls := "java/lang/Object", name := "equals", desc := "(Ljava/lang/Object;)Z" } : Jvm.MethodName)) ∈ lw_all := lw_g (lw_at lw_m2 157 rfl) rfl
theorem q1148 : (Jvm.Cond.instantiable "FeatureSolveModel" (27 : Nat)) ∈ lw_all := lw_g (lw_at lw_m5 160 rfl) rfl
theorem q1150 : (Jvm.Cond.instanceMethod ({ cls := "FeatureSolveModel", name := "<init>", desc := "()V" } : Jvm.MethodName)) ∈ lw_all := lw_g (lw_at lw_m5 162 rfl) rfl
theorem q1151 : (Jvm.Cond.code ({ cls := "FeatureSolveModel", name := "<init>", desc := "()V" } : Jvm.MethodName) prog_7_method_1_code (1 : Nat) (Option.none : Option Jvm.ClassFile.FieldType)) ∈ lw_all := lw_g (lw_at lw_m5 163 rfl) rfl
theorem q1152 : (Jvm.Cond.methodLink "FeatureSolveModel" (1 : Nat) ({ cls := "java/lang/Object", name := "<init>", desc := "()V" } : Jvm.MethodName)) ∈ lw_all := lw_g (lw_at lw_m5 164 rfl) rfl
theorem q1153 : (Jvm.Cond.fieldLink "FeatureSolveModel" (59 : Nat) "FeatureSolveModel" "thrown" "I") ∈ lw_all := lw_g (lw_at lw_m5 165 rfl) rfl
theorem q1154 : (Jvm.Cond.fieldLink "FeatureSolveModel" (7 : Nat) "FeatureSolveModel" "parents" "[I") ∈ lw_all := lw_g (lw_at lw_m5 166 rfl) rfl
theorem q1155 : (Jvm.Cond.fieldLink "FeatureSolveModel" (13 : Nat) "FeatureSolveModel" "kinds" "[I") ∈ lw_all := lw_g (lw_at lw_m5 167 rfl) rfl
theorem q1156 : (Jvm.Cond.fieldLink "FeatureSolveModel" (16 : Nat) "FeatureSolveModel" "grouped" "[Z") ∈ lw_all := lw_g (lw_at lw_m5 168 rfl) rfl
theorem q1157 : (Jvm.Cond.fieldLink "FeatureSolveModel" (20 : Nat) "FeatureSolveModel" "least" "[I") ∈ lw_all := lw_g (lw_at lw_m5 169 rfl) rfl
theorem q1158 : (Jvm.Cond.fieldLink "FeatureSolveModel" (23 : Nat) "FeatureSolveModel" "most" "[I") ∈ lw_all := lw_g (lw_at lw_m5 170 rfl) rfl
theorem q1159 : (Jvm.Cond.fieldLink "FeatureSolveModel" (26 : Nat) "FeatureSolveModel" "sums" "[I") ∈ lw_all := lw_g (lw_at lw_m5 171 rfl) rfl
theorem q1160 : (Jvm.Cond.fieldLink "FeatureSolveModel" (63 : Nat) "FeatureSolveModel" "features" "I") ∈ lw_all := lw_g (lw_at lw_m5 172 rfl) rfl
theorem q1161 : (Jvm.Cond.fieldLink "FeatureSolveModel" (29 : Nat) "FeatureSolveModel" "ops" "[I") ∈ lw_all := lw_g (lw_at lw_m5 173 rfl) rfl
theorem q1162 : (Jvm.Cond.fieldLink "FeatureSolveModel" (32 : Nat) "FeatureSolveModel" "as" "[I") ∈ lw_all := lw_g (lw_at lw_m5 174 rfl) rfl
theorem q1163 : (Jvm.Cond.fieldLink "FeatureSolveModel" (35 : Nat) "FeatureSolveModel" "bs" "[I") ∈ lw_all := lw_g (lw_at lw_m5 175 rfl) rfl
theorem q1164 : (Jvm.Cond.fieldLink "FeatureSolveModel" (81 : Nat) "FeatureSolveModel" "formulas" "I") ∈ lw_all := lw_g (lw_at lw_m5 176 rfl) rfl
theorem q1165 : (Jvm.Cond.fieldLink "FeatureSolveModel" (38 : Nat) "FeatureSolveModel" "limited" "[Z") ∈ lw_all := lw_g (lw_at lw_m5 177 rfl) rfl
theorem q1166 : (Jvm.Cond.fieldLink "FeatureSolveModel" (41 : Nat) "FeatureSolveModel" "limits" "[I") ∈ lw_all := lw_g (lw_at lw_m5 178 rfl) rfl
theorem q1167 : (Jvm.Cond.fieldLink "FeatureSolveModel" (44 : Nat) "FeatureSolveModel" "choices" "[I") ∈ lw_all := lw_g (lw_at lw_m5 179 rfl) rfl
theorem q1168 : (Jvm.Cond.fieldLink "FeatureSolveModel" (84 : Nat) "FeatureSolveModel" "choiceCount" "I") ∈ lw_all := lw_g (lw_at lw_m5 180 rfl) rfl
theorem q1169 : (Jvm.Cond.fieldLink "FeatureSolveModel" (70 : Nat) "FeatureSolveModel" "known" "Z") ∈ lw_all := lw_g (lw_at lw_m5 181 rfl) rfl
theorem q1170 : (Jvm.Cond.fieldLink "FeatureSolveModel" (47 : Nat) "FeatureSolveModel" "sets" "[I") ∈ lw_all := lw_g (lw_at lw_m5 182 rfl) rfl
theorem q1171 : (Jvm.Cond.fieldLink "FeatureSolveModel" (101 : Nat) "FeatureSolveModel" "setCount" "I") ∈ lw_all := lw_g (lw_at lw_m5 183 rfl) rfl
theorem q1172 : (Jvm.Cond.fieldLink "FeatureSolveModel" (50 : Nat) "FeatureSolveModel" "found" "[I") ∈ lw_all := lw_g (lw_at lw_m5 184 rfl) rfl
theorem q1173 : (Jvm.Cond.fieldLink "FeatureSolveModel" (134 : Nat) "FeatureSolveModel" "foundCount" "I") ∈ lw_all := lw_g (lw_at lw_m5 185 rfl) rfl
theorem q1174 : (Jvm.Cond.fieldLink "FeatureSolveModel" (53 : Nat) "FeatureSolveModel" "foundFeatures" "[I") ∈ lw_all := lw_g (lw_at lw_m5 186 rfl) rfl
theorem q1175 : (Jvm.Cond.fieldLink "FeatureSolveModel" (125 : Nat) "FeatureSolveModel" "solved" "Z") ∈ lw_all := lw_g (lw_at lw_m5 187 rfl) rfl
theorem q1176 : (Jvm.Cond.fieldLink "FeatureSolveModel" (128 : Nat) "FeatureSolveModel" "last" "I") ∈ lw_all := lw_g (lw_at lw_m5 188 rfl) rfl
theorem q1177 : (Jvm.Cond.fieldLink "FeatureSolveModel" (131 : Nat) "FeatureSolveModel" "lastFeatures" "I") ∈ lw_all := lw_g (lw_at lw_m5 189 rfl) rfl
theorem q1178 : (Jvm.Cond.fieldLink "FeatureSolveModel" (56 : Nat) "FeatureSolveModel" "whys" "[I") ∈ lw_all := lw_g (lw_at lw_m5 190 rfl) rfl
theorem q1179 : (Jvm.Cond.fieldLink "FeatureSolveModel" (119 : Nat) "FeatureSolveModel" "whyCount" "I") ∈ lw_all := lw_g (lw_at lw_m5 191 rfl) rfl
theorem q1180 : (Jvm.Cond.lays "FeatureSolveModel" "FeatureSolveModel" "thrown" "I") ∈ lw_all := lw_g (lw_at lw_m5 192 rfl) rfl
theorem q1181 : (Jvm.Cond.soleField "FeatureSolveModel" "thrown") ∈ lw_all := lw_g (lw_at lw_m5 193 rfl) rfl
theorem q1182 : (Jvm.Cond.laysFinal "FeatureSolveModel" "FeatureSolveModel" "parents" "[I") ∈ lw_all := lw_g (lw_at lw_m5 194 rfl) rfl
theorem q1183 : (Jvm.Cond.soleField "FeatureSolveModel" "parents") ∈ lw_all := lw_g (lw_at lw_m5 195 rfl) rfl
theorem q1184 : (Jvm.Cond.laysFinal "FeatureSolveModel" "FeatureSolveModel" "kinds" "[I") ∈ lw_all := lw_g (lw_at lw_m5 196 rfl) rfl
theorem q1185 : (Jvm.Cond.soleField "FeatureSolveModel" "kinds") ∈ lw_all := lw_g (lw_at lw_m5 197 rfl) rfl
theorem q1186 : (Jvm.Cond.laysFinal "FeatureSolveModel" "FeatureSolveModel" "grouped" "[Z") ∈ lw_all := lw_g (lw_at lw_m5 198 rfl) rfl
theorem q1187 : (Jvm.Cond.soleField "FeatureSolveModel" "grouped") ∈ lw_all := lw_g (lw_at lw_m5 199 rfl) rfl
theorem q1188 : (Jvm.Cond.laysFinal "FeatureSolveModel" "FeatureSolveModel" "least" "[I") ∈ lw_all := lw_g (lw_at lw_m5 200 rfl) rfl
theorem q1189 : (Jvm.Cond.soleField "FeatureSolveModel" "least") ∈ lw_all := lw_g (lw_at lw_m5 201 rfl) rfl
theorem q1190 : (Jvm.Cond.laysFinal "FeatureSolveModel" "FeatureSolveModel" "most" "[I") ∈ lw_all := lw_g (lw_at lw_m5 202 rfl) rfl
theorem q1191 : (Jvm.Cond.soleField "FeatureSolveModel" "most") ∈ lw_all := lw_g (lw_at lw_m5 203 rfl) rfl
theorem q1192 : (Jvm.Cond.laysFinal "FeatureSolveModel" "FeatureSolveModel" "sums" "[I") ∈ lw_all := lw_g (lw_at lw_m5 204 rfl) rfl
theorem q1193 : (Jvm.Cond.soleField "FeatureSolveModel" "sums") ∈ lw_all := lw_g (lw_at lw_m5 205 rfl) rfl
theorem q1194 : (Jvm.Cond.lays "FeatureSolveModel" "FeatureSolveModel" "features" "I") ∈ lw_all := lw_g (lw_at lw_m5 206 rfl) rfl
theorem q1195 : (Jvm.Cond.soleField "FeatureSolveModel" "features") ∈ lw_all := lw_g (lw_at lw_m5 207 rfl) rfl
theorem q1196 : (Jvm.Cond.laysFinal "FeatureSolveModel" "FeatureSolveModel" "ops" "[I") ∈ lw_all := lw_g (lw_at lw_m5 208 rfl) rfl
theorem q1197 : (Jvm.Cond.soleField "FeatureSolveModel" "ops") ∈ lw_all := lw_g (lw_at lw_m5 209 rfl) rfl
theorem q1198 : (Jvm.Cond.laysFinal "FeatureSolveModel" "FeatureSolveModel" "as" "[I") ∈ lw_all := lw_g (lw_at lw_m5 210 rfl) rfl
theorem q1199 : (Jvm.Cond.soleField "FeatureSolveModel" "as") ∈ lw_all := lw_g (lw_at lw_m5 211 rfl) rfl
theorem q1200 : (Jvm.Cond.laysFinal "FeatureSolveModel" "FeatureSolveModel" "bs" "[I") ∈ lw_all := lw_g (lw_at lw_m5 212 rfl) rfl
theorem q1201 : (Jvm.Cond.soleField "FeatureSolveModel" "bs") ∈ lw_all := lw_g (lw_at lw_m5 213 rfl) rfl
theorem q1202 : (Jvm.Cond.lays "FeatureSolveModel" "FeatureSolveModel" "formulas" "I") ∈ lw_all := lw_g (lw_at lw_m5 214 rfl) rfl
theorem q1203 : (Jvm.Cond.soleField "FeatureSolveModel" "formulas") ∈ lw_all := lw_g (lw_at lw_m5 215 rfl) rfl
theorem q1204 : (Jvm.Cond.laysFinal "FeatureSolveModel" "FeatureSolveModel" "limited" "[Z") ∈ lw_all := lw_g (lw_at lw_m5 216 rfl) rfl
theorem q1205 : (Jvm.Cond.soleField "FeatureSolveModel" "limited") ∈ lw_all := lw_g (lw_at lw_m5 217 rfl) rfl
theorem q1206 : (Jvm.Cond.laysFinal "FeatureSolveModel" "FeatureSolveModel" "limits" "[I") ∈ lw_all := lw_g (lw_at lw_m5 218 rfl) rfl
theorem q1207 : (Jvm.Cond.soleField "FeatureSolveModel" "limits") ∈ lw_all := lw_g (lw_at lw_m5 219 rfl) rfl
theorem q1208 : (Jvm.Cond.laysFinal "FeatureSolveModel" "FeatureSolveModel" "choices" "[I") ∈ lw_all := lw_g (lw_at lw_m5 220 rfl) rfl
theorem q1209 : (Jvm.Cond.soleField "FeatureSolveModel" "choices") ∈ lw_all := lw_g (lw_at lw_m5 221 rfl) rfl
theorem q1210 : (Jvm.Cond.lays "FeatureSolveModel" "FeatureSolveModel" "choiceCount" "I") ∈ lw_all := lw_g (lw_at lw_m5 222 rfl) rfl
theorem q1211 : (Jvm.Cond.soleField "FeatureSolveModel" "choiceCount") ∈ lw_all := lw_g (lw_at lw_m5 223 rfl) rfl
theorem q1212 : (Jvm.Cond.lays "FeatureSolveModel" "FeatureSolveModel" "known" "Z") ∈ lw_all := lw_g (lw_at lw_m5 224 rfl) rfl
theorem q1213 : (Jvm.Cond.soleField "FeatureSolveModel" "known") ∈ lw_all := lw_g (lw_at lw_m5 225 rfl) rfl
theorem q1214 : (Jvm.Cond.laysFinal "FeatureSolveModel" "FeatureSolveModel" "sets" "[I") ∈ lw_all := lw_g (lw_at lw_m5 226 rfl) rfl
theorem q1215 : (Jvm.Cond.soleField "FeatureSolveModel" "sets") ∈ lw_all := lw_g (lw_at lw_m5 227 rfl) rfl
theorem q1216 : (Jvm.Cond.lays "FeatureSolveModel" "FeatureSolveModel" "setCount" "I") ∈ lw_all := lw_g (lw_at lw_m5 228 rfl) rfl
theorem q1217 : (Jvm.Cond.soleField "FeatureSolveModel" "setCount") ∈ lw_all := lw_g (lw_at lw_m5 229 rfl) rfl
theorem q1218 : (Jvm.Cond.laysFinal "FeatureSolveModel" "FeatureSolveModel" "found" "[I") ∈ lw_all := lw_g (lw_at lw_m5 230 rfl) rfl
theorem q1219 : (Jvm.Cond.soleField "FeatureSolveModel" "found") ∈ lw_all := lw_g (lw_at lw_m5 231 rfl) rfl
theorem q1220 : (Jvm.Cond.lays "FeatureSolveModel" "FeatureSolveModel" "foundCount" "I") ∈ lw_all := lw_g (lw_at lw_m5 232 rfl) rfl
theorem q1221 : (Jvm.Cond.soleField "FeatureSolveModel" "foundCount") ∈ lw_all := lw_g (lw_at lw_m5 233 rfl) rfl
theorem q1222 : (Jvm.Cond.laysFinal "FeatureSolveModel" "FeatureSolveModel" "foundFeatures" "[I") ∈ lw_all := lw_g (lw_at lw_m5 234 rfl) rfl
theorem q1223 : (Jvm.Cond.soleField "FeatureSolveModel" "foundFeatures") ∈ lw_all := lw_g (lw_at lw_m5 235 rfl) rfl
theorem q1224 : (Jvm.Cond.lays "FeatureSolveModel" "FeatureSolveModel" "solved" "Z") ∈ lw_all := lw_g (lw_at lw_m5 236 rfl) rfl
theorem q1225 : (Jvm.Cond.soleField "FeatureSolveModel" "solved") ∈ lw_all := lw_g (lw_at lw_m5 237 rfl) rfl
theorem q1226 : (Jvm.Cond.lays "FeatureSolveModel" "FeatureSolveModel" "last" "I") ∈ lw_all := lw_g (lw_at lw_m5 238 rfl) rfl
theorem q1227 : (Jvm.Cond.soleField "FeatureSolveModel" "last") ∈ lw_all := lw_g (lw_at lw_m5 239 rfl) rfl
theorem q1228 : (Jvm.Cond.lays "FeatureSolveModel" "FeatureSolveModel" "lastFeatures" "I") ∈ lw_all := lw_g (lw_at lw_m6 0 rfl) rfl
theorem q1229 : (Jvm.Cond.soleField "FeatureSolveModel" "lastFeatures") ∈ lw_all := lw_g (lw_at lw_m6 1 rfl) rfl
theorem q1230 : (Jvm.Cond.laysFinal "FeatureSolveModel" "FeatureSolveModel" "whys" "[I") ∈ lw_all := lw_g (lw_at lw_m6 2 rfl) rfl
theorem q1231 : (Jvm.Cond.soleField "FeatureSolveModel" "whys") ∈ lw_all := lw_g (lw_at lw_m6 3 rfl) rfl
theorem q1232 : (Jvm.Cond.lays "FeatureSolveModel" "FeatureSolveModel" "whyCount" "I") ∈ lw_all := lw_g (lw_at lw_m6 4 rfl) rfl
theorem q1233 : (Jvm.Cond.soleField "FeatureSolveModel" "whyCount") ∈ lw_all := lw_g (lw_at lw_m6 5 rfl) rfl
theorem q1234 : (Jvm.Cond.superclass "FeatureSolveModel" "java/lang/Object") ∈ lw_all := lw_g (lw_at lw_m6 6 rfl) rfl
theorem q1237 : (Jvm.Cond.instanceMethod ({ cls := "FeatureSolveModel", name := "thrown", desc := "()I" } : Jvm.MethodName)) ∈ lw_all := lw_g (lw_at lw_m6 9 rfl) rfl
theorem q1238 : (Jvm.Cond.selects "FeatureSolveModel" ({ cls := "FeatureSolveModel", name := "thrown", desc := "()I" } : Jvm.MethodName) ({ cls := "FeatureSolveModel", name := "thrown", desc := "()I" } : Jvm.MethodName)) ∈ lw_all := lw_g (lw_at lw_m6 10 rfl) rfl
theorem q1239 : (Jvm.Cond.code ({ cls := "FeatureSolveModel", name := "thrown", desc := "()I" } : Jvm.MethodName) prog_7_method_2_code (1 : Nat) (Option.some Jvm.ClassFile.FieldType.int)) ∈ lw_all := lw_g (lw_at lw_m6 11 rfl) rfl
theorem q1241 : (Jvm.Cond.instanceMethod ({ cls := "FeatureSolveModel", name := "feature", desc := "(II)I" } : Jvm.MethodName)) ∈ lw_all := lw_g (lw_at lw_m6 13 rfl) rfl
theorem q1242 : (Jvm.Cond.selects "FeatureSolveModel" ({ cls := "FeatureSolveModel", name := "feature", desc := "(II)I" } : Jvm.MethodName) ({ cls := "FeatureSolveModel", name := "feature", desc := "(II)I" } : Jvm.MethodName)) ∈ lw_all := lw_g (lw_at lw_m6 14 rfl) rfl
theorem q1243 : (Jvm.Cond.code ({ cls := "FeatureSolveModel", name := "feature", desc := "(II)I" } : Jvm.MethodName) prog_7_method_4_code (3 : Nat) (Option.some Jvm.ClassFile.FieldType.int)) ∈ lw_all := lw_g (lw_at lw_m6 15 rfl) rfl
theorem q1244 : (Jvm.Cond.methodLink "FeatureSolveModel" (66 : Nat) ({ cls := "FeatureSolveModel", name := "isFeature", desc := "(I)Z" } : Jvm.MethodName)) ∈ lw_all := lw_g (lw_at lw_m6 16 rfl) rfl
theorem q1245 : (Jvm.Cond.privateMethod ({ cls := "FeatureSolveModel", name := "isFeature", desc := "(I)Z" } : Jvm.MethodName)) ∈ lw_tbl := lw_at lw_m6 17 rfl
theorem q1246 : (Jvm.Cond.instanceMethod ({ cls := "FeatureSolveModel", name := "isFeature", desc := "(I)Z" } : Jvm.MethodName)) ∈ lw_all := lw_g (lw_at lw_m6 18 rfl) rfl
theorem q1247 : (Jvm.Cond.code ({ cls := "FeatureSolveModel", name := "isFeature", desc := "(I)Z" } : Jvm.MethodName) prog_7_method_3_code (2 : Nat) (Option.some Jvm.ClassFile.FieldType.boolean)) ∈ lw_all := lw_g (lw_at lw_m6 19 rfl) rfl
theorem q1249 : (Jvm.Cond.instanceMethod ({ cls := "FeatureSolveModel", name := "group", desc := "(III)I" } : Jvm.MethodName)) ∈ lw_all := lw_g (lw_at lw_m6 21 rfl) rfl
theorem q1250 : (Jvm.Cond.selects "FeatureSolveModel" ({ cls := "FeatureSolveModel", name := "group", desc := "(III)I" } : Jvm.MethodName) ({ cls := "FeatureSolveModel", name := "group", desc := "(III)I" } : Jvm.MethodName)) ∈ lw_all := lw_g (lw_at lw_m6 22 rfl) rfl
theorem q1251 : (Jvm.Cond.code ({ cls := "FeatureSolveModel", name := "group", desc := "(III)I" } : Jvm.MethodName) prog_7_method_6_code (4 : Nat) (Option.some Jvm.ClassFile.FieldType.int)) ∈ lw_all := lw_g (lw_at lw_m6 23 rfl) rfl
theorem q1252 : (Jvm.Cond.methodLink "FeatureSolveModel" (74 : Nat) ({ cls := "FeatureSolveModel", name := "groupedBelow", desc := "(I)I" } : Jvm.MethodName)) ∈ lw_all := lw_g (lw_at lw_m6 24 rfl) rfl
theorem q1253 : (Jvm.Cond.privateMethod ({ cls := "FeatureSolveModel", name := "groupedBelow", desc := "(I)I" } : Jvm.MethodName)) ∈ lw_tbl := lw_at lw_m6 25 rfl
theorem q1254 : (Jvm.Cond.instanceMethod ({ cls := "FeatureSolveModel", name := "groupedBelow", desc := "(I)I" } : Jvm.MethodName)) ∈ lw_all := lw_g (lw_at lw_m6 26 rfl) rfl
theorem q1255 : (Jvm.Cond.code ({ cls := "FeatureSolveModel", name := "groupedBelow", desc := "(I)I" } : Jvm.MethodName) prog_7_method_5_code (4 : Nat) (Option.some Jvm.ClassFile.FieldType.int)) ∈ lw_all := lw_g (lw_at lw_m6 27 rfl) rfl
theorem q1257 : (Jvm.Cond.instanceMethod ({ cls := "FeatureSolveModel", name := "formula", desc := "(III)I" } : Jvm.MethodName)) ∈ lw_all := lw_g (lw_at lw_m6 29 rfl) rfl
theorem q1258 : (Jvm.Cond.selects "FeatureSolveModel" ({ cls := "FeatureSolveModel", name := "formula", desc := "(III)I" } : Jvm.MethodName) ({ cls := "FeatureSolveModel", name := "formula", desc := "(III)I" } : Jvm.MethodName)) ∈ lw_all := lw_g (lw_at lw_m6 30 rfl) rfl
theorem q1259 : (Jvm.Cond.code ({ cls := "FeatureSolveModel", name := "formula", desc := "(III)I" } : Jvm.MethodName) prog_7_method_8_code (5 : Nat) (Option.some Jvm.ClassFile.FieldType.int)) ∈ lw_all := lw_g (lw_at lw_m6 31 rfl) rfl
theorem q1260 : (Jvm.Cond.methodLink "FeatureSolveModel" (78 : Nat) ({ cls := "FeatureSolveModel", name := "isLiteral", desc := "(I)Z" } : Jvm.MethodName)) ∈ lw_all := lw_g (lw_at lw_m6 32 rfl) rfl
theorem q1261 : (Jvm.Cond.privateMethod ({ cls := "FeatureSolveModel", name := "isLiteral", desc := "(I)Z" } : Jvm.MethodName)) ∈ lw_tbl := lw_at lw_m6 33 rfl
theorem q1262 : (Jvm.Cond.instanceMethod ({ cls := "FeatureSolveModel", name := "isLiteral", desc := "(I)Z" } : Jvm.MethodName)) ∈ lw_all := lw_g (lw_at lw_m6 34 rfl) rfl
theorem q1263 : (Jvm.Cond.code ({ cls := "FeatureSolveModel", name := "isLiteral", desc := "(I)Z" } : Jvm.MethodName) prog_7_method_7_code (2 : Nat) (Option.some Jvm.ClassFile.FieldType.boolean)) ∈ lw_all := lw_g (lw_at lw_m6 35 rfl) rfl
theorem q1265 : (Jvm.Cond.instanceMethod ({ cls := "FeatureSolveModel", name := "attribute", desc := "(III)I" } : Jvm.MethodName)) ∈ lw_all := lw_g (lw_at lw_m6 37 rfl) rfl
theorem q1266 : (Jvm.Cond.selects "FeatureSolveModel" ({ cls := "FeatureSolveModel", name := "attribute", desc := "(III)I" } : Jvm.MethodName) ({ cls := "FeatureSolveModel", name := "attribute", desc := "(III)I" } : Jvm.MethodName)) ∈ lw_all := lw_g (lw_at lw_m6 38 rfl) rfl
theorem q1267 : (Jvm.Cond.code ({ cls := "FeatureSolveModel", name := "attribute", desc := "(III)I" } : Jvm.MethodName) prog_7_method_9_code (5 : Nat) (Option.some Jvm.ClassFile.FieldType.int)) ∈ lw_all := lw_g (lw_at lw_m6 39 rfl) rfl
theorem q1269 : (Jvm.Cond.instanceMethod ({ cls := "FeatureSolveModel", name := "choose", desc := "(IZ)I" } : Jvm.MethodName)) ∈ lw_all := lw_g (lw_at lw_m6 41 rfl) rfl
theorem q1270 : (Jvm.Cond.selects "FeatureSolveModel" ({ cls := "FeatureSolveModel", name := "choose", desc := "(IZ)I" } : Jvm.MethodName) ({ cls := "FeatureSolveModel", name := "choose", desc := "(IZ)I" } : Jvm.MethodName)) ∈ lw_all := lw_g (lw_at lw_m6 42 rfl) rfl
theorem q1271 : (Jvm.Cond.code ({ cls := "FeatureSolveModel", name := "choose", desc := "(IZ)I" } : Jvm.MethodName) prog_7_method_12_code (5 : Nat) (Option.some Jvm.ClassFile.FieldType.int)) ∈ lw_all := lw_g (lw_at lw_m6 43 rfl) rfl
theorem q1272 : (Jvm.Cond.methodLink "FeatureSolveModel" (87 : Nat) ({ cls := "FeatureSolveModel", name := "choiceOf", desc := "(I)I" } : Jvm.MethodName)) ∈ lw_all := lw_g (lw_at lw_m6 44 rfl) rfl
theorem q1273 : (Jvm.Cond.privateMethod ({ cls := "FeatureSolveModel", name := "choiceOf", desc := "(I)I" } : Jvm.MethodName)) ∈ lw_tbl := lw_at lw_m6 45 rfl
theorem q1274 : (Jvm.Cond.instanceMethod ({ cls := "FeatureSolveModel", name := "choiceOf", desc := "(I)I" } : Jvm.MethodName)) ∈ lw_all := lw_g (lw_at lw_m6 46 rfl) rfl
theorem q1275 : (Jvm.Cond.code ({ cls := "FeatureSolveModel", name := "choiceOf", desc := "(I)I" } : Jvm.MethodName) prog_7_method_10_code (4 : Nat) (Option.some Jvm.ClassFile.FieldType.int)) ∈ lw_all := lw_g (lw_at lw_m6 47 rfl) rfl
theorem q1276 : (Jvm.Cond.methodLink "FeatureSolveModel" (90 : Nat) ({ cls := "FeatureSolveModel", name := "forget", desc := "(I)V" } : Jvm.MethodName)) ∈ lw_all := lw_g (lw_at lw_m6 48 rfl) rfl
theorem q1277 : (Jvm.Cond.privateMethod ({ cls := "FeatureSolveModel", name := "forget", desc := "(I)V" } : Jvm.MethodName)) ∈ lw_tbl := lw_at lw_m6 49 rfl
theorem q1278 : (Jvm.Cond.instanceMethod ({ cls := "FeatureSolveModel", name := "forget", desc := "(I)V" } : Jvm.MethodName)) ∈ lw_all := lw_g (lw_at lw_m6 50 rfl) rfl
theorem q1279 : (Jvm.Cond.code ({ cls := "FeatureSolveModel", name := "forget", desc := "(I)V" } : Jvm.MethodName) prog_7_method_11_code (3 : Nat) (Option.none : Option Jvm.ClassFile.FieldType)) ∈ lw_all := lw_g (lw_at lw_m6 51 rfl) rfl
theorem q1281 : (Jvm.Cond.instanceMethod ({ cls := "FeatureSolveModel", name := "solve", desc := "()I" } : Jvm.MethodName)) ∈ lw_all := lw_g (lw_at lw_m6 53 rfl) rfl
theorem q1282 : (Jvm.Cond.selects "FeatureSolveModel" ({ cls := "FeatureSolveModel", name := "solve", desc := "()I" } : Jvm.MethodName) ({ cls := "FeatureSolveModel", name := "solve", desc := "()I" } : Jvm.MethodName)) ∈ lw_all := lw_g (lw_at lw_m6 54 rfl) rfl
theorem q1283 : (Jvm.Cond.code ({ cls := "FeatureSolveModel", name := "solve", desc := "()I" } : Jvm.MethodName) prog_7_method_21_code (4 : Nat) (Option.some Jvm.ClassFile.FieldType.int)) ∈ lw_all := lw_g (lw_at lw_m6 55 rfl) rfl
theorem q1284 : (Jvm.Cond.methodLink "FeatureSolveModel" (122 : Nat) ({ cls := "FeatureSolveModel", name := "firstWithout", desc := "(I)I" } : Jvm.MethodName)) ∈ lw_all := lw_g (lw_at lw_m6 56 rfl) rfl
theorem q1285 : (Jvm.Cond.privateMethod ({ cls := "FeatureSolveModel", name := "firstWithout", desc := "(I)I" } : Jvm.MethodName)) ∈ lw_tbl := lw_at lw_m6 57 rfl
theorem q1286 : (Jvm.Cond.instanceMethod ({ cls := "FeatureSolveModel", name := "firstWithout", desc := "(I)I" } : Jvm.MethodName)) ∈ lw_all := lw_g (lw_at lw_m6 58 rfl) rfl
theorem q1287 : (Jvm.Cond.code ({ cls := "FeatureSolveModel", name := "firstWithout", desc := "(I)I" } : Jvm.MethodName) prog_7_method_20_code (3 : Nat) (Option.some Jvm.ClassFile.FieldType.int)) ∈ lw_all := lw_g (lw_at lw_m6 59 rfl) rfl
theorem q1288 : (Jvm.Cond.methodLink "FeatureSolveModel" (113 : Nat) ({ cls := "FeatureSolveModel", name := "know", desc := "()V" } : Jvm.MethodName)) ∈ lw_all := lw_g (lw_at lw_m6 60 rfl) rfl
theorem q1289 : (Jvm.Cond.privateMethod ({ cls := "FeatureSolveModel", name := "know", desc := "()V" } : Jvm.MethodName)) ∈ lw_tbl := lw_at lw_m6 61 rfl
theorem q1290 : (Jvm.Cond.instanceMethod ({ cls := "FeatureSolveModel", name := "know", desc := "()V" } : Jvm.MethodName)) ∈ lw_all := lw_g (lw_at lw_m6 62 rfl) rfl
theorem q1291 : (Jvm.Cond.code ({ cls := "FeatureSolveModel", name := "know", desc := "()V" } : Jvm.MethodName) prog_7_method_18_code (2 : Nat) (Option.none : Option Jvm.ClassFile.FieldType)) ∈ lw_all := lw_g (lw_at lw_m6 63 rfl) rfl
theorem q1292 : (Jvm.Cond.methodLink "FeatureSolveModel" (104 : Nat) ({ cls := "FeatureSolveModel", name := "keepsTree", desc := "(I)Z" } : Jvm.MethodName)) ∈ lw_all := lw_g (lw_at lw_m6 64 rfl) rfl
theorem q1293 : (Jvm.Cond.privateMethod ({ cls := "FeatureSolveModel", name := "keepsTree", desc := "(I)Z" } : Jvm.MethodName)) ∈ lw_tbl := lw_at lw_m6 65 rfl
theorem q1294 : (Jvm.Cond.instanceMethod ({ cls := "FeatureSolveModel", name := "keepsTree", desc := "(I)Z" } : Jvm.MethodName)) ∈ lw_all := lw_g (lw_at lw_m6 66 rfl) rfl
theorem q1295 : (Jvm.Cond.code ({ cls := "FeatureSolveModel", name := "keepsTree", desc := "(I)Z" } : Jvm.MethodName) prog_7_method_15_code (6 : Nat) (Option.some Jvm.ClassFile.FieldType.boolean)) ∈ lw_all := lw_g (lw_at lw_m6 67 rfl) rfl
theorem q1296 : (Jvm.Cond.methodLink "FeatureSolveModel" (94 : Nat) ({ cls := "FeatureSolveModel", name := "isIn", desc := "(II)Z" } : Jvm.MethodName)) ∈ lw_all := lw_g (lw_at lw_m6 68 rfl) rfl
theorem q1297 : (Jvm.Cond.privateMethod ({ cls := "FeatureSolveModel", name := "isIn", desc := "(II)Z" } : Jvm.MethodName)) ∈ lw_tbl := lw_at lw_m6 69 rfl
theorem q1298 : (Jvm.Cond.instanceMethod ({ cls := "FeatureSolveModel", name := "isIn", desc := "(II)Z" } : Jvm.MethodName)) ∈ lw_all := lw_g (lw_at lw_m6 70 rfl) rfl
theorem q1299 : (Jvm.Cond.code ({ cls := "FeatureSolveModel", name := "isIn", desc := "(II)Z" } : Jvm.MethodName) prog_7_method_13_code (3 : Nat) (Option.some Jvm.ClassFile.FieldType.boolean)) ∈ lw_all := lw_g (lw_at lw_m6 71 rfl) rfl
theorem q1300 : (Jvm.Cond.methodLink "FeatureSolveModel" (107 : Nat) ({ cls := "FeatureSolveModel", name := "keepsFormulas", desc := "(I)Z" } : Jvm.MethodName)) ∈ lw_all := lw_g (lw_at lw_m6 72 rfl) rfl
theorem q1301 : (Jvm.Cond.privateMethod ({ cls := "FeatureSolveModel", name := "keepsFormulas", desc := "(I)Z" } : Jvm.MethodName)) ∈ lw_tbl := lw_at lw_m6 73 rfl
theorem q1302 : (Jvm.Cond.instanceMethod ({ cls := "FeatureSolveModel", name := "keepsFormulas", desc := "(I)Z" } : Jvm.MethodName)) ∈ lw_all := lw_g (lw_at lw_m6 74 rfl) rfl
theorem q1303 : (Jvm.Cond.code ({ cls := "FeatureSolveModel", name := "keepsFormulas", desc := "(I)Z" } : Jvm.MethodName) prog_7_method_16_code (6 : Nat) (Option.some Jvm.ClassFile.FieldType.boolean)) ∈ lw_all := lw_g (lw_at lw_m6 75 rfl) rfl
theorem q1304 : (Jvm.Cond.methodLink "FeatureSolveModel" (98 : Nat) ({ cls := "FeatureSolveModel", name := "holds", desc := "(II)Z" } : Jvm.MethodName)) ∈ lw_all := lw_g (lw_at lw_m6 76 rfl) rfl
theorem q1305 : (Jvm.Cond.privateMethod ({ cls := "FeatureSolveModel", name := "holds", desc := "(II)Z" } : Jvm.MethodName)) ∈ lw_tbl := lw_at lw_m6 77 rfl
theorem q1306 : (Jvm.Cond.instanceMethod ({ cls := "FeatureSolveModel", name := "holds", desc := "(II)Z" } : Jvm.MethodName)) ∈ lw_all := lw_g (lw_at lw_m6 78 rfl) rfl
theorem q1307 : (Jvm.Cond.code ({ cls := "FeatureSolveModel", name := "holds", desc := "(II)Z" } : Jvm.MethodName) prog_7_method_14_code (3 : Nat) (Option.some Jvm.ClassFile.FieldType.boolean)) ∈ lw_all := lw_g (lw_at lw_m6 79 rfl) rfl
theorem q1308 : (Jvm.Cond.methodLink "FeatureSolveModel" (110 : Nat) ({ cls := "FeatureSolveModel", name := "keepsLimits", desc := "(I)Z" } : Jvm.MethodName)) ∈ lw_all := lw_g (lw_at lw_m6 80 rfl) rfl
theorem q1309 : (Jvm.Cond.privateMethod ({ cls := "FeatureSolveModel", name := "keepsLimits", desc := "(I)Z" } : Jvm.MethodName)) ∈ lw_tbl := lw_at lw_m6 81 rfl
theorem q1310 : (Jvm.Cond.instanceMethod ({ cls := "FeatureSolveModel", name := "keepsLimits", desc := "(I)Z" } : Jvm.MethodName)) ∈ lw_all := lw_g (lw_at lw_m6 82 rfl) rfl
theorem q1311 : (Jvm.Cond.code ({ cls := "FeatureSolveModel", name := "keepsLimits", desc := "(I)Z" } : Jvm.MethodName) prog_7_method_17_code (6 : Nat) (Option.some Jvm.ClassFile.FieldType.boolean)) ∈ lw_all := lw_g (lw_at lw_m6 83 rfl) rfl
theorem q1312 : (Jvm.Cond.methodLink "FeatureSolveModel" (116 : Nat) ({ cls := "FeatureSolveModel", name := "keepsChoices", desc := "(II)Z" } : Jvm.MethodName)) ∈ lw_all := lw_g (lw_at lw_m6 84 rfl) rfl
theorem q1313 : (Jvm.Cond.privateMethod ({ cls := "FeatureSolveModel", name := "keepsChoices", desc := "(II)Z" } : Jvm.MethodName)) ∈ lw_tbl := lw_at lw_m6 85 rfl
theorem q1314 : (Jvm.Cond.instanceMethod ({ cls := "FeatureSolveModel", name := "keepsChoices", desc := "(II)Z" } : Jvm.MethodName)) ∈ lw_all := lw_g (lw_at lw_m6 86 rfl) rfl
theorem q1315 : (Jvm.Cond.code ({ cls := "FeatureSolveModel", name := "keepsChoices", desc := "(II)Z" } : Jvm.MethodName) prog_7_method_19_code (5 : Nat) (Option.some Jvm.ClassFile.FieldType.boolean)) ∈ lw_all := lw_g (lw_at lw_m6 87 rfl) rfl
theorem q1317 : (Jvm.Cond.instanceMethod ({ cls := "FeatureSolveModel", name := "chosen", desc := "(I)Z" } : Jvm.MethodName)) ∈ lw_all := lw_g (lw_at lw_m6 89 rfl) rfl
theorem q1318 : (Jvm.Cond.selects "FeatureSolveModel" ({ cls := "FeatureSolveModel", name := "chosen", desc := "(I)Z" } : Jvm.MethodName) ({ cls := "FeatureSolveModel", name := "chosen", desc := "(I)Z" } : Jvm.MethodName)) ∈ lw_all := lw_g (lw_at lw_m6 90 rfl) rfl
theorem q1319 : (Jvm.Cond.code ({ cls := "FeatureSolveModel", name := "chosen", desc := "(I)Z" } : Jvm.MethodName) prog_7_method_23_code (2 : Nat) (Option.some Jvm.ClassFile.FieldType.boolean)) ∈ lw_all := lw_g (lw_at lw_m6 91 rfl) rfl
theorem q1320 : (Jvm.Cond.methodLink "FeatureSolveModel" (137 : Nat) ({ cls := "FeatureSolveModel", name := "wasIn", desc := "(III)Z" } : Jvm.MethodName)) ∈ lw_all := lw_g (lw_at lw_m6 92 rfl) rfl
theorem q1321 : (Jvm.Cond.static ({ cls := "FeatureSolveModel", name := "wasIn", desc := "(III)Z" } : Jvm.MethodName)) ∈ lw_all := lw_g (lw_at lw_m6 93 rfl) rfl
theorem q1322 : (Jvm.Cond.code ({ cls := "FeatureSolveModel", name := "wasIn", desc := "(III)Z" } : Jvm.MethodName) prog_7_method_22_code (3 : Nat) (Option.some Jvm.ClassFile.FieldType.boolean)) ∈ lw_all := lw_g (lw_at lw_m6 94 rfl) rfl
theorem q1324 : (Jvm.Cond.instanceMethod ({ cls := "FeatureSolveModel", name := "why", desc := "(I)I" } : Jvm.MethodName)) ∈ lw_all := lw_g (lw_at lw_m6 96 rfl) rfl
theorem q1325 : (Jvm.Cond.selects "FeatureSolveModel" ({ cls := "FeatureSolveModel", name := "why", desc := "(I)I" } : Jvm.MethodName) ({ cls := "FeatureSolveModel", name := "why", desc := "(I)I" } : Jvm.MethodName)) ∈ lw_all := lw_g (lw_at lw_m6 97 rfl) rfl
theorem q1326 : (Jvm.Cond.code ({ cls := "FeatureSolveModel", name := "why", desc := "(I)I" } : Jvm.MethodName) prog_7_method_24_code (2 : Nat) (Option.some Jvm.ClassFile.FieldType.int)) ∈ lw_all := lw_g (lw_at lw_m6 98 rfl) rfl
theorem q1328 : (Jvm.Cond.instanceMethod ({ cls := "FeatureSolveModel", name := "count", desc := "(J)J" } : Jvm.MethodName)) ∈ lw_all := lw_g (lw_at lw_m6 100 rfl) rfl
theorem q1329 : (Jvm.Cond.selects "FeatureSolveModel" ({ cls := "FeatureSolveModel", name := "count", desc := "(J)J" } : Jvm.MethodName) ({ cls := "FeatureSolveModel", name := "count", desc := "(J)J" } : Jvm.MethodName)) ∈ lw_all := lw_g (lw_at lw_m6 101 rfl) rfl
theorem q1330 : (Jvm.Cond.code ({ cls := "FeatureSolveModel", name := "count", desc := "(J)J" } : Jvm.MethodName) prog_7_method_25_code (6 : Nat) (Option.some Jvm.ClassFile.FieldType.long)) ∈ lw_all := lw_g (lw_at lw_m6 102 rfl) rfl
theorem q1331 : (Jvm.Cond.constantLong "FeatureSolveModel" (141 : Nat) (-2 : Int64)) ∈ lw_all := lw_g (lw_at lw_m6 103 rfl) rfl
theorem q1332 : (Jvm.Cond.constantLong "FeatureSolveModel" (143 : Nat) (-1 : Int64)) ∈ lw_all := lw_g (lw_at lw_m6 104 rfl) rfl
theorem q1334 : (Jvm.Cond.instanceMethod ({ cls := "FeatureSolveModel", name := "forces", desc := "(II)I" } : Jvm.MethodName)) ∈ lw_all := lw_g (lw_at lw_m6 106 rfl) rfl
theorem q1335 : (Jvm.Cond.selects "FeatureSolveModel" ({ cls := "FeatureSolveModel", name := "forces", desc := "(II)I" } : Jvm.MethodName) ({ cls := "FeatureSolveModel", name := "forces", desc := "(II)I" } : Jvm.MethodName)) ∈ lw_all := lw_g (lw_at lw_m6 107 rfl) rfl
theorem q1336 : (Jvm.Cond.code ({ cls := "FeatureSolveModel", name := "forces", desc := "(II)I" } : Jvm.MethodName) prog_7_method_26_code (9 : Nat) (Option.some Jvm.ClassFile.FieldType.int)) ∈ lw_all := lw_g (lw_at lw_m6 108 rfl) rfl
theorem q1338 : (Jvm.Cond.instanceMethod ({ cls := "FeatureSolveModel", name := "differ", desc := "(II)I" } : Jvm.MethodName)) ∈ lw_all := lw_g (lw_at lw_m6 110 rfl) rfl
theorem q1339 : (Jvm.Cond.selects "FeatureSolveModel" ({ cls := "FeatureSolveModel", name := "differ", desc := "(II)I" } : Jvm.MethodName) ({ cls := "FeatureSolveModel", name := "differ", desc := "(II)I" } : Jvm.MethodName)) ∈ lw_all := lw_g (lw_at lw_m6 111 rfl) rfl
theorem q1340 : (Jvm.Cond.code ({ cls := "FeatureSolveModel", name := "differ", desc := "(II)I" } : Jvm.MethodName) prog_7_method_27_code (7 : Nat) (Option.some Jvm.ClassFile.FieldType.int)) ∈ lw_all := lw_g (lw_at lw_m6 112 rfl) rfl
theorem q1342 : (Jvm.Cond.instanceMethod ({ cls := "FeatureSolveModel", name := "level", desc := "(I)I" } : Jvm.MethodName)) ∈ lw_all := lw_g (lw_at lw_m6 114 rfl) rfl
theorem q1343 : (Jvm.Cond.selects "FeatureSolveModel" ({ cls := "FeatureSolveModel", name := "level", desc := "(I)I" } : Jvm.MethodName) ({ cls := "FeatureSolveModel", name := "level", desc := "(I)I" } : Jvm.MethodName)) ∈ lw_all := lw_g (lw_at lw_m6 115 rfl) rfl
theorem q1344 : (Jvm.Cond.code ({ cls := "FeatureSolveModel", name := "level", desc := "(I)I" } : Jvm.MethodName) prog_7_method_28_code (4 : Nat) (Option.some Jvm.ClassFile.FieldType.int)) ∈ lw_all := lw_g (lw_at lw_m6 116 rfl) rfl
theorem q1356 : (Jvm.Cond.castable "FeatureSolveModel" "java/lang/Object") ∈ lw_tbl := lw_at lw_m6 128 rfl
theorem in_X2 : ∀ w ∈ wsX20, w ∈ lw_all := lw_in wsX20 [1180, 1182, 1184, 1186, 1188, 1190, 1192, 1194, 1196, 1198, 1200, 1202, 1204, 1206, 1208, 1210, 1212, 1214, 1216, 1218, 1220, 1222, 1224, 1226, 1228, 1230, 1232] (by decide +kernel) (by decide +kernel)
/-! X3 -/
def RX3 : String := "FeatureSolve$Either"
def TX3 : u_T := fun k => match k with
  | 0 => ("FeatureSolve$Either", "a", "I", true)
  | _ => ("FeatureSolve$Either", "b", "I", true)
def tyX3 : Nat → FieldType := fun k => match k with
  | 0 => .int
  | _ => .int
abbrev wsX30 : List Cond := u_ws RX3 TX3 2
theorem nmX3 : ∀ a, a < 2 → ∀ b, b < 2 → a ≠ b → (TX3 a).2.1 ≠ (TX3 b).2.1 := by decide +kernel
theorem tyX3_ok : ∀ k, k < 2 → parseFieldDescriptor (TX3 k).2.2.1 = some (tyX3 k) := by decide +kernel
theorem q42 : (Jvm.Cond.initialized "FeatureSolve$Either") ∈ lw_all := lw_g (lw_at lw_m1 14 rfl) rfl
theorem q256 : (Jvm.Cond.instantiable "FeatureSolve$Either" (2 : Nat)) ∈ lw_all := lw_g (lw_at lw_m1 228 rfl) rfl
theorem q258 : (Jvm.Cond.instanceMethod ({ cls := "FeatureSolve$Either", name := "<init>", desc := "(II)V" } : Jvm.MethodName)) ∈ lw_all := lw_g (lw_at lw_m1 230 rfl) rfl
theorem q259 : (Jvm.Cond.code ({ cls := "FeatureSolve$Either", name := "<init>", desc := "(II)V" } : Jvm.MethodName) prog_3_method_1_code (3 : Nat) (Option.none : Option Jvm.ClassFile.FieldType)) ∈ lw_all := lw_g (lw_at lw_m1 231 rfl) rfl
theorem q260 : (Jvm.Cond.methodLink "FeatureSolve$Either" (1 : Nat) ({ cls := "java/lang/Record", name := "<init>", desc := "()V" } : Jvm.MethodName)) ∈ lw_all := lw_g (lw_at lw_m1 232 rfl) rfl
theorem q264 : (Jvm.Cond.fieldLink "FeatureSolve$Either" (7 : Nat) "FeatureSolve$Either" "a" "I") ∈ lw_all := lw_g (lw_at lw_m1 236 rfl) rfl
theorem q265 : (Jvm.Cond.fieldLink "FeatureSolve$Either" (13 : Nat) "FeatureSolve$Either" "b" "I") ∈ lw_all := lw_g (lw_at lw_m1 237 rfl) rfl
theorem q266 : (Jvm.Cond.laysFinal "FeatureSolve$Either" "FeatureSolve$Either" "a" "I") ∈ lw_all := lw_g (lw_at lw_m1 238 rfl) rfl
theorem q267 : (Jvm.Cond.soleField "FeatureSolve$Either" "a") ∈ lw_all := lw_g (lw_at lw_m1 239 rfl) rfl
theorem q268 : (Jvm.Cond.laysFinal "FeatureSolve$Either" "FeatureSolve$Either" "b" "I") ∈ lw_all := lw_g (lw_at lw_m2 0 rfl) rfl
theorem q269 : (Jvm.Cond.soleField "FeatureSolve$Either" "b") ∈ lw_all := lw_g (lw_at lw_m2 1 rfl) rfl
theorem q270 : (Jvm.Cond.superclass "FeatureSolve$Either" "java/lang/Record") ∈ lw_all := lw_g (lw_at lw_m2 2 rfl) rfl
theorem q311 : (Jvm.Cond.selects "FeatureSolve$Either" ({ cls := "java/lang/Object", name := "getClass", desc := "()Ljava/lang/Class;" } : Jvm.MethodName) ({ cls := "java/lang/Object", name := "getClass", desc := "()Ljava/lang/Class;" } : Jvm.MethodName)) ∈ lw_all := lw_g (lw_at lw_m2 43 rfl) rfl
theorem q385 : (Jvm.Cond.selects "FeatureSolve$Either" ({ cls := "java/lang/Object", name := "hashCode", desc := "()I" } : Jvm.MethodName) ({ cls := "FeatureSolve$Either", name := "hashCode", desc := "()I" } : Jvm.MethodName)) ∈ lw_all := lw_g (lw_at lw_m2 117 rfl) rfl
theorem q386 : (Jvm.Cond.instanceMethod ({ cls := "FeatureSolve$Either", name := "hashCode", desc := "()I" } : Jvm.MethodName)) ∈ lw_all := lw_g (lw_at lw_m2 118 rfl) rfl
theorem q387 : (Jvm.Cond.code ({ cls := "FeatureSolve$Either", name := "hashCode", desc := "()I" } : Jvm.MethodName) prog_3_method_3_code (1 : Nat) (Option.some Jvm.ClassFile.FieldType.int)) ∈ lw_all := lw_g (lw_at lw_m2 119 rfl) rfl
theorem q419 : (Jvm.Cond.selects "FeatureSolve$Either" ({ cls := "java/lang/Object", name := "equals", desc := "(Ljava/lang/Object;)Z" } : Jvm.MethodName) ({ cls := "FeatureSolve$Either", name := "equals", desc := "(Ljava/lang/Object;)Z" } : Jvm.MethodName)) ∈ lw_all := lw_g (lw_at lw_m2 151 rfl) rfl
theorem q420 : (Jvm.Cond.instanceMethod ({ cls := "FeatureSolve$Either", name := "equals", desc := "(Ljava/lang/Object;)Z" } : Jvm.MethodName)) ∈ lw_all := lw_g (lw_at lw_m2 152 rfl) rfl
theorem q421 : (Jvm.Cond.code ({ cls := "FeatureSolve$Either", name := "equals", desc := "(Ljava/lang/Object;)Z" } : Jvm.MethodName) prog_3_method_2_code (2 : Nat) (Option.some Jvm.ClassFile.FieldType.boolean)) ∈ lw_all := lw_g (lw_at lw_m2 153 rfl) rfl
theorem q1019 : (Jvm.Cond.castable "FeatureSolve$Either" "FeatureSolve$Rule") ∈ lw_tbl := lw_at lw_m5 31 rfl
theorem q1020 : (Jvm.Cond.selects "FeatureSolve$Either" ({ cls := "FeatureSolve$Rule", name := "isBroken", desc := "(II)Z" } : Jvm.MethodName) ({ cls := "FeatureSolve$Either", name := "isBroken", desc := "(II)Z" } : Jvm.MethodName)) ∈ lw_all := lw_g (lw_at lw_m5 32 rfl) rfl
theorem q1021 : (Jvm.Cond.unhidden "FeatureSolve$Either" "isBroken" "(II)Z") ∈ lw_tbl := lw_at lw_m5 33 rfl
theorem q1022 : (Jvm.Cond.instanceMethod ({ cls := "FeatureSolve$Either", name := "isBroken", desc := "(II)Z" } : Jvm.MethodName)) ∈ lw_all := lw_g (lw_at lw_m5 34 rfl) rfl
theorem q1023 : (Jvm.Cond.publicMethod ({ cls := "FeatureSolve$Either", name := "isBroken", desc := "(II)Z" } : Jvm.MethodName)) ∈ lw_tbl := lw_at lw_m5 35 rfl
theorem q1024 : (Jvm.Cond.code ({ cls := "FeatureSolve$Either", name := "isBroken", desc := "(II)Z" } : Jvm.MethodName) prog_3_method_5_code (3 : Nat) (Option.some Jvm.ClassFile.FieldType.boolean)) ∈ lw_all := lw_g (lw_at lw_m5 36 rfl) rfl
theorem q1025 : (Jvm.Cond.methodLink "FeatureSolve$Either" (22 : Nat) ({ cls := "FeatureSolve$Either", name := "isAgainst", desc := "(III)Z" } : Jvm.MethodName)) ∈ lw_all := lw_g (lw_at lw_m5 37 rfl) rfl
theorem q1026 : (Jvm.Cond.static ({ cls := "FeatureSolve$Either", name := "isAgainst", desc := "(III)Z" } : Jvm.MethodName)) ∈ lw_all := lw_g (lw_at lw_m5 38 rfl) rfl
theorem q1027 : (Jvm.Cond.code ({ cls := "FeatureSolve$Either", name := "isAgainst", desc := "(III)Z" } : Jvm.MethodName) prog_3_method_4_code (3 : Nat) (Option.some Jvm.ClassFile.FieldType.boolean)) ∈ lw_all := lw_g (lw_at lw_m5 39 rfl) rfl
theorem q1028 : (Jvm.Cond.methodLinkNest "FeatureSolve$Either" (16 : Nat) ({ cls := "FeatureSolve", name := "bit", desc := "(I)I" } : Jvm.MethodName) "FeatureSolve") ∈ lw_tbl := lw_at lw_m5 40 rfl
theorem q1357 : (Jvm.Cond.castable "FeatureSolve$Either" "java/lang/Object") ∈ lw_tbl := lw_at lw_m6 129 rfl
theorem in_X3 : ∀ w ∈ wsX30, w ∈ lw_all := lw_in wsX30 [266, 268] (by decide +kernel) (by decide +kernel)
/-! X4 -/
def RX4 : String := "FeatureSolve$Count"
def TX4 : u_T := fun k => match k with
  | 0 => ("FeatureSolve$Count", "of", "I", true)
  | 1 => ("FeatureSolve$Count", "some", "I", true)
  | 2 => ("FeatureSolve$Count", "least", "I", true)
  | _ => ("FeatureSolve$Count", "most", "I", true)
def tyX4 : Nat → FieldType := fun k => match k with
  | 0 => .int
  | 1 => .int
  | 2 => .int
  | _ => .int
abbrev wsX40 : List Cond := u_ws RX4 TX4 4
theorem nmX4 : ∀ a, a < 4 → ∀ b, b < 4 → a ≠ b → (TX4 a).2.1 ≠ (TX4 b).2.1 := by decide +kernel
theorem tyX4_ok : ∀ k, k < 4 → parseFieldDescriptor (TX4 k).2.2.1 = some (tyX4 k) := by decide +kernel
theorem q50 : (Jvm.Cond.initialized "FeatureSolve$Count") ∈ lw_all := lw_g (lw_at lw_m1 22 rfl) rfl
theorem q310 : (Jvm.Cond.selects "FeatureSolve$Count" ({ cls := "java/lang/Object", name := "getClass", desc := "()Ljava/lang/Class;" } : Jvm.MethodName) ({ cls := "java/lang/Object", name := "getClass", desc := "()Ljava/lang/Class;" } : Jvm.MethodName)) ∈ lw_all := lw_g (lw_at lw_m2 42 rfl) rfl
theorem q382 : (Jvm.Cond.selects "FeatureSolve$Count" ({ cls := "java/lang/Object", name := "hashCode", desc := "()I" } : Jvm.MethodName) ({ cls := "FeatureSolve$Count", name := "hashCode", desc := "()I" } : Jvm.MethodName)) ∈ lw_all := lw_g (lw_at lw_m2 114 rfl) rfl
theorem q383 : (Jvm.Cond.instanceMethod ({ cls := "FeatureSolve$Count", name := "hashCode", desc := "()I" } : Jvm.MethodName)) ∈ lw_all := lw_g (lw_at lw_m2 115 rfl) rfl
theorem q384 : (Jvm.Cond.code ({ cls := "FeatureSolve$Count", name := "hashCode", desc := "()I" } : Jvm.MethodName) prog_2_method_3_code (1 : Nat) (Option.some Jvm.ClassFile.FieldType.int)) ∈ lw_all := lw_g (lw_at lw_m2 116 rfl) rfl
theorem q416 : (Jvm.Cond.selects "FeatureSolve$Count" ({ cls := "java/lang/Object", name := "equals", desc := "(Ljava/lang/Object;)Z" } : Jvm.MethodName) ({ cls := "FeatureSolve$Count", name := "equals", desc := "(Ljava/lang/Object;)Z" } : Jvm.MethodName)) ∈ lw_all := lw_g (lw_at lw_m2 148 rfl) rfl
theorem q417 : (Jvm.Cond.instanceMethod ({ cls := "FeatureSolve$Count", name := "equals", desc := "(Ljava/lang/Object;)Z" } : Jvm.MethodName)) ∈ lw_all := lw_g (lw_at lw_m2 149 rfl) rfl
theorem q418 : (Jvm.Cond.code ({ cls := "FeatureSolve$Count", name := "equals", desc := "(Ljava/lang/Object;)Z" } : Jvm.MethodName) prog_2_method_2_code (2 : Nat) (Option.some Jvm.ClassFile.FieldType.boolean)) ∈ lw_all := lw_g (lw_at lw_m2 150 rfl) rfl
theorem q730 : (Jvm.Cond.instantiable "FeatureSolve$Count" (4 : Nat)) ∈ lw_all := lw_g (lw_at lw_m3 222 rfl) rfl
theorem q732 : (Jvm.Cond.instanceMethod ({ cls := "FeatureSolve$Count", name := "<init>", desc := "(IIII)V" } : Jvm.MethodName)) ∈ lw_all := lw_g (lw_at lw_m3 224 rfl) rfl
theorem q733 : (Jvm.Cond.code ({ cls := "FeatureSolve$Count", name := "<init>", desc := "(IIII)V" } : Jvm.MethodName) prog_2_method_1_code (5 : Nat) (Option.none : Option Jvm.ClassFile.FieldType)) ∈ lw_all := lw_g (lw_at lw_m3 225 rfl) rfl
theorem q734 : (Jvm.Cond.methodLink "FeatureSolve$Count" (1 : Nat) ({ cls := "java/lang/Record", name := "<init>", desc := "()V" } : Jvm.MethodName)) ∈ lw_all := lw_g (lw_at lw_m3 226 rfl) rfl
theorem q735 : (Jvm.Cond.fieldLink "FeatureSolve$Count" (7 : Nat) "FeatureSolve$Count" "of" "I") ∈ lw_all := lw_g (lw_at lw_m3 227 rfl) rfl
theorem q736 : (Jvm.Cond.fieldLink "FeatureSolve$Count" (13 : Nat) "FeatureSolve$Count" "some" "I") ∈ lw_all := lw_g (lw_at lw_m3 228 rfl) rfl
theorem q737 : (Jvm.Cond.fieldLink "FeatureSolve$Count" (16 : Nat) "FeatureSolve$Count" "least" "I") ∈ lw_all := lw_g (lw_at lw_m3 229 rfl) rfl
theorem q738 : (Jvm.Cond.fieldLink "FeatureSolve$Count" (19 : Nat) "FeatureSolve$Count" "most" "I") ∈ lw_all := lw_g (lw_at lw_m3 230 rfl) rfl
theorem q739 : (Jvm.Cond.laysFinal "FeatureSolve$Count" "FeatureSolve$Count" "of" "I") ∈ lw_all := lw_g (lw_at lw_m3 231 rfl) rfl
theorem q740 : (Jvm.Cond.soleField "FeatureSolve$Count" "of") ∈ lw_all := lw_g (lw_at lw_m3 232 rfl) rfl
theorem q741 : (Jvm.Cond.laysFinal "FeatureSolve$Count" "FeatureSolve$Count" "some" "I") ∈ lw_all := lw_g (lw_at lw_m3 233 rfl) rfl
theorem q742 : (Jvm.Cond.soleField "FeatureSolve$Count" "some") ∈ lw_all := lw_g (lw_at lw_m3 234 rfl) rfl
theorem q743 : (Jvm.Cond.laysFinal "FeatureSolve$Count" "FeatureSolve$Count" "least" "I") ∈ lw_all := lw_g (lw_at lw_m3 235 rfl) rfl
theorem q744 : (Jvm.Cond.soleField "FeatureSolve$Count" "least") ∈ lw_all := lw_g (lw_at lw_m3 236 rfl) rfl
theorem q745 : (Jvm.Cond.laysFinal "FeatureSolve$Count" "FeatureSolve$Count" "most" "I") ∈ lw_all := lw_g (lw_at lw_m3 237 rfl) rfl
theorem q746 : (Jvm.Cond.soleField "FeatureSolve$Count" "most") ∈ lw_all := lw_g (lw_at lw_m3 238 rfl) rfl
theorem q747 : (Jvm.Cond.superclass "FeatureSolve$Count" "java/lang/Record") ∈ lw_all := lw_g (lw_at lw_m3 239 rfl) rfl
theorem q1012 : (Jvm.Cond.castable "FeatureSolve$Count" "FeatureSolve$Rule") ∈ lw_tbl := lw_at lw_m5 24 rfl
theorem q1013 : (Jvm.Cond.selects "FeatureSolve$Count" ({ cls := "FeatureSolve$Rule", name := "isBroken", desc := "(II)Z" } : Jvm.MethodName) ({ cls := "FeatureSolve$Count", name := "isBroken", desc := "(II)Z" } : Jvm.MethodName)) ∈ lw_all := lw_g (lw_at lw_m5 25 rfl) rfl
theorem q1014 : (Jvm.Cond.unhidden "FeatureSolve$Count" "isBroken" "(II)Z") ∈ lw_tbl := lw_at lw_m5 26 rfl
theorem q1015 : (Jvm.Cond.instanceMethod ({ cls := "FeatureSolve$Count", name := "isBroken", desc := "(II)Z" } : Jvm.MethodName)) ∈ lw_all := lw_g (lw_at lw_m5 27 rfl) rfl
theorem q1016 : (Jvm.Cond.publicMethod ({ cls := "FeatureSolve$Count", name := "isBroken", desc := "(II)Z" } : Jvm.MethodName)) ∈ lw_tbl := lw_at lw_m5 28 rfl
theorem q1017 : (Jvm.Cond.code ({ cls := "FeatureSolve$Count", name := "isBroken", desc := "(II)Z" } : Jvm.MethodName) prog_2_method_4_code (4 : Nat) (Option.some Jvm.ClassFile.FieldType.boolean)) ∈ lw_all := lw_g (lw_at lw_m5 29 rfl) rfl
theorem q1018 : (Jvm.Cond.methodLink "FeatureSolve$Count" (22 : Nat) ({ cls := "java/lang/Integer", name := "bitCount", desc := "(I)I" } : Jvm.MethodName)) ∈ lw_all := lw_g (lw_at lw_m5 30 rfl) rfl
theorem q1361 : (Jvm.Cond.castable "FeatureSolve$Count" "java/lang/Object") ∈ lw_tbl := lw_at lw_m6 133 rfl
theorem in_X4 : ∀ w ∈ wsX40, w ∈ lw_all := lw_in wsX40 [739, 741, 743, 745] (by decide +kernel) (by decide +kernel)
/-! X5 -/
def RX5 : String := "FeatureSolve$Sum"
def TX5 : u_T := fun k => match k with
  | 0 => ("FeatureSolve$Sum", "limit", "I", true)
  | _ => ("FeatureSolve$Sum", "values", "[I", true)
def tyX5 : Nat → FieldType := fun k => match k with
  | 0 => .int
  | _ => .array .int
abbrev wsX50 : List Cond := u_ws RX5 TX5 2
theorem nmX5 : ∀ a, a < 2 → ∀ b, b < 2 → a ≠ b → (TX5 a).2.1 ≠ (TX5 b).2.1 := by decide +kernel
theorem tyX5_ok : ∀ k, k < 2 → parseFieldDescriptor (TX5 k).2.2.1 = some (tyX5 k) := by decide +kernel
theorem q54 : (Jvm.Cond.initialized "FeatureSolve$Sum") ∈ lw_all := lw_g (lw_at lw_m1 26 rfl) rfl
theorem q312 : (Jvm.Cond.selects "FeatureSolve$Sum" ({ cls := "java/lang/Object", name := "getClass", desc := "()Ljava/lang/Class;" } : Jvm.MethodName) ({ cls := "java/lang/Object", name := "getClass", desc := "()Ljava/lang/Class;" } : Jvm.MethodName)) ∈ lw_all := lw_g (lw_at lw_m2 44 rfl) rfl
theorem q388 : (Jvm.Cond.selects "FeatureSolve$Sum" ({ cls := "java/lang/Object", name := "hashCode", desc := "()I" } : Jvm.MethodName) ({ cls := "FeatureSolve$Sum", name := "hashCode", desc := "()I" } : Jvm.MethodName)) ∈ lw_all := lw_g (lw_at lw_m2 120 rfl) rfl
theorem q389 : (Jvm.Cond.instanceMethod ({ cls := "FeatureSolve$Sum", name := "hashCode", desc := "()I" } : Jvm.MethodName)) ∈ lw_all := lw_g (lw_at lw_m2 121 rfl) rfl
theorem q390 : (Jvm.Cond.code ({ cls := "FeatureSolve$Sum", name := "hashCode", desc := "()I" } : Jvm.MethodName) prog_5_method_3_code (1 : Nat) (Option.some Jvm.ClassFile.FieldType.int)) ∈ lw_all := lw_g (lw_at lw_m2 122 rfl) rfl
theorem q422 : (Jvm.Cond.selects "FeatureSolve$Sum" ({ cls := "java/lang/Object", name := "equals", desc := "(Ljava/lang/Object;)Z" } : Jvm.MethodName) ({ cls := "FeatureSolve$Sum", name := "equals", desc := "(Ljava/lang/Object;)Z" } : Jvm.MethodName)) ∈ lw_all := lw_g (lw_at lw_m2 154 rfl) rfl
theorem q423 : (Jvm.Cond.instanceMethod ({ cls := "FeatureSolve$Sum", name := "equals", desc := "(Ljava/lang/Object;)Z" } : Jvm.MethodName)) ∈ lw_all := lw_g (lw_at lw_m2 155 rfl) rfl
theorem q424 : (Jvm.Cond.code ({ cls := "FeatureSolve$Sum", name := "equals", desc := "(Ljava/lang/Object;)Z" } : Jvm.MethodName) prog_5_method_2_code (2 : Nat) (Option.some Jvm.ClassFile.FieldType.boolean)) ∈ lw_all := lw_g (lw_at lw_m2 156 rfl) rfl
theorem q887 : (Jvm.Cond.instantiable "FeatureSolve$Sum" (2 : Nat)) ∈ lw_all := lw_g (lw_at lw_m4 139 rfl) rfl
theorem q890 : (Jvm.Cond.instanceMethod ({ cls := "FeatureSolve$Sum", name := "<init>", desc := "(I[I)V" } : Jvm.MethodName)) ∈ lw_all := lw_g (lw_at lw_m4 142 rfl) rfl
theorem q891 : (Jvm.Cond.code ({ cls := "FeatureSolve$Sum", name := "<init>", desc := "(I[I)V" } : Jvm.MethodName) prog_5_method_1_code (3 : Nat) (Option.none : Option Jvm.ClassFile.FieldType)) ∈ lw_all := lw_g (lw_at lw_m4 143 rfl) rfl
theorem q892 : (Jvm.Cond.methodLink "FeatureSolve$Sum" (1 : Nat) ({ cls := "java/lang/Record", name := "<init>", desc := "()V" } : Jvm.MethodName)) ∈ lw_all := lw_g (lw_at lw_m4 144 rfl) rfl
theorem q893 : (Jvm.Cond.fieldLink "FeatureSolve$Sum" (7 : Nat) "FeatureSolve$Sum" "limit" "I") ∈ lw_all := lw_g (lw_at lw_m4 145 rfl) rfl
theorem q894 : (Jvm.Cond.fieldLink "FeatureSolve$Sum" (13 : Nat) "FeatureSolve$Sum" "values" "[I") ∈ lw_all := lw_g (lw_at lw_m4 146 rfl) rfl
theorem q895 : (Jvm.Cond.laysFinal "FeatureSolve$Sum" "FeatureSolve$Sum" "limit" "I") ∈ lw_all := lw_g (lw_at lw_m4 147 rfl) rfl
theorem q896 : (Jvm.Cond.soleField "FeatureSolve$Sum" "limit") ∈ lw_all := lw_g (lw_at lw_m4 148 rfl) rfl
theorem q897 : (Jvm.Cond.laysFinal "FeatureSolve$Sum" "FeatureSolve$Sum" "values" "[I") ∈ lw_all := lw_g (lw_at lw_m4 149 rfl) rfl
theorem q898 : (Jvm.Cond.soleField "FeatureSolve$Sum" "values") ∈ lw_all := lw_g (lw_at lw_m4 150 rfl) rfl
theorem q899 : (Jvm.Cond.superclass "FeatureSolve$Sum" "java/lang/Record") ∈ lw_all := lw_g (lw_at lw_m4 151 rfl) rfl
theorem q1029 : (Jvm.Cond.castable "FeatureSolve$Sum" "FeatureSolve$Rule") ∈ lw_tbl := lw_at lw_m5 41 rfl
theorem q1030 : (Jvm.Cond.selects "FeatureSolve$Sum" ({ cls := "FeatureSolve$Rule", name := "isBroken", desc := "(II)Z" } : Jvm.MethodName) ({ cls := "FeatureSolve$Sum", name := "isBroken", desc := "(II)Z" } : Jvm.MethodName)) ∈ lw_all := lw_g (lw_at lw_m5 42 rfl) rfl
theorem q1031 : (Jvm.Cond.unhidden "FeatureSolve$Sum" "isBroken" "(II)Z") ∈ lw_tbl := lw_at lw_m5 43 rfl
theorem q1032 : (Jvm.Cond.instanceMethod ({ cls := "FeatureSolve$Sum", name := "isBroken", desc := "(II)Z" } : Jvm.MethodName)) ∈ lw_all := lw_g (lw_at lw_m5 44 rfl) rfl
theorem q1033 : (Jvm.Cond.publicMethod ({ cls := "FeatureSolve$Sum", name := "isBroken", desc := "(II)Z" } : Jvm.MethodName)) ∈ lw_tbl := lw_at lw_m5 45 rfl
theorem q1034 : (Jvm.Cond.code ({ cls := "FeatureSolve$Sum", name := "isBroken", desc := "(II)Z" } : Jvm.MethodName) prog_5_method_4_code (6 : Nat) (Option.some Jvm.ClassFile.FieldType.boolean)) ∈ lw_all := lw_g (lw_at lw_m5 46 rfl) rfl
theorem q1035 : (Jvm.Cond.methodLinkNest "FeatureSolve$Sum" (17 : Nat) ({ cls := "FeatureSolve", name := "bit", desc := "(I)I" } : Jvm.MethodName) "FeatureSolve") ∈ lw_tbl := lw_at lw_m5 47 rfl
theorem q1362 : (Jvm.Cond.castable "FeatureSolve$Sum" "java/lang/Object") ∈ lw_tbl := lw_at lw_m6 134 rfl
theorem in_X5 : ∀ w ∈ wsX50, w ∈ lw_all := lw_in wsX50 [895, 897] (by decide +kernel) (by decide +kernel)
/-! words.FeatureSolve_Rule -/
theorem q1010 : (Jvm.Cond.interfaceMethod "FeatureSolve$Rule" "FeatureSolve$Rule" "isBroken" "(II)Z") ∈ lw_tbl := lw_at lw_m5 22 rfl
theorem q1011 : (Jvm.Cond.declares ({ cls := "FeatureSolve$Rule", name := "isBroken", desc := "(II)Z" } : Jvm.MethodName)) ∈ lw_tbl := lw_at lw_m5 23 rfl
/-! words._B -/
theorem q1379 : (Jvm.Cond.castable "[B" "java/lang/Object") ∈ lw_tbl := lw_at lw_m6 151 rfl
/-! words._I -/
theorem q1376 : (Jvm.Cond.castable "[I" "java/lang/Object") ∈ lw_tbl := lw_at lw_m6 148 rfl
/-! words._J -/
theorem q1381 : (Jvm.Cond.castable "[J" "java/lang/Object") ∈ lw_tbl := lw_at lw_m6 153 rfl
/-! words._Ljava_lang_Integer_ -/
theorem q1375 : (Jvm.Cond.castable "[Ljava/lang/Integer;" "java/lang/Object") ∈ lw_tbl := lw_at lw_m6 147 rfl
/-! words._Ljava_lang_Object_ -/
theorem q1371 : (Jvm.Cond.sameMethod "[Ljava/lang/Object;" "java/lang/Object" "getClass" "()Ljava/lang/Class;") ∈ lw_all := lw_g (lw_at lw_m6 143 rfl) rfl
theorem q1372 : (Jvm.Cond.selects "[Ljava/lang/Object;" ({ cls := "java/lang/Object", name := "getClass", desc := "()Ljava/lang/Class;" } : Jvm.MethodName) ({ cls := "java/lang/Object", name := "getClass", desc := "()Ljava/lang/Class;" } : Jvm.MethodName)) ∈ lw_all := lw_g (lw_at lw_m6 144 rfl) rfl
theorem q1377 : (Jvm.Cond.castable "[Ljava/lang/Object;" "java/lang/Object") ∈ lw_tbl := lw_at lw_m6 149 rfl
/-! words._Ljava_util_HashMap_Node_ -/
theorem q1378 : (Jvm.Cond.castable "[Ljava/util/HashMap$Node;" "java/lang/Object") ∈ lw_tbl := lw_at lw_m6 150 rfl
/-! words._Z -/
theorem q1380 : (Jvm.Cond.castable "[Z" "java/lang/Object") ∈ lw_tbl := lw_at lw_m6 152 rfl
/-! words.__I -/
theorem q1374 : (Jvm.Cond.castable "[[I" "java/lang/Object") ∈ lw_tbl := lw_at lw_m6 146 rfl
/-! words.java_lang_Comparable -/
theorem q468 : (Jvm.Cond.interfaceMethod "java/lang/Comparable" "java/lang/Comparable" "compareTo" "(Ljava/lang/Object;)I") ∈ lw_tbl := lw_at lw_m2 200 rfl
theorem q469 : (Jvm.Cond.declares ({ cls := "java/lang/Comparable", name := "compareTo", desc := "(Ljava/lang/Object;)I" } : Jvm.MethodName)) ∈ lw_tbl := lw_at lw_m2 201 rfl
/-! words.java_lang_Integer_IntegerCache -/
theorem q45 : (Jvm.Cond.initialized "java/lang/Integer$IntegerCache") ∈ lw_all := lw_g (lw_at lw_m1 17 rfl) rfl
theorem q348 : (Jvm.Cond.laysStatic "java/lang/Integer$IntegerCache" "high" "I") ∈ lw_tbl := lw_at lw_m2 80 rfl
theorem q350 : (Jvm.Cond.laysStatic "java/lang/Integer$IntegerCache" "cache" "[Ljava/lang/Integer;") ∈ lw_tbl := lw_at lw_m2 82 rfl
/-! words.java_lang_System -/
theorem q37 : (Jvm.Cond.initialized "java/lang/System") ∈ lw_all := lw_g (lw_at lw_m1 9 rfl) rfl
theorem q223 : (Jvm.Cond.static ({ cls := "java/lang/System", name := "arraycopy", desc := "(Ljava/lang/Object;ILjava/lang/Object;II)V" } : Jvm.MethodName)) ∈ lw_all := lw_g (lw_at lw_m1 195 rfl) rfl
theorem q224 : (Jvm.Cond.native ({ cls := "java/lang/System", name := "arraycopy", desc := "(Ljava/lang/Object;ILjava/lang/Object;II)V" } : Jvm.MethodName)) ∈ lw_all := lw_g (lw_at lw_m1 196 rfl) rfl
/-! words.java_util_Collection -/
theorem q759 : (Jvm.Cond.interfaceMethod "java/util/Collection" "java/util/Collection" "toArray" "()[Ljava/lang/Object;") ∈ lw_tbl := lw_at lw_m4 11 rfl
theorem q760 : (Jvm.Cond.declares ({ cls := "java/util/Collection", name := "toArray", desc := "()[Ljava/lang/Object;" } : Jvm.MethodName)) ∈ lw_tbl := lw_at lw_m4 12 rfl
/-! words.java_util_Iterator -/
theorem q838 : (Jvm.Cond.interfaceMethod "java/util/Iterator" "java/util/Iterator" "hasNext" "()Z") ∈ lw_tbl := lw_at lw_m4 90 rfl
theorem q839 : (Jvm.Cond.declares ({ cls := "java/util/Iterator", name := "hasNext", desc := "()Z" } : Jvm.MethodName)) ∈ lw_tbl := lw_at lw_m4 91 rfl
theorem q855 : (Jvm.Cond.interfaceMethod "java/util/Iterator" "java/util/Iterator" "next" "()Ljava/lang/Object;") ∈ lw_tbl := lw_at lw_m4 107 rfl
theorem q856 : (Jvm.Cond.declares ({ cls := "java/util/Iterator", name := "next", desc := "()Ljava/lang/Object;" } : Jvm.MethodName)) ∈ lw_tbl := lw_at lw_m4 108 rfl
/-! words.java_util_List -/
theorem q273 : (Jvm.Cond.interfaceMethod "java/util/List" "java/util/List" "add" "(Ljava/lang/Object;)Z") ∈ lw_tbl := lw_at lw_m2 5 rfl
theorem q274 : (Jvm.Cond.declares ({ cls := "java/util/List", name := "add", desc := "(Ljava/lang/Object;)Z" } : Jvm.MethodName)) ∈ lw_tbl := lw_at lw_m2 6 rfl
theorem q722 : (Jvm.Cond.interfaceMethod "java/util/List" "java/util/List" "clear" "()V") ∈ lw_tbl := lw_at lw_m3 214 rfl
theorem q723 : (Jvm.Cond.declares ({ cls := "java/util/List", name := "clear", desc := "()V" } : Jvm.MethodName)) ∈ lw_tbl := lw_at lw_m3 215 rfl
theorem q750 : (Jvm.Cond.interfaceMethod "java/util/List" "java/util/List" "addAll" "(Ljava/util/Collection;)Z") ∈ lw_tbl := lw_at lw_m4 2 rfl
theorem q751 : (Jvm.Cond.declares ({ cls := "java/util/List", name := "addAll", desc := "(Ljava/util/Collection;)Z" } : Jvm.MethodName)) ∈ lw_tbl := lw_at lw_m4 3 rfl
theorem q983 : (Jvm.Cond.interfaceMethod "java/util/List" "java/util/List" "size" "()I") ∈ lw_tbl := lw_at lw_m4 235 rfl
theorem q984 : (Jvm.Cond.declares ({ cls := "java/util/List", name := "size", desc := "()I" } : Jvm.MethodName)) ∈ lw_tbl := lw_at lw_m4 236 rfl
theorem q990 : (Jvm.Cond.interfaceMethod "java/util/List" "java/util/List" "get" "(I)Ljava/lang/Object;") ∈ lw_tbl := lw_at lw_m5 2 rfl
theorem q991 : (Jvm.Cond.declares ({ cls := "java/util/List", name := "get", desc := "(I)Ljava/lang/Object;" } : Jvm.MethodName)) ∈ lw_tbl := lw_at lw_m5 3 rfl
/-! words.java_util_Map_Entry -/
theorem q944 : (Jvm.Cond.interfaceMethod "java/util/Map$Entry" "java/util/Map$Entry" "getValue" "()Ljava/lang/Object;") ∈ lw_tbl := lw_at lw_m4 196 rfl
theorem q945 : (Jvm.Cond.declares ({ cls := "java/util/Map$Entry", name := "getValue", desc := "()Ljava/lang/Object;" } : Jvm.MethodName)) ∈ lw_tbl := lw_at lw_m4 197 rfl
theorem q962 : (Jvm.Cond.interfaceMethod "java/util/Map$Entry" "java/util/Map$Entry" "getKey" "()Ljava/lang/Object;") ∈ lw_tbl := lw_at lw_m4 214 rfl
theorem q963 : (Jvm.Cond.declares ({ cls := "java/util/Map$Entry", name := "getKey", desc := "()Ljava/lang/Object;" } : Jvm.MethodName)) ∈ lw_tbl := lw_at lw_m4 215 rfl
/-! words.java_util_Set -/
theorem q931 : (Jvm.Cond.interfaceMethod "java/util/Set" "java/util/Set" "iterator" "()Ljava/util/Iterator;") ∈ lw_tbl := lw_at lw_m4 183 rfl
theorem q932 : (Jvm.Cond.declares ({ cls := "java/util/Set", name := "iterator", desc := "()Ljava/util/Iterator;" } : Jvm.MethodName)) ∈ lw_tbl := lw_at lw_m4 184 rfl
/-! words.rest -/
theorem q74 : (Jvm.Cond.arrayOver (Jvm.ClassFile.FieldType.array Jvm.ClassFile.FieldType.int)) ∈ lw_tbl := lw_at lw_m1 46 rfl
theorem q76 : (Jvm.Cond.arrayOver (Jvm.ClassFile.FieldType.object "java/lang/Integer")) ∈ lw_tbl := lw_at lw_m1 48 rfl
theorem q107 : (Jvm.Cond.arrayClass Jvm.ClassFile.FieldType.int) ∈ lw_all := lw_g (lw_at lw_m1 79 rfl) rfl
theorem q330 : (Jvm.Cond.arrayOver (Jvm.ClassFile.FieldType.object "java/lang/Object")) ∈ lw_tbl := lw_at lw_m2 62 rfl
theorem q612 : (Jvm.Cond.arrayOver (Jvm.ClassFile.FieldType.object "java/util/HashMap$Node")) ∈ lw_tbl := lw_at lw_m3 104 rfl
theorem q1138 : (Jvm.Cond.arrayClass Jvm.ClassFile.FieldType.byte) ∈ lw_all := lw_g (lw_at lw_m5 150 rfl) rfl
theorem q1235 : (Jvm.Cond.arrayClass Jvm.ClassFile.FieldType.boolean) ∈ lw_all := lw_g (lw_at lw_m6 7 rfl) rfl
theorem q1346 : (Jvm.Cond.arrayClass Jvm.ClassFile.FieldType.long) ∈ lw_all := lw_g (lw_at lw_m6 118 rfl) rfl
