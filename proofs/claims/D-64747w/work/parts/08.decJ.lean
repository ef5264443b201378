set_option maxRecDepth 100000
abbrev cJ0_init : ByteArray := prog_27_method_1_code
def yJ0_init : MethodName := ⟨RJ0, "<init>", "()V"⟩
theorem dJ0_init_0 : decode cJ0_init 0 = .ok (.aload_n 0, 1) := by decide +kernel
theorem dJ0_init_1 : decode cJ0_init 1 = .ok (.invokespecial 1, 3) := by decide +kernel
theorem dJ0_init_4 : decode cJ0_init 4 = .ok (.return_, 1) := by decide +kernel
abbrev cJ1_init : ByteArray := prog_28_method_1_code
def yJ1_init : MethodName := ⟨RJ1, "<init>", "()V"⟩
theorem dJ1_init_0 : decode cJ1_init 0 = .ok (.aload_n 0, 1) := by decide +kernel
theorem dJ1_init_1 : decode cJ1_init 1 = .ok (.invokespecial 1, 3) := by decide +kernel
theorem dJ1_init_4 : decode cJ1_init 4 = .ok (.aload_n 0, 1) := by decide +kernel
theorem dJ1_init_5 : decode cJ1_init 5 = .ok (.iconst 0, 1) := by decide +kernel
theorem dJ1_init_6 : decode cJ1_init 6 = .ok (.putfield 7, 3) := by decide +kernel
theorem dJ1_init_9 : decode cJ1_init 9 = .ok (.return_, 1) := by decide +kernel
abbrev cJ2_init : ByteArray := prog_31_method_2_code
def yJ2_init : MethodName := ⟨RJ2, "<init>", "()V"⟩
theorem dJ2_init_0 : decode cJ2_init 0 = .ok (.aload_n 0, 1) := by decide +kernel
theorem dJ2_init_1 : decode cJ2_init 1 = .ok (.invokespecial 1, 3) := by decide +kernel
theorem dJ2_init_4 : decode cJ2_init 4 = .ok (.aload_n 0, 1) := by decide +kernel
theorem dJ2_init_5 : decode cJ2_init 5 = .ok (.getstatic 39, 3) := by decide +kernel
theorem dJ2_init_8 : decode cJ2_init 8 = .ok (.putfield 9, 3) := by decide +kernel
theorem dJ2_init_11 : decode cJ2_init 11 = .ok (.return_, 1) := by decide +kernel
abbrev cJ2_add : ByteArray := prog_31_method_25_code
def yJ2_add : MethodName := ⟨RJ2, "add", "(Ljava/lang/Object;)Z"⟩
theorem dJ2_add_0 : decode cJ2_add 0 = .ok (.aload_n 0, 1) := by decide +kernel
theorem dJ2_add_1 : decode cJ2_add 1 = .ok (.dup, 1) := by decide +kernel
theorem dJ2_add_2 : decode cJ2_add 2 = .ok (.getfield 63, 3) := by decide +kernel
theorem dJ2_add_5 : decode cJ2_add 5 = .ok (.iconst 1, 1) := by decide +kernel
theorem dJ2_add_6 : decode cJ2_add 6 = .ok (.iadd, 1) := by decide +kernel
theorem dJ2_add_7 : decode cJ2_add 7 = .ok (.putfield 63, 3) := by decide +kernel
theorem dJ2_add_10 : decode cJ2_add 10 = .ok (.aload_n 0, 1) := by decide +kernel
theorem dJ2_add_11 : decode cJ2_add 11 = .ok (.aload_n 1, 1) := by decide +kernel
theorem dJ2_add_12 : decode cJ2_add 12 = .ok (.aload_n 0, 1) := by decide +kernel
theorem dJ2_add_13 : decode cJ2_add 13 = .ok (.getfield 9, 3) := by decide +kernel
theorem dJ2_add_16 : decode cJ2_add 16 = .ok (.aload_n 0, 1) := by decide +kernel
theorem dJ2_add_17 : decode cJ2_add 17 = .ok (.getfield 48, 3) := by decide +kernel
theorem dJ2_add_20 : decode cJ2_add 20 = .ok (.invokevirtual 131, 3) := by decide +kernel
theorem dJ2_add_23 : decode cJ2_add 23 = .ok (.iconst 1, 1) := by decide +kernel
theorem dJ2_add_24 : decode cJ2_add 24 = .ok (.ireturn, 1) := by decide +kernel
abbrev cJ2_add_2 : ByteArray := prog_31_method_24_code
def yJ2_add_2 : MethodName := ⟨RJ2, "add", "(Ljava/lang/Object;[Ljava/lang/Object;I)V"⟩
theorem dJ2_add_2_0 : decode cJ2_add_2 0 = .ok (.iload_n 3, 1) := by decide +kernel
theorem dJ2_add_2_1 : decode cJ2_add_2 1 = .ok (.aload_n 2, 1) := by decide +kernel
theorem dJ2_add_2_2 : decode cJ2_add_2 2 = .ok (.arraylength, 1) := by decide +kernel
theorem dJ2_add_2_3 : decode cJ2_add_2 3 = .ok (.if_icmp .ne 8, 3) := by decide +kernel
theorem dJ2_add_2_6 : decode cJ2_add_2 6 = .ok (.aload_n 0, 1) := by decide +kernel
theorem dJ2_add_2_7 : decode cJ2_add_2 7 = .ok (.invokevirtual 129, 3) := by decide +kernel
theorem dJ2_add_2_10 : decode cJ2_add_2 10 = .ok (.astore_n 2, 1) := by decide +kernel
theorem dJ2_add_2_11 : decode cJ2_add_2 11 = .ok (.aload_n 2, 1) := by decide +kernel
theorem dJ2_add_2_12 : decode cJ2_add_2 12 = .ok (.iload_n 3, 1) := by decide +kernel
theorem dJ2_add_2_13 : decode cJ2_add_2 13 = .ok (.aload_n 1, 1) := by decide +kernel
theorem dJ2_add_2_14 : decode cJ2_add_2 14 = .ok (.aastore, 1) := by decide +kernel
theorem dJ2_add_2_15 : decode cJ2_add_2 15 = .ok (.aload_n 0, 1) := by decide +kernel
theorem dJ2_add_2_16 : decode cJ2_add_2 16 = .ok (.iload_n 3, 1) := by decide +kernel
theorem dJ2_add_2_17 : decode cJ2_add_2 17 = .ok (.iconst 1, 1) := by decide +kernel
theorem dJ2_add_2_18 : decode cJ2_add_2 18 = .ok (.iadd, 1) := by decide +kernel
theorem dJ2_add_2_19 : decode cJ2_add_2 19 = .ok (.putfield 48, 3) := by decide +kernel
theorem dJ2_add_2_22 : decode cJ2_add_2 22 = .ok (.return_, 1) := by decide +kernel
abbrev cJ2_grow : ByteArray := prog_31_method_7_code
def yJ2_grow : MethodName := ⟨RJ2, "grow", "()[Ljava/lang/Object;"⟩
theorem dJ2_grow_0 : decode cJ2_grow 0 = .ok (.aload_n 0, 1) := by decide +kernel
theorem dJ2_grow_1 : decode cJ2_grow 1 = .ok (.aload_n 0, 1) := by decide +kernel
theorem dJ2_grow_2 : decode cJ2_grow 2 = .ok (.getfield 48, 3) := by decide +kernel
theorem dJ2_grow_5 : decode cJ2_grow 5 = .ok (.iconst 1, 1) := by decide +kernel
theorem dJ2_grow_6 : decode cJ2_grow 6 = .ok (.iadd, 1) := by decide +kernel
theorem dJ2_grow_7 : decode cJ2_grow 7 = .ok (.invokevirtual 69, 3) := by decide +kernel
theorem dJ2_grow_10 : decode cJ2_grow 10 = .ok (.areturn, 1) := by decide +kernel
abbrev cJ2_grow_2 : ByteArray := prog_31_method_6_code
def yJ2_grow_2 : MethodName := ⟨RJ2, "grow", "(I)[Ljava/lang/Object;"⟩
theorem dJ2_grow_2_0 : decode cJ2_grow_2 0 = .ok (.aload_n 0, 1) := by decide +kernel
theorem dJ2_grow_2_1 : decode cJ2_grow_2 1 = .ok (.getfield 9, 3) := by decide +kernel
theorem dJ2_grow_2_4 : decode cJ2_grow_2 4 = .ok (.arraylength, 1) := by decide +kernel
theorem dJ2_grow_2_5 : decode cJ2_grow_2 5 = .ok (.istore_n 2, 1) := by decide +kernel
theorem dJ2_grow_2_6 : decode cJ2_grow_2 6 = .ok (.iload_n 2, 1) := by decide +kernel
theorem dJ2_grow_2_7 : decode cJ2_grow_2 7 = .ok (.ifCond .gt 13, 3) := by decide +kernel
theorem dJ2_grow_2_10 : decode cJ2_grow_2 10 = .ok (.aload_n 0, 1) := by decide +kernel
theorem dJ2_grow_2_11 : decode cJ2_grow_2 11 = .ok (.getfield 9, 3) := by decide +kernel
theorem dJ2_grow_2_14 : decode cJ2_grow_2 14 = .ok (.getstatic 39, 3) := by decide +kernel
theorem dJ2_grow_2_17 : decode cJ2_grow_2 17 = .ok (.if_acmp .eq 28, 3) := by decide +kernel
theorem dJ2_grow_2_20 : decode cJ2_grow_2 20 = .ok (.iload_n 2, 1) := by decide +kernel
theorem dJ2_grow_2_21 : decode cJ2_grow_2 21 = .ok (.iload_n 1, 1) := by decide +kernel
theorem dJ2_grow_2_22 : decode cJ2_grow_2 22 = .ok (.iload_n 2, 1) := by decide +kernel
theorem dJ2_grow_2_23 : decode cJ2_grow_2 23 = .ok (.isub, 1) := by decide +kernel
theorem dJ2_grow_2_24 : decode cJ2_grow_2 24 = .ok (.iload_n 2, 1) := by decide +kernel
theorem dJ2_grow_2_25 : decode cJ2_grow_2 25 = .ok (.iconst 1, 1) := by decide +kernel
theorem dJ2_grow_2_26 : decode cJ2_grow_2 26 = .ok (.ishr, 1) := by decide +kernel
theorem dJ2_grow_2_27 : decode cJ2_grow_2 27 = .ok (.invokestatic 73, 3) := by decide +kernel
theorem dJ2_grow_2_30 : decode cJ2_grow_2 30 = .ok (.istore_n 3, 1) := by decide +kernel
theorem dJ2_grow_2_31 : decode cJ2_grow_2 31 = .ok (.aload_n 0, 1) := by decide +kernel
theorem dJ2_grow_2_32 : decode cJ2_grow_2 32 = .ok (.aload_n 0, 1) := by decide +kernel
theorem dJ2_grow_2_33 : decode cJ2_grow_2 33 = .ok (.getfield 9, 3) := by decide +kernel
theorem dJ2_grow_2_36 : decode cJ2_grow_2 36 = .ok (.iload_n 3, 1) := by decide +kernel
theorem dJ2_grow_2_37 : decode cJ2_grow_2 37 = .ok (.invokestatic 66, 3) := by decide +kernel
theorem dJ2_grow_2_40 : decode cJ2_grow_2 40 = .ok (.dup_x1, 1) := by decide +kernel
theorem dJ2_grow_2_41 : decode cJ2_grow_2 41 = .ok (.putfield 9, 3) := by decide +kernel
theorem dJ2_grow_2_44 : decode cJ2_grow_2 44 = .ok (.areturn, 1) := by decide +kernel
theorem dJ2_grow_2_45 : decode cJ2_grow_2 45 = .ok (.aload_n 0, 1) := by decide +kernel
theorem dJ2_grow_2_46 : decode cJ2_grow_2 46 = .ok (.bipush 10, 2) := by decide +kernel
theorem dJ2_grow_2_48 : decode cJ2_grow_2 48 = .ok (.iload_n 1, 1) := by decide +kernel
theorem dJ2_grow_2_49 : decode cJ2_grow_2 49 = .ok (.invokestatic 79, 3) := by decide +kernel
theorem dJ2_grow_2_52 : decode cJ2_grow_2 52 = .ok (.anewarray 7, 3) := by decide +kernel
theorem dJ2_grow_2_55 : decode cJ2_grow_2 55 = .ok (.dup_x1, 1) := by decide +kernel
theorem dJ2_grow_2_56 : decode cJ2_grow_2 56 = .ok (.putfield 9, 3) := by decide +kernel
theorem dJ2_grow_2_59 : decode cJ2_grow_2 59 = .ok (.areturn, 1) := by decide +kernel
abbrev cJ2_clear : ByteArray := prog_31_method_40_code
def yJ2_clear : MethodName := ⟨RJ2, "clear", "()V"⟩
theorem dJ2_clear_0 : decode cJ2_clear 0 = .ok (.aload_n 0, 1) := by decide +kernel
theorem dJ2_clear_1 : decode cJ2_clear 1 = .ok (.dup, 1) := by decide +kernel
theorem dJ2_clear_2 : decode cJ2_clear 2 = .ok (.getfield 63, 3) := by decide +kernel
theorem dJ2_clear_5 : decode cJ2_clear 5 = .ok (.iconst 1, 1) := by decide +kernel
theorem dJ2_clear_6 : decode cJ2_clear 6 = .ok (.iadd, 1) := by decide +kernel
theorem dJ2_clear_7 : decode cJ2_clear 7 = .ok (.putfield 63, 3) := by decide +kernel
theorem dJ2_clear_10 : decode cJ2_clear 10 = .ok (.aload_n 0, 1) := by decide +kernel
theorem dJ2_clear_11 : decode cJ2_clear 11 = .ok (.getfield 9, 3) := by decide +kernel
theorem dJ2_clear_14 : decode cJ2_clear 14 = .ok (.astore_n 1, 1) := by decide +kernel
theorem dJ2_clear_15 : decode cJ2_clear 15 = .ok (.aload_n 0, 1) := by decide +kernel
theorem dJ2_clear_16 : decode cJ2_clear 16 = .ok (.getfield 48, 3) := by decide +kernel
theorem dJ2_clear_19 : decode cJ2_clear 19 = .ok (.istore_n 2, 1) := by decide +kernel
theorem dJ2_clear_20 : decode cJ2_clear 20 = .ok (.aload_n 0, 1) := by decide +kernel
theorem dJ2_clear_21 : decode cJ2_clear 21 = .ok (.iconst 0, 1) := by decide +kernel
theorem dJ2_clear_22 : decode cJ2_clear 22 = .ok (.dup_x1, 1) := by decide +kernel
theorem dJ2_clear_23 : decode cJ2_clear 23 = .ok (.putfield 48, 3) := by decide +kernel
theorem dJ2_clear_26 : decode cJ2_clear 26 = .ok (.istore_n 3, 1) := by decide +kernel
theorem dJ2_clear_27 : decode cJ2_clear 27 = .ok (.iload_n 3, 1) := by decide +kernel
theorem dJ2_clear_28 : decode cJ2_clear 28 = .ok (.iload_n 2, 1) := by decide +kernel
theorem dJ2_clear_29 : decode cJ2_clear 29 = .ok (.if_icmp .ge 13, 3) := by decide +kernel
theorem dJ2_clear_32 : decode cJ2_clear 32 = .ok (.aload_n 1, 1) := by decide +kernel
theorem dJ2_clear_33 : decode cJ2_clear 33 = .ok (.iload_n 3, 1) := by decide +kernel
theorem dJ2_clear_34 : decode cJ2_clear 34 = .ok (.aconst_null, 1) := by decide +kernel
theorem dJ2_clear_35 : decode cJ2_clear 35 = .ok (.aastore, 1) := by decide +kernel
theorem dJ2_clear_36 : decode cJ2_clear 36 = .ok (.iinc 3 1, 3) := by decide +kernel
theorem dJ2_clear_39 : decode cJ2_clear 39 = .ok (.goto (-12), 3) := by decide +kernel
theorem dJ2_clear_42 : decode cJ2_clear 42 = .ok (.return_, 1) := by decide +kernel
abbrev cJ2_addAll : ByteArray := prog_31_method_41_code
def yJ2_addAll : MethodName := ⟨RJ2, "addAll", "(Ljava/util/Collection;)Z"⟩
theorem dJ2_addAll_0 : decode cJ2_addAll 0 = .ok (.aload_n 1, 1) := by decide +kernel
theorem dJ2_addAll_1 : decode cJ2_addAll 1 = .ok (.invokeinterface 42 1, 5) := by decide +kernel
theorem dJ2_addAll_6 : decode cJ2_addAll 6 = .ok (.astore_n 2, 1) := by decide +kernel
theorem dJ2_addAll_7 : decode cJ2_addAll 7 = .ok (.aload_n 0, 1) := by decide +kernel
theorem dJ2_addAll_8 : decode cJ2_addAll 8 = .ok (.dup, 1) := by decide +kernel
theorem dJ2_addAll_9 : decode cJ2_addAll 9 = .ok (.getfield 63, 3) := by decide +kernel
theorem dJ2_addAll_12 : decode cJ2_addAll 12 = .ok (.iconst 1, 1) := by decide +kernel
theorem dJ2_addAll_13 : decode cJ2_addAll 13 = .ok (.iadd, 1) := by decide +kernel
theorem dJ2_addAll_14 : decode cJ2_addAll 14 = .ok (.putfield 63, 3) := by decide +kernel
theorem dJ2_addAll_17 : decode cJ2_addAll 17 = .ok (.aload_n 2, 1) := by decide +kernel
theorem dJ2_addAll_18 : decode cJ2_addAll 18 = .ok (.arraylength, 1) := by decide +kernel
theorem dJ2_addAll_19 : decode cJ2_addAll 19 = .ok (.istore_n 3, 1) := by decide +kernel
theorem dJ2_addAll_20 : decode cJ2_addAll 20 = .ok (.iload_n 3, 1) := by decide +kernel
theorem dJ2_addAll_21 : decode cJ2_addAll 21 = .ok (.ifCond .ne 5, 3) := by decide +kernel
theorem dJ2_addAll_24 : decode cJ2_addAll 24 = .ok (.iconst 0, 1) := by decide +kernel
theorem dJ2_addAll_25 : decode cJ2_addAll 25 = .ok (.ireturn, 1) := by decide +kernel
theorem dJ2_addAll_26 : decode cJ2_addAll 26 = .ok (.iload_n 3, 1) := by decide +kernel
theorem dJ2_addAll_27 : decode cJ2_addAll 27 = .ok (.aload_n 0, 1) := by decide +kernel
theorem dJ2_addAll_28 : decode cJ2_addAll 28 = .ok (.getfield 9, 3) := by decide +kernel
theorem dJ2_addAll_31 : decode cJ2_addAll 31 = .ok (.dup, 1) := by decide +kernel
theorem dJ2_addAll_32 : decode cJ2_addAll 32 = .ok (.astore 4, 2) := by decide +kernel
theorem dJ2_addAll_34 : decode cJ2_addAll 34 = .ok (.arraylength, 1) := by decide +kernel
theorem dJ2_addAll_35 : decode cJ2_addAll 35 = .ok (.aload_n 0, 1) := by decide +kernel
theorem dJ2_addAll_36 : decode cJ2_addAll 36 = .ok (.getfield 48, 3) := by decide +kernel
theorem dJ2_addAll_39 : decode cJ2_addAll 39 = .ok (.dup, 1) := by decide +kernel
theorem dJ2_addAll_40 : decode cJ2_addAll 40 = .ok (.istore 5, 2) := by decide +kernel
theorem dJ2_addAll_42 : decode cJ2_addAll 42 = .ok (.isub, 1) := by decide +kernel
theorem dJ2_addAll_43 : decode cJ2_addAll 43 = .ok (.if_icmp .le 13, 3) := by decide +kernel
theorem dJ2_addAll_46 : decode cJ2_addAll 46 = .ok (.aload_n 0, 1) := by decide +kernel
theorem dJ2_addAll_47 : decode cJ2_addAll 47 = .ok (.iload 5, 2) := by decide +kernel
theorem dJ2_addAll_49 : decode cJ2_addAll 49 = .ok (.iload_n 3, 1) := by decide +kernel
theorem dJ2_addAll_50 : decode cJ2_addAll 50 = .ok (.iadd, 1) := by decide +kernel
theorem dJ2_addAll_51 : decode cJ2_addAll 51 = .ok (.invokevirtual 69, 3) := by decide +kernel
theorem dJ2_addAll_54 : decode cJ2_addAll 54 = .ok (.astore 4, 2) := by decide +kernel
theorem dJ2_addAll_56 : decode cJ2_addAll 56 = .ok (.aload_n 2, 1) := by decide +kernel
theorem dJ2_addAll_57 : decode cJ2_addAll 57 = .ok (.iconst 0, 1) := by decide +kernel
theorem dJ2_addAll_58 : decode cJ2_addAll 58 = .ok (.aload 4, 2) := by decide +kernel
theorem dJ2_addAll_60 : decode cJ2_addAll 60 = .ok (.iload 5, 2) := by decide +kernel
theorem dJ2_addAll_62 : decode cJ2_addAll 62 = .ok (.iload_n 3, 1) := by decide +kernel
theorem dJ2_addAll_63 : decode cJ2_addAll 63 = .ok (.invokestatic 112, 3) := by decide +kernel
theorem dJ2_addAll_66 : decode cJ2_addAll 66 = .ok (.aload_n 0, 1) := by decide +kernel
theorem dJ2_addAll_67 : decode cJ2_addAll 67 = .ok (.iload 5, 2) := by decide +kernel
theorem dJ2_addAll_69 : decode cJ2_addAll 69 = .ok (.iload_n 3, 1) := by decide +kernel
theorem dJ2_addAll_70 : decode cJ2_addAll 70 = .ok (.iadd, 1) := by decide +kernel
theorem dJ2_addAll_71 : decode cJ2_addAll 71 = .ok (.putfield 48, 3) := by decide +kernel
theorem dJ2_addAll_74 : decode cJ2_addAll 74 = .ok (.iconst 1, 1) := by decide +kernel
theorem dJ2_addAll_75 : decode cJ2_addAll 75 = .ok (.ireturn, 1) := by decide +kernel
abbrev cJ2_toArray : ByteArray := prog_31_method_16_code
def yJ2_toArray : MethodName := ⟨RJ2, "toArray", "()[Ljava/lang/Object;"⟩
theorem dJ2_toArray_0 : decode cJ2_toArray 0 = .ok (.aload_n 0, 1) := by decide +kernel
theorem dJ2_toArray_1 : decode cJ2_toArray 1 = .ok (.getfield 9, 3) := by decide +kernel
theorem dJ2_toArray_4 : decode cJ2_toArray 4 = .ok (.aload_n 0, 1) := by decide +kernel
theorem dJ2_toArray_5 : decode cJ2_toArray 5 = .ok (.getfield 48, 3) := by decide +kernel
theorem dJ2_toArray_8 : decode cJ2_toArray 8 = .ok (.invokestatic 66, 3) := by decide +kernel
theorem dJ2_toArray_11 : decode cJ2_toArray 11 = .ok (.areturn, 1) := by decide +kernel
abbrev cJ2_size : ByteArray := prog_31_method_8_code
def yJ2_size : MethodName := ⟨RJ2, "size", "()I"⟩
theorem dJ2_size_0 : decode cJ2_size 0 = .ok (.aload_n 0, 1) := by decide +kernel
theorem dJ2_size_1 : decode cJ2_size 1 = .ok (.getfield 48, 3) := by decide +kernel
theorem dJ2_size_4 : decode cJ2_size 4 = .ok (.ireturn, 1) := by decide +kernel
abbrev cJ2_iterator : ByteArray := prog_31_method_55_code
def yJ2_iterator : MethodName := ⟨RJ2, "iterator", "()Ljava/util/Iterator;"⟩
theorem dJ2_iterator_0 : decode cJ2_iterator 0 = .ok (.new 267, 3) := by decide +kernel
theorem dJ2_iterator_3 : decode cJ2_iterator 3 = .ok (.dup, 1) := by decide +kernel
theorem dJ2_iterator_4 : decode cJ2_iterator 4 = .ok (.aload_n 0, 1) := by decide +kernel
theorem dJ2_iterator_5 : decode cJ2_iterator 5 = .ok (.invokespecial 269, 3) := by decide +kernel
theorem dJ2_iterator_8 : decode cJ2_iterator 8 = .ok (.areturn, 1) := by decide +kernel
abbrev cJ2_get : ByteArray := prog_31_method_20_code
def yJ2_get : MethodName := ⟨RJ2, "get", "(I)Ljava/lang/Object;"⟩
theorem dJ2_get_0 : decode cJ2_get 0 = .ok (.iload_n 1, 1) := by decide +kernel
theorem dJ2_get_1 : decode cJ2_get 1 = .ok (.aload_n 0, 1) := by decide +kernel
theorem dJ2_get_2 : decode cJ2_get 2 = .ok (.getfield 48, 3) := by decide +kernel
theorem dJ2_get_5 : decode cJ2_get 5 = .ok (.invokestatic 118, 3) := by decide +kernel
theorem dJ2_get_8 : decode cJ2_get 8 = .ok (.pop, 1) := by decide +kernel
theorem dJ2_get_9 : decode cJ2_get 9 = .ok (.aload_n 0, 1) := by decide +kernel
theorem dJ2_get_10 : decode cJ2_get 10 = .ok (.iload_n 1, 1) := by decide +kernel
theorem dJ2_get_11 : decode cJ2_get 11 = .ok (.invokevirtual 123, 3) := by decide +kernel
theorem dJ2_get_14 : decode cJ2_get 14 = .ok (.areturn, 1) := by decide +kernel
abbrev cJ2_elementData : ByteArray := prog_31_method_18_code
def yJ2_elementData : MethodName := ⟨RJ2, "elementData", "(I)Ljava/lang/Object;"⟩
theorem dJ2_elementData_0 : decode cJ2_elementData 0 = .ok (.aload_n 0, 1) := by decide +kernel
theorem dJ2_elementData_1 : decode cJ2_elementData 1 = .ok (.getfield 9, 3) := by decide +kernel
theorem dJ2_elementData_4 : decode cJ2_elementData 4 = .ok (.iload_n 1, 1) := by decide +kernel
theorem dJ2_elementData_5 : decode cJ2_elementData 5 = .ok (.aaload, 1) := by decide +kernel
theorem dJ2_elementData_6 : decode cJ2_elementData 6 = .ok (.areturn, 1) := by decide +kernel
abbrev cJ3_init : ByteArray := prog_29_method_1_code
def yJ3_init : MethodName := ⟨RJ3, "<init>", "()V"⟩
theorem dJ3_init_0 : decode cJ3_init 0 = .ok (.aload_n 0, 1) := by decide +kernel
theorem dJ3_init_1 : decode cJ3_init 1 = .ok (.invokespecial 1, 3) := by decide +kernel
theorem dJ3_init_4 : decode cJ3_init 4 = .ok (.return_, 1) := by decide +kernel
abbrev cJ6_init : ByteArray := prog_19_method_1_code
def yJ6_init : MethodName := ⟨RJ6, "<init>", "()V"⟩
theorem dJ6_init_0 : decode cJ6_init 0 = .ok (.aload_n 0, 1) := by decide +kernel
theorem dJ6_init_1 : decode cJ6_init 1 = .ok (.invokespecial 1, 3) := by decide +kernel
theorem dJ6_init_4 : decode cJ6_init 4 = .ok (.return_, 1) := by decide +kernel
abbrev cJ7_bitCount : ByteArray := prog_15_method_49_code
def yJ7_bitCount : MethodName := ⟨RJ7, "bitCount", "(I)I"⟩
theorem dJ7_bitCount_0 : decode cJ7_bitCount 0 = .ok (.iload_n 0, 1) := by decide +kernel
theorem dJ7_bitCount_1 : decode cJ7_bitCount 1 = .ok (.iload_n 0, 1) := by decide +kernel
theorem dJ7_bitCount_2 : decode cJ7_bitCount 2 = .ok (.iconst 1, 1) := by decide +kernel
theorem dJ7_bitCount_3 : decode cJ7_bitCount 3 = .ok (.iushr, 1) := by decide +kernel
theorem dJ7_bitCount_4 : decode cJ7_bitCount 4 = .ok (.ldc_w 265, 3) := by decide +kernel
theorem dJ7_bitCount_7 : decode cJ7_bitCount 7 = .ok (.iand, 1) := by decide +kernel
theorem dJ7_bitCount_8 : decode cJ7_bitCount 8 = .ok (.isub, 1) := by decide +kernel
theorem dJ7_bitCount_9 : decode cJ7_bitCount 9 = .ok (.istore_n 0, 1) := by decide +kernel
theorem dJ7_bitCount_10 : decode cJ7_bitCount 10 = .ok (.iload_n 0, 1) := by decide +kernel
theorem dJ7_bitCount_11 : decode cJ7_bitCount 11 = .ok (.ldc_w 266, 3) := by decide +kernel
theorem dJ7_bitCount_14 : decode cJ7_bitCount 14 = .ok (.iand, 1) := by decide +kernel
theorem dJ7_bitCount_15 : decode cJ7_bitCount 15 = .ok (.iload_n 0, 1) := by decide +kernel
theorem dJ7_bitCount_16 : decode cJ7_bitCount 16 = .ok (.iconst 2, 1) := by decide +kernel
theorem dJ7_bitCount_17 : decode cJ7_bitCount 17 = .ok (.iushr, 1) := by decide +kernel
theorem dJ7_bitCount_18 : decode cJ7_bitCount 18 = .ok (.ldc_w 266, 3) := by decide +kernel
theorem dJ7_bitCount_21 : decode cJ7_bitCount 21 = .ok (.iand, 1) := by decide +kernel
theorem dJ7_bitCount_22 : decode cJ7_bitCount 22 = .ok (.iadd, 1) := by decide +kernel
theorem dJ7_bitCount_23 : decode cJ7_bitCount 23 = .ok (.istore_n 0, 1) := by decide +kernel
theorem dJ7_bitCount_24 : decode cJ7_bitCount 24 = .ok (.iload_n 0, 1) := by decide +kernel
theorem dJ7_bitCount_25 : decode cJ7_bitCount 25 = .ok (.iload_n 0, 1) := by decide +kernel
theorem dJ7_bitCount_26 : decode cJ7_bitCount 26 = .ok (.iconst 4, 1) := by decide +kernel
theorem dJ7_bitCount_27 : decode cJ7_bitCount 27 = .ok (.iushr, 1) := by decide +kernel
theorem dJ7_bitCount_28 : decode cJ7_bitCount 28 = .ok (.iadd, 1) := by decide +kernel
theorem dJ7_bitCount_29 : decode cJ7_bitCount 29 = .ok (.ldc_w 267, 3) := by decide +kernel
theorem dJ7_bitCount_32 : decode cJ7_bitCount 32 = .ok (.iand, 1) := by decide +kernel
theorem dJ7_bitCount_33 : decode cJ7_bitCount 33 = .ok (.istore_n 0, 1) := by decide +kernel
theorem dJ7_bitCount_34 : decode cJ7_bitCount 34 = .ok (.iload_n 0, 1) := by decide +kernel
theorem dJ7_bitCount_35 : decode cJ7_bitCount 35 = .ok (.iload_n 0, 1) := by decide +kernel
theorem dJ7_bitCount_36 : decode cJ7_bitCount 36 = .ok (.bipush 8, 2) := by decide +kernel
theorem dJ7_bitCount_38 : decode cJ7_bitCount 38 = .ok (.iushr, 1) := by decide +kernel
theorem dJ7_bitCount_39 : decode cJ7_bitCount 39 = .ok (.iadd, 1) := by decide +kernel
theorem dJ7_bitCount_40 : decode cJ7_bitCount 40 = .ok (.istore_n 0, 1) := by decide +kernel
theorem dJ7_bitCount_41 : decode cJ7_bitCount 41 = .ok (.iload_n 0, 1) := by decide +kernel
theorem dJ7_bitCount_42 : decode cJ7_bitCount 42 = .ok (.iload_n 0, 1) := by decide +kernel
theorem dJ7_bitCount_43 : decode cJ7_bitCount 43 = .ok (.bipush 16, 2) := by decide +kernel
theorem dJ7_bitCount_45 : decode cJ7_bitCount 45 = .ok (.iushr, 1) := by decide +kernel
theorem dJ7_bitCount_46 : decode cJ7_bitCount 46 = .ok (.iadd, 1) := by decide +kernel
theorem dJ7_bitCount_47 : decode cJ7_bitCount 47 = .ok (.istore_n 0, 1) := by decide +kernel
theorem dJ7_bitCount_48 : decode cJ7_bitCount 48 = .ok (.iload_n 0, 1) := by decide +kernel
theorem dJ7_bitCount_49 : decode cJ7_bitCount 49 = .ok (.bipush 63, 2) := by decide +kernel
theorem dJ7_bitCount_51 : decode cJ7_bitCount 51 = .ok (.iand, 1) := by decide +kernel
theorem dJ7_bitCount_52 : decode cJ7_bitCount 52 = .ok (.ireturn, 1) := by decide +kernel
abbrev cJ7_valueOf : ByteArray := prog_15_method_22_code
def yJ7_valueOf : MethodName := ⟨RJ7, "valueOf", "(I)Ljava/lang/Integer;"⟩
theorem dJ7_valueOf_0 : decode cJ7_valueOf 0 = .ok (.iload_n 0, 1) := by decide +kernel
theorem dJ7_valueOf_1 : decode cJ7_valueOf 1 = .ok (.bipush (-128), 2) := by decide +kernel
theorem dJ7_valueOf_3 : decode cJ7_valueOf 3 = .ok (.if_icmp .lt 20, 3) := by decide +kernel
theorem dJ7_valueOf_6 : decode cJ7_valueOf 6 = .ok (.iload_n 0, 1) := by decide +kernel
theorem dJ7_valueOf_7 : decode cJ7_valueOf 7 = .ok (.getstatic 191, 3) := by decide +kernel
theorem dJ7_valueOf_10 : decode cJ7_valueOf 10 = .ok (.if_icmp .gt 13, 3) := by decide +kernel
theorem dJ7_valueOf_13 : decode cJ7_valueOf 13 = .ok (.getstatic 195, 3) := by decide +kernel
theorem dJ7_valueOf_16 : decode cJ7_valueOf 16 = .ok (.iload_n 0, 1) := by decide +kernel
theorem dJ7_valueOf_17 : decode cJ7_valueOf 17 = .ok (.sipush 128, 3) := by decide +kernel
theorem dJ7_valueOf_20 : decode cJ7_valueOf 20 = .ok (.iadd, 1) := by decide +kernel
theorem dJ7_valueOf_21 : decode cJ7_valueOf 21 = .ok (.aaload, 1) := by decide +kernel
theorem dJ7_valueOf_22 : decode cJ7_valueOf 22 = .ok (.areturn, 1) := by decide +kernel
theorem dJ7_valueOf_23 : decode cJ7_valueOf 23 = .ok (.new 1, 3) := by decide +kernel
theorem dJ7_valueOf_26 : decode cJ7_valueOf 26 = .ok (.dup, 1) := by decide +kernel
theorem dJ7_valueOf_27 : decode cJ7_valueOf 27 = .ok (.iload_n 0, 1) := by decide +kernel
theorem dJ7_valueOf_28 : decode cJ7_valueOf 28 = .ok (.invokespecial 199, 3) := by decide +kernel
theorem dJ7_valueOf_31 : decode cJ7_valueOf 31 = .ok (.areturn, 1) := by decide +kernel
abbrev cJ7_init : ByteArray := prog_15_method_23_code
def yJ7_init : MethodName := ⟨RJ7, "<init>", "(I)V"⟩
theorem dJ7_init_0 : decode cJ7_init 0 = .ok (.aload_n 0, 1) := by decide +kernel
theorem dJ7_init_1 : decode cJ7_init 1 = .ok (.invokespecial 202, 3) := by decide +kernel
theorem dJ7_init_4 : decode cJ7_init 4 = .ok (.aload_n 0, 1) := by decide +kernel
theorem dJ7_init_5 : decode cJ7_init 5 = .ok (.iload_n 1, 1) := by decide +kernel
theorem dJ7_init_6 : decode cJ7_init 6 = .ok (.putfield 205, 3) := by decide +kernel
theorem dJ7_init_9 : decode cJ7_init 9 = .ok (.return_, 1) := by decide +kernel
abbrev cJ7_hashCode : ByteArray := prog_15_method_32_code
def yJ7_hashCode : MethodName := ⟨RJ7, "hashCode", "()I"⟩
theorem dJ7_hashCode_0 : decode cJ7_hashCode 0 = .ok (.aload_n 0, 1) := by decide +kernel
theorem dJ7_hashCode_1 : decode cJ7_hashCode 1 = .ok (.getfield 205, 3) := by decide +kernel
theorem dJ7_hashCode_4 : decode cJ7_hashCode 4 = .ok (.invokestatic 208, 3) := by decide +kernel
theorem dJ7_hashCode_7 : decode cJ7_hashCode 7 = .ok (.ireturn, 1) := by decide +kernel
abbrev cJ7_hashCode_2 : ByteArray := prog_15_method_33_code
def yJ7_hashCode_2 : MethodName := ⟨RJ7, "hashCode", "(I)I"⟩
theorem dJ7_hashCode_2_0 : decode cJ7_hashCode_2 0 = .ok (.iload_n 0, 1) := by decide +kernel
theorem dJ7_hashCode_2_1 : decode cJ7_hashCode_2 1 = .ok (.ireturn, 1) := by decide +kernel
abbrev cJ7_equals : ByteArray := prog_15_method_34_code
def yJ7_equals : MethodName := ⟨RJ7, "equals", "(Ljava/lang/Object;)Z"⟩
theorem dJ7_equals_0 : decode cJ7_equals 0 = .ok (.aload_n 1, 1) := by decide +kernel
theorem dJ7_equals_1 : decode cJ7_equals 1 = .ok (.instanceof 1, 3) := by decide +kernel
theorem dJ7_equals_4 : decode cJ7_equals 4 = .ok (.ifCond .eq 23, 3) := by decide +kernel
theorem dJ7_equals_7 : decode cJ7_equals 7 = .ok (.aload_n 0, 1) := by decide +kernel
theorem dJ7_equals_8 : decode cJ7_equals 8 = .ok (.getfield 205, 3) := by decide +kernel
theorem dJ7_equals_11 : decode cJ7_equals 11 = .ok (.aload_n 1, 1) := by decide +kernel
theorem dJ7_equals_12 : decode cJ7_equals 12 = .ok (.checkcast 1, 3) := by decide +kernel
theorem dJ7_equals_15 : decode cJ7_equals 15 = .ok (.invokevirtual 211, 3) := by decide +kernel
theorem dJ7_equals_18 : decode cJ7_equals 18 = .ok (.if_icmp .ne 7, 3) := by decide +kernel
theorem dJ7_equals_21 : decode cJ7_equals 21 = .ok (.iconst 1, 1) := by decide +kernel
theorem dJ7_equals_22 : decode cJ7_equals 22 = .ok (.goto 4, 3) := by decide +kernel
theorem dJ7_equals_25 : decode cJ7_equals 25 = .ok (.iconst 0, 1) := by decide +kernel
theorem dJ7_equals_26 : decode cJ7_equals 26 = .ok (.ireturn, 1) := by decide +kernel
theorem dJ7_equals_27 : decode cJ7_equals 27 = .ok (.iconst 0, 1) := by decide +kernel
theorem dJ7_equals_28 : decode cJ7_equals 28 = .ok (.ireturn, 1) := by decide +kernel
abbrev cJ7_intValue : ByteArray := prog_15_method_27_code
def yJ7_intValue : MethodName := ⟨RJ7, "intValue", "()I"⟩
theorem dJ7_intValue_0 : decode cJ7_intValue 0 = .ok (.aload_n 0, 1) := by decide +kernel
theorem dJ7_intValue_1 : decode cJ7_intValue 1 = .ok (.getfield 205, 3) := by decide +kernel
theorem dJ7_intValue_4 : decode cJ7_intValue 4 = .ok (.ireturn, 1) := by decide +kernel
abbrev cJ8_abs : ByteArray := prog_18_method_59_code
def yJ8_abs : MethodName := ⟨RJ8, "abs", "(I)I"⟩
theorem dJ8_abs_0 : decode cJ8_abs 0 = .ok (.iload_n 0, 1) := by decide +kernel
theorem dJ8_abs_1 : decode cJ8_abs 1 = .ok (.ifCond .ge 8, 3) := by decide +kernel
theorem dJ8_abs_4 : decode cJ8_abs 4 = .ok (.iload_n 0, 1) := by decide +kernel
theorem dJ8_abs_5 : decode cJ8_abs 5 = .ok (.ineg, 1) := by decide +kernel
theorem dJ8_abs_6 : decode cJ8_abs 6 = .ok (.goto 4, 3) := by decide +kernel
theorem dJ8_abs_9 : decode cJ8_abs 9 = .ok (.iload_n 0, 1) := by decide +kernel
theorem dJ8_abs_10 : decode cJ8_abs 10 = .ok (.ireturn, 1) := by decide +kernel
abbrev cJ8_max : ByteArray := prog_18_method_65_code
def yJ8_max : MethodName := ⟨RJ8, "max", "(II)I"⟩
theorem dJ8_max_0 : decode cJ8_max 0 = .ok (.iload_n 0, 1) := by decide +kernel
theorem dJ8_max_1 : decode cJ8_max 1 = .ok (.iload_n 1, 1) := by decide +kernel
theorem dJ8_max_2 : decode cJ8_max 2 = .ok (.if_icmp .lt 7, 3) := by decide +kernel
theorem dJ8_max_5 : decode cJ8_max 5 = .ok (.iload_n 0, 1) := by decide +kernel
theorem dJ8_max_6 : decode cJ8_max 6 = .ok (.goto 4, 3) := by decide +kernel
theorem dJ8_max_9 : decode cJ8_max 9 = .ok (.iload_n 1, 1) := by decide +kernel
theorem dJ8_max_10 : decode cJ8_max 10 = .ok (.ireturn, 1) := by decide +kernel
abbrev cJ8_min : ByteArray := prog_18_method_69_code
def yJ8_min : MethodName := ⟨RJ8, "min", "(II)I"⟩
theorem dJ8_min_0 : decode cJ8_min 0 = .ok (.iload_n 0, 1) := by decide +kernel
theorem dJ8_min_1 : decode cJ8_min 1 = .ok (.iload_n 1, 1) := by decide +kernel
theorem dJ8_min_2 : decode cJ8_min 2 = .ok (.if_icmp .gt 7, 3) := by decide +kernel
theorem dJ8_min_5 : decode cJ8_min 5 = .ok (.iload_n 0, 1) := by decide +kernel
theorem dJ8_min_6 : decode cJ8_min 6 = .ok (.goto 4, 3) := by decide +kernel
theorem dJ8_min_9 : decode cJ8_min 9 = .ok (.iload_n 1, 1) := by decide +kernel
theorem dJ8_min_10 : decode cJ8_min 10 = .ok (.ireturn, 1) := by decide +kernel
abbrev cJ9_init : ByteArray := prog_20_method_1_code
def yJ9_init : MethodName := ⟨RJ9, "<init>", "()V"⟩
theorem dJ9_init_0 : decode cJ9_init 0 = .ok (.aload_n 0, 1) := by decide +kernel
theorem dJ9_init_1 : decode cJ9_init 1 = .ok (.invokespecial 1, 3) := by decide +kernel
theorem dJ9_init_4 : decode cJ9_init 4 = .ok (.return_, 1) := by decide +kernel
abbrev cJ10_newLength : ByteArray := prog_53_method_27_code
def yJ10_newLength : MethodName := ⟨RJ10, "newLength", "(III)I"⟩
theorem dJ10_newLength_0 : decode cJ10_newLength 0 = .ok (.iload_n 0, 1) := by decide +kernel
theorem dJ10_newLength_1 : decode cJ10_newLength 1 = .ok (.iload_n 1, 1) := by decide +kernel
theorem dJ10_newLength_2 : decode cJ10_newLength 2 = .ok (.iload_n 2, 1) := by decide +kernel
theorem dJ10_newLength_3 : decode cJ10_newLength 3 = .ok (.invokestatic 194, 3) := by decide +kernel
theorem dJ10_newLength_6 : decode cJ10_newLength 6 = .ok (.iadd, 1) := by decide +kernel
theorem dJ10_newLength_7 : decode cJ10_newLength 7 = .ok (.istore_n 3, 1) := by decide +kernel
theorem dJ10_newLength_8 : decode cJ10_newLength 8 = .ok (.iconst 0, 1) := by decide +kernel
theorem dJ10_newLength_9 : decode cJ10_newLength 9 = .ok (.iload_n 3, 1) := by decide +kernel
theorem dJ10_newLength_10 : decode cJ10_newLength 10 = .ok (.if_icmp .ge 11, 3) := by decide +kernel
theorem dJ10_newLength_13 : decode cJ10_newLength 13 = .ok (.iload_n 3, 1) := by decide +kernel
theorem dJ10_newLength_14 : decode cJ10_newLength 14 = .ok (.ldc 200, 2) := by decide +kernel
theorem dJ10_newLength_16 : decode cJ10_newLength 16 = .ok (.if_icmp .gt 5, 3) := by decide +kernel
theorem dJ10_newLength_19 : decode cJ10_newLength 19 = .ok (.iload_n 3, 1) := by decide +kernel
theorem dJ10_newLength_20 : decode cJ10_newLength 20 = .ok (.ireturn, 1) := by decide +kernel
theorem dJ10_newLength_21 : decode cJ10_newLength 21 = .ok (.iload_n 0, 1) := by decide +kernel
theorem dJ10_newLength_22 : decode cJ10_newLength 22 = .ok (.iload_n 1, 1) := by decide +kernel
theorem dJ10_newLength_23 : decode cJ10_newLength 23 = .ok (.invokestatic 201, 3) := by decide +kernel
theorem dJ10_newLength_26 : decode cJ10_newLength 26 = .ok (.ireturn, 1) := by decide +kernel
abbrev cJ10_hugeLength : ByteArray := prog_53_method_28_code
def yJ10_hugeLength : MethodName := ⟨RJ10, "hugeLength", "(II)I"⟩
theorem dJ10_hugeLength_0 : decode cJ10_hugeLength 0 = .ok (.iload_n 0, 1) := by decide +kernel
theorem dJ10_hugeLength_1 : decode cJ10_hugeLength 1 = .ok (.iload_n 1, 1) := by decide +kernel
theorem dJ10_hugeLength_2 : decode cJ10_hugeLength 2 = .ok (.iadd, 1) := by decide +kernel
theorem dJ10_hugeLength_3 : decode cJ10_hugeLength 3 = .ok (.istore_n 2, 1) := by decide +kernel
theorem dJ10_hugeLength_4 : decode cJ10_hugeLength 4 = .ok (.iload_n 2, 1) := by decide +kernel
theorem dJ10_hugeLength_5 : decode cJ10_hugeLength 5 = .ok (.ifCond .ge 44, 3) := by decide +kernel
theorem dJ10_hugeLength_8 : decode cJ10_hugeLength 8 = .ok (.new 204, 3) := by decide +kernel
theorem dJ10_hugeLength_11 : decode cJ10_hugeLength 11 = .ok (.dup, 1) := by decide +kernel
theorem dJ10_hugeLength_12 : decode cJ10_hugeLength 12 = .ok (.new 89, 3) := by decide +kernel
theorem dJ10_hugeLength_15 : decode cJ10_hugeLength 15 = .ok (.dup, 1) := by decide +kernel
theorem dJ10_hugeLength_16 : decode cJ10_hugeLength 16 = .ok (.invokespecial 91, 3) := by decide +kernel
theorem dJ10_hugeLength_19 : decode cJ10_hugeLength 19 = .ok (.ldc 206, 2) := by decide +kernel
theorem dJ10_hugeLength_21 : decode cJ10_hugeLength 21 = .ok (.invokevirtual 94, 3) := by decide +kernel
theorem dJ10_hugeLength_24 : decode cJ10_hugeLength 24 = .ok (.iload_n 0, 1) := by decide +kernel
theorem dJ10_hugeLength_25 : decode cJ10_hugeLength 25 = .ok (.invokevirtual 98, 3) := by decide +kernel
theorem dJ10_hugeLength_28 : decode cJ10_hugeLength 28 = .ok (.ldc 208, 2) := by decide +kernel
theorem dJ10_hugeLength_30 : decode cJ10_hugeLength 30 = .ok (.invokevirtual 94, 3) := by decide +kernel
theorem dJ10_hugeLength_33 : decode cJ10_hugeLength 33 = .ok (.iload_n 1, 1) := by decide +kernel
theorem dJ10_hugeLength_34 : decode cJ10_hugeLength 34 = .ok (.invokevirtual 98, 3) := by decide +kernel
theorem dJ10_hugeLength_37 : decode cJ10_hugeLength 37 = .ok (.ldc 210, 2) := by decide +kernel
theorem dJ10_hugeLength_39 : decode cJ10_hugeLength 39 = .ok (.invokevirtual 94, 3) := by decide +kernel
theorem dJ10_hugeLength_42 : decode cJ10_hugeLength 42 = .ok (.invokevirtual 101, 3) := by decide +kernel
theorem dJ10_hugeLength_45 : decode cJ10_hugeLength 45 = .ok (.invokespecial 212, 3) := by decide +kernel
theorem dJ10_hugeLength_48 : decode cJ10_hugeLength 48 = .ok (.athrow, 1) := by decide +kernel
theorem dJ10_hugeLength_49 : decode cJ10_hugeLength 49 = .ok (.iload_n 2, 1) := by decide +kernel
theorem dJ10_hugeLength_50 : decode cJ10_hugeLength 50 = .ok (.ldc 200, 2) := by decide +kernel
theorem dJ10_hugeLength_52 : decode cJ10_hugeLength 52 = .ok (.if_icmp .gt 6, 3) := by decide +kernel
theorem dJ10_hugeLength_55 : decode cJ10_hugeLength 55 = .ok (.ldc 200, 2) := by decide +kernel
theorem dJ10_hugeLength_57 : decode cJ10_hugeLength 57 = .ok (.ireturn, 1) := by decide +kernel
theorem dJ10_hugeLength_58 : decode cJ10_hugeLength 58 = .ok (.iload_n 2, 1) := by decide +kernel
theorem dJ10_hugeLength_59 : decode cJ10_hugeLength 59 = .ok (.ireturn, 1) := by decide +kernel
abbrev cJ11_copyOf : ByteArray := prog_33_method_119_code
def yJ11_copyOf : MethodName := ⟨RJ11, "copyOf", "([Ljava/lang/Object;I)[Ljava/lang/Object;"⟩
theorem dJ11_copyOf_0 : decode cJ11_copyOf 0 = .ok (.aload_n 0, 1) := by decide +kernel
theorem dJ11_copyOf_1 : decode cJ11_copyOf 1 = .ok (.iload_n 1, 1) := by decide +kernel
theorem dJ11_copyOf_2 : decode cJ11_copyOf 2 = .ok (.aload_n 0, 1) := by decide +kernel
theorem dJ11_copyOf_3 : decode cJ11_copyOf 3 = .ok (.invokevirtual 86, 3) := by decide +kernel
theorem dJ11_copyOf_6 : decode cJ11_copyOf 6 = .ok (.invokestatic 300, 3) := by decide +kernel
theorem dJ11_copyOf_9 : decode cJ11_copyOf 9 = .ok (.areturn, 1) := by decide +kernel
abbrev cJ11_copyOf_2 : ByteArray := prog_33_method_120_code
def yJ11_copyOf_2 : MethodName := ⟨RJ11, "copyOf", "([Ljava/lang/Object;ILjava/lang/Class;)[Ljava/lang/Object;"⟩
theorem dJ11_copyOf_2_0 : decode cJ11_copyOf_2 0 = .ok (.aload_n 2, 1) := by decide +kernel
theorem dJ11_copyOf_2_1 : decode cJ11_copyOf_2 1 = .ok (.ldc 110, 2) := by decide +kernel
theorem dJ11_copyOf_2_3 : decode cJ11_copyOf_2 3 = .ok (.if_acmp .ne 10, 3) := by decide +kernel
theorem dJ11_copyOf_2_6 : decode cJ11_copyOf_2 6 = .ok (.iload_n 1, 1) := by decide +kernel
theorem dJ11_copyOf_2_7 : decode cJ11_copyOf_2 7 = .ok (.anewarray 2, 3) := by decide +kernel
theorem dJ11_copyOf_2_10 : decode cJ11_copyOf_2 10 = .ok (.goto 14, 3) := by decide +kernel
theorem dJ11_copyOf_2_13 : decode cJ11_copyOf_2 13 = .ok (.aload_n 2, 1) := by decide +kernel
theorem dJ11_copyOf_2_14 : decode cJ11_copyOf_2 14 = .ok (.invokevirtual 90, 3) := by decide +kernel
theorem dJ11_copyOf_2_17 : decode cJ11_copyOf_2 17 = .ok (.iload_n 1, 1) := by decide +kernel
theorem dJ11_copyOf_2_18 : decode cJ11_copyOf_2 18 = .ok (.invokestatic 95, 3) := by decide +kernel
theorem dJ11_copyOf_2_21 : decode cJ11_copyOf_2 21 = .ok (.checkcast 110, 3) := by decide +kernel
theorem dJ11_copyOf_2_24 : decode cJ11_copyOf_2 24 = .ok (.astore_n 3, 1) := by decide +kernel
theorem dJ11_copyOf_2_25 : decode cJ11_copyOf_2 25 = .ok (.aload_n 0, 1) := by decide +kernel
theorem dJ11_copyOf_2_26 : decode cJ11_copyOf_2 26 = .ok (.iconst 0, 1) := by decide +kernel
theorem dJ11_copyOf_2_27 : decode cJ11_copyOf_2 27 = .ok (.aload_n 3, 1) := by decide +kernel
theorem dJ11_copyOf_2_28 : decode cJ11_copyOf_2 28 = .ok (.iconst 0, 1) := by decide +kernel
theorem dJ11_copyOf_2_29 : decode cJ11_copyOf_2 29 = .ok (.aload_n 0, 1) := by decide +kernel
theorem dJ11_copyOf_2_30 : decode cJ11_copyOf_2 30 = .ok (.arraylength, 1) := by decide +kernel
theorem dJ11_copyOf_2_31 : decode cJ11_copyOf_2 31 = .ok (.iload_n 1, 1) := by decide +kernel
theorem dJ11_copyOf_2_32 : decode cJ11_copyOf_2 32 = .ok (.invokestatic 304, 3) := by decide +kernel
theorem dJ11_copyOf_2_35 : decode cJ11_copyOf_2 35 = .ok (.invokestatic 150, 3) := by decide +kernel
theorem dJ11_copyOf_2_38 : decode cJ11_copyOf_2 38 = .ok (.aload_n 3, 1) := by decide +kernel
theorem dJ11_copyOf_2_39 : decode cJ11_copyOf_2 39 = .ok (.areturn, 1) := by decide +kernel
abbrev cJ12_booleanValue : ByteArray := prog_10_method_4_code
def yJ12_booleanValue : MethodName := ⟨RJ12, "booleanValue", "()Z"⟩
theorem dJ12_booleanValue_0 : decode cJ12_booleanValue 0 = .ok (.aload_n 0, 1) := by decide +kernel
theorem dJ12_booleanValue_1 : decode cJ12_booleanValue 1 = .ok (.getfield 7, 3) := by decide +kernel
theorem dJ12_booleanValue_4 : decode cJ12_booleanValue 4 = .ok (.ireturn, 1) := by decide +kernel
abbrev cJ12_valueOf : ByteArray := prog_10_method_5_code
def yJ12_valueOf : MethodName := ⟨RJ12, "valueOf", "(Z)Ljava/lang/Boolean;"⟩
theorem dJ12_valueOf_0 : decode cJ12_valueOf 0 = .ok (.iload_n 0, 1) := by decide +kernel
theorem dJ12_valueOf_1 : decode cJ12_valueOf 1 = .ok (.ifCond .eq 9, 3) := by decide +kernel
theorem dJ12_valueOf_4 : decode cJ12_valueOf 4 = .ok (.getstatic 27, 3) := by decide +kernel
theorem dJ12_valueOf_7 : decode cJ12_valueOf 7 = .ok (.goto 6, 3) := by decide +kernel
theorem dJ12_valueOf_10 : decode cJ12_valueOf 10 = .ok (.getstatic 31, 3) := by decide +kernel
theorem dJ12_valueOf_13 : decode cJ12_valueOf 13 = .ok (.areturn, 1) := by decide +kernel
abbrev cJ13_init : ByteArray := prog_36_method_1_code
def yJ13_init : MethodName := ⟨RJ13, "<init>", "(ILjava/lang/Object;Ljava/lang/Object;Ljava/util/HashMap$Node;)V"⟩
theorem dJ13_init_0 : decode cJ13_init 0 = .ok (.aload_n 0, 1) := by decide +kernel
theorem dJ13_init_1 : decode cJ13_init 1 = .ok (.invokespecial 1, 3) := by decide +kernel
theorem dJ13_init_4 : decode cJ13_init 4 = .ok (.aload_n 0, 1) := by decide +kernel
theorem dJ13_init_5 : decode cJ13_init 5 = .ok (.iload_n 1, 1) := by decide +kernel
theorem dJ13_init_6 : decode cJ13_init 6 = .ok (.putfield 7, 3) := by decide +kernel
theorem dJ13_init_9 : decode cJ13_init 9 = .ok (.aload_n 0, 1) := by decide +kernel
theorem dJ13_init_10 : decode cJ13_init 10 = .ok (.aload_n 2, 1) := by decide +kernel
theorem dJ13_init_11 : decode cJ13_init 11 = .ok (.putfield 13, 3) := by decide +kernel
theorem dJ13_init_14 : decode cJ13_init 14 = .ok (.aload_n 0, 1) := by decide +kernel
theorem dJ13_init_15 : decode cJ13_init 15 = .ok (.aload_n 3, 1) := by decide +kernel
theorem dJ13_init_16 : decode cJ13_init 16 = .ok (.putfield 17, 3) := by decide +kernel
theorem dJ13_init_19 : decode cJ13_init 19 = .ok (.aload_n 0, 1) := by decide +kernel
theorem dJ13_init_20 : decode cJ13_init 20 = .ok (.aload 4, 2) := by decide +kernel
theorem dJ13_init_22 : decode cJ13_init 22 = .ok (.putfield 20, 3) := by decide +kernel
theorem dJ13_init_25 : decode cJ13_init 25 = .ok (.return_, 1) := by decide +kernel
abbrev cJ13_getValue : ByteArray := prog_36_method_3_code
def yJ13_getValue : MethodName := ⟨RJ13, "getValue", "()Ljava/lang/Object;"⟩
theorem dJ13_getValue_0 : decode cJ13_getValue 0 = .ok (.aload_n 0, 1) := by decide +kernel
theorem dJ13_getValue_1 : decode cJ13_getValue 1 = .ok (.getfield 17, 3) := by decide +kernel
theorem dJ13_getValue_4 : decode cJ13_getValue 4 = .ok (.areturn, 1) := by decide +kernel
abbrev cJ13_getKey : ByteArray := prog_36_method_2_code
def yJ13_getKey : MethodName := ⟨RJ13, "getKey", "()Ljava/lang/Object;"⟩
theorem dJ13_getKey_0 : decode cJ13_getKey 0 = .ok (.aload_n 0, 1) := by decide +kernel
theorem dJ13_getKey_1 : decode cJ13_getKey 1 = .ok (.getfield 13, 3) := by decide +kernel
theorem dJ13_getKey_4 : decode cJ13_getKey 4 = .ok (.areturn, 1) := by decide +kernel
abbrev cJ14_init : ByteArray := prog_40_method_1_code
def yJ14_init : MethodName := ⟨RJ14, "<init>", "(ILjava/lang/Object;Ljava/lang/Object;Ljava/util/HashMap$Node;)V"⟩
theorem dJ14_init_0 : decode cJ14_init 0 = .ok (.aload_n 0, 1) := by decide +kernel
theorem dJ14_init_1 : decode cJ14_init 1 = .ok (.iload_n 1, 1) := by decide +kernel
theorem dJ14_init_2 : decode cJ14_init 2 = .ok (.aload_n 2, 1) := by decide +kernel
theorem dJ14_init_3 : decode cJ14_init 3 = .ok (.aload_n 3, 1) := by decide +kernel
theorem dJ14_init_4 : decode cJ14_init 4 = .ok (.aload 4, 2) := by decide +kernel
theorem dJ14_init_6 : decode cJ14_init 6 = .ok (.invokespecial 1, 3) := by decide +kernel
theorem dJ14_init_9 : decode cJ14_init 9 = .ok (.return_, 1) := by decide +kernel
abbrev cJ17_init : ByteArray := prog_43_method_1_code
def yJ17_init : MethodName := ⟨RJ17, "<init>", "(Ljava/util/LinkedHashMap;Z)V"⟩
theorem dJ17_init_0 : decode cJ17_init 0 = .ok (.aload_n 0, 1) := by decide +kernel
theorem dJ17_init_1 : decode cJ17_init 1 = .ok (.aload_n 1, 1) := by decide +kernel
theorem dJ17_init_2 : decode cJ17_init 2 = .ok (.putfield 1, 3) := by decide +kernel
theorem dJ17_init_5 : decode cJ17_init 5 = .ok (.aload_n 0, 1) := by decide +kernel
theorem dJ17_init_6 : decode cJ17_init 6 = .ok (.invokespecial 7, 3) := by decide +kernel
theorem dJ17_init_9 : decode cJ17_init 9 = .ok (.aload_n 0, 1) := by decide +kernel
theorem dJ17_init_10 : decode cJ17_init 10 = .ok (.iload_n 2, 1) := by decide +kernel
theorem dJ17_init_11 : decode cJ17_init 11 = .ok (.putfield 13, 3) := by decide +kernel
theorem dJ17_init_14 : decode cJ17_init 14 = .ok (.aload_n 0, 1) := by decide +kernel
theorem dJ17_init_15 : decode cJ17_init 15 = .ok (.iload_n 2, 1) := by decide +kernel
theorem dJ17_init_16 : decode cJ17_init 16 = .ok (.ifCond .eq 10, 3) := by decide +kernel
theorem dJ17_init_19 : decode cJ17_init 19 = .ok (.aload_n 1, 1) := by decide +kernel
theorem dJ17_init_20 : decode cJ17_init 20 = .ok (.getfield 17, 3) := by decide +kernel
theorem dJ17_init_23 : decode cJ17_init 23 = .ok (.goto 7, 3) := by decide +kernel
theorem dJ17_init_26 : decode cJ17_init 26 = .ok (.aload_n 1, 1) := by decide +kernel
theorem dJ17_init_27 : decode cJ17_init 27 = .ok (.getfield 23, 3) := by decide +kernel
theorem dJ17_init_30 : decode cJ17_init 30 = .ok (.putfield 26, 3) := by decide +kernel
theorem dJ17_init_33 : decode cJ17_init 33 = .ok (.aload_n 0, 1) := by decide +kernel
theorem dJ17_init_34 : decode cJ17_init 34 = .ok (.aload_n 1, 1) := by decide +kernel
theorem dJ17_init_35 : decode cJ17_init 35 = .ok (.getfield 29, 3) := by decide +kernel
theorem dJ17_init_38 : decode cJ17_init 38 = .ok (.putfield 33, 3) := by decide +kernel
theorem dJ17_init_41 : decode cJ17_init 41 = .ok (.aload_n 0, 1) := by decide +kernel
theorem dJ17_init_42 : decode cJ17_init 42 = .ok (.aconst_null, 1) := by decide +kernel
theorem dJ17_init_43 : decode cJ17_init 43 = .ok (.putfield 36, 3) := by decide +kernel
theorem dJ17_init_46 : decode cJ17_init 46 = .ok (.return_, 1) := by decide +kernel
abbrev cJ17_hasNext : ByteArray := prog_43_method_2_code
def yJ17_hasNext : MethodName := ⟨RJ17, "hasNext", "()Z"⟩
theorem dJ17_hasNext_0 : decode cJ17_hasNext 0 = .ok (.aload_n 0, 1) := by decide +kernel
theorem dJ17_hasNext_1 : decode cJ17_hasNext 1 = .ok (.getfield 26, 3) := by decide +kernel
theorem dJ17_hasNext_4 : decode cJ17_hasNext 4 = .ok (.ifnull 7, 3) := by decide +kernel
theorem dJ17_hasNext_7 : decode cJ17_hasNext 7 = .ok (.iconst 1, 1) := by decide +kernel
theorem dJ17_hasNext_8 : decode cJ17_hasNext 8 = .ok (.goto 4, 3) := by decide +kernel
theorem dJ17_hasNext_11 : decode cJ17_hasNext 11 = .ok (.iconst 0, 1) := by decide +kernel
theorem dJ17_hasNext_12 : decode cJ17_hasNext 12 = .ok (.ireturn, 1) := by decide +kernel
abbrev cJ17_nextNode : ByteArray := prog_43_method_3_code
def yJ17_nextNode : MethodName := ⟨RJ17, "nextNode", "()Ljava/util/LinkedHashMap$Entry;"⟩
theorem dJ17_nextNode_0 : decode cJ17_nextNode 0 = .ok (.aload_n 0, 1) := by decide +kernel
theorem dJ17_nextNode_1 : decode cJ17_nextNode 1 = .ok (.getfield 26, 3) := by decide +kernel
theorem dJ17_nextNode_4 : decode cJ17_nextNode 4 = .ok (.astore_n 1, 1) := by decide +kernel
theorem dJ17_nextNode_5 : decode cJ17_nextNode 5 = .ok (.aload_n 0, 1) := by decide +kernel
theorem dJ17_nextNode_6 : decode cJ17_nextNode 6 = .ok (.getfield 1, 3) := by decide +kernel
theorem dJ17_nextNode_9 : decode cJ17_nextNode 9 = .ok (.getfield 29, 3) := by decide +kernel
theorem dJ17_nextNode_12 : decode cJ17_nextNode 12 = .ok (.aload_n 0, 1) := by decide +kernel
theorem dJ17_nextNode_13 : decode cJ17_nextNode 13 = .ok (.getfield 33, 3) := by decide +kernel
theorem dJ17_nextNode_16 : decode cJ17_nextNode 16 = .ok (.if_icmp .eq 11, 3) := by decide +kernel
theorem dJ17_nextNode_19 : decode cJ17_nextNode 19 = .ok (.new 39, 3) := by decide +kernel
theorem dJ17_nextNode_22 : decode cJ17_nextNode 22 = .ok (.dup, 1) := by decide +kernel
theorem dJ17_nextNode_23 : decode cJ17_nextNode 23 = .ok (.invokespecial 41, 3) := by decide +kernel
theorem dJ17_nextNode_26 : decode cJ17_nextNode 26 = .ok (.athrow, 1) := by decide +kernel
theorem dJ17_nextNode_27 : decode cJ17_nextNode 27 = .ok (.aload_n 1, 1) := by decide +kernel
theorem dJ17_nextNode_28 : decode cJ17_nextNode 28 = .ok (.ifnonnull 11, 3) := by decide +kernel
theorem dJ17_nextNode_31 : decode cJ17_nextNode 31 = .ok (.new 42, 3) := by decide +kernel
theorem dJ17_nextNode_34 : decode cJ17_nextNode 34 = .ok (.dup, 1) := by decide +kernel
theorem dJ17_nextNode_35 : decode cJ17_nextNode 35 = .ok (.invokespecial 44, 3) := by decide +kernel
theorem dJ17_nextNode_38 : decode cJ17_nextNode 38 = .ok (.athrow, 1) := by decide +kernel
theorem dJ17_nextNode_39 : decode cJ17_nextNode 39 = .ok (.aload_n 0, 1) := by decide +kernel
theorem dJ17_nextNode_40 : decode cJ17_nextNode 40 = .ok (.aload_n 1, 1) := by decide +kernel
theorem dJ17_nextNode_41 : decode cJ17_nextNode 41 = .ok (.putfield 36, 3) := by decide +kernel
theorem dJ17_nextNode_44 : decode cJ17_nextNode 44 = .ok (.aload_n 0, 1) := by decide +kernel
theorem dJ17_nextNode_45 : decode cJ17_nextNode 45 = .ok (.aload_n 0, 1) := by decide +kernel
theorem dJ17_nextNode_46 : decode cJ17_nextNode 46 = .ok (.getfield 13, 3) := by decide +kernel
theorem dJ17_nextNode_49 : decode cJ17_nextNode 49 = .ok (.ifCond .eq 10, 3) := by decide +kernel
theorem dJ17_nextNode_52 : decode cJ17_nextNode 52 = .ok (.aload_n 1, 1) := by decide +kernel
theorem dJ17_nextNode_53 : decode cJ17_nextNode 53 = .ok (.getfield 45, 3) := by decide +kernel
theorem dJ17_nextNode_56 : decode cJ17_nextNode 56 = .ok (.goto 7, 3) := by decide +kernel
theorem dJ17_nextNode_59 : decode cJ17_nextNode 59 = .ok (.aload_n 1, 1) := by decide +kernel
theorem dJ17_nextNode_60 : decode cJ17_nextNode 60 = .ok (.getfield 50, 3) := by decide +kernel
theorem dJ17_nextNode_63 : decode cJ17_nextNode 63 = .ok (.putfield 26, 3) := by decide +kernel
theorem dJ17_nextNode_66 : decode cJ17_nextNode 66 = .ok (.aload_n 1, 1) := by decide +kernel
theorem dJ17_nextNode_67 : decode cJ17_nextNode 67 = .ok (.areturn, 1) := by decide +kernel
abbrev cJ18_init : ByteArray := prog_41_method_1_code
def yJ18_init : MethodName := ⟨RJ18, "<init>", "(Ljava/util/LinkedHashMap;Z)V"⟩
theorem dJ18_init_0 : decode cJ18_init 0 = .ok (.aload_n 0, 1) := by decide +kernel
theorem dJ18_init_1 : decode cJ18_init 1 = .ok (.aload_n 1, 1) := by decide +kernel
theorem dJ18_init_2 : decode cJ18_init 2 = .ok (.iload_n 2, 1) := by decide +kernel
theorem dJ18_init_3 : decode cJ18_init 3 = .ok (.invokespecial 1, 3) := by decide +kernel
theorem dJ18_init_6 : decode cJ18_init 6 = .ok (.return_, 1) := by decide +kernel
abbrev cJ18_next : ByteArray := prog_41_method_3_code
def yJ18_next : MethodName := ⟨RJ18, "next", "()Ljava/lang/Object;"⟩
theorem dJ18_next_0 : decode cJ18_next 0 = .ok (.aload_n 0, 1) := by decide +kernel
theorem dJ18_next_1 : decode cJ18_next 1 = .ok (.invokevirtual 13, 3) := by decide +kernel
theorem dJ18_next_4 : decode cJ18_next 4 = .ok (.areturn, 1) := by decide +kernel
abbrev cJ18_next_2 : ByteArray := prog_41_method_2_code
def yJ18_next_2 : MethodName := ⟨RJ18, "next", "()Ljava/util/Map$Entry;"⟩
theorem dJ18_next_2_0 : decode cJ18_next_2 0 = .ok (.aload_n 0, 1) := by decide +kernel
theorem dJ18_next_2_1 : decode cJ18_next_2 1 = .ok (.invokevirtual 7, 3) := by decide +kernel
theorem dJ18_next_2_4 : decode cJ18_next_2 4 = .ok (.areturn, 1) := by decide +kernel
abbrev cJ19_init : ByteArray := prog_30_method_1_code
def yJ19_init : MethodName := ⟨RJ19, "<init>", "()V"⟩
theorem dJ19_init_0 : decode cJ19_init 0 = .ok (.aload_n 0, 1) := by decide +kernel
theorem dJ19_init_1 : decode cJ19_init 1 = .ok (.invokespecial 1, 3) := by decide +kernel
theorem dJ19_init_4 : decode cJ19_init 4 = .ok (.return_, 1) := by decide +kernel
abbrev cJ20_size : ByteArray := prog_42_method_2_code
def yJ20_size : MethodName := ⟨RJ20, "size", "()I"⟩
theorem dJ20_size_0 : decode cJ20_size 0 = .ok (.aload_n 0, 1) := by decide +kernel
theorem dJ20_size_1 : decode cJ20_size 1 = .ok (.getfield 1, 3) := by decide +kernel
theorem dJ20_size_4 : decode cJ20_size 4 = .ok (.getfield 17, 3) := by decide +kernel
theorem dJ20_size_7 : decode cJ20_size 7 = .ok (.ireturn, 1) := by decide +kernel
abbrev cJ20_iterator : ByteArray := prog_42_method_4_code
def yJ20_iterator : MethodName := ⟨RJ20, "iterator", "()Ljava/util/Iterator;"⟩
theorem dJ20_iterator_0 : decode cJ20_iterator 0 = .ok (.new 26, 3) := by decide +kernel
theorem dJ20_iterator_3 : decode cJ20_iterator 3 = .ok (.dup, 1) := by decide +kernel
theorem dJ20_iterator_4 : decode cJ20_iterator 4 = .ok (.aload_n 0, 1) := by decide +kernel
theorem dJ20_iterator_5 : decode cJ20_iterator 5 = .ok (.getfield 1, 3) := by decide +kernel
theorem dJ20_iterator_8 : decode cJ20_iterator 8 = .ok (.aload_n 0, 1) := by decide +kernel
theorem dJ20_iterator_9 : decode cJ20_iterator 9 = .ok (.getfield 13, 3) := by decide +kernel
theorem dJ20_iterator_12 : decode cJ20_iterator 12 = .ok (.invokespecial 28, 3) := by decide +kernel
theorem dJ20_iterator_15 : decode cJ20_iterator 15 = .ok (.areturn, 1) := by decide +kernel
abbrev cJ20_init : ByteArray := prog_42_method_1_code
def yJ20_init : MethodName := ⟨RJ20, "<init>", "(Ljava/util/LinkedHashMap;Z)V"⟩
theorem dJ20_init_0 : decode cJ20_init 0 = .ok (.aload_n 0, 1) := by decide +kernel
theorem dJ20_init_1 : decode cJ20_init 1 = .ok (.aload_n 1, 1) := by decide +kernel
theorem dJ20_init_2 : decode cJ20_init 2 = .ok (.putfield 1, 3) := by decide +kernel
theorem dJ20_init_5 : decode cJ20_init 5 = .ok (.aload_n 0, 1) := by decide +kernel
theorem dJ20_init_6 : decode cJ20_init 6 = .ok (.invokespecial 7, 3) := by decide +kernel
theorem dJ20_init_9 : decode cJ20_init 9 = .ok (.aload_n 0, 1) := by decide +kernel
theorem dJ20_init_10 : decode cJ20_init 10 = .ok (.iload_n 2, 1) := by decide +kernel
theorem dJ20_init_11 : decode cJ20_init 11 = .ok (.putfield 13, 3) := by decide +kernel
theorem dJ20_init_14 : decode cJ20_init 14 = .ok (.return_, 1) := by decide +kernel
abbrev cJ21_checkIndex : ByteArray := prog_47_method_17_code
def yJ21_checkIndex : MethodName := ⟨RJ21, "checkIndex", "(II)I"⟩
theorem dJ21_checkIndex_0 : decode cJ21_checkIndex 0 = .ok (.iload_n 0, 1) := by decide +kernel
theorem dJ21_checkIndex_1 : decode cJ21_checkIndex 1 = .ok (.iload_n 1, 1) := by decide +kernel
theorem dJ21_checkIndex_2 : decode cJ21_checkIndex 2 = .ok (.aconst_null, 1) := by decide +kernel
theorem dJ21_checkIndex_3 : decode cJ21_checkIndex 3 = .ok (.invokestatic 105, 3) := by decide +kernel
theorem dJ21_checkIndex_6 : decode cJ21_checkIndex 6 = .ok (.ireturn, 1) := by decide +kernel
abbrev cJ22_checkIndex : ByteArray := prog_54_method_11_code
def yJ22_checkIndex : MethodName := ⟨RJ22, "checkIndex", "(IILjava/util/function/BiFunction;)I"⟩
theorem dJ22_checkIndex_0 : decode cJ22_checkIndex 0 = .ok (.iload_n 0, 1) := by decide +kernel
theorem dJ22_checkIndex_1 : decode cJ22_checkIndex 1 = .ok (.ifCond .lt 8, 3) := by decide +kernel
theorem dJ22_checkIndex_4 : decode cJ22_checkIndex 4 = .ok (.iload_n 0, 1) := by decide +kernel
theorem dJ22_checkIndex_5 : decode cJ22_checkIndex 5 = .ok (.iload_n 1, 1) := by decide +kernel
theorem dJ22_checkIndex_6 : decode cJ22_checkIndex 6 = .ok (.if_icmp .lt 10, 3) := by decide +kernel
theorem dJ22_checkIndex_9 : decode cJ22_checkIndex 9 = .ok (.aload_n 2, 1) := by decide +kernel
theorem dJ22_checkIndex_10 : decode cJ22_checkIndex 10 = .ok (.iload_n 0, 1) := by decide +kernel
theorem dJ22_checkIndex_11 : decode cJ22_checkIndex 11 = .ok (.iload_n 1, 1) := by decide +kernel
theorem dJ22_checkIndex_12 : decode cJ22_checkIndex 12 = .ok (.invokestatic 95, 3) := by decide +kernel
theorem dJ22_checkIndex_15 : decode cJ22_checkIndex 15 = .ok (.athrow, 1) := by decide +kernel
theorem dJ22_checkIndex_16 : decode cJ22_checkIndex 16 = .ok (.iload_n 0, 1) := by decide +kernel
theorem dJ22_checkIndex_17 : decode cJ22_checkIndex 17 = .ok (.ireturn, 1) := by decide +kernel
abbrev cJ23_init : ByteArray := prog_24_method_2_code
def yJ23_init : MethodName := ⟨RJ23, "<init>", "(Ljava/lang/String;)V"⟩
theorem dJ23_init_0 : decode cJ23_init 0 = .ok (.aload_n 0, 1) := by decide +kernel
theorem dJ23_init_1 : decode cJ23_init 1 = .ok (.invokespecial 1, 3) := by decide +kernel
theorem dJ23_init_4 : decode cJ23_init 4 = .ok (.aload_n 0, 1) := by decide +kernel
theorem dJ23_init_5 : decode cJ23_init 5 = .ok (.aload_n 0, 1) := by decide +kernel
theorem dJ23_init_6 : decode cJ23_init 6 = .ok (.putfield 7, 3) := by decide +kernel
theorem dJ23_init_9 : decode cJ23_init 9 = .ok (.aload_n 0, 1) := by decide +kernel
theorem dJ23_init_10 : decode cJ23_init 10 = .ok (.getstatic 13, 3) := by decide +kernel
theorem dJ23_init_13 : decode cJ23_init 13 = .ok (.putfield 17, 3) := by decide +kernel
theorem dJ23_init_16 : decode cJ23_init 16 = .ok (.aload_n 0, 1) := by decide +kernel
theorem dJ23_init_17 : decode cJ23_init 17 = .ok (.getstatic 20, 3) := by decide +kernel
theorem dJ23_init_20 : decode cJ23_init 20 = .ok (.putfield 24, 3) := by decide +kernel
theorem dJ23_init_23 : decode cJ23_init 23 = .ok (.aload_n 0, 1) := by decide +kernel
theorem dJ23_init_24 : decode cJ23_init 24 = .ok (.invokevirtual 27, 3) := by decide +kernel
theorem dJ23_init_27 : decode cJ23_init 27 = .ok (.pop, 1) := by decide +kernel
theorem dJ23_init_28 : decode cJ23_init 28 = .ok (.aload_n 0, 1) := by decide +kernel
theorem dJ23_init_29 : decode cJ23_init 29 = .ok (.aload_n 1, 1) := by decide +kernel
theorem dJ23_init_30 : decode cJ23_init 30 = .ok (.putfield 31, 3) := by decide +kernel
theorem dJ23_init_33 : decode cJ23_init 33 = .ok (.return_, 1) := by decide +kernel
abbrev cJ23_init_2 : ByteArray := prog_24_method_1_code
def yJ23_init_2 : MethodName := ⟨RJ23, "<init>", "()V"⟩
theorem dJ23_init_2_0 : decode cJ23_init_2 0 = .ok (.aload_n 0, 1) := by decide +kernel
theorem dJ23_init_2_1 : decode cJ23_init_2 1 = .ok (.invokespecial 1, 3) := by decide +kernel
theorem dJ23_init_2_4 : decode cJ23_init_2 4 = .ok (.aload_n 0, 1) := by decide +kernel
theorem dJ23_init_2_5 : decode cJ23_init_2 5 = .ok (.aload_n 0, 1) := by decide +kernel
theorem dJ23_init_2_6 : decode cJ23_init_2 6 = .ok (.putfield 7, 3) := by decide +kernel
theorem dJ23_init_2_9 : decode cJ23_init_2 9 = .ok (.aload_n 0, 1) := by decide +kernel
theorem dJ23_init_2_10 : decode cJ23_init_2 10 = .ok (.getstatic 13, 3) := by decide +kernel
theorem dJ23_init_2_13 : decode cJ23_init_2 13 = .ok (.putfield 17, 3) := by decide +kernel
theorem dJ23_init_2_16 : decode cJ23_init_2 16 = .ok (.aload_n 0, 1) := by decide +kernel
theorem dJ23_init_2_17 : decode cJ23_init_2 17 = .ok (.getstatic 20, 3) := by decide +kernel
theorem dJ23_init_2_20 : decode cJ23_init_2 20 = .ok (.putfield 24, 3) := by decide +kernel
theorem dJ23_init_2_23 : decode cJ23_init_2 23 = .ok (.aload_n 0, 1) := by decide +kernel
theorem dJ23_init_2_24 : decode cJ23_init_2 24 = .ok (.invokevirtual 27, 3) := by decide +kernel
theorem dJ23_init_2_27 : decode cJ23_init_2 27 = .ok (.pop, 1) := by decide +kernel
theorem dJ23_init_2_28 : decode cJ23_init_2 28 = .ok (.return_, 1) := by decide +kernel
abbrev cJ24_init : ByteArray := prog_13_method_2_code
def yJ24_init : MethodName := ⟨RJ24, "<init>", "(Ljava/lang/String;)V"⟩
theorem dJ24_init_0 : decode cJ24_init 0 = .ok (.aload_n 0, 1) := by decide +kernel
theorem dJ24_init_1 : decode cJ24_init 1 = .ok (.aload_n 1, 1) := by decide +kernel
theorem dJ24_init_2 : decode cJ24_init 2 = .ok (.invokespecial 7, 3) := by decide +kernel
theorem dJ24_init_5 : decode cJ24_init 5 = .ok (.return_, 1) := by decide +kernel
abbrev cJ25_init : ByteArray := prog_21_method_2_code
def yJ25_init : MethodName := ⟨RJ25, "<init>", "(Ljava/lang/String;)V"⟩
theorem dJ25_init_0 : decode cJ25_init 0 = .ok (.aload_n 0, 1) := by decide +kernel
theorem dJ25_init_1 : decode cJ25_init 1 = .ok (.aload_n 1, 1) := by decide +kernel
theorem dJ25_init_2 : decode cJ25_init 2 = .ok (.invokespecial 7, 3) := by decide +kernel
theorem dJ25_init_5 : decode cJ25_init 5 = .ok (.return_, 1) := by decide +kernel
abbrev cJ26_init : ByteArray := prog_14_method_2_code
def yJ26_init : MethodName := ⟨RJ26, "<init>", "(Ljava/lang/String;)V"⟩
theorem dJ26_init_0 : decode cJ26_init 0 = .ok (.aload_n 0, 1) := by decide +kernel
theorem dJ26_init_1 : decode cJ26_init 1 = .ok (.aload_n 1, 1) := by decide +kernel
theorem dJ26_init_2 : decode cJ26_init 2 = .ok (.invokespecial 7, 3) := by decide +kernel
theorem dJ26_init_5 : decode cJ26_init 5 = .ok (.return_, 1) := by decide +kernel
abbrev cJ27_init : ByteArray := prog_9_method_2_code
def yJ27_init : MethodName := ⟨RJ27, "<init>", "(Ljava/lang/String;)V"⟩
theorem dJ27_init_0 : decode cJ27_init 0 = .ok (.aload_n 0, 1) := by decide +kernel
theorem dJ27_init_1 : decode cJ27_init 1 = .ok (.aload_n 1, 1) := by decide +kernel
theorem dJ27_init_2 : decode cJ27_init 2 = .ok (.invokespecial 7, 3) := by decide +kernel
theorem dJ27_init_5 : decode cJ27_init 5 = .ok (.return_, 1) := by decide +kernel
abbrev cJ29_init : ByteArray := object_method_1_code
def yJ29_init : MethodName := ⟨RJ29, "<init>", "()V"⟩
theorem dJ29_init_0 : decode cJ29_init 0 = .ok (.return_, 1) := by decide +kernel
abbrev cJ29_equals : ByteArray := object_method_4_code
def yJ29_equals : MethodName := ⟨RJ29, "equals", "(Ljava/lang/Object;)Z"⟩
theorem dJ29_equals_0 : decode cJ29_equals 0 = .ok (.aload_n 0, 1) := by decide +kernel
theorem dJ29_equals_1 : decode cJ29_equals 1 = .ok (.aload_n 1, 1) := by decide +kernel
theorem dJ29_equals_2 : decode cJ29_equals 2 = .ok (.if_acmp .ne 7, 3) := by decide +kernel
theorem dJ29_equals_5 : decode cJ29_equals 5 = .ok (.iconst 1, 1) := by decide +kernel
theorem dJ29_equals_6 : decode cJ29_equals 6 = .ok (.goto 4, 3) := by decide +kernel
theorem dJ29_equals_9 : decode cJ29_equals 9 = .ok (.iconst 0, 1) := by decide +kernel
theorem dJ29_equals_10 : decode cJ29_equals 10 = .ok (.ireturn, 1) := by decide +kernel
