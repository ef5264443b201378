set_option maxRecDepth 100000
abbrev cX1_init : ByteArray := prog_1_method_3_code
def yX1_init : MethodName := ⟨RX1, "<init>", "()V"⟩
theorem dX1_init_0 : decode cX1_init 0 = .ok (.aload_n 0, 1) := by decide +kernel
theorem dX1_init_1 : decode cX1_init 1 = .ok (.invokespecial 1, 3) := by decide +kernel
theorem dX1_init_4 : decode cX1_init 4 = .ok (.aload_n 0, 1) := by decide +kernel
theorem dX1_init_5 : decode cX1_init 5 = .ok (.bipush 15, 2) := by decide +kernel
theorem dX1_init_7 : decode cX1_init 7 = .ok (.newarray .int, 2) := by decide +kernel
theorem dX1_init_9 : decode cX1_init 9 = .ok (.putfield 7, 3) := by decide +kernel
theorem dX1_init_12 : decode cX1_init 12 = .ok (.aload_n 0, 1) := by decide +kernel
theorem dX1_init_13 : decode cX1_init 13 = .ok (.bipush 15, 2) := by decide +kernel
theorem dX1_init_15 : decode cX1_init 15 = .ok (.newarray .int, 2) := by decide +kernel
theorem dX1_init_17 : decode cX1_init 17 = .ok (.putfield 13, 3) := by decide +kernel
theorem dX1_init_20 : decode cX1_init 20 = .ok (.aload_n 0, 1) := by decide +kernel
theorem dX1_init_21 : decode cX1_init 21 = .ok (.iconst 0, 1) := by decide +kernel
theorem dX1_init_22 : decode cX1_init 22 = .ok (.newarray .int, 2) := by decide +kernel
theorem dX1_init_24 : decode cX1_init 24 = .ok (.putfield 16, 3) := by decide +kernel
theorem dX1_init_27 : decode cX1_init 27 = .ok (.aload_n 0, 1) := by decide +kernel
theorem dX1_init_28 : decode cX1_init 28 = .ok (.iconst 4, 1) := by decide +kernel
theorem dX1_init_29 : decode cX1_init 29 = .ok (.bipush 15, 2) := by decide +kernel
theorem dX1_init_31 : decode cX1_init 31 = .ok (.multianewarray 19 2, 4) := by decide +kernel
theorem dX1_init_35 : decode cX1_init 35 = .ok (.putfield 21, 3) := by decide +kernel
theorem dX1_init_38 : decode cX1_init 38 = .ok (.aload_n 0, 1) := by decide +kernel
theorem dX1_init_39 : decode cX1_init 39 = .ok (.iconst 4, 1) := by decide +kernel
theorem dX1_init_40 : decode cX1_init 40 = .ok (.anewarray 24, 3) := by decide +kernel
theorem dX1_init_43 : decode cX1_init 43 = .ok (.putfield 26, 3) := by decide +kernel
theorem dX1_init_46 : decode cX1_init 46 = .ok (.aload_n 0, 1) := by decide +kernel
theorem dX1_init_47 : decode cX1_init 47 = .ok (.bipush 15, 2) := by decide +kernel
theorem dX1_init_49 : decode cX1_init 49 = .ok (.anewarray 30, 3) := by decide +kernel
theorem dX1_init_52 : decode cX1_init 52 = .ok (.putfield 31, 3) := by decide +kernel
theorem dX1_init_55 : decode cX1_init 55 = .ok (.aload_n 0, 1) := by decide +kernel
theorem dX1_init_56 : decode cX1_init 56 = .ok (.new 34, 3) := by decide +kernel
theorem dX1_init_59 : decode cX1_init 59 = .ok (.dup, 1) := by decide +kernel
theorem dX1_init_60 : decode cX1_init 60 = .ok (.invokespecial 36, 3) := by decide +kernel
theorem dX1_init_63 : decode cX1_init 63 = .ok (.putfield 37, 3) := by decide +kernel
theorem dX1_init_66 : decode cX1_init 66 = .ok (.aload_n 0, 1) := by decide +kernel
theorem dX1_init_67 : decode cX1_init 67 = .ok (.new 41, 3) := by decide +kernel
theorem dX1_init_70 : decode cX1_init 70 = .ok (.dup, 1) := by decide +kernel
theorem dX1_init_71 : decode cX1_init 71 = .ok (.invokespecial 43, 3) := by decide +kernel
theorem dX1_init_74 : decode cX1_init 74 = .ok (.putfield 44, 3) := by decide +kernel
theorem dX1_init_77 : decode cX1_init 77 = .ok (.aload_n 0, 1) := by decide +kernel
theorem dX1_init_78 : decode cX1_init 78 = .ok (.new 34, 3) := by decide +kernel
theorem dX1_init_81 : decode cX1_init 81 = .ok (.dup, 1) := by decide +kernel
theorem dX1_init_82 : decode cX1_init 82 = .ok (.invokespecial 36, 3) := by decide +kernel
theorem dX1_init_85 : decode cX1_init 85 = .ok (.putfield 48, 3) := by decide +kernel
theorem dX1_init_88 : decode cX1_init 88 = .ok (.aload_n 0, 1) := by decide +kernel
theorem dX1_init_89 : decode cX1_init 89 = .ok (.new 34, 3) := by decide +kernel
theorem dX1_init_92 : decode cX1_init 92 = .ok (.dup, 1) := by decide +kernel
theorem dX1_init_93 : decode cX1_init 93 = .ok (.invokespecial 36, 3) := by decide +kernel
theorem dX1_init_96 : decode cX1_init 96 = .ok (.putfield 51, 3) := by decide +kernel
theorem dX1_init_99 : decode cX1_init 99 = .ok (.aload_n 0, 1) := by decide +kernel
theorem dX1_init_100 : decode cX1_init 100 = .ok (.iconst (-1), 1) := by decide +kernel
theorem dX1_init_101 : decode cX1_init 101 = .ok (.putfield 54, 3) := by decide +kernel
theorem dX1_init_104 : decode cX1_init 104 = .ok (.aload_n 0, 1) := by decide +kernel
theorem dX1_init_105 : decode cX1_init 105 = .ok (.new 34, 3) := by decide +kernel
theorem dX1_init_108 : decode cX1_init 108 = .ok (.dup, 1) := by decide +kernel
theorem dX1_init_109 : decode cX1_init 109 = .ok (.invokespecial 36, 3) := by decide +kernel
theorem dX1_init_112 : decode cX1_init 112 = .ok (.putfield 58, 3) := by decide +kernel
theorem dX1_init_115 : decode cX1_init 115 = .ok (.return_, 1) := by decide +kernel
abbrev cX1_feature : ByteArray := prog_1_method_5_code
def yX1_feature : MethodName := ⟨RX1, "feature", "(II)I"⟩
theorem dX1_feature_0 : decode cX1_feature 0 = .ok (.aload_n 0, 1) := by decide +kernel
theorem dX1_feature_1 : decode cX1_feature 1 = .ok (.getfield 61, 3) := by decide +kernel
theorem dX1_feature_4 : decode cX1_feature 4 = .ok (.ifCond .ne 10, 3) := by decide +kernel
theorem dX1_feature_7 : decode cX1_feature 7 = .ok (.iload_n 1, 1) := by decide +kernel
theorem dX1_feature_8 : decode cX1_feature 8 = .ok (.ifCond .eq 16, 3) := by decide +kernel
theorem dX1_feature_11 : decode cX1_feature 11 = .ok (.goto 11, 3) := by decide +kernel
theorem dX1_feature_14 : decode cX1_feature 14 = .ok (.aload_n 0, 1) := by decide +kernel
theorem dX1_feature_15 : decode cX1_feature 15 = .ok (.iload_n 1, 1) := by decide +kernel
theorem dX1_feature_16 : decode cX1_feature 16 = .ok (.invokevirtual 64, 3) := by decide +kernel
theorem dX1_feature_19 : decode cX1_feature 19 = .ok (.ifCond .ne 5, 3) := by decide +kernel
theorem dX1_feature_22 : decode cX1_feature 22 = .ok (.iconst (-1), 1) := by decide +kernel
theorem dX1_feature_23 : decode cX1_feature 23 = .ok (.ireturn, 1) := by decide +kernel
theorem dX1_feature_24 : decode cX1_feature 24 = .ok (.iload_n 2, 1) := by decide +kernel
theorem dX1_feature_25 : decode cX1_feature 25 = .ok (.i2l, 1) := by decide +kernel
theorem dX1_feature_26 : decode cX1_feature 26 = .ok (.lconst 0, 1) := by decide +kernel
theorem dX1_feature_27 : decode cX1_feature 27 = .ok (.ldc2_w 68, 3) := by decide +kernel
theorem dX1_feature_30 : decode cX1_feature 30 = .ok (.invokestatic 70, 3) := by decide +kernel
theorem dX1_feature_33 : decode cX1_feature 33 = .ok (.ifCond .ne 6, 3) := by decide +kernel
theorem dX1_feature_36 : decode cX1_feature 36 = .ok (.bipush (-2), 2) := by decide +kernel
theorem dX1_feature_38 : decode cX1_feature 38 = .ok (.ireturn, 1) := by decide +kernel
theorem dX1_feature_39 : decode cX1_feature 39 = .ok (.aload_n 0, 1) := by decide +kernel
theorem dX1_feature_40 : decode cX1_feature 40 = .ok (.getfield 61, 3) := by decide +kernel
theorem dX1_feature_43 : decode cX1_feature 43 = .ok (.bipush 14, 2) := by decide +kernel
theorem dX1_feature_45 : decode cX1_feature 45 = .ok (.if_icmp .ne 6, 3) := by decide +kernel
theorem dX1_feature_48 : decode cX1_feature 48 = .ok (.bipush (-4), 2) := by decide +kernel
theorem dX1_feature_50 : decode cX1_feature 50 = .ok (.ireturn, 1) := by decide +kernel
theorem dX1_feature_51 : decode cX1_feature 51 = .ok (.aload_n 0, 1) := by decide +kernel
theorem dX1_feature_52 : decode cX1_feature 52 = .ok (.dup, 1) := by decide +kernel
theorem dX1_feature_53 : decode cX1_feature 53 = .ok (.getfield 61, 3) := by decide +kernel
theorem dX1_feature_56 : decode cX1_feature 56 = .ok (.iconst 1, 1) := by decide +kernel
theorem dX1_feature_57 : decode cX1_feature 57 = .ok (.iadd, 1) := by decide +kernel
theorem dX1_feature_58 : decode cX1_feature 58 = .ok (.putfield 61, 3) := by decide +kernel
theorem dX1_feature_61 : decode cX1_feature 61 = .ok (.aload_n 0, 1) := by decide +kernel
theorem dX1_feature_62 : decode cX1_feature 62 = .ok (.getfield 7, 3) := by decide +kernel
theorem dX1_feature_65 : decode cX1_feature 65 = .ok (.aload_n 0, 1) := by decide +kernel
theorem dX1_feature_66 : decode cX1_feature 66 = .ok (.getfield 61, 3) := by decide +kernel
theorem dX1_feature_69 : decode cX1_feature 69 = .ok (.iload_n 1, 1) := by decide +kernel
theorem dX1_feature_70 : decode cX1_feature 70 = .ok (.iastore, 1) := by decide +kernel
theorem dX1_feature_71 : decode cX1_feature 71 = .ok (.aload_n 0, 1) := by decide +kernel
theorem dX1_feature_72 : decode cX1_feature 72 = .ok (.getfield 13, 3) := by decide +kernel
theorem dX1_feature_75 : decode cX1_feature 75 = .ok (.aload_n 0, 1) := by decide +kernel
theorem dX1_feature_76 : decode cX1_feature 76 = .ok (.getfield 61, 3) := by decide +kernel
theorem dX1_feature_79 : decode cX1_feature 79 = .ok (.iload_n 2, 1) := by decide +kernel
theorem dX1_feature_80 : decode cX1_feature 80 = .ok (.iastore, 1) := by decide +kernel
theorem dX1_feature_81 : decode cX1_feature 81 = .ok (.aload_n 0, 1) := by decide +kernel
theorem dX1_feature_82 : decode cX1_feature 82 = .ok (.getfield 61, 3) := by decide +kernel
theorem dX1_feature_85 : decode cX1_feature 85 = .ok (.newarray .int, 2) := by decide +kernel
theorem dX1_feature_87 : decode cX1_feature 87 = .ok (.astore_n 3, 1) := by decide +kernel
theorem dX1_feature_88 : decode cX1_feature 88 = .ok (.aload_n 0, 1) := by decide +kernel
theorem dX1_feature_89 : decode cX1_feature 89 = .ok (.getfield 16, 3) := by decide +kernel
theorem dX1_feature_92 : decode cX1_feature 92 = .ok (.iconst 0, 1) := by decide +kernel
theorem dX1_feature_93 : decode cX1_feature 93 = .ok (.aload_n 3, 1) := by decide +kernel
theorem dX1_feature_94 : decode cX1_feature 94 = .ok (.iconst 0, 1) := by decide +kernel
theorem dX1_feature_95 : decode cX1_feature 95 = .ok (.aload_n 0, 1) := by decide +kernel
theorem dX1_feature_96 : decode cX1_feature 96 = .ok (.getfield 16, 3) := by decide +kernel
theorem dX1_feature_99 : decode cX1_feature 99 = .ok (.arraylength, 1) := by decide +kernel
theorem dX1_feature_100 : decode cX1_feature 100 = .ok (.invokestatic 74, 3) := by decide +kernel
theorem dX1_feature_103 : decode cX1_feature 103 = .ok (.aload_n 3, 1) := by decide +kernel
theorem dX1_feature_104 : decode cX1_feature 104 = .ok (.aload_n 0, 1) := by decide +kernel
theorem dX1_feature_105 : decode cX1_feature 105 = .ok (.getfield 61, 3) := by decide +kernel
theorem dX1_feature_108 : decode cX1_feature 108 = .ok (.iconst 1, 1) := by decide +kernel
theorem dX1_feature_109 : decode cX1_feature 109 = .ok (.isub, 1) := by decide +kernel
theorem dX1_feature_110 : decode cX1_feature 110 = .ok (.iload_n 1, 1) := by decide +kernel
theorem dX1_feature_111 : decode cX1_feature 111 = .ok (.ifCond .ne 7, 3) := by decide +kernel
theorem dX1_feature_114 : decode cX1_feature 114 = .ok (.iconst 0, 1) := by decide +kernel
theorem dX1_feature_115 : decode cX1_feature 115 = .ok (.goto 13, 3) := by decide +kernel
theorem dX1_feature_118 : decode cX1_feature 118 = .ok (.aload_n 0, 1) := by decide +kernel
theorem dX1_feature_119 : decode cX1_feature 119 = .ok (.getfield 16, 3) := by decide +kernel
theorem dX1_feature_122 : decode cX1_feature 122 = .ok (.iload_n 1, 1) := by decide +kernel
theorem dX1_feature_123 : decode cX1_feature 123 = .ok (.iconst 1, 1) := by decide +kernel
theorem dX1_feature_124 : decode cX1_feature 124 = .ok (.isub, 1) := by decide +kernel
theorem dX1_feature_125 : decode cX1_feature 125 = .ok (.iaload, 1) := by decide +kernel
theorem dX1_feature_126 : decode cX1_feature 126 = .ok (.iconst 1, 1) := by decide +kernel
theorem dX1_feature_127 : decode cX1_feature 127 = .ok (.iadd, 1) := by decide +kernel
theorem dX1_feature_128 : decode cX1_feature 128 = .ok (.iastore, 1) := by decide +kernel
theorem dX1_feature_129 : decode cX1_feature 129 = .ok (.aload_n 0, 1) := by decide +kernel
theorem dX1_feature_130 : decode cX1_feature 130 = .ok (.aload_n 3, 1) := by decide +kernel
theorem dX1_feature_131 : decode cX1_feature 131 = .ok (.putfield 16, 3) := by decide +kernel
theorem dX1_feature_134 : decode cX1_feature 134 = .ok (.aload_n 0, 1) := by decide +kernel
theorem dX1_feature_135 : decode cX1_feature 135 = .ok (.iconst 0, 1) := by decide +kernel
theorem dX1_feature_136 : decode cX1_feature 136 = .ok (.putfield 80, 3) := by decide +kernel
theorem dX1_feature_139 : decode cX1_feature 139 = .ok (.aload_n 0, 1) := by decide +kernel
theorem dX1_feature_140 : decode cX1_feature 140 = .ok (.getfield 61, 3) := by decide +kernel
theorem dX1_feature_143 : decode cX1_feature 143 = .ok (.ireturn, 1) := by decide +kernel
abbrev cX1_is : ByteArray := prog_1_method_4_code
def yX1_is : MethodName := ⟨RX1, "is", "(I)Z"⟩
theorem dX1_is_0 : decode cX1_is 0 = .ok (.iload_n 1, 1) := by decide +kernel
theorem dX1_is_1 : decode cX1_is 1 = .ok (.iconst 1, 1) := by decide +kernel
theorem dX1_is_2 : decode cX1_is 2 = .ok (.if_icmp .lt 15, 3) := by decide +kernel
theorem dX1_is_5 : decode cX1_is 5 = .ok (.iload_n 1, 1) := by decide +kernel
theorem dX1_is_6 : decode cX1_is 6 = .ok (.aload_n 0, 1) := by decide +kernel
theorem dX1_is_7 : decode cX1_is 7 = .ok (.getfield 61, 3) := by decide +kernel
theorem dX1_is_10 : decode cX1_is 10 = .ok (.if_icmp .gt 7, 3) := by decide +kernel
theorem dX1_is_13 : decode cX1_is 13 = .ok (.iconst 1, 1) := by decide +kernel
theorem dX1_is_14 : decode cX1_is 14 = .ok (.goto 4, 3) := by decide +kernel
theorem dX1_is_17 : decode cX1_is 17 = .ok (.iconst 0, 1) := by decide +kernel
theorem dX1_is_18 : decode cX1_is 18 = .ok (.ireturn, 1) := by decide +kernel
abbrev cX1_isIn : ByteArray := prog_1_method_1_code
def yX1_isIn : MethodName := ⟨RX1, "isIn", "(JJJ)Z"⟩
theorem dX1_isIn_0 : decode cX1_isIn 0 = .ok (.lload_n 0, 1) := by decide +kernel
theorem dX1_isIn_1 : decode cX1_isIn 1 = .ok (.lload_n 2, 1) := by decide +kernel
theorem dX1_isIn_2 : decode cX1_isIn 2 = .ok (.lcmp, 1) := by decide +kernel
theorem dX1_isIn_3 : decode cX1_isIn 3 = .ok (.ifCond .lt 14, 3) := by decide +kernel
theorem dX1_isIn_6 : decode cX1_isIn 6 = .ok (.lload_n 0, 1) := by decide +kernel
theorem dX1_isIn_7 : decode cX1_isIn 7 = .ok (.lload 4, 2) := by decide +kernel
theorem dX1_isIn_9 : decode cX1_isIn 9 = .ok (.lcmp, 1) := by decide +kernel
theorem dX1_isIn_10 : decode cX1_isIn 10 = .ok (.ifCond .gt 7, 3) := by decide +kernel
theorem dX1_isIn_13 : decode cX1_isIn 13 = .ok (.iconst 1, 1) := by decide +kernel
theorem dX1_isIn_14 : decode cX1_isIn 14 = .ok (.goto 4, 3) := by decide +kernel
theorem dX1_isIn_17 : decode cX1_isIn 17 = .ok (.iconst 0, 1) := by decide +kernel
theorem dX1_isIn_18 : decode cX1_isIn 18 = .ok (.ireturn, 1) := by decide +kernel
abbrev cX1_group : ByteArray := prog_1_method_7_code
def yX1_group : MethodName := ⟨RX1, "group", "(III)I"⟩
theorem dX1_group_0 : decode cX1_group 0 = .ok (.aload_n 0, 1) := by decide +kernel
theorem dX1_group_1 : decode cX1_group 1 = .ok (.iload_n 1, 1) := by decide +kernel
theorem dX1_group_2 : decode cX1_group 2 = .ok (.invokevirtual 64, 3) := by decide +kernel
theorem dX1_group_5 : decode cX1_group 5 = .ok (.ifCond .ne 5, 3) := by decide +kernel
theorem dX1_group_8 : decode cX1_group 8 = .ok (.iconst (-1), 1) := by decide +kernel
theorem dX1_group_9 : decode cX1_group 9 = .ok (.ireturn, 1) := by decide +kernel
theorem dX1_group_10 : decode cX1_group 10 = .ok (.iload_n 2, 1) := by decide +kernel
theorem dX1_group_11 : decode cX1_group 11 = .ok (.i2l, 1) := by decide +kernel
theorem dX1_group_12 : decode cX1_group 12 = .ok (.lconst 0, 1) := by decide +kernel
theorem dX1_group_13 : decode cX1_group 13 = .ok (.iload_n 3, 1) := by decide +kernel
theorem dX1_group_14 : decode cX1_group 14 = .ok (.i2l, 1) := by decide +kernel
theorem dX1_group_15 : decode cX1_group 15 = .ok (.invokestatic 70, 3) := by decide +kernel
theorem dX1_group_18 : decode cX1_group 18 = .ok (.ifCond .eq 9, 3) := by decide +kernel
theorem dX1_group_21 : decode cX1_group 21 = .ok (.iload_n 3, 1) := by decide +kernel
theorem dX1_group_22 : decode cX1_group 22 = .ok (.bipush 14, 2) := by decide +kernel
theorem dX1_group_24 : decode cX1_group 24 = .ok (.if_icmp .le 6, 3) := by decide +kernel
theorem dX1_group_27 : decode cX1_group 27 = .ok (.bipush (-2), 2) := by decide +kernel
theorem dX1_group_29 : decode cX1_group 29 = .ok (.ireturn, 1) := by decide +kernel
theorem dX1_group_30 : decode cX1_group 30 = .ok (.aload_n 0, 1) := by decide +kernel
theorem dX1_group_31 : decode cX1_group 31 = .ok (.getfield 31, 3) := by decide +kernel
theorem dX1_group_34 : decode cX1_group 34 = .ok (.iload_n 1, 1) := by decide +kernel
theorem dX1_group_35 : decode cX1_group 35 = .ok (.iconst 2, 1) := by decide +kernel
theorem dX1_group_36 : decode cX1_group 36 = .ok (.newarray .int, 2) := by decide +kernel
theorem dX1_group_38 : decode cX1_group 38 = .ok (.dup, 1) := by decide +kernel
theorem dX1_group_39 : decode cX1_group 39 = .ok (.iconst 0, 1) := by decide +kernel
theorem dX1_group_40 : decode cX1_group 40 = .ok (.iload_n 2, 1) := by decide +kernel
theorem dX1_group_41 : decode cX1_group 41 = .ok (.iastore, 1) := by decide +kernel
theorem dX1_group_42 : decode cX1_group 42 = .ok (.dup, 1) := by decide +kernel
theorem dX1_group_43 : decode cX1_group 43 = .ok (.iconst 1, 1) := by decide +kernel
theorem dX1_group_44 : decode cX1_group 44 = .ok (.iload_n 3, 1) := by decide +kernel
theorem dX1_group_45 : decode cX1_group 45 = .ok (.iastore, 1) := by decide +kernel
theorem dX1_group_46 : decode cX1_group 46 = .ok (.aastore, 1) := by decide +kernel
theorem dX1_group_47 : decode cX1_group 47 = .ok (.aload_n 0, 1) := by decide +kernel
theorem dX1_group_48 : decode cX1_group 48 = .ok (.iconst 0, 1) := by decide +kernel
theorem dX1_group_49 : decode cX1_group 49 = .ok (.putfield 80, 3) := by decide +kernel
theorem dX1_group_52 : decode cX1_group 52 = .ok (.aload_n 0, 1) := by decide +kernel
theorem dX1_group_53 : decode cX1_group 53 = .ok (.iload_n 1, 1) := by decide +kernel
theorem dX1_group_54 : decode cX1_group 54 = .ok (.invokevirtual 88, 3) := by decide +kernel
theorem dX1_group_57 : decode cX1_group 57 = .ok (.invokestatic 91, 3) := by decide +kernel
theorem dX1_group_60 : decode cX1_group 60 = .ok (.ireturn, 1) := by decide +kernel
abbrev cX1_groupedBelow : ByteArray := prog_1_method_6_code
def yX1_groupedBelow : MethodName := ⟨RX1, "groupedBelow", "(I)I"⟩
theorem dX1_groupedBelow_0 : decode cX1_groupedBelow 0 = .ok (.iconst 0, 1) := by decide +kernel
theorem dX1_groupedBelow_1 : decode cX1_groupedBelow 1 = .ok (.istore_n 2, 1) := by decide +kernel
theorem dX1_groupedBelow_2 : decode cX1_groupedBelow 2 = .ok (.iconst 2, 1) := by decide +kernel
theorem dX1_groupedBelow_3 : decode cX1_groupedBelow 3 = .ok (.istore_n 3, 1) := by decide +kernel
theorem dX1_groupedBelow_4 : decode cX1_groupedBelow 4 = .ok (.iload_n 3, 1) := by decide +kernel
theorem dX1_groupedBelow_5 : decode cX1_groupedBelow 5 = .ok (.aload_n 0, 1) := by decide +kernel
theorem dX1_groupedBelow_6 : decode cX1_groupedBelow 6 = .ok (.getfield 61, 3) := by decide +kernel
theorem dX1_groupedBelow_9 : decode cX1_groupedBelow 9 = .ok (.if_icmp .gt 40, 3) := by decide +kernel
theorem dX1_groupedBelow_12 : decode cX1_groupedBelow 12 = .ok (.iload_n 2, 1) := by decide +kernel
theorem dX1_groupedBelow_13 : decode cX1_groupedBelow 13 = .ok (.aload_n 0, 1) := by decide +kernel
theorem dX1_groupedBelow_14 : decode cX1_groupedBelow 14 = .ok (.getfield 7, 3) := by decide +kernel
theorem dX1_groupedBelow_17 : decode cX1_groupedBelow 17 = .ok (.iload_n 3, 1) := by decide +kernel
theorem dX1_groupedBelow_18 : decode cX1_groupedBelow 18 = .ok (.iaload, 1) := by decide +kernel
theorem dX1_groupedBelow_19 : decode cX1_groupedBelow 19 = .ok (.iload_n 1, 1) := by decide +kernel
theorem dX1_groupedBelow_20 : decode cX1_groupedBelow 20 = .ok (.if_icmp .ne 20, 3) := by decide +kernel
theorem dX1_groupedBelow_23 : decode cX1_groupedBelow 23 = .ok (.aload_n 0, 1) := by decide +kernel
theorem dX1_groupedBelow_24 : decode cX1_groupedBelow 24 = .ok (.getfield 13, 3) := by decide +kernel
theorem dX1_groupedBelow_27 : decode cX1_groupedBelow 27 = .ok (.iload_n 3, 1) := by decide +kernel
theorem dX1_groupedBelow_28 : decode cX1_groupedBelow 28 = .ok (.iaload, 1) := by decide +kernel
theorem dX1_groupedBelow_29 : decode cX1_groupedBelow 29 = .ok (.iconst 2, 1) := by decide +kernel
theorem dX1_groupedBelow_30 : decode cX1_groupedBelow 30 = .ok (.if_icmp .ne 10, 3) := by decide +kernel
theorem dX1_groupedBelow_33 : decode cX1_groupedBelow 33 = .ok (.iload_n 3, 1) := by decide +kernel
theorem dX1_groupedBelow_34 : decode cX1_groupedBelow 34 = .ok (.invokestatic 84, 3) := by decide +kernel
theorem dX1_groupedBelow_37 : decode cX1_groupedBelow 37 = .ok (.goto 4, 3) := by decide +kernel
theorem dX1_groupedBelow_40 : decode cX1_groupedBelow 40 = .ok (.iconst 0, 1) := by decide +kernel
theorem dX1_groupedBelow_41 : decode cX1_groupedBelow 41 = .ok (.ior, 1) := by decide +kernel
theorem dX1_groupedBelow_42 : decode cX1_groupedBelow 42 = .ok (.istore_n 2, 1) := by decide +kernel
theorem dX1_groupedBelow_43 : decode cX1_groupedBelow 43 = .ok (.iinc 3 1, 3) := by decide +kernel
theorem dX1_groupedBelow_46 : decode cX1_groupedBelow 46 = .ok (.goto (-42), 3) := by decide +kernel
theorem dX1_groupedBelow_49 : decode cX1_groupedBelow 49 = .ok (.iload_n 2, 1) := by decide +kernel
theorem dX1_groupedBelow_50 : decode cX1_groupedBelow 50 = .ok (.ireturn, 1) := by decide +kernel
abbrev cX1_bit : ByteArray := prog_1_method_2_code
def yX1_bit : MethodName := ⟨RX1, "bit", "(I)I"⟩
theorem dX1_bit_0 : decode cX1_bit 0 = .ok (.iconst 1, 1) := by decide +kernel
theorem dX1_bit_1 : decode cX1_bit 1 = .ok (.iload_n 0, 1) := by decide +kernel
theorem dX1_bit_2 : decode cX1_bit 2 = .ok (.iconst 1, 1) := by decide +kernel
theorem dX1_bit_3 : decode cX1_bit 3 = .ok (.isub, 1) := by decide +kernel
theorem dX1_bit_4 : decode cX1_bit 4 = .ok (.ishl, 1) := by decide +kernel
theorem dX1_bit_5 : decode cX1_bit 5 = .ok (.ireturn, 1) := by decide +kernel
abbrev cX1_formula : ByteArray := prog_1_method_9_code
def yX1_formula : MethodName := ⟨RX1, "formula", "(III)I"⟩
theorem dX1_formula_0 : decode cX1_formula 0 = .ok (.aload_n 0, 1) := by decide +kernel
theorem dX1_formula_1 : decode cX1_formula 1 = .ok (.iload_n 2, 1) := by decide +kernel
theorem dX1_formula_2 : decode cX1_formula 2 = .ok (.invokevirtual 100, 3) := by decide +kernel
theorem dX1_formula_5 : decode cX1_formula 5 = .ok (.ifCond .eq 11, 3) := by decide +kernel
theorem dX1_formula_8 : decode cX1_formula 8 = .ok (.aload_n 0, 1) := by decide +kernel
theorem dX1_formula_9 : decode cX1_formula 9 = .ok (.iload_n 3, 1) := by decide +kernel
theorem dX1_formula_10 : decode cX1_formula 10 = .ok (.invokevirtual 100, 3) := by decide +kernel
theorem dX1_formula_13 : decode cX1_formula 13 = .ok (.ifCond .ne 5, 3) := by decide +kernel
theorem dX1_formula_16 : decode cX1_formula 16 = .ok (.iconst (-1), 1) := by decide +kernel
theorem dX1_formula_17 : decode cX1_formula 17 = .ok (.ireturn, 1) := by decide +kernel
theorem dX1_formula_18 : decode cX1_formula 18 = .ok (.iload_n 1, 1) := by decide +kernel
theorem dX1_formula_19 : decode cX1_formula 19 = .ok (.i2l, 1) := by decide +kernel
theorem dX1_formula_20 : decode cX1_formula 20 = .ok (.lconst 0, 1) := by decide +kernel
theorem dX1_formula_21 : decode cX1_formula 21 = .ok (.ldc2_w 103, 3) := by decide +kernel
theorem dX1_formula_24 : decode cX1_formula 24 = .ok (.invokestatic 70, 3) := by decide +kernel
theorem dX1_formula_27 : decode cX1_formula 27 = .ok (.ifCond .ne 6, 3) := by decide +kernel
theorem dX1_formula_30 : decode cX1_formula 30 = .ok (.bipush (-2), 2) := by decide +kernel
theorem dX1_formula_32 : decode cX1_formula 32 = .ok (.ireturn, 1) := by decide +kernel
theorem dX1_formula_33 : decode cX1_formula 33 = .ok (.aload_n 0, 1) := by decide +kernel
theorem dX1_formula_34 : decode cX1_formula 34 = .ok (.getfield 105, 3) := by decide +kernel
theorem dX1_formula_37 : decode cX1_formula 37 = .ok (.bipush 40, 2) := by decide +kernel
theorem dX1_formula_39 : decode cX1_formula 39 = .ok (.if_icmp .ne 6, 3) := by decide +kernel
theorem dX1_formula_42 : decode cX1_formula 42 = .ok (.bipush (-4), 2) := by decide +kernel
theorem dX1_formula_44 : decode cX1_formula 44 = .ok (.ireturn, 1) := by decide +kernel
theorem dX1_formula_45 : decode cX1_formula 45 = .ok (.iload_n 1, 1) := by decide +kernel
theorem dX1_formula_46 : decode cX1_formula 46 = .ok (.ifCond .eq 8, 3) := by decide +kernel
theorem dX1_formula_49 : decode cX1_formula 49 = .ok (.iload_n 1, 1) := by decide +kernel
theorem dX1_formula_50 : decode cX1_formula 50 = .ok (.iconst 3, 1) := by decide +kernel
theorem dX1_formula_51 : decode cX1_formula 51 = .ok (.if_icmp .ne 16, 3) := by decide +kernel
theorem dX1_formula_54 : decode cX1_formula 54 = .ok (.iload_n 2, 1) := by decide +kernel
theorem dX1_formula_55 : decode cX1_formula 55 = .ok (.iload_n 3, 1) := by decide +kernel
theorem dX1_formula_56 : decode cX1_formula 56 = .ok (.if_icmp .ne 7, 3) := by decide +kernel
theorem dX1_formula_59 : decode cX1_formula 59 = .ok (.iconst 1, 1) := by decide +kernel
theorem dX1_formula_60 : decode cX1_formula 60 = .ok (.goto 18, 3) := by decide +kernel
theorem dX1_formula_63 : decode cX1_formula 63 = .ok (.iconst 0, 1) := by decide +kernel
theorem dX1_formula_64 : decode cX1_formula 64 = .ok (.goto 14, 3) := by decide +kernel
theorem dX1_formula_67 : decode cX1_formula 67 = .ok (.iload_n 2, 1) := by decide +kernel
theorem dX1_formula_68 : decode cX1_formula 68 = .ok (.iload_n 3, 1) := by decide +kernel
theorem dX1_formula_69 : decode cX1_formula 69 = .ok (.ineg, 1) := by decide +kernel
theorem dX1_formula_70 : decode cX1_formula 70 = .ok (.if_icmp .ne 7, 3) := by decide +kernel
theorem dX1_formula_73 : decode cX1_formula 73 = .ok (.iconst 1, 1) := by decide +kernel
theorem dX1_formula_74 : decode cX1_formula 74 = .ok (.goto 4, 3) := by decide +kernel
theorem dX1_formula_77 : decode cX1_formula 77 = .ok (.iconst 0, 1) := by decide +kernel
theorem dX1_formula_78 : decode cX1_formula 78 = .ok (.istore 4, 2) := by decide +kernel
theorem dX1_formula_80 : decode cX1_formula 80 = .ok (.iload 4, 2) := by decide +kernel
theorem dX1_formula_82 : decode cX1_formula 82 = .ok (.ifCond .eq 5, 3) := by decide +kernel
theorem dX1_formula_85 : decode cX1_formula 85 = .ok (.iconst 0, 1) := by decide +kernel
theorem dX1_formula_86 : decode cX1_formula 86 = .ok (.ireturn, 1) := by decide +kernel
theorem dX1_formula_87 : decode cX1_formula 87 = .ok (.aload_n 0, 1) := by decide +kernel
theorem dX1_formula_88 : decode cX1_formula 88 = .ok (.dup, 1) := by decide +kernel
theorem dX1_formula_89 : decode cX1_formula 89 = .ok (.getfield 105, 3) := by decide +kernel
theorem dX1_formula_92 : decode cX1_formula 92 = .ok (.iconst 1, 1) := by decide +kernel
theorem dX1_formula_93 : decode cX1_formula 93 = .ok (.iadd, 1) := by decide +kernel
theorem dX1_formula_94 : decode cX1_formula 94 = .ok (.putfield 105, 3) := by decide +kernel
theorem dX1_formula_97 : decode cX1_formula 97 = .ok (.iload_n 1, 1) := by decide +kernel
theorem dX1_formula_98 : decode cX1_formula 98 = .ok (.tableswitch 95 0 2 #[26, 49, 73], 26) := by decide +kernel
theorem dX1_formula_124 : decode cX1_formula 124 = .ok (.aload_n 0, 1) := by decide +kernel
theorem dX1_formula_125 : decode cX1_formula 125 = .ok (.getfield 37, 3) := by decide +kernel
theorem dX1_formula_128 : decode cX1_formula 128 = .ok (.new 108, 3) := by decide +kernel
theorem dX1_formula_131 : decode cX1_formula 131 = .ok (.dup, 1) := by decide +kernel
theorem dX1_formula_132 : decode cX1_formula 132 = .ok (.iload_n 2, 1) := by decide +kernel
theorem dX1_formula_133 : decode cX1_formula 133 = .ok (.ineg, 1) := by decide +kernel
theorem dX1_formula_134 : decode cX1_formula 134 = .ok (.iload_n 3, 1) := by decide +kernel
theorem dX1_formula_135 : decode cX1_formula 135 = .ok (.invokespecial 110, 3) := by decide +kernel
theorem dX1_formula_138 : decode cX1_formula 138 = .ok (.invokeinterface 113 2, 5) := by decide +kernel
theorem dX1_formula_143 : decode cX1_formula 143 = .ok (.pop, 1) := by decide +kernel
theorem dX1_formula_144 : decode cX1_formula 144 = .ok (.goto 89, 3) := by decide +kernel
theorem dX1_formula_147 : decode cX1_formula 147 = .ok (.aload_n 0, 1) := by decide +kernel
theorem dX1_formula_148 : decode cX1_formula 148 = .ok (.getfield 37, 3) := by decide +kernel
theorem dX1_formula_151 : decode cX1_formula 151 = .ok (.new 108, 3) := by decide +kernel
theorem dX1_formula_154 : decode cX1_formula 154 = .ok (.dup, 1) := by decide +kernel
theorem dX1_formula_155 : decode cX1_formula 155 = .ok (.iload_n 2, 1) := by decide +kernel
theorem dX1_formula_156 : decode cX1_formula 156 = .ok (.ineg, 1) := by decide +kernel
theorem dX1_formula_157 : decode cX1_formula 157 = .ok (.iload_n 3, 1) := by decide +kernel
theorem dX1_formula_158 : decode cX1_formula 158 = .ok (.ineg, 1) := by decide +kernel
theorem dX1_formula_159 : decode cX1_formula 159 = .ok (.invokespecial 110, 3) := by decide +kernel
theorem dX1_formula_162 : decode cX1_formula 162 = .ok (.invokeinterface 113 2, 5) := by decide +kernel
theorem dX1_formula_167 : decode cX1_formula 167 = .ok (.pop, 1) := by decide +kernel
theorem dX1_formula_168 : decode cX1_formula 168 = .ok (.goto 65, 3) := by decide +kernel
theorem dX1_formula_171 : decode cX1_formula 171 = .ok (.aload_n 0, 1) := by decide +kernel
theorem dX1_formula_172 : decode cX1_formula 172 = .ok (.getfield 37, 3) := by decide +kernel
theorem dX1_formula_175 : decode cX1_formula 175 = .ok (.new 108, 3) := by decide +kernel
theorem dX1_formula_178 : decode cX1_formula 178 = .ok (.dup, 1) := by decide +kernel
theorem dX1_formula_179 : decode cX1_formula 179 = .ok (.iload_n 2, 1) := by decide +kernel
theorem dX1_formula_180 : decode cX1_formula 180 = .ok (.iload_n 3, 1) := by decide +kernel
theorem dX1_formula_181 : decode cX1_formula 181 = .ok (.invokespecial 110, 3) := by decide +kernel
theorem dX1_formula_184 : decode cX1_formula 184 = .ok (.invokeinterface 113 2, 5) := by decide +kernel
theorem dX1_formula_189 : decode cX1_formula 189 = .ok (.pop, 1) := by decide +kernel
theorem dX1_formula_190 : decode cX1_formula 190 = .ok (.goto 43, 3) := by decide +kernel
theorem dX1_formula_193 : decode cX1_formula 193 = .ok (.aload_n 0, 1) := by decide +kernel
theorem dX1_formula_194 : decode cX1_formula 194 = .ok (.getfield 37, 3) := by decide +kernel
theorem dX1_formula_197 : decode cX1_formula 197 = .ok (.new 108, 3) := by decide +kernel
theorem dX1_formula_200 : decode cX1_formula 200 = .ok (.dup, 1) := by decide +kernel
theorem dX1_formula_201 : decode cX1_formula 201 = .ok (.iload_n 2, 1) := by decide +kernel
theorem dX1_formula_202 : decode cX1_formula 202 = .ok (.ineg, 1) := by decide +kernel
theorem dX1_formula_203 : decode cX1_formula 203 = .ok (.iload_n 3, 1) := by decide +kernel
theorem dX1_formula_204 : decode cX1_formula 204 = .ok (.invokespecial 110, 3) := by decide +kernel
theorem dX1_formula_207 : decode cX1_formula 207 = .ok (.invokeinterface 113 2, 5) := by decide +kernel
theorem dX1_formula_212 : decode cX1_formula 212 = .ok (.pop, 1) := by decide +kernel
theorem dX1_formula_213 : decode cX1_formula 213 = .ok (.aload_n 0, 1) := by decide +kernel
theorem dX1_formula_214 : decode cX1_formula 214 = .ok (.getfield 37, 3) := by decide +kernel
theorem dX1_formula_217 : decode cX1_formula 217 = .ok (.new 108, 3) := by decide +kernel
theorem dX1_formula_220 : decode cX1_formula 220 = .ok (.dup, 1) := by decide +kernel
theorem dX1_formula_221 : decode cX1_formula 221 = .ok (.iload_n 2, 1) := by decide +kernel
theorem dX1_formula_222 : decode cX1_formula 222 = .ok (.iload_n 3, 1) := by decide +kernel
theorem dX1_formula_223 : decode cX1_formula 223 = .ok (.ineg, 1) := by decide +kernel
theorem dX1_formula_224 : decode cX1_formula 224 = .ok (.invokespecial 110, 3) := by decide +kernel
theorem dX1_formula_227 : decode cX1_formula 227 = .ok (.invokeinterface 113 2, 5) := by decide +kernel
theorem dX1_formula_232 : decode cX1_formula 232 = .ok (.pop, 1) := by decide +kernel
theorem dX1_formula_233 : decode cX1_formula 233 = .ok (.aload_n 0, 1) := by decide +kernel
theorem dX1_formula_234 : decode cX1_formula 234 = .ok (.iconst 0, 1) := by decide +kernel
theorem dX1_formula_235 : decode cX1_formula 235 = .ok (.putfield 80, 3) := by decide +kernel
theorem dX1_formula_238 : decode cX1_formula 238 = .ok (.aload_n 0, 1) := by decide +kernel
theorem dX1_formula_239 : decode cX1_formula 239 = .ok (.getfield 105, 3) := by decide +kernel
theorem dX1_formula_242 : decode cX1_formula 242 = .ok (.ireturn, 1) := by decide +kernel
abbrev cX1_isSigned : ByteArray := prog_1_method_8_code
def yX1_isSigned : MethodName := ⟨RX1, "isSigned", "(I)Z"⟩
theorem dX1_isSigned_0 : decode cX1_isSigned 0 = .ok (.iload_n 1, 1) := by decide +kernel
theorem dX1_isSigned_1 : decode cX1_isSigned 1 = .ok (.ldc 94, 2) := by decide +kernel
theorem dX1_isSigned_3 : decode cX1_isSigned 3 = .ok (.if_icmp .eq 18, 3) := by decide +kernel
theorem dX1_isSigned_6 : decode cX1_isSigned 6 = .ok (.aload_n 0, 1) := by decide +kernel
theorem dX1_isSigned_7 : decode cX1_isSigned 7 = .ok (.iload_n 1, 1) := by decide +kernel
theorem dX1_isSigned_8 : decode cX1_isSigned 8 = .ok (.invokestatic 95, 3) := by decide +kernel
theorem dX1_isSigned_11 : decode cX1_isSigned 11 = .ok (.invokevirtual 64, 3) := by decide +kernel
theorem dX1_isSigned_14 : decode cX1_isSigned 14 = .ok (.ifCond .eq 7, 3) := by decide +kernel
theorem dX1_isSigned_17 : decode cX1_isSigned 17 = .ok (.iconst 1, 1) := by decide +kernel
theorem dX1_isSigned_18 : decode cX1_isSigned 18 = .ok (.goto 4, 3) := by decide +kernel
theorem dX1_isSigned_21 : decode cX1_isSigned 21 = .ok (.iconst 0, 1) := by decide +kernel
theorem dX1_isSigned_22 : decode cX1_isSigned 22 = .ok (.ireturn, 1) := by decide +kernel
abbrev cX1_attribute : ByteArray := prog_1_method_10_code
def yX1_attribute : MethodName := ⟨RX1, "attribute", "(III)I"⟩
theorem dX1_attribute_0 : decode cX1_attribute 0 = .ok (.iload_n 1, 1) := by decide +kernel
theorem dX1_attribute_1 : decode cX1_attribute 1 = .ok (.ifCond .eq 13, 3) := by decide +kernel
theorem dX1_attribute_4 : decode cX1_attribute 4 = .ok (.aload_n 0, 1) := by decide +kernel
theorem dX1_attribute_5 : decode cX1_attribute 5 = .ok (.iload_n 1, 1) := by decide +kernel
theorem dX1_attribute_6 : decode cX1_attribute 6 = .ok (.invokevirtual 64, 3) := by decide +kernel
theorem dX1_attribute_9 : decode cX1_attribute 9 = .ok (.ifCond .ne 5, 3) := by decide +kernel
theorem dX1_attribute_12 : decode cX1_attribute 12 = .ok (.iconst (-1), 1) := by decide +kernel
theorem dX1_attribute_13 : decode cX1_attribute 13 = .ok (.ireturn, 1) := by decide +kernel
theorem dX1_attribute_14 : decode cX1_attribute 14 = .ok (.iload_n 1, 1) := by decide +kernel
theorem dX1_attribute_15 : decode cX1_attribute 15 = .ok (.ifCond .ne 9, 3) := by decide +kernel
theorem dX1_attribute_18 : decode cX1_attribute 18 = .ok (.ldc2_w 119, 3) := by decide +kernel
theorem dX1_attribute_21 : decode cX1_attribute 21 = .ok (.goto 6, 3) := by decide +kernel
theorem dX1_attribute_24 : decode cX1_attribute 24 = .ok (.ldc2_w 121, 3) := by decide +kernel
theorem dX1_attribute_27 : decode cX1_attribute 27 = .ok (.lstore 4, 2) := by decide +kernel
theorem dX1_attribute_29 : decode cX1_attribute 29 = .ok (.iload_n 2, 1) := by decide +kernel
theorem dX1_attribute_30 : decode cX1_attribute 30 = .ok (.i2l, 1) := by decide +kernel
theorem dX1_attribute_31 : decode cX1_attribute 31 = .ok (.lconst 0, 1) := by decide +kernel
theorem dX1_attribute_32 : decode cX1_attribute 32 = .ok (.ldc2_w 103, 3) := by decide +kernel
theorem dX1_attribute_35 : decode cX1_attribute 35 = .ok (.invokestatic 70, 3) := by decide +kernel
theorem dX1_attribute_38 : decode cX1_attribute 38 = .ok (.ifCond .eq 16, 3) := by decide +kernel
theorem dX1_attribute_41 : decode cX1_attribute 41 = .ok (.iload_n 3, 1) := by decide +kernel
theorem dX1_attribute_42 : decode cX1_attribute 42 = .ok (.i2l, 1) := by decide +kernel
theorem dX1_attribute_43 : decode cX1_attribute 43 = .ok (.lload 4, 2) := by decide +kernel
theorem dX1_attribute_45 : decode cX1_attribute 45 = .ok (.lneg, 1) := by decide +kernel
theorem dX1_attribute_46 : decode cX1_attribute 46 = .ok (.lload 4, 2) := by decide +kernel
theorem dX1_attribute_48 : decode cX1_attribute 48 = .ok (.invokestatic 70, 3) := by decide +kernel
theorem dX1_attribute_51 : decode cX1_attribute 51 = .ok (.ifCond .ne 6, 3) := by decide +kernel
theorem dX1_attribute_54 : decode cX1_attribute 54 = .ok (.bipush (-2), 2) := by decide +kernel
theorem dX1_attribute_56 : decode cX1_attribute 56 = .ok (.ireturn, 1) := by decide +kernel
theorem dX1_attribute_57 : decode cX1_attribute 57 = .ok (.iload_n 1, 1) := by decide +kernel
theorem dX1_attribute_58 : decode cX1_attribute 58 = .ok (.ifCond .ne 16, 3) := by decide +kernel
theorem dX1_attribute_61 : decode cX1_attribute 61 = .ok (.aload_n 0, 1) := by decide +kernel
theorem dX1_attribute_62 : decode cX1_attribute 62 = .ok (.getfield 26, 3) := by decide +kernel
theorem dX1_attribute_65 : decode cX1_attribute 65 = .ok (.iload_n 2, 1) := by decide +kernel
theorem dX1_attribute_66 : decode cX1_attribute 66 = .ok (.iload_n 3, 1) := by decide +kernel
theorem dX1_attribute_67 : decode cX1_attribute 67 = .ok (.invokestatic 123, 3) := by decide +kernel
theorem dX1_attribute_70 : decode cX1_attribute 70 = .ok (.aastore, 1) := by decide +kernel
theorem dX1_attribute_71 : decode cX1_attribute 71 = .ok (.goto 12, 3) := by decide +kernel
theorem dX1_attribute_74 : decode cX1_attribute 74 = .ok (.aload_n 0, 1) := by decide +kernel
theorem dX1_attribute_75 : decode cX1_attribute 75 = .ok (.getfield 21, 3) := by decide +kernel
theorem dX1_attribute_78 : decode cX1_attribute 78 = .ok (.iload_n 2, 1) := by decide +kernel
theorem dX1_attribute_79 : decode cX1_attribute 79 = .ok (.aaload, 1) := by decide +kernel
theorem dX1_attribute_80 : decode cX1_attribute 80 = .ok (.iload_n 1, 1) := by decide +kernel
theorem dX1_attribute_81 : decode cX1_attribute 81 = .ok (.iload_n 3, 1) := by decide +kernel
theorem dX1_attribute_82 : decode cX1_attribute 82 = .ok (.iastore, 1) := by decide +kernel
theorem dX1_attribute_83 : decode cX1_attribute 83 = .ok (.aload_n 0, 1) := by decide +kernel
theorem dX1_attribute_84 : decode cX1_attribute 84 = .ok (.iconst 0, 1) := by decide +kernel
theorem dX1_attribute_85 : decode cX1_attribute 85 = .ok (.putfield 80, 3) := by decide +kernel
theorem dX1_attribute_88 : decode cX1_attribute 88 = .ok (.iconst 1, 1) := by decide +kernel
theorem dX1_attribute_89 : decode cX1_attribute 89 = .ok (.ireturn, 1) := by decide +kernel
abbrev cX1_choose : ByteArray := prog_1_method_11_code
def yX1_choose : MethodName := ⟨RX1, "choose", "(IZ)I"⟩
theorem dX1_choose_0 : decode cX1_choose 0 = .ok (.aload_n 0, 1) := by decide +kernel
theorem dX1_choose_1 : decode cX1_choose 1 = .ok (.iload_n 1, 1) := by decide +kernel
theorem dX1_choose_2 : decode cX1_choose 2 = .ok (.invokevirtual 100, 3) := by decide +kernel
theorem dX1_choose_5 : decode cX1_choose 5 = .ok (.ifCond .ne 5, 3) := by decide +kernel
theorem dX1_choose_8 : decode cX1_choose 8 = .ok (.iconst (-1), 1) := by decide +kernel
theorem dX1_choose_9 : decode cX1_choose 9 = .ok (.ireturn, 1) := by decide +kernel
theorem dX1_choose_10 : decode cX1_choose 10 = .ok (.aload_n 0, 1) := by decide +kernel
theorem dX1_choose_11 : decode cX1_choose 11 = .ok (.getfield 44, 3) := by decide +kernel
theorem dX1_choose_14 : decode cX1_choose 14 = .ok (.iload_n 1, 1) := by decide +kernel
theorem dX1_choose_15 : decode cX1_choose 15 = .ok (.invokestatic 95, 3) := by decide +kernel
theorem dX1_choose_18 : decode cX1_choose 18 = .ok (.invokestatic 123, 3) := by decide +kernel
theorem dX1_choose_21 : decode cX1_choose 21 = .ok (.invokevirtual 127, 3) := by decide +kernel
theorem dX1_choose_24 : decode cX1_choose 24 = .ok (.pop, 1) := by decide +kernel
theorem dX1_choose_25 : decode cX1_choose 25 = .ok (.iload_n 1, 1) := by decide +kernel
theorem dX1_choose_26 : decode cX1_choose 26 = .ok (.ifCond .le 19, 3) := by decide +kernel
theorem dX1_choose_29 : decode cX1_choose 29 = .ok (.aload_n 0, 1) := by decide +kernel
theorem dX1_choose_30 : decode cX1_choose 30 = .ok (.getfield 44, 3) := by decide +kernel
theorem dX1_choose_33 : decode cX1_choose 33 = .ok (.iload_n 1, 1) := by decide +kernel
theorem dX1_choose_34 : decode cX1_choose 34 = .ok (.invokestatic 123, 3) := by decide +kernel
theorem dX1_choose_37 : decode cX1_choose 37 = .ok (.iload_n 2, 1) := by decide +kernel
theorem dX1_choose_38 : decode cX1_choose 38 = .ok (.invokestatic 131, 3) := by decide +kernel
theorem dX1_choose_41 : decode cX1_choose 41 = .ok (.invokevirtual 136, 3) := by decide +kernel
theorem dX1_choose_44 : decode cX1_choose 44 = .ok (.pop, 1) := by decide +kernel
theorem dX1_choose_45 : decode cX1_choose 45 = .ok (.aload_n 0, 1) := by decide +kernel
theorem dX1_choose_46 : decode cX1_choose 46 = .ok (.getfield 44, 3) := by decide +kernel
theorem dX1_choose_49 : decode cX1_choose 49 = .ok (.invokevirtual 140, 3) := by decide +kernel
theorem dX1_choose_52 : decode cX1_choose 52 = .ok (.ireturn, 1) := by decide +kernel
abbrev cX1_make : ByteArray := prog_1_method_12_code
def yX1_make : MethodName := ⟨RX1, "make", "()V"⟩
theorem dX1_make_0 : decode cX1_make 0 = .ok (.aload_n 0, 1) := by decide +kernel
theorem dX1_make_1 : decode cX1_make 1 = .ok (.getfield 80, 3) := by decide +kernel
theorem dX1_make_4 : decode cX1_make 4 = .ok (.ifCond .eq 4, 3) := by decide +kernel
theorem dX1_make_7 : decode cX1_make 7 = .ok (.return_, 1) := by decide +kernel
theorem dX1_make_8 : decode cX1_make 8 = .ok (.aload_n 0, 1) := by decide +kernel
theorem dX1_make_9 : decode cX1_make 9 = .ok (.iconst 1, 1) := by decide +kernel
theorem dX1_make_10 : decode cX1_make 10 = .ok (.putfield 80, 3) := by decide +kernel
theorem dX1_make_13 : decode cX1_make 13 = .ok (.aload_n 0, 1) := by decide +kernel
theorem dX1_make_14 : decode cX1_make 14 = .ok (.getfield 48, 3) := by decide +kernel
theorem dX1_make_17 : decode cX1_make 17 = .ok (.invokeinterface 144 1, 5) := by decide +kernel
theorem dX1_make_22 : decode cX1_make 22 = .ok (.iconst 2, 1) := by decide +kernel
theorem dX1_make_23 : decode cX1_make 23 = .ok (.istore_n 1, 1) := by decide +kernel
theorem dX1_make_24 : decode cX1_make 24 = .ok (.iload_n 1, 1) := by decide +kernel
theorem dX1_make_25 : decode cX1_make 25 = .ok (.aload_n 0, 1) := by decide +kernel
theorem dX1_make_26 : decode cX1_make 26 = .ok (.getfield 61, 3) := by decide +kernel
theorem dX1_make_29 : decode cX1_make 29 = .ok (.if_icmp .gt 68, 3) := by decide +kernel
theorem dX1_make_32 : decode cX1_make 32 = .ok (.aload_n 0, 1) := by decide +kernel
theorem dX1_make_33 : decode cX1_make 33 = .ok (.getfield 48, 3) := by decide +kernel
theorem dX1_make_36 : decode cX1_make 36 = .ok (.new 108, 3) := by decide +kernel
theorem dX1_make_39 : decode cX1_make 39 = .ok (.dup, 1) := by decide +kernel
theorem dX1_make_40 : decode cX1_make 40 = .ok (.iload_n 1, 1) := by decide +kernel
theorem dX1_make_41 : decode cX1_make 41 = .ok (.ineg, 1) := by decide +kernel
theorem dX1_make_42 : decode cX1_make 42 = .ok (.aload_n 0, 1) := by decide +kernel
theorem dX1_make_43 : decode cX1_make 43 = .ok (.getfield 7, 3) := by decide +kernel
theorem dX1_make_46 : decode cX1_make 46 = .ok (.iload_n 1, 1) := by decide +kernel
theorem dX1_make_47 : decode cX1_make 47 = .ok (.iaload, 1) := by decide +kernel
theorem dX1_make_48 : decode cX1_make 48 = .ok (.invokespecial 110, 3) := by decide +kernel
theorem dX1_make_51 : decode cX1_make 51 = .ok (.invokeinterface 113 2, 5) := by decide +kernel
theorem dX1_make_56 : decode cX1_make 56 = .ok (.pop, 1) := by decide +kernel
theorem dX1_make_57 : decode cX1_make 57 = .ok (.aload_n 0, 1) := by decide +kernel
theorem dX1_make_58 : decode cX1_make 58 = .ok (.getfield 13, 3) := by decide +kernel
theorem dX1_make_61 : decode cX1_make 61 = .ok (.iload_n 1, 1) := by decide +kernel
theorem dX1_make_62 : decode cX1_make 62 = .ok (.iaload, 1) := by decide +kernel
theorem dX1_make_63 : decode cX1_make 63 = .ok (.ifCond .ne 28, 3) := by decide +kernel
theorem dX1_make_66 : decode cX1_make 66 = .ok (.aload_n 0, 1) := by decide +kernel
theorem dX1_make_67 : decode cX1_make 67 = .ok (.getfield 48, 3) := by decide +kernel
theorem dX1_make_70 : decode cX1_make 70 = .ok (.new 108, 3) := by decide +kernel
theorem dX1_make_73 : decode cX1_make 73 = .ok (.dup, 1) := by decide +kernel
theorem dX1_make_74 : decode cX1_make 74 = .ok (.aload_n 0, 1) := by decide +kernel
theorem dX1_make_75 : decode cX1_make 75 = .ok (.getfield 7, 3) := by decide +kernel
theorem dX1_make_78 : decode cX1_make 78 = .ok (.iload_n 1, 1) := by decide +kernel
theorem dX1_make_79 : decode cX1_make 79 = .ok (.iaload, 1) := by decide +kernel
theorem dX1_make_80 : decode cX1_make 80 = .ok (.ineg, 1) := by decide +kernel
theorem dX1_make_81 : decode cX1_make 81 = .ok (.iload_n 1, 1) := by decide +kernel
theorem dX1_make_82 : decode cX1_make 82 = .ok (.invokespecial 110, 3) := by decide +kernel
theorem dX1_make_85 : decode cX1_make 85 = .ok (.invokeinterface 113 2, 5) := by decide +kernel
theorem dX1_make_90 : decode cX1_make 90 = .ok (.pop, 1) := by decide +kernel
theorem dX1_make_91 : decode cX1_make 91 = .ok (.iinc 1 1, 3) := by decide +kernel
theorem dX1_make_94 : decode cX1_make 94 = .ok (.goto (-70), 3) := by decide +kernel
theorem dX1_make_97 : decode cX1_make 97 = .ok (.iconst 1, 1) := by decide +kernel
theorem dX1_make_98 : decode cX1_make 98 = .ok (.istore_n 1, 1) := by decide +kernel
theorem dX1_make_99 : decode cX1_make 99 = .ok (.iload_n 1, 1) := by decide +kernel
theorem dX1_make_100 : decode cX1_make 100 = .ok (.aload_n 0, 1) := by decide +kernel
theorem dX1_make_101 : decode cX1_make 101 = .ok (.getfield 61, 3) := by decide +kernel
theorem dX1_make_104 : decode cX1_make 104 = .ok (.if_icmp .gt 60, 3) := by decide +kernel
theorem dX1_make_107 : decode cX1_make 107 = .ok (.aload_n 0, 1) := by decide +kernel
theorem dX1_make_108 : decode cX1_make 108 = .ok (.getfield 31, 3) := by decide +kernel
theorem dX1_make_111 : decode cX1_make 111 = .ok (.iload_n 1, 1) := by decide +kernel
theorem dX1_make_112 : decode cX1_make 112 = .ok (.aaload, 1) := by decide +kernel
theorem dX1_make_113 : decode cX1_make 113 = .ok (.ifnull 45, 3) := by decide +kernel
theorem dX1_make_116 : decode cX1_make 116 = .ok (.aload_n 0, 1) := by decide +kernel
theorem dX1_make_117 : decode cX1_make 117 = .ok (.getfield 48, 3) := by decide +kernel
theorem dX1_make_120 : decode cX1_make 120 = .ok (.new 147, 3) := by decide +kernel
theorem dX1_make_123 : decode cX1_make 123 = .ok (.dup, 1) := by decide +kernel
theorem dX1_make_124 : decode cX1_make 124 = .ok (.iload_n 1, 1) := by decide +kernel
theorem dX1_make_125 : decode cX1_make 125 = .ok (.invokestatic 84, 3) := by decide +kernel
theorem dX1_make_128 : decode cX1_make 128 = .ok (.aload_n 0, 1) := by decide +kernel
theorem dX1_make_129 : decode cX1_make 129 = .ok (.iload_n 1, 1) := by decide +kernel
theorem dX1_make_130 : decode cX1_make 130 = .ok (.invokevirtual 88, 3) := by decide +kernel
theorem dX1_make_133 : decode cX1_make 133 = .ok (.aload_n 0, 1) := by decide +kernel
theorem dX1_make_134 : decode cX1_make 134 = .ok (.getfield 31, 3) := by decide +kernel
theorem dX1_make_137 : decode cX1_make 137 = .ok (.iload_n 1, 1) := by decide +kernel
theorem dX1_make_138 : decode cX1_make 138 = .ok (.aaload, 1) := by decide +kernel
theorem dX1_make_139 : decode cX1_make 139 = .ok (.iconst 0, 1) := by decide +kernel
theorem dX1_make_140 : decode cX1_make 140 = .ok (.iaload, 1) := by decide +kernel
theorem dX1_make_141 : decode cX1_make 141 = .ok (.aload_n 0, 1) := by decide +kernel
theorem dX1_make_142 : decode cX1_make 142 = .ok (.getfield 31, 3) := by decide +kernel
theorem dX1_make_145 : decode cX1_make 145 = .ok (.iload_n 1, 1) := by decide +kernel
theorem dX1_make_146 : decode cX1_make 146 = .ok (.aaload, 1) := by decide +kernel
theorem dX1_make_147 : decode cX1_make 147 = .ok (.iconst 1, 1) := by decide +kernel
theorem dX1_make_148 : decode cX1_make 148 = .ok (.iaload, 1) := by decide +kernel
theorem dX1_make_149 : decode cX1_make 149 = .ok (.invokespecial 149, 3) := by decide +kernel
theorem dX1_make_152 : decode cX1_make 152 = .ok (.invokeinterface 113 2, 5) := by decide +kernel
theorem dX1_make_157 : decode cX1_make 157 = .ok (.pop, 1) := by decide +kernel
theorem dX1_make_158 : decode cX1_make 158 = .ok (.iinc 1 1, 3) := by decide +kernel
theorem dX1_make_161 : decode cX1_make 161 = .ok (.goto (-62), 3) := by decide +kernel
theorem dX1_make_164 : decode cX1_make 164 = .ok (.aload_n 0, 1) := by decide +kernel
theorem dX1_make_165 : decode cX1_make 165 = .ok (.getfield 48, 3) := by decide +kernel
theorem dX1_make_168 : decode cX1_make 168 = .ok (.aload_n 0, 1) := by decide +kernel
theorem dX1_make_169 : decode cX1_make 169 = .ok (.getfield 37, 3) := by decide +kernel
theorem dX1_make_172 : decode cX1_make 172 = .ok (.invokeinterface 152 2, 5) := by decide +kernel
theorem dX1_make_177 : decode cX1_make 177 = .ok (.pop, 1) := by decide +kernel
theorem dX1_make_178 : decode cX1_make 178 = .ok (.iconst 0, 1) := by decide +kernel
theorem dX1_make_179 : decode cX1_make 179 = .ok (.istore_n 1, 1) := by decide +kernel
theorem dX1_make_180 : decode cX1_make 180 = .ok (.iload_n 1, 1) := by decide +kernel
theorem dX1_make_181 : decode cX1_make 181 = .ok (.iconst 4, 1) := by decide +kernel
theorem dX1_make_182 : decode cX1_make 182 = .ok (.if_icmp .ge 50, 3) := by decide +kernel
theorem dX1_make_185 : decode cX1_make 185 = .ok (.aload_n 0, 1) := by decide +kernel
theorem dX1_make_186 : decode cX1_make 186 = .ok (.getfield 26, 3) := by decide +kernel
theorem dX1_make_189 : decode cX1_make 189 = .ok (.iload_n 1, 1) := by decide +kernel
theorem dX1_make_190 : decode cX1_make 190 = .ok (.aaload, 1) := by decide +kernel
theorem dX1_make_191 : decode cX1_make 191 = .ok (.ifnull 35, 3) := by decide +kernel
theorem dX1_make_194 : decode cX1_make 194 = .ok (.aload_n 0, 1) := by decide +kernel
theorem dX1_make_195 : decode cX1_make 195 = .ok (.getfield 48, 3) := by decide +kernel
theorem dX1_make_198 : decode cX1_make 198 = .ok (.new 156, 3) := by decide +kernel
theorem dX1_make_201 : decode cX1_make 201 = .ok (.dup, 1) := by decide +kernel
theorem dX1_make_202 : decode cX1_make 202 = .ok (.aload_n 0, 1) := by decide +kernel
theorem dX1_make_203 : decode cX1_make 203 = .ok (.getfield 26, 3) := by decide +kernel
theorem dX1_make_206 : decode cX1_make 206 = .ok (.iload_n 1, 1) := by decide +kernel
theorem dX1_make_207 : decode cX1_make 207 = .ok (.aaload, 1) := by decide +kernel
theorem dX1_make_208 : decode cX1_make 208 = .ok (.invokevirtual 158, 3) := by decide +kernel
theorem dX1_make_211 : decode cX1_make 211 = .ok (.aload_n 0, 1) := by decide +kernel
theorem dX1_make_212 : decode cX1_make 212 = .ok (.getfield 21, 3) := by decide +kernel
theorem dX1_make_215 : decode cX1_make 215 = .ok (.iload_n 1, 1) := by decide +kernel
theorem dX1_make_216 : decode cX1_make 216 = .ok (.aaload, 1) := by decide +kernel
theorem dX1_make_217 : decode cX1_make 217 = .ok (.invokespecial 161, 3) := by decide +kernel
theorem dX1_make_220 : decode cX1_make 220 = .ok (.invokeinterface 113 2, 5) := by decide +kernel
theorem dX1_make_225 : decode cX1_make 225 = .ok (.pop, 1) := by decide +kernel
theorem dX1_make_226 : decode cX1_make 226 = .ok (.iinc 1 1, 3) := by decide +kernel
theorem dX1_make_229 : decode cX1_make 229 = .ok (.goto (-49), 3) := by decide +kernel
theorem dX1_make_232 : decode cX1_make 232 = .ok (.return_, 1) := by decide +kernel
abbrev cX1_all : ByteArray := prog_1_method_13_code
def yX1_all : MethodName := ⟨RX1, "all", "()I"⟩
theorem dX1_all_0 : decode cX1_all 0 = .ok (.iconst 1, 1) := by decide +kernel
theorem dX1_all_1 : decode cX1_all 1 = .ok (.aload_n 0, 1) := by decide +kernel
theorem dX1_all_2 : decode cX1_all 2 = .ok (.getfield 61, 3) := by decide +kernel
theorem dX1_all_5 : decode cX1_all 5 = .ok (.ishl, 1) := by decide +kernel
theorem dX1_all_6 : decode cX1_all 6 = .ok (.iconst 1, 1) := by decide +kernel
theorem dX1_all_7 : decode cX1_all 7 = .ok (.isub, 1) := by decide +kernel
theorem dX1_all_8 : decode cX1_all 8 = .ok (.ireturn, 1) := by decide +kernel
abbrev cX1_chosen : ByteArray := prog_1_method_19_code
def yX1_chosen : MethodName := ⟨RX1, "chosen", "(I)Z"⟩
theorem dX1_chosen_0 : decode cX1_chosen 0 = .ok (.aload_n 0, 1) := by decide +kernel
theorem dX1_chosen_1 : decode cX1_chosen 1 = .ok (.iload_n 1, 1) := by decide +kernel
theorem dX1_chosen_2 : decode cX1_chosen 2 = .ok (.invokevirtual 64, 3) := by decide +kernel
theorem dX1_chosen_5 : decode cX1_chosen 5 = .ok (.ifCond .eq 26, 3) := by decide +kernel
theorem dX1_chosen_8 : decode cX1_chosen 8 = .ok (.aload_n 0, 1) := by decide +kernel
theorem dX1_chosen_9 : decode cX1_chosen 9 = .ok (.getfield 54, 3) := by decide +kernel
theorem dX1_chosen_12 : decode cX1_chosen 12 = .ok (.ifCond .lt 19, 3) := by decide +kernel
theorem dX1_chosen_15 : decode cX1_chosen 15 = .ok (.aload_n 0, 1) := by decide +kernel
theorem dX1_chosen_16 : decode cX1_chosen 16 = .ok (.getfield 54, 3) := by decide +kernel
theorem dX1_chosen_19 : decode cX1_chosen 19 = .ok (.iload_n 1, 1) := by decide +kernel
theorem dX1_chosen_20 : decode cX1_chosen 20 = .ok (.invokestatic 84, 3) := by decide +kernel
theorem dX1_chosen_23 : decode cX1_chosen 23 = .ok (.iand, 1) := by decide +kernel
theorem dX1_chosen_24 : decode cX1_chosen 24 = .ok (.ifCond .eq 7, 3) := by decide +kernel
theorem dX1_chosen_27 : decode cX1_chosen 27 = .ok (.iconst 1, 1) := by decide +kernel
theorem dX1_chosen_28 : decode cX1_chosen 28 = .ok (.goto 4, 3) := by decide +kernel
theorem dX1_chosen_31 : decode cX1_chosen 31 = .ok (.iconst 0, 1) := by decide +kernel
theorem dX1_chosen_32 : decode cX1_chosen 32 = .ok (.ireturn, 1) := by decide +kernel
abbrev cX1_why : ByteArray := prog_1_method_20_code
def yX1_why : MethodName := ⟨RX1, "why", "(I)I"⟩
theorem dX1_why_0 : decode cX1_why 0 = .ok (.iload_n 1, 1) := by decide +kernel
theorem dX1_why_1 : decode cX1_why 1 = .ok (.ifCond .lt 16, 3) := by decide +kernel
theorem dX1_why_4 : decode cX1_why 4 = .ok (.iload_n 1, 1) := by decide +kernel
theorem dX1_why_5 : decode cX1_why 5 = .ok (.aload_n 0, 1) := by decide +kernel
theorem dX1_why_6 : decode cX1_why 6 = .ok (.getfield 58, 3) := by decide +kernel
theorem dX1_why_9 : decode cX1_why 9 = .ok (.invokeinterface 164 1, 5) := by decide +kernel
theorem dX1_why_14 : decode cX1_why 14 = .ok (.if_icmp .lt 7, 3) := by decide +kernel
theorem dX1_why_17 : decode cX1_why 17 = .ok (.iconst 0, 1) := by decide +kernel
theorem dX1_why_18 : decode cX1_why 18 = .ok (.goto 19, 3) := by decide +kernel
theorem dX1_why_21 : decode cX1_why 21 = .ok (.aload_n 0, 1) := by decide +kernel
theorem dX1_why_22 : decode cX1_why 22 = .ok (.getfield 58, 3) := by decide +kernel
theorem dX1_why_25 : decode cX1_why 25 = .ok (.iload_n 1, 1) := by decide +kernel
theorem dX1_why_26 : decode cX1_why 26 = .ok (.invokeinterface 165 2, 5) := by decide +kernel
theorem dX1_why_31 : decode cX1_why 31 = .ok (.checkcast 24, 3) := by decide +kernel
theorem dX1_why_34 : decode cX1_why 34 = .ok (.invokevirtual 158, 3) := by decide +kernel
theorem dX1_why_37 : decode cX1_why 37 = .ok (.ireturn, 1) := by decide +kernel
