set_option maxRecDepth 100000
abbrev cX2_init : ByteArray := prog_7_method_1_code
def yX2_init : MethodName := ⟨RX2, "<init>", "()V"⟩
theorem dX2_init_0 : decode cX2_init 0 = .ok (.aload_n 0, 1) := by decide +kernel
theorem dX2_init_1 : decode cX2_init 1 = .ok (.invokespecial 1, 3) := by decide +kernel
theorem dX2_init_4 : decode cX2_init 4 = .ok (.aload_n 0, 1) := by decide +kernel
theorem dX2_init_5 : decode cX2_init 5 = .ok (.bipush 15, 2) := by decide +kernel
theorem dX2_init_7 : decode cX2_init 7 = .ok (.newarray .int, 2) := by decide +kernel
theorem dX2_init_9 : decode cX2_init 9 = .ok (.putfield 7, 3) := by decide +kernel
theorem dX2_init_12 : decode cX2_init 12 = .ok (.aload_n 0, 1) := by decide +kernel
theorem dX2_init_13 : decode cX2_init 13 = .ok (.bipush 15, 2) := by decide +kernel
theorem dX2_init_15 : decode cX2_init 15 = .ok (.newarray .int, 2) := by decide +kernel
theorem dX2_init_17 : decode cX2_init 17 = .ok (.putfield 13, 3) := by decide +kernel
theorem dX2_init_20 : decode cX2_init 20 = .ok (.aload_n 0, 1) := by decide +kernel
theorem dX2_init_21 : decode cX2_init 21 = .ok (.bipush 15, 2) := by decide +kernel
theorem dX2_init_23 : decode cX2_init 23 = .ok (.newarray .boolean, 2) := by decide +kernel
theorem dX2_init_25 : decode cX2_init 25 = .ok (.putfield 16, 3) := by decide +kernel
theorem dX2_init_28 : decode cX2_init 28 = .ok (.aload_n 0, 1) := by decide +kernel
theorem dX2_init_29 : decode cX2_init 29 = .ok (.bipush 15, 2) := by decide +kernel
theorem dX2_init_31 : decode cX2_init 31 = .ok (.newarray .int, 2) := by decide +kernel
theorem dX2_init_33 : decode cX2_init 33 = .ok (.putfield 20, 3) := by decide +kernel
theorem dX2_init_36 : decode cX2_init 36 = .ok (.aload_n 0, 1) := by decide +kernel
theorem dX2_init_37 : decode cX2_init 37 = .ok (.bipush 15, 2) := by decide +kernel
theorem dX2_init_39 : decode cX2_init 39 = .ok (.newarray .int, 2) := by decide +kernel
theorem dX2_init_41 : decode cX2_init 41 = .ok (.putfield 23, 3) := by decide +kernel
theorem dX2_init_44 : decode cX2_init 44 = .ok (.aload_n 0, 1) := by decide +kernel
theorem dX2_init_45 : decode cX2_init 45 = .ok (.bipush 60, 2) := by decide +kernel
theorem dX2_init_47 : decode cX2_init 47 = .ok (.newarray .int, 2) := by decide +kernel
theorem dX2_init_49 : decode cX2_init 49 = .ok (.putfield 26, 3) := by decide +kernel
theorem dX2_init_52 : decode cX2_init 52 = .ok (.aload_n 0, 1) := by decide +kernel
theorem dX2_init_53 : decode cX2_init 53 = .ok (.bipush 40, 2) := by decide +kernel
theorem dX2_init_55 : decode cX2_init 55 = .ok (.newarray .int, 2) := by decide +kernel
theorem dX2_init_57 : decode cX2_init 57 = .ok (.putfield 29, 3) := by decide +kernel
theorem dX2_init_60 : decode cX2_init 60 = .ok (.aload_n 0, 1) := by decide +kernel
theorem dX2_init_61 : decode cX2_init 61 = .ok (.bipush 40, 2) := by decide +kernel
theorem dX2_init_63 : decode cX2_init 63 = .ok (.newarray .int, 2) := by decide +kernel
theorem dX2_init_65 : decode cX2_init 65 = .ok (.putfield 32, 3) := by decide +kernel
theorem dX2_init_68 : decode cX2_init 68 = .ok (.aload_n 0, 1) := by decide +kernel
theorem dX2_init_69 : decode cX2_init 69 = .ok (.bipush 40, 2) := by decide +kernel
theorem dX2_init_71 : decode cX2_init 71 = .ok (.newarray .int, 2) := by decide +kernel
theorem dX2_init_73 : decode cX2_init 73 = .ok (.putfield 35, 3) := by decide +kernel
theorem dX2_init_76 : decode cX2_init 76 = .ok (.aload_n 0, 1) := by decide +kernel
theorem dX2_init_77 : decode cX2_init 77 = .ok (.iconst 4, 1) := by decide +kernel
theorem dX2_init_78 : decode cX2_init 78 = .ok (.newarray .boolean, 2) := by decide +kernel
theorem dX2_init_80 : decode cX2_init 80 = .ok (.putfield 38, 3) := by decide +kernel
theorem dX2_init_83 : decode cX2_init 83 = .ok (.aload_n 0, 1) := by decide +kernel
theorem dX2_init_84 : decode cX2_init 84 = .ok (.iconst 4, 1) := by decide +kernel
theorem dX2_init_85 : decode cX2_init 85 = .ok (.newarray .int, 2) := by decide +kernel
theorem dX2_init_87 : decode cX2_init 87 = .ok (.putfield 41, 3) := by decide +kernel
theorem dX2_init_90 : decode cX2_init 90 = .ok (.aload_n 0, 1) := by decide +kernel
theorem dX2_init_91 : decode cX2_init 91 = .ok (.bipush 14, 2) := by decide +kernel
theorem dX2_init_93 : decode cX2_init 93 = .ok (.newarray .int, 2) := by decide +kernel
theorem dX2_init_95 : decode cX2_init 95 = .ok (.putfield 44, 3) := by decide +kernel
theorem dX2_init_98 : decode cX2_init 98 = .ok (.aload_n 0, 1) := by decide +kernel
theorem dX2_init_99 : decode cX2_init 99 = .ok (.sipush 16384, 3) := by decide +kernel
theorem dX2_init_102 : decode cX2_init 102 = .ok (.newarray .int, 2) := by decide +kernel
theorem dX2_init_104 : decode cX2_init 104 = .ok (.putfield 47, 3) := by decide +kernel
theorem dX2_init_107 : decode cX2_init 107 = .ok (.aload_n 0, 1) := by decide +kernel
theorem dX2_init_108 : decode cX2_init 108 = .ok (.sipush 201, 3) := by decide +kernel
theorem dX2_init_111 : decode cX2_init 111 = .ok (.newarray .int, 2) := by decide +kernel
theorem dX2_init_113 : decode cX2_init 113 = .ok (.putfield 50, 3) := by decide +kernel
theorem dX2_init_116 : decode cX2_init 116 = .ok (.aload_n 0, 1) := by decide +kernel
theorem dX2_init_117 : decode cX2_init 117 = .ok (.sipush 201, 3) := by decide +kernel
theorem dX2_init_120 : decode cX2_init 120 = .ok (.newarray .int, 2) := by decide +kernel
theorem dX2_init_122 : decode cX2_init 122 = .ok (.putfield 53, 3) := by decide +kernel
theorem dX2_init_125 : decode cX2_init 125 = .ok (.aload_n 0, 1) := by decide +kernel
theorem dX2_init_126 : decode cX2_init 126 = .ok (.bipush 14, 2) := by decide +kernel
theorem dX2_init_128 : decode cX2_init 128 = .ok (.newarray .int, 2) := by decide +kernel
theorem dX2_init_130 : decode cX2_init 130 = .ok (.putfield 56, 3) := by decide +kernel
theorem dX2_init_133 : decode cX2_init 133 = .ok (.return_, 1) := by decide +kernel
abbrev cX2_thrown : ByteArray := prog_7_method_2_code
def yX2_thrown : MethodName := ⟨RX2, "thrown", "()I"⟩
theorem dX2_thrown_0 : decode cX2_thrown 0 = .ok (.aload_n 0, 1) := by decide +kernel
theorem dX2_thrown_1 : decode cX2_thrown 1 = .ok (.getfield 59, 3) := by decide +kernel
theorem dX2_thrown_4 : decode cX2_thrown 4 = .ok (.ireturn, 1) := by decide +kernel
abbrev cX2_feature : ByteArray := prog_7_method_4_code
def yX2_feature : MethodName := ⟨RX2, "feature", "(II)I"⟩
theorem dX2_feature_0 : decode cX2_feature 0 = .ok (.aload_n 0, 1) := by decide +kernel
theorem dX2_feature_1 : decode cX2_feature 1 = .ok (.iconst 0, 1) := by decide +kernel
theorem dX2_feature_2 : decode cX2_feature 2 = .ok (.putfield 59, 3) := by decide +kernel
theorem dX2_feature_5 : decode cX2_feature 5 = .ok (.aload_n 0, 1) := by decide +kernel
theorem dX2_feature_6 : decode cX2_feature 6 = .ok (.getfield 63, 3) := by decide +kernel
theorem dX2_feature_9 : decode cX2_feature 9 = .ok (.ifCond .ne 10, 3) := by decide +kernel
theorem dX2_feature_12 : decode cX2_feature 12 = .ok (.iload_n 1, 1) := by decide +kernel
theorem dX2_feature_13 : decode cX2_feature 13 = .ok (.ifCond .eq 16, 3) := by decide +kernel
theorem dX2_feature_16 : decode cX2_feature 16 = .ok (.goto 11, 3) := by decide +kernel
theorem dX2_feature_19 : decode cX2_feature 19 = .ok (.aload_n 0, 1) := by decide +kernel
theorem dX2_feature_20 : decode cX2_feature 20 = .ok (.iload_n 1, 1) := by decide +kernel
theorem dX2_feature_21 : decode cX2_feature 21 = .ok (.invokevirtual 66, 3) := by decide +kernel
theorem dX2_feature_24 : decode cX2_feature 24 = .ok (.ifCond .ne 5, 3) := by decide +kernel
theorem dX2_feature_27 : decode cX2_feature 27 = .ok (.iconst (-1), 1) := by decide +kernel
theorem dX2_feature_28 : decode cX2_feature 28 = .ok (.ireturn, 1) := by decide +kernel
theorem dX2_feature_29 : decode cX2_feature 29 = .ok (.iload_n 2, 1) := by decide +kernel
theorem dX2_feature_30 : decode cX2_feature 30 = .ok (.ifCond .lt 8, 3) := by decide +kernel
theorem dX2_feature_33 : decode cX2_feature 33 = .ok (.iload_n 2, 1) := by decide +kernel
theorem dX2_feature_34 : decode cX2_feature 34 = .ok (.iconst 2, 1) := by decide +kernel
theorem dX2_feature_35 : decode cX2_feature 35 = .ok (.if_icmp .le 6, 3) := by decide +kernel
theorem dX2_feature_38 : decode cX2_feature 38 = .ok (.bipush (-2), 2) := by decide +kernel
theorem dX2_feature_40 : decode cX2_feature 40 = .ok (.ireturn, 1) := by decide +kernel
theorem dX2_feature_41 : decode cX2_feature 41 = .ok (.aload_n 0, 1) := by decide +kernel
theorem dX2_feature_42 : decode cX2_feature 42 = .ok (.getfield 63, 3) := by decide +kernel
theorem dX2_feature_45 : decode cX2_feature 45 = .ok (.bipush 14, 2) := by decide +kernel
theorem dX2_feature_47 : decode cX2_feature 47 = .ok (.if_icmp .ne 6, 3) := by decide +kernel
theorem dX2_feature_50 : decode cX2_feature 50 = .ok (.bipush (-4), 2) := by decide +kernel
theorem dX2_feature_52 : decode cX2_feature 52 = .ok (.ireturn, 1) := by decide +kernel
theorem dX2_feature_53 : decode cX2_feature 53 = .ok (.aload_n 0, 1) := by decide +kernel
theorem dX2_feature_54 : decode cX2_feature 54 = .ok (.dup, 1) := by decide +kernel
theorem dX2_feature_55 : decode cX2_feature 55 = .ok (.getfield 63, 3) := by decide +kernel
theorem dX2_feature_58 : decode cX2_feature 58 = .ok (.iconst 1, 1) := by decide +kernel
theorem dX2_feature_59 : decode cX2_feature 59 = .ok (.iadd, 1) := by decide +kernel
theorem dX2_feature_60 : decode cX2_feature 60 = .ok (.putfield 63, 3) := by decide +kernel
theorem dX2_feature_63 : decode cX2_feature 63 = .ok (.aload_n 0, 1) := by decide +kernel
theorem dX2_feature_64 : decode cX2_feature 64 = .ok (.getfield 7, 3) := by decide +kernel
theorem dX2_feature_67 : decode cX2_feature 67 = .ok (.aload_n 0, 1) := by decide +kernel
theorem dX2_feature_68 : decode cX2_feature 68 = .ok (.getfield 63, 3) := by decide +kernel
theorem dX2_feature_71 : decode cX2_feature 71 = .ok (.iload_n 1, 1) := by decide +kernel
theorem dX2_feature_72 : decode cX2_feature 72 = .ok (.iastore, 1) := by decide +kernel
theorem dX2_feature_73 : decode cX2_feature 73 = .ok (.aload_n 0, 1) := by decide +kernel
theorem dX2_feature_74 : decode cX2_feature 74 = .ok (.getfield 13, 3) := by decide +kernel
theorem dX2_feature_77 : decode cX2_feature 77 = .ok (.aload_n 0, 1) := by decide +kernel
theorem dX2_feature_78 : decode cX2_feature 78 = .ok (.getfield 63, 3) := by decide +kernel
theorem dX2_feature_81 : decode cX2_feature 81 = .ok (.iload_n 2, 1) := by decide +kernel
theorem dX2_feature_82 : decode cX2_feature 82 = .ok (.iastore, 1) := by decide +kernel
theorem dX2_feature_83 : decode cX2_feature 83 = .ok (.aload_n 0, 1) := by decide +kernel
theorem dX2_feature_84 : decode cX2_feature 84 = .ok (.iconst 0, 1) := by decide +kernel
theorem dX2_feature_85 : decode cX2_feature 85 = .ok (.putfield 70, 3) := by decide +kernel
theorem dX2_feature_88 : decode cX2_feature 88 = .ok (.aload_n 0, 1) := by decide +kernel
theorem dX2_feature_89 : decode cX2_feature 89 = .ok (.getfield 63, 3) := by decide +kernel
theorem dX2_feature_92 : decode cX2_feature 92 = .ok (.ireturn, 1) := by decide +kernel
abbrev cX2_isFeature : ByteArray := prog_7_method_3_code
def yX2_isFeature : MethodName := ⟨RX2, "isFeature", "(I)Z"⟩
theorem dX2_isFeature_0 : decode cX2_isFeature 0 = .ok (.iload_n 1, 1) := by decide +kernel
theorem dX2_isFeature_1 : decode cX2_isFeature 1 = .ok (.iconst 1, 1) := by decide +kernel
theorem dX2_isFeature_2 : decode cX2_isFeature 2 = .ok (.if_icmp .lt 15, 3) := by decide +kernel
theorem dX2_isFeature_5 : decode cX2_isFeature 5 = .ok (.iload_n 1, 1) := by decide +kernel
theorem dX2_isFeature_6 : decode cX2_isFeature 6 = .ok (.aload_n 0, 1) := by decide +kernel
theorem dX2_isFeature_7 : decode cX2_isFeature 7 = .ok (.getfield 63, 3) := by decide +kernel
theorem dX2_isFeature_10 : decode cX2_isFeature 10 = .ok (.if_icmp .gt 7, 3) := by decide +kernel
theorem dX2_isFeature_13 : decode cX2_isFeature 13 = .ok (.iconst 1, 1) := by decide +kernel
theorem dX2_isFeature_14 : decode cX2_isFeature 14 = .ok (.goto 4, 3) := by decide +kernel
theorem dX2_isFeature_17 : decode cX2_isFeature 17 = .ok (.iconst 0, 1) := by decide +kernel
theorem dX2_isFeature_18 : decode cX2_isFeature 18 = .ok (.ireturn, 1) := by decide +kernel
abbrev cX2_group : ByteArray := prog_7_method_6_code
def yX2_group : MethodName := ⟨RX2, "group", "(III)I"⟩
theorem dX2_group_0 : decode cX2_group 0 = .ok (.aload_n 0, 1) := by decide +kernel
theorem dX2_group_1 : decode cX2_group 1 = .ok (.iconst 0, 1) := by decide +kernel
theorem dX2_group_2 : decode cX2_group 2 = .ok (.putfield 59, 3) := by decide +kernel
theorem dX2_group_5 : decode cX2_group 5 = .ok (.aload_n 0, 1) := by decide +kernel
theorem dX2_group_6 : decode cX2_group 6 = .ok (.iload_n 1, 1) := by decide +kernel
theorem dX2_group_7 : decode cX2_group 7 = .ok (.invokevirtual 66, 3) := by decide +kernel
theorem dX2_group_10 : decode cX2_group 10 = .ok (.ifCond .ne 5, 3) := by decide +kernel
theorem dX2_group_13 : decode cX2_group 13 = .ok (.iconst (-1), 1) := by decide +kernel
theorem dX2_group_14 : decode cX2_group 14 = .ok (.ireturn, 1) := by decide +kernel
theorem dX2_group_15 : decode cX2_group 15 = .ok (.iload_n 2, 1) := by decide +kernel
theorem dX2_group_16 : decode cX2_group 16 = .ok (.ifCond .lt 14, 3) := by decide +kernel
theorem dX2_group_19 : decode cX2_group 19 = .ok (.iload_n 3, 1) := by decide +kernel
theorem dX2_group_20 : decode cX2_group 20 = .ok (.iload_n 2, 1) := by decide +kernel
theorem dX2_group_21 : decode cX2_group 21 = .ok (.if_icmp .lt 9, 3) := by decide +kernel
theorem dX2_group_24 : decode cX2_group 24 = .ok (.iload_n 3, 1) := by decide +kernel
theorem dX2_group_25 : decode cX2_group 25 = .ok (.bipush 14, 2) := by decide +kernel
theorem dX2_group_27 : decode cX2_group 27 = .ok (.if_icmp .le 6, 3) := by decide +kernel
theorem dX2_group_30 : decode cX2_group 30 = .ok (.bipush (-2), 2) := by decide +kernel
theorem dX2_group_32 : decode cX2_group 32 = .ok (.ireturn, 1) := by decide +kernel
theorem dX2_group_33 : decode cX2_group 33 = .ok (.aload_n 0, 1) := by decide +kernel
theorem dX2_group_34 : decode cX2_group 34 = .ok (.getfield 16, 3) := by decide +kernel
theorem dX2_group_37 : decode cX2_group 37 = .ok (.iload_n 1, 1) := by decide +kernel
theorem dX2_group_38 : decode cX2_group 38 = .ok (.iconst 1, 1) := by decide +kernel
theorem dX2_group_39 : decode cX2_group 39 = .ok (.bastore, 1) := by decide +kernel
theorem dX2_group_40 : decode cX2_group 40 = .ok (.aload_n 0, 1) := by decide +kernel
theorem dX2_group_41 : decode cX2_group 41 = .ok (.getfield 20, 3) := by decide +kernel
theorem dX2_group_44 : decode cX2_group 44 = .ok (.iload_n 1, 1) := by decide +kernel
theorem dX2_group_45 : decode cX2_group 45 = .ok (.iload_n 2, 1) := by decide +kernel
theorem dX2_group_46 : decode cX2_group 46 = .ok (.iastore, 1) := by decide +kernel
theorem dX2_group_47 : decode cX2_group 47 = .ok (.aload_n 0, 1) := by decide +kernel
theorem dX2_group_48 : decode cX2_group 48 = .ok (.getfield 23, 3) := by decide +kernel
theorem dX2_group_51 : decode cX2_group 51 = .ok (.iload_n 1, 1) := by decide +kernel
theorem dX2_group_52 : decode cX2_group 52 = .ok (.iload_n 3, 1) := by decide +kernel
theorem dX2_group_53 : decode cX2_group 53 = .ok (.iastore, 1) := by decide +kernel
theorem dX2_group_54 : decode cX2_group 54 = .ok (.aload_n 0, 1) := by decide +kernel
theorem dX2_group_55 : decode cX2_group 55 = .ok (.iconst 0, 1) := by decide +kernel
theorem dX2_group_56 : decode cX2_group 56 = .ok (.putfield 70, 3) := by decide +kernel
theorem dX2_group_59 : decode cX2_group 59 = .ok (.aload_n 0, 1) := by decide +kernel
theorem dX2_group_60 : decode cX2_group 60 = .ok (.iload_n 1, 1) := by decide +kernel
theorem dX2_group_61 : decode cX2_group 61 = .ok (.invokevirtual 74, 3) := by decide +kernel
theorem dX2_group_64 : decode cX2_group 64 = .ok (.ireturn, 1) := by decide +kernel
abbrev cX2_groupedBelow : ByteArray := prog_7_method_5_code
def yX2_groupedBelow : MethodName := ⟨RX2, "groupedBelow", "(I)I"⟩
theorem dX2_groupedBelow_0 : decode cX2_groupedBelow 0 = .ok (.iconst 0, 1) := by decide +kernel
theorem dX2_groupedBelow_1 : decode cX2_groupedBelow 1 = .ok (.istore_n 2, 1) := by decide +kernel
theorem dX2_groupedBelow_2 : decode cX2_groupedBelow 2 = .ok (.iconst 1, 1) := by decide +kernel
theorem dX2_groupedBelow_3 : decode cX2_groupedBelow 3 = .ok (.istore_n 3, 1) := by decide +kernel
theorem dX2_groupedBelow_4 : decode cX2_groupedBelow 4 = .ok (.iload_n 3, 1) := by decide +kernel
theorem dX2_groupedBelow_5 : decode cX2_groupedBelow 5 = .ok (.aload_n 0, 1) := by decide +kernel
theorem dX2_groupedBelow_6 : decode cX2_groupedBelow 6 = .ok (.getfield 63, 3) := by decide +kernel
theorem dX2_groupedBelow_9 : decode cX2_groupedBelow 9 = .ok (.if_icmp .gt 37, 3) := by decide +kernel
theorem dX2_groupedBelow_12 : decode cX2_groupedBelow 12 = .ok (.aload_n 0, 1) := by decide +kernel
theorem dX2_groupedBelow_13 : decode cX2_groupedBelow 13 = .ok (.getfield 7, 3) := by decide +kernel
theorem dX2_groupedBelow_16 : decode cX2_groupedBelow 16 = .ok (.iload_n 3, 1) := by decide +kernel
theorem dX2_groupedBelow_17 : decode cX2_groupedBelow 17 = .ok (.iaload, 1) := by decide +kernel
theorem dX2_groupedBelow_18 : decode cX2_groupedBelow 18 = .ok (.iload_n 1, 1) := by decide +kernel
theorem dX2_groupedBelow_19 : decode cX2_groupedBelow 19 = .ok (.if_icmp .ne 19, 3) := by decide +kernel
theorem dX2_groupedBelow_22 : decode cX2_groupedBelow 22 = .ok (.aload_n 0, 1) := by decide +kernel
theorem dX2_groupedBelow_23 : decode cX2_groupedBelow 23 = .ok (.getfield 13, 3) := by decide +kernel
theorem dX2_groupedBelow_26 : decode cX2_groupedBelow 26 = .ok (.iload_n 3, 1) := by decide +kernel
theorem dX2_groupedBelow_27 : decode cX2_groupedBelow 27 = .ok (.iaload, 1) := by decide +kernel
theorem dX2_groupedBelow_28 : decode cX2_groupedBelow 28 = .ok (.iconst 2, 1) := by decide +kernel
theorem dX2_groupedBelow_29 : decode cX2_groupedBelow 29 = .ok (.if_icmp .ne 9, 3) := by decide +kernel
theorem dX2_groupedBelow_32 : decode cX2_groupedBelow 32 = .ok (.iload_n 2, 1) := by decide +kernel
theorem dX2_groupedBelow_33 : decode cX2_groupedBelow 33 = .ok (.iconst 1, 1) := by decide +kernel
theorem dX2_groupedBelow_34 : decode cX2_groupedBelow 34 = .ok (.iadd, 1) := by decide +kernel
theorem dX2_groupedBelow_35 : decode cX2_groupedBelow 35 = .ok (.goto 4, 3) := by decide +kernel
theorem dX2_groupedBelow_38 : decode cX2_groupedBelow 38 = .ok (.iload_n 2, 1) := by decide +kernel
theorem dX2_groupedBelow_39 : decode cX2_groupedBelow 39 = .ok (.istore_n 2, 1) := by decide +kernel
theorem dX2_groupedBelow_40 : decode cX2_groupedBelow 40 = .ok (.iinc 3 1, 3) := by decide +kernel
theorem dX2_groupedBelow_43 : decode cX2_groupedBelow 43 = .ok (.goto (-39), 3) := by decide +kernel
theorem dX2_groupedBelow_46 : decode cX2_groupedBelow 46 = .ok (.iload_n 2, 1) := by decide +kernel
theorem dX2_groupedBelow_47 : decode cX2_groupedBelow 47 = .ok (.ireturn, 1) := by decide +kernel
abbrev cX2_formula : ByteArray := prog_7_method_8_code
def yX2_formula : MethodName := ⟨RX2, "formula", "(III)I"⟩
theorem dX2_formula_0 : decode cX2_formula 0 = .ok (.aload_n 0, 1) := by decide +kernel
theorem dX2_formula_1 : decode cX2_formula 1 = .ok (.iconst 0, 1) := by decide +kernel
theorem dX2_formula_2 : decode cX2_formula 2 = .ok (.putfield 59, 3) := by decide +kernel
theorem dX2_formula_5 : decode cX2_formula 5 = .ok (.aload_n 0, 1) := by decide +kernel
theorem dX2_formula_6 : decode cX2_formula 6 = .ok (.iload_n 2, 1) := by decide +kernel
theorem dX2_formula_7 : decode cX2_formula 7 = .ok (.invokevirtual 78, 3) := by decide +kernel
theorem dX2_formula_10 : decode cX2_formula 10 = .ok (.ifCond .eq 11, 3) := by decide +kernel
theorem dX2_formula_13 : decode cX2_formula 13 = .ok (.aload_n 0, 1) := by decide +kernel
theorem dX2_formula_14 : decode cX2_formula 14 = .ok (.iload_n 3, 1) := by decide +kernel
theorem dX2_formula_15 : decode cX2_formula 15 = .ok (.invokevirtual 78, 3) := by decide +kernel
theorem dX2_formula_18 : decode cX2_formula 18 = .ok (.ifCond .ne 5, 3) := by decide +kernel
theorem dX2_formula_21 : decode cX2_formula 21 = .ok (.iconst (-1), 1) := by decide +kernel
theorem dX2_formula_22 : decode cX2_formula 22 = .ok (.ireturn, 1) := by decide +kernel
theorem dX2_formula_23 : decode cX2_formula 23 = .ok (.iload_n 1, 1) := by decide +kernel
theorem dX2_formula_24 : decode cX2_formula 24 = .ok (.ifCond .lt 8, 3) := by decide +kernel
theorem dX2_formula_27 : decode cX2_formula 27 = .ok (.iload_n 1, 1) := by decide +kernel
theorem dX2_formula_28 : decode cX2_formula 28 = .ok (.iconst 3, 1) := by decide +kernel
theorem dX2_formula_29 : decode cX2_formula 29 = .ok (.if_icmp .le 6, 3) := by decide +kernel
theorem dX2_formula_32 : decode cX2_formula 32 = .ok (.bipush (-2), 2) := by decide +kernel
theorem dX2_formula_34 : decode cX2_formula 34 = .ok (.ireturn, 1) := by decide +kernel
theorem dX2_formula_35 : decode cX2_formula 35 = .ok (.iload_n 1, 1) := by decide +kernel
theorem dX2_formula_36 : decode cX2_formula 36 = .ok (.ifCond .eq 8, 3) := by decide +kernel
theorem dX2_formula_39 : decode cX2_formula 39 = .ok (.iload_n 1, 1) := by decide +kernel
theorem dX2_formula_40 : decode cX2_formula 40 = .ok (.iconst 3, 1) := by decide +kernel
theorem dX2_formula_41 : decode cX2_formula 41 = .ok (.if_icmp .ne 16, 3) := by decide +kernel
theorem dX2_formula_44 : decode cX2_formula 44 = .ok (.iload_n 2, 1) := by decide +kernel
theorem dX2_formula_45 : decode cX2_formula 45 = .ok (.iload_n 3, 1) := by decide +kernel
theorem dX2_formula_46 : decode cX2_formula 46 = .ok (.if_icmp .ne 7, 3) := by decide +kernel
theorem dX2_formula_49 : decode cX2_formula 49 = .ok (.iconst 1, 1) := by decide +kernel
theorem dX2_formula_50 : decode cX2_formula 50 = .ok (.goto 18, 3) := by decide +kernel
theorem dX2_formula_53 : decode cX2_formula 53 = .ok (.iconst 0, 1) := by decide +kernel
theorem dX2_formula_54 : decode cX2_formula 54 = .ok (.goto 14, 3) := by decide +kernel
theorem dX2_formula_57 : decode cX2_formula 57 = .ok (.iload_n 2, 1) := by decide +kernel
theorem dX2_formula_58 : decode cX2_formula 58 = .ok (.iload_n 3, 1) := by decide +kernel
theorem dX2_formula_59 : decode cX2_formula 59 = .ok (.ineg, 1) := by decide +kernel
theorem dX2_formula_60 : decode cX2_formula 60 = .ok (.if_icmp .ne 7, 3) := by decide +kernel
theorem dX2_formula_63 : decode cX2_formula 63 = .ok (.iconst 1, 1) := by decide +kernel
theorem dX2_formula_64 : decode cX2_formula 64 = .ok (.goto 4, 3) := by decide +kernel
theorem dX2_formula_67 : decode cX2_formula 67 = .ok (.iconst 0, 1) := by decide +kernel
theorem dX2_formula_68 : decode cX2_formula 68 = .ok (.istore 4, 2) := by decide +kernel
theorem dX2_formula_70 : decode cX2_formula 70 = .ok (.aload_n 0, 1) := by decide +kernel
theorem dX2_formula_71 : decode cX2_formula 71 = .ok (.getfield 81, 3) := by decide +kernel
theorem dX2_formula_74 : decode cX2_formula 74 = .ok (.bipush 40, 2) := by decide +kernel
theorem dX2_formula_76 : decode cX2_formula 76 = .ok (.if_icmp .ne 6, 3) := by decide +kernel
theorem dX2_formula_79 : decode cX2_formula 79 = .ok (.bipush (-4), 2) := by decide +kernel
theorem dX2_formula_81 : decode cX2_formula 81 = .ok (.ireturn, 1) := by decide +kernel
theorem dX2_formula_82 : decode cX2_formula 82 = .ok (.iload 4, 2) := by decide +kernel
theorem dX2_formula_84 : decode cX2_formula 84 = .ok (.ifCond .eq 5, 3) := by decide +kernel
theorem dX2_formula_87 : decode cX2_formula 87 = .ok (.iconst 0, 1) := by decide +kernel
theorem dX2_formula_88 : decode cX2_formula 88 = .ok (.ireturn, 1) := by decide +kernel
theorem dX2_formula_89 : decode cX2_formula 89 = .ok (.aload_n 0, 1) := by decide +kernel
theorem dX2_formula_90 : decode cX2_formula 90 = .ok (.getfield 29, 3) := by decide +kernel
theorem dX2_formula_93 : decode cX2_formula 93 = .ok (.aload_n 0, 1) := by decide +kernel
theorem dX2_formula_94 : decode cX2_formula 94 = .ok (.getfield 81, 3) := by decide +kernel
theorem dX2_formula_97 : decode cX2_formula 97 = .ok (.iload_n 1, 1) := by decide +kernel
theorem dX2_formula_98 : decode cX2_formula 98 = .ok (.iastore, 1) := by decide +kernel
theorem dX2_formula_99 : decode cX2_formula 99 = .ok (.aload_n 0, 1) := by decide +kernel
theorem dX2_formula_100 : decode cX2_formula 100 = .ok (.getfield 32, 3) := by decide +kernel
theorem dX2_formula_103 : decode cX2_formula 103 = .ok (.aload_n 0, 1) := by decide +kernel
theorem dX2_formula_104 : decode cX2_formula 104 = .ok (.getfield 81, 3) := by decide +kernel
theorem dX2_formula_107 : decode cX2_formula 107 = .ok (.iload_n 2, 1) := by decide +kernel
theorem dX2_formula_108 : decode cX2_formula 108 = .ok (.iastore, 1) := by decide +kernel
theorem dX2_formula_109 : decode cX2_formula 109 = .ok (.aload_n 0, 1) := by decide +kernel
theorem dX2_formula_110 : decode cX2_formula 110 = .ok (.getfield 35, 3) := by decide +kernel
theorem dX2_formula_113 : decode cX2_formula 113 = .ok (.aload_n 0, 1) := by decide +kernel
theorem dX2_formula_114 : decode cX2_formula 114 = .ok (.getfield 81, 3) := by decide +kernel
theorem dX2_formula_117 : decode cX2_formula 117 = .ok (.iload_n 3, 1) := by decide +kernel
theorem dX2_formula_118 : decode cX2_formula 118 = .ok (.iastore, 1) := by decide +kernel
theorem dX2_formula_119 : decode cX2_formula 119 = .ok (.aload_n 0, 1) := by decide +kernel
theorem dX2_formula_120 : decode cX2_formula 120 = .ok (.dup, 1) := by decide +kernel
theorem dX2_formula_121 : decode cX2_formula 121 = .ok (.getfield 81, 3) := by decide +kernel
theorem dX2_formula_124 : decode cX2_formula 124 = .ok (.iconst 1, 1) := by decide +kernel
theorem dX2_formula_125 : decode cX2_formula 125 = .ok (.iadd, 1) := by decide +kernel
theorem dX2_formula_126 : decode cX2_formula 126 = .ok (.putfield 81, 3) := by decide +kernel
theorem dX2_formula_129 : decode cX2_formula 129 = .ok (.aload_n 0, 1) := by decide +kernel
theorem dX2_formula_130 : decode cX2_formula 130 = .ok (.iconst 0, 1) := by decide +kernel
theorem dX2_formula_131 : decode cX2_formula 131 = .ok (.putfield 70, 3) := by decide +kernel
theorem dX2_formula_134 : decode cX2_formula 134 = .ok (.aload_n 0, 1) := by decide +kernel
theorem dX2_formula_135 : decode cX2_formula 135 = .ok (.getfield 81, 3) := by decide +kernel
theorem dX2_formula_138 : decode cX2_formula 138 = .ok (.ireturn, 1) := by decide +kernel
abbrev cX2_isLiteral : ByteArray := prog_7_method_7_code
def yX2_isLiteral : MethodName := ⟨RX2, "isLiteral", "(I)Z"⟩
theorem dX2_isLiteral_0 : decode cX2_isLiteral 0 = .ok (.aload_n 0, 1) := by decide +kernel
theorem dX2_isLiteral_1 : decode cX2_isLiteral 1 = .ok (.iload_n 1, 1) := by decide +kernel
theorem dX2_isLiteral_2 : decode cX2_isLiteral 2 = .ok (.invokevirtual 66, 3) := by decide +kernel
theorem dX2_isLiteral_5 : decode cX2_isLiteral 5 = .ok (.ifCond .ne 22, 3) := by decide +kernel
theorem dX2_isLiteral_8 : decode cX2_isLiteral 8 = .ok (.iload_n 1, 1) := by decide +kernel
theorem dX2_isLiteral_9 : decode cX2_isLiteral 9 = .ok (.ifCond .ge 22, 3) := by decide +kernel
theorem dX2_isLiteral_12 : decode cX2_isLiteral 12 = .ok (.iload_n 1, 1) := by decide +kernel
theorem dX2_isLiteral_13 : decode cX2_isLiteral 13 = .ok (.bipush (-14), 2) := by decide +kernel
theorem dX2_isLiteral_15 : decode cX2_isLiteral 15 = .ok (.if_icmp .lt 16, 3) := by decide +kernel
theorem dX2_isLiteral_18 : decode cX2_isLiteral 18 = .ok (.aload_n 0, 1) := by decide +kernel
theorem dX2_isLiteral_19 : decode cX2_isLiteral 19 = .ok (.iload_n 1, 1) := by decide +kernel
theorem dX2_isLiteral_20 : decode cX2_isLiteral 20 = .ok (.ineg, 1) := by decide +kernel
theorem dX2_isLiteral_21 : decode cX2_isLiteral 21 = .ok (.invokevirtual 66, 3) := by decide +kernel
theorem dX2_isLiteral_24 : decode cX2_isLiteral 24 = .ok (.ifCond .eq 7, 3) := by decide +kernel
theorem dX2_isLiteral_27 : decode cX2_isLiteral 27 = .ok (.iconst 1, 1) := by decide +kernel
theorem dX2_isLiteral_28 : decode cX2_isLiteral 28 = .ok (.goto 4, 3) := by decide +kernel
theorem dX2_isLiteral_31 : decode cX2_isLiteral 31 = .ok (.iconst 0, 1) := by decide +kernel
theorem dX2_isLiteral_32 : decode cX2_isLiteral 32 = .ok (.ireturn, 1) := by decide +kernel
abbrev cX2_attribute : ByteArray := prog_7_method_9_code
def yX2_attribute : MethodName := ⟨RX2, "attribute", "(III)I"⟩
theorem dX2_attribute_0 : decode cX2_attribute 0 = .ok (.aload_n 0, 1) := by decide +kernel
theorem dX2_attribute_1 : decode cX2_attribute 1 = .ok (.iconst 0, 1) := by decide +kernel
theorem dX2_attribute_2 : decode cX2_attribute 2 = .ok (.putfield 59, 3) := by decide +kernel
theorem dX2_attribute_5 : decode cX2_attribute 5 = .ok (.iload_n 1, 1) := by decide +kernel
theorem dX2_attribute_6 : decode cX2_attribute 6 = .ok (.ifCond .eq 13, 3) := by decide +kernel
theorem dX2_attribute_9 : decode cX2_attribute 9 = .ok (.aload_n 0, 1) := by decide +kernel
theorem dX2_attribute_10 : decode cX2_attribute 10 = .ok (.iload_n 1, 1) := by decide +kernel
theorem dX2_attribute_11 : decode cX2_attribute 11 = .ok (.invokevirtual 66, 3) := by decide +kernel
theorem dX2_attribute_14 : decode cX2_attribute 14 = .ok (.ifCond .ne 5, 3) := by decide +kernel
theorem dX2_attribute_17 : decode cX2_attribute 17 = .ok (.iconst (-1), 1) := by decide +kernel
theorem dX2_attribute_18 : decode cX2_attribute 18 = .ok (.ireturn, 1) := by decide +kernel
theorem dX2_attribute_19 : decode cX2_attribute 19 = .ok (.iload_n 1, 1) := by decide +kernel
theorem dX2_attribute_20 : decode cX2_attribute 20 = .ok (.ifCond .ne 9, 3) := by decide +kernel
theorem dX2_attribute_23 : decode cX2_attribute 23 = .ok (.sipush 10000, 3) := by decide +kernel
theorem dX2_attribute_26 : decode cX2_attribute 26 = .ok (.goto 6, 3) := by decide +kernel
theorem dX2_attribute_29 : decode cX2_attribute 29 = .ok (.sipush 1000, 3) := by decide +kernel
theorem dX2_attribute_32 : decode cX2_attribute 32 = .ok (.istore 4, 2) := by decide +kernel
theorem dX2_attribute_34 : decode cX2_attribute 34 = .ok (.iload_n 2, 1) := by decide +kernel
theorem dX2_attribute_35 : decode cX2_attribute 35 = .ok (.ifCond .lt 21, 3) := by decide +kernel
theorem dX2_attribute_38 : decode cX2_attribute 38 = .ok (.iload_n 2, 1) := by decide +kernel
theorem dX2_attribute_39 : decode cX2_attribute 39 = .ok (.iconst 3, 1) := by decide +kernel
theorem dX2_attribute_40 : decode cX2_attribute 40 = .ok (.if_icmp .gt 16, 3) := by decide +kernel
theorem dX2_attribute_43 : decode cX2_attribute 43 = .ok (.iload_n 3, 1) := by decide +kernel
theorem dX2_attribute_44 : decode cX2_attribute 44 = .ok (.iload 4, 2) := by decide +kernel
theorem dX2_attribute_46 : decode cX2_attribute 46 = .ok (.ineg, 1) := by decide +kernel
theorem dX2_attribute_47 : decode cX2_attribute 47 = .ok (.if_icmp .lt 9, 3) := by decide +kernel
theorem dX2_attribute_50 : decode cX2_attribute 50 = .ok (.iload_n 3, 1) := by decide +kernel
theorem dX2_attribute_51 : decode cX2_attribute 51 = .ok (.iload 4, 2) := by decide +kernel
theorem dX2_attribute_53 : decode cX2_attribute 53 = .ok (.if_icmp .le 6, 3) := by decide +kernel
theorem dX2_attribute_56 : decode cX2_attribute 56 = .ok (.bipush (-2), 2) := by decide +kernel
theorem dX2_attribute_58 : decode cX2_attribute 58 = .ok (.ireturn, 1) := by decide +kernel
theorem dX2_attribute_59 : decode cX2_attribute 59 = .ok (.iload_n 1, 1) := by decide +kernel
theorem dX2_attribute_60 : decode cX2_attribute 60 = .ok (.ifCond .ne 20, 3) := by decide +kernel
theorem dX2_attribute_63 : decode cX2_attribute 63 = .ok (.aload_n 0, 1) := by decide +kernel
theorem dX2_attribute_64 : decode cX2_attribute 64 = .ok (.getfield 38, 3) := by decide +kernel
theorem dX2_attribute_67 : decode cX2_attribute 67 = .ok (.iload_n 2, 1) := by decide +kernel
theorem dX2_attribute_68 : decode cX2_attribute 68 = .ok (.iconst 1, 1) := by decide +kernel
theorem dX2_attribute_69 : decode cX2_attribute 69 = .ok (.bastore, 1) := by decide +kernel
theorem dX2_attribute_70 : decode cX2_attribute 70 = .ok (.aload_n 0, 1) := by decide +kernel
theorem dX2_attribute_71 : decode cX2_attribute 71 = .ok (.getfield 41, 3) := by decide +kernel
theorem dX2_attribute_74 : decode cX2_attribute 74 = .ok (.iload_n 2, 1) := by decide +kernel
theorem dX2_attribute_75 : decode cX2_attribute 75 = .ok (.iload_n 3, 1) := by decide +kernel
theorem dX2_attribute_76 : decode cX2_attribute 76 = .ok (.iastore, 1) := by decide +kernel
theorem dX2_attribute_77 : decode cX2_attribute 77 = .ok (.goto 14, 3) := by decide +kernel
theorem dX2_attribute_80 : decode cX2_attribute 80 = .ok (.aload_n 0, 1) := by decide +kernel
theorem dX2_attribute_81 : decode cX2_attribute 81 = .ok (.getfield 26, 3) := by decide +kernel
theorem dX2_attribute_84 : decode cX2_attribute 84 = .ok (.iconst 4, 1) := by decide +kernel
theorem dX2_attribute_85 : decode cX2_attribute 85 = .ok (.iload_n 1, 1) := by decide +kernel
theorem dX2_attribute_86 : decode cX2_attribute 86 = .ok (.imul, 1) := by decide +kernel
theorem dX2_attribute_87 : decode cX2_attribute 87 = .ok (.iload_n 2, 1) := by decide +kernel
theorem dX2_attribute_88 : decode cX2_attribute 88 = .ok (.iadd, 1) := by decide +kernel
theorem dX2_attribute_89 : decode cX2_attribute 89 = .ok (.iload_n 3, 1) := by decide +kernel
theorem dX2_attribute_90 : decode cX2_attribute 90 = .ok (.iastore, 1) := by decide +kernel
theorem dX2_attribute_91 : decode cX2_attribute 91 = .ok (.aload_n 0, 1) := by decide +kernel
theorem dX2_attribute_92 : decode cX2_attribute 92 = .ok (.iconst 0, 1) := by decide +kernel
theorem dX2_attribute_93 : decode cX2_attribute 93 = .ok (.putfield 70, 3) := by decide +kernel
theorem dX2_attribute_96 : decode cX2_attribute 96 = .ok (.iconst 1, 1) := by decide +kernel
theorem dX2_attribute_97 : decode cX2_attribute 97 = .ok (.ireturn, 1) := by decide +kernel
abbrev cX2_choose : ByteArray := prog_7_method_12_code
def yX2_choose : MethodName := ⟨RX2, "choose", "(IZ)I"⟩
theorem dX2_choose_0 : decode cX2_choose 0 = .ok (.aload_n 0, 1) := by decide +kernel
theorem dX2_choose_1 : decode cX2_choose 1 = .ok (.iconst 0, 1) := by decide +kernel
theorem dX2_choose_2 : decode cX2_choose 2 = .ok (.putfield 59, 3) := by decide +kernel
theorem dX2_choose_5 : decode cX2_choose 5 = .ok (.aload_n 0, 1) := by decide +kernel
theorem dX2_choose_6 : decode cX2_choose 6 = .ok (.iload_n 1, 1) := by decide +kernel
theorem dX2_choose_7 : decode cX2_choose 7 = .ok (.invokevirtual 78, 3) := by decide +kernel
theorem dX2_choose_10 : decode cX2_choose 10 = .ok (.ifCond .ne 5, 3) := by decide +kernel
theorem dX2_choose_13 : decode cX2_choose 13 = .ok (.iconst (-1), 1) := by decide +kernel
theorem dX2_choose_14 : decode cX2_choose 14 = .ok (.ireturn, 1) := by decide +kernel
theorem dX2_choose_15 : decode cX2_choose 15 = .ok (.iload_n 1, 1) := by decide +kernel
theorem dX2_choose_16 : decode cX2_choose 16 = .ok (.ifCond .ge 8, 3) := by decide +kernel
theorem dX2_choose_19 : decode cX2_choose 19 = .ok (.iload_n 1, 1) := by decide +kernel
theorem dX2_choose_20 : decode cX2_choose 20 = .ok (.ineg, 1) := by decide +kernel
theorem dX2_choose_21 : decode cX2_choose 21 = .ok (.goto 4, 3) := by decide +kernel
theorem dX2_choose_24 : decode cX2_choose 24 = .ok (.iload_n 1, 1) := by decide +kernel
theorem dX2_choose_25 : decode cX2_choose 25 = .ok (.istore_n 3, 1) := by decide +kernel
theorem dX2_choose_26 : decode cX2_choose 26 = .ok (.aload_n 0, 1) := by decide +kernel
theorem dX2_choose_27 : decode cX2_choose 27 = .ok (.iload_n 3, 1) := by decide +kernel
theorem dX2_choose_28 : decode cX2_choose 28 = .ok (.invokevirtual 87, 3) := by decide +kernel
theorem dX2_choose_31 : decode cX2_choose 31 = .ok (.istore 4, 2) := by decide +kernel
theorem dX2_choose_33 : decode cX2_choose 33 = .ok (.iload 4, 2) := by decide +kernel
theorem dX2_choose_35 : decode cX2_choose 35 = .ok (.ifCond .lt 9, 3) := by decide +kernel
theorem dX2_choose_38 : decode cX2_choose 38 = .ok (.aload_n 0, 1) := by decide +kernel
theorem dX2_choose_39 : decode cX2_choose 39 = .ok (.iload 4, 2) := by decide +kernel
theorem dX2_choose_41 : decode cX2_choose 41 = .ok (.invokevirtual 90, 3) := by decide +kernel
theorem dX2_choose_44 : decode cX2_choose 44 = .ok (.iload_n 1, 1) := by decide +kernel
theorem dX2_choose_45 : decode cX2_choose 45 = .ok (.ifCond .le 32, 3) := by decide +kernel
theorem dX2_choose_48 : decode cX2_choose 48 = .ok (.aload_n 0, 1) := by decide +kernel
theorem dX2_choose_49 : decode cX2_choose 49 = .ok (.getfield 44, 3) := by decide +kernel
theorem dX2_choose_52 : decode cX2_choose 52 = .ok (.aload_n 0, 1) := by decide +kernel
theorem dX2_choose_53 : decode cX2_choose 53 = .ok (.getfield 84, 3) := by decide +kernel
theorem dX2_choose_56 : decode cX2_choose 56 = .ok (.iload_n 2, 1) := by decide +kernel
theorem dX2_choose_57 : decode cX2_choose 57 = .ok (.ifCond .eq 7, 3) := by decide +kernel
theorem dX2_choose_60 : decode cX2_choose 60 = .ok (.iload_n 3, 1) := by decide +kernel
theorem dX2_choose_61 : decode cX2_choose 61 = .ok (.goto 5, 3) := by decide +kernel
theorem dX2_choose_64 : decode cX2_choose 64 = .ok (.iload_n 3, 1) := by decide +kernel
theorem dX2_choose_65 : decode cX2_choose 65 = .ok (.ineg, 1) := by decide +kernel
theorem dX2_choose_66 : decode cX2_choose 66 = .ok (.iastore, 1) := by decide +kernel
theorem dX2_choose_67 : decode cX2_choose 67 = .ok (.aload_n 0, 1) := by decide +kernel
theorem dX2_choose_68 : decode cX2_choose 68 = .ok (.dup, 1) := by decide +kernel
theorem dX2_choose_69 : decode cX2_choose 69 = .ok (.getfield 84, 3) := by decide +kernel
theorem dX2_choose_72 : decode cX2_choose 72 = .ok (.iconst 1, 1) := by decide +kernel
theorem dX2_choose_73 : decode cX2_choose 73 = .ok (.iadd, 1) := by decide +kernel
theorem dX2_choose_74 : decode cX2_choose 74 = .ok (.putfield 84, 3) := by decide +kernel
theorem dX2_choose_77 : decode cX2_choose 77 = .ok (.aload_n 0, 1) := by decide +kernel
theorem dX2_choose_78 : decode cX2_choose 78 = .ok (.getfield 84, 3) := by decide +kernel
theorem dX2_choose_81 : decode cX2_choose 81 = .ok (.ireturn, 1) := by decide +kernel
abbrev cX2_choiceOf : ByteArray := prog_7_method_10_code
def yX2_choiceOf : MethodName := ⟨RX2, "choiceOf", "(I)I"⟩
theorem dX2_choiceOf_0 : decode cX2_choiceOf 0 = .ok (.iconst (-1), 1) := by decide +kernel
theorem dX2_choiceOf_1 : decode cX2_choiceOf 1 = .ok (.istore_n 2, 1) := by decide +kernel
theorem dX2_choiceOf_2 : decode cX2_choiceOf 2 = .ok (.iconst 0, 1) := by decide +kernel
theorem dX2_choiceOf_3 : decode cX2_choiceOf 3 = .ok (.istore_n 3, 1) := by decide +kernel
theorem dX2_choiceOf_4 : decode cX2_choiceOf 4 = .ok (.iload_n 3, 1) := by decide +kernel
theorem dX2_choiceOf_5 : decode cX2_choiceOf 5 = .ok (.aload_n 0, 1) := by decide +kernel
theorem dX2_choiceOf_6 : decode cX2_choiceOf 6 = .ok (.getfield 84, 3) := by decide +kernel
theorem dX2_choiceOf_9 : decode cX2_choiceOf 9 = .ok (.if_icmp .ge 36, 3) := by decide +kernel
theorem dX2_choiceOf_12 : decode cX2_choiceOf 12 = .ok (.aload_n 0, 1) := by decide +kernel
theorem dX2_choiceOf_13 : decode cX2_choiceOf 13 = .ok (.getfield 44, 3) := by decide +kernel
theorem dX2_choiceOf_16 : decode cX2_choiceOf 16 = .ok (.iload_n 3, 1) := by decide +kernel
theorem dX2_choiceOf_17 : decode cX2_choiceOf 17 = .ok (.iaload, 1) := by decide +kernel
theorem dX2_choiceOf_18 : decode cX2_choiceOf 18 = .ok (.iload_n 1, 1) := by decide +kernel
theorem dX2_choiceOf_19 : decode cX2_choiceOf 19 = .ok (.if_icmp .eq 14, 3) := by decide +kernel
theorem dX2_choiceOf_22 : decode cX2_choiceOf 22 = .ok (.aload_n 0, 1) := by decide +kernel
theorem dX2_choiceOf_23 : decode cX2_choiceOf 23 = .ok (.getfield 44, 3) := by decide +kernel
theorem dX2_choiceOf_26 : decode cX2_choiceOf 26 = .ok (.iload_n 3, 1) := by decide +kernel
theorem dX2_choiceOf_27 : decode cX2_choiceOf 27 = .ok (.iaload, 1) := by decide +kernel
theorem dX2_choiceOf_28 : decode cX2_choiceOf 28 = .ok (.iload_n 1, 1) := by decide +kernel
theorem dX2_choiceOf_29 : decode cX2_choiceOf 29 = .ok (.ineg, 1) := by decide +kernel
theorem dX2_choiceOf_30 : decode cX2_choiceOf 30 = .ok (.if_icmp .ne 7, 3) := by decide +kernel
theorem dX2_choiceOf_33 : decode cX2_choiceOf 33 = .ok (.iload_n 3, 1) := by decide +kernel
theorem dX2_choiceOf_34 : decode cX2_choiceOf 34 = .ok (.goto 4, 3) := by decide +kernel
theorem dX2_choiceOf_37 : decode cX2_choiceOf 37 = .ok (.iload_n 2, 1) := by decide +kernel
theorem dX2_choiceOf_38 : decode cX2_choiceOf 38 = .ok (.istore_n 2, 1) := by decide +kernel
theorem dX2_choiceOf_39 : decode cX2_choiceOf 39 = .ok (.iinc 3 1, 3) := by decide +kernel
theorem dX2_choiceOf_42 : decode cX2_choiceOf 42 = .ok (.goto (-38), 3) := by decide +kernel
theorem dX2_choiceOf_45 : decode cX2_choiceOf 45 = .ok (.iload_n 2, 1) := by decide +kernel
theorem dX2_choiceOf_46 : decode cX2_choiceOf 46 = .ok (.ireturn, 1) := by decide +kernel
abbrev cX2_forget : ByteArray := prog_7_method_11_code
def yX2_forget : MethodName := ⟨RX2, "forget", "(I)V"⟩
theorem dX2_forget_0 : decode cX2_forget 0 = .ok (.iload_n 1, 1) := by decide +kernel
theorem dX2_forget_1 : decode cX2_forget 1 = .ok (.istore_n 2, 1) := by decide +kernel
theorem dX2_forget_2 : decode cX2_forget 2 = .ok (.iload_n 2, 1) := by decide +kernel
theorem dX2_forget_3 : decode cX2_forget 3 = .ok (.iconst 1, 1) := by decide +kernel
theorem dX2_forget_4 : decode cX2_forget 4 = .ok (.iadd, 1) := by decide +kernel
theorem dX2_forget_5 : decode cX2_forget 5 = .ok (.aload_n 0, 1) := by decide +kernel
theorem dX2_forget_6 : decode cX2_forget 6 = .ok (.getfield 84, 3) := by decide +kernel
theorem dX2_forget_9 : decode cX2_forget 9 = .ok (.if_icmp .ge 23, 3) := by decide +kernel
theorem dX2_forget_12 : decode cX2_forget 12 = .ok (.aload_n 0, 1) := by decide +kernel
theorem dX2_forget_13 : decode cX2_forget 13 = .ok (.getfield 44, 3) := by decide +kernel
theorem dX2_forget_16 : decode cX2_forget 16 = .ok (.iload_n 2, 1) := by decide +kernel
theorem dX2_forget_17 : decode cX2_forget 17 = .ok (.aload_n 0, 1) := by decide +kernel
theorem dX2_forget_18 : decode cX2_forget 18 = .ok (.getfield 44, 3) := by decide +kernel
theorem dX2_forget_21 : decode cX2_forget 21 = .ok (.iload_n 2, 1) := by decide +kernel
theorem dX2_forget_22 : decode cX2_forget 22 = .ok (.iconst 1, 1) := by decide +kernel
theorem dX2_forget_23 : decode cX2_forget 23 = .ok (.iadd, 1) := by decide +kernel
theorem dX2_forget_24 : decode cX2_forget 24 = .ok (.iaload, 1) := by decide +kernel
theorem dX2_forget_25 : decode cX2_forget 25 = .ok (.iastore, 1) := by decide +kernel
theorem dX2_forget_26 : decode cX2_forget 26 = .ok (.iinc 2 1, 3) := by decide +kernel
theorem dX2_forget_29 : decode cX2_forget 29 = .ok (.goto (-27), 3) := by decide +kernel
theorem dX2_forget_32 : decode cX2_forget 32 = .ok (.aload_n 0, 1) := by decide +kernel
theorem dX2_forget_33 : decode cX2_forget 33 = .ok (.dup, 1) := by decide +kernel
theorem dX2_forget_34 : decode cX2_forget 34 = .ok (.getfield 84, 3) := by decide +kernel
theorem dX2_forget_37 : decode cX2_forget 37 = .ok (.iconst 1, 1) := by decide +kernel
theorem dX2_forget_38 : decode cX2_forget 38 = .ok (.isub, 1) := by decide +kernel
theorem dX2_forget_39 : decode cX2_forget 39 = .ok (.putfield 84, 3) := by decide +kernel
theorem dX2_forget_42 : decode cX2_forget 42 = .ok (.return_, 1) := by decide +kernel
abbrev cX2_chosen : ByteArray := prog_7_method_23_code
def yX2_chosen : MethodName := ⟨RX2, "chosen", "(I)Z"⟩
theorem dX2_chosen_0 : decode cX2_chosen 0 = .ok (.aload_n 0, 1) := by decide +kernel
theorem dX2_chosen_1 : decode cX2_chosen 1 = .ok (.iconst 0, 1) := by decide +kernel
theorem dX2_chosen_2 : decode cX2_chosen 2 = .ok (.putfield 59, 3) := by decide +kernel
theorem dX2_chosen_5 : decode cX2_chosen 5 = .ok (.aload_n 0, 1) := by decide +kernel
theorem dX2_chosen_6 : decode cX2_chosen 6 = .ok (.getfield 125, 3) := by decide +kernel
theorem dX2_chosen_9 : decode cX2_chosen 9 = .ok (.ifCond .eq 22, 3) := by decide +kernel
theorem dX2_chosen_12 : decode cX2_chosen 12 = .ok (.aload_n 0, 1) := by decide +kernel
theorem dX2_chosen_13 : decode cX2_chosen 13 = .ok (.getfield 128, 3) := by decide +kernel
theorem dX2_chosen_16 : decode cX2_chosen 16 = .ok (.aload_n 0, 1) := by decide +kernel
theorem dX2_chosen_17 : decode cX2_chosen 17 = .ok (.getfield 131, 3) := by decide +kernel
theorem dX2_chosen_20 : decode cX2_chosen 20 = .ok (.iload_n 1, 1) := by decide +kernel
theorem dX2_chosen_21 : decode cX2_chosen 21 = .ok (.invokestatic 137, 3) := by decide +kernel
theorem dX2_chosen_24 : decode cX2_chosen 24 = .ok (.ifCond .eq 7, 3) := by decide +kernel
theorem dX2_chosen_27 : decode cX2_chosen 27 = .ok (.iconst 1, 1) := by decide +kernel
theorem dX2_chosen_28 : decode cX2_chosen 28 = .ok (.goto 4, 3) := by decide +kernel
theorem dX2_chosen_31 : decode cX2_chosen 31 = .ok (.iconst 0, 1) := by decide +kernel
theorem dX2_chosen_32 : decode cX2_chosen 32 = .ok (.ireturn, 1) := by decide +kernel
abbrev cX2_wasIn : ByteArray := prog_7_method_22_code
def yX2_wasIn : MethodName := ⟨RX2, "wasIn", "(III)Z"⟩
theorem dX2_wasIn_0 : decode cX2_wasIn 0 = .ok (.iload_n 2, 1) := by decide +kernel
theorem dX2_wasIn_1 : decode cX2_wasIn 1 = .ok (.iconst 1, 1) := by decide +kernel
theorem dX2_wasIn_2 : decode cX2_wasIn 2 = .ok (.if_icmp .lt 23, 3) := by decide +kernel
theorem dX2_wasIn_5 : decode cX2_wasIn 5 = .ok (.iload_n 2, 1) := by decide +kernel
theorem dX2_wasIn_6 : decode cX2_wasIn 6 = .ok (.iload_n 1, 1) := by decide +kernel
theorem dX2_wasIn_7 : decode cX2_wasIn 7 = .ok (.if_icmp .gt 18, 3) := by decide +kernel
theorem dX2_wasIn_10 : decode cX2_wasIn 10 = .ok (.iload_n 0, 1) := by decide +kernel
theorem dX2_wasIn_11 : decode cX2_wasIn 11 = .ok (.iload_n 1, 1) := by decide +kernel
theorem dX2_wasIn_12 : decode cX2_wasIn 12 = .ok (.iload_n 2, 1) := by decide +kernel
theorem dX2_wasIn_13 : decode cX2_wasIn 13 = .ok (.isub, 1) := by decide +kernel
theorem dX2_wasIn_14 : decode cX2_wasIn 14 = .ok (.ishr, 1) := by decide +kernel
theorem dX2_wasIn_15 : decode cX2_wasIn 15 = .ok (.iconst 1, 1) := by decide +kernel
theorem dX2_wasIn_16 : decode cX2_wasIn 16 = .ok (.iand, 1) := by decide +kernel
theorem dX2_wasIn_17 : decode cX2_wasIn 17 = .ok (.iconst 1, 1) := by decide +kernel
theorem dX2_wasIn_18 : decode cX2_wasIn 18 = .ok (.if_icmp .ne 7, 3) := by decide +kernel
theorem dX2_wasIn_21 : decode cX2_wasIn 21 = .ok (.iconst 1, 1) := by decide +kernel
theorem dX2_wasIn_22 : decode cX2_wasIn 22 = .ok (.goto 4, 3) := by decide +kernel
theorem dX2_wasIn_25 : decode cX2_wasIn 25 = .ok (.iconst 0, 1) := by decide +kernel
theorem dX2_wasIn_26 : decode cX2_wasIn 26 = .ok (.ireturn, 1) := by decide +kernel
abbrev cX2_why : ByteArray := prog_7_method_24_code
def yX2_why : MethodName := ⟨RX2, "why", "(I)I"⟩
theorem dX2_why_0 : decode cX2_why 0 = .ok (.aload_n 0, 1) := by decide +kernel
theorem dX2_why_1 : decode cX2_why 1 = .ok (.iconst 0, 1) := by decide +kernel
theorem dX2_why_2 : decode cX2_why 2 = .ok (.putfield 59, 3) := by decide +kernel
theorem dX2_why_5 : decode cX2_why 5 = .ok (.iload_n 1, 1) := by decide +kernel
theorem dX2_why_6 : decode cX2_why 6 = .ok (.ifCond .lt 20, 3) := by decide +kernel
theorem dX2_why_9 : decode cX2_why 9 = .ok (.iload_n 1, 1) := by decide +kernel
theorem dX2_why_10 : decode cX2_why 10 = .ok (.aload_n 0, 1) := by decide +kernel
theorem dX2_why_11 : decode cX2_why 11 = .ok (.getfield 119, 3) := by decide +kernel
theorem dX2_why_14 : decode cX2_why 14 = .ok (.if_icmp .ge 12, 3) := by decide +kernel
theorem dX2_why_17 : decode cX2_why 17 = .ok (.aload_n 0, 1) := by decide +kernel
theorem dX2_why_18 : decode cX2_why 18 = .ok (.getfield 56, 3) := by decide +kernel
theorem dX2_why_21 : decode cX2_why 21 = .ok (.iload_n 1, 1) := by decide +kernel
theorem dX2_why_22 : decode cX2_why 22 = .ok (.iaload, 1) := by decide +kernel
theorem dX2_why_23 : decode cX2_why 23 = .ok (.goto 4, 3) := by decide +kernel
theorem dX2_why_26 : decode cX2_why 26 = .ok (.iconst 0, 1) := by decide +kernel
theorem dX2_why_27 : decode cX2_why 27 = .ok (.ireturn, 1) := by decide +kernel
abbrev cX2_level : ByteArray := prog_7_method_28_code
def yX2_level : MethodName := ⟨RX2, "level", "(I)I"⟩
theorem dX2_level_0 : decode cX2_level 0 = .ok (.aload_n 0, 1) := by decide +kernel
theorem dX2_level_1 : decode cX2_level 1 = .ok (.iconst 0, 1) := by decide +kernel
theorem dX2_level_2 : decode cX2_level 2 = .ok (.putfield 59, 3) := by decide +kernel
theorem dX2_level_5 : decode cX2_level 5 = .ok (.iload_n 1, 1) := by decide +kernel
theorem dX2_level_6 : decode cX2_level 6 = .ok (.ifCond .lt 11, 3) := by decide +kernel
theorem dX2_level_9 : decode cX2_level 9 = .ok (.iload_n 1, 1) := by decide +kernel
theorem dX2_level_10 : decode cX2_level 10 = .ok (.aload_n 0, 1) := by decide +kernel
theorem dX2_level_11 : decode cX2_level 11 = .ok (.getfield 63, 3) := by decide +kernel
theorem dX2_level_14 : decode cX2_level 14 = .ok (.if_icmp .lt 10, 3) := by decide +kernel
theorem dX2_level_17 : decode cX2_level 17 = .ok (.aload_n 0, 1) := by decide +kernel
theorem dX2_level_18 : decode cX2_level 18 = .ok (.iconst 1, 1) := by decide +kernel
theorem dX2_level_19 : decode cX2_level 19 = .ok (.putfield 59, 3) := by decide +kernel
theorem dX2_level_22 : decode cX2_level 22 = .ok (.iconst 0, 1) := by decide +kernel
theorem dX2_level_23 : decode cX2_level 23 = .ok (.ireturn, 1) := by decide +kernel
theorem dX2_level_24 : decode cX2_level 24 = .ok (.iconst 0, 1) := by decide +kernel
theorem dX2_level_25 : decode cX2_level 25 = .ok (.istore_n 2, 1) := by decide +kernel
theorem dX2_level_26 : decode cX2_level 26 = .ok (.aload_n 0, 1) := by decide +kernel
theorem dX2_level_27 : decode cX2_level 27 = .ok (.getfield 7, 3) := by decide +kernel
theorem dX2_level_30 : decode cX2_level 30 = .ok (.iload_n 1, 1) := by decide +kernel
theorem dX2_level_31 : decode cX2_level 31 = .ok (.iconst 1, 1) := by decide +kernel
theorem dX2_level_32 : decode cX2_level 32 = .ok (.iadd, 1) := by decide +kernel
theorem dX2_level_33 : decode cX2_level 33 = .ok (.iaload, 1) := by decide +kernel
theorem dX2_level_34 : decode cX2_level 34 = .ok (.istore_n 3, 1) := by decide +kernel
theorem dX2_level_35 : decode cX2_level 35 = .ok (.iload_n 3, 1) := by decide +kernel
theorem dX2_level_36 : decode cX2_level 36 = .ok (.ifCond .le 16, 3) := by decide +kernel
theorem dX2_level_39 : decode cX2_level 39 = .ok (.iinc 2 1, 3) := by decide +kernel
theorem dX2_level_42 : decode cX2_level 42 = .ok (.aload_n 0, 1) := by decide +kernel
theorem dX2_level_43 : decode cX2_level 43 = .ok (.getfield 7, 3) := by decide +kernel
theorem dX2_level_46 : decode cX2_level 46 = .ok (.iload_n 3, 1) := by decide +kernel
theorem dX2_level_47 : decode cX2_level 47 = .ok (.iaload, 1) := by decide +kernel
theorem dX2_level_48 : decode cX2_level 48 = .ok (.istore_n 3, 1) := by decide +kernel
theorem dX2_level_49 : decode cX2_level 49 = .ok (.goto (-14), 3) := by decide +kernel
theorem dX2_level_52 : decode cX2_level 52 = .ok (.iload_n 2, 1) := by decide +kernel
theorem dX2_level_53 : decode cX2_level 53 = .ok (.ireturn, 1) := by decide +kernel
