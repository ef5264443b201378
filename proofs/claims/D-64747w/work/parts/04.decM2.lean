set_option maxRecDepth 100000
abbrev cX2_solve : ByteArray := prog_7_method_21_code
def yX2_solve : MethodName := ⟨RX2, "solve", "()I"⟩
theorem dX2_solve_0 : decode cX2_solve 0 = .ok (.aload_n 0, 1) := by decide +kernel
theorem dX2_solve_1 : decode cX2_solve 1 = .ok (.iconst 0, 1) := by decide +kernel
theorem dX2_solve_2 : decode cX2_solve 2 = .ok (.putfield 59, 3) := by decide +kernel
theorem dX2_solve_5 : decode cX2_solve 5 = .ok (.aload_n 0, 1) := by decide +kernel
theorem dX2_solve_6 : decode cX2_solve 6 = .ok (.iconst 0, 1) := by decide +kernel
theorem dX2_solve_7 : decode cX2_solve 7 = .ok (.putfield 119, 3) := by decide +kernel
theorem dX2_solve_10 : decode cX2_solve 10 = .ok (.aload_n 0, 1) := by decide +kernel
theorem dX2_solve_11 : decode cX2_solve 11 = .ok (.iconst 0, 1) := by decide +kernel
theorem dX2_solve_12 : decode cX2_solve 12 = .ok (.invokevirtual 122, 3) := by decide +kernel
theorem dX2_solve_15 : decode cX2_solve 15 = .ok (.istore_n 1, 1) := by decide +kernel
theorem dX2_solve_16 : decode cX2_solve 16 = .ok (.aload_n 0, 1) := by decide +kernel
theorem dX2_solve_17 : decode cX2_solve 17 = .ok (.iload_n 1, 1) := by decide +kernel
theorem dX2_solve_18 : decode cX2_solve 18 = .ok (.ifCond .lt 7, 3) := by decide +kernel
theorem dX2_solve_21 : decode cX2_solve 21 = .ok (.iconst 1, 1) := by decide +kernel
theorem dX2_solve_22 : decode cX2_solve 22 = .ok (.goto 4, 3) := by decide +kernel
theorem dX2_solve_25 : decode cX2_solve 25 = .ok (.iconst 0, 1) := by decide +kernel
theorem dX2_solve_26 : decode cX2_solve 26 = .ok (.putfield 125, 3) := by decide +kernel
theorem dX2_solve_29 : decode cX2_solve 29 = .ok (.aload_n 0, 1) := by decide +kernel
theorem dX2_solve_30 : decode cX2_solve 30 = .ok (.getfield 125, 3) := by decide +kernel
theorem dX2_solve_33 : decode cX2_solve 33 = .ok (.ifCond .eq 61, 3) := by decide +kernel
theorem dX2_solve_36 : decode cX2_solve 36 = .ok (.aload_n 0, 1) := by decide +kernel
theorem dX2_solve_37 : decode cX2_solve 37 = .ok (.iload_n 1, 1) := by decide +kernel
theorem dX2_solve_38 : decode cX2_solve 38 = .ok (.putfield 128, 3) := by decide +kernel
theorem dX2_solve_41 : decode cX2_solve 41 = .ok (.aload_n 0, 1) := by decide +kernel
theorem dX2_solve_42 : decode cX2_solve 42 = .ok (.aload_n 0, 1) := by decide +kernel
theorem dX2_solve_43 : decode cX2_solve 43 = .ok (.getfield 63, 3) := by decide +kernel
theorem dX2_solve_46 : decode cX2_solve 46 = .ok (.putfield 131, 3) := by decide +kernel
theorem dX2_solve_49 : decode cX2_solve 49 = .ok (.aload_n 0, 1) := by decide +kernel
theorem dX2_solve_50 : decode cX2_solve 50 = .ok (.getfield 134, 3) := by decide +kernel
theorem dX2_solve_53 : decode cX2_solve 53 = .ok (.sipush 200, 3) := by decide +kernel
theorem dX2_solve_56 : decode cX2_solve 56 = .ok (.if_icmp .ge 36, 3) := by decide +kernel
theorem dX2_solve_59 : decode cX2_solve 59 = .ok (.aload_n 0, 1) := by decide +kernel
theorem dX2_solve_60 : decode cX2_solve 60 = .ok (.dup, 1) := by decide +kernel
theorem dX2_solve_61 : decode cX2_solve 61 = .ok (.getfield 134, 3) := by decide +kernel
theorem dX2_solve_64 : decode cX2_solve 64 = .ok (.iconst 1, 1) := by decide +kernel
theorem dX2_solve_65 : decode cX2_solve 65 = .ok (.iadd, 1) := by decide +kernel
theorem dX2_solve_66 : decode cX2_solve 66 = .ok (.putfield 134, 3) := by decide +kernel
theorem dX2_solve_69 : decode cX2_solve 69 = .ok (.aload_n 0, 1) := by decide +kernel
theorem dX2_solve_70 : decode cX2_solve 70 = .ok (.getfield 50, 3) := by decide +kernel
theorem dX2_solve_73 : decode cX2_solve 73 = .ok (.aload_n 0, 1) := by decide +kernel
theorem dX2_solve_74 : decode cX2_solve 74 = .ok (.getfield 134, 3) := by decide +kernel
theorem dX2_solve_77 : decode cX2_solve 77 = .ok (.iload_n 1, 1) := by decide +kernel
theorem dX2_solve_78 : decode cX2_solve 78 = .ok (.iastore, 1) := by decide +kernel
theorem dX2_solve_79 : decode cX2_solve 79 = .ok (.aload_n 0, 1) := by decide +kernel
theorem dX2_solve_80 : decode cX2_solve 80 = .ok (.getfield 53, 3) := by decide +kernel
theorem dX2_solve_83 : decode cX2_solve 83 = .ok (.aload_n 0, 1) := by decide +kernel
theorem dX2_solve_84 : decode cX2_solve 84 = .ok (.getfield 134, 3) := by decide +kernel
theorem dX2_solve_87 : decode cX2_solve 87 = .ok (.aload_n 0, 1) := by decide +kernel
theorem dX2_solve_88 : decode cX2_solve 88 = .ok (.getfield 63, 3) := by decide +kernel
theorem dX2_solve_91 : decode cX2_solve 91 = .ok (.iastore, 1) := by decide +kernel
theorem dX2_solve_92 : decode cX2_solve 92 = .ok (.iconst 1, 1) := by decide +kernel
theorem dX2_solve_93 : decode cX2_solve 93 = .ok (.ireturn, 1) := by decide +kernel
theorem dX2_solve_94 : decode cX2_solve 94 = .ok (.iconst 0, 1) := by decide +kernel
theorem dX2_solve_95 : decode cX2_solve 95 = .ok (.istore_n 2, 1) := by decide +kernel
theorem dX2_solve_96 : decode cX2_solve 96 = .ok (.iconst 0, 1) := by decide +kernel
theorem dX2_solve_97 : decode cX2_solve 97 = .ok (.istore_n 3, 1) := by decide +kernel
theorem dX2_solve_98 : decode cX2_solve 98 = .ok (.iload_n 3, 1) := by decide +kernel
theorem dX2_solve_99 : decode cX2_solve 99 = .ok (.aload_n 0, 1) := by decide +kernel
theorem dX2_solve_100 : decode cX2_solve 100 = .ok (.getfield 84, 3) := by decide +kernel
theorem dX2_solve_103 : decode cX2_solve 103 = .ok (.if_icmp .ge 31, 3) := by decide +kernel
theorem dX2_solve_106 : decode cX2_solve 106 = .ok (.aload_n 0, 1) := by decide +kernel
theorem dX2_solve_107 : decode cX2_solve 107 = .ok (.iload_n 2, 1) := by decide +kernel
theorem dX2_solve_108 : decode cX2_solve 108 = .ok (.iconst 1, 1) := by decide +kernel
theorem dX2_solve_109 : decode cX2_solve 109 = .ok (.iload_n 3, 1) := by decide +kernel
theorem dX2_solve_110 : decode cX2_solve 110 = .ok (.ishl, 1) := by decide +kernel
theorem dX2_solve_111 : decode cX2_solve 111 = .ok (.ior, 1) := by decide +kernel
theorem dX2_solve_112 : decode cX2_solve 112 = .ok (.invokevirtual 122, 3) := by decide +kernel
theorem dX2_solve_115 : decode cX2_solve 115 = .ok (.ifCond .ge 11, 3) := by decide +kernel
theorem dX2_solve_118 : decode cX2_solve 118 = .ok (.iload_n 2, 1) := by decide +kernel
theorem dX2_solve_119 : decode cX2_solve 119 = .ok (.iconst 1, 1) := by decide +kernel
theorem dX2_solve_120 : decode cX2_solve 120 = .ok (.iload_n 3, 1) := by decide +kernel
theorem dX2_solve_121 : decode cX2_solve 121 = .ok (.ishl, 1) := by decide +kernel
theorem dX2_solve_122 : decode cX2_solve 122 = .ok (.ior, 1) := by decide +kernel
theorem dX2_solve_123 : decode cX2_solve 123 = .ok (.goto 4, 3) := by decide +kernel
theorem dX2_solve_126 : decode cX2_solve 126 = .ok (.iload_n 2, 1) := by decide +kernel
theorem dX2_solve_127 : decode cX2_solve 127 = .ok (.istore_n 2, 1) := by decide +kernel
theorem dX2_solve_128 : decode cX2_solve 128 = .ok (.iinc 3 1, 3) := by decide +kernel
theorem dX2_solve_131 : decode cX2_solve 131 = .ok (.goto (-33), 3) := by decide +kernel
theorem dX2_solve_134 : decode cX2_solve 134 = .ok (.iconst 0, 1) := by decide +kernel
theorem dX2_solve_135 : decode cX2_solve 135 = .ok (.istore_n 3, 1) := by decide +kernel
theorem dX2_solve_136 : decode cX2_solve 136 = .ok (.iload_n 3, 1) := by decide +kernel
theorem dX2_solve_137 : decode cX2_solve 137 = .ok (.aload_n 0, 1) := by decide +kernel
theorem dX2_solve_138 : decode cX2_solve 138 = .ok (.getfield 84, 3) := by decide +kernel
theorem dX2_solve_141 : decode cX2_solve 141 = .ok (.if_icmp .ge 42, 3) := by decide +kernel
theorem dX2_solve_144 : decode cX2_solve 144 = .ok (.iload_n 2, 1) := by decide +kernel
theorem dX2_solve_145 : decode cX2_solve 145 = .ok (.iload_n 3, 1) := by decide +kernel
theorem dX2_solve_146 : decode cX2_solve 146 = .ok (.ishr, 1) := by decide +kernel
theorem dX2_solve_147 : decode cX2_solve 147 = .ok (.iconst 1, 1) := by decide +kernel
theorem dX2_solve_148 : decode cX2_solve 148 = .ok (.iand, 1) := by decide +kernel
theorem dX2_solve_149 : decode cX2_solve 149 = .ok (.ifCond .ne 28, 3) := by decide +kernel
theorem dX2_solve_152 : decode cX2_solve 152 = .ok (.aload_n 0, 1) := by decide +kernel
theorem dX2_solve_153 : decode cX2_solve 153 = .ok (.getfield 56, 3) := by decide +kernel
theorem dX2_solve_156 : decode cX2_solve 156 = .ok (.aload_n 0, 1) := by decide +kernel
theorem dX2_solve_157 : decode cX2_solve 157 = .ok (.getfield 119, 3) := by decide +kernel
theorem dX2_solve_160 : decode cX2_solve 160 = .ok (.aload_n 0, 1) := by decide +kernel
theorem dX2_solve_161 : decode cX2_solve 161 = .ok (.getfield 44, 3) := by decide +kernel
theorem dX2_solve_164 : decode cX2_solve 164 = .ok (.iload_n 3, 1) := by decide +kernel
theorem dX2_solve_165 : decode cX2_solve 165 = .ok (.iaload, 1) := by decide +kernel
theorem dX2_solve_166 : decode cX2_solve 166 = .ok (.iastore, 1) := by decide +kernel
theorem dX2_solve_167 : decode cX2_solve 167 = .ok (.aload_n 0, 1) := by decide +kernel
theorem dX2_solve_168 : decode cX2_solve 168 = .ok (.dup, 1) := by decide +kernel
theorem dX2_solve_169 : decode cX2_solve 169 = .ok (.getfield 119, 3) := by decide +kernel
theorem dX2_solve_172 : decode cX2_solve 172 = .ok (.iconst 1, 1) := by decide +kernel
theorem dX2_solve_173 : decode cX2_solve 173 = .ok (.iadd, 1) := by decide +kernel
theorem dX2_solve_174 : decode cX2_solve 174 = .ok (.putfield 119, 3) := by decide +kernel
theorem dX2_solve_177 : decode cX2_solve 177 = .ok (.iinc 3 1, 3) := by decide +kernel
theorem dX2_solve_180 : decode cX2_solve 180 = .ok (.goto (-44), 3) := by decide +kernel
theorem dX2_solve_183 : decode cX2_solve 183 = .ok (.iconst 0, 1) := by decide +kernel
theorem dX2_solve_184 : decode cX2_solve 184 = .ok (.ireturn, 1) := by decide +kernel
abbrev cX2_firstWithout : ByteArray := prog_7_method_20_code
def yX2_firstWithout : MethodName := ⟨RX2, "firstWithout", "(I)I"⟩
theorem dX2_firstWithout_0 : decode cX2_firstWithout 0 = .ok (.aload_n 0, 1) := by decide +kernel
theorem dX2_firstWithout_1 : decode cX2_firstWithout 1 = .ok (.invokevirtual 113, 3) := by decide +kernel
theorem dX2_firstWithout_4 : decode cX2_firstWithout 4 = .ok (.iconst 0, 1) := by decide +kernel
theorem dX2_firstWithout_5 : decode cX2_firstWithout 5 = .ok (.istore_n 2, 1) := by decide +kernel
theorem dX2_firstWithout_6 : decode cX2_firstWithout 6 = .ok (.iload_n 2, 1) := by decide +kernel
theorem dX2_firstWithout_7 : decode cX2_firstWithout 7 = .ok (.aload_n 0, 1) := by decide +kernel
theorem dX2_firstWithout_8 : decode cX2_firstWithout 8 = .ok (.getfield 101, 3) := by decide +kernel
theorem dX2_firstWithout_11 : decode cX2_firstWithout 11 = .ok (.if_icmp .ge 30, 3) := by decide +kernel
theorem dX2_firstWithout_14 : decode cX2_firstWithout 14 = .ok (.aload_n 0, 1) := by decide +kernel
theorem dX2_firstWithout_15 : decode cX2_firstWithout 15 = .ok (.aload_n 0, 1) := by decide +kernel
theorem dX2_firstWithout_16 : decode cX2_firstWithout 16 = .ok (.getfield 47, 3) := by decide +kernel
theorem dX2_firstWithout_19 : decode cX2_firstWithout 19 = .ok (.iload_n 2, 1) := by decide +kernel
theorem dX2_firstWithout_20 : decode cX2_firstWithout 20 = .ok (.iaload, 1) := by decide +kernel
theorem dX2_firstWithout_21 : decode cX2_firstWithout 21 = .ok (.iload_n 1, 1) := by decide +kernel
theorem dX2_firstWithout_22 : decode cX2_firstWithout 22 = .ok (.invokevirtual 116, 3) := by decide +kernel
theorem dX2_firstWithout_25 : decode cX2_firstWithout 25 = .ok (.ifCond .eq 10, 3) := by decide +kernel
theorem dX2_firstWithout_28 : decode cX2_firstWithout 28 = .ok (.aload_n 0, 1) := by decide +kernel
theorem dX2_firstWithout_29 : decode cX2_firstWithout 29 = .ok (.getfield 47, 3) := by decide +kernel
theorem dX2_firstWithout_32 : decode cX2_firstWithout 32 = .ok (.iload_n 2, 1) := by decide +kernel
theorem dX2_firstWithout_33 : decode cX2_firstWithout 33 = .ok (.iaload, 1) := by decide +kernel
theorem dX2_firstWithout_34 : decode cX2_firstWithout 34 = .ok (.ireturn, 1) := by decide +kernel
theorem dX2_firstWithout_35 : decode cX2_firstWithout 35 = .ok (.iinc 2 1, 3) := by decide +kernel
theorem dX2_firstWithout_38 : decode cX2_firstWithout 38 = .ok (.goto (-32), 3) := by decide +kernel
theorem dX2_firstWithout_41 : decode cX2_firstWithout 41 = .ok (.iconst (-1), 1) := by decide +kernel
theorem dX2_firstWithout_42 : decode cX2_firstWithout 42 = .ok (.ireturn, 1) := by decide +kernel
abbrev cX2_know : ByteArray := prog_7_method_18_code
def yX2_know : MethodName := ⟨RX2, "know", "()V"⟩
theorem dX2_know_0 : decode cX2_know 0 = .ok (.aload_n 0, 1) := by decide +kernel
theorem dX2_know_1 : decode cX2_know 1 = .ok (.getfield 70, 3) := by decide +kernel
theorem dX2_know_4 : decode cX2_know 4 = .ok (.ifCond .eq 4, 3) := by decide +kernel
theorem dX2_know_7 : decode cX2_know 7 = .ok (.return_, 1) := by decide +kernel
theorem dX2_know_8 : decode cX2_know 8 = .ok (.aload_n 0, 1) := by decide +kernel
theorem dX2_know_9 : decode cX2_know 9 = .ok (.iconst 1, 1) := by decide +kernel
theorem dX2_know_10 : decode cX2_know 10 = .ok (.putfield 70, 3) := by decide +kernel
theorem dX2_know_13 : decode cX2_know 13 = .ok (.aload_n 0, 1) := by decide +kernel
theorem dX2_know_14 : decode cX2_know 14 = .ok (.iconst 0, 1) := by decide +kernel
theorem dX2_know_15 : decode cX2_know 15 = .ok (.putfield 101, 3) := by decide +kernel
theorem dX2_know_18 : decode cX2_know 18 = .ok (.iconst 1, 1) := by decide +kernel
theorem dX2_know_19 : decode cX2_know 19 = .ok (.aload_n 0, 1) := by decide +kernel
theorem dX2_know_20 : decode cX2_know 20 = .ok (.getfield 63, 3) := by decide +kernel
theorem dX2_know_23 : decode cX2_know 23 = .ok (.ishl, 1) := by decide +kernel
theorem dX2_know_24 : decode cX2_know 24 = .ok (.iconst 1, 1) := by decide +kernel
theorem dX2_know_25 : decode cX2_know 25 = .ok (.isub, 1) := by decide +kernel
theorem dX2_know_26 : decode cX2_know 26 = .ok (.istore_n 1, 1) := by decide +kernel
theorem dX2_know_27 : decode cX2_know 27 = .ok (.iload_n 1, 1) := by decide +kernel
theorem dX2_know_28 : decode cX2_know 28 = .ok (.ifCond .lt 53, 3) := by decide +kernel
theorem dX2_know_31 : decode cX2_know 31 = .ok (.aload_n 0, 1) := by decide +kernel
theorem dX2_know_32 : decode cX2_know 32 = .ok (.iload_n 1, 1) := by decide +kernel
theorem dX2_know_33 : decode cX2_know 33 = .ok (.invokevirtual 104, 3) := by decide +kernel
theorem dX2_know_36 : decode cX2_know 36 = .ok (.ifCond .eq 39, 3) := by decide +kernel
theorem dX2_know_39 : decode cX2_know 39 = .ok (.aload_n 0, 1) := by decide +kernel
theorem dX2_know_40 : decode cX2_know 40 = .ok (.iload_n 1, 1) := by decide +kernel
theorem dX2_know_41 : decode cX2_know 41 = .ok (.invokevirtual 107, 3) := by decide +kernel
theorem dX2_know_44 : decode cX2_know 44 = .ok (.ifCond .eq 31, 3) := by decide +kernel
theorem dX2_know_47 : decode cX2_know 47 = .ok (.aload_n 0, 1) := by decide +kernel
theorem dX2_know_48 : decode cX2_know 48 = .ok (.iload_n 1, 1) := by decide +kernel
theorem dX2_know_49 : decode cX2_know 49 = .ok (.invokevirtual 110, 3) := by decide +kernel
theorem dX2_know_52 : decode cX2_know 52 = .ok (.ifCond .eq 23, 3) := by decide +kernel
theorem dX2_know_55 : decode cX2_know 55 = .ok (.aload_n 0, 1) := by decide +kernel
theorem dX2_know_56 : decode cX2_know 56 = .ok (.getfield 47, 3) := by decide +kernel
theorem dX2_know_59 : decode cX2_know 59 = .ok (.aload_n 0, 1) := by decide +kernel
theorem dX2_know_60 : decode cX2_know 60 = .ok (.getfield 101, 3) := by decide +kernel
theorem dX2_know_63 : decode cX2_know 63 = .ok (.iload_n 1, 1) := by decide +kernel
theorem dX2_know_64 : decode cX2_know 64 = .ok (.iastore, 1) := by decide +kernel
theorem dX2_know_65 : decode cX2_know 65 = .ok (.aload_n 0, 1) := by decide +kernel
theorem dX2_know_66 : decode cX2_know 66 = .ok (.dup, 1) := by decide +kernel
theorem dX2_know_67 : decode cX2_know 67 = .ok (.getfield 101, 3) := by decide +kernel
theorem dX2_know_70 : decode cX2_know 70 = .ok (.iconst 1, 1) := by decide +kernel
theorem dX2_know_71 : decode cX2_know 71 = .ok (.iadd, 1) := by decide +kernel
theorem dX2_know_72 : decode cX2_know 72 = .ok (.putfield 101, 3) := by decide +kernel
theorem dX2_know_75 : decode cX2_know 75 = .ok (.iinc 1 (-1), 3) := by decide +kernel
theorem dX2_know_78 : decode cX2_know 78 = .ok (.goto (-51), 3) := by decide +kernel
theorem dX2_know_81 : decode cX2_know 81 = .ok (.return_, 1) := by decide +kernel
abbrev cX2_keepsTree : ByteArray := prog_7_method_15_code
def yX2_keepsTree : MethodName := ⟨RX2, "keepsTree", "(I)Z"⟩
theorem dX2_keepsTree_0 : decode cX2_keepsTree 0 = .ok (.aload_n 0, 1) := by decide +kernel
theorem dX2_keepsTree_1 : decode cX2_keepsTree 1 = .ok (.getfield 63, 3) := by decide +kernel
theorem dX2_keepsTree_4 : decode cX2_keepsTree 4 = .ok (.ifCond .eq 12, 3) := by decide +kernel
theorem dX2_keepsTree_7 : decode cX2_keepsTree 7 = .ok (.aload_n 0, 1) := by decide +kernel
theorem dX2_keepsTree_8 : decode cX2_keepsTree 8 = .ok (.iload_n 1, 1) := by decide +kernel
theorem dX2_keepsTree_9 : decode cX2_keepsTree 9 = .ok (.iconst 1, 1) := by decide +kernel
theorem dX2_keepsTree_10 : decode cX2_keepsTree 10 = .ok (.invokevirtual 94, 3) := by decide +kernel
theorem dX2_keepsTree_13 : decode cX2_keepsTree 13 = .ok (.ifCond .eq 7, 3) := by decide +kernel
theorem dX2_keepsTree_16 : decode cX2_keepsTree 16 = .ok (.iconst 1, 1) := by decide +kernel
theorem dX2_keepsTree_17 : decode cX2_keepsTree 17 = .ok (.goto 4, 3) := by decide +kernel
theorem dX2_keepsTree_20 : decode cX2_keepsTree 20 = .ok (.iconst 0, 1) := by decide +kernel
theorem dX2_keepsTree_21 : decode cX2_keepsTree 21 = .ok (.istore_n 2, 1) := by decide +kernel
theorem dX2_keepsTree_22 : decode cX2_keepsTree 22 = .ok (.iconst 2, 1) := by decide +kernel
theorem dX2_keepsTree_23 : decode cX2_keepsTree 23 = .ok (.istore_n 3, 1) := by decide +kernel
theorem dX2_keepsTree_24 : decode cX2_keepsTree 24 = .ok (.iload_n 3, 1) := by decide +kernel
theorem dX2_keepsTree_25 : decode cX2_keepsTree 25 = .ok (.aload_n 0, 1) := by decide +kernel
theorem dX2_keepsTree_26 : decode cX2_keepsTree 26 = .ok (.getfield 63, 3) := by decide +kernel
theorem dX2_keepsTree_29 : decode cX2_keepsTree 29 = .ok (.if_icmp .gt 69, 3) := by decide +kernel
theorem dX2_keepsTree_32 : decode cX2_keepsTree 32 = .ok (.iload_n 2, 1) := by decide +kernel
theorem dX2_keepsTree_33 : decode cX2_keepsTree 33 = .ok (.ifCond .eq 65, 3) := by decide +kernel
theorem dX2_keepsTree_36 : decode cX2_keepsTree 36 = .ok (.aload_n 0, 1) := by decide +kernel
theorem dX2_keepsTree_37 : decode cX2_keepsTree 37 = .ok (.iload_n 1, 1) := by decide +kernel
theorem dX2_keepsTree_38 : decode cX2_keepsTree 38 = .ok (.aload_n 0, 1) := by decide +kernel
theorem dX2_keepsTree_39 : decode cX2_keepsTree 39 = .ok (.getfield 7, 3) := by decide +kernel
theorem dX2_keepsTree_42 : decode cX2_keepsTree 42 = .ok (.iload_n 3, 1) := by decide +kernel
theorem dX2_keepsTree_43 : decode cX2_keepsTree 43 = .ok (.iaload, 1) := by decide +kernel
theorem dX2_keepsTree_44 : decode cX2_keepsTree 44 = .ok (.invokevirtual 94, 3) := by decide +kernel
theorem dX2_keepsTree_47 : decode cX2_keepsTree 47 = .ok (.istore 4, 2) := by decide +kernel
theorem dX2_keepsTree_49 : decode cX2_keepsTree 49 = .ok (.iload 4, 2) := by decide +kernel
theorem dX2_keepsTree_51 : decode cX2_keepsTree 51 = .ok (.ifCond .ne 12, 3) := by decide +kernel
theorem dX2_keepsTree_54 : decode cX2_keepsTree 54 = .ok (.aload_n 0, 1) := by decide +kernel
theorem dX2_keepsTree_55 : decode cX2_keepsTree 55 = .ok (.iload_n 1, 1) := by decide +kernel
theorem dX2_keepsTree_56 : decode cX2_keepsTree 56 = .ok (.iload_n 3, 1) := by decide +kernel
theorem dX2_keepsTree_57 : decode cX2_keepsTree 57 = .ok (.invokevirtual 94, 3) := by decide +kernel
theorem dX2_keepsTree_60 : decode cX2_keepsTree 60 = .ok (.ifCond .ne 30, 3) := by decide +kernel
theorem dX2_keepsTree_63 : decode cX2_keepsTree 63 = .ok (.aload_n 0, 1) := by decide +kernel
theorem dX2_keepsTree_64 : decode cX2_keepsTree 64 = .ok (.getfield 13, 3) := by decide +kernel
theorem dX2_keepsTree_67 : decode cX2_keepsTree 67 = .ok (.iload_n 3, 1) := by decide +kernel
theorem dX2_keepsTree_68 : decode cX2_keepsTree 68 = .ok (.iaload, 1) := by decide +kernel
theorem dX2_keepsTree_69 : decode cX2_keepsTree 69 = .ok (.ifCond .ne 17, 3) := by decide +kernel
theorem dX2_keepsTree_72 : decode cX2_keepsTree 72 = .ok (.iload 4, 2) := by decide +kernel
theorem dX2_keepsTree_74 : decode cX2_keepsTree 74 = .ok (.ifCond .eq 12, 3) := by decide +kernel
theorem dX2_keepsTree_77 : decode cX2_keepsTree 77 = .ok (.aload_n 0, 1) := by decide +kernel
theorem dX2_keepsTree_78 : decode cX2_keepsTree 78 = .ok (.iload_n 1, 1) := by decide +kernel
theorem dX2_keepsTree_79 : decode cX2_keepsTree 79 = .ok (.iload_n 3, 1) := by decide +kernel
theorem dX2_keepsTree_80 : decode cX2_keepsTree 80 = .ok (.invokevirtual 94, 3) := by decide +kernel
theorem dX2_keepsTree_83 : decode cX2_keepsTree 83 = .ok (.ifCond .eq 7, 3) := by decide +kernel
theorem dX2_keepsTree_86 : decode cX2_keepsTree 86 = .ok (.iconst 1, 1) := by decide +kernel
theorem dX2_keepsTree_87 : decode cX2_keepsTree 87 = .ok (.goto 4, 3) := by decide +kernel
theorem dX2_keepsTree_90 : decode cX2_keepsTree 90 = .ok (.iconst 0, 1) := by decide +kernel
theorem dX2_keepsTree_91 : decode cX2_keepsTree 91 = .ok (.istore_n 2, 1) := by decide +kernel
theorem dX2_keepsTree_92 : decode cX2_keepsTree 92 = .ok (.iinc 3 1, 3) := by decide +kernel
theorem dX2_keepsTree_95 : decode cX2_keepsTree 95 = .ok (.goto (-71), 3) := by decide +kernel
theorem dX2_keepsTree_98 : decode cX2_keepsTree 98 = .ok (.iconst 1, 1) := by decide +kernel
theorem dX2_keepsTree_99 : decode cX2_keepsTree 99 = .ok (.istore_n 3, 1) := by decide +kernel
theorem dX2_keepsTree_100 : decode cX2_keepsTree 100 = .ok (.iload_n 3, 1) := by decide +kernel
theorem dX2_keepsTree_101 : decode cX2_keepsTree 101 = .ok (.aload_n 0, 1) := by decide +kernel
theorem dX2_keepsTree_102 : decode cX2_keepsTree 102 = .ok (.getfield 63, 3) := by decide +kernel
theorem dX2_keepsTree_105 : decode cX2_keepsTree 105 = .ok (.if_icmp .gt 123, 3) := by decide +kernel
theorem dX2_keepsTree_108 : decode cX2_keepsTree 108 = .ok (.iload_n 2, 1) := by decide +kernel
theorem dX2_keepsTree_109 : decode cX2_keepsTree 109 = .ok (.ifCond .eq 119, 3) := by decide +kernel
theorem dX2_keepsTree_112 : decode cX2_keepsTree 112 = .ok (.iconst 0, 1) := by decide +kernel
theorem dX2_keepsTree_113 : decode cX2_keepsTree 113 = .ok (.istore 4, 2) := by decide +kernel
theorem dX2_keepsTree_115 : decode cX2_keepsTree 115 = .ok (.iconst 1, 1) := by decide +kernel
theorem dX2_keepsTree_116 : decode cX2_keepsTree 116 = .ok (.istore 5, 2) := by decide +kernel
theorem dX2_keepsTree_118 : decode cX2_keepsTree 118 = .ok (.iload 5, 2) := by decide +kernel
theorem dX2_keepsTree_120 : decode cX2_keepsTree 120 = .ok (.aload_n 0, 1) := by decide +kernel
theorem dX2_keepsTree_121 : decode cX2_keepsTree 121 = .ok (.getfield 63, 3) := by decide +kernel
theorem dX2_keepsTree_124 : decode cX2_keepsTree 124 = .ok (.if_icmp .gt 52, 3) := by decide +kernel
theorem dX2_keepsTree_127 : decode cX2_keepsTree 127 = .ok (.aload_n 0, 1) := by decide +kernel
theorem dX2_keepsTree_128 : decode cX2_keepsTree 128 = .ok (.getfield 7, 3) := by decide +kernel
theorem dX2_keepsTree_131 : decode cX2_keepsTree 131 = .ok (.iload 5, 2) := by decide +kernel
theorem dX2_keepsTree_133 : decode cX2_keepsTree 133 = .ok (.iaload, 1) := by decide +kernel
theorem dX2_keepsTree_134 : decode cX2_keepsTree 134 = .ok (.iload_n 3, 1) := by decide +kernel
theorem dX2_keepsTree_135 : decode cX2_keepsTree 135 = .ok (.if_icmp .ne 31, 3) := by decide +kernel
theorem dX2_keepsTree_138 : decode cX2_keepsTree 138 = .ok (.aload_n 0, 1) := by decide +kernel
theorem dX2_keepsTree_139 : decode cX2_keepsTree 139 = .ok (.getfield 13, 3) := by decide +kernel
theorem dX2_keepsTree_142 : decode cX2_keepsTree 142 = .ok (.iload 5, 2) := by decide +kernel
theorem dX2_keepsTree_144 : decode cX2_keepsTree 144 = .ok (.iaload, 1) := by decide +kernel
theorem dX2_keepsTree_145 : decode cX2_keepsTree 145 = .ok (.iconst 2, 1) := by decide +kernel
theorem dX2_keepsTree_146 : decode cX2_keepsTree 146 = .ok (.if_icmp .ne 20, 3) := by decide +kernel
theorem dX2_keepsTree_149 : decode cX2_keepsTree 149 = .ok (.aload_n 0, 1) := by decide +kernel
theorem dX2_keepsTree_150 : decode cX2_keepsTree 150 = .ok (.iload_n 1, 1) := by decide +kernel
theorem dX2_keepsTree_151 : decode cX2_keepsTree 151 = .ok (.iload 5, 2) := by decide +kernel
theorem dX2_keepsTree_153 : decode cX2_keepsTree 153 = .ok (.invokevirtual 94, 3) := by decide +kernel
theorem dX2_keepsTree_156 : decode cX2_keepsTree 156 = .ok (.ifCond .eq 10, 3) := by decide +kernel
theorem dX2_keepsTree_159 : decode cX2_keepsTree 159 = .ok (.iload 4, 2) := by decide +kernel
theorem dX2_keepsTree_161 : decode cX2_keepsTree 161 = .ok (.iconst 1, 1) := by decide +kernel
theorem dX2_keepsTree_162 : decode cX2_keepsTree 162 = .ok (.iadd, 1) := by decide +kernel
theorem dX2_keepsTree_163 : decode cX2_keepsTree 163 = .ok (.goto 5, 3) := by decide +kernel
theorem dX2_keepsTree_166 : decode cX2_keepsTree 166 = .ok (.iload 4, 2) := by decide +kernel
theorem dX2_keepsTree_168 : decode cX2_keepsTree 168 = .ok (.istore 4, 2) := by decide +kernel
theorem dX2_keepsTree_170 : decode cX2_keepsTree 170 = .ok (.iinc 5 1, 3) := by decide +kernel
theorem dX2_keepsTree_173 : decode cX2_keepsTree 173 = .ok (.goto (-55), 3) := by decide +kernel
theorem dX2_keepsTree_176 : decode cX2_keepsTree 176 = .ok (.aload_n 0, 1) := by decide +kernel
theorem dX2_keepsTree_177 : decode cX2_keepsTree 177 = .ok (.getfield 16, 3) := by decide +kernel
theorem dX2_keepsTree_180 : decode cX2_keepsTree 180 = .ok (.iload_n 3, 1) := by decide +kernel
theorem dX2_keepsTree_181 : decode cX2_keepsTree 181 = .ok (.baload, 1) := by decide +kernel
theorem dX2_keepsTree_182 : decode cX2_keepsTree 182 = .ok (.ifCond .eq 34, 3) := by decide +kernel
theorem dX2_keepsTree_185 : decode cX2_keepsTree 185 = .ok (.aload_n 0, 1) := by decide +kernel
theorem dX2_keepsTree_186 : decode cX2_keepsTree 186 = .ok (.iload_n 1, 1) := by decide +kernel
theorem dX2_keepsTree_187 : decode cX2_keepsTree 187 = .ok (.iload_n 3, 1) := by decide +kernel
theorem dX2_keepsTree_188 : decode cX2_keepsTree 188 = .ok (.invokevirtual 94, 3) := by decide +kernel
theorem dX2_keepsTree_191 : decode cX2_keepsTree 191 = .ok (.ifCond .eq 25, 3) := by decide +kernel
theorem dX2_keepsTree_194 : decode cX2_keepsTree 194 = .ok (.iload 4, 2) := by decide +kernel
theorem dX2_keepsTree_196 : decode cX2_keepsTree 196 = .ok (.aload_n 0, 1) := by decide +kernel
theorem dX2_keepsTree_197 : decode cX2_keepsTree 197 = .ok (.getfield 20, 3) := by decide +kernel
theorem dX2_keepsTree_200 : decode cX2_keepsTree 200 = .ok (.iload_n 3, 1) := by decide +kernel
theorem dX2_keepsTree_201 : decode cX2_keepsTree 201 = .ok (.iaload, 1) := by decide +kernel
theorem dX2_keepsTree_202 : decode cX2_keepsTree 202 = .ok (.if_icmp .lt 18, 3) := by decide +kernel
theorem dX2_keepsTree_205 : decode cX2_keepsTree 205 = .ok (.iload 4, 2) := by decide +kernel
theorem dX2_keepsTree_207 : decode cX2_keepsTree 207 = .ok (.aload_n 0, 1) := by decide +kernel
theorem dX2_keepsTree_208 : decode cX2_keepsTree 208 = .ok (.getfield 23, 3) := by decide +kernel
theorem dX2_keepsTree_211 : decode cX2_keepsTree 211 = .ok (.iload_n 3, 1) := by decide +kernel
theorem dX2_keepsTree_212 : decode cX2_keepsTree 212 = .ok (.iaload, 1) := by decide +kernel
theorem dX2_keepsTree_213 : decode cX2_keepsTree 213 = .ok (.if_icmp .gt 7, 3) := by decide +kernel
theorem dX2_keepsTree_216 : decode cX2_keepsTree 216 = .ok (.iconst 1, 1) := by decide +kernel
theorem dX2_keepsTree_217 : decode cX2_keepsTree 217 = .ok (.goto 4, 3) := by decide +kernel
theorem dX2_keepsTree_220 : decode cX2_keepsTree 220 = .ok (.iconst 0, 1) := by decide +kernel
theorem dX2_keepsTree_221 : decode cX2_keepsTree 221 = .ok (.istore_n 2, 1) := by decide +kernel
theorem dX2_keepsTree_222 : decode cX2_keepsTree 222 = .ok (.iinc 3 1, 3) := by decide +kernel
theorem dX2_keepsTree_225 : decode cX2_keepsTree 225 = .ok (.goto (-125), 3) := by decide +kernel
theorem dX2_keepsTree_228 : decode cX2_keepsTree 228 = .ok (.iload_n 2, 1) := by decide +kernel
theorem dX2_keepsTree_229 : decode cX2_keepsTree 229 = .ok (.ireturn, 1) := by decide +kernel
abbrev cX2_isIn : ByteArray := prog_7_method_13_code
def yX2_isIn : MethodName := ⟨RX2, "isIn", "(II)Z"⟩
theorem dX2_isIn_0 : decode cX2_isIn 0 = .ok (.iload_n 1, 1) := by decide +kernel
theorem dX2_isIn_1 : decode cX2_isIn 1 = .ok (.aload_n 0, 1) := by decide +kernel
theorem dX2_isIn_2 : decode cX2_isIn 2 = .ok (.getfield 63, 3) := by decide +kernel
theorem dX2_isIn_5 : decode cX2_isIn 5 = .ok (.iload_n 2, 1) := by decide +kernel
theorem dX2_isIn_6 : decode cX2_isIn 6 = .ok (.isub, 1) := by decide +kernel
theorem dX2_isIn_7 : decode cX2_isIn 7 = .ok (.ishr, 1) := by decide +kernel
theorem dX2_isIn_8 : decode cX2_isIn 8 = .ok (.iconst 1, 1) := by decide +kernel
theorem dX2_isIn_9 : decode cX2_isIn 9 = .ok (.iand, 1) := by decide +kernel
theorem dX2_isIn_10 : decode cX2_isIn 10 = .ok (.iconst 1, 1) := by decide +kernel
theorem dX2_isIn_11 : decode cX2_isIn 11 = .ok (.if_icmp .ne 7, 3) := by decide +kernel
theorem dX2_isIn_14 : decode cX2_isIn 14 = .ok (.iconst 1, 1) := by decide +kernel
theorem dX2_isIn_15 : decode cX2_isIn 15 = .ok (.goto 4, 3) := by decide +kernel
theorem dX2_isIn_18 : decode cX2_isIn 18 = .ok (.iconst 0, 1) := by decide +kernel
theorem dX2_isIn_19 : decode cX2_isIn 19 = .ok (.ireturn, 1) := by decide +kernel
abbrev cX2_keepsFormulas : ByteArray := prog_7_method_16_code
def yX2_keepsFormulas : MethodName := ⟨RX2, "keepsFormulas", "(I)Z"⟩
theorem dX2_keepsFormulas_0 : decode cX2_keepsFormulas 0 = .ok (.iconst 1, 1) := by decide +kernel
theorem dX2_keepsFormulas_1 : decode cX2_keepsFormulas 1 = .ok (.istore_n 2, 1) := by decide +kernel
theorem dX2_keepsFormulas_2 : decode cX2_keepsFormulas 2 = .ok (.iconst 0, 1) := by decide +kernel
theorem dX2_keepsFormulas_3 : decode cX2_keepsFormulas 3 = .ok (.istore_n 3, 1) := by decide +kernel
theorem dX2_keepsFormulas_4 : decode cX2_keepsFormulas 4 = .ok (.iload_n 3, 1) := by decide +kernel
theorem dX2_keepsFormulas_5 : decode cX2_keepsFormulas 5 = .ok (.aload_n 0, 1) := by decide +kernel
theorem dX2_keepsFormulas_6 : decode cX2_keepsFormulas 6 = .ok (.getfield 81, 3) := by decide +kernel
theorem dX2_keepsFormulas_9 : decode cX2_keepsFormulas 9 = .ok (.if_icmp .ge 135, 3) := by decide +kernel
theorem dX2_keepsFormulas_12 : decode cX2_keepsFormulas 12 = .ok (.iload_n 2, 1) := by decide +kernel
theorem dX2_keepsFormulas_13 : decode cX2_keepsFormulas 13 = .ok (.ifCond .eq 131, 3) := by decide +kernel
theorem dX2_keepsFormulas_16 : decode cX2_keepsFormulas 16 = .ok (.aload_n 0, 1) := by decide +kernel
theorem dX2_keepsFormulas_17 : decode cX2_keepsFormulas 17 = .ok (.iload_n 1, 1) := by decide +kernel
theorem dX2_keepsFormulas_18 : decode cX2_keepsFormulas 18 = .ok (.aload_n 0, 1) := by decide +kernel
theorem dX2_keepsFormulas_19 : decode cX2_keepsFormulas 19 = .ok (.getfield 32, 3) := by decide +kernel
theorem dX2_keepsFormulas_22 : decode cX2_keepsFormulas 22 = .ok (.iload_n 3, 1) := by decide +kernel
theorem dX2_keepsFormulas_23 : decode cX2_keepsFormulas 23 = .ok (.iaload, 1) := by decide +kernel
theorem dX2_keepsFormulas_24 : decode cX2_keepsFormulas 24 = .ok (.invokevirtual 98, 3) := by decide +kernel
theorem dX2_keepsFormulas_27 : decode cX2_keepsFormulas 27 = .ok (.istore 4, 2) := by decide +kernel
theorem dX2_keepsFormulas_29 : decode cX2_keepsFormulas 29 = .ok (.aload_n 0, 1) := by decide +kernel
theorem dX2_keepsFormulas_30 : decode cX2_keepsFormulas 30 = .ok (.iload_n 1, 1) := by decide +kernel
theorem dX2_keepsFormulas_31 : decode cX2_keepsFormulas 31 = .ok (.aload_n 0, 1) := by decide +kernel
theorem dX2_keepsFormulas_32 : decode cX2_keepsFormulas 32 = .ok (.getfield 35, 3) := by decide +kernel
theorem dX2_keepsFormulas_35 : decode cX2_keepsFormulas 35 = .ok (.iload_n 3, 1) := by decide +kernel
theorem dX2_keepsFormulas_36 : decode cX2_keepsFormulas 36 = .ok (.iaload, 1) := by decide +kernel
theorem dX2_keepsFormulas_37 : decode cX2_keepsFormulas 37 = .ok (.invokevirtual 98, 3) := by decide +kernel
theorem dX2_keepsFormulas_40 : decode cX2_keepsFormulas 40 = .ok (.istore 5, 2) := by decide +kernel
theorem dX2_keepsFormulas_42 : decode cX2_keepsFormulas 42 = .ok (.aload_n 0, 1) := by decide +kernel
theorem dX2_keepsFormulas_43 : decode cX2_keepsFormulas 43 = .ok (.getfield 29, 3) := by decide +kernel
theorem dX2_keepsFormulas_46 : decode cX2_keepsFormulas 46 = .ok (.iload_n 3, 1) := by decide +kernel
theorem dX2_keepsFormulas_47 : decode cX2_keepsFormulas 47 = .ok (.iaload, 1) := by decide +kernel
theorem dX2_keepsFormulas_48 : decode cX2_keepsFormulas 48 = .ok (.ifCond .ne 21, 3) := by decide +kernel
theorem dX2_keepsFormulas_51 : decode cX2_keepsFormulas 51 = .ok (.iload 4, 2) := by decide +kernel
theorem dX2_keepsFormulas_53 : decode cX2_keepsFormulas 53 = .ok (.ifCond .eq 8, 3) := by decide +kernel
theorem dX2_keepsFormulas_56 : decode cX2_keepsFormulas 56 = .ok (.iload 5, 2) := by decide +kernel
theorem dX2_keepsFormulas_58 : decode cX2_keepsFormulas 58 = .ok (.ifCond .eq 7, 3) := by decide +kernel
theorem dX2_keepsFormulas_61 : decode cX2_keepsFormulas 61 = .ok (.iconst 1, 1) := by decide +kernel
theorem dX2_keepsFormulas_62 : decode cX2_keepsFormulas 62 = .ok (.goto 75, 3) := by decide +kernel
theorem dX2_keepsFormulas_65 : decode cX2_keepsFormulas 65 = .ok (.iconst 0, 1) := by decide +kernel
theorem dX2_keepsFormulas_66 : decode cX2_keepsFormulas 66 = .ok (.goto 71, 3) := by decide +kernel
theorem dX2_keepsFormulas_69 : decode cX2_keepsFormulas 69 = .ok (.aload_n 0, 1) := by decide +kernel
theorem dX2_keepsFormulas_70 : decode cX2_keepsFormulas 70 = .ok (.getfield 29, 3) := by decide +kernel
theorem dX2_keepsFormulas_73 : decode cX2_keepsFormulas 73 = .ok (.iload_n 3, 1) := by decide +kernel
theorem dX2_keepsFormulas_74 : decode cX2_keepsFormulas 74 = .ok (.iaload, 1) := by decide +kernel
theorem dX2_keepsFormulas_75 : decode cX2_keepsFormulas 75 = .ok (.iconst 1, 1) := by decide +kernel
theorem dX2_keepsFormulas_76 : decode cX2_keepsFormulas 76 = .ok (.if_icmp .ne 21, 3) := by decide +kernel
theorem dX2_keepsFormulas_79 : decode cX2_keepsFormulas 79 = .ok (.iload 4, 2) := by decide +kernel
theorem dX2_keepsFormulas_81 : decode cX2_keepsFormulas 81 = .ok (.ifCond .eq 8, 3) := by decide +kernel
theorem dX2_keepsFormulas_84 : decode cX2_keepsFormulas 84 = .ok (.iload 5, 2) := by decide +kernel
theorem dX2_keepsFormulas_86 : decode cX2_keepsFormulas 86 = .ok (.ifCond .ne 7, 3) := by decide +kernel
theorem dX2_keepsFormulas_89 : decode cX2_keepsFormulas 89 = .ok (.iconst 1, 1) := by decide +kernel
theorem dX2_keepsFormulas_90 : decode cX2_keepsFormulas 90 = .ok (.goto 47, 3) := by decide +kernel
theorem dX2_keepsFormulas_93 : decode cX2_keepsFormulas 93 = .ok (.iconst 0, 1) := by decide +kernel
theorem dX2_keepsFormulas_94 : decode cX2_keepsFormulas 94 = .ok (.goto 43, 3) := by decide +kernel
theorem dX2_keepsFormulas_97 : decode cX2_keepsFormulas 97 = .ok (.aload_n 0, 1) := by decide +kernel
theorem dX2_keepsFormulas_98 : decode cX2_keepsFormulas 98 = .ok (.getfield 29, 3) := by decide +kernel
theorem dX2_keepsFormulas_101 : decode cX2_keepsFormulas 101 = .ok (.iload_n 3, 1) := by decide +kernel
theorem dX2_keepsFormulas_102 : decode cX2_keepsFormulas 102 = .ok (.iaload, 1) := by decide +kernel
theorem dX2_keepsFormulas_103 : decode cX2_keepsFormulas 103 = .ok (.iconst 2, 1) := by decide +kernel
theorem dX2_keepsFormulas_104 : decode cX2_keepsFormulas 104 = .ok (.if_icmp .ne 21, 3) := by decide +kernel
theorem dX2_keepsFormulas_107 : decode cX2_keepsFormulas 107 = .ok (.iload 4, 2) := by decide +kernel
theorem dX2_keepsFormulas_109 : decode cX2_keepsFormulas 109 = .ok (.ifCond .ne 8, 3) := by decide +kernel
theorem dX2_keepsFormulas_112 : decode cX2_keepsFormulas 112 = .ok (.iload 5, 2) := by decide +kernel
theorem dX2_keepsFormulas_114 : decode cX2_keepsFormulas 114 = .ok (.ifCond .eq 7, 3) := by decide +kernel
theorem dX2_keepsFormulas_117 : decode cX2_keepsFormulas 117 = .ok (.iconst 1, 1) := by decide +kernel
theorem dX2_keepsFormulas_118 : decode cX2_keepsFormulas 118 = .ok (.goto 19, 3) := by decide +kernel
theorem dX2_keepsFormulas_121 : decode cX2_keepsFormulas 121 = .ok (.iconst 0, 1) := by decide +kernel
theorem dX2_keepsFormulas_122 : decode cX2_keepsFormulas 122 = .ok (.goto 15, 3) := by decide +kernel
theorem dX2_keepsFormulas_125 : decode cX2_keepsFormulas 125 = .ok (.iload 4, 2) := by decide +kernel
theorem dX2_keepsFormulas_127 : decode cX2_keepsFormulas 127 = .ok (.iload 5, 2) := by decide +kernel
theorem dX2_keepsFormulas_129 : decode cX2_keepsFormulas 129 = .ok (.if_icmp .ne 7, 3) := by decide +kernel
theorem dX2_keepsFormulas_132 : decode cX2_keepsFormulas 132 = .ok (.iconst 1, 1) := by decide +kernel
theorem dX2_keepsFormulas_133 : decode cX2_keepsFormulas 133 = .ok (.goto 4, 3) := by decide +kernel
theorem dX2_keepsFormulas_136 : decode cX2_keepsFormulas 136 = .ok (.iconst 0, 1) := by decide +kernel
theorem dX2_keepsFormulas_137 : decode cX2_keepsFormulas 137 = .ok (.istore_n 2, 1) := by decide +kernel
theorem dX2_keepsFormulas_138 : decode cX2_keepsFormulas 138 = .ok (.iinc 3 1, 3) := by decide +kernel
theorem dX2_keepsFormulas_141 : decode cX2_keepsFormulas 141 = .ok (.goto (-137), 3) := by decide +kernel
theorem dX2_keepsFormulas_144 : decode cX2_keepsFormulas 144 = .ok (.iload_n 2, 1) := by decide +kernel
theorem dX2_keepsFormulas_145 : decode cX2_keepsFormulas 145 = .ok (.ireturn, 1) := by decide +kernel
abbrev cX2_holds : ByteArray := prog_7_method_14_code
def yX2_holds : MethodName := ⟨RX2, "holds", "(II)Z"⟩
theorem dX2_holds_0 : decode cX2_holds 0 = .ok (.iload_n 2, 1) := by decide +kernel
theorem dX2_holds_1 : decode cX2_holds 1 = .ok (.ifCond .le 12, 3) := by decide +kernel
theorem dX2_holds_4 : decode cX2_holds 4 = .ok (.aload_n 0, 1) := by decide +kernel
theorem dX2_holds_5 : decode cX2_holds 5 = .ok (.iload_n 1, 1) := by decide +kernel
theorem dX2_holds_6 : decode cX2_holds 6 = .ok (.iload_n 2, 1) := by decide +kernel
theorem dX2_holds_7 : decode cX2_holds 7 = .ok (.invokevirtual 94, 3) := by decide +kernel
theorem dX2_holds_10 : decode cX2_holds 10 = .ok (.goto 18, 3) := by decide +kernel
theorem dX2_holds_13 : decode cX2_holds 13 = .ok (.aload_n 0, 1) := by decide +kernel
theorem dX2_holds_14 : decode cX2_holds 14 = .ok (.iload_n 1, 1) := by decide +kernel
theorem dX2_holds_15 : decode cX2_holds 15 = .ok (.iload_n 2, 1) := by decide +kernel
theorem dX2_holds_16 : decode cX2_holds 16 = .ok (.ineg, 1) := by decide +kernel
theorem dX2_holds_17 : decode cX2_holds 17 = .ok (.invokevirtual 94, 3) := by decide +kernel
theorem dX2_holds_20 : decode cX2_holds 20 = .ok (.ifCond .ne 7, 3) := by decide +kernel
theorem dX2_holds_23 : decode cX2_holds 23 = .ok (.iconst 1, 1) := by decide +kernel
theorem dX2_holds_24 : decode cX2_holds 24 = .ok (.goto 4, 3) := by decide +kernel
theorem dX2_holds_27 : decode cX2_holds 27 = .ok (.iconst 0, 1) := by decide +kernel
theorem dX2_holds_28 : decode cX2_holds 28 = .ok (.ireturn, 1) := by decide +kernel
abbrev cX2_keepsLimits : ByteArray := prog_7_method_17_code
def yX2_keepsLimits : MethodName := ⟨RX2, "keepsLimits", "(I)Z"⟩
theorem dX2_keepsLimits_0 : decode cX2_keepsLimits 0 = .ok (.iconst 1, 1) := by decide +kernel
theorem dX2_keepsLimits_1 : decode cX2_keepsLimits 1 = .ok (.istore_n 2, 1) := by decide +kernel
theorem dX2_keepsLimits_2 : decode cX2_keepsLimits 2 = .ok (.iconst 0, 1) := by decide +kernel
theorem dX2_keepsLimits_3 : decode cX2_keepsLimits 3 = .ok (.istore_n 3, 1) := by decide +kernel
theorem dX2_keepsLimits_4 : decode cX2_keepsLimits 4 = .ok (.iload_n 3, 1) := by decide +kernel
theorem dX2_keepsLimits_5 : decode cX2_keepsLimits 5 = .ok (.iconst 4, 1) := by decide +kernel
theorem dX2_keepsLimits_6 : decode cX2_keepsLimits 6 = .ok (.if_icmp .ge 91, 3) := by decide +kernel
theorem dX2_keepsLimits_9 : decode cX2_keepsLimits 9 = .ok (.iconst 0, 1) := by decide +kernel
theorem dX2_keepsLimits_10 : decode cX2_keepsLimits 10 = .ok (.istore 4, 2) := by decide +kernel
theorem dX2_keepsLimits_12 : decode cX2_keepsLimits 12 = .ok (.iconst 1, 1) := by decide +kernel
theorem dX2_keepsLimits_13 : decode cX2_keepsLimits 13 = .ok (.istore 5, 2) := by decide +kernel
theorem dX2_keepsLimits_15 : decode cX2_keepsLimits 15 = .ok (.iload 5, 2) := by decide +kernel
theorem dX2_keepsLimits_17 : decode cX2_keepsLimits 17 = .ok (.aload_n 0, 1) := by decide +kernel
theorem dX2_keepsLimits_18 : decode cX2_keepsLimits 18 = .ok (.getfield 63, 3) := by decide +kernel
theorem dX2_keepsLimits_21 : decode cX2_keepsLimits 21 = .ok (.if_icmp .gt 40, 3) := by decide +kernel
theorem dX2_keepsLimits_24 : decode cX2_keepsLimits 24 = .ok (.aload_n 0, 1) := by decide +kernel
theorem dX2_keepsLimits_25 : decode cX2_keepsLimits 25 = .ok (.iload_n 1, 1) := by decide +kernel
theorem dX2_keepsLimits_26 : decode cX2_keepsLimits 26 = .ok (.iload 5, 2) := by decide +kernel
theorem dX2_keepsLimits_28 : decode cX2_keepsLimits 28 = .ok (.invokevirtual 94, 3) := by decide +kernel
theorem dX2_keepsLimits_31 : decode cX2_keepsLimits 31 = .ok (.ifCond .eq 20, 3) := by decide +kernel
theorem dX2_keepsLimits_34 : decode cX2_keepsLimits 34 = .ok (.iload 4, 2) := by decide +kernel
theorem dX2_keepsLimits_36 : decode cX2_keepsLimits 36 = .ok (.aload_n 0, 1) := by decide +kernel
theorem dX2_keepsLimits_37 : decode cX2_keepsLimits 37 = .ok (.getfield 26, 3) := by decide +kernel
theorem dX2_keepsLimits_40 : decode cX2_keepsLimits 40 = .ok (.iconst 4, 1) := by decide +kernel
theorem dX2_keepsLimits_41 : decode cX2_keepsLimits 41 = .ok (.iload 5, 2) := by decide +kernel
theorem dX2_keepsLimits_43 : decode cX2_keepsLimits 43 = .ok (.imul, 1) := by decide +kernel
theorem dX2_keepsLimits_44 : decode cX2_keepsLimits 44 = .ok (.iload_n 3, 1) := by decide +kernel
theorem dX2_keepsLimits_45 : decode cX2_keepsLimits 45 = .ok (.iadd, 1) := by decide +kernel
theorem dX2_keepsLimits_46 : decode cX2_keepsLimits 46 = .ok (.iaload, 1) := by decide +kernel
theorem dX2_keepsLimits_47 : decode cX2_keepsLimits 47 = .ok (.iadd, 1) := by decide +kernel
theorem dX2_keepsLimits_48 : decode cX2_keepsLimits 48 = .ok (.goto 5, 3) := by decide +kernel
theorem dX2_keepsLimits_51 : decode cX2_keepsLimits 51 = .ok (.iload 4, 2) := by decide +kernel
theorem dX2_keepsLimits_53 : decode cX2_keepsLimits 53 = .ok (.istore 4, 2) := by decide +kernel
theorem dX2_keepsLimits_55 : decode cX2_keepsLimits 55 = .ok (.iinc 5 1, 3) := by decide +kernel
theorem dX2_keepsLimits_58 : decode cX2_keepsLimits 58 = .ok (.goto (-43), 3) := by decide +kernel
theorem dX2_keepsLimits_61 : decode cX2_keepsLimits 61 = .ok (.iload_n 2, 1) := by decide +kernel
theorem dX2_keepsLimits_62 : decode cX2_keepsLimits 62 = .ok (.ifCond .eq 27, 3) := by decide +kernel
theorem dX2_keepsLimits_65 : decode cX2_keepsLimits 65 = .ok (.aload_n 0, 1) := by decide +kernel
theorem dX2_keepsLimits_66 : decode cX2_keepsLimits 66 = .ok (.getfield 38, 3) := by decide +kernel
theorem dX2_keepsLimits_69 : decode cX2_keepsLimits 69 = .ok (.iload_n 3, 1) := by decide +kernel
theorem dX2_keepsLimits_70 : decode cX2_keepsLimits 70 = .ok (.baload, 1) := by decide +kernel
theorem dX2_keepsLimits_71 : decode cX2_keepsLimits 71 = .ok (.ifCond .eq 14, 3) := by decide +kernel
theorem dX2_keepsLimits_74 : decode cX2_keepsLimits 74 = .ok (.iload 4, 2) := by decide +kernel
theorem dX2_keepsLimits_76 : decode cX2_keepsLimits 76 = .ok (.aload_n 0, 1) := by decide +kernel
theorem dX2_keepsLimits_77 : decode cX2_keepsLimits 77 = .ok (.getfield 41, 3) := by decide +kernel
theorem dX2_keepsLimits_80 : decode cX2_keepsLimits 80 = .ok (.iload_n 3, 1) := by decide +kernel
theorem dX2_keepsLimits_81 : decode cX2_keepsLimits 81 = .ok (.iaload, 1) := by decide +kernel
theorem dX2_keepsLimits_82 : decode cX2_keepsLimits 82 = .ok (.if_icmp .gt 7, 3) := by decide +kernel
theorem dX2_keepsLimits_85 : decode cX2_keepsLimits 85 = .ok (.iconst 1, 1) := by decide +kernel
theorem dX2_keepsLimits_86 : decode cX2_keepsLimits 86 = .ok (.goto 4, 3) := by decide +kernel
theorem dX2_keepsLimits_89 : decode cX2_keepsLimits 89 = .ok (.iconst 0, 1) := by decide +kernel
theorem dX2_keepsLimits_90 : decode cX2_keepsLimits 90 = .ok (.istore_n 2, 1) := by decide +kernel
theorem dX2_keepsLimits_91 : decode cX2_keepsLimits 91 = .ok (.iinc 3 1, 3) := by decide +kernel
theorem dX2_keepsLimits_94 : decode cX2_keepsLimits 94 = .ok (.goto (-90), 3) := by decide +kernel
theorem dX2_keepsLimits_97 : decode cX2_keepsLimits 97 = .ok (.iload_n 2, 1) := by decide +kernel
theorem dX2_keepsLimits_98 : decode cX2_keepsLimits 98 = .ok (.ireturn, 1) := by decide +kernel
abbrev cX2_keepsChoices : ByteArray := prog_7_method_19_code
def yX2_keepsChoices : MethodName := ⟨RX2, "keepsChoices", "(II)Z"⟩
theorem dX2_keepsChoices_0 : decode cX2_keepsChoices 0 = .ok (.iconst 1, 1) := by decide +kernel
theorem dX2_keepsChoices_1 : decode cX2_keepsChoices 1 = .ok (.istore_n 3, 1) := by decide +kernel
theorem dX2_keepsChoices_2 : decode cX2_keepsChoices 2 = .ok (.iconst 0, 1) := by decide +kernel
theorem dX2_keepsChoices_3 : decode cX2_keepsChoices 3 = .ok (.istore 4, 2) := by decide +kernel
theorem dX2_keepsChoices_5 : decode cX2_keepsChoices 5 = .ok (.iload 4, 2) := by decide +kernel
theorem dX2_keepsChoices_7 : decode cX2_keepsChoices 7 = .ok (.aload_n 0, 1) := by decide +kernel
theorem dX2_keepsChoices_8 : decode cX2_keepsChoices 8 = .ok (.getfield 84, 3) := by decide +kernel
theorem dX2_keepsChoices_11 : decode cX2_keepsChoices 11 = .ok (.if_icmp .ge 44, 3) := by decide +kernel
theorem dX2_keepsChoices_14 : decode cX2_keepsChoices 14 = .ok (.iload_n 3, 1) := by decide +kernel
theorem dX2_keepsChoices_15 : decode cX2_keepsChoices 15 = .ok (.ifCond .eq 40, 3) := by decide +kernel
theorem dX2_keepsChoices_18 : decode cX2_keepsChoices 18 = .ok (.iload_n 2, 1) := by decide +kernel
theorem dX2_keepsChoices_19 : decode cX2_keepsChoices 19 = .ok (.iload 4, 2) := by decide +kernel
theorem dX2_keepsChoices_21 : decode cX2_keepsChoices 21 = .ok (.ishr, 1) := by decide +kernel
theorem dX2_keepsChoices_22 : decode cX2_keepsChoices 22 = .ok (.iconst 1, 1) := by decide +kernel
theorem dX2_keepsChoices_23 : decode cX2_keepsChoices 23 = .ok (.iand, 1) := by decide +kernel
theorem dX2_keepsChoices_24 : decode cX2_keepsChoices 24 = .ok (.iconst 1, 1) := by decide +kernel
theorem dX2_keepsChoices_25 : decode cX2_keepsChoices 25 = .ok (.if_icmp .eq 18, 3) := by decide +kernel
theorem dX2_keepsChoices_28 : decode cX2_keepsChoices 28 = .ok (.aload_n 0, 1) := by decide +kernel
theorem dX2_keepsChoices_29 : decode cX2_keepsChoices 29 = .ok (.iload_n 1, 1) := by decide +kernel
theorem dX2_keepsChoices_30 : decode cX2_keepsChoices 30 = .ok (.aload_n 0, 1) := by decide +kernel
theorem dX2_keepsChoices_31 : decode cX2_keepsChoices 31 = .ok (.getfield 44, 3) := by decide +kernel
theorem dX2_keepsChoices_34 : decode cX2_keepsChoices 34 = .ok (.iload 4, 2) := by decide +kernel
theorem dX2_keepsChoices_36 : decode cX2_keepsChoices 36 = .ok (.iaload, 1) := by decide +kernel
theorem dX2_keepsChoices_37 : decode cX2_keepsChoices 37 = .ok (.invokevirtual 98, 3) := by decide +kernel
theorem dX2_keepsChoices_40 : decode cX2_keepsChoices 40 = .ok (.ifCond .eq 7, 3) := by decide +kernel
theorem dX2_keepsChoices_43 : decode cX2_keepsChoices 43 = .ok (.iconst 1, 1) := by decide +kernel
theorem dX2_keepsChoices_44 : decode cX2_keepsChoices 44 = .ok (.goto 4, 3) := by decide +kernel
theorem dX2_keepsChoices_47 : decode cX2_keepsChoices 47 = .ok (.iconst 0, 1) := by decide +kernel
theorem dX2_keepsChoices_48 : decode cX2_keepsChoices 48 = .ok (.istore_n 3, 1) := by decide +kernel
theorem dX2_keepsChoices_49 : decode cX2_keepsChoices 49 = .ok (.iinc 4 1, 3) := by decide +kernel
theorem dX2_keepsChoices_52 : decode cX2_keepsChoices 52 = .ok (.goto (-47), 3) := by decide +kernel
theorem dX2_keepsChoices_55 : decode cX2_keepsChoices 55 = .ok (.iload_n 3, 1) := by decide +kernel
theorem dX2_keepsChoices_56 : decode cX2_keepsChoices 56 = .ok (.ireturn, 1) := by decide +kernel
abbrev cX2_count : ByteArray := prog_7_method_25_code
def yX2_count : MethodName := ⟨RX2, "count", "(J)J"⟩
theorem dX2_count_0 : decode cX2_count 0 = .ok (.aload_n 0, 1) := by decide +kernel
theorem dX2_count_1 : decode cX2_count 1 = .ok (.iconst 0, 1) := by decide +kernel
theorem dX2_count_2 : decode cX2_count 2 = .ok (.putfield 59, 3) := by decide +kernel
theorem dX2_count_5 : decode cX2_count 5 = .ok (.lload_n 1, 1) := by decide +kernel
theorem dX2_count_6 : decode cX2_count 6 = .ok (.lconst 0, 1) := by decide +kernel
theorem dX2_count_7 : decode cX2_count 7 = .ok (.lcmp, 1) := by decide +kernel
theorem dX2_count_8 : decode cX2_count 8 = .ok (.ifCond .ge 7, 3) := by decide +kernel
theorem dX2_count_11 : decode cX2_count 11 = .ok (.ldc2_w 141, 3) := by decide +kernel
theorem dX2_count_14 : decode cX2_count 14 = .ok (.lreturn, 1) := by decide +kernel
theorem dX2_count_15 : decode cX2_count 15 = .ok (.lconst 1, 1) := by decide +kernel
theorem dX2_count_16 : decode cX2_count 16 = .ok (.aload_n 0, 1) := by decide +kernel
theorem dX2_count_17 : decode cX2_count 17 = .ok (.getfield 63, 3) := by decide +kernel
theorem dX2_count_20 : decode cX2_count 20 = .ok (.lshl, 1) := by decide +kernel
theorem dX2_count_21 : decode cX2_count 21 = .ok (.lload_n 1, 1) := by decide +kernel
theorem dX2_count_22 : decode cX2_count 22 = .ok (.lcmp, 1) := by decide +kernel
theorem dX2_count_23 : decode cX2_count 23 = .ok (.ifCond .le 7, 3) := by decide +kernel
theorem dX2_count_26 : decode cX2_count 26 = .ok (.ldc2_w 143, 3) := by decide +kernel
theorem dX2_count_29 : decode cX2_count 29 = .ok (.lreturn, 1) := by decide +kernel
theorem dX2_count_30 : decode cX2_count 30 = .ok (.aload_n 0, 1) := by decide +kernel
theorem dX2_count_31 : decode cX2_count 31 = .ok (.invokevirtual 113, 3) := by decide +kernel
theorem dX2_count_34 : decode cX2_count 34 = .ok (.lconst 0, 1) := by decide +kernel
theorem dX2_count_35 : decode cX2_count 35 = .ok (.lstore_n 3, 1) := by decide +kernel
theorem dX2_count_36 : decode cX2_count 36 = .ok (.iconst 0, 1) := by decide +kernel
theorem dX2_count_37 : decode cX2_count 37 = .ok (.istore 5, 2) := by decide +kernel
theorem dX2_count_39 : decode cX2_count 39 = .ok (.iload 5, 2) := by decide +kernel
theorem dX2_count_41 : decode cX2_count 41 = .ok (.aload_n 0, 1) := by decide +kernel
theorem dX2_count_42 : decode cX2_count 42 = .ok (.getfield 101, 3) := by decide +kernel
theorem dX2_count_45 : decode cX2_count 45 = .ok (.if_icmp .ge 32, 3) := by decide +kernel
theorem dX2_count_48 : decode cX2_count 48 = .ok (.aload_n 0, 1) := by decide +kernel
theorem dX2_count_49 : decode cX2_count 49 = .ok (.aload_n 0, 1) := by decide +kernel
theorem dX2_count_50 : decode cX2_count 50 = .ok (.getfield 47, 3) := by decide +kernel
theorem dX2_count_53 : decode cX2_count 53 = .ok (.iload 5, 2) := by decide +kernel
theorem dX2_count_55 : decode cX2_count 55 = .ok (.iaload, 1) := by decide +kernel
theorem dX2_count_56 : decode cX2_count 56 = .ok (.iconst 0, 1) := by decide +kernel
theorem dX2_count_57 : decode cX2_count 57 = .ok (.invokevirtual 116, 3) := by decide +kernel
theorem dX2_count_60 : decode cX2_count 60 = .ok (.ifCond .eq 9, 3) := by decide +kernel
theorem dX2_count_63 : decode cX2_count 63 = .ok (.lload_n 3, 1) := by decide +kernel
theorem dX2_count_64 : decode cX2_count 64 = .ok (.lconst 1, 1) := by decide +kernel
theorem dX2_count_65 : decode cX2_count 65 = .ok (.ladd, 1) := by decide +kernel
theorem dX2_count_66 : decode cX2_count 66 = .ok (.goto 4, 3) := by decide +kernel
theorem dX2_count_69 : decode cX2_count 69 = .ok (.lload_n 3, 1) := by decide +kernel
theorem dX2_count_70 : decode cX2_count 70 = .ok (.lstore_n 3, 1) := by decide +kernel
theorem dX2_count_71 : decode cX2_count 71 = .ok (.iinc 5 1, 3) := by decide +kernel
theorem dX2_count_74 : decode cX2_count 74 = .ok (.goto (-35), 3) := by decide +kernel
theorem dX2_count_77 : decode cX2_count 77 = .ok (.lload_n 3, 1) := by decide +kernel
theorem dX2_count_78 : decode cX2_count 78 = .ok (.lreturn, 1) := by decide +kernel
abbrev cX2_forces : ByteArray := prog_7_method_26_code
def yX2_forces : MethodName := ⟨RX2, "forces", "(II)I"⟩
theorem dX2_forces_0 : decode cX2_forces 0 = .ok (.aload_n 0, 1) := by decide +kernel
theorem dX2_forces_1 : decode cX2_forces 1 = .ok (.iconst 0, 1) := by decide +kernel
theorem dX2_forces_2 : decode cX2_forces 2 = .ok (.putfield 59, 3) := by decide +kernel
theorem dX2_forces_5 : decode cX2_forces 5 = .ok (.aload_n 0, 1) := by decide +kernel
theorem dX2_forces_6 : decode cX2_forces 6 = .ok (.iload_n 1, 1) := by decide +kernel
theorem dX2_forces_7 : decode cX2_forces 7 = .ok (.invokevirtual 66, 3) := by decide +kernel
theorem dX2_forces_10 : decode cX2_forces 10 = .ok (.ifCond .ne 5, 3) := by decide +kernel
theorem dX2_forces_13 : decode cX2_forces 13 = .ok (.iconst (-1), 1) := by decide +kernel
theorem dX2_forces_14 : decode cX2_forces 14 = .ok (.ireturn, 1) := by decide +kernel
theorem dX2_forces_15 : decode cX2_forces 15 = .ok (.aload_n 0, 1) := by decide +kernel
theorem dX2_forces_16 : decode cX2_forces 16 = .ok (.invokevirtual 113, 3) := by decide +kernel
theorem dX2_forces_19 : decode cX2_forces 19 = .ok (.iconst (-1), 1) := by decide +kernel
theorem dX2_forces_20 : decode cX2_forces 20 = .ok (.istore_n 3, 1) := by decide +kernel
theorem dX2_forces_21 : decode cX2_forces 21 = .ok (.iconst 0, 1) := by decide +kernel
theorem dX2_forces_22 : decode cX2_forces 22 = .ok (.istore 4, 2) := by decide +kernel
theorem dX2_forces_24 : decode cX2_forces 24 = .ok (.iconst 0, 1) := by decide +kernel
theorem dX2_forces_25 : decode cX2_forces 25 = .ok (.istore 5, 2) := by decide +kernel
theorem dX2_forces_27 : decode cX2_forces 27 = .ok (.iconst 0, 1) := by decide +kernel
theorem dX2_forces_28 : decode cX2_forces 28 = .ok (.istore 6, 2) := by decide +kernel
theorem dX2_forces_30 : decode cX2_forces 30 = .ok (.iload 6, 2) := by decide +kernel
theorem dX2_forces_32 : decode cX2_forces 32 = .ok (.aload_n 0, 1) := by decide +kernel
theorem dX2_forces_33 : decode cX2_forces 33 = .ok (.getfield 101, 3) := by decide +kernel
theorem dX2_forces_36 : decode cX2_forces 36 = .ok (.if_icmp .ge 64, 3) := by decide +kernel
theorem dX2_forces_39 : decode cX2_forces 39 = .ok (.aload_n 0, 1) := by decide +kernel
theorem dX2_forces_40 : decode cX2_forces 40 = .ok (.aload_n 0, 1) := by decide +kernel
theorem dX2_forces_41 : decode cX2_forces 41 = .ok (.getfield 47, 3) := by decide +kernel
theorem dX2_forces_44 : decode cX2_forces 44 = .ok (.iload 6, 2) := by decide +kernel
theorem dX2_forces_46 : decode cX2_forces 46 = .ok (.iaload, 1) := by decide +kernel
theorem dX2_forces_47 : decode cX2_forces 47 = .ok (.iload_n 1, 1) := by decide +kernel
theorem dX2_forces_48 : decode cX2_forces 48 = .ok (.invokevirtual 94, 3) := by decide +kernel
theorem dX2_forces_51 : decode cX2_forces 51 = .ok (.ifCond .eq 43, 3) := by decide +kernel
theorem dX2_forces_54 : decode cX2_forces 54 = .ok (.aload_n 0, 1) := by decide +kernel
theorem dX2_forces_55 : decode cX2_forces 55 = .ok (.aload_n 0, 1) := by decide +kernel
theorem dX2_forces_56 : decode cX2_forces 56 = .ok (.getfield 47, 3) := by decide +kernel
theorem dX2_forces_59 : decode cX2_forces 59 = .ok (.iload 6, 2) := by decide +kernel
theorem dX2_forces_61 : decode cX2_forces 61 = .ok (.iaload, 1) := by decide +kernel
theorem dX2_forces_62 : decode cX2_forces 62 = .ok (.iconst 0, 1) := by decide +kernel
theorem dX2_forces_63 : decode cX2_forces 63 = .ok (.invokevirtual 116, 3) := by decide +kernel
theorem dX2_forces_66 : decode cX2_forces 66 = .ok (.ifCond .eq 28, 3) := by decide +kernel
theorem dX2_forces_69 : decode cX2_forces 69 = .ok (.iload_n 3, 1) := by decide +kernel
theorem dX2_forces_70 : decode cX2_forces 70 = .ok (.aload_n 0, 1) := by decide +kernel
theorem dX2_forces_71 : decode cX2_forces 71 = .ok (.getfield 47, 3) := by decide +kernel
theorem dX2_forces_74 : decode cX2_forces 74 = .ok (.iload 6, 2) := by decide +kernel
theorem dX2_forces_76 : decode cX2_forces 76 = .ok (.iaload, 1) := by decide +kernel
theorem dX2_forces_77 : decode cX2_forces 77 = .ok (.iand, 1) := by decide +kernel
theorem dX2_forces_78 : decode cX2_forces 78 = .ok (.istore_n 3, 1) := by decide +kernel
theorem dX2_forces_79 : decode cX2_forces 79 = .ok (.iload 4, 2) := by decide +kernel
theorem dX2_forces_81 : decode cX2_forces 81 = .ok (.aload_n 0, 1) := by decide +kernel
theorem dX2_forces_82 : decode cX2_forces 82 = .ok (.getfield 47, 3) := by decide +kernel
theorem dX2_forces_85 : decode cX2_forces 85 = .ok (.iload 6, 2) := by decide +kernel
theorem dX2_forces_87 : decode cX2_forces 87 = .ok (.iaload, 1) := by decide +kernel
theorem dX2_forces_88 : decode cX2_forces 88 = .ok (.ior, 1) := by decide +kernel
theorem dX2_forces_89 : decode cX2_forces 89 = .ok (.istore 4, 2) := by decide +kernel
theorem dX2_forces_91 : decode cX2_forces 91 = .ok (.iconst 1, 1) := by decide +kernel
theorem dX2_forces_92 : decode cX2_forces 92 = .ok (.istore 5, 2) := by decide +kernel
theorem dX2_forces_94 : decode cX2_forces 94 = .ok (.iinc 6 1, 3) := by decide +kernel
theorem dX2_forces_97 : decode cX2_forces 97 = .ok (.goto (-67), 3) := by decide +kernel
theorem dX2_forces_100 : decode cX2_forces 100 = .ok (.iload_n 2, 1) := by decide +kernel
theorem dX2_forces_101 : decode cX2_forces 101 = .ok (.istore 6, 2) := by decide +kernel
theorem dX2_forces_103 : decode cX2_forces 103 = .ok (.iconst 1, 1) := by decide +kernel
theorem dX2_forces_104 : decode cX2_forces 104 = .ok (.istore 7, 2) := by decide +kernel
theorem dX2_forces_106 : decode cX2_forces 106 = .ok (.iload 7, 2) := by decide +kernel
theorem dX2_forces_108 : decode cX2_forces 108 = .ok (.aload_n 0, 1) := by decide +kernel
theorem dX2_forces_109 : decode cX2_forces 109 = .ok (.getfield 63, 3) := by decide +kernel
theorem dX2_forces_112 : decode cX2_forces 112 = .ok (.if_icmp .gt 71, 3) := by decide +kernel
theorem dX2_forces_115 : decode cX2_forces 115 = .ok (.iload 5, 2) := by decide +kernel
theorem dX2_forces_117 : decode cX2_forces 117 = .ok (.ifCond .eq 66, 3) := by decide +kernel
theorem dX2_forces_120 : decode cX2_forces 120 = .ok (.iload_n 2, 1) := by decide +kernel
theorem dX2_forces_121 : decode cX2_forces 121 = .ok (.ifCond .lt 62, 3) := by decide +kernel
theorem dX2_forces_124 : decode cX2_forces 124 = .ok (.aload_n 0, 1) := by decide +kernel
theorem dX2_forces_125 : decode cX2_forces 125 = .ok (.iload_n 3, 1) := by decide +kernel
theorem dX2_forces_126 : decode cX2_forces 126 = .ok (.iload 7, 2) := by decide +kernel
theorem dX2_forces_128 : decode cX2_forces 128 = .ok (.invokevirtual 94, 3) := by decide +kernel
theorem dX2_forces_131 : decode cX2_forces 131 = .ok (.istore 8, 2) := by decide +kernel
theorem dX2_forces_133 : decode cX2_forces 133 = .ok (.iload 7, 2) := by decide +kernel
theorem dX2_forces_135 : decode cX2_forces 135 = .ok (.iload_n 1, 1) := by decide +kernel
theorem dX2_forces_136 : decode cX2_forces 136 = .ok (.if_icmp .eq 41, 3) := by decide +kernel
theorem dX2_forces_139 : decode cX2_forces 139 = .ok (.iload 8, 2) := by decide +kernel
theorem dX2_forces_141 : decode cX2_forces 141 = .ok (.ifCond .ne 14, 3) := by decide +kernel
theorem dX2_forces_144 : decode cX2_forces 144 = .ok (.aload_n 0, 1) := by decide +kernel
theorem dX2_forces_145 : decode cX2_forces 145 = .ok (.iload 4, 2) := by decide +kernel
theorem dX2_forces_147 : decode cX2_forces 147 = .ok (.iload 7, 2) := by decide +kernel
theorem dX2_forces_149 : decode cX2_forces 149 = .ok (.invokevirtual 94, 3) := by decide +kernel
theorem dX2_forces_152 : decode cX2_forces 152 = .ok (.ifCond .ne 25, 3) := by decide +kernel
theorem dX2_forces_155 : decode cX2_forces 155 = .ok (.iload 6, 2) := by decide +kernel
theorem dX2_forces_157 : decode cX2_forces 157 = .ok (.ifCond .ne 17, 3) := by decide +kernel
theorem dX2_forces_160 : decode cX2_forces 160 = .ok (.iload 8, 2) := by decide +kernel
theorem dX2_forces_162 : decode cX2_forces 162 = .ok (.ifCond .eq 8, 3) := by decide +kernel
theorem dX2_forces_165 : decode cX2_forces 165 = .ok (.iload 7, 2) := by decide +kernel
theorem dX2_forces_167 : decode cX2_forces 167 = .ok (.goto 6, 3) := by decide +kernel
theorem dX2_forces_170 : decode cX2_forces 170 = .ok (.iload 7, 2) := by decide +kernel
theorem dX2_forces_172 : decode cX2_forces 172 = .ok (.ineg, 1) := by decide +kernel
theorem dX2_forces_173 : decode cX2_forces 173 = .ok (.ireturn, 1) := by decide +kernel
theorem dX2_forces_174 : decode cX2_forces 174 = .ok (.iinc 6 (-1), 3) := by decide +kernel
theorem dX2_forces_177 : decode cX2_forces 177 = .ok (.iinc 7 1, 3) := by decide +kernel
theorem dX2_forces_180 : decode cX2_forces 180 = .ok (.goto (-74), 3) := by decide +kernel
theorem dX2_forces_183 : decode cX2_forces 183 = .ok (.iconst 0, 1) := by decide +kernel
theorem dX2_forces_184 : decode cX2_forces 184 = .ok (.ireturn, 1) := by decide +kernel
abbrev cX2_differ : ByteArray := prog_7_method_27_code
def yX2_differ : MethodName := ⟨RX2, "differ", "(II)I"⟩
theorem dX2_differ_0 : decode cX2_differ 0 = .ok (.aload_n 0, 1) := by decide +kernel
theorem dX2_differ_1 : decode cX2_differ 1 = .ok (.iconst 0, 1) := by decide +kernel
theorem dX2_differ_2 : decode cX2_differ 2 = .ok (.putfield 59, 3) := by decide +kernel
theorem dX2_differ_5 : decode cX2_differ 5 = .ok (.iload_n 1, 1) := by decide +kernel
theorem dX2_differ_6 : decode cX2_differ 6 = .ok (.iconst 1, 1) := by decide +kernel
theorem dX2_differ_7 : decode cX2_differ 7 = .ok (.if_icmp .lt 24, 3) := by decide +kernel
theorem dX2_differ_10 : decode cX2_differ 10 = .ok (.iload_n 1, 1) := by decide +kernel
theorem dX2_differ_11 : decode cX2_differ 11 = .ok (.aload_n 0, 1) := by decide +kernel
theorem dX2_differ_12 : decode cX2_differ 12 = .ok (.getfield 134, 3) := by decide +kernel
theorem dX2_differ_15 : decode cX2_differ 15 = .ok (.if_icmp .gt 16, 3) := by decide +kernel
theorem dX2_differ_18 : decode cX2_differ 18 = .ok (.iload_n 2, 1) := by decide +kernel
theorem dX2_differ_19 : decode cX2_differ 19 = .ok (.iconst 1, 1) := by decide +kernel
theorem dX2_differ_20 : decode cX2_differ 20 = .ok (.if_icmp .lt 11, 3) := by decide +kernel
theorem dX2_differ_23 : decode cX2_differ 23 = .ok (.iload_n 2, 1) := by decide +kernel
theorem dX2_differ_24 : decode cX2_differ 24 = .ok (.aload_n 0, 1) := by decide +kernel
theorem dX2_differ_25 : decode cX2_differ 25 = .ok (.getfield 134, 3) := by decide +kernel
theorem dX2_differ_28 : decode cX2_differ 28 = .ok (.if_icmp .le 5, 3) := by decide +kernel
theorem dX2_differ_31 : decode cX2_differ 31 = .ok (.iconst (-1), 1) := by decide +kernel
theorem dX2_differ_32 : decode cX2_differ 32 = .ok (.ireturn, 1) := by decide +kernel
theorem dX2_differ_33 : decode cX2_differ 33 = .ok (.iconst 0, 1) := by decide +kernel
theorem dX2_differ_34 : decode cX2_differ 34 = .ok (.istore_n 3, 1) := by decide +kernel
theorem dX2_differ_35 : decode cX2_differ 35 = .ok (.iconst 1, 1) := by decide +kernel
theorem dX2_differ_36 : decode cX2_differ 36 = .ok (.istore 4, 2) := by decide +kernel
theorem dX2_differ_38 : decode cX2_differ 38 = .ok (.iload 4, 2) := by decide +kernel
theorem dX2_differ_40 : decode cX2_differ 40 = .ok (.bipush 14, 2) := by decide +kernel
theorem dX2_differ_42 : decode cX2_differ 42 = .ok (.if_icmp .gt 62, 3) := by decide +kernel
theorem dX2_differ_45 : decode cX2_differ 45 = .ok (.aload_n 0, 1) := by decide +kernel
theorem dX2_differ_46 : decode cX2_differ 46 = .ok (.getfield 50, 3) := by decide +kernel
theorem dX2_differ_49 : decode cX2_differ 49 = .ok (.iload_n 1, 1) := by decide +kernel
theorem dX2_differ_50 : decode cX2_differ 50 = .ok (.iaload, 1) := by decide +kernel
theorem dX2_differ_51 : decode cX2_differ 51 = .ok (.aload_n 0, 1) := by decide +kernel
theorem dX2_differ_52 : decode cX2_differ 52 = .ok (.getfield 53, 3) := by decide +kernel
theorem dX2_differ_55 : decode cX2_differ 55 = .ok (.iload_n 1, 1) := by decide +kernel
theorem dX2_differ_56 : decode cX2_differ 56 = .ok (.iaload, 1) := by decide +kernel
theorem dX2_differ_57 : decode cX2_differ 57 = .ok (.iload 4, 2) := by decide +kernel
theorem dX2_differ_59 : decode cX2_differ 59 = .ok (.invokestatic 137, 3) := by decide +kernel
theorem dX2_differ_62 : decode cX2_differ 62 = .ok (.istore 5, 2) := by decide +kernel
theorem dX2_differ_64 : decode cX2_differ 64 = .ok (.aload_n 0, 1) := by decide +kernel
theorem dX2_differ_65 : decode cX2_differ 65 = .ok (.getfield 50, 3) := by decide +kernel
theorem dX2_differ_68 : decode cX2_differ 68 = .ok (.iload_n 2, 1) := by decide +kernel
theorem dX2_differ_69 : decode cX2_differ 69 = .ok (.iaload, 1) := by decide +kernel
theorem dX2_differ_70 : decode cX2_differ 70 = .ok (.aload_n 0, 1) := by decide +kernel
theorem dX2_differ_71 : decode cX2_differ 71 = .ok (.getfield 53, 3) := by decide +kernel
theorem dX2_differ_74 : decode cX2_differ 74 = .ok (.iload_n 2, 1) := by decide +kernel
theorem dX2_differ_75 : decode cX2_differ 75 = .ok (.iaload, 1) := by decide +kernel
theorem dX2_differ_76 : decode cX2_differ 76 = .ok (.iload 4, 2) := by decide +kernel
theorem dX2_differ_78 : decode cX2_differ 78 = .ok (.invokestatic 137, 3) := by decide +kernel
theorem dX2_differ_81 : decode cX2_differ 81 = .ok (.istore 6, 2) := by decide +kernel
theorem dX2_differ_83 : decode cX2_differ 83 = .ok (.iload 5, 2) := by decide +kernel
theorem dX2_differ_85 : decode cX2_differ 85 = .ok (.iload 6, 2) := by decide +kernel
theorem dX2_differ_87 : decode cX2_differ 87 = .ok (.if_icmp .eq 9, 3) := by decide +kernel
theorem dX2_differ_90 : decode cX2_differ 90 = .ok (.iload_n 3, 1) := by decide +kernel
theorem dX2_differ_91 : decode cX2_differ 91 = .ok (.iconst 1, 1) := by decide +kernel
theorem dX2_differ_92 : decode cX2_differ 92 = .ok (.iadd, 1) := by decide +kernel
theorem dX2_differ_93 : decode cX2_differ 93 = .ok (.goto 4, 3) := by decide +kernel
theorem dX2_differ_96 : decode cX2_differ 96 = .ok (.iload_n 3, 1) := by decide +kernel
theorem dX2_differ_97 : decode cX2_differ 97 = .ok (.istore_n 3, 1) := by decide +kernel
theorem dX2_differ_98 : decode cX2_differ 98 = .ok (.iinc 4 1, 3) := by decide +kernel
theorem dX2_differ_101 : decode cX2_differ 101 = .ok (.goto (-63), 3) := by decide +kernel
theorem dX2_differ_104 : decode cX2_differ 104 = .ok (.iload_n 3, 1) := by decide +kernel
theorem dX2_differ_105 : decode cX2_differ 105 = .ok (.ireturn, 1) := by decide +kernel
