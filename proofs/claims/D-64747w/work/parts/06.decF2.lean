set_option maxRecDepth 100000
abbrev cX1_solve : ByteArray := prog_1_method_18_code
def yX1_solve : MethodName := ⟨RX1, "solve", "()I"⟩
theorem dX1_solve_0 : decode cX1_solve 0 = .ok (.aload_n 0, 1) := by decide +kernel
theorem dX1_solve_1 : decode cX1_solve 1 = .ok (.invokevirtual 218, 3) := by decide +kernel
theorem dX1_solve_4 : decode cX1_solve 4 = .ok (.aload_n 0, 1) := by decide +kernel
theorem dX1_solve_5 : decode cX1_solve 5 = .ok (.getfield 58, 3) := by decide +kernel
theorem dX1_solve_8 : decode cX1_solve 8 = .ok (.invokeinterface 144 1, 5) := by decide +kernel
theorem dX1_solve_13 : decode cX1_solve 13 = .ok (.aload_n 0, 1) := by decide +kernel
theorem dX1_solve_14 : decode cX1_solve 14 = .ok (.aload_n 0, 1) := by decide +kernel
theorem dX1_solve_15 : decode cX1_solve 15 = .ok (.aload_n 0, 1) := by decide +kernel
theorem dX1_solve_16 : decode cX1_solve 16 = .ok (.iconst 1, 1) := by decide +kernel
theorem dX1_solve_17 : decode cX1_solve 17 = .ok (.iconst 0, 1) := by decide +kernel
theorem dX1_solve_18 : decode cX1_solve 18 = .ok (.invokevirtual 221, 3) := by decide +kernel
theorem dX1_solve_21 : decode cX1_solve 21 = .ok (.aload_n 0, 1) := by decide +kernel
theorem dX1_solve_22 : decode cX1_solve 22 = .ok (.iconst 0, 1) := by decide +kernel
theorem dX1_solve_23 : decode cX1_solve 23 = .ok (.iconst 0, 1) := by decide +kernel
theorem dX1_solve_24 : decode cX1_solve 24 = .ok (.invokevirtual 221, 3) := by decide +kernel
theorem dX1_solve_27 : decode cX1_solve 27 = .ok (.invokevirtual 179, 3) := by decide +kernel
theorem dX1_solve_30 : decode cX1_solve 30 = .ok (.putfield 54, 3) := by decide +kernel
theorem dX1_solve_33 : decode cX1_solve 33 = .ok (.aload_n 0, 1) := by decide +kernel
theorem dX1_solve_34 : decode cX1_solve 34 = .ok (.getfield 54, 3) := by decide +kernel
theorem dX1_solve_37 : decode cX1_solve 37 = .ok (.ifCond .lt 37, 3) := by decide +kernel
theorem dX1_solve_40 : decode cX1_solve 40 = .ok (.aload_n 0, 1) := by decide +kernel
theorem dX1_solve_41 : decode cX1_solve 41 = .ok (.getfield 51, 3) := by decide +kernel
theorem dX1_solve_44 : decode cX1_solve 44 = .ok (.invokeinterface 164 1, 5) := by decide +kernel
theorem dX1_solve_49 : decode cX1_solve 49 = .ok (.sipush 200, 3) := by decide +kernel
theorem dX1_solve_52 : decode cX1_solve 52 = .ok (.if_icmp .ge 20, 3) := by decide +kernel
theorem dX1_solve_55 : decode cX1_solve 55 = .ok (.aload_n 0, 1) := by decide +kernel
theorem dX1_solve_56 : decode cX1_solve 56 = .ok (.getfield 51, 3) := by decide +kernel
theorem dX1_solve_59 : decode cX1_solve 59 = .ok (.aload_n 0, 1) := by decide +kernel
theorem dX1_solve_60 : decode cX1_solve 60 = .ok (.getfield 54, 3) := by decide +kernel
theorem dX1_solve_63 : decode cX1_solve 63 = .ok (.invokestatic 123, 3) := by decide +kernel
theorem dX1_solve_66 : decode cX1_solve 66 = .ok (.invokeinterface 113 2, 5) := by decide +kernel
theorem dX1_solve_71 : decode cX1_solve 71 = .ok (.pop, 1) := by decide +kernel
theorem dX1_solve_72 : decode cX1_solve 72 = .ok (.iconst 1, 1) := by decide +kernel
theorem dX1_solve_73 : decode cX1_solve 73 = .ok (.ireturn, 1) := by decide +kernel
theorem dX1_solve_74 : decode cX1_solve 74 = .ok (.iconst 0, 1) := by decide +kernel
theorem dX1_solve_75 : decode cX1_solve 75 = .ok (.istore_n 1, 1) := by decide +kernel
theorem dX1_solve_76 : decode cX1_solve 76 = .ok (.aload_n 0, 1) := by decide +kernel
theorem dX1_solve_77 : decode cX1_solve 77 = .ok (.getfield 44, 3) := by decide +kernel
theorem dX1_solve_80 : decode cX1_solve 80 = .ok (.invokevirtual 187, 3) := by decide +kernel
theorem dX1_solve_83 : decode cX1_solve 83 = .ok (.invokeinterface 191 1, 5) := by decide +kernel
theorem dX1_solve_88 : decode cX1_solve 88 = .ok (.astore_n 2, 1) := by decide +kernel
theorem dX1_solve_89 : decode cX1_solve 89 = .ok (.aload_n 2, 1) := by decide +kernel
theorem dX1_solve_90 : decode cX1_solve 90 = .ok (.invokeinterface 197 1, 5) := by decide +kernel
theorem dX1_solve_95 : decode cX1_solve 95 = .ok (.ifCond .eq 85, 3) := by decide +kernel
theorem dX1_solve_98 : decode cX1_solve 98 = .ok (.aload_n 2, 1) := by decide +kernel
theorem dX1_solve_99 : decode cX1_solve 99 = .ok (.invokeinterface 203 1, 5) := by decide +kernel
theorem dX1_solve_104 : decode cX1_solve 104 = .ok (.checkcast 207, 3) := by decide +kernel
theorem dX1_solve_107 : decode cX1_solve 107 = .ok (.astore_n 3, 1) := by decide +kernel
theorem dX1_solve_108 : decode cX1_solve 108 = .ok (.aload_n 0, 1) := by decide +kernel
theorem dX1_solve_109 : decode cX1_solve 109 = .ok (.aload_n 0, 1) := by decide +kernel
theorem dX1_solve_110 : decode cX1_solve 110 = .ok (.iconst 1, 1) := by decide +kernel
theorem dX1_solve_111 : decode cX1_solve 111 = .ok (.iload_n 1, 1) := by decide +kernel
theorem dX1_solve_112 : decode cX1_solve 112 = .ok (.aload_n 3, 1) := by decide +kernel
theorem dX1_solve_113 : decode cX1_solve 113 = .ok (.invokeinterface 215 1, 5) := by decide +kernel
theorem dX1_solve_118 : decode cX1_solve 118 = .ok (.checkcast 24, 3) := by decide +kernel
theorem dX1_solve_121 : decode cX1_solve 121 = .ok (.invokevirtual 158, 3) := by decide +kernel
theorem dX1_solve_124 : decode cX1_solve 124 = .ok (.invokestatic 84, 3) := by decide +kernel
theorem dX1_solve_127 : decode cX1_solve 127 = .ok (.ior, 1) := by decide +kernel
theorem dX1_solve_128 : decode cX1_solve 128 = .ok (.invokevirtual 221, 3) := by decide +kernel
theorem dX1_solve_131 : decode cX1_solve 131 = .ok (.aload_n 0, 1) := by decide +kernel
theorem dX1_solve_132 : decode cX1_solve 132 = .ok (.iconst 0, 1) := by decide +kernel
theorem dX1_solve_133 : decode cX1_solve 133 = .ok (.iload_n 1, 1) := by decide +kernel
theorem dX1_solve_134 : decode cX1_solve 134 = .ok (.aload_n 3, 1) := by decide +kernel
theorem dX1_solve_135 : decode cX1_solve 135 = .ok (.invokeinterface 215 1, 5) := by decide +kernel
theorem dX1_solve_140 : decode cX1_solve 140 = .ok (.checkcast 24, 3) := by decide +kernel
theorem dX1_solve_143 : decode cX1_solve 143 = .ok (.invokevirtual 158, 3) := by decide +kernel
theorem dX1_solve_146 : decode cX1_solve 146 = .ok (.invokestatic 84, 3) := by decide +kernel
theorem dX1_solve_149 : decode cX1_solve 149 = .ok (.ior, 1) := by decide +kernel
theorem dX1_solve_150 : decode cX1_solve 150 = .ok (.invokevirtual 221, 3) := by decide +kernel
theorem dX1_solve_153 : decode cX1_solve 153 = .ok (.invokevirtual 179, 3) := by decide +kernel
theorem dX1_solve_156 : decode cX1_solve 156 = .ok (.ifCond .ge 21, 3) := by decide +kernel
theorem dX1_solve_159 : decode cX1_solve 159 = .ok (.iload_n 1, 1) := by decide +kernel
theorem dX1_solve_160 : decode cX1_solve 160 = .ok (.aload_n 3, 1) := by decide +kernel
theorem dX1_solve_161 : decode cX1_solve 161 = .ok (.invokeinterface 215 1, 5) := by decide +kernel
theorem dX1_solve_166 : decode cX1_solve 166 = .ok (.checkcast 24, 3) := by decide +kernel
theorem dX1_solve_169 : decode cX1_solve 169 = .ok (.invokevirtual 158, 3) := by decide +kernel
theorem dX1_solve_172 : decode cX1_solve 172 = .ok (.invokestatic 84, 3) := by decide +kernel
theorem dX1_solve_175 : decode cX1_solve 175 = .ok (.ior, 1) := by decide +kernel
theorem dX1_solve_176 : decode cX1_solve 176 = .ok (.istore_n 1, 1) := by decide +kernel
theorem dX1_solve_177 : decode cX1_solve 177 = .ok (.goto (-88), 3) := by decide +kernel
theorem dX1_solve_180 : decode cX1_solve 180 = .ok (.aload_n 0, 1) := by decide +kernel
theorem dX1_solve_181 : decode cX1_solve 181 = .ok (.getfield 44, 3) := by decide +kernel
theorem dX1_solve_184 : decode cX1_solve 184 = .ok (.invokevirtual 187, 3) := by decide +kernel
theorem dX1_solve_187 : decode cX1_solve 187 = .ok (.invokeinterface 191 1, 5) := by decide +kernel
theorem dX1_solve_192 : decode cX1_solve 192 = .ok (.astore_n 2, 1) := by decide +kernel
theorem dX1_solve_193 : decode cX1_solve 193 = .ok (.aload_n 2, 1) := by decide +kernel
theorem dX1_solve_194 : decode cX1_solve 194 = .ok (.invokeinterface 197 1, 5) := by decide +kernel
theorem dX1_solve_199 : decode cX1_solve 199 = .ok (.ifCond .eq 92, 3) := by decide +kernel
theorem dX1_solve_202 : decode cX1_solve 202 = .ok (.aload_n 2, 1) := by decide +kernel
theorem dX1_solve_203 : decode cX1_solve 203 = .ok (.invokeinterface 203 1, 5) := by decide +kernel
theorem dX1_solve_208 : decode cX1_solve 208 = .ok (.checkcast 207, 3) := by decide +kernel
theorem dX1_solve_211 : decode cX1_solve 211 = .ok (.astore_n 3, 1) := by decide +kernel
theorem dX1_solve_212 : decode cX1_solve 212 = .ok (.iload_n 1, 1) := by decide +kernel
theorem dX1_solve_213 : decode cX1_solve 213 = .ok (.aload_n 3, 1) := by decide +kernel
theorem dX1_solve_214 : decode cX1_solve 214 = .ok (.invokeinterface 215 1, 5) := by decide +kernel
theorem dX1_solve_219 : decode cX1_solve 219 = .ok (.checkcast 24, 3) := by decide +kernel
theorem dX1_solve_222 : decode cX1_solve 222 = .ok (.invokevirtual 158, 3) := by decide +kernel
theorem dX1_solve_225 : decode cX1_solve 225 = .ok (.invokestatic 84, 3) := by decide +kernel
theorem dX1_solve_228 : decode cX1_solve 228 = .ok (.iand, 1) := by decide +kernel
theorem dX1_solve_229 : decode cX1_solve 229 = .ok (.ifCond .ne 59, 3) := by decide +kernel
theorem dX1_solve_232 : decode cX1_solve 232 = .ok (.aload_n 0, 1) := by decide +kernel
theorem dX1_solve_233 : decode cX1_solve 233 = .ok (.getfield 58, 3) := by decide +kernel
theorem dX1_solve_236 : decode cX1_solve 236 = .ok (.aload_n 3, 1) := by decide +kernel
theorem dX1_solve_237 : decode cX1_solve 237 = .ok (.invokeinterface 209 1, 5) := by decide +kernel
theorem dX1_solve_242 : decode cX1_solve 242 = .ok (.checkcast 132, 3) := by decide +kernel
theorem dX1_solve_245 : decode cX1_solve 245 = .ok (.invokevirtual 212, 3) := by decide +kernel
theorem dX1_solve_248 : decode cX1_solve 248 = .ok (.ifCond .eq 18, 3) := by decide +kernel
theorem dX1_solve_251 : decode cX1_solve 251 = .ok (.aload_n 3, 1) := by decide +kernel
theorem dX1_solve_252 : decode cX1_solve 252 = .ok (.invokeinterface 215 1, 5) := by decide +kernel
theorem dX1_solve_257 : decode cX1_solve 257 = .ok (.checkcast 24, 3) := by decide +kernel
theorem dX1_solve_260 : decode cX1_solve 260 = .ok (.invokevirtual 158, 3) := by decide +kernel
theorem dX1_solve_263 : decode cX1_solve 263 = .ok (.goto 16, 3) := by decide +kernel
theorem dX1_solve_266 : decode cX1_solve 266 = .ok (.aload_n 3, 1) := by decide +kernel
theorem dX1_solve_267 : decode cX1_solve 267 = .ok (.invokeinterface 215 1, 5) := by decide +kernel
theorem dX1_solve_272 : decode cX1_solve 272 = .ok (.checkcast 24, 3) := by decide +kernel
theorem dX1_solve_275 : decode cX1_solve 275 = .ok (.invokevirtual 158, 3) := by decide +kernel
theorem dX1_solve_278 : decode cX1_solve 278 = .ok (.ineg, 1) := by decide +kernel
theorem dX1_solve_279 : decode cX1_solve 279 = .ok (.invokestatic 123, 3) := by decide +kernel
theorem dX1_solve_282 : decode cX1_solve 282 = .ok (.invokeinterface 113 2, 5) := by decide +kernel
theorem dX1_solve_287 : decode cX1_solve 287 = .ok (.pop, 1) := by decide +kernel
theorem dX1_solve_288 : decode cX1_solve 288 = .ok (.goto (-95), 3) := by decide +kernel
theorem dX1_solve_291 : decode cX1_solve 291 = .ok (.iconst 0, 1) := by decide +kernel
theorem dX1_solve_292 : decode cX1_solve 292 = .ok (.ireturn, 1) := by decide +kernel
abbrev cX1_given : ByteArray := prog_1_method_17_code
def yX1_given : MethodName := ⟨RX1, "given", "(ZI)I"⟩
theorem dX1_given_0 : decode cX1_given 0 = .ok (.iload_n 1, 1) := by decide +kernel
theorem dX1_given_1 : decode cX1_given 1 = .ok (.ifCond .eq 14, 3) := by decide +kernel
theorem dX1_given_4 : decode cX1_given 4 = .ok (.aload_n 0, 1) := by decide +kernel
theorem dX1_given_5 : decode cX1_given 5 = .ok (.getfield 61, 3) := by decide +kernel
theorem dX1_given_8 : decode cX1_given 8 = .ok (.ifCond .le 7, 3) := by decide +kernel
theorem dX1_given_11 : decode cX1_given 11 = .ok (.iconst 1, 1) := by decide +kernel
theorem dX1_given_12 : decode cX1_given 12 = .ok (.goto 4, 3) := by decide +kernel
theorem dX1_given_15 : decode cX1_given 15 = .ok (.iconst 0, 1) := by decide +kernel
theorem dX1_given_16 : decode cX1_given 16 = .ok (.istore_n 3, 1) := by decide +kernel
theorem dX1_given_17 : decode cX1_given 17 = .ok (.aload_n 0, 1) := by decide +kernel
theorem dX1_given_18 : decode cX1_given 18 = .ok (.getfield 44, 3) := by decide +kernel
theorem dX1_given_21 : decode cX1_given 21 = .ok (.invokevirtual 187, 3) := by decide +kernel
theorem dX1_given_24 : decode cX1_given 24 = .ok (.invokeinterface 191 1, 5) := by decide +kernel
theorem dX1_given_29 : decode cX1_given 29 = .ok (.astore 4, 2) := by decide +kernel
theorem dX1_given_31 : decode cX1_given 31 = .ok (.aload 4, 2) := by decide +kernel
theorem dX1_given_33 : decode cX1_given 33 = .ok (.invokeinterface 197 1, 5) := by decide +kernel
theorem dX1_given_38 : decode cX1_given 38 = .ok (.ifCond .eq 75, 3) := by decide +kernel
theorem dX1_given_41 : decode cX1_given 41 = .ok (.aload 4, 2) := by decide +kernel
theorem dX1_given_43 : decode cX1_given 43 = .ok (.invokeinterface 203 1, 5) := by decide +kernel
theorem dX1_given_48 : decode cX1_given 48 = .ok (.checkcast 207, 3) := by decide +kernel
theorem dX1_given_51 : decode cX1_given 51 = .ok (.astore 5, 2) := by decide +kernel
theorem dX1_given_53 : decode cX1_given 53 = .ok (.aload 5, 2) := by decide +kernel
theorem dX1_given_55 : decode cX1_given 55 = .ok (.invokeinterface 209 1, 5) := by decide +kernel
theorem dX1_given_60 : decode cX1_given 60 = .ok (.checkcast 132, 3) := by decide +kernel
theorem dX1_given_63 : decode cX1_given 63 = .ok (.invokevirtual 212, 3) := by decide +kernel
theorem dX1_given_66 : decode cX1_given 66 = .ok (.iload_n 1, 1) := by decide +kernel
theorem dX1_given_67 : decode cX1_given 67 = .ok (.if_icmp .ne 43, 3) := by decide +kernel
theorem dX1_given_70 : decode cX1_given 70 = .ok (.iload_n 2, 1) := by decide +kernel
theorem dX1_given_71 : decode cX1_given 71 = .ok (.aload 5, 2) := by decide +kernel
theorem dX1_given_73 : decode cX1_given 73 = .ok (.invokeinterface 215 1, 5) := by decide +kernel
theorem dX1_given_78 : decode cX1_given 78 = .ok (.checkcast 24, 3) := by decide +kernel
theorem dX1_given_81 : decode cX1_given 81 = .ok (.invokevirtual 158, 3) := by decide +kernel
theorem dX1_given_84 : decode cX1_given 84 = .ok (.invokestatic 84, 3) := by decide +kernel
theorem dX1_given_87 : decode cX1_given 87 = .ok (.iand, 1) := by decide +kernel
theorem dX1_given_88 : decode cX1_given 88 = .ok (.ifCond .ne 22, 3) := by decide +kernel
theorem dX1_given_91 : decode cX1_given 91 = .ok (.iload_n 3, 1) := by decide +kernel
theorem dX1_given_92 : decode cX1_given 92 = .ok (.aload 5, 2) := by decide +kernel
theorem dX1_given_94 : decode cX1_given 94 = .ok (.invokeinterface 215 1, 5) := by decide +kernel
theorem dX1_given_99 : decode cX1_given 99 = .ok (.checkcast 24, 3) := by decide +kernel
theorem dX1_given_102 : decode cX1_given 102 = .ok (.invokevirtual 158, 3) := by decide +kernel
theorem dX1_given_105 : decode cX1_given 105 = .ok (.invokestatic 84, 3) := by decide +kernel
theorem dX1_given_108 : decode cX1_given 108 = .ok (.ior, 1) := by decide +kernel
theorem dX1_given_109 : decode cX1_given 109 = .ok (.istore_n 3, 1) := by decide +kernel
theorem dX1_given_110 : decode cX1_given 110 = .ok (.goto (-79), 3) := by decide +kernel
theorem dX1_given_113 : decode cX1_given 113 = .ok (.iload_n 3, 1) := by decide +kernel
theorem dX1_given_114 : decode cX1_given 114 = .ok (.ireturn, 1) := by decide +kernel
abbrev cX1_first : ByteArray := prog_1_method_15_code
def yX1_first : MethodName := ⟨RX1, "first", "(II)I"⟩
theorem dX1_first_0 : decode cX1_first 0 = .ok (.iload_n 1, 1) := by decide +kernel
theorem dX1_first_1 : decode cX1_first 1 = .ok (.istore_n 3, 1) := by decide +kernel
theorem dX1_first_2 : decode cX1_first 2 = .ok (.iload_n 2, 1) := by decide +kernel
theorem dX1_first_3 : decode cX1_first 3 = .ok (.istore 4, 2) := by decide +kernel
theorem dX1_first_5 : decode cX1_first 5 = .ok (.iconst 1, 1) := by decide +kernel
theorem dX1_first_6 : decode cX1_first 6 = .ok (.istore 5, 2) := by decide +kernel
theorem dX1_first_8 : decode cX1_first 8 = .ok (.iload 5, 2) := by decide +kernel
theorem dX1_first_10 : decode cX1_first 10 = .ok (.ifCond .eq 154, 3) := by decide +kernel
theorem dX1_first_13 : decode cX1_first 13 = .ok (.iconst 0, 1) := by decide +kernel
theorem dX1_first_14 : decode cX1_first 14 = .ok (.istore 5, 2) := by decide +kernel
theorem dX1_first_16 : decode cX1_first 16 = .ok (.iload_n 3, 1) := by decide +kernel
theorem dX1_first_17 : decode cX1_first 17 = .ok (.iload 4, 2) := by decide +kernel
theorem dX1_first_19 : decode cX1_first 19 = .ok (.iand, 1) := by decide +kernel
theorem dX1_first_20 : decode cX1_first 20 = .ok (.ifCond .ne 13, 3) := by decide +kernel
theorem dX1_first_23 : decode cX1_first 23 = .ok (.aload_n 0, 1) := by decide +kernel
theorem dX1_first_24 : decode cX1_first 24 = .ok (.iload_n 3, 1) := by decide +kernel
theorem dX1_first_25 : decode cX1_first 25 = .ok (.iload 4, 2) := by decide +kernel
theorem dX1_first_27 : decode cX1_first 27 = .ok (.invokevirtual 175, 3) := by decide +kernel
theorem dX1_first_30 : decode cX1_first 30 = .ok (.ifCond .eq 5, 3) := by decide +kernel
theorem dX1_first_33 : decode cX1_first 33 = .ok (.iconst (-1), 1) := by decide +kernel
theorem dX1_first_34 : decode cX1_first 34 = .ok (.ireturn, 1) := by decide +kernel
theorem dX1_first_35 : decode cX1_first 35 = .ok (.aload_n 0, 1) := by decide +kernel
theorem dX1_first_36 : decode cX1_first 36 = .ok (.invokevirtual 176, 3) := by decide +kernel
theorem dX1_first_39 : decode cX1_first 39 = .ok (.iload_n 3, 1) := by decide +kernel
theorem dX1_first_40 : decode cX1_first 40 = .ok (.iconst (-1), 1) := by decide +kernel
theorem dX1_first_41 : decode cX1_first 41 = .ok (.ixor, 1) := by decide +kernel
theorem dX1_first_42 : decode cX1_first 42 = .ok (.iand, 1) := by decide +kernel
theorem dX1_first_43 : decode cX1_first 43 = .ok (.iload 4, 2) := by decide +kernel
theorem dX1_first_45 : decode cX1_first 45 = .ok (.iconst (-1), 1) := by decide +kernel
theorem dX1_first_46 : decode cX1_first 46 = .ok (.ixor, 1) := by decide +kernel
theorem dX1_first_47 : decode cX1_first 47 = .ok (.iand, 1) := by decide +kernel
theorem dX1_first_48 : decode cX1_first 48 = .ok (.istore 6, 2) := by decide +kernel
theorem dX1_first_50 : decode cX1_first 50 = .ok (.iload 6, 2) := by decide +kernel
theorem dX1_first_52 : decode cX1_first 52 = .ok (.ifCond .eq 109, 3) := by decide +kernel
theorem dX1_first_55 : decode cX1_first 55 = .ok (.iload 6, 2) := by decide +kernel
theorem dX1_first_57 : decode cX1_first 57 = .ok (.iload 6, 2) := by decide +kernel
theorem dX1_first_59 : decode cX1_first 59 = .ok (.ineg, 1) := by decide +kernel
theorem dX1_first_60 : decode cX1_first 60 = .ok (.iand, 1) := by decide +kernel
theorem dX1_first_61 : decode cX1_first 61 = .ok (.istore 7, 2) := by decide +kernel
theorem dX1_first_63 : decode cX1_first 63 = .ok (.aload_n 0, 1) := by decide +kernel
theorem dX1_first_64 : decode cX1_first 64 = .ok (.iload_n 3, 1) := by decide +kernel
theorem dX1_first_65 : decode cX1_first 65 = .ok (.iload 7, 2) := by decide +kernel
theorem dX1_first_67 : decode cX1_first 67 = .ok (.ior, 1) := by decide +kernel
theorem dX1_first_68 : decode cX1_first 68 = .ok (.iload 4, 2) := by decide +kernel
theorem dX1_first_70 : decode cX1_first 70 = .ok (.invokevirtual 175, 3) := by decide +kernel
theorem dX1_first_73 : decode cX1_first 73 = .ok (.istore 8, 2) := by decide +kernel
theorem dX1_first_75 : decode cX1_first 75 = .ok (.aload_n 0, 1) := by decide +kernel
theorem dX1_first_76 : decode cX1_first 76 = .ok (.iload_n 3, 1) := by decide +kernel
theorem dX1_first_77 : decode cX1_first 77 = .ok (.iload 4, 2) := by decide +kernel
theorem dX1_first_79 : decode cX1_first 79 = .ok (.iload 7, 2) := by decide +kernel
theorem dX1_first_81 : decode cX1_first 81 = .ok (.ior, 1) := by decide +kernel
theorem dX1_first_82 : decode cX1_first 82 = .ok (.invokevirtual 175, 3) := by decide +kernel
theorem dX1_first_85 : decode cX1_first 85 = .ok (.istore 9, 2) := by decide +kernel
theorem dX1_first_87 : decode cX1_first 87 = .ok (.iload 8, 2) := by decide +kernel
theorem dX1_first_89 : decode cX1_first 89 = .ok (.ifCond .eq 10, 3) := by decide +kernel
theorem dX1_first_92 : decode cX1_first 92 = .ok (.iload 9, 2) := by decide +kernel
theorem dX1_first_94 : decode cX1_first 94 = .ok (.ifCond .eq 5, 3) := by decide +kernel
theorem dX1_first_97 : decode cX1_first 97 = .ok (.iconst (-1), 1) := by decide +kernel
theorem dX1_first_98 : decode cX1_first 98 = .ok (.ireturn, 1) := by decide +kernel
theorem dX1_first_99 : decode cX1_first 99 = .ok (.iload_n 3, 1) := by decide +kernel
theorem dX1_first_100 : decode cX1_first 100 = .ok (.iload 9, 2) := by decide +kernel
theorem dX1_first_102 : decode cX1_first 102 = .ok (.ifCond .eq 8, 3) := by decide +kernel
theorem dX1_first_105 : decode cX1_first 105 = .ok (.iload 7, 2) := by decide +kernel
theorem dX1_first_107 : decode cX1_first 107 = .ok (.goto 4, 3) := by decide +kernel
theorem dX1_first_110 : decode cX1_first 110 = .ok (.iconst 0, 1) := by decide +kernel
theorem dX1_first_111 : decode cX1_first 111 = .ok (.ior, 1) := by decide +kernel
theorem dX1_first_112 : decode cX1_first 112 = .ok (.istore_n 3, 1) := by decide +kernel
theorem dX1_first_113 : decode cX1_first 113 = .ok (.iload 4, 2) := by decide +kernel
theorem dX1_first_115 : decode cX1_first 115 = .ok (.iload 8, 2) := by decide +kernel
theorem dX1_first_117 : decode cX1_first 117 = .ok (.ifCond .eq 8, 3) := by decide +kernel
theorem dX1_first_120 : decode cX1_first 120 = .ok (.iload 7, 2) := by decide +kernel
theorem dX1_first_122 : decode cX1_first 122 = .ok (.goto 4, 3) := by decide +kernel
theorem dX1_first_125 : decode cX1_first 125 = .ok (.iconst 0, 1) := by decide +kernel
theorem dX1_first_126 : decode cX1_first 126 = .ok (.ior, 1) := by decide +kernel
theorem dX1_first_127 : decode cX1_first 127 = .ok (.istore 4, 2) := by decide +kernel
theorem dX1_first_129 : decode cX1_first 129 = .ok (.iload 5, 2) := by decide +kernel
theorem dX1_first_131 : decode cX1_first 131 = .ok (.iload 8, 2) := by decide +kernel
theorem dX1_first_133 : decode cX1_first 133 = .ok (.ifCond .ne 8, 3) := by decide +kernel
theorem dX1_first_136 : decode cX1_first 136 = .ok (.iload 9, 2) := by decide +kernel
theorem dX1_first_138 : decode cX1_first 138 = .ok (.ifCond .eq 7, 3) := by decide +kernel
theorem dX1_first_141 : decode cX1_first 141 = .ok (.iconst 1, 1) := by decide +kernel
theorem dX1_first_142 : decode cX1_first 142 = .ok (.goto 4, 3) := by decide +kernel
theorem dX1_first_145 : decode cX1_first 145 = .ok (.iconst 0, 1) := by decide +kernel
theorem dX1_first_146 : decode cX1_first 146 = .ok (.ior, 1) := by decide +kernel
theorem dX1_first_147 : decode cX1_first 147 = .ok (.istore 5, 2) := by decide +kernel
theorem dX1_first_149 : decode cX1_first 149 = .ok (.iload 6, 2) := by decide +kernel
theorem dX1_first_151 : decode cX1_first 151 = .ok (.iload 6, 2) := by decide +kernel
theorem dX1_first_153 : decode cX1_first 153 = .ok (.iconst 1, 1) := by decide +kernel
theorem dX1_first_154 : decode cX1_first 154 = .ok (.isub, 1) := by decide +kernel
theorem dX1_first_155 : decode cX1_first 155 = .ok (.iand, 1) := by decide +kernel
theorem dX1_first_156 : decode cX1_first 156 = .ok (.istore 6, 2) := by decide +kernel
theorem dX1_first_158 : decode cX1_first 158 = .ok (.goto (-108), 3) := by decide +kernel
theorem dX1_first_161 : decode cX1_first 161 = .ok (.goto (-153), 3) := by decide +kernel
theorem dX1_first_164 : decode cX1_first 164 = .ok (.aload_n 0, 1) := by decide +kernel
theorem dX1_first_165 : decode cX1_first 165 = .ok (.invokevirtual 176, 3) := by decide +kernel
theorem dX1_first_168 : decode cX1_first 168 = .ok (.iload_n 3, 1) := by decide +kernel
theorem dX1_first_169 : decode cX1_first 169 = .ok (.iconst (-1), 1) := by decide +kernel
theorem dX1_first_170 : decode cX1_first 170 = .ok (.ixor, 1) := by decide +kernel
theorem dX1_first_171 : decode cX1_first 171 = .ok (.iand, 1) := by decide +kernel
theorem dX1_first_172 : decode cX1_first 172 = .ok (.iload 4, 2) := by decide +kernel
theorem dX1_first_174 : decode cX1_first 174 = .ok (.iconst (-1), 1) := by decide +kernel
theorem dX1_first_175 : decode cX1_first 175 = .ok (.ixor, 1) := by decide +kernel
theorem dX1_first_176 : decode cX1_first 176 = .ok (.iand, 1) := by decide +kernel
theorem dX1_first_177 : decode cX1_first 177 = .ok (.istore 6, 2) := by decide +kernel
theorem dX1_first_179 : decode cX1_first 179 = .ok (.iload 6, 2) := by decide +kernel
theorem dX1_first_181 : decode cX1_first 181 = .ok (.ifCond .ne 5, 3) := by decide +kernel
theorem dX1_first_184 : decode cX1_first 184 = .ok (.iload_n 3, 1) := by decide +kernel
theorem dX1_first_185 : decode cX1_first 185 = .ok (.ireturn, 1) := by decide +kernel
theorem dX1_first_186 : decode cX1_first 186 = .ok (.iload 6, 2) := by decide +kernel
theorem dX1_first_188 : decode cX1_first 188 = .ok (.iload 6, 2) := by decide +kernel
theorem dX1_first_190 : decode cX1_first 190 = .ok (.ineg, 1) := by decide +kernel
theorem dX1_first_191 : decode cX1_first 191 = .ok (.iand, 1) := by decide +kernel
theorem dX1_first_192 : decode cX1_first 192 = .ok (.istore 7, 2) := by decide +kernel
theorem dX1_first_194 : decode cX1_first 194 = .ok (.aload_n 0, 1) := by decide +kernel
theorem dX1_first_195 : decode cX1_first 195 = .ok (.iload_n 3, 1) := by decide +kernel
theorem dX1_first_196 : decode cX1_first 196 = .ok (.iload 7, 2) := by decide +kernel
theorem dX1_first_198 : decode cX1_first 198 = .ok (.ior, 1) := by decide +kernel
theorem dX1_first_199 : decode cX1_first 199 = .ok (.iload 4, 2) := by decide +kernel
theorem dX1_first_201 : decode cX1_first 201 = .ok (.invokevirtual 179, 3) := by decide +kernel
theorem dX1_first_204 : decode cX1_first 204 = .ok (.istore 8, 2) := by decide +kernel
theorem dX1_first_206 : decode cX1_first 206 = .ok (.iload 8, 2) := by decide +kernel
theorem dX1_first_208 : decode cX1_first 208 = .ok (.ifCond .lt 8, 3) := by decide +kernel
theorem dX1_first_211 : decode cX1_first 211 = .ok (.iload 8, 2) := by decide +kernel
theorem dX1_first_213 : decode cX1_first 213 = .ok (.goto 13, 3) := by decide +kernel
theorem dX1_first_216 : decode cX1_first 216 = .ok (.aload_n 0, 1) := by decide +kernel
theorem dX1_first_217 : decode cX1_first 217 = .ok (.iload_n 3, 1) := by decide +kernel
theorem dX1_first_218 : decode cX1_first 218 = .ok (.iload 4, 2) := by decide +kernel
theorem dX1_first_220 : decode cX1_first 220 = .ok (.iload 7, 2) := by decide +kernel
theorem dX1_first_222 : decode cX1_first 222 = .ok (.ior, 1) := by decide +kernel
theorem dX1_first_223 : decode cX1_first 223 = .ok (.invokevirtual 179, 3) := by decide +kernel
theorem dX1_first_226 : decode cX1_first 226 = .ok (.ireturn, 1) := by decide +kernel
abbrev cX1_isBroken : ByteArray := prog_1_method_14_code
def yX1_isBroken : MethodName := ⟨RX1, "isBroken", "(II)Z"⟩
theorem dX1_isBroken_0 : decode cX1_isBroken 0 = .ok (.iconst 0, 1) := by decide +kernel
theorem dX1_isBroken_1 : decode cX1_isBroken 1 = .ok (.istore_n 3, 1) := by decide +kernel
theorem dX1_isBroken_2 : decode cX1_isBroken 2 = .ok (.iload_n 3, 1) := by decide +kernel
theorem dX1_isBroken_3 : decode cX1_isBroken 3 = .ok (.aload_n 0, 1) := by decide +kernel
theorem dX1_isBroken_4 : decode cX1_isBroken 4 = .ok (.getfield 48, 3) := by decide +kernel
theorem dX1_isBroken_7 : decode cX1_isBroken 7 = .ok (.invokeinterface 164 1, 5) := by decide +kernel
theorem dX1_isBroken_12 : decode cX1_isBroken 12 = .ok (.if_icmp .ge 34, 3) := by decide +kernel
theorem dX1_isBroken_15 : decode cX1_isBroken 15 = .ok (.aload_n 0, 1) := by decide +kernel
theorem dX1_isBroken_16 : decode cX1_isBroken 16 = .ok (.getfield 48, 3) := by decide +kernel
theorem dX1_isBroken_19 : decode cX1_isBroken 19 = .ok (.iload_n 3, 1) := by decide +kernel
theorem dX1_isBroken_20 : decode cX1_isBroken 20 = .ok (.invokeinterface 165 2, 5) := by decide +kernel
theorem dX1_isBroken_25 : decode cX1_isBroken 25 = .ok (.checkcast 169, 3) := by decide +kernel
theorem dX1_isBroken_28 : decode cX1_isBroken 28 = .ok (.iload_n 1, 1) := by decide +kernel
theorem dX1_isBroken_29 : decode cX1_isBroken 29 = .ok (.iload_n 2, 1) := by decide +kernel
theorem dX1_isBroken_30 : decode cX1_isBroken 30 = .ok (.invokeinterface 171 3, 5) := by decide +kernel
theorem dX1_isBroken_35 : decode cX1_isBroken 35 = .ok (.ifCond .eq 5, 3) := by decide +kernel
theorem dX1_isBroken_38 : decode cX1_isBroken 38 = .ok (.iconst 1, 1) := by decide +kernel
theorem dX1_isBroken_39 : decode cX1_isBroken 39 = .ok (.ireturn, 1) := by decide +kernel
theorem dX1_isBroken_40 : decode cX1_isBroken 40 = .ok (.iinc 3 1, 3) := by decide +kernel
theorem dX1_isBroken_43 : decode cX1_isBroken 43 = .ok (.goto (-41), 3) := by decide +kernel
theorem dX1_isBroken_46 : decode cX1_isBroken 46 = .ok (.iconst 0, 1) := by decide +kernel
theorem dX1_isBroken_47 : decode cX1_isBroken 47 = .ok (.ireturn, 1) := by decide +kernel
abbrev cX1_count : ByteArray := prog_1_method_21_code
def yX1_count : MethodName := ⟨RX1, "count", "(J)J"⟩
theorem dX1_count_0 : decode cX1_count 0 = .ok (.lload_n 1, 1) := by decide +kernel
theorem dX1_count_1 : decode cX1_count 1 = .ok (.lconst 0, 1) := by decide +kernel
theorem dX1_count_2 : decode cX1_count 2 = .ok (.lcmp, 1) := by decide +kernel
theorem dX1_count_3 : decode cX1_count 3 = .ok (.ifCond .ge 7, 3) := by decide +kernel
theorem dX1_count_6 : decode cX1_count 6 = .ok (.ldc2_w 225, 3) := by decide +kernel
theorem dX1_count_9 : decode cX1_count 9 = .ok (.lreturn, 1) := by decide +kernel
theorem dX1_count_10 : decode cX1_count 10 = .ok (.lconst 1, 1) := by decide +kernel
theorem dX1_count_11 : decode cX1_count 11 = .ok (.aload_n 0, 1) := by decide +kernel
theorem dX1_count_12 : decode cX1_count 12 = .ok (.getfield 61, 3) := by decide +kernel
theorem dX1_count_15 : decode cX1_count 15 = .ok (.lshl, 1) := by decide +kernel
theorem dX1_count_16 : decode cX1_count 16 = .ok (.lload_n 1, 1) := by decide +kernel
theorem dX1_count_17 : decode cX1_count 17 = .ok (.lcmp, 1) := by decide +kernel
theorem dX1_count_18 : decode cX1_count 18 = .ok (.ifCond .le 7, 3) := by decide +kernel
theorem dX1_count_21 : decode cX1_count 21 = .ok (.ldc2_w 227, 3) := by decide +kernel
theorem dX1_count_24 : decode cX1_count 24 = .ok (.lreturn, 1) := by decide +kernel
theorem dX1_count_25 : decode cX1_count 25 = .ok (.aload_n 0, 1) := by decide +kernel
theorem dX1_count_26 : decode cX1_count 26 = .ok (.invokevirtual 218, 3) := by decide +kernel
theorem dX1_count_29 : decode cX1_count 29 = .ok (.aload_n 0, 1) := by decide +kernel
theorem dX1_count_30 : decode cX1_count 30 = .ok (.aload_n 0, 1) := by decide +kernel
theorem dX1_count_31 : decode cX1_count 31 = .ok (.iconst 1, 1) := by decide +kernel
theorem dX1_count_32 : decode cX1_count 32 = .ok (.iconst 0, 1) := by decide +kernel
theorem dX1_count_33 : decode cX1_count 33 = .ok (.invokevirtual 221, 3) := by decide +kernel
theorem dX1_count_36 : decode cX1_count 36 = .ok (.aload_n 0, 1) := by decide +kernel
theorem dX1_count_37 : decode cX1_count 37 = .ok (.iconst 0, 1) := by decide +kernel
theorem dX1_count_38 : decode cX1_count 38 = .ok (.iconst 0, 1) := by decide +kernel
theorem dX1_count_39 : decode cX1_count 39 = .ok (.invokevirtual 221, 3) := by decide +kernel
theorem dX1_count_42 : decode cX1_count 42 = .ok (.invokevirtual 183, 3) := by decide +kernel
theorem dX1_count_45 : decode cX1_count 45 = .ok (.lreturn, 1) := by decide +kernel
abbrev cX1_countFrom : ByteArray := prog_1_method_16_code
def yX1_countFrom : MethodName := ⟨RX1, "countFrom", "(II)J"⟩
theorem dX1_countFrom_0 : decode cX1_countFrom 0 = .ok (.iload_n 1, 1) := by decide +kernel
theorem dX1_countFrom_1 : decode cX1_countFrom 1 = .ok (.iload_n 2, 1) := by decide +kernel
theorem dX1_countFrom_2 : decode cX1_countFrom 2 = .ok (.iand, 1) := by decide +kernel
theorem dX1_countFrom_3 : decode cX1_countFrom 3 = .ok (.ifCond .ne 12, 3) := by decide +kernel
theorem dX1_countFrom_6 : decode cX1_countFrom 6 = .ok (.aload_n 0, 1) := by decide +kernel
theorem dX1_countFrom_7 : decode cX1_countFrom 7 = .ok (.iload_n 1, 1) := by decide +kernel
theorem dX1_countFrom_8 : decode cX1_countFrom 8 = .ok (.iload_n 2, 1) := by decide +kernel
theorem dX1_countFrom_9 : decode cX1_countFrom 9 = .ok (.invokevirtual 175, 3) := by decide +kernel
theorem dX1_countFrom_12 : decode cX1_countFrom 12 = .ok (.ifCond .eq 5, 3) := by decide +kernel
theorem dX1_countFrom_15 : decode cX1_countFrom 15 = .ok (.lconst 0, 1) := by decide +kernel
theorem dX1_countFrom_16 : decode cX1_countFrom 16 = .ok (.lreturn, 1) := by decide +kernel
theorem dX1_countFrom_17 : decode cX1_countFrom 17 = .ok (.aload_n 0, 1) := by decide +kernel
theorem dX1_countFrom_18 : decode cX1_countFrom 18 = .ok (.invokevirtual 176, 3) := by decide +kernel
theorem dX1_countFrom_21 : decode cX1_countFrom 21 = .ok (.iload_n 1, 1) := by decide +kernel
theorem dX1_countFrom_22 : decode cX1_countFrom 22 = .ok (.iconst (-1), 1) := by decide +kernel
theorem dX1_countFrom_23 : decode cX1_countFrom 23 = .ok (.ixor, 1) := by decide +kernel
theorem dX1_countFrom_24 : decode cX1_countFrom 24 = .ok (.iand, 1) := by decide +kernel
theorem dX1_countFrom_25 : decode cX1_countFrom 25 = .ok (.iload_n 2, 1) := by decide +kernel
theorem dX1_countFrom_26 : decode cX1_countFrom 26 = .ok (.iconst (-1), 1) := by decide +kernel
theorem dX1_countFrom_27 : decode cX1_countFrom 27 = .ok (.ixor, 1) := by decide +kernel
theorem dX1_countFrom_28 : decode cX1_countFrom 28 = .ok (.iand, 1) := by decide +kernel
theorem dX1_countFrom_29 : decode cX1_countFrom 29 = .ok (.istore_n 3, 1) := by decide +kernel
theorem dX1_countFrom_30 : decode cX1_countFrom 30 = .ok (.iload_n 3, 1) := by decide +kernel
theorem dX1_countFrom_31 : decode cX1_countFrom 31 = .ok (.ifCond .ne 5, 3) := by decide +kernel
theorem dX1_countFrom_34 : decode cX1_countFrom 34 = .ok (.lconst 1, 1) := by decide +kernel
theorem dX1_countFrom_35 : decode cX1_countFrom 35 = .ok (.lreturn, 1) := by decide +kernel
theorem dX1_countFrom_36 : decode cX1_countFrom 36 = .ok (.iload_n 3, 1) := by decide +kernel
theorem dX1_countFrom_37 : decode cX1_countFrom 37 = .ok (.iload_n 3, 1) := by decide +kernel
theorem dX1_countFrom_38 : decode cX1_countFrom 38 = .ok (.ineg, 1) := by decide +kernel
theorem dX1_countFrom_39 : decode cX1_countFrom 39 = .ok (.iand, 1) := by decide +kernel
theorem dX1_countFrom_40 : decode cX1_countFrom 40 = .ok (.istore 4, 2) := by decide +kernel
theorem dX1_countFrom_42 : decode cX1_countFrom 42 = .ok (.aload_n 0, 1) := by decide +kernel
theorem dX1_countFrom_43 : decode cX1_countFrom 43 = .ok (.iload_n 1, 1) := by decide +kernel
theorem dX1_countFrom_44 : decode cX1_countFrom 44 = .ok (.iload 4, 2) := by decide +kernel
theorem dX1_countFrom_46 : decode cX1_countFrom 46 = .ok (.ior, 1) := by decide +kernel
theorem dX1_countFrom_47 : decode cX1_countFrom 47 = .ok (.iload_n 2, 1) := by decide +kernel
theorem dX1_countFrom_48 : decode cX1_countFrom 48 = .ok (.invokevirtual 183, 3) := by decide +kernel
theorem dX1_countFrom_51 : decode cX1_countFrom 51 = .ok (.aload_n 0, 1) := by decide +kernel
theorem dX1_countFrom_52 : decode cX1_countFrom 52 = .ok (.iload_n 1, 1) := by decide +kernel
theorem dX1_countFrom_53 : decode cX1_countFrom 53 = .ok (.iload_n 2, 1) := by decide +kernel
theorem dX1_countFrom_54 : decode cX1_countFrom 54 = .ok (.iload 4, 2) := by decide +kernel
theorem dX1_countFrom_56 : decode cX1_countFrom 56 = .ok (.ior, 1) := by decide +kernel
theorem dX1_countFrom_57 : decode cX1_countFrom 57 = .ok (.invokevirtual 183, 3) := by decide +kernel
theorem dX1_countFrom_60 : decode cX1_countFrom 60 = .ok (.ladd, 1) := by decide +kernel
theorem dX1_countFrom_61 : decode cX1_countFrom 61 = .ok (.lreturn, 1) := by decide +kernel
abbrev cX1_forces : ByteArray := prog_1_method_22_code
def yX1_forces : MethodName := ⟨RX1, "forces", "(II)I"⟩
theorem dX1_forces_0 : decode cX1_forces 0 = .ok (.aload_n 0, 1) := by decide +kernel
theorem dX1_forces_1 : decode cX1_forces 1 = .ok (.iload_n 1, 1) := by decide +kernel
theorem dX1_forces_2 : decode cX1_forces 2 = .ok (.invokevirtual 64, 3) := by decide +kernel
theorem dX1_forces_5 : decode cX1_forces 5 = .ok (.ifCond .ne 5, 3) := by decide +kernel
theorem dX1_forces_8 : decode cX1_forces 8 = .ok (.iconst (-1), 1) := by decide +kernel
theorem dX1_forces_9 : decode cX1_forces 9 = .ok (.ireturn, 1) := by decide +kernel
theorem dX1_forces_10 : decode cX1_forces 10 = .ok (.aload_n 0, 1) := by decide +kernel
theorem dX1_forces_11 : decode cX1_forces 11 = .ok (.invokevirtual 218, 3) := by decide +kernel
theorem dX1_forces_14 : decode cX1_forces 14 = .ok (.aload_n 0, 1) := by decide +kernel
theorem dX1_forces_15 : decode cX1_forces 15 = .ok (.iconst 1, 1) := by decide +kernel
theorem dX1_forces_16 : decode cX1_forces 16 = .ok (.iconst 0, 1) := by decide +kernel
theorem dX1_forces_17 : decode cX1_forces 17 = .ok (.invokevirtual 221, 3) := by decide +kernel
theorem dX1_forces_20 : decode cX1_forces 20 = .ok (.iload_n 1, 1) := by decide +kernel
theorem dX1_forces_21 : decode cX1_forces 21 = .ok (.invokestatic 84, 3) := by decide +kernel
theorem dX1_forces_24 : decode cX1_forces 24 = .ok (.ior, 1) := by decide +kernel
theorem dX1_forces_25 : decode cX1_forces 25 = .ok (.istore_n 3, 1) := by decide +kernel
theorem dX1_forces_26 : decode cX1_forces 26 = .ok (.aload_n 0, 1) := by decide +kernel
theorem dX1_forces_27 : decode cX1_forces 27 = .ok (.iconst 0, 1) := by decide +kernel
theorem dX1_forces_28 : decode cX1_forces 28 = .ok (.iconst 0, 1) := by decide +kernel
theorem dX1_forces_29 : decode cX1_forces 29 = .ok (.invokevirtual 221, 3) := by decide +kernel
theorem dX1_forces_32 : decode cX1_forces 32 = .ok (.istore 4, 2) := by decide +kernel
theorem dX1_forces_34 : decode cX1_forces 34 = .ok (.aload_n 0, 1) := by decide +kernel
theorem dX1_forces_35 : decode cX1_forces 35 = .ok (.iload_n 3, 1) := by decide +kernel
theorem dX1_forces_36 : decode cX1_forces 36 = .ok (.iload 4, 2) := by decide +kernel
theorem dX1_forces_38 : decode cX1_forces 38 = .ok (.invokevirtual 179, 3) := by decide +kernel
theorem dX1_forces_41 : decode cX1_forces 41 = .ok (.ifCond .ge 5, 3) := by decide +kernel
theorem dX1_forces_44 : decode cX1_forces 44 = .ok (.iconst 0, 1) := by decide +kernel
theorem dX1_forces_45 : decode cX1_forces 45 = .ok (.ireturn, 1) := by decide +kernel
theorem dX1_forces_46 : decode cX1_forces 46 = .ok (.iload_n 2, 1) := by decide +kernel
theorem dX1_forces_47 : decode cX1_forces 47 = .ok (.istore 5, 2) := by decide +kernel
theorem dX1_forces_49 : decode cX1_forces 49 = .ok (.iconst 1, 1) := by decide +kernel
theorem dX1_forces_50 : decode cX1_forces 50 = .ok (.istore 6, 2) := by decide +kernel
theorem dX1_forces_52 : decode cX1_forces 52 = .ok (.iload 6, 2) := by decide +kernel
theorem dX1_forces_54 : decode cX1_forces 54 = .ok (.aload_n 0, 1) := by decide +kernel
theorem dX1_forces_55 : decode cX1_forces 55 = .ok (.getfield 61, 3) := by decide +kernel
theorem dX1_forces_58 : decode cX1_forces 58 = .ok (.if_icmp .gt 101, 3) := by decide +kernel
theorem dX1_forces_61 : decode cX1_forces 61 = .ok (.iload 6, 2) := by decide +kernel
theorem dX1_forces_63 : decode cX1_forces 63 = .ok (.iload_n 1, 1) := by decide +kernel
theorem dX1_forces_64 : decode cX1_forces 64 = .ok (.if_icmp .ne 6, 3) := by decide +kernel
theorem dX1_forces_67 : decode cX1_forces 67 = .ok (.goto 86, 3) := by decide +kernel
theorem dX1_forces_70 : decode cX1_forces 70 = .ok (.aload_n 0, 1) := by decide +kernel
theorem dX1_forces_71 : decode cX1_forces 71 = .ok (.iload_n 3, 1) := by decide +kernel
theorem dX1_forces_72 : decode cX1_forces 72 = .ok (.iload 4, 2) := by decide +kernel
theorem dX1_forces_74 : decode cX1_forces 74 = .ok (.iload 6, 2) := by decide +kernel
theorem dX1_forces_76 : decode cX1_forces 76 = .ok (.invokestatic 84, 3) := by decide +kernel
theorem dX1_forces_79 : decode cX1_forces 79 = .ok (.ior, 1) := by decide +kernel
theorem dX1_forces_80 : decode cX1_forces 80 = .ok (.invokevirtual 179, 3) := by decide +kernel
theorem dX1_forces_83 : decode cX1_forces 83 = .ok (.ifCond .ge 7, 3) := by decide +kernel
theorem dX1_forces_86 : decode cX1_forces 86 = .ok (.iconst 1, 1) := by decide +kernel
theorem dX1_forces_87 : decode cX1_forces 87 = .ok (.goto 4, 3) := by decide +kernel
theorem dX1_forces_90 : decode cX1_forces 90 = .ok (.iconst 0, 1) := by decide +kernel
theorem dX1_forces_91 : decode cX1_forces 91 = .ok (.istore 7, 2) := by decide +kernel
theorem dX1_forces_93 : decode cX1_forces 93 = .ok (.iload 7, 2) := by decide +kernel
theorem dX1_forces_95 : decode cX1_forces 95 = .ok (.ifCond .ne 23, 3) := by decide +kernel
theorem dX1_forces_98 : decode cX1_forces 98 = .ok (.aload_n 0, 1) := by decide +kernel
theorem dX1_forces_99 : decode cX1_forces 99 = .ok (.iload_n 3, 1) := by decide +kernel
theorem dX1_forces_100 : decode cX1_forces 100 = .ok (.iload 6, 2) := by decide +kernel
theorem dX1_forces_102 : decode cX1_forces 102 = .ok (.invokestatic 84, 3) := by decide +kernel
theorem dX1_forces_105 : decode cX1_forces 105 = .ok (.ior, 1) := by decide +kernel
theorem dX1_forces_106 : decode cX1_forces 106 = .ok (.iload 4, 2) := by decide +kernel
theorem dX1_forces_108 : decode cX1_forces 108 = .ok (.invokevirtual 179, 3) := by decide +kernel
theorem dX1_forces_111 : decode cX1_forces 111 = .ok (.ifCond .ge 7, 3) := by decide +kernel
theorem dX1_forces_114 : decode cX1_forces 114 = .ok (.iconst 1, 1) := by decide +kernel
theorem dX1_forces_115 : decode cX1_forces 115 = .ok (.goto 4, 3) := by decide +kernel
theorem dX1_forces_118 : decode cX1_forces 118 = .ok (.iconst 0, 1) := by decide +kernel
theorem dX1_forces_119 : decode cX1_forces 119 = .ok (.istore 8, 2) := by decide +kernel
theorem dX1_forces_121 : decode cX1_forces 121 = .ok (.iload 7, 2) := by decide +kernel
theorem dX1_forces_123 : decode cX1_forces 123 = .ok (.ifCond .ne 8, 3) := by decide +kernel
theorem dX1_forces_126 : decode cX1_forces 126 = .ok (.iload 8, 2) := by decide +kernel
theorem dX1_forces_128 : decode cX1_forces 128 = .ok (.ifCond .eq 25, 3) := by decide +kernel
theorem dX1_forces_131 : decode cX1_forces 131 = .ok (.iload 5, 2) := by decide +kernel
theorem dX1_forces_133 : decode cX1_forces 133 = .ok (.iinc 5 (-1), 3) := by decide +kernel
theorem dX1_forces_136 : decode cX1_forces 136 = .ok (.ifCond .ne 17, 3) := by decide +kernel
theorem dX1_forces_139 : decode cX1_forces 139 = .ok (.iload 7, 2) := by decide +kernel
theorem dX1_forces_141 : decode cX1_forces 141 = .ok (.ifCond .eq 8, 3) := by decide +kernel
theorem dX1_forces_144 : decode cX1_forces 144 = .ok (.iload 6, 2) := by decide +kernel
theorem dX1_forces_146 : decode cX1_forces 146 = .ok (.goto 6, 3) := by decide +kernel
theorem dX1_forces_149 : decode cX1_forces 149 = .ok (.iload 6, 2) := by decide +kernel
theorem dX1_forces_151 : decode cX1_forces 151 = .ok (.ineg, 1) := by decide +kernel
theorem dX1_forces_152 : decode cX1_forces 152 = .ok (.ireturn, 1) := by decide +kernel
theorem dX1_forces_153 : decode cX1_forces 153 = .ok (.iinc 6 1, 3) := by decide +kernel
theorem dX1_forces_156 : decode cX1_forces 156 = .ok (.goto (-104), 3) := by decide +kernel
theorem dX1_forces_159 : decode cX1_forces 159 = .ok (.iconst 0, 1) := by decide +kernel
theorem dX1_forces_160 : decode cX1_forces 160 = .ok (.ireturn, 1) := by decide +kernel
abbrev cX1_differ : ByteArray := prog_1_method_23_code
def yX1_differ : MethodName := ⟨RX1, "differ", "(II)I"⟩
theorem dX1_differ_0 : decode cX1_differ 0 = .ok (.iload_n 1, 1) := by decide +kernel
theorem dX1_differ_1 : decode cX1_differ 1 = .ok (.i2l, 1) := by decide +kernel
theorem dX1_differ_2 : decode cX1_differ 2 = .ok (.lconst 1, 1) := by decide +kernel
theorem dX1_differ_3 : decode cX1_differ 3 = .ok (.aload_n 0, 1) := by decide +kernel
theorem dX1_differ_4 : decode cX1_differ 4 = .ok (.getfield 51, 3) := by decide +kernel
theorem dX1_differ_7 : decode cX1_differ 7 = .ok (.invokeinterface 164 1, 5) := by decide +kernel
theorem dX1_differ_12 : decode cX1_differ 12 = .ok (.i2l, 1) := by decide +kernel
theorem dX1_differ_13 : decode cX1_differ 13 = .ok (.invokestatic 70, 3) := by decide +kernel
theorem dX1_differ_16 : decode cX1_differ 16 = .ok (.ifCond .eq 22, 3) := by decide +kernel
theorem dX1_differ_19 : decode cX1_differ 19 = .ok (.iload_n 2, 1) := by decide +kernel
theorem dX1_differ_20 : decode cX1_differ 20 = .ok (.i2l, 1) := by decide +kernel
theorem dX1_differ_21 : decode cX1_differ 21 = .ok (.lconst 1, 1) := by decide +kernel
theorem dX1_differ_22 : decode cX1_differ 22 = .ok (.aload_n 0, 1) := by decide +kernel
theorem dX1_differ_23 : decode cX1_differ 23 = .ok (.getfield 51, 3) := by decide +kernel
theorem dX1_differ_26 : decode cX1_differ 26 = .ok (.invokeinterface 164 1, 5) := by decide +kernel
theorem dX1_differ_31 : decode cX1_differ 31 = .ok (.i2l, 1) := by decide +kernel
theorem dX1_differ_32 : decode cX1_differ 32 = .ok (.invokestatic 70, 3) := by decide +kernel
theorem dX1_differ_35 : decode cX1_differ 35 = .ok (.ifCond .ne 5, 3) := by decide +kernel
theorem dX1_differ_38 : decode cX1_differ 38 = .ok (.iconst (-1), 1) := by decide +kernel
theorem dX1_differ_39 : decode cX1_differ 39 = .ok (.ireturn, 1) := by decide +kernel
theorem dX1_differ_40 : decode cX1_differ 40 = .ok (.aload_n 0, 1) := by decide +kernel
theorem dX1_differ_41 : decode cX1_differ 41 = .ok (.getfield 51, 3) := by decide +kernel
theorem dX1_differ_44 : decode cX1_differ 44 = .ok (.iload_n 1, 1) := by decide +kernel
theorem dX1_differ_45 : decode cX1_differ 45 = .ok (.iconst 1, 1) := by decide +kernel
theorem dX1_differ_46 : decode cX1_differ 46 = .ok (.isub, 1) := by decide +kernel
theorem dX1_differ_47 : decode cX1_differ 47 = .ok (.invokeinterface 165 2, 5) := by decide +kernel
theorem dX1_differ_52 : decode cX1_differ 52 = .ok (.checkcast 24, 3) := by decide +kernel
theorem dX1_differ_55 : decode cX1_differ 55 = .ok (.invokevirtual 158, 3) := by decide +kernel
theorem dX1_differ_58 : decode cX1_differ 58 = .ok (.aload_n 0, 1) := by decide +kernel
theorem dX1_differ_59 : decode cX1_differ 59 = .ok (.getfield 51, 3) := by decide +kernel
theorem dX1_differ_62 : decode cX1_differ 62 = .ok (.iload_n 2, 1) := by decide +kernel
theorem dX1_differ_63 : decode cX1_differ 63 = .ok (.iconst 1, 1) := by decide +kernel
theorem dX1_differ_64 : decode cX1_differ 64 = .ok (.isub, 1) := by decide +kernel
theorem dX1_differ_65 : decode cX1_differ 65 = .ok (.invokeinterface 165 2, 5) := by decide +kernel
theorem dX1_differ_70 : decode cX1_differ 70 = .ok (.checkcast 24, 3) := by decide +kernel
theorem dX1_differ_73 : decode cX1_differ 73 = .ok (.invokevirtual 158, 3) := by decide +kernel
theorem dX1_differ_76 : decode cX1_differ 76 = .ok (.ixor, 1) := by decide +kernel
theorem dX1_differ_77 : decode cX1_differ 77 = .ok (.invokestatic 91, 3) := by decide +kernel
theorem dX1_differ_80 : decode cX1_differ 80 = .ok (.ireturn, 1) := by decide +kernel
abbrev cX1_level : ByteArray := prog_1_method_24_code
def yX1_level : MethodName := ⟨RX1, "level", "(I)I"⟩
theorem dX1_level_0 : decode cX1_level 0 = .ok (.aload_n 0, 1) := by decide +kernel
theorem dX1_level_1 : decode cX1_level 1 = .ok (.getfield 16, 3) := by decide +kernel
theorem dX1_level_4 : decode cX1_level 4 = .ok (.iload_n 1, 1) := by decide +kernel
theorem dX1_level_5 : decode cX1_level 5 = .ok (.iaload, 1) := by decide +kernel
theorem dX1_level_6 : decode cX1_level 6 = .ok (.ireturn, 1) := by decide +kernel
abbrev cX3_init : ByteArray := prog_3_method_1_code
def yX3_init : MethodName := ⟨RX3, "<init>", "(II)V"⟩
theorem dX3_init_0 : decode cX3_init 0 = .ok (.aload_n 0, 1) := by decide +kernel
theorem dX3_init_1 : decode cX3_init 1 = .ok (.invokespecial 1, 3) := by decide +kernel
theorem dX3_init_4 : decode cX3_init 4 = .ok (.aload_n 0, 1) := by decide +kernel
theorem dX3_init_5 : decode cX3_init 5 = .ok (.iload_n 1, 1) := by decide +kernel
theorem dX3_init_6 : decode cX3_init 6 = .ok (.putfield 7, 3) := by decide +kernel
theorem dX3_init_9 : decode cX3_init 9 = .ok (.aload_n 0, 1) := by decide +kernel
theorem dX3_init_10 : decode cX3_init 10 = .ok (.iload_n 2, 1) := by decide +kernel
theorem dX3_init_11 : decode cX3_init 11 = .ok (.putfield 13, 3) := by decide +kernel
theorem dX3_init_14 : decode cX3_init 14 = .ok (.return_, 1) := by decide +kernel
abbrev cX3_hashCode : ByteArray := prog_3_method_3_code
def yX3_hashCode : MethodName := ⟨RX3, "hashCode", "()I"⟩
theorem dX3_hashCode_0 : decode cX3_hashCode 0 = .ok (.iconst 0, 1) := by decide +kernel
theorem dX3_hashCode_1 : decode cX3_hashCode 1 = .ok (.ireturn, 1) := by decide +kernel
abbrev cX3_equals : ByteArray := prog_3_method_2_code
def yX3_equals : MethodName := ⟨RX3, "equals", "(Ljava/lang/Object;)Z"⟩
theorem dX3_equals_0 : decode cX3_equals 0 = .ok (.aload_n 0, 1) := by decide +kernel
theorem dX3_equals_1 : decode cX3_equals 1 = .ok (.aload_n 1, 1) := by decide +kernel
theorem dX3_equals_2 : decode cX3_equals 2 = .ok (.if_acmp .ne 7, 3) := by decide +kernel
theorem dX3_equals_5 : decode cX3_equals 5 = .ok (.iconst 1, 1) := by decide +kernel
theorem dX3_equals_6 : decode cX3_equals 6 = .ok (.goto 4, 3) := by decide +kernel
theorem dX3_equals_9 : decode cX3_equals 9 = .ok (.iconst 0, 1) := by decide +kernel
theorem dX3_equals_10 : decode cX3_equals 10 = .ok (.ireturn, 1) := by decide +kernel
abbrev cX3_isBroken : ByteArray := prog_3_method_5_code
def yX3_isBroken : MethodName := ⟨RX3, "isBroken", "(II)Z"⟩
theorem dX3_isBroken_0 : decode cX3_isBroken 0 = .ok (.aload_n 0, 1) := by decide +kernel
theorem dX3_isBroken_1 : decode cX3_isBroken 1 = .ok (.getfield 7, 3) := by decide +kernel
theorem dX3_isBroken_4 : decode cX3_isBroken 4 = .ok (.iload_n 1, 1) := by decide +kernel
theorem dX3_isBroken_5 : decode cX3_isBroken 5 = .ok (.iload_n 2, 1) := by decide +kernel
theorem dX3_isBroken_6 : decode cX3_isBroken 6 = .ok (.invokestatic 22, 3) := by decide +kernel
theorem dX3_isBroken_9 : decode cX3_isBroken 9 = .ok (.ifCond .eq 19, 3) := by decide +kernel
theorem dX3_isBroken_12 : decode cX3_isBroken 12 = .ok (.aload_n 0, 1) := by decide +kernel
theorem dX3_isBroken_13 : decode cX3_isBroken 13 = .ok (.getfield 13, 3) := by decide +kernel
theorem dX3_isBroken_16 : decode cX3_isBroken 16 = .ok (.iload_n 1, 1) := by decide +kernel
theorem dX3_isBroken_17 : decode cX3_isBroken 17 = .ok (.iload_n 2, 1) := by decide +kernel
theorem dX3_isBroken_18 : decode cX3_isBroken 18 = .ok (.invokestatic 22, 3) := by decide +kernel
theorem dX3_isBroken_21 : decode cX3_isBroken 21 = .ok (.ifCond .eq 7, 3) := by decide +kernel
theorem dX3_isBroken_24 : decode cX3_isBroken 24 = .ok (.iconst 1, 1) := by decide +kernel
theorem dX3_isBroken_25 : decode cX3_isBroken 25 = .ok (.goto 4, 3) := by decide +kernel
theorem dX3_isBroken_28 : decode cX3_isBroken 28 = .ok (.iconst 0, 1) := by decide +kernel
theorem dX3_isBroken_29 : decode cX3_isBroken 29 = .ok (.ireturn, 1) := by decide +kernel
abbrev cX3_isAgainst : ByteArray := prog_3_method_4_code
def yX3_isAgainst : MethodName := ⟨RX3, "isAgainst", "(III)Z"⟩
theorem dX3_isAgainst_0 : decode cX3_isAgainst 0 = .ok (.iload_n 0, 1) := by decide +kernel
theorem dX3_isAgainst_1 : decode cX3_isAgainst 1 = .ok (.ifCond .le 20, 3) := by decide +kernel
theorem dX3_isAgainst_4 : decode cX3_isAgainst 4 = .ok (.iload_n 2, 1) := by decide +kernel
theorem dX3_isAgainst_5 : decode cX3_isAgainst 5 = .ok (.iload_n 0, 1) := by decide +kernel
theorem dX3_isAgainst_6 : decode cX3_isAgainst 6 = .ok (.invokestatic 16, 3) := by decide +kernel
theorem dX3_isAgainst_9 : decode cX3_isAgainst 9 = .ok (.iand, 1) := by decide +kernel
theorem dX3_isAgainst_10 : decode cX3_isAgainst 10 = .ok (.ifCond .eq 7, 3) := by decide +kernel
theorem dX3_isAgainst_13 : decode cX3_isAgainst 13 = .ok (.iconst 1, 1) := by decide +kernel
theorem dX3_isAgainst_14 : decode cX3_isAgainst 14 = .ok (.goto 22, 3) := by decide +kernel
theorem dX3_isAgainst_17 : decode cX3_isAgainst 17 = .ok (.iconst 0, 1) := by decide +kernel
theorem dX3_isAgainst_18 : decode cX3_isAgainst 18 = .ok (.goto 18, 3) := by decide +kernel
theorem dX3_isAgainst_21 : decode cX3_isAgainst 21 = .ok (.iload_n 1, 1) := by decide +kernel
theorem dX3_isAgainst_22 : decode cX3_isAgainst 22 = .ok (.iload_n 0, 1) := by decide +kernel
theorem dX3_isAgainst_23 : decode cX3_isAgainst 23 = .ok (.ineg, 1) := by decide +kernel
theorem dX3_isAgainst_24 : decode cX3_isAgainst 24 = .ok (.invokestatic 16, 3) := by decide +kernel
theorem dX3_isAgainst_27 : decode cX3_isAgainst 27 = .ok (.iand, 1) := by decide +kernel
theorem dX3_isAgainst_28 : decode cX3_isAgainst 28 = .ok (.ifCond .eq 7, 3) := by decide +kernel
theorem dX3_isAgainst_31 : decode cX3_isAgainst 31 = .ok (.iconst 1, 1) := by decide +kernel
theorem dX3_isAgainst_32 : decode cX3_isAgainst 32 = .ok (.goto 4, 3) := by decide +kernel
theorem dX3_isAgainst_35 : decode cX3_isAgainst 35 = .ok (.iconst 0, 1) := by decide +kernel
theorem dX3_isAgainst_36 : decode cX3_isAgainst 36 = .ok (.ireturn, 1) := by decide +kernel
abbrev cX4_hashCode : ByteArray := prog_2_method_3_code
def yX4_hashCode : MethodName := ⟨RX4, "hashCode", "()I"⟩
theorem dX4_hashCode_0 : decode cX4_hashCode 0 = .ok (.iconst 0, 1) := by decide +kernel
theorem dX4_hashCode_1 : decode cX4_hashCode 1 = .ok (.ireturn, 1) := by decide +kernel
abbrev cX4_equals : ByteArray := prog_2_method_2_code
def yX4_equals : MethodName := ⟨RX4, "equals", "(Ljava/lang/Object;)Z"⟩
theorem dX4_equals_0 : decode cX4_equals 0 = .ok (.aload_n 0, 1) := by decide +kernel
theorem dX4_equals_1 : decode cX4_equals 1 = .ok (.aload_n 1, 1) := by decide +kernel
theorem dX4_equals_2 : decode cX4_equals 2 = .ok (.if_acmp .ne 7, 3) := by decide +kernel
theorem dX4_equals_5 : decode cX4_equals 5 = .ok (.iconst 1, 1) := by decide +kernel
theorem dX4_equals_6 : decode cX4_equals 6 = .ok (.goto 4, 3) := by decide +kernel
theorem dX4_equals_9 : decode cX4_equals 9 = .ok (.iconst 0, 1) := by decide +kernel
theorem dX4_equals_10 : decode cX4_equals 10 = .ok (.ireturn, 1) := by decide +kernel
abbrev cX4_init : ByteArray := prog_2_method_1_code
def yX4_init : MethodName := ⟨RX4, "<init>", "(IIII)V"⟩
theorem dX4_init_0 : decode cX4_init 0 = .ok (.aload_n 0, 1) := by decide +kernel
theorem dX4_init_1 : decode cX4_init 1 = .ok (.invokespecial 1, 3) := by decide +kernel
theorem dX4_init_4 : decode cX4_init 4 = .ok (.aload_n 0, 1) := by decide +kernel
theorem dX4_init_5 : decode cX4_init 5 = .ok (.iload_n 1, 1) := by decide +kernel
theorem dX4_init_6 : decode cX4_init 6 = .ok (.putfield 7, 3) := by decide +kernel
theorem dX4_init_9 : decode cX4_init 9 = .ok (.aload_n 0, 1) := by decide +kernel
theorem dX4_init_10 : decode cX4_init 10 = .ok (.iload_n 2, 1) := by decide +kernel
theorem dX4_init_11 : decode cX4_init 11 = .ok (.putfield 13, 3) := by decide +kernel
theorem dX4_init_14 : decode cX4_init 14 = .ok (.aload_n 0, 1) := by decide +kernel
theorem dX4_init_15 : decode cX4_init 15 = .ok (.iload_n 3, 1) := by decide +kernel
theorem dX4_init_16 : decode cX4_init 16 = .ok (.putfield 16, 3) := by decide +kernel
theorem dX4_init_19 : decode cX4_init 19 = .ok (.aload_n 0, 1) := by decide +kernel
theorem dX4_init_20 : decode cX4_init 20 = .ok (.iload 4, 2) := by decide +kernel
theorem dX4_init_22 : decode cX4_init 22 = .ok (.putfield 19, 3) := by decide +kernel
theorem dX4_init_25 : decode cX4_init 25 = .ok (.return_, 1) := by decide +kernel
abbrev cX4_isBroken : ByteArray := prog_2_method_4_code
def yX4_isBroken : MethodName := ⟨RX4, "isBroken", "(II)Z"⟩
theorem dX4_isBroken_0 : decode cX4_isBroken 0 = .ok (.iload_n 1, 1) := by decide +kernel
theorem dX4_isBroken_1 : decode cX4_isBroken 1 = .ok (.aload_n 0, 1) := by decide +kernel
theorem dX4_isBroken_2 : decode cX4_isBroken 2 = .ok (.getfield 13, 3) := by decide +kernel
theorem dX4_isBroken_5 : decode cX4_isBroken 5 = .ok (.iand, 1) := by decide +kernel
theorem dX4_isBroken_6 : decode cX4_isBroken 6 = .ok (.invokestatic 22, 3) := by decide +kernel
theorem dX4_isBroken_9 : decode cX4_isBroken 9 = .ok (.istore_n 3, 1) := by decide +kernel
theorem dX4_isBroken_10 : decode cX4_isBroken 10 = .ok (.iload_n 1, 1) := by decide +kernel
theorem dX4_isBroken_11 : decode cX4_isBroken 11 = .ok (.aload_n 0, 1) := by decide +kernel
theorem dX4_isBroken_12 : decode cX4_isBroken 12 = .ok (.getfield 7, 3) := by decide +kernel
theorem dX4_isBroken_15 : decode cX4_isBroken 15 = .ok (.iand, 1) := by decide +kernel
theorem dX4_isBroken_16 : decode cX4_isBroken 16 = .ok (.ifCond .eq 33, 3) := by decide +kernel
theorem dX4_isBroken_19 : decode cX4_isBroken 19 = .ok (.iload_n 3, 1) := by decide +kernel
theorem dX4_isBroken_20 : decode cX4_isBroken 20 = .ok (.aload_n 0, 1) := by decide +kernel
theorem dX4_isBroken_21 : decode cX4_isBroken 21 = .ok (.getfield 19, 3) := by decide +kernel
theorem dX4_isBroken_24 : decode cX4_isBroken 24 = .ok (.if_icmp .gt 21, 3) := by decide +kernel
theorem dX4_isBroken_27 : decode cX4_isBroken 27 = .ok (.aload_n 0, 1) := by decide +kernel
theorem dX4_isBroken_28 : decode cX4_isBroken 28 = .ok (.getfield 13, 3) := by decide +kernel
theorem dX4_isBroken_31 : decode cX4_isBroken 31 = .ok (.iload_n 2, 1) := by decide +kernel
theorem dX4_isBroken_32 : decode cX4_isBroken 32 = .ok (.iconst (-1), 1) := by decide +kernel
theorem dX4_isBroken_33 : decode cX4_isBroken 33 = .ok (.ixor, 1) := by decide +kernel
theorem dX4_isBroken_34 : decode cX4_isBroken 34 = .ok (.iand, 1) := by decide +kernel
theorem dX4_isBroken_35 : decode cX4_isBroken 35 = .ok (.invokestatic 22, 3) := by decide +kernel
theorem dX4_isBroken_38 : decode cX4_isBroken 38 = .ok (.aload_n 0, 1) := by decide +kernel
theorem dX4_isBroken_39 : decode cX4_isBroken 39 = .ok (.getfield 16, 3) := by decide +kernel
theorem dX4_isBroken_42 : decode cX4_isBroken 42 = .ok (.if_icmp .ge 7, 3) := by decide +kernel
theorem dX4_isBroken_45 : decode cX4_isBroken 45 = .ok (.iconst 1, 1) := by decide +kernel
theorem dX4_isBroken_46 : decode cX4_isBroken 46 = .ok (.goto 4, 3) := by decide +kernel
theorem dX4_isBroken_49 : decode cX4_isBroken 49 = .ok (.iconst 0, 1) := by decide +kernel
theorem dX4_isBroken_50 : decode cX4_isBroken 50 = .ok (.ireturn, 1) := by decide +kernel
abbrev cX5_hashCode : ByteArray := prog_5_method_3_code
def yX5_hashCode : MethodName := ⟨RX5, "hashCode", "()I"⟩
theorem dX5_hashCode_0 : decode cX5_hashCode 0 = .ok (.iconst 0, 1) := by decide +kernel
theorem dX5_hashCode_1 : decode cX5_hashCode 1 = .ok (.ireturn, 1) := by decide +kernel
abbrev cX5_equals : ByteArray := prog_5_method_2_code
def yX5_equals : MethodName := ⟨RX5, "equals", "(Ljava/lang/Object;)Z"⟩
theorem dX5_equals_0 : decode cX5_equals 0 = .ok (.aload_n 0, 1) := by decide +kernel
theorem dX5_equals_1 : decode cX5_equals 1 = .ok (.aload_n 1, 1) := by decide +kernel
theorem dX5_equals_2 : decode cX5_equals 2 = .ok (.if_acmp .ne 7, 3) := by decide +kernel
theorem dX5_equals_5 : decode cX5_equals 5 = .ok (.iconst 1, 1) := by decide +kernel
theorem dX5_equals_6 : decode cX5_equals 6 = .ok (.goto 4, 3) := by decide +kernel
theorem dX5_equals_9 : decode cX5_equals 9 = .ok (.iconst 0, 1) := by decide +kernel
theorem dX5_equals_10 : decode cX5_equals 10 = .ok (.ireturn, 1) := by decide +kernel
abbrev cX5_init : ByteArray := prog_5_method_1_code
def yX5_init : MethodName := ⟨RX5, "<init>", "(I[I)V"⟩
theorem dX5_init_0 : decode cX5_init 0 = .ok (.aload_n 0, 1) := by decide +kernel
theorem dX5_init_1 : decode cX5_init 1 = .ok (.invokespecial 1, 3) := by decide +kernel
theorem dX5_init_4 : decode cX5_init 4 = .ok (.aload_n 0, 1) := by decide +kernel
theorem dX5_init_5 : decode cX5_init 5 = .ok (.iload_n 1, 1) := by decide +kernel
theorem dX5_init_6 : decode cX5_init 6 = .ok (.putfield 7, 3) := by decide +kernel
theorem dX5_init_9 : decode cX5_init 9 = .ok (.aload_n 0, 1) := by decide +kernel
theorem dX5_init_10 : decode cX5_init 10 = .ok (.aload_n 2, 1) := by decide +kernel
theorem dX5_init_11 : decode cX5_init 11 = .ok (.putfield 13, 3) := by decide +kernel
theorem dX5_init_14 : decode cX5_init 14 = .ok (.return_, 1) := by decide +kernel
abbrev cX5_isBroken : ByteArray := prog_5_method_4_code
def yX5_isBroken : MethodName := ⟨RX5, "isBroken", "(II)Z"⟩
theorem dX5_isBroken_0 : decode cX5_isBroken 0 = .ok (.iconst 0, 1) := by decide +kernel
theorem dX5_isBroken_1 : decode cX5_isBroken 1 = .ok (.istore_n 3, 1) := by decide +kernel
theorem dX5_isBroken_2 : decode cX5_isBroken 2 = .ok (.iconst 1, 1) := by decide +kernel
theorem dX5_isBroken_3 : decode cX5_isBroken 3 = .ok (.istore 4, 2) := by decide +kernel
theorem dX5_isBroken_5 : decode cX5_isBroken 5 = .ok (.iload 4, 2) := by decide +kernel
theorem dX5_isBroken_7 : decode cX5_isBroken 7 = .ok (.aload_n 0, 1) := by decide +kernel
theorem dX5_isBroken_8 : decode cX5_isBroken 8 = .ok (.getfield 13, 3) := by decide +kernel
theorem dX5_isBroken_11 : decode cX5_isBroken 11 = .ok (.arraylength, 1) := by decide +kernel
theorem dX5_isBroken_12 : decode cX5_isBroken 12 = .ok (.if_icmp .ge 61, 3) := by decide +kernel
theorem dX5_isBroken_15 : decode cX5_isBroken 15 = .ok (.iload_n 1, 1) := by decide +kernel
theorem dX5_isBroken_16 : decode cX5_isBroken 16 = .ok (.iload 4, 2) := by decide +kernel
theorem dX5_isBroken_18 : decode cX5_isBroken 18 = .ok (.invokestatic 17, 3) := by decide +kernel
theorem dX5_isBroken_21 : decode cX5_isBroken 21 = .ok (.iand, 1) := by decide +kernel
theorem dX5_isBroken_22 : decode cX5_isBroken 22 = .ok (.ifCond .eq 7, 3) := by decide +kernel
theorem dX5_isBroken_25 : decode cX5_isBroken 25 = .ok (.iconst 1, 1) := by decide +kernel
theorem dX5_isBroken_26 : decode cX5_isBroken 26 = .ok (.goto 4, 3) := by decide +kernel
theorem dX5_isBroken_29 : decode cX5_isBroken 29 = .ok (.iconst 0, 1) := by decide +kernel
theorem dX5_isBroken_30 : decode cX5_isBroken 30 = .ok (.istore 5, 2) := by decide +kernel
theorem dX5_isBroken_32 : decode cX5_isBroken 32 = .ok (.iload 5, 2) := by decide +kernel
theorem dX5_isBroken_34 : decode cX5_isBroken 34 = .ok (.ifCond .ne 23, 3) := by decide +kernel
theorem dX5_isBroken_37 : decode cX5_isBroken 37 = .ok (.iload_n 2, 1) := by decide +kernel
theorem dX5_isBroken_38 : decode cX5_isBroken 38 = .ok (.iload 4, 2) := by decide +kernel
theorem dX5_isBroken_40 : decode cX5_isBroken 40 = .ok (.invokestatic 17, 3) := by decide +kernel
theorem dX5_isBroken_43 : decode cX5_isBroken 43 = .ok (.iand, 1) := by decide +kernel
theorem dX5_isBroken_44 : decode cX5_isBroken 44 = .ok (.ifCond .ne 23, 3) := by decide +kernel
theorem dX5_isBroken_47 : decode cX5_isBroken 47 = .ok (.aload_n 0, 1) := by decide +kernel
theorem dX5_isBroken_48 : decode cX5_isBroken 48 = .ok (.getfield 13, 3) := by decide +kernel
theorem dX5_isBroken_51 : decode cX5_isBroken 51 = .ok (.iload 4, 2) := by decide +kernel
theorem dX5_isBroken_53 : decode cX5_isBroken 53 = .ok (.iaload, 1) := by decide +kernel
theorem dX5_isBroken_54 : decode cX5_isBroken 54 = .ok (.ifCond .ge 13, 3) := by decide +kernel
theorem dX5_isBroken_57 : decode cX5_isBroken 57 = .ok (.iload_n 3, 1) := by decide +kernel
theorem dX5_isBroken_58 : decode cX5_isBroken 58 = .ok (.aload_n 0, 1) := by decide +kernel
theorem dX5_isBroken_59 : decode cX5_isBroken 59 = .ok (.getfield 13, 3) := by decide +kernel
theorem dX5_isBroken_62 : decode cX5_isBroken 62 = .ok (.iload 4, 2) := by decide +kernel
theorem dX5_isBroken_64 : decode cX5_isBroken 64 = .ok (.iaload, 1) := by decide +kernel
theorem dX5_isBroken_65 : decode cX5_isBroken 65 = .ok (.iadd, 1) := by decide +kernel
theorem dX5_isBroken_66 : decode cX5_isBroken 66 = .ok (.istore_n 3, 1) := by decide +kernel
theorem dX5_isBroken_67 : decode cX5_isBroken 67 = .ok (.iinc 4 1, 3) := by decide +kernel
theorem dX5_isBroken_70 : decode cX5_isBroken 70 = .ok (.goto (-65), 3) := by decide +kernel
theorem dX5_isBroken_73 : decode cX5_isBroken 73 = .ok (.iload_n 3, 1) := by decide +kernel
theorem dX5_isBroken_74 : decode cX5_isBroken 74 = .ok (.aload_n 0, 1) := by decide +kernel
theorem dX5_isBroken_75 : decode cX5_isBroken 75 = .ok (.getfield 7, 3) := by decide +kernel
theorem dX5_isBroken_78 : decode cX5_isBroken 78 = .ok (.if_icmp .le 7, 3) := by decide +kernel
theorem dX5_isBroken_81 : decode cX5_isBroken 81 = .ok (.iconst 1, 1) := by decide +kernel
theorem dX5_isBroken_82 : decode cX5_isBroken 82 = .ok (.goto 4, 3) := by decide +kernel
theorem dX5_isBroken_85 : decode cX5_isBroken 85 = .ok (.iconst 0, 1) := by decide +kernel
theorem dX5_isBroken_86 : decode cX5_isBroken 86 = .ok (.ireturn, 1) := by decide +kernel
