set_option maxRecDepth 100000
abbrev cJ4_init : ByteArray := prog_35_method_7_code
def yJ4_init : MethodName := ⟨RJ4, "<init>", "()V"⟩
theorem dJ4_init_0 : decode cJ4_init 0 = .ok (.aload_n 0, 1) := by decide +kernel
theorem dJ4_init_1 : decode cJ4_init 1 = .ok (.invokespecial 43, 3) := by decide +kernel
theorem dJ4_init_4 : decode cJ4_init 4 = .ok (.aload_n 0, 1) := by decide +kernel
theorem dJ4_init_5 : decode cJ4_init 5 = .ok (.ldc 92, 2) := by decide +kernel
theorem dJ4_init_7 : decode cJ4_init 7 = .ok (.putfield 81, 3) := by decide +kernel
theorem dJ4_init_10 : decode cJ4_init 10 = .ok (.return_, 1) := by decide +kernel
abbrev cJ4_remove : ByteArray := prog_35_method_20_code
def yJ4_remove : MethodName := ⟨RJ4, "remove", "(Ljava/lang/Object;)Ljava/lang/Object;"⟩
theorem dJ4_remove_0 : decode cJ4_remove 0 = .ok (.aload_n 0, 1) := by decide +kernel
theorem dJ4_remove_1 : decode cJ4_remove 1 = .ok (.aload_n 1, 1) := by decide +kernel
theorem dJ4_remove_2 : decode cJ4_remove 2 = .ok (.invokestatic 149, 3) := by decide +kernel
theorem dJ4_remove_5 : decode cJ4_remove 5 = .ok (.aload_n 1, 1) := by decide +kernel
theorem dJ4_remove_6 : decode cJ4_remove 6 = .ok (.aconst_null, 1) := by decide +kernel
theorem dJ4_remove_7 : decode cJ4_remove 7 = .ok (.iconst 0, 1) := by decide +kernel
theorem dJ4_remove_8 : decode cJ4_remove 8 = .ok (.iconst 1, 1) := by decide +kernel
theorem dJ4_remove_9 : decode cJ4_remove 9 = .ok (.invokevirtual 228, 3) := by decide +kernel
theorem dJ4_remove_12 : decode cJ4_remove 12 = .ok (.dup, 1) := by decide +kernel
theorem dJ4_remove_13 : decode cJ4_remove 13 = .ok (.astore_n 2, 1) := by decide +kernel
theorem dJ4_remove_14 : decode cJ4_remove 14 = .ok (.ifnonnull 7, 3) := by decide +kernel
theorem dJ4_remove_17 : decode cJ4_remove 17 = .ok (.aconst_null, 1) := by decide +kernel
theorem dJ4_remove_18 : decode cJ4_remove 18 = .ok (.goto 7, 3) := by decide +kernel
theorem dJ4_remove_21 : decode cJ4_remove 21 = .ok (.aload_n 2, 1) := by decide +kernel
theorem dJ4_remove_22 : decode cJ4_remove 22 = .ok (.getfield 162, 3) := by decide +kernel
theorem dJ4_remove_25 : decode cJ4_remove 25 = .ok (.areturn, 1) := by decide +kernel
abbrev cJ4_hash : ByteArray := prog_35_method_1_code
def yJ4_hash : MethodName := ⟨RJ4, "hash", "(Ljava/lang/Object;)I"⟩
theorem dJ4_hash_0 : decode cJ4_hash 0 = .ok (.aload_n 0, 1) := by decide +kernel
theorem dJ4_hash_1 : decode cJ4_hash 1 = .ok (.ifnonnull 7, 3) := by decide +kernel
theorem dJ4_hash_4 : decode cJ4_hash 4 = .ok (.iconst 0, 1) := by decide +kernel
theorem dJ4_hash_5 : decode cJ4_hash 5 = .ok (.goto 14, 3) := by decide +kernel
theorem dJ4_hash_8 : decode cJ4_hash 8 = .ok (.aload_n 0, 1) := by decide +kernel
theorem dJ4_hash_9 : decode cJ4_hash 9 = .ok (.invokevirtual 1, 3) := by decide +kernel
theorem dJ4_hash_12 : decode cJ4_hash 12 = .ok (.dup, 1) := by decide +kernel
theorem dJ4_hash_13 : decode cJ4_hash 13 = .ok (.istore_n 1, 1) := by decide +kernel
theorem dJ4_hash_14 : decode cJ4_hash 14 = .ok (.iload_n 1, 1) := by decide +kernel
theorem dJ4_hash_15 : decode cJ4_hash 15 = .ok (.bipush 16, 2) := by decide +kernel
theorem dJ4_hash_17 : decode cJ4_hash 17 = .ok (.iushr, 1) := by decide +kernel
theorem dJ4_hash_18 : decode cJ4_hash 18 = .ok (.ixor, 1) := by decide +kernel
theorem dJ4_hash_19 : decode cJ4_hash 19 = .ok (.ireturn, 1) := by decide +kernel
abbrev cJ4_removeNode : ByteArray := prog_35_method_21_code
def yJ4_removeNode : MethodName := ⟨RJ4, "removeNode", "(ILjava/lang/Object;Ljava/lang/Object;ZZ)Ljava/util/HashMap$Node;"⟩
theorem dJ4_removeNode_0 : decode cJ4_removeNode 0 = .ok (.aload_n 0, 1) := by decide +kernel
theorem dJ4_removeNode_1 : decode cJ4_removeNode 1 = .ok (.getfield 105, 3) := by decide +kernel
theorem dJ4_removeNode_4 : decode cJ4_removeNode 4 = .ok (.dup, 1) := by decide +kernel
theorem dJ4_removeNode_5 : decode cJ4_removeNode 5 = .ok (.astore 6, 2) := by decide +kernel
theorem dJ4_removeNode_7 : decode cJ4_removeNode 7 = .ok (.ifnull 282, 3) := by decide +kernel
theorem dJ4_removeNode_10 : decode cJ4_removeNode 10 = .ok (.aload 6, 2) := by decide +kernel
theorem dJ4_removeNode_12 : decode cJ4_removeNode 12 = .ok (.arraylength, 1) := by decide +kernel
theorem dJ4_removeNode_13 : decode cJ4_removeNode 13 = .ok (.dup, 1) := by decide +kernel
theorem dJ4_removeNode_14 : decode cJ4_removeNode 14 = .ok (.istore 8, 2) := by decide +kernel
theorem dJ4_removeNode_16 : decode cJ4_removeNode 16 = .ok (.ifCond .le 273, 3) := by decide +kernel
theorem dJ4_removeNode_19 : decode cJ4_removeNode 19 = .ok (.aload 6, 2) := by decide +kernel
theorem dJ4_removeNode_21 : decode cJ4_removeNode 21 = .ok (.iload 8, 2) := by decide +kernel
theorem dJ4_removeNode_23 : decode cJ4_removeNode 23 = .ok (.iconst 1, 1) := by decide +kernel
theorem dJ4_removeNode_24 : decode cJ4_removeNode 24 = .ok (.isub, 1) := by decide +kernel
theorem dJ4_removeNode_25 : decode cJ4_removeNode 25 = .ok (.iload_n 1, 1) := by decide +kernel
theorem dJ4_removeNode_26 : decode cJ4_removeNode 26 = .ok (.iand, 1) := by decide +kernel
theorem dJ4_removeNode_27 : decode cJ4_removeNode 27 = .ok (.dup, 1) := by decide +kernel
theorem dJ4_removeNode_28 : decode cJ4_removeNode 28 = .ok (.istore 9, 2) := by decide +kernel
theorem dJ4_removeNode_30 : decode cJ4_removeNode 30 = .ok (.aaload, 1) := by decide +kernel
theorem dJ4_removeNode_31 : decode cJ4_removeNode 31 = .ok (.dup, 1) := by decide +kernel
theorem dJ4_removeNode_32 : decode cJ4_removeNode 32 = .ok (.astore 7, 2) := by decide +kernel
theorem dJ4_removeNode_34 : decode cJ4_removeNode 34 = .ok (.ifnull 255, 3) := by decide +kernel
theorem dJ4_removeNode_37 : decode cJ4_removeNode 37 = .ok (.aconst_null, 1) := by decide +kernel
theorem dJ4_removeNode_38 : decode cJ4_removeNode 38 = .ok (.astore 10, 2) := by decide +kernel
theorem dJ4_removeNode_40 : decode cJ4_removeNode 40 = .ok (.aload 7, 2) := by decide +kernel
theorem dJ4_removeNode_42 : decode cJ4_removeNode 42 = .ok (.getfield 168, 3) := by decide +kernel
theorem dJ4_removeNode_45 : decode cJ4_removeNode 45 = .ok (.iload_n 1, 1) := by decide +kernel
theorem dJ4_removeNode_46 : decode cJ4_removeNode 46 = .ok (.if_icmp .ne 35, 3) := by decide +kernel
theorem dJ4_removeNode_49 : decode cJ4_removeNode 49 = .ok (.aload 7, 2) := by decide +kernel
theorem dJ4_removeNode_51 : decode cJ4_removeNode 51 = .ok (.getfield 170, 3) := by decide +kernel
theorem dJ4_removeNode_54 : decode cJ4_removeNode 54 = .ok (.dup, 1) := by decide +kernel
theorem dJ4_removeNode_55 : decode cJ4_removeNode 55 = .ok (.astore 12, 2) := by decide +kernel
theorem dJ4_removeNode_57 : decode cJ4_removeNode 57 = .ok (.aload_n 2, 1) := by decide +kernel
theorem dJ4_removeNode_58 : decode cJ4_removeNode 58 = .ok (.if_acmp .eq 16, 3) := by decide +kernel
theorem dJ4_removeNode_61 : decode cJ4_removeNode 61 = .ok (.aload_n 2, 1) := by decide +kernel
theorem dJ4_removeNode_62 : decode cJ4_removeNode 62 = .ok (.ifnull 19, 3) := by decide +kernel
theorem dJ4_removeNode_65 : decode cJ4_removeNode 65 = .ok (.aload_n 2, 1) := by decide +kernel
theorem dJ4_removeNode_66 : decode cJ4_removeNode 66 = .ok (.aload 12, 2) := by decide +kernel
theorem dJ4_removeNode_68 : decode cJ4_removeNode 68 = .ok (.invokevirtual 173, 3) := by decide +kernel
theorem dJ4_removeNode_71 : decode cJ4_removeNode 71 = .ok (.ifCond .eq 10, 3) := by decide +kernel
theorem dJ4_removeNode_74 : decode cJ4_removeNode 74 = .ok (.aload 7, 2) := by decide +kernel
theorem dJ4_removeNode_76 : decode cJ4_removeNode 76 = .ok (.astore 10, 2) := by decide +kernel
theorem dJ4_removeNode_78 : decode cJ4_removeNode 78 = .ok (.goto 93, 3) := by decide +kernel
theorem dJ4_removeNode_81 : decode cJ4_removeNode 81 = .ok (.aload 7, 2) := by decide +kernel
theorem dJ4_removeNode_83 : decode cJ4_removeNode 83 = .ok (.getfield 177, 3) := by decide +kernel
theorem dJ4_removeNode_86 : decode cJ4_removeNode 86 = .ok (.dup, 1) := by decide +kernel
theorem dJ4_removeNode_87 : decode cJ4_removeNode 87 = .ok (.astore 11, 2) := by decide +kernel
theorem dJ4_removeNode_89 : decode cJ4_removeNode 89 = .ok (.ifnull 82, 3) := by decide +kernel
theorem dJ4_removeNode_92 : decode cJ4_removeNode 92 = .ok (.aload 7, 2) := by decide +kernel
theorem dJ4_removeNode_94 : decode cJ4_removeNode 94 = .ok (.instanceof 180, 3) := by decide +kernel
theorem dJ4_removeNode_97 : decode cJ4_removeNode 97 = .ok (.ifCond .eq 18, 3) := by decide +kernel
theorem dJ4_removeNode_100 : decode cJ4_removeNode 100 = .ok (.aload 7, 2) := by decide +kernel
theorem dJ4_removeNode_102 : decode cJ4_removeNode 102 = .ok (.checkcast 180, 3) := by decide +kernel
theorem dJ4_removeNode_105 : decode cJ4_removeNode 105 = .ok (.iload_n 1, 1) := by decide +kernel
theorem dJ4_removeNode_106 : decode cJ4_removeNode 106 = .ok (.aload_n 2, 1) := by decide +kernel
theorem dJ4_removeNode_107 : decode cJ4_removeNode 107 = .ok (.invokevirtual 182, 3) := by decide +kernel
theorem dJ4_removeNode_110 : decode cJ4_removeNode 110 = .ok (.astore 10, 2) := by decide +kernel
theorem dJ4_removeNode_112 : decode cJ4_removeNode 112 = .ok (.goto 59, 3) := by decide +kernel
theorem dJ4_removeNode_115 : decode cJ4_removeNode 115 = .ok (.aload 11, 2) := by decide +kernel
theorem dJ4_removeNode_117 : decode cJ4_removeNode 117 = .ok (.getfield 168, 3) := by decide +kernel
theorem dJ4_removeNode_120 : decode cJ4_removeNode 120 = .ok (.iload_n 1, 1) := by decide +kernel
theorem dJ4_removeNode_121 : decode cJ4_removeNode 121 = .ok (.if_icmp .ne 35, 3) := by decide +kernel
theorem dJ4_removeNode_124 : decode cJ4_removeNode 124 = .ok (.aload 11, 2) := by decide +kernel
theorem dJ4_removeNode_126 : decode cJ4_removeNode 126 = .ok (.getfield 170, 3) := by decide +kernel
theorem dJ4_removeNode_129 : decode cJ4_removeNode 129 = .ok (.dup, 1) := by decide +kernel
theorem dJ4_removeNode_130 : decode cJ4_removeNode 130 = .ok (.astore 12, 2) := by decide +kernel
theorem dJ4_removeNode_132 : decode cJ4_removeNode 132 = .ok (.aload_n 2, 1) := by decide +kernel
theorem dJ4_removeNode_133 : decode cJ4_removeNode 133 = .ok (.if_acmp .eq 16, 3) := by decide +kernel
theorem dJ4_removeNode_136 : decode cJ4_removeNode 136 = .ok (.aload_n 2, 1) := by decide +kernel
theorem dJ4_removeNode_137 : decode cJ4_removeNode 137 = .ok (.ifnull 19, 3) := by decide +kernel
theorem dJ4_removeNode_140 : decode cJ4_removeNode 140 = .ok (.aload_n 2, 1) := by decide +kernel
theorem dJ4_removeNode_141 : decode cJ4_removeNode 141 = .ok (.aload 12, 2) := by decide +kernel
theorem dJ4_removeNode_143 : decode cJ4_removeNode 143 = .ok (.invokevirtual 173, 3) := by decide +kernel
theorem dJ4_removeNode_146 : decode cJ4_removeNode 146 = .ok (.ifCond .eq 10, 3) := by decide +kernel
theorem dJ4_removeNode_149 : decode cJ4_removeNode 149 = .ok (.aload 11, 2) := by decide +kernel
theorem dJ4_removeNode_151 : decode cJ4_removeNode 151 = .ok (.astore 10, 2) := by decide +kernel
theorem dJ4_removeNode_153 : decode cJ4_removeNode 153 = .ok (.goto 18, 3) := by decide +kernel
theorem dJ4_removeNode_156 : decode cJ4_removeNode 156 = .ok (.aload 11, 2) := by decide +kernel
theorem dJ4_removeNode_158 : decode cJ4_removeNode 158 = .ok (.astore 7, 2) := by decide +kernel
theorem dJ4_removeNode_160 : decode cJ4_removeNode 160 = .ok (.aload 11, 2) := by decide +kernel
theorem dJ4_removeNode_162 : decode cJ4_removeNode 162 = .ok (.getfield 177, 3) := by decide +kernel
theorem dJ4_removeNode_165 : decode cJ4_removeNode 165 = .ok (.dup, 1) := by decide +kernel
theorem dJ4_removeNode_166 : decode cJ4_removeNode 166 = .ok (.astore 11, 2) := by decide +kernel
theorem dJ4_removeNode_168 : decode cJ4_removeNode 168 = .ok (.ifnonnull (-53), 3) := by decide +kernel
theorem dJ4_removeNode_171 : decode cJ4_removeNode 171 = .ok (.aload 10, 2) := by decide +kernel
theorem dJ4_removeNode_173 : decode cJ4_removeNode 173 = .ok (.ifnull 116, 3) := by decide +kernel
theorem dJ4_removeNode_176 : decode cJ4_removeNode 176 = .ok (.iload 4, 2) := by decide +kernel
theorem dJ4_removeNode_178 : decode cJ4_removeNode 178 = .ok (.ifCond .eq 28, 3) := by decide +kernel
theorem dJ4_removeNode_181 : decode cJ4_removeNode 181 = .ok (.aload 10, 2) := by decide +kernel
theorem dJ4_removeNode_183 : decode cJ4_removeNode 183 = .ok (.getfield 162, 3) := by decide +kernel
theorem dJ4_removeNode_186 : decode cJ4_removeNode 186 = .ok (.dup, 1) := by decide +kernel
theorem dJ4_removeNode_187 : decode cJ4_removeNode 187 = .ok (.astore 13, 2) := by decide +kernel
theorem dJ4_removeNode_189 : decode cJ4_removeNode 189 = .ok (.aload_n 3, 1) := by decide +kernel
theorem dJ4_removeNode_190 : decode cJ4_removeNode 190 = .ok (.if_acmp .eq 16, 3) := by decide +kernel
theorem dJ4_removeNode_193 : decode cJ4_removeNode 193 = .ok (.aload_n 3, 1) := by decide +kernel
theorem dJ4_removeNode_194 : decode cJ4_removeNode 194 = .ok (.ifnull 95, 3) := by decide +kernel
theorem dJ4_removeNode_197 : decode cJ4_removeNode 197 = .ok (.aload_n 3, 1) := by decide +kernel
theorem dJ4_removeNode_198 : decode cJ4_removeNode 198 = .ok (.aload 13, 2) := by decide +kernel
theorem dJ4_removeNode_200 : decode cJ4_removeNode 200 = .ok (.invokevirtual 173, 3) := by decide +kernel
theorem dJ4_removeNode_203 : decode cJ4_removeNode 203 = .ok (.ifCond .eq 86, 3) := by decide +kernel
theorem dJ4_removeNode_206 : decode cJ4_removeNode 206 = .ok (.aload 10, 2) := by decide +kernel
theorem dJ4_removeNode_208 : decode cJ4_removeNode 208 = .ok (.instanceof 180, 3) := by decide +kernel
theorem dJ4_removeNode_211 : decode cJ4_removeNode 211 = .ok (.ifCond .eq 19, 3) := by decide +kernel
theorem dJ4_removeNode_214 : decode cJ4_removeNode 214 = .ok (.aload 10, 2) := by decide +kernel
theorem dJ4_removeNode_216 : decode cJ4_removeNode 216 = .ok (.checkcast 180, 3) := by decide +kernel
theorem dJ4_removeNode_219 : decode cJ4_removeNode 219 = .ok (.aload_n 0, 1) := by decide +kernel
theorem dJ4_removeNode_220 : decode cJ4_removeNode 220 = .ok (.aload 6, 2) := by decide +kernel
theorem dJ4_removeNode_222 : decode cJ4_removeNode 222 = .ok (.iload 5, 2) := by decide +kernel
theorem dJ4_removeNode_224 : decode cJ4_removeNode 224 = .ok (.invokevirtual 232, 3) := by decide +kernel
theorem dJ4_removeNode_227 : decode cJ4_removeNode 227 = .ok (.goto 33, 3) := by decide +kernel
theorem dJ4_removeNode_230 : decode cJ4_removeNode 230 = .ok (.aload 10, 2) := by decide +kernel
theorem dJ4_removeNode_232 : decode cJ4_removeNode 232 = .ok (.aload 7, 2) := by decide +kernel
theorem dJ4_removeNode_234 : decode cJ4_removeNode 234 = .ok (.if_acmp .ne 16, 3) := by decide +kernel
theorem dJ4_removeNode_237 : decode cJ4_removeNode 237 = .ok (.aload 6, 2) := by decide +kernel
theorem dJ4_removeNode_239 : decode cJ4_removeNode 239 = .ok (.iload 9, 2) := by decide +kernel
theorem dJ4_removeNode_241 : decode cJ4_removeNode 241 = .ok (.aload 10, 2) := by decide +kernel
theorem dJ4_removeNode_243 : decode cJ4_removeNode 243 = .ok (.getfield 177, 3) := by decide +kernel
theorem dJ4_removeNode_246 : decode cJ4_removeNode 246 = .ok (.aastore, 1) := by decide +kernel
theorem dJ4_removeNode_247 : decode cJ4_removeNode 247 = .ok (.goto 13, 3) := by decide +kernel
theorem dJ4_removeNode_250 : decode cJ4_removeNode 250 = .ok (.aload 7, 2) := by decide +kernel
theorem dJ4_removeNode_252 : decode cJ4_removeNode 252 = .ok (.aload 10, 2) := by decide +kernel
theorem dJ4_removeNode_254 : decode cJ4_removeNode 254 = .ok (.getfield 177, 3) := by decide +kernel
theorem dJ4_removeNode_257 : decode cJ4_removeNode 257 = .ok (.putfield 177, 3) := by decide +kernel
theorem dJ4_removeNode_260 : decode cJ4_removeNode 260 = .ok (.aload_n 0, 1) := by decide +kernel
theorem dJ4_removeNode_261 : decode cJ4_removeNode 261 = .ok (.dup, 1) := by decide +kernel
theorem dJ4_removeNode_262 : decode cJ4_removeNode 262 = .ok (.getfield 202, 3) := by decide +kernel
theorem dJ4_removeNode_265 : decode cJ4_removeNode 265 = .ok (.iconst 1, 1) := by decide +kernel
theorem dJ4_removeNode_266 : decode cJ4_removeNode 266 = .ok (.iadd, 1) := by decide +kernel
theorem dJ4_removeNode_267 : decode cJ4_removeNode 267 = .ok (.putfield 202, 3) := by decide +kernel
theorem dJ4_removeNode_270 : decode cJ4_removeNode 270 = .ok (.aload_n 0, 1) := by decide +kernel
theorem dJ4_removeNode_271 : decode cJ4_removeNode 271 = .ok (.dup, 1) := by decide +kernel
theorem dJ4_removeNode_272 : decode cJ4_removeNode 272 = .ok (.getfield 156, 3) := by decide +kernel
theorem dJ4_removeNode_275 : decode cJ4_removeNode 275 = .ok (.iconst 1, 1) := by decide +kernel
theorem dJ4_removeNode_276 : decode cJ4_removeNode 276 = .ok (.isub, 1) := by decide +kernel
theorem dJ4_removeNode_277 : decode cJ4_removeNode 277 = .ok (.putfield 156, 3) := by decide +kernel
theorem dJ4_removeNode_280 : decode cJ4_removeNode 280 = .ok (.aload_n 0, 1) := by decide +kernel
theorem dJ4_removeNode_281 : decode cJ4_removeNode 281 = .ok (.aload 10, 2) := by decide +kernel
theorem dJ4_removeNode_283 : decode cJ4_removeNode 283 = .ok (.invokevirtual 236, 3) := by decide +kernel
theorem dJ4_removeNode_286 : decode cJ4_removeNode 286 = .ok (.aload 10, 2) := by decide +kernel
theorem dJ4_removeNode_288 : decode cJ4_removeNode 288 = .ok (.areturn, 1) := by decide +kernel
theorem dJ4_removeNode_289 : decode cJ4_removeNode 289 = .ok (.aconst_null, 1) := by decide +kernel
theorem dJ4_removeNode_290 : decode cJ4_removeNode 290 = .ok (.areturn, 1) := by decide +kernel
abbrev cJ4_put : ByteArray := prog_35_method_15_code
def yJ4_put : MethodName := ⟨RJ4, "put", "(Ljava/lang/Object;Ljava/lang/Object;)Ljava/lang/Object;"⟩
theorem dJ4_put_0 : decode cJ4_put 0 = .ok (.aload_n 0, 1) := by decide +kernel
theorem dJ4_put_1 : decode cJ4_put 1 = .ok (.aload_n 1, 1) := by decide +kernel
theorem dJ4_put_2 : decode cJ4_put 2 = .ok (.invokestatic 149, 3) := by decide +kernel
theorem dJ4_put_5 : decode cJ4_put 5 = .ok (.aload_n 1, 1) := by decide +kernel
theorem dJ4_put_6 : decode cJ4_put 6 = .ok (.aload_n 2, 1) := by decide +kernel
theorem dJ4_put_7 : decode cJ4_put 7 = .ok (.iconst 0, 1) := by decide +kernel
theorem dJ4_put_8 : decode cJ4_put 8 = .ok (.iconst 1, 1) := by decide +kernel
theorem dJ4_put_9 : decode cJ4_put 9 = .ok (.invokevirtual 152, 3) := by decide +kernel
theorem dJ4_put_12 : decode cJ4_put 12 = .ok (.areturn, 1) := by decide +kernel
abbrev cJ4_putVal : ByteArray := prog_35_method_16_code
def yJ4_putVal : MethodName := ⟨RJ4, "putVal", "(ILjava/lang/Object;Ljava/lang/Object;ZZ)Ljava/lang/Object;"⟩
theorem dJ4_putVal_0 : decode cJ4_putVal 0 = .ok (.aload_n 0, 1) := by decide +kernel
theorem dJ4_putVal_1 : decode cJ4_putVal 1 = .ok (.getfield 105, 3) := by decide +kernel
theorem dJ4_putVal_4 : decode cJ4_putVal 4 = .ok (.dup, 1) := by decide +kernel
theorem dJ4_putVal_5 : decode cJ4_putVal 5 = .ok (.astore 6, 2) := by decide +kernel
theorem dJ4_putVal_7 : decode cJ4_putVal 7 = .ok (.ifnull 12, 3) := by decide +kernel
theorem dJ4_putVal_10 : decode cJ4_putVal 10 = .ok (.aload 6, 2) := by decide +kernel
theorem dJ4_putVal_12 : decode cJ4_putVal 12 = .ok (.arraylength, 1) := by decide +kernel
theorem dJ4_putVal_13 : decode cJ4_putVal 13 = .ok (.dup, 1) := by decide +kernel
theorem dJ4_putVal_14 : decode cJ4_putVal 14 = .ok (.istore 8, 2) := by decide +kernel
theorem dJ4_putVal_16 : decode cJ4_putVal 16 = .ok (.ifCond .ne 13, 3) := by decide +kernel
theorem dJ4_putVal_19 : decode cJ4_putVal 19 = .ok (.aload_n 0, 1) := by decide +kernel
theorem dJ4_putVal_20 : decode cJ4_putVal 20 = .ok (.invokevirtual 117, 3) := by decide +kernel
theorem dJ4_putVal_23 : decode cJ4_putVal 23 = .ok (.dup, 1) := by decide +kernel
theorem dJ4_putVal_24 : decode cJ4_putVal 24 = .ok (.astore 6, 2) := by decide +kernel
theorem dJ4_putVal_26 : decode cJ4_putVal 26 = .ok (.arraylength, 1) := by decide +kernel
theorem dJ4_putVal_27 : decode cJ4_putVal 27 = .ok (.istore 8, 2) := by decide +kernel
theorem dJ4_putVal_29 : decode cJ4_putVal 29 = .ok (.aload 6, 2) := by decide +kernel
theorem dJ4_putVal_31 : decode cJ4_putVal 31 = .ok (.iload 8, 2) := by decide +kernel
theorem dJ4_putVal_33 : decode cJ4_putVal 33 = .ok (.iconst 1, 1) := by decide +kernel
theorem dJ4_putVal_34 : decode cJ4_putVal 34 = .ok (.isub, 1) := by decide +kernel
theorem dJ4_putVal_35 : decode cJ4_putVal 35 = .ok (.iload_n 1, 1) := by decide +kernel
theorem dJ4_putVal_36 : decode cJ4_putVal 36 = .ok (.iand, 1) := by decide +kernel
theorem dJ4_putVal_37 : decode cJ4_putVal 37 = .ok (.dup, 1) := by decide +kernel
theorem dJ4_putVal_38 : decode cJ4_putVal 38 = .ok (.istore 9, 2) := by decide +kernel
theorem dJ4_putVal_40 : decode cJ4_putVal 40 = .ok (.aaload, 1) := by decide +kernel
theorem dJ4_putVal_41 : decode cJ4_putVal 41 = .ok (.dup, 1) := by decide +kernel
theorem dJ4_putVal_42 : decode cJ4_putVal 42 = .ok (.astore 7, 2) := by decide +kernel
theorem dJ4_putVal_44 : decode cJ4_putVal 44 = .ok (.ifnonnull 19, 3) := by decide +kernel
theorem dJ4_putVal_47 : decode cJ4_putVal 47 = .ok (.aload 6, 2) := by decide +kernel
theorem dJ4_putVal_49 : decode cJ4_putVal 49 = .ok (.iload 9, 2) := by decide +kernel
theorem dJ4_putVal_51 : decode cJ4_putVal 51 = .ok (.aload_n 0, 1) := by decide +kernel
theorem dJ4_putVal_52 : decode cJ4_putVal 52 = .ok (.iload_n 1, 1) := by decide +kernel
theorem dJ4_putVal_53 : decode cJ4_putVal 53 = .ok (.aload_n 2, 1) := by decide +kernel
theorem dJ4_putVal_54 : decode cJ4_putVal 54 = .ok (.aload_n 3, 1) := by decide +kernel
theorem dJ4_putVal_55 : decode cJ4_putVal 55 = .ok (.aconst_null, 1) := by decide +kernel
theorem dJ4_putVal_56 : decode cJ4_putVal 56 = .ok (.invokevirtual 186, 3) := by decide +kernel
theorem dJ4_putVal_59 : decode cJ4_putVal 59 = .ok (.aastore, 1) := by decide +kernel
theorem dJ4_putVal_60 : decode cJ4_putVal 60 = .ok (.goto 199, 3) := by decide +kernel
theorem dJ4_putVal_63 : decode cJ4_putVal 63 = .ok (.aload 7, 2) := by decide +kernel
theorem dJ4_putVal_65 : decode cJ4_putVal 65 = .ok (.getfield 168, 3) := by decide +kernel
theorem dJ4_putVal_68 : decode cJ4_putVal 68 = .ok (.iload_n 1, 1) := by decide +kernel
theorem dJ4_putVal_69 : decode cJ4_putVal 69 = .ok (.if_icmp .ne 35, 3) := by decide +kernel
theorem dJ4_putVal_72 : decode cJ4_putVal 72 = .ok (.aload 7, 2) := by decide +kernel
theorem dJ4_putVal_74 : decode cJ4_putVal 74 = .ok (.getfield 170, 3) := by decide +kernel
theorem dJ4_putVal_77 : decode cJ4_putVal 77 = .ok (.dup, 1) := by decide +kernel
theorem dJ4_putVal_78 : decode cJ4_putVal 78 = .ok (.astore 11, 2) := by decide +kernel
theorem dJ4_putVal_80 : decode cJ4_putVal 80 = .ok (.aload_n 2, 1) := by decide +kernel
theorem dJ4_putVal_81 : decode cJ4_putVal 81 = .ok (.if_acmp .eq 16, 3) := by decide +kernel
theorem dJ4_putVal_84 : decode cJ4_putVal 84 = .ok (.aload_n 2, 1) := by decide +kernel
theorem dJ4_putVal_85 : decode cJ4_putVal 85 = .ok (.ifnull 19, 3) := by decide +kernel
theorem dJ4_putVal_88 : decode cJ4_putVal 88 = .ok (.aload_n 2, 1) := by decide +kernel
theorem dJ4_putVal_89 : decode cJ4_putVal 89 = .ok (.aload 11, 2) := by decide +kernel
theorem dJ4_putVal_91 : decode cJ4_putVal 91 = .ok (.invokevirtual 173, 3) := by decide +kernel
theorem dJ4_putVal_94 : decode cJ4_putVal 94 = .ok (.ifCond .eq 10, 3) := by decide +kernel
theorem dJ4_putVal_97 : decode cJ4_putVal 97 = .ok (.aload 7, 2) := by decide +kernel
theorem dJ4_putVal_99 : decode cJ4_putVal 99 = .ok (.astore 10, 2) := by decide +kernel
theorem dJ4_putVal_101 : decode cJ4_putVal 101 = .ok (.goto 121, 3) := by decide +kernel
theorem dJ4_putVal_104 : decode cJ4_putVal 104 = .ok (.aload 7, 2) := by decide +kernel
theorem dJ4_putVal_106 : decode cJ4_putVal 106 = .ok (.instanceof 180, 3) := by decide +kernel
theorem dJ4_putVal_109 : decode cJ4_putVal 109 = .ok (.ifCond .eq 22, 3) := by decide +kernel
theorem dJ4_putVal_112 : decode cJ4_putVal 112 = .ok (.aload 7, 2) := by decide +kernel
theorem dJ4_putVal_114 : decode cJ4_putVal 114 = .ok (.checkcast 180, 3) := by decide +kernel
theorem dJ4_putVal_117 : decode cJ4_putVal 117 = .ok (.aload_n 0, 1) := by decide +kernel
theorem dJ4_putVal_118 : decode cJ4_putVal 118 = .ok (.aload 6, 2) := by decide +kernel
theorem dJ4_putVal_120 : decode cJ4_putVal 120 = .ok (.iload_n 1, 1) := by decide +kernel
theorem dJ4_putVal_121 : decode cJ4_putVal 121 = .ok (.aload_n 2, 1) := by decide +kernel
theorem dJ4_putVal_122 : decode cJ4_putVal 122 = .ok (.aload_n 3, 1) := by decide +kernel
theorem dJ4_putVal_123 : decode cJ4_putVal 123 = .ok (.invokevirtual 190, 3) := by decide +kernel
theorem dJ4_putVal_126 : decode cJ4_putVal 126 = .ok (.astore 10, 2) := by decide +kernel
theorem dJ4_putVal_128 : decode cJ4_putVal 128 = .ok (.goto 94, 3) := by decide +kernel
theorem dJ4_putVal_131 : decode cJ4_putVal 131 = .ok (.iconst 0, 1) := by decide +kernel
theorem dJ4_putVal_132 : decode cJ4_putVal 132 = .ok (.istore 12, 2) := by decide +kernel
theorem dJ4_putVal_134 : decode cJ4_putVal 134 = .ok (.aload 7, 2) := by decide +kernel
theorem dJ4_putVal_136 : decode cJ4_putVal 136 = .ok (.getfield 177, 3) := by decide +kernel
theorem dJ4_putVal_139 : decode cJ4_putVal 139 = .ok (.dup, 1) := by decide +kernel
theorem dJ4_putVal_140 : decode cJ4_putVal 140 = .ok (.astore 10, 2) := by decide +kernel
theorem dJ4_putVal_142 : decode cJ4_putVal 142 = .ok (.ifnonnull 33, 3) := by decide +kernel
theorem dJ4_putVal_145 : decode cJ4_putVal 145 = .ok (.aload 7, 2) := by decide +kernel
theorem dJ4_putVal_147 : decode cJ4_putVal 147 = .ok (.aload_n 0, 1) := by decide +kernel
theorem dJ4_putVal_148 : decode cJ4_putVal 148 = .ok (.iload_n 1, 1) := by decide +kernel
theorem dJ4_putVal_149 : decode cJ4_putVal 149 = .ok (.aload_n 2, 1) := by decide +kernel
theorem dJ4_putVal_150 : decode cJ4_putVal 150 = .ok (.aload_n 3, 1) := by decide +kernel
theorem dJ4_putVal_151 : decode cJ4_putVal 151 = .ok (.aconst_null, 1) := by decide +kernel
theorem dJ4_putVal_152 : decode cJ4_putVal 152 = .ok (.invokevirtual 186, 3) := by decide +kernel
theorem dJ4_putVal_155 : decode cJ4_putVal 155 = .ok (.putfield 177, 3) := by decide +kernel
theorem dJ4_putVal_158 : decode cJ4_putVal 158 = .ok (.iload 12, 2) := by decide +kernel
theorem dJ4_putVal_160 : decode cJ4_putVal 160 = .ok (.bipush 7, 2) := by decide +kernel
theorem dJ4_putVal_162 : decode cJ4_putVal 162 = .ok (.if_icmp .lt 60, 3) := by decide +kernel
theorem dJ4_putVal_165 : decode cJ4_putVal 165 = .ok (.aload_n 0, 1) := by decide +kernel
theorem dJ4_putVal_166 : decode cJ4_putVal 166 = .ok (.aload 6, 2) := by decide +kernel
theorem dJ4_putVal_168 : decode cJ4_putVal 168 = .ok (.iload_n 1, 1) := by decide +kernel
theorem dJ4_putVal_169 : decode cJ4_putVal 169 = .ok (.invokevirtual 194, 3) := by decide +kernel
theorem dJ4_putVal_172 : decode cJ4_putVal 172 = .ok (.goto 50, 3) := by decide +kernel
theorem dJ4_putVal_175 : decode cJ4_putVal 175 = .ok (.aload 10, 2) := by decide +kernel
theorem dJ4_putVal_177 : decode cJ4_putVal 177 = .ok (.getfield 168, 3) := by decide +kernel
theorem dJ4_putVal_180 : decode cJ4_putVal 180 = .ok (.iload_n 1, 1) := by decide +kernel
theorem dJ4_putVal_181 : decode cJ4_putVal 181 = .ok (.if_icmp .ne 31, 3) := by decide +kernel
theorem dJ4_putVal_184 : decode cJ4_putVal 184 = .ok (.aload 10, 2) := by decide +kernel
theorem dJ4_putVal_186 : decode cJ4_putVal 186 = .ok (.getfield 170, 3) := by decide +kernel
theorem dJ4_putVal_189 : decode cJ4_putVal 189 = .ok (.dup, 1) := by decide +kernel
theorem dJ4_putVal_190 : decode cJ4_putVal 190 = .ok (.astore 11, 2) := by decide +kernel
theorem dJ4_putVal_192 : decode cJ4_putVal 192 = .ok (.aload_n 2, 1) := by decide +kernel
theorem dJ4_putVal_193 : decode cJ4_putVal 193 = .ok (.if_acmp .eq 29, 3) := by decide +kernel
theorem dJ4_putVal_196 : decode cJ4_putVal 196 = .ok (.aload_n 2, 1) := by decide +kernel
theorem dJ4_putVal_197 : decode cJ4_putVal 197 = .ok (.ifnull 15, 3) := by decide +kernel
theorem dJ4_putVal_200 : decode cJ4_putVal 200 = .ok (.aload_n 2, 1) := by decide +kernel
theorem dJ4_putVal_201 : decode cJ4_putVal 201 = .ok (.aload 11, 2) := by decide +kernel
theorem dJ4_putVal_203 : decode cJ4_putVal 203 = .ok (.invokevirtual 173, 3) := by decide +kernel
theorem dJ4_putVal_206 : decode cJ4_putVal 206 = .ok (.ifCond .eq 6, 3) := by decide +kernel
theorem dJ4_putVal_209 : decode cJ4_putVal 209 = .ok (.goto 13, 3) := by decide +kernel
theorem dJ4_putVal_212 : decode cJ4_putVal 212 = .ok (.aload 10, 2) := by decide +kernel
theorem dJ4_putVal_214 : decode cJ4_putVal 214 = .ok (.astore 7, 2) := by decide +kernel
theorem dJ4_putVal_216 : decode cJ4_putVal 216 = .ok (.iinc 12 1, 3) := by decide +kernel
theorem dJ4_putVal_219 : decode cJ4_putVal 219 = .ok (.goto (-85), 3) := by decide +kernel
theorem dJ4_putVal_222 : decode cJ4_putVal 222 = .ok (.aload 10, 2) := by decide +kernel
theorem dJ4_putVal_224 : decode cJ4_putVal 224 = .ok (.ifnull 35, 3) := by decide +kernel
theorem dJ4_putVal_227 : decode cJ4_putVal 227 = .ok (.aload 10, 2) := by decide +kernel
theorem dJ4_putVal_229 : decode cJ4_putVal 229 = .ok (.getfield 162, 3) := by decide +kernel
theorem dJ4_putVal_232 : decode cJ4_putVal 232 = .ok (.astore 12, 2) := by decide +kernel
theorem dJ4_putVal_234 : decode cJ4_putVal 234 = .ok (.iload 4, 2) := by decide +kernel
theorem dJ4_putVal_236 : decode cJ4_putVal 236 = .ok (.ifCond .eq 8, 3) := by decide +kernel
theorem dJ4_putVal_239 : decode cJ4_putVal 239 = .ok (.aload 12, 2) := by decide +kernel
theorem dJ4_putVal_241 : decode cJ4_putVal 241 = .ok (.ifnonnull 9, 3) := by decide +kernel
theorem dJ4_putVal_244 : decode cJ4_putVal 244 = .ok (.aload 10, 2) := by decide +kernel
theorem dJ4_putVal_246 : decode cJ4_putVal 246 = .ok (.aload_n 3, 1) := by decide +kernel
theorem dJ4_putVal_247 : decode cJ4_putVal 247 = .ok (.putfield 162, 3) := by decide +kernel
theorem dJ4_putVal_250 : decode cJ4_putVal 250 = .ok (.aload_n 0, 1) := by decide +kernel
theorem dJ4_putVal_251 : decode cJ4_putVal 251 = .ok (.aload 10, 2) := by decide +kernel
theorem dJ4_putVal_253 : decode cJ4_putVal 253 = .ok (.invokevirtual 198, 3) := by decide +kernel
theorem dJ4_putVal_256 : decode cJ4_putVal 256 = .ok (.aload 12, 2) := by decide +kernel
theorem dJ4_putVal_258 : decode cJ4_putVal 258 = .ok (.areturn, 1) := by decide +kernel
theorem dJ4_putVal_259 : decode cJ4_putVal 259 = .ok (.aload_n 0, 1) := by decide +kernel
theorem dJ4_putVal_260 : decode cJ4_putVal 260 = .ok (.dup, 1) := by decide +kernel
theorem dJ4_putVal_261 : decode cJ4_putVal 261 = .ok (.getfield 202, 3) := by decide +kernel
theorem dJ4_putVal_264 : decode cJ4_putVal 264 = .ok (.iconst 1, 1) := by decide +kernel
theorem dJ4_putVal_265 : decode cJ4_putVal 265 = .ok (.iadd, 1) := by decide +kernel
theorem dJ4_putVal_266 : decode cJ4_putVal 266 = .ok (.putfield 202, 3) := by decide +kernel
theorem dJ4_putVal_269 : decode cJ4_putVal 269 = .ok (.aload_n 0, 1) := by decide +kernel
theorem dJ4_putVal_270 : decode cJ4_putVal 270 = .ok (.dup, 1) := by decide +kernel
theorem dJ4_putVal_271 : decode cJ4_putVal 271 = .ok (.getfield 156, 3) := by decide +kernel
theorem dJ4_putVal_274 : decode cJ4_putVal 274 = .ok (.iconst 1, 1) := by decide +kernel
theorem dJ4_putVal_275 : decode cJ4_putVal 275 = .ok (.iadd, 1) := by decide +kernel
theorem dJ4_putVal_276 : decode cJ4_putVal 276 = .ok (.dup_x1, 1) := by decide +kernel
theorem dJ4_putVal_277 : decode cJ4_putVal 277 = .ok (.putfield 156, 3) := by decide +kernel
theorem dJ4_putVal_280 : decode cJ4_putVal 280 = .ok (.aload_n 0, 1) := by decide +kernel
theorem dJ4_putVal_281 : decode cJ4_putVal 281 = .ok (.getfield 88, 3) := by decide +kernel
theorem dJ4_putVal_284 : decode cJ4_putVal 284 = .ok (.if_icmp .le 8, 3) := by decide +kernel
theorem dJ4_putVal_287 : decode cJ4_putVal 287 = .ok (.aload_n 0, 1) := by decide +kernel
theorem dJ4_putVal_288 : decode cJ4_putVal 288 = .ok (.invokevirtual 117, 3) := by decide +kernel
theorem dJ4_putVal_291 : decode cJ4_putVal 291 = .ok (.pop, 1) := by decide +kernel
theorem dJ4_putVal_292 : decode cJ4_putVal 292 = .ok (.aload_n 0, 1) := by decide +kernel
theorem dJ4_putVal_293 : decode cJ4_putVal 293 = .ok (.iload 5, 2) := by decide +kernel
theorem dJ4_putVal_295 : decode cJ4_putVal 295 = .ok (.invokevirtual 205, 3) := by decide +kernel
theorem dJ4_putVal_298 : decode cJ4_putVal 298 = .ok (.aconst_null, 1) := by decide +kernel
theorem dJ4_putVal_299 : decode cJ4_putVal 299 = .ok (.areturn, 1) := by decide +kernel
abbrev cJ4_resize : ByteArray := prog_35_method_17_code
def yJ4_resize : MethodName := ⟨RJ4, "resize", "()[Ljava/util/HashMap$Node;"⟩
theorem dJ4_resize_0 : decode cJ4_resize 0 = .ok (.aload_n 0, 1) := by decide +kernel
theorem dJ4_resize_1 : decode cJ4_resize 1 = .ok (.getfield 105, 3) := by decide +kernel
theorem dJ4_resize_4 : decode cJ4_resize 4 = .ok (.astore_n 1, 1) := by decide +kernel
theorem dJ4_resize_5 : decode cJ4_resize 5 = .ok (.aload_n 1, 1) := by decide +kernel
theorem dJ4_resize_6 : decode cJ4_resize 6 = .ok (.ifnonnull 7, 3) := by decide +kernel
theorem dJ4_resize_9 : decode cJ4_resize 9 = .ok (.iconst 0, 1) := by decide +kernel
theorem dJ4_resize_10 : decode cJ4_resize 10 = .ok (.goto 5, 3) := by decide +kernel
theorem dJ4_resize_13 : decode cJ4_resize 13 = .ok (.aload_n 1, 1) := by decide +kernel
theorem dJ4_resize_14 : decode cJ4_resize 14 = .ok (.arraylength, 1) := by decide +kernel
theorem dJ4_resize_15 : decode cJ4_resize 15 = .ok (.istore_n 2, 1) := by decide +kernel
theorem dJ4_resize_16 : decode cJ4_resize 16 = .ok (.aload_n 0, 1) := by decide +kernel
theorem dJ4_resize_17 : decode cJ4_resize 17 = .ok (.getfield 88, 3) := by decide +kernel
theorem dJ4_resize_20 : decode cJ4_resize 20 = .ok (.istore_n 3, 1) := by decide +kernel
theorem dJ4_resize_21 : decode cJ4_resize 21 = .ok (.iconst 0, 1) := by decide +kernel
theorem dJ4_resize_22 : decode cJ4_resize 22 = .ok (.istore 5, 2) := by decide +kernel
theorem dJ4_resize_24 : decode cJ4_resize 24 = .ok (.iload_n 2, 1) := by decide +kernel
theorem dJ4_resize_25 : decode cJ4_resize 25 = .ok (.ifCond .le 42, 3) := by decide +kernel
theorem dJ4_resize_28 : decode cJ4_resize 28 = .ok (.iload_n 2, 1) := by decide +kernel
theorem dJ4_resize_29 : decode cJ4_resize 29 = .ok (.ldc 42, 2) := by decide +kernel
theorem dJ4_resize_31 : decode cJ4_resize 31 = .ok (.if_icmp .lt 11, 3) := by decide +kernel
theorem dJ4_resize_34 : decode cJ4_resize 34 = .ok (.aload_n 0, 1) := by decide +kernel
theorem dJ4_resize_35 : decode cJ4_resize 35 = .ok (.ldc 209, 2) := by decide +kernel
theorem dJ4_resize_37 : decode cJ4_resize 37 = .ok (.putfield 88, 3) := by decide +kernel
theorem dJ4_resize_40 : decode cJ4_resize 40 = .ok (.aload_n 1, 1) := by decide +kernel
theorem dJ4_resize_41 : decode cJ4_resize 41 = .ok (.areturn, 1) := by decide +kernel
theorem dJ4_resize_42 : decode cJ4_resize 42 = .ok (.iload_n 2, 1) := by decide +kernel
theorem dJ4_resize_43 : decode cJ4_resize 43 = .ok (.iconst 1, 1) := by decide +kernel
theorem dJ4_resize_44 : decode cJ4_resize 44 = .ok (.ishl, 1) := by decide +kernel
theorem dJ4_resize_45 : decode cJ4_resize 45 = .ok (.dup, 1) := by decide +kernel
theorem dJ4_resize_46 : decode cJ4_resize 46 = .ok (.istore 4, 2) := by decide +kernel
theorem dJ4_resize_48 : decode cJ4_resize 48 = .ok (.ldc 42, 2) := by decide +kernel
theorem dJ4_resize_50 : decode cJ4_resize 50 = .ok (.if_icmp .ge 35, 3) := by decide +kernel
theorem dJ4_resize_53 : decode cJ4_resize 53 = .ok (.iload_n 2, 1) := by decide +kernel
theorem dJ4_resize_54 : decode cJ4_resize 54 = .ok (.bipush 16, 2) := by decide +kernel
theorem dJ4_resize_56 : decode cJ4_resize 56 = .ok (.if_icmp .lt 29, 3) := by decide +kernel
theorem dJ4_resize_59 : decode cJ4_resize 59 = .ok (.iload_n 3, 1) := by decide +kernel
theorem dJ4_resize_60 : decode cJ4_resize 60 = .ok (.iconst 1, 1) := by decide +kernel
theorem dJ4_resize_61 : decode cJ4_resize 61 = .ok (.ishl, 1) := by decide +kernel
theorem dJ4_resize_62 : decode cJ4_resize 62 = .ok (.istore 5, 2) := by decide +kernel
theorem dJ4_resize_64 : decode cJ4_resize 64 = .ok (.goto 21, 3) := by decide +kernel
theorem dJ4_resize_67 : decode cJ4_resize 67 = .ok (.iload_n 3, 1) := by decide +kernel
theorem dJ4_resize_68 : decode cJ4_resize 68 = .ok (.ifCond .le 9, 3) := by decide +kernel
theorem dJ4_resize_71 : decode cJ4_resize 71 = .ok (.iload_n 3, 1) := by decide +kernel
theorem dJ4_resize_72 : decode cJ4_resize 72 = .ok (.istore 4, 2) := by decide +kernel
theorem dJ4_resize_74 : decode cJ4_resize 74 = .ok (.goto 11, 3) := by decide +kernel
theorem dJ4_resize_77 : decode cJ4_resize 77 = .ok (.bipush 16, 2) := by decide +kernel
theorem dJ4_resize_79 : decode cJ4_resize 79 = .ok (.istore 4, 2) := by decide +kernel
theorem dJ4_resize_81 : decode cJ4_resize 81 = .ok (.bipush 12, 2) := by decide +kernel
theorem dJ4_resize_83 : decode cJ4_resize 83 = .ok (.istore 5, 2) := by decide +kernel
theorem dJ4_resize_85 : decode cJ4_resize 85 = .ok (.iload 5, 2) := by decide +kernel
theorem dJ4_resize_87 : decode cJ4_resize 87 = .ok (.ifCond .ne 38, 3) := by decide +kernel
theorem dJ4_resize_90 : decode cJ4_resize 90 = .ok (.iload 4, 2) := by decide +kernel
theorem dJ4_resize_92 : decode cJ4_resize 92 = .ok (.i2f, 1) := by decide +kernel
theorem dJ4_resize_93 : decode cJ4_resize 93 = .ok (.aload_n 0, 1) := by decide +kernel
theorem dJ4_resize_94 : decode cJ4_resize 94 = .ok (.getfield 81, 3) := by decide +kernel
theorem dJ4_resize_97 : decode cJ4_resize 97 = .ok (.fmul, 1) := by decide +kernel
theorem dJ4_resize_98 : decode cJ4_resize 98 = .ok (.fstore 6, 2) := by decide +kernel
theorem dJ4_resize_100 : decode cJ4_resize 100 = .ok (.iload 4, 2) := by decide +kernel
theorem dJ4_resize_102 : decode cJ4_resize 102 = .ok (.ldc 42, 2) := by decide +kernel
theorem dJ4_resize_104 : decode cJ4_resize 104 = .ok (.if_icmp .ge 17, 3) := by decide +kernel
theorem dJ4_resize_107 : decode cJ4_resize 107 = .ok (.fload 6, 2) := by decide +kernel
theorem dJ4_resize_109 : decode cJ4_resize 109 = .ok (.ldc 210, 2) := by decide +kernel
theorem dJ4_resize_111 : decode cJ4_resize 111 = .ok (.fcmp .g, 1) := by decide +kernel
theorem dJ4_resize_112 : decode cJ4_resize 112 = .ok (.ifCond .ge 9, 3) := by decide +kernel
theorem dJ4_resize_115 : decode cJ4_resize 115 = .ok (.fload 6, 2) := by decide +kernel
theorem dJ4_resize_117 : decode cJ4_resize 117 = .ok (.f2i, 1) := by decide +kernel
theorem dJ4_resize_118 : decode cJ4_resize 118 = .ok (.goto 5, 3) := by decide +kernel
theorem dJ4_resize_121 : decode cJ4_resize 121 = .ok (.ldc 209, 2) := by decide +kernel
theorem dJ4_resize_123 : decode cJ4_resize 123 = .ok (.istore 5, 2) := by decide +kernel
theorem dJ4_resize_125 : decode cJ4_resize 125 = .ok (.aload_n 0, 1) := by decide +kernel
theorem dJ4_resize_126 : decode cJ4_resize 126 = .ok (.iload 5, 2) := by decide +kernel
theorem dJ4_resize_128 : decode cJ4_resize 128 = .ok (.putfield 88, 3) := by decide +kernel
theorem dJ4_resize_131 : decode cJ4_resize 131 = .ok (.iload 4, 2) := by decide +kernel
theorem dJ4_resize_133 : decode cJ4_resize 133 = .ok (.anewarray 163, 3) := by decide +kernel
theorem dJ4_resize_136 : decode cJ4_resize 136 = .ok (.astore 6, 2) := by decide +kernel
theorem dJ4_resize_138 : decode cJ4_resize 138 = .ok (.aload_n 0, 1) := by decide +kernel
theorem dJ4_resize_139 : decode cJ4_resize 139 = .ok (.aload 6, 2) := by decide +kernel
theorem dJ4_resize_141 : decode cJ4_resize 141 = .ok (.putfield 105, 3) := by decide +kernel
theorem dJ4_resize_144 : decode cJ4_resize 144 = .ok (.aload_n 1, 1) := by decide +kernel
theorem dJ4_resize_145 : decode cJ4_resize 145 = .ok (.ifnull 208, 3) := by decide +kernel
theorem dJ4_resize_148 : decode cJ4_resize 148 = .ok (.iconst 0, 1) := by decide +kernel
theorem dJ4_resize_149 : decode cJ4_resize 149 = .ok (.istore 7, 2) := by decide +kernel
theorem dJ4_resize_151 : decode cJ4_resize 151 = .ok (.iload 7, 2) := by decide +kernel
theorem dJ4_resize_153 : decode cJ4_resize 153 = .ok (.iload_n 2, 1) := by decide +kernel
theorem dJ4_resize_154 : decode cJ4_resize 154 = .ok (.if_icmp .ge 199, 3) := by decide +kernel
theorem dJ4_resize_157 : decode cJ4_resize 157 = .ok (.aload_n 1, 1) := by decide +kernel
theorem dJ4_resize_158 : decode cJ4_resize 158 = .ok (.iload 7, 2) := by decide +kernel
theorem dJ4_resize_160 : decode cJ4_resize 160 = .ok (.aaload, 1) := by decide +kernel
theorem dJ4_resize_161 : decode cJ4_resize 161 = .ok (.dup, 1) := by decide +kernel
theorem dJ4_resize_162 : decode cJ4_resize 162 = .ok (.astore 8, 2) := by decide +kernel
theorem dJ4_resize_164 : decode cJ4_resize 164 = .ok (.ifnull 183, 3) := by decide +kernel
theorem dJ4_resize_167 : decode cJ4_resize 167 = .ok (.aload_n 1, 1) := by decide +kernel
theorem dJ4_resize_168 : decode cJ4_resize 168 = .ok (.iload 7, 2) := by decide +kernel
theorem dJ4_resize_170 : decode cJ4_resize 170 = .ok (.aconst_null, 1) := by decide +kernel
theorem dJ4_resize_171 : decode cJ4_resize 171 = .ok (.aastore, 1) := by decide +kernel
theorem dJ4_resize_172 : decode cJ4_resize 172 = .ok (.aload 8, 2) := by decide +kernel
theorem dJ4_resize_174 : decode cJ4_resize 174 = .ok (.getfield 177, 3) := by decide +kernel
theorem dJ4_resize_177 : decode cJ4_resize 177 = .ok (.ifnonnull 21, 3) := by decide +kernel
theorem dJ4_resize_180 : decode cJ4_resize 180 = .ok (.aload 6, 2) := by decide +kernel
theorem dJ4_resize_182 : decode cJ4_resize 182 = .ok (.aload 8, 2) := by decide +kernel
theorem dJ4_resize_184 : decode cJ4_resize 184 = .ok (.getfield 168, 3) := by decide +kernel
theorem dJ4_resize_187 : decode cJ4_resize 187 = .ok (.iload 4, 2) := by decide +kernel
theorem dJ4_resize_189 : decode cJ4_resize 189 = .ok (.iconst 1, 1) := by decide +kernel
theorem dJ4_resize_190 : decode cJ4_resize 190 = .ok (.isub, 1) := by decide +kernel
theorem dJ4_resize_191 : decode cJ4_resize 191 = .ok (.iand, 1) := by decide +kernel
theorem dJ4_resize_192 : decode cJ4_resize 192 = .ok (.aload 8, 2) := by decide +kernel
theorem dJ4_resize_194 : decode cJ4_resize 194 = .ok (.aastore, 1) := by decide +kernel
theorem dJ4_resize_195 : decode cJ4_resize 195 = .ok (.goto 152, 3) := by decide +kernel
theorem dJ4_resize_198 : decode cJ4_resize 198 = .ok (.aload 8, 2) := by decide +kernel
theorem dJ4_resize_200 : decode cJ4_resize 200 = .ok (.instanceof 180, 3) := by decide +kernel
theorem dJ4_resize_203 : decode cJ4_resize 203 = .ok (.ifCond .eq 20, 3) := by decide +kernel
theorem dJ4_resize_206 : decode cJ4_resize 206 = .ok (.aload 8, 2) := by decide +kernel
theorem dJ4_resize_208 : decode cJ4_resize 208 = .ok (.checkcast 180, 3) := by decide +kernel
theorem dJ4_resize_211 : decode cJ4_resize 211 = .ok (.aload_n 0, 1) := by decide +kernel
theorem dJ4_resize_212 : decode cJ4_resize 212 = .ok (.aload 6, 2) := by decide +kernel
theorem dJ4_resize_214 : decode cJ4_resize 214 = .ok (.iload 7, 2) := by decide +kernel
theorem dJ4_resize_216 : decode cJ4_resize 216 = .ok (.iload_n 2, 1) := by decide +kernel
theorem dJ4_resize_217 : decode cJ4_resize 217 = .ok (.invokevirtual 211, 3) := by decide +kernel
theorem dJ4_resize_220 : decode cJ4_resize 220 = .ok (.goto 127, 3) := by decide +kernel
theorem dJ4_resize_223 : decode cJ4_resize 223 = .ok (.aconst_null, 1) := by decide +kernel
theorem dJ4_resize_224 : decode cJ4_resize 224 = .ok (.astore 9, 2) := by decide +kernel
theorem dJ4_resize_226 : decode cJ4_resize 226 = .ok (.aconst_null, 1) := by decide +kernel
theorem dJ4_resize_227 : decode cJ4_resize 227 = .ok (.astore 10, 2) := by decide +kernel
theorem dJ4_resize_229 : decode cJ4_resize 229 = .ok (.aconst_null, 1) := by decide +kernel
theorem dJ4_resize_230 : decode cJ4_resize 230 = .ok (.astore 11, 2) := by decide +kernel
theorem dJ4_resize_232 : decode cJ4_resize 232 = .ok (.aconst_null, 1) := by decide +kernel
theorem dJ4_resize_233 : decode cJ4_resize 233 = .ok (.astore 12, 2) := by decide +kernel
theorem dJ4_resize_235 : decode cJ4_resize 235 = .ok (.aload 8, 2) := by decide +kernel
theorem dJ4_resize_237 : decode cJ4_resize 237 = .ok (.getfield 177, 3) := by decide +kernel
theorem dJ4_resize_240 : decode cJ4_resize 240 = .ok (.astore 13, 2) := by decide +kernel
theorem dJ4_resize_242 : decode cJ4_resize 242 = .ok (.aload 8, 2) := by decide +kernel
theorem dJ4_resize_244 : decode cJ4_resize 244 = .ok (.getfield 168, 3) := by decide +kernel
theorem dJ4_resize_247 : decode cJ4_resize 247 = .ok (.iload_n 2, 1) := by decide +kernel
theorem dJ4_resize_248 : decode cJ4_resize 248 = .ok (.iand, 1) := by decide +kernel
theorem dJ4_resize_249 : decode cJ4_resize 249 = .ok (.ifCond .ne 29, 3) := by decide +kernel
theorem dJ4_resize_252 : decode cJ4_resize 252 = .ok (.aload 10, 2) := by decide +kernel
theorem dJ4_resize_254 : decode cJ4_resize 254 = .ok (.ifnonnull 10, 3) := by decide +kernel
theorem dJ4_resize_257 : decode cJ4_resize 257 = .ok (.aload 8, 2) := by decide +kernel
theorem dJ4_resize_259 : decode cJ4_resize 259 = .ok (.astore 9, 2) := by decide +kernel
theorem dJ4_resize_261 : decode cJ4_resize 261 = .ok (.goto 10, 3) := by decide +kernel
theorem dJ4_resize_264 : decode cJ4_resize 264 = .ok (.aload 10, 2) := by decide +kernel
theorem dJ4_resize_266 : decode cJ4_resize 266 = .ok (.aload 8, 2) := by decide +kernel
theorem dJ4_resize_268 : decode cJ4_resize 268 = .ok (.putfield 177, 3) := by decide +kernel
theorem dJ4_resize_271 : decode cJ4_resize 271 = .ok (.aload 8, 2) := by decide +kernel
theorem dJ4_resize_273 : decode cJ4_resize 273 = .ok (.astore 10, 2) := by decide +kernel
theorem dJ4_resize_275 : decode cJ4_resize 275 = .ok (.goto 26, 3) := by decide +kernel
theorem dJ4_resize_278 : decode cJ4_resize 278 = .ok (.aload 12, 2) := by decide +kernel
theorem dJ4_resize_280 : decode cJ4_resize 280 = .ok (.ifnonnull 10, 3) := by decide +kernel
theorem dJ4_resize_283 : decode cJ4_resize 283 = .ok (.aload 8, 2) := by decide +kernel
theorem dJ4_resize_285 : decode cJ4_resize 285 = .ok (.astore 11, 2) := by decide +kernel
theorem dJ4_resize_287 : decode cJ4_resize 287 = .ok (.goto 10, 3) := by decide +kernel
theorem dJ4_resize_290 : decode cJ4_resize 290 = .ok (.aload 12, 2) := by decide +kernel
theorem dJ4_resize_292 : decode cJ4_resize 292 = .ok (.aload 8, 2) := by decide +kernel
theorem dJ4_resize_294 : decode cJ4_resize 294 = .ok (.putfield 177, 3) := by decide +kernel
theorem dJ4_resize_297 : decode cJ4_resize 297 = .ok (.aload 8, 2) := by decide +kernel
theorem dJ4_resize_299 : decode cJ4_resize 299 = .ok (.astore 12, 2) := by decide +kernel
theorem dJ4_resize_301 : decode cJ4_resize 301 = .ok (.aload 13, 2) := by decide +kernel
theorem dJ4_resize_303 : decode cJ4_resize 303 = .ok (.dup, 1) := by decide +kernel
theorem dJ4_resize_304 : decode cJ4_resize 304 = .ok (.astore 8, 2) := by decide +kernel
theorem dJ4_resize_306 : decode cJ4_resize 306 = .ok (.ifnonnull (-71), 3) := by decide +kernel
theorem dJ4_resize_309 : decode cJ4_resize 309 = .ok (.aload 10, 2) := by decide +kernel
theorem dJ4_resize_311 : decode cJ4_resize 311 = .ok (.ifnull 16, 3) := by decide +kernel
theorem dJ4_resize_314 : decode cJ4_resize 314 = .ok (.aload 10, 2) := by decide +kernel
theorem dJ4_resize_316 : decode cJ4_resize 316 = .ok (.aconst_null, 1) := by decide +kernel
theorem dJ4_resize_317 : decode cJ4_resize 317 = .ok (.putfield 177, 3) := by decide +kernel
theorem dJ4_resize_320 : decode cJ4_resize 320 = .ok (.aload 6, 2) := by decide +kernel
theorem dJ4_resize_322 : decode cJ4_resize 322 = .ok (.iload 7, 2) := by decide +kernel
theorem dJ4_resize_324 : decode cJ4_resize 324 = .ok (.aload 9, 2) := by decide +kernel
theorem dJ4_resize_326 : decode cJ4_resize 326 = .ok (.aastore, 1) := by decide +kernel
theorem dJ4_resize_327 : decode cJ4_resize 327 = .ok (.aload 12, 2) := by decide +kernel
theorem dJ4_resize_329 : decode cJ4_resize 329 = .ok (.ifnull 18, 3) := by decide +kernel
theorem dJ4_resize_332 : decode cJ4_resize 332 = .ok (.aload 12, 2) := by decide +kernel
theorem dJ4_resize_334 : decode cJ4_resize 334 = .ok (.aconst_null, 1) := by decide +kernel
theorem dJ4_resize_335 : decode cJ4_resize 335 = .ok (.putfield 177, 3) := by decide +kernel
theorem dJ4_resize_338 : decode cJ4_resize 338 = .ok (.aload 6, 2) := by decide +kernel
theorem dJ4_resize_340 : decode cJ4_resize 340 = .ok (.iload 7, 2) := by decide +kernel
theorem dJ4_resize_342 : decode cJ4_resize 342 = .ok (.iload_n 2, 1) := by decide +kernel
theorem dJ4_resize_343 : decode cJ4_resize 343 = .ok (.iadd, 1) := by decide +kernel
theorem dJ4_resize_344 : decode cJ4_resize 344 = .ok (.aload 11, 2) := by decide +kernel
theorem dJ4_resize_346 : decode cJ4_resize 346 = .ok (.aastore, 1) := by decide +kernel
theorem dJ4_resize_347 : decode cJ4_resize 347 = .ok (.iinc 7 1, 3) := by decide +kernel
theorem dJ4_resize_350 : decode cJ4_resize 350 = .ok (.goto (-199), 3) := by decide +kernel
theorem dJ4_resize_353 : decode cJ4_resize 353 = .ok (.aload 6, 2) := by decide +kernel
theorem dJ4_resize_355 : decode cJ4_resize 355 = .ok (.areturn, 1) := by decide +kernel
abbrev cJ4_size : ByteArray := prog_35_method_10_code
def yJ4_size : MethodName := ⟨RJ4, "size", "()I"⟩
theorem dJ4_size_0 : decode cJ4_size 0 = .ok (.aload_n 0, 1) := by decide +kernel
theorem dJ4_size_1 : decode cJ4_size 1 = .ok (.getfield 156, 3) := by decide +kernel
theorem dJ4_size_4 : decode cJ4_size 4 = .ok (.ireturn, 1) := by decide +kernel
abbrev cJ5_init : ByteArray := prog_39_method_16_code
def yJ5_init : MethodName := ⟨RJ5, "<init>", "()V"⟩
theorem dJ5_init_0 : decode cJ5_init 0 = .ok (.aload_n 0, 1) := by decide +kernel
theorem dJ5_init_1 : decode cJ5_init 1 = .ok (.invokespecial 87, 3) := by decide +kernel
theorem dJ5_init_4 : decode cJ5_init 4 = .ok (.aload_n 0, 1) := by decide +kernel
theorem dJ5_init_5 : decode cJ5_init 5 = .ok (.iconst 0, 1) := by decide +kernel
theorem dJ5_init_6 : decode cJ5_init 6 = .ok (.putfield 1, 3) := by decide +kernel
theorem dJ5_init_9 : decode cJ5_init 9 = .ok (.aload_n 0, 1) := by decide +kernel
theorem dJ5_init_10 : decode cJ5_init 10 = .ok (.iconst 0, 1) := by decide +kernel
theorem dJ5_init_11 : decode cJ5_init 11 = .ok (.putfield 64, 3) := by decide +kernel
theorem dJ5_init_14 : decode cJ5_init 14 = .ok (.return_, 1) := by decide +kernel
abbrev cJ5_replacementNode : ByteArray := prog_39_method_5_code
def yJ5_replacementNode : MethodName := ⟨RJ5, "replacementNode", "(Ljava/util/HashMap$Node;Ljava/util/HashMap$Node;)Ljava/util/HashMap$Node;"⟩
theorem dJ5_replacementNode_0 : decode cJ5_replacementNode 0 = .ok (.aload_n 1, 1) := by decide +kernel
theorem dJ5_replacementNode_1 : decode cJ5_replacementNode 1 = .ok (.checkcast 15, 3) := by decide +kernel
theorem dJ5_replacementNode_4 : decode cJ5_replacementNode 4 = .ok (.astore_n 3, 1) := by decide +kernel
theorem dJ5_replacementNode_5 : decode cJ5_replacementNode 5 = .ok (.new 15, 3) := by decide +kernel
theorem dJ5_replacementNode_8 : decode cJ5_replacementNode 8 = .ok (.dup, 1) := by decide +kernel
theorem dJ5_replacementNode_9 : decode cJ5_replacementNode 9 = .ok (.aload_n 3, 1) := by decide +kernel
theorem dJ5_replacementNode_10 : decode cJ5_replacementNode 10 = .ok (.getfield 36, 3) := by decide +kernel
theorem dJ5_replacementNode_13 : decode cJ5_replacementNode 13 = .ok (.aload_n 3, 1) := by decide +kernel
theorem dJ5_replacementNode_14 : decode cJ5_replacementNode 14 = .ok (.getfield 39, 3) := by decide +kernel
theorem dJ5_replacementNode_17 : decode cJ5_replacementNode 17 = .ok (.aload_n 3, 1) := by decide +kernel
theorem dJ5_replacementNode_18 : decode cJ5_replacementNode 18 = .ok (.getfield 43, 3) := by decide +kernel
theorem dJ5_replacementNode_21 : decode cJ5_replacementNode 21 = .ok (.aload_n 2, 1) := by decide +kernel
theorem dJ5_replacementNode_22 : decode cJ5_replacementNode 22 = .ok (.invokespecial 28, 3) := by decide +kernel
theorem dJ5_replacementNode_25 : decode cJ5_replacementNode 25 = .ok (.astore 4, 2) := by decide +kernel
theorem dJ5_replacementNode_27 : decode cJ5_replacementNode 27 = .ok (.aload_n 0, 1) := by decide +kernel
theorem dJ5_replacementNode_28 : decode cJ5_replacementNode 28 = .ok (.aload_n 3, 1) := by decide +kernel
theorem dJ5_replacementNode_29 : decode cJ5_replacementNode 29 = .ok (.aload 4, 2) := by decide +kernel
theorem dJ5_replacementNode_31 : decode cJ5_replacementNode 31 = .ok (.invokevirtual 46, 3) := by decide +kernel
theorem dJ5_replacementNode_34 : decode cJ5_replacementNode 34 = .ok (.aload 4, 2) := by decide +kernel
theorem dJ5_replacementNode_36 : decode cJ5_replacementNode 36 = .ok (.areturn, 1) := by decide +kernel
abbrev cJ5_transferLinks : ByteArray := prog_39_method_2_code
def yJ5_transferLinks : MethodName := ⟨RJ5, "transferLinks", "(Ljava/util/LinkedHashMap$Entry;Ljava/util/LinkedHashMap$Entry;)V"⟩
theorem dJ5_transferLinks_0 : decode cJ5_transferLinks 0 = .ok (.aload_n 2, 1) := by decide +kernel
theorem dJ5_transferLinks_1 : decode cJ5_transferLinks 1 = .ok (.aload_n 1, 1) := by decide +kernel
theorem dJ5_transferLinks_2 : decode cJ5_transferLinks 2 = .ok (.getfield 19, 3) := by decide +kernel
theorem dJ5_transferLinks_5 : decode cJ5_transferLinks 5 = .ok (.dup_x1, 1) := by decide +kernel
theorem dJ5_transferLinks_6 : decode cJ5_transferLinks 6 = .ok (.putfield 19, 3) := by decide +kernel
theorem dJ5_transferLinks_9 : decode cJ5_transferLinks 9 = .ok (.astore_n 3, 1) := by decide +kernel
theorem dJ5_transferLinks_10 : decode cJ5_transferLinks 10 = .ok (.aload_n 2, 1) := by decide +kernel
theorem dJ5_transferLinks_11 : decode cJ5_transferLinks 11 = .ok (.aload_n 1, 1) := by decide +kernel
theorem dJ5_transferLinks_12 : decode cJ5_transferLinks 12 = .ok (.getfield 14, 3) := by decide +kernel
theorem dJ5_transferLinks_15 : decode cJ5_transferLinks 15 = .ok (.dup_x1, 1) := by decide +kernel
theorem dJ5_transferLinks_16 : decode cJ5_transferLinks 16 = .ok (.putfield 14, 3) := by decide +kernel
theorem dJ5_transferLinks_19 : decode cJ5_transferLinks 19 = .ok (.astore 4, 2) := by decide +kernel
theorem dJ5_transferLinks_21 : decode cJ5_transferLinks 21 = .ok (.aload_n 3, 1) := by decide +kernel
theorem dJ5_transferLinks_22 : decode cJ5_transferLinks 22 = .ok (.ifnonnull 11, 3) := by decide +kernel
theorem dJ5_transferLinks_25 : decode cJ5_transferLinks 25 = .ok (.aload_n 0, 1) := by decide +kernel
theorem dJ5_transferLinks_26 : decode cJ5_transferLinks 26 = .ok (.aload_n 2, 1) := by decide +kernel
theorem dJ5_transferLinks_27 : decode cJ5_transferLinks 27 = .ok (.putfield 7, 3) := by decide +kernel
theorem dJ5_transferLinks_30 : decode cJ5_transferLinks 30 = .ok (.goto 8, 3) := by decide +kernel
theorem dJ5_transferLinks_33 : decode cJ5_transferLinks 33 = .ok (.aload_n 3, 1) := by decide +kernel
theorem dJ5_transferLinks_34 : decode cJ5_transferLinks 34 = .ok (.aload_n 2, 1) := by decide +kernel
theorem dJ5_transferLinks_35 : decode cJ5_transferLinks 35 = .ok (.putfield 14, 3) := by decide +kernel
theorem dJ5_transferLinks_38 : decode cJ5_transferLinks 38 = .ok (.aload 4, 2) := by decide +kernel
theorem dJ5_transferLinks_40 : decode cJ5_transferLinks 40 = .ok (.ifnonnull 11, 3) := by decide +kernel
theorem dJ5_transferLinks_43 : decode cJ5_transferLinks 43 = .ok (.aload_n 0, 1) := by decide +kernel
theorem dJ5_transferLinks_44 : decode cJ5_transferLinks 44 = .ok (.aload_n 2, 1) := by decide +kernel
theorem dJ5_transferLinks_45 : decode cJ5_transferLinks 45 = .ok (.putfield 11, 3) := by decide +kernel
theorem dJ5_transferLinks_48 : decode cJ5_transferLinks 48 = .ok (.goto 9, 3) := by decide +kernel
theorem dJ5_transferLinks_51 : decode cJ5_transferLinks 51 = .ok (.aload 4, 2) := by decide +kernel
theorem dJ5_transferLinks_53 : decode cJ5_transferLinks 53 = .ok (.aload_n 2, 1) := by decide +kernel
theorem dJ5_transferLinks_54 : decode cJ5_transferLinks 54 = .ok (.putfield 19, 3) := by decide +kernel
theorem dJ5_transferLinks_57 : decode cJ5_transferLinks 57 = .ok (.return_, 1) := by decide +kernel
abbrev cJ5_afterNodeRemoval : ByteArray := prog_39_method_8_code
def yJ5_afterNodeRemoval : MethodName := ⟨RJ5, "afterNodeRemoval", "(Ljava/util/HashMap$Node;)V"⟩
theorem dJ5_afterNodeRemoval_0 : decode cJ5_afterNodeRemoval 0 = .ok (.aload_n 1, 1) := by decide +kernel
theorem dJ5_afterNodeRemoval_1 : decode cJ5_afterNodeRemoval 1 = .ok (.checkcast 15, 3) := by decide +kernel
theorem dJ5_afterNodeRemoval_4 : decode cJ5_afterNodeRemoval 4 = .ok (.astore_n 2, 1) := by decide +kernel
theorem dJ5_afterNodeRemoval_5 : decode cJ5_afterNodeRemoval 5 = .ok (.aload_n 2, 1) := by decide +kernel
theorem dJ5_afterNodeRemoval_6 : decode cJ5_afterNodeRemoval 6 = .ok (.getfield 19, 3) := by decide +kernel
theorem dJ5_afterNodeRemoval_9 : decode cJ5_afterNodeRemoval 9 = .ok (.astore_n 3, 1) := by decide +kernel
theorem dJ5_afterNodeRemoval_10 : decode cJ5_afterNodeRemoval 10 = .ok (.aload_n 2, 1) := by decide +kernel
theorem dJ5_afterNodeRemoval_11 : decode cJ5_afterNodeRemoval 11 = .ok (.getfield 14, 3) := by decide +kernel
theorem dJ5_afterNodeRemoval_14 : decode cJ5_afterNodeRemoval 14 = .ok (.astore 4, 2) := by decide +kernel
theorem dJ5_afterNodeRemoval_16 : decode cJ5_afterNodeRemoval 16 = .ok (.aload_n 2, 1) := by decide +kernel
theorem dJ5_afterNodeRemoval_17 : decode cJ5_afterNodeRemoval 17 = .ok (.aload_n 2, 1) := by decide +kernel
theorem dJ5_afterNodeRemoval_18 : decode cJ5_afterNodeRemoval 18 = .ok (.aconst_null, 1) := by decide +kernel
theorem dJ5_afterNodeRemoval_19 : decode cJ5_afterNodeRemoval 19 = .ok (.dup_x1, 1) := by decide +kernel
theorem dJ5_afterNodeRemoval_20 : decode cJ5_afterNodeRemoval 20 = .ok (.putfield 14, 3) := by decide +kernel
theorem dJ5_afterNodeRemoval_23 : decode cJ5_afterNodeRemoval 23 = .ok (.putfield 19, 3) := by decide +kernel
theorem dJ5_afterNodeRemoval_26 : decode cJ5_afterNodeRemoval 26 = .ok (.aload_n 3, 1) := by decide +kernel
theorem dJ5_afterNodeRemoval_27 : decode cJ5_afterNodeRemoval 27 = .ok (.ifnonnull 12, 3) := by decide +kernel
theorem dJ5_afterNodeRemoval_30 : decode cJ5_afterNodeRemoval 30 = .ok (.aload_n 0, 1) := by decide +kernel
theorem dJ5_afterNodeRemoval_31 : decode cJ5_afterNodeRemoval 31 = .ok (.aload 4, 2) := by decide +kernel
theorem dJ5_afterNodeRemoval_33 : decode cJ5_afterNodeRemoval 33 = .ok (.putfield 7, 3) := by decide +kernel
theorem dJ5_afterNodeRemoval_36 : decode cJ5_afterNodeRemoval 36 = .ok (.goto 9, 3) := by decide +kernel
theorem dJ5_afterNodeRemoval_39 : decode cJ5_afterNodeRemoval 39 = .ok (.aload_n 3, 1) := by decide +kernel
theorem dJ5_afterNodeRemoval_40 : decode cJ5_afterNodeRemoval 40 = .ok (.aload 4, 2) := by decide +kernel
theorem dJ5_afterNodeRemoval_42 : decode cJ5_afterNodeRemoval 42 = .ok (.putfield 14, 3) := by decide +kernel
theorem dJ5_afterNodeRemoval_45 : decode cJ5_afterNodeRemoval 45 = .ok (.aload 4, 2) := by decide +kernel
theorem dJ5_afterNodeRemoval_47 : decode cJ5_afterNodeRemoval 47 = .ok (.ifnonnull 11, 3) := by decide +kernel
theorem dJ5_afterNodeRemoval_50 : decode cJ5_afterNodeRemoval 50 = .ok (.aload_n 0, 1) := by decide +kernel
theorem dJ5_afterNodeRemoval_51 : decode cJ5_afterNodeRemoval 51 = .ok (.aload_n 3, 1) := by decide +kernel
theorem dJ5_afterNodeRemoval_52 : decode cJ5_afterNodeRemoval 52 = .ok (.putfield 11, 3) := by decide +kernel
theorem dJ5_afterNodeRemoval_55 : decode cJ5_afterNodeRemoval 55 = .ok (.goto 9, 3) := by decide +kernel
theorem dJ5_afterNodeRemoval_58 : decode cJ5_afterNodeRemoval 58 = .ok (.aload 4, 2) := by decide +kernel
theorem dJ5_afterNodeRemoval_60 : decode cJ5_afterNodeRemoval 60 = .ok (.aload_n 3, 1) := by decide +kernel
theorem dJ5_afterNodeRemoval_61 : decode cJ5_afterNodeRemoval 61 = .ok (.putfield 19, 3) := by decide +kernel
theorem dJ5_afterNodeRemoval_64 : decode cJ5_afterNodeRemoval 64 = .ok (.return_, 1) := by decide +kernel
abbrev cJ5_newNode : ByteArray := prog_39_method_4_code
def yJ5_newNode : MethodName := ⟨RJ5, "newNode", "(ILjava/lang/Object;Ljava/lang/Object;Ljava/util/HashMap$Node;)Ljava/util/HashMap$Node;"⟩
theorem dJ5_newNode_0 : decode cJ5_newNode 0 = .ok (.new 15, 3) := by decide +kernel
theorem dJ5_newNode_3 : decode cJ5_newNode 3 = .ok (.dup, 1) := by decide +kernel
theorem dJ5_newNode_4 : decode cJ5_newNode 4 = .ok (.iload_n 1, 1) := by decide +kernel
theorem dJ5_newNode_5 : decode cJ5_newNode 5 = .ok (.aload_n 2, 1) := by decide +kernel
theorem dJ5_newNode_6 : decode cJ5_newNode 6 = .ok (.aload_n 3, 1) := by decide +kernel
theorem dJ5_newNode_7 : decode cJ5_newNode 7 = .ok (.aload 4, 2) := by decide +kernel
theorem dJ5_newNode_9 : decode cJ5_newNode 9 = .ok (.invokespecial 28, 3) := by decide +kernel
theorem dJ5_newNode_12 : decode cJ5_newNode 12 = .ok (.astore 5, 2) := by decide +kernel
theorem dJ5_newNode_14 : decode cJ5_newNode 14 = .ok (.aload_n 0, 1) := by decide +kernel
theorem dJ5_newNode_15 : decode cJ5_newNode 15 = .ok (.aload 5, 2) := by decide +kernel
theorem dJ5_newNode_17 : decode cJ5_newNode 17 = .ok (.invokevirtual 32, 3) := by decide +kernel
theorem dJ5_newNode_20 : decode cJ5_newNode 20 = .ok (.aload 5, 2) := by decide +kernel
theorem dJ5_newNode_22 : decode cJ5_newNode 22 = .ok (.areturn, 1) := by decide +kernel
abbrev cJ5_linkNodeAtEnd : ByteArray := prog_39_method_1_code
def yJ5_linkNodeAtEnd : MethodName := ⟨RJ5, "linkNodeAtEnd", "(Ljava/util/LinkedHashMap$Entry;)V"⟩
theorem dJ5_linkNodeAtEnd_0 : decode cJ5_linkNodeAtEnd 0 = .ok (.aload_n 0, 1) := by decide +kernel
theorem dJ5_linkNodeAtEnd_1 : decode cJ5_linkNodeAtEnd 1 = .ok (.getfield 1, 3) := by decide +kernel
theorem dJ5_linkNodeAtEnd_4 : decode cJ5_linkNodeAtEnd 4 = .ok (.iconst 1, 1) := by decide +kernel
theorem dJ5_linkNodeAtEnd_5 : decode cJ5_linkNodeAtEnd 5 = .ok (.if_icmp .ne 38, 3) := by decide +kernel
theorem dJ5_linkNodeAtEnd_8 : decode cJ5_linkNodeAtEnd 8 = .ok (.aload_n 0, 1) := by decide +kernel
theorem dJ5_linkNodeAtEnd_9 : decode cJ5_linkNodeAtEnd 9 = .ok (.getfield 7, 3) := by decide +kernel
theorem dJ5_linkNodeAtEnd_12 : decode cJ5_linkNodeAtEnd 12 = .ok (.astore_n 2, 1) := by decide +kernel
theorem dJ5_linkNodeAtEnd_13 : decode cJ5_linkNodeAtEnd 13 = .ok (.aload_n 0, 1) := by decide +kernel
theorem dJ5_linkNodeAtEnd_14 : decode cJ5_linkNodeAtEnd 14 = .ok (.aload_n 1, 1) := by decide +kernel
theorem dJ5_linkNodeAtEnd_15 : decode cJ5_linkNodeAtEnd 15 = .ok (.putfield 7, 3) := by decide +kernel
theorem dJ5_linkNodeAtEnd_18 : decode cJ5_linkNodeAtEnd 18 = .ok (.aload_n 2, 1) := by decide +kernel
theorem dJ5_linkNodeAtEnd_19 : decode cJ5_linkNodeAtEnd 19 = .ok (.ifnonnull 11, 3) := by decide +kernel
theorem dJ5_linkNodeAtEnd_22 : decode cJ5_linkNodeAtEnd 22 = .ok (.aload_n 0, 1) := by decide +kernel
theorem dJ5_linkNodeAtEnd_23 : decode cJ5_linkNodeAtEnd 23 = .ok (.aload_n 1, 1) := by decide +kernel
theorem dJ5_linkNodeAtEnd_24 : decode cJ5_linkNodeAtEnd 24 = .ok (.putfield 11, 3) := by decide +kernel
theorem dJ5_linkNodeAtEnd_27 : decode cJ5_linkNodeAtEnd 27 = .ok (.goto 13, 3) := by decide +kernel
theorem dJ5_linkNodeAtEnd_30 : decode cJ5_linkNodeAtEnd 30 = .ok (.aload_n 1, 1) := by decide +kernel
theorem dJ5_linkNodeAtEnd_31 : decode cJ5_linkNodeAtEnd 31 = .ok (.aload_n 2, 1) := by decide +kernel
theorem dJ5_linkNodeAtEnd_32 : decode cJ5_linkNodeAtEnd 32 = .ok (.putfield 14, 3) := by decide +kernel
theorem dJ5_linkNodeAtEnd_35 : decode cJ5_linkNodeAtEnd 35 = .ok (.aload_n 2, 1) := by decide +kernel
theorem dJ5_linkNodeAtEnd_36 : decode cJ5_linkNodeAtEnd 36 = .ok (.aload_n 1, 1) := by decide +kernel
theorem dJ5_linkNodeAtEnd_37 : decode cJ5_linkNodeAtEnd 37 = .ok (.putfield 19, 3) := by decide +kernel
theorem dJ5_linkNodeAtEnd_40 : decode cJ5_linkNodeAtEnd 40 = .ok (.goto 35, 3) := by decide +kernel
theorem dJ5_linkNodeAtEnd_43 : decode cJ5_linkNodeAtEnd 43 = .ok (.aload_n 0, 1) := by decide +kernel
theorem dJ5_linkNodeAtEnd_44 : decode cJ5_linkNodeAtEnd 44 = .ok (.getfield 11, 3) := by decide +kernel
theorem dJ5_linkNodeAtEnd_47 : decode cJ5_linkNodeAtEnd 47 = .ok (.astore_n 2, 1) := by decide +kernel
theorem dJ5_linkNodeAtEnd_48 : decode cJ5_linkNodeAtEnd 48 = .ok (.aload_n 0, 1) := by decide +kernel
theorem dJ5_linkNodeAtEnd_49 : decode cJ5_linkNodeAtEnd 49 = .ok (.aload_n 1, 1) := by decide +kernel
theorem dJ5_linkNodeAtEnd_50 : decode cJ5_linkNodeAtEnd 50 = .ok (.putfield 11, 3) := by decide +kernel
theorem dJ5_linkNodeAtEnd_53 : decode cJ5_linkNodeAtEnd 53 = .ok (.aload_n 2, 1) := by decide +kernel
theorem dJ5_linkNodeAtEnd_54 : decode cJ5_linkNodeAtEnd 54 = .ok (.ifnonnull 11, 3) := by decide +kernel
theorem dJ5_linkNodeAtEnd_57 : decode cJ5_linkNodeAtEnd 57 = .ok (.aload_n 0, 1) := by decide +kernel
theorem dJ5_linkNodeAtEnd_58 : decode cJ5_linkNodeAtEnd 58 = .ok (.aload_n 1, 1) := by decide +kernel
theorem dJ5_linkNodeAtEnd_59 : decode cJ5_linkNodeAtEnd 59 = .ok (.putfield 7, 3) := by decide +kernel
theorem dJ5_linkNodeAtEnd_62 : decode cJ5_linkNodeAtEnd 62 = .ok (.goto 13, 3) := by decide +kernel
theorem dJ5_linkNodeAtEnd_65 : decode cJ5_linkNodeAtEnd 65 = .ok (.aload_n 1, 1) := by decide +kernel
theorem dJ5_linkNodeAtEnd_66 : decode cJ5_linkNodeAtEnd 66 = .ok (.aload_n 2, 1) := by decide +kernel
theorem dJ5_linkNodeAtEnd_67 : decode cJ5_linkNodeAtEnd 67 = .ok (.putfield 19, 3) := by decide +kernel
theorem dJ5_linkNodeAtEnd_70 : decode cJ5_linkNodeAtEnd 70 = .ok (.aload_n 2, 1) := by decide +kernel
theorem dJ5_linkNodeAtEnd_71 : decode cJ5_linkNodeAtEnd 71 = .ok (.aload_n 1, 1) := by decide +kernel
theorem dJ5_linkNodeAtEnd_72 : decode cJ5_linkNodeAtEnd 72 = .ok (.putfield 14, 3) := by decide +kernel
theorem dJ5_linkNodeAtEnd_75 : decode cJ5_linkNodeAtEnd 75 = .ok (.return_, 1) := by decide +kernel
abbrev cJ5_newTreeNode : ByteArray := prog_39_method_6_code
def yJ5_newTreeNode : MethodName := ⟨RJ5, "newTreeNode", "(ILjava/lang/Object;Ljava/lang/Object;Ljava/util/HashMap$Node;)Ljava/util/HashMap$TreeNode;"⟩
theorem dJ5_newTreeNode_0 : decode cJ5_newTreeNode 0 = .ok (.new 50, 3) := by decide +kernel
theorem dJ5_newTreeNode_3 : decode cJ5_newTreeNode 3 = .ok (.dup, 1) := by decide +kernel
theorem dJ5_newTreeNode_4 : decode cJ5_newTreeNode 4 = .ok (.iload_n 1, 1) := by decide +kernel
theorem dJ5_newTreeNode_5 : decode cJ5_newTreeNode 5 = .ok (.aload_n 2, 1) := by decide +kernel
theorem dJ5_newTreeNode_6 : decode cJ5_newTreeNode 6 = .ok (.aload_n 3, 1) := by decide +kernel
theorem dJ5_newTreeNode_7 : decode cJ5_newTreeNode 7 = .ok (.aload 4, 2) := by decide +kernel
theorem dJ5_newTreeNode_9 : decode cJ5_newTreeNode 9 = .ok (.invokespecial 52, 3) := by decide +kernel
theorem dJ5_newTreeNode_12 : decode cJ5_newTreeNode 12 = .ok (.astore 5, 2) := by decide +kernel
theorem dJ5_newTreeNode_14 : decode cJ5_newTreeNode 14 = .ok (.aload_n 0, 1) := by decide +kernel
theorem dJ5_newTreeNode_15 : decode cJ5_newTreeNode 15 = .ok (.aload 5, 2) := by decide +kernel
theorem dJ5_newTreeNode_17 : decode cJ5_newTreeNode 17 = .ok (.invokevirtual 32, 3) := by decide +kernel
theorem dJ5_newTreeNode_20 : decode cJ5_newTreeNode 20 = .ok (.aload 5, 2) := by decide +kernel
theorem dJ5_newTreeNode_22 : decode cJ5_newTreeNode 22 = .ok (.areturn, 1) := by decide +kernel
abbrev cJ5_replacementTreeNode : ByteArray := prog_39_method_7_code
def yJ5_replacementTreeNode : MethodName := ⟨RJ5, "replacementTreeNode", "(Ljava/util/HashMap$Node;Ljava/util/HashMap$Node;)Ljava/util/HashMap$TreeNode;"⟩
theorem dJ5_replacementTreeNode_0 : decode cJ5_replacementTreeNode 0 = .ok (.aload_n 1, 1) := by decide +kernel
theorem dJ5_replacementTreeNode_1 : decode cJ5_replacementTreeNode 1 = .ok (.checkcast 15, 3) := by decide +kernel
theorem dJ5_replacementTreeNode_4 : decode cJ5_replacementTreeNode 4 = .ok (.astore_n 3, 1) := by decide +kernel
theorem dJ5_replacementTreeNode_5 : decode cJ5_replacementTreeNode 5 = .ok (.new 50, 3) := by decide +kernel
theorem dJ5_replacementTreeNode_8 : decode cJ5_replacementTreeNode 8 = .ok (.dup, 1) := by decide +kernel
theorem dJ5_replacementTreeNode_9 : decode cJ5_replacementTreeNode 9 = .ok (.aload_n 3, 1) := by decide +kernel
theorem dJ5_replacementTreeNode_10 : decode cJ5_replacementTreeNode 10 = .ok (.getfield 36, 3) := by decide +kernel
theorem dJ5_replacementTreeNode_13 : decode cJ5_replacementTreeNode 13 = .ok (.aload_n 3, 1) := by decide +kernel
theorem dJ5_replacementTreeNode_14 : decode cJ5_replacementTreeNode 14 = .ok (.getfield 39, 3) := by decide +kernel
theorem dJ5_replacementTreeNode_17 : decode cJ5_replacementTreeNode 17 = .ok (.aload_n 3, 1) := by decide +kernel
theorem dJ5_replacementTreeNode_18 : decode cJ5_replacementTreeNode 18 = .ok (.getfield 43, 3) := by decide +kernel
theorem dJ5_replacementTreeNode_21 : decode cJ5_replacementTreeNode 21 = .ok (.aload_n 2, 1) := by decide +kernel
theorem dJ5_replacementTreeNode_22 : decode cJ5_replacementTreeNode 22 = .ok (.invokespecial 52, 3) := by decide +kernel
theorem dJ5_replacementTreeNode_25 : decode cJ5_replacementTreeNode 25 = .ok (.astore 4, 2) := by decide +kernel
theorem dJ5_replacementTreeNode_27 : decode cJ5_replacementTreeNode 27 = .ok (.aload_n 0, 1) := by decide +kernel
theorem dJ5_replacementTreeNode_28 : decode cJ5_replacementTreeNode 28 = .ok (.aload_n 3, 1) := by decide +kernel
theorem dJ5_replacementTreeNode_29 : decode cJ5_replacementTreeNode 29 = .ok (.aload 4, 2) := by decide +kernel
theorem dJ5_replacementTreeNode_31 : decode cJ5_replacementTreeNode 31 = .ok (.invokevirtual 46, 3) := by decide +kernel
theorem dJ5_replacementTreeNode_34 : decode cJ5_replacementTreeNode 34 = .ok (.aload 4, 2) := by decide +kernel
theorem dJ5_replacementTreeNode_36 : decode cJ5_replacementTreeNode 36 = .ok (.areturn, 1) := by decide +kernel
abbrev cJ5_afterNodeAccess : ByteArray := prog_39_method_10_code
def yJ5_afterNodeAccess : MethodName := ⟨RJ5, "afterNodeAccess", "(Ljava/util/HashMap$Node;)V"⟩
theorem dJ5_afterNodeAccess_0 : decode cJ5_afterNodeAccess 0 = .ok (.aload_n 0, 1) := by decide +kernel
theorem dJ5_afterNodeAccess_1 : decode cJ5_afterNodeAccess 1 = .ok (.getfield 1, 3) := by decide +kernel
theorem dJ5_afterNodeAccess_4 : decode cJ5_afterNodeAccess 4 = .ok (.iconst 2, 1) := by decide +kernel
theorem dJ5_afterNodeAccess_5 : decode cJ5_afterNodeAccess 5 = .ok (.if_icmp .eq 17, 3) := by decide +kernel
theorem dJ5_afterNodeAccess_8 : decode cJ5_afterNodeAccess 8 = .ok (.aload_n 0, 1) := by decide +kernel
theorem dJ5_afterNodeAccess_9 : decode cJ5_afterNodeAccess 9 = .ok (.getfield 1, 3) := by decide +kernel
theorem dJ5_afterNodeAccess_12 : decode cJ5_afterNodeAccess 12 = .ok (.ifCond .ne 129, 3) := by decide +kernel
theorem dJ5_afterNodeAccess_15 : decode cJ5_afterNodeAccess 15 = .ok (.aload_n 0, 1) := by decide +kernel
theorem dJ5_afterNodeAccess_16 : decode cJ5_afterNodeAccess 16 = .ok (.getfield 64, 3) := by decide +kernel
theorem dJ5_afterNodeAccess_19 : decode cJ5_afterNodeAccess 19 = .ok (.ifCond .eq 122, 3) := by decide +kernel
theorem dJ5_afterNodeAccess_22 : decode cJ5_afterNodeAccess 22 = .ok (.aload_n 0, 1) := by decide +kernel
theorem dJ5_afterNodeAccess_23 : decode cJ5_afterNodeAccess 23 = .ok (.getfield 11, 3) := by decide +kernel
theorem dJ5_afterNodeAccess_26 : decode cJ5_afterNodeAccess 26 = .ok (.dup, 1) := by decide +kernel
theorem dJ5_afterNodeAccess_27 : decode cJ5_afterNodeAccess 27 = .ok (.astore_n 2, 1) := by decide +kernel
theorem dJ5_afterNodeAccess_28 : decode cJ5_afterNodeAccess 28 = .ok (.aload_n 1, 1) := by decide +kernel
theorem dJ5_afterNodeAccess_29 : decode cJ5_afterNodeAccess 29 = .ok (.if_acmp .eq 112, 3) := by decide +kernel
theorem dJ5_afterNodeAccess_32 : decode cJ5_afterNodeAccess 32 = .ok (.aload_n 1, 1) := by decide +kernel
theorem dJ5_afterNodeAccess_33 : decode cJ5_afterNodeAccess 33 = .ok (.checkcast 15, 3) := by decide +kernel
theorem dJ5_afterNodeAccess_36 : decode cJ5_afterNodeAccess 36 = .ok (.astore 4, 2) := by decide +kernel
theorem dJ5_afterNodeAccess_38 : decode cJ5_afterNodeAccess 38 = .ok (.aload 4, 2) := by decide +kernel
theorem dJ5_afterNodeAccess_40 : decode cJ5_afterNodeAccess 40 = .ok (.getfield 19, 3) := by decide +kernel
theorem dJ5_afterNodeAccess_43 : decode cJ5_afterNodeAccess 43 = .ok (.astore 5, 2) := by decide +kernel
theorem dJ5_afterNodeAccess_45 : decode cJ5_afterNodeAccess 45 = .ok (.aload 4, 2) := by decide +kernel
theorem dJ5_afterNodeAccess_47 : decode cJ5_afterNodeAccess 47 = .ok (.getfield 14, 3) := by decide +kernel
theorem dJ5_afterNodeAccess_50 : decode cJ5_afterNodeAccess 50 = .ok (.astore 6, 2) := by decide +kernel
theorem dJ5_afterNodeAccess_52 : decode cJ5_afterNodeAccess 52 = .ok (.aload 4, 2) := by decide +kernel
theorem dJ5_afterNodeAccess_54 : decode cJ5_afterNodeAccess 54 = .ok (.aconst_null, 1) := by decide +kernel
theorem dJ5_afterNodeAccess_55 : decode cJ5_afterNodeAccess 55 = .ok (.putfield 14, 3) := by decide +kernel
theorem dJ5_afterNodeAccess_58 : decode cJ5_afterNodeAccess 58 = .ok (.aload 5, 2) := by decide +kernel
theorem dJ5_afterNodeAccess_60 : decode cJ5_afterNodeAccess 60 = .ok (.ifnonnull 12, 3) := by decide +kernel
theorem dJ5_afterNodeAccess_63 : decode cJ5_afterNodeAccess 63 = .ok (.aload_n 0, 1) := by decide +kernel
theorem dJ5_afterNodeAccess_64 : decode cJ5_afterNodeAccess 64 = .ok (.aload 6, 2) := by decide +kernel
theorem dJ5_afterNodeAccess_66 : decode cJ5_afterNodeAccess 66 = .ok (.putfield 7, 3) := by decide +kernel
theorem dJ5_afterNodeAccess_69 : decode cJ5_afterNodeAccess 69 = .ok (.goto 10, 3) := by decide +kernel
theorem dJ5_afterNodeAccess_72 : decode cJ5_afterNodeAccess 72 = .ok (.aload 5, 2) := by decide +kernel
theorem dJ5_afterNodeAccess_74 : decode cJ5_afterNodeAccess 74 = .ok (.aload 6, 2) := by decide +kernel
theorem dJ5_afterNodeAccess_76 : decode cJ5_afterNodeAccess 76 = .ok (.putfield 14, 3) := by decide +kernel
theorem dJ5_afterNodeAccess_79 : decode cJ5_afterNodeAccess 79 = .ok (.aload 6, 2) := by decide +kernel
theorem dJ5_afterNodeAccess_81 : decode cJ5_afterNodeAccess 81 = .ok (.ifnull 13, 3) := by decide +kernel
theorem dJ5_afterNodeAccess_84 : decode cJ5_afterNodeAccess 84 = .ok (.aload 6, 2) := by decide +kernel
theorem dJ5_afterNodeAccess_86 : decode cJ5_afterNodeAccess 86 = .ok (.aload 5, 2) := by decide +kernel
theorem dJ5_afterNodeAccess_88 : decode cJ5_afterNodeAccess 88 = .ok (.putfield 19, 3) := by decide +kernel
theorem dJ5_afterNodeAccess_91 : decode cJ5_afterNodeAccess 91 = .ok (.goto 6, 3) := by decide +kernel
theorem dJ5_afterNodeAccess_94 : decode cJ5_afterNodeAccess 94 = .ok (.aload 5, 2) := by decide +kernel
theorem dJ5_afterNodeAccess_96 : decode cJ5_afterNodeAccess 96 = .ok (.astore_n 2, 1) := by decide +kernel
theorem dJ5_afterNodeAccess_97 : decode cJ5_afterNodeAccess 97 = .ok (.aload_n 2, 1) := by decide +kernel
theorem dJ5_afterNodeAccess_98 : decode cJ5_afterNodeAccess 98 = .ok (.ifnonnull 12, 3) := by decide +kernel
theorem dJ5_afterNodeAccess_101 : decode cJ5_afterNodeAccess 101 = .ok (.aload_n 0, 1) := by decide +kernel
theorem dJ5_afterNodeAccess_102 : decode cJ5_afterNodeAccess 102 = .ok (.aload 4, 2) := by decide +kernel
theorem dJ5_afterNodeAccess_104 : decode cJ5_afterNodeAccess 104 = .ok (.putfield 7, 3) := by decide +kernel
theorem dJ5_afterNodeAccess_107 : decode cJ5_afterNodeAccess 107 = .ok (.goto 15, 3) := by decide +kernel
theorem dJ5_afterNodeAccess_110 : decode cJ5_afterNodeAccess 110 = .ok (.aload 4, 2) := by decide +kernel
theorem dJ5_afterNodeAccess_112 : decode cJ5_afterNodeAccess 112 = .ok (.aload_n 2, 1) := by decide +kernel
theorem dJ5_afterNodeAccess_113 : decode cJ5_afterNodeAccess 113 = .ok (.putfield 19, 3) := by decide +kernel
theorem dJ5_afterNodeAccess_116 : decode cJ5_afterNodeAccess 116 = .ok (.aload_n 2, 1) := by decide +kernel
theorem dJ5_afterNodeAccess_117 : decode cJ5_afterNodeAccess 117 = .ok (.aload 4, 2) := by decide +kernel
theorem dJ5_afterNodeAccess_119 : decode cJ5_afterNodeAccess 119 = .ok (.putfield 14, 3) := by decide +kernel
theorem dJ5_afterNodeAccess_122 : decode cJ5_afterNodeAccess 122 = .ok (.aload_n 0, 1) := by decide +kernel
theorem dJ5_afterNodeAccess_123 : decode cJ5_afterNodeAccess 123 = .ok (.aload 4, 2) := by decide +kernel
theorem dJ5_afterNodeAccess_125 : decode cJ5_afterNodeAccess 125 = .ok (.putfield 11, 3) := by decide +kernel
theorem dJ5_afterNodeAccess_128 : decode cJ5_afterNodeAccess 128 = .ok (.aload_n 0, 1) := by decide +kernel
theorem dJ5_afterNodeAccess_129 : decode cJ5_afterNodeAccess 129 = .ok (.dup, 1) := by decide +kernel
theorem dJ5_afterNodeAccess_130 : decode cJ5_afterNodeAccess 130 = .ok (.getfield 68, 3) := by decide +kernel
theorem dJ5_afterNodeAccess_133 : decode cJ5_afterNodeAccess 133 = .ok (.iconst 1, 1) := by decide +kernel
theorem dJ5_afterNodeAccess_134 : decode cJ5_afterNodeAccess 134 = .ok (.iadd, 1) := by decide +kernel
theorem dJ5_afterNodeAccess_135 : decode cJ5_afterNodeAccess 135 = .ok (.putfield 68, 3) := by decide +kernel
theorem dJ5_afterNodeAccess_138 : decode cJ5_afterNodeAccess 138 = .ok (.goto 127, 3) := by decide +kernel
theorem dJ5_afterNodeAccess_141 : decode cJ5_afterNodeAccess 141 = .ok (.aload_n 0, 1) := by decide +kernel
theorem dJ5_afterNodeAccess_142 : decode cJ5_afterNodeAccess 142 = .ok (.getfield 1, 3) := by decide +kernel
theorem dJ5_afterNodeAccess_145 : decode cJ5_afterNodeAccess 145 = .ok (.iconst 1, 1) := by decide +kernel
theorem dJ5_afterNodeAccess_146 : decode cJ5_afterNodeAccess 146 = .ok (.if_icmp .ne 119, 3) := by decide +kernel
theorem dJ5_afterNodeAccess_149 : decode cJ5_afterNodeAccess 149 = .ok (.aload_n 0, 1) := by decide +kernel
theorem dJ5_afterNodeAccess_150 : decode cJ5_afterNodeAccess 150 = .ok (.getfield 7, 3) := by decide +kernel
theorem dJ5_afterNodeAccess_153 : decode cJ5_afterNodeAccess 153 = .ok (.dup, 1) := by decide +kernel
theorem dJ5_afterNodeAccess_154 : decode cJ5_afterNodeAccess 154 = .ok (.astore_n 3, 1) := by decide +kernel
theorem dJ5_afterNodeAccess_155 : decode cJ5_afterNodeAccess 155 = .ok (.aload_n 1, 1) := by decide +kernel
theorem dJ5_afterNodeAccess_156 : decode cJ5_afterNodeAccess 156 = .ok (.if_acmp .eq 109, 3) := by decide +kernel
theorem dJ5_afterNodeAccess_159 : decode cJ5_afterNodeAccess 159 = .ok (.aload_n 1, 1) := by decide +kernel
theorem dJ5_afterNodeAccess_160 : decode cJ5_afterNodeAccess 160 = .ok (.checkcast 15, 3) := by decide +kernel
theorem dJ5_afterNodeAccess_163 : decode cJ5_afterNodeAccess 163 = .ok (.astore 4, 2) := by decide +kernel
theorem dJ5_afterNodeAccess_165 : decode cJ5_afterNodeAccess 165 = .ok (.aload 4, 2) := by decide +kernel
theorem dJ5_afterNodeAccess_167 : decode cJ5_afterNodeAccess 167 = .ok (.getfield 19, 3) := by decide +kernel
theorem dJ5_afterNodeAccess_170 : decode cJ5_afterNodeAccess 170 = .ok (.astore 5, 2) := by decide +kernel
theorem dJ5_afterNodeAccess_172 : decode cJ5_afterNodeAccess 172 = .ok (.aload 4, 2) := by decide +kernel
theorem dJ5_afterNodeAccess_174 : decode cJ5_afterNodeAccess 174 = .ok (.getfield 14, 3) := by decide +kernel
theorem dJ5_afterNodeAccess_177 : decode cJ5_afterNodeAccess 177 = .ok (.astore 6, 2) := by decide +kernel
theorem dJ5_afterNodeAccess_179 : decode cJ5_afterNodeAccess 179 = .ok (.aload 4, 2) := by decide +kernel
theorem dJ5_afterNodeAccess_181 : decode cJ5_afterNodeAccess 181 = .ok (.aconst_null, 1) := by decide +kernel
theorem dJ5_afterNodeAccess_182 : decode cJ5_afterNodeAccess 182 = .ok (.putfield 19, 3) := by decide +kernel
theorem dJ5_afterNodeAccess_185 : decode cJ5_afterNodeAccess 185 = .ok (.aload 6, 2) := by decide +kernel
theorem dJ5_afterNodeAccess_187 : decode cJ5_afterNodeAccess 187 = .ok (.ifnonnull 12, 3) := by decide +kernel
theorem dJ5_afterNodeAccess_190 : decode cJ5_afterNodeAccess 190 = .ok (.aload_n 0, 1) := by decide +kernel
theorem dJ5_afterNodeAccess_191 : decode cJ5_afterNodeAccess 191 = .ok (.aload 5, 2) := by decide +kernel
theorem dJ5_afterNodeAccess_193 : decode cJ5_afterNodeAccess 193 = .ok (.putfield 11, 3) := by decide +kernel
theorem dJ5_afterNodeAccess_196 : decode cJ5_afterNodeAccess 196 = .ok (.goto 10, 3) := by decide +kernel
theorem dJ5_afterNodeAccess_199 : decode cJ5_afterNodeAccess 199 = .ok (.aload 6, 2) := by decide +kernel
theorem dJ5_afterNodeAccess_201 : decode cJ5_afterNodeAccess 201 = .ok (.aload 5, 2) := by decide +kernel
theorem dJ5_afterNodeAccess_203 : decode cJ5_afterNodeAccess 203 = .ok (.putfield 19, 3) := by decide +kernel
theorem dJ5_afterNodeAccess_206 : decode cJ5_afterNodeAccess 206 = .ok (.aload 5, 2) := by decide +kernel
theorem dJ5_afterNodeAccess_208 : decode cJ5_afterNodeAccess 208 = .ok (.ifnull 13, 3) := by decide +kernel
theorem dJ5_afterNodeAccess_211 : decode cJ5_afterNodeAccess 211 = .ok (.aload 5, 2) := by decide +kernel
theorem dJ5_afterNodeAccess_213 : decode cJ5_afterNodeAccess 213 = .ok (.aload 6, 2) := by decide +kernel
theorem dJ5_afterNodeAccess_215 : decode cJ5_afterNodeAccess 215 = .ok (.putfield 14, 3) := by decide +kernel
theorem dJ5_afterNodeAccess_218 : decode cJ5_afterNodeAccess 218 = .ok (.goto 6, 3) := by decide +kernel
theorem dJ5_afterNodeAccess_221 : decode cJ5_afterNodeAccess 221 = .ok (.aload 6, 2) := by decide +kernel
theorem dJ5_afterNodeAccess_223 : decode cJ5_afterNodeAccess 223 = .ok (.astore_n 3, 1) := by decide +kernel
theorem dJ5_afterNodeAccess_224 : decode cJ5_afterNodeAccess 224 = .ok (.aload_n 3, 1) := by decide +kernel
theorem dJ5_afterNodeAccess_225 : decode cJ5_afterNodeAccess 225 = .ok (.ifnonnull 12, 3) := by decide +kernel
theorem dJ5_afterNodeAccess_228 : decode cJ5_afterNodeAccess 228 = .ok (.aload_n 0, 1) := by decide +kernel
theorem dJ5_afterNodeAccess_229 : decode cJ5_afterNodeAccess 229 = .ok (.aload 4, 2) := by decide +kernel
theorem dJ5_afterNodeAccess_231 : decode cJ5_afterNodeAccess 231 = .ok (.putfield 11, 3) := by decide +kernel
theorem dJ5_afterNodeAccess_234 : decode cJ5_afterNodeAccess 234 = .ok (.goto 15, 3) := by decide +kernel
theorem dJ5_afterNodeAccess_237 : decode cJ5_afterNodeAccess 237 = .ok (.aload 4, 2) := by decide +kernel
theorem dJ5_afterNodeAccess_239 : decode cJ5_afterNodeAccess 239 = .ok (.aload_n 3, 1) := by decide +kernel
theorem dJ5_afterNodeAccess_240 : decode cJ5_afterNodeAccess 240 = .ok (.putfield 14, 3) := by decide +kernel
theorem dJ5_afterNodeAccess_243 : decode cJ5_afterNodeAccess 243 = .ok (.aload_n 3, 1) := by decide +kernel
theorem dJ5_afterNodeAccess_244 : decode cJ5_afterNodeAccess 244 = .ok (.aload 4, 2) := by decide +kernel
theorem dJ5_afterNodeAccess_246 : decode cJ5_afterNodeAccess 246 = .ok (.putfield 19, 3) := by decide +kernel
theorem dJ5_afterNodeAccess_249 : decode cJ5_afterNodeAccess 249 = .ok (.aload_n 0, 1) := by decide +kernel
theorem dJ5_afterNodeAccess_250 : decode cJ5_afterNodeAccess 250 = .ok (.aload 4, 2) := by decide +kernel
theorem dJ5_afterNodeAccess_252 : decode cJ5_afterNodeAccess 252 = .ok (.putfield 7, 3) := by decide +kernel
theorem dJ5_afterNodeAccess_255 : decode cJ5_afterNodeAccess 255 = .ok (.aload_n 0, 1) := by decide +kernel
theorem dJ5_afterNodeAccess_256 : decode cJ5_afterNodeAccess 256 = .ok (.dup, 1) := by decide +kernel
theorem dJ5_afterNodeAccess_257 : decode cJ5_afterNodeAccess 257 = .ok (.getfield 68, 3) := by decide +kernel
theorem dJ5_afterNodeAccess_260 : decode cJ5_afterNodeAccess 260 = .ok (.iconst 1, 1) := by decide +kernel
theorem dJ5_afterNodeAccess_261 : decode cJ5_afterNodeAccess 261 = .ok (.iadd, 1) := by decide +kernel
theorem dJ5_afterNodeAccess_262 : decode cJ5_afterNodeAccess 262 = .ok (.putfield 68, 3) := by decide +kernel
theorem dJ5_afterNodeAccess_265 : decode cJ5_afterNodeAccess 265 = .ok (.return_, 1) := by decide +kernel
abbrev cJ5_afterNodeInsertion : ByteArray := prog_39_method_9_code
def yJ5_afterNodeInsertion : MethodName := ⟨RJ5, "afterNodeInsertion", "(Z)V"⟩
theorem dJ5_afterNodeInsertion_0 : decode cJ5_afterNodeInsertion 0 = .ok (.iload_n 1, 1) := by decide +kernel
theorem dJ5_afterNodeInsertion_1 : decode cJ5_afterNodeInsertion 1 = .ok (.ifCond .eq 38, 3) := by decide +kernel
theorem dJ5_afterNodeInsertion_4 : decode cJ5_afterNodeInsertion 4 = .ok (.aload_n 0, 1) := by decide +kernel
theorem dJ5_afterNodeInsertion_5 : decode cJ5_afterNodeInsertion 5 = .ok (.getfield 7, 3) := by decide +kernel
theorem dJ5_afterNodeInsertion_8 : decode cJ5_afterNodeInsertion 8 = .ok (.dup, 1) := by decide +kernel
theorem dJ5_afterNodeInsertion_9 : decode cJ5_afterNodeInsertion 9 = .ok (.astore_n 2, 1) := by decide +kernel
theorem dJ5_afterNodeInsertion_10 : decode cJ5_afterNodeInsertion 10 = .ok (.ifnull 29, 3) := by decide +kernel
theorem dJ5_afterNodeInsertion_13 : decode cJ5_afterNodeInsertion 13 = .ok (.aload_n 0, 1) := by decide +kernel
theorem dJ5_afterNodeInsertion_14 : decode cJ5_afterNodeInsertion 14 = .ok (.aload_n 2, 1) := by decide +kernel
theorem dJ5_afterNodeInsertion_15 : decode cJ5_afterNodeInsertion 15 = .ok (.invokevirtual 53, 3) := by decide +kernel
theorem dJ5_afterNodeInsertion_18 : decode cJ5_afterNodeInsertion 18 = .ok (.ifCond .eq 21, 3) := by decide +kernel
theorem dJ5_afterNodeInsertion_21 : decode cJ5_afterNodeInsertion 21 = .ok (.aload_n 2, 1) := by decide +kernel
theorem dJ5_afterNodeInsertion_22 : decode cJ5_afterNodeInsertion 22 = .ok (.getfield 39, 3) := by decide +kernel
theorem dJ5_afterNodeInsertion_25 : decode cJ5_afterNodeInsertion 25 = .ok (.astore_n 3, 1) := by decide +kernel
theorem dJ5_afterNodeInsertion_26 : decode cJ5_afterNodeInsertion 26 = .ok (.aload_n 0, 1) := by decide +kernel
theorem dJ5_afterNodeInsertion_27 : decode cJ5_afterNodeInsertion 27 = .ok (.aload_n 3, 1) := by decide +kernel
theorem dJ5_afterNodeInsertion_28 : decode cJ5_afterNodeInsertion 28 = .ok (.invokestatic 57, 3) := by decide +kernel
theorem dJ5_afterNodeInsertion_31 : decode cJ5_afterNodeInsertion 31 = .ok (.aload_n 3, 1) := by decide +kernel
theorem dJ5_afterNodeInsertion_32 : decode cJ5_afterNodeInsertion 32 = .ok (.aconst_null, 1) := by decide +kernel
theorem dJ5_afterNodeInsertion_33 : decode cJ5_afterNodeInsertion 33 = .ok (.iconst 0, 1) := by decide +kernel
theorem dJ5_afterNodeInsertion_34 : decode cJ5_afterNodeInsertion 34 = .ok (.iconst 1, 1) := by decide +kernel
theorem dJ5_afterNodeInsertion_35 : decode cJ5_afterNodeInsertion 35 = .ok (.invokevirtual 60, 3) := by decide +kernel
theorem dJ5_afterNodeInsertion_38 : decode cJ5_afterNodeInsertion 38 = .ok (.pop, 1) := by decide +kernel
theorem dJ5_afterNodeInsertion_39 : decode cJ5_afterNodeInsertion 39 = .ok (.return_, 1) := by decide +kernel
abbrev cJ5_removeEldestEntry : ByteArray := prog_39_method_23_code
def yJ5_removeEldestEntry : MethodName := ⟨RJ5, "removeEldestEntry", "(Ljava/util/Map$Entry;)Z"⟩
theorem dJ5_removeEldestEntry_0 : decode cJ5_removeEldestEntry 0 = .ok (.iconst 0, 1) := by decide +kernel
theorem dJ5_removeEldestEntry_1 : decode cJ5_removeEldestEntry 1 = .ok (.ireturn, 1) := by decide +kernel
abbrev cJ5_entrySet : ByteArray := prog_39_method_32_code
def yJ5_entrySet : MethodName := ⟨RJ5, "entrySet", "()Ljava/util/Set;"⟩
theorem dJ5_entrySet_0 : decode cJ5_entrySet 0 = .ok (.aload_n 0, 1) := by decide +kernel
theorem dJ5_entrySet_1 : decode cJ5_entrySet 1 = .ok (.invokevirtual 148, 3) := by decide +kernel
theorem dJ5_entrySet_4 : decode cJ5_entrySet 4 = .ok (.areturn, 1) := by decide +kernel
abbrev cJ5_sequencedEntrySet : ByteArray := prog_39_method_33_code
def yJ5_sequencedEntrySet : MethodName := ⟨RJ5, "sequencedEntrySet", "()Ljava/util/SequencedSet;"⟩
theorem dJ5_sequencedEntrySet_0 : decode cJ5_sequencedEntrySet 0 = .ok (.aload_n 0, 1) := by decide +kernel
theorem dJ5_sequencedEntrySet_1 : decode cJ5_sequencedEntrySet 1 = .ok (.getfield 151, 3) := by decide +kernel
theorem dJ5_sequencedEntrySet_4 : decode cJ5_sequencedEntrySet 4 = .ok (.astore_n 1, 1) := by decide +kernel
theorem dJ5_sequencedEntrySet_5 : decode cJ5_sequencedEntrySet 5 = .ok (.aload_n 1, 1) := by decide +kernel
theorem dJ5_sequencedEntrySet_6 : decode cJ5_sequencedEntrySet 6 = .ok (.ifnonnull 20, 3) := by decide +kernel
theorem dJ5_sequencedEntrySet_9 : decode cJ5_sequencedEntrySet 9 = .ok (.new 154, 3) := by decide +kernel
theorem dJ5_sequencedEntrySet_12 : decode cJ5_sequencedEntrySet 12 = .ok (.dup, 1) := by decide +kernel
theorem dJ5_sequencedEntrySet_13 : decode cJ5_sequencedEntrySet 13 = .ok (.aload_n 0, 1) := by decide +kernel
theorem dJ5_sequencedEntrySet_14 : decode cJ5_sequencedEntrySet 14 = .ok (.iconst 0, 1) := by decide +kernel
theorem dJ5_sequencedEntrySet_15 : decode cJ5_sequencedEntrySet 15 = .ok (.invokespecial 156, 3) := by decide +kernel
theorem dJ5_sequencedEntrySet_18 : decode cJ5_sequencedEntrySet 18 = .ok (.astore_n 2, 1) := by decide +kernel
theorem dJ5_sequencedEntrySet_19 : decode cJ5_sequencedEntrySet 19 = .ok (.aload_n 0, 1) := by decide +kernel
theorem dJ5_sequencedEntrySet_20 : decode cJ5_sequencedEntrySet 20 = .ok (.aload_n 2, 1) := by decide +kernel
theorem dJ5_sequencedEntrySet_21 : decode cJ5_sequencedEntrySet 21 = .ok (.putfield 151, 3) := by decide +kernel
theorem dJ5_sequencedEntrySet_24 : decode cJ5_sequencedEntrySet 24 = .ok (.aload_n 2, 1) := by decide +kernel
theorem dJ5_sequencedEntrySet_25 : decode cJ5_sequencedEntrySet 25 = .ok (.areturn, 1) := by decide +kernel
theorem dJ5_sequencedEntrySet_26 : decode cJ5_sequencedEntrySet 26 = .ok (.aload_n 1, 1) := by decide +kernel
theorem dJ5_sequencedEntrySet_27 : decode cJ5_sequencedEntrySet 27 = .ok (.checkcast 126, 3) := by decide +kernel
theorem dJ5_sequencedEntrySet_30 : decode cJ5_sequencedEntrySet 30 = .ok (.areturn, 1) := by decide +kernel
