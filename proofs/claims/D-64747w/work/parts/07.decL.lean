set_option maxRecDepth 100000
abbrev cX0_level : ByteArray := method_3_code
def yX0_level : MethodName := ⟨RX0, "level", "(LFeatureSolve;I[J)I"⟩
theorem dX0_level_0 : decode cX0_level 0 = .ok (.aload_n 2, 1) := by decide +kernel
theorem dX0_level_1 : decode cX0_level 1 = .ok (.iconst 0, 1) := by decide +kernel
theorem dX0_level_2 : decode cX0_level 2 = .ok (.aload_n 0, 1) := by decide +kernel
theorem dX0_level_3 : decode cX0_level 3 = .ok (.iload_n 1, 1) := by decide +kernel
theorem dX0_level_4 : decode cX0_level 4 = .ok (.invokevirtual 7, 3) := by decide +kernel
theorem dX0_level_7 : decode cX0_level 7 = .ok (.i2l, 1) := by decide +kernel
theorem dX0_level_8 : decode cX0_level 8 = .ok (.lastore, 1) := by decide +kernel
theorem dX0_level_9 : decode cX0_level 9 = .ok (.goto 6, 3) := by decide +kernel
theorem dX0_level_12 : decode cX0_level 12 = .ok (.astore_n 3, 1) := by decide +kernel
theorem dX0_level_13 : decode cX0_level 13 = .ok (.iconst 1, 1) := by decide +kernel
theorem dX0_level_14 : decode cX0_level 14 = .ok (.ireturn, 1) := by decide +kernel
theorem dX0_level_15 : decode cX0_level 15 = .ok (.iconst 0, 1) := by decide +kernel
theorem dX0_level_16 : decode cX0_level 16 = .ok (.ireturn, 1) := by decide +kernel
abbrev cL_law : ByteArray := code
theorem dL_law_0 : decode cL_law 0 = .ok (.new 8, 3) := by decide +kernel
theorem dL_law_3 : decode cL_law 3 = .ok (.dup, 1) := by decide +kernel
theorem dL_law_4 : decode cL_law 4 = .ok (.invokespecial 15, 3) := by decide +kernel
theorem dL_law_7 : decode cL_law 7 = .ok (.astore_n 1, 1) := by decide +kernel
theorem dL_law_8 : decode cL_law 8 = .ok (.new 16, 3) := by decide +kernel
theorem dL_law_11 : decode cL_law 11 = .ok (.dup, 1) := by decide +kernel
theorem dL_law_12 : decode cL_law 12 = .ok (.invokespecial 18, 3) := by decide +kernel
theorem dL_law_15 : decode cL_law 15 = .ok (.astore_n 2, 1) := by decide +kernel
theorem dL_law_16 : decode cL_law 16 = .ok (.iconst 1, 1) := by decide +kernel
theorem dL_law_17 : decode cL_law 17 = .ok (.newarray .long, 2) := by decide +kernel
theorem dL_law_19 : decode cL_law 19 = .ok (.astore_n 3, 1) := by decide +kernel
theorem dL_law_20 : decode cL_law 20 = .ok (.iconst 0, 1) := by decide +kernel
theorem dL_law_21 : decode cL_law 21 = .ok (.istore 4, 2) := by decide +kernel
theorem dL_law_23 : decode cL_law 23 = .ok (.iload 4, 2) := by decide +kernel
theorem dL_law_25 : decode cL_law 25 = .ok (.aload_n 0, 1) := by decide +kernel
theorem dL_law_26 : decode cL_law 26 = .ok (.arraylength, 1) := by decide +kernel
theorem dL_law_27 : decode cL_law 27 = .ok (.iconst 4, 1) := by decide +kernel
theorem dL_law_28 : decode cL_law 28 = .ok (.isub, 1) := by decide +kernel
theorem dL_law_29 : decode cL_law 29 = .ok (.if_icmp .gt 565, 3) := by decide +kernel
theorem dL_law_32 : decode cL_law 32 = .ok (.aload_n 0, 1) := by decide +kernel
theorem dL_law_33 : decode cL_law 33 = .ok (.iload 4, 2) := by decide +kernel
theorem dL_law_35 : decode cL_law 35 = .ok (.iaload, 1) := by decide +kernel
theorem dL_law_36 : decode cL_law 36 = .ok (.bipush 15, 2) := by decide +kernel
theorem dL_law_38 : decode cL_law 38 = .ok (.iand, 1) := by decide +kernel
theorem dL_law_39 : decode cL_law 39 = .ok (.tableswitch 549 0 11 #[61, 98, 147, 196, 245, 298, 311, 336, 361, 419, 456, 493], 61) := by decide +kernel
theorem dL_law_100 : decode cL_law 100 = .ok (.aload_n 1, 1) := by decide +kernel
theorem dL_law_101 : decode cL_law 101 = .ok (.aload_n 0, 1) := by decide +kernel
theorem dL_law_102 : decode cL_law 102 = .ok (.iload 4, 2) := by decide +kernel
theorem dL_law_104 : decode cL_law 104 = .ok (.iconst 1, 1) := by decide +kernel
theorem dL_law_105 : decode cL_law 105 = .ok (.iadd, 1) := by decide +kernel
theorem dL_law_106 : decode cL_law 106 = .ok (.iaload, 1) := by decide +kernel
theorem dL_law_107 : decode cL_law 107 = .ok (.aload_n 0, 1) := by decide +kernel
theorem dL_law_108 : decode cL_law 108 = .ok (.iload 4, 2) := by decide +kernel
theorem dL_law_110 : decode cL_law 110 = .ok (.iconst 2, 1) := by decide +kernel
theorem dL_law_111 : decode cL_law 111 = .ok (.iadd, 1) := by decide +kernel
theorem dL_law_112 : decode cL_law 112 = .ok (.iaload, 1) := by decide +kernel
theorem dL_law_113 : decode cL_law 113 = .ok (.invokevirtual 19, 3) := by decide +kernel
theorem dL_law_116 : decode cL_law 116 = .ok (.aload_n 2, 1) := by decide +kernel
theorem dL_law_117 : decode cL_law 117 = .ok (.aload_n 0, 1) := by decide +kernel
theorem dL_law_118 : decode cL_law 118 = .ok (.iload 4, 2) := by decide +kernel
theorem dL_law_120 : decode cL_law 120 = .ok (.iconst 1, 1) := by decide +kernel
theorem dL_law_121 : decode cL_law 121 = .ok (.iadd, 1) := by decide +kernel
theorem dL_law_122 : decode cL_law 122 = .ok (.iaload, 1) := by decide +kernel
theorem dL_law_123 : decode cL_law 123 = .ok (.aload_n 0, 1) := by decide +kernel
theorem dL_law_124 : decode cL_law 124 = .ok (.iload 4, 2) := by decide +kernel
theorem dL_law_126 : decode cL_law 126 = .ok (.iconst 2, 1) := by decide +kernel
theorem dL_law_127 : decode cL_law 127 = .ok (.iadd, 1) := by decide +kernel
theorem dL_law_128 : decode cL_law 128 = .ok (.iaload, 1) := by decide +kernel
theorem dL_law_129 : decode cL_law 129 = .ok (.invokevirtual 23, 3) := by decide +kernel
theorem dL_law_132 : decode cL_law 132 = .ok (.if_icmp .eq 456, 3) := by decide +kernel
theorem dL_law_135 : decode cL_law 135 = .ok (.iconst 0, 1) := by decide +kernel
theorem dL_law_136 : decode cL_law 136 = .ok (.ireturn, 1) := by decide +kernel
theorem dL_law_137 : decode cL_law 137 = .ok (.aload_n 1, 1) := by decide +kernel
theorem dL_law_138 : decode cL_law 138 = .ok (.aload_n 0, 1) := by decide +kernel
theorem dL_law_139 : decode cL_law 139 = .ok (.iload 4, 2) := by decide +kernel
theorem dL_law_141 : decode cL_law 141 = .ok (.iconst 1, 1) := by decide +kernel
theorem dL_law_142 : decode cL_law 142 = .ok (.iadd, 1) := by decide +kernel
theorem dL_law_143 : decode cL_law 143 = .ok (.iaload, 1) := by decide +kernel
theorem dL_law_144 : decode cL_law 144 = .ok (.aload_n 0, 1) := by decide +kernel
theorem dL_law_145 : decode cL_law 145 = .ok (.iload 4, 2) := by decide +kernel
theorem dL_law_147 : decode cL_law 147 = .ok (.iconst 2, 1) := by decide +kernel
theorem dL_law_148 : decode cL_law 148 = .ok (.iadd, 1) := by decide +kernel
theorem dL_law_149 : decode cL_law 149 = .ok (.iaload, 1) := by decide +kernel
theorem dL_law_150 : decode cL_law 150 = .ok (.aload_n 0, 1) := by decide +kernel
theorem dL_law_151 : decode cL_law 151 = .ok (.iload 4, 2) := by decide +kernel
theorem dL_law_153 : decode cL_law 153 = .ok (.iconst 3, 1) := by decide +kernel
theorem dL_law_154 : decode cL_law 154 = .ok (.iadd, 1) := by decide +kernel
theorem dL_law_155 : decode cL_law 155 = .ok (.iaload, 1) := by decide +kernel
theorem dL_law_156 : decode cL_law 156 = .ok (.invokevirtual 24, 3) := by decide +kernel
theorem dL_law_159 : decode cL_law 159 = .ok (.aload_n 2, 1) := by decide +kernel
theorem dL_law_160 : decode cL_law 160 = .ok (.aload_n 0, 1) := by decide +kernel
theorem dL_law_161 : decode cL_law 161 = .ok (.iload 4, 2) := by decide +kernel
theorem dL_law_163 : decode cL_law 163 = .ok (.iconst 1, 1) := by decide +kernel
theorem dL_law_164 : decode cL_law 164 = .ok (.iadd, 1) := by decide +kernel
theorem dL_law_165 : decode cL_law 165 = .ok (.iaload, 1) := by decide +kernel
theorem dL_law_166 : decode cL_law 166 = .ok (.aload_n 0, 1) := by decide +kernel
theorem dL_law_167 : decode cL_law 167 = .ok (.iload 4, 2) := by decide +kernel
theorem dL_law_169 : decode cL_law 169 = .ok (.iconst 2, 1) := by decide +kernel
theorem dL_law_170 : decode cL_law 170 = .ok (.iadd, 1) := by decide +kernel
theorem dL_law_171 : decode cL_law 171 = .ok (.iaload, 1) := by decide +kernel
theorem dL_law_172 : decode cL_law 172 = .ok (.aload_n 0, 1) := by decide +kernel
theorem dL_law_173 : decode cL_law 173 = .ok (.iload 4, 2) := by decide +kernel
theorem dL_law_175 : decode cL_law 175 = .ok (.iconst 3, 1) := by decide +kernel
theorem dL_law_176 : decode cL_law 176 = .ok (.iadd, 1) := by decide +kernel
theorem dL_law_177 : decode cL_law 177 = .ok (.iaload, 1) := by decide +kernel
theorem dL_law_178 : decode cL_law 178 = .ok (.invokevirtual 28, 3) := by decide +kernel
theorem dL_law_181 : decode cL_law 181 = .ok (.if_icmp .eq 407, 3) := by decide +kernel
theorem dL_law_184 : decode cL_law 184 = .ok (.iconst 0, 1) := by decide +kernel
theorem dL_law_185 : decode cL_law 185 = .ok (.ireturn, 1) := by decide +kernel
theorem dL_law_186 : decode cL_law 186 = .ok (.aload_n 1, 1) := by decide +kernel
theorem dL_law_187 : decode cL_law 187 = .ok (.aload_n 0, 1) := by decide +kernel
theorem dL_law_188 : decode cL_law 188 = .ok (.iload 4, 2) := by decide +kernel
theorem dL_law_190 : decode cL_law 190 = .ok (.iconst 1, 1) := by decide +kernel
theorem dL_law_191 : decode cL_law 191 = .ok (.iadd, 1) := by decide +kernel
theorem dL_law_192 : decode cL_law 192 = .ok (.iaload, 1) := by decide +kernel
theorem dL_law_193 : decode cL_law 193 = .ok (.aload_n 0, 1) := by decide +kernel
theorem dL_law_194 : decode cL_law 194 = .ok (.iload 4, 2) := by decide +kernel
theorem dL_law_196 : decode cL_law 196 = .ok (.iconst 2, 1) := by decide +kernel
theorem dL_law_197 : decode cL_law 197 = .ok (.iadd, 1) := by decide +kernel
theorem dL_law_198 : decode cL_law 198 = .ok (.iaload, 1) := by decide +kernel
theorem dL_law_199 : decode cL_law 199 = .ok (.aload_n 0, 1) := by decide +kernel
theorem dL_law_200 : decode cL_law 200 = .ok (.iload 4, 2) := by decide +kernel
theorem dL_law_202 : decode cL_law 202 = .ok (.iconst 3, 1) := by decide +kernel
theorem dL_law_203 : decode cL_law 203 = .ok (.iadd, 1) := by decide +kernel
theorem dL_law_204 : decode cL_law 204 = .ok (.iaload, 1) := by decide +kernel
theorem dL_law_205 : decode cL_law 205 = .ok (.invokevirtual 29, 3) := by decide +kernel
theorem dL_law_208 : decode cL_law 208 = .ok (.aload_n 2, 1) := by decide +kernel
theorem dL_law_209 : decode cL_law 209 = .ok (.aload_n 0, 1) := by decide +kernel
theorem dL_law_210 : decode cL_law 210 = .ok (.iload 4, 2) := by decide +kernel
theorem dL_law_212 : decode cL_law 212 = .ok (.iconst 1, 1) := by decide +kernel
theorem dL_law_213 : decode cL_law 213 = .ok (.iadd, 1) := by decide +kernel
theorem dL_law_214 : decode cL_law 214 = .ok (.iaload, 1) := by decide +kernel
theorem dL_law_215 : decode cL_law 215 = .ok (.aload_n 0, 1) := by decide +kernel
theorem dL_law_216 : decode cL_law 216 = .ok (.iload 4, 2) := by decide +kernel
theorem dL_law_218 : decode cL_law 218 = .ok (.iconst 2, 1) := by decide +kernel
theorem dL_law_219 : decode cL_law 219 = .ok (.iadd, 1) := by decide +kernel
theorem dL_law_220 : decode cL_law 220 = .ok (.iaload, 1) := by decide +kernel
theorem dL_law_221 : decode cL_law 221 = .ok (.aload_n 0, 1) := by decide +kernel
theorem dL_law_222 : decode cL_law 222 = .ok (.iload 4, 2) := by decide +kernel
theorem dL_law_224 : decode cL_law 224 = .ok (.iconst 3, 1) := by decide +kernel
theorem dL_law_225 : decode cL_law 225 = .ok (.iadd, 1) := by decide +kernel
theorem dL_law_226 : decode cL_law 226 = .ok (.iaload, 1) := by decide +kernel
theorem dL_law_227 : decode cL_law 227 = .ok (.invokevirtual 32, 3) := by decide +kernel
theorem dL_law_230 : decode cL_law 230 = .ok (.if_icmp .eq 358, 3) := by decide +kernel
theorem dL_law_233 : decode cL_law 233 = .ok (.iconst 0, 1) := by decide +kernel
theorem dL_law_234 : decode cL_law 234 = .ok (.ireturn, 1) := by decide +kernel
theorem dL_law_235 : decode cL_law 235 = .ok (.aload_n 1, 1) := by decide +kernel
theorem dL_law_236 : decode cL_law 236 = .ok (.aload_n 0, 1) := by decide +kernel
theorem dL_law_237 : decode cL_law 237 = .ok (.iload 4, 2) := by decide +kernel
theorem dL_law_239 : decode cL_law 239 = .ok (.iconst 1, 1) := by decide +kernel
theorem dL_law_240 : decode cL_law 240 = .ok (.iadd, 1) := by decide +kernel
theorem dL_law_241 : decode cL_law 241 = .ok (.iaload, 1) := by decide +kernel
theorem dL_law_242 : decode cL_law 242 = .ok (.aload_n 0, 1) := by decide +kernel
theorem dL_law_243 : decode cL_law 243 = .ok (.iload 4, 2) := by decide +kernel
theorem dL_law_245 : decode cL_law 245 = .ok (.iconst 2, 1) := by decide +kernel
theorem dL_law_246 : decode cL_law 246 = .ok (.iadd, 1) := by decide +kernel
theorem dL_law_247 : decode cL_law 247 = .ok (.iaload, 1) := by decide +kernel
theorem dL_law_248 : decode cL_law 248 = .ok (.aload_n 0, 1) := by decide +kernel
theorem dL_law_249 : decode cL_law 249 = .ok (.iload 4, 2) := by decide +kernel
theorem dL_law_251 : decode cL_law 251 = .ok (.iconst 3, 1) := by decide +kernel
theorem dL_law_252 : decode cL_law 252 = .ok (.iadd, 1) := by decide +kernel
theorem dL_law_253 : decode cL_law 253 = .ok (.iaload, 1) := by decide +kernel
theorem dL_law_254 : decode cL_law 254 = .ok (.invokevirtual 33, 3) := by decide +kernel
theorem dL_law_257 : decode cL_law 257 = .ok (.aload_n 2, 1) := by decide +kernel
theorem dL_law_258 : decode cL_law 258 = .ok (.aload_n 0, 1) := by decide +kernel
theorem dL_law_259 : decode cL_law 259 = .ok (.iload 4, 2) := by decide +kernel
theorem dL_law_261 : decode cL_law 261 = .ok (.iconst 1, 1) := by decide +kernel
theorem dL_law_262 : decode cL_law 262 = .ok (.iadd, 1) := by decide +kernel
theorem dL_law_263 : decode cL_law 263 = .ok (.iaload, 1) := by decide +kernel
theorem dL_law_264 : decode cL_law 264 = .ok (.aload_n 0, 1) := by decide +kernel
theorem dL_law_265 : decode cL_law 265 = .ok (.iload 4, 2) := by decide +kernel
theorem dL_law_267 : decode cL_law 267 = .ok (.iconst 2, 1) := by decide +kernel
theorem dL_law_268 : decode cL_law 268 = .ok (.iadd, 1) := by decide +kernel
theorem dL_law_269 : decode cL_law 269 = .ok (.iaload, 1) := by decide +kernel
theorem dL_law_270 : decode cL_law 270 = .ok (.aload_n 0, 1) := by decide +kernel
theorem dL_law_271 : decode cL_law 271 = .ok (.iload 4, 2) := by decide +kernel
theorem dL_law_273 : decode cL_law 273 = .ok (.iconst 3, 1) := by decide +kernel
theorem dL_law_274 : decode cL_law 274 = .ok (.iadd, 1) := by decide +kernel
theorem dL_law_275 : decode cL_law 275 = .ok (.iaload, 1) := by decide +kernel
theorem dL_law_276 : decode cL_law 276 = .ok (.invokevirtual 36, 3) := by decide +kernel
theorem dL_law_279 : decode cL_law 279 = .ok (.if_icmp .eq 309, 3) := by decide +kernel
theorem dL_law_282 : decode cL_law 282 = .ok (.iconst 0, 1) := by decide +kernel
theorem dL_law_283 : decode cL_law 283 = .ok (.ireturn, 1) := by decide +kernel
theorem dL_law_284 : decode cL_law 284 = .ok (.aload_n 1, 1) := by decide +kernel
theorem dL_law_285 : decode cL_law 285 = .ok (.aload_n 0, 1) := by decide +kernel
theorem dL_law_286 : decode cL_law 286 = .ok (.iload 4, 2) := by decide +kernel
theorem dL_law_288 : decode cL_law 288 = .ok (.iconst 1, 1) := by decide +kernel
theorem dL_law_289 : decode cL_law 289 = .ok (.iadd, 1) := by decide +kernel
theorem dL_law_290 : decode cL_law 290 = .ok (.iaload, 1) := by decide +kernel
theorem dL_law_291 : decode cL_law 291 = .ok (.aload_n 0, 1) := by decide +kernel
theorem dL_law_292 : decode cL_law 292 = .ok (.iload 4, 2) := by decide +kernel
theorem dL_law_294 : decode cL_law 294 = .ok (.iconst 2, 1) := by decide +kernel
theorem dL_law_295 : decode cL_law 295 = .ok (.iadd, 1) := by decide +kernel
theorem dL_law_296 : decode cL_law 296 = .ok (.iaload, 1) := by decide +kernel
theorem dL_law_297 : decode cL_law 297 = .ok (.ifCond .eq 7, 3) := by decide +kernel
theorem dL_law_300 : decode cL_law 300 = .ok (.iconst 1, 1) := by decide +kernel
theorem dL_law_301 : decode cL_law 301 = .ok (.goto 4, 3) := by decide +kernel
theorem dL_law_304 : decode cL_law 304 = .ok (.iconst 0, 1) := by decide +kernel
theorem dL_law_305 : decode cL_law 305 = .ok (.invokevirtual 37, 3) := by decide +kernel
theorem dL_law_308 : decode cL_law 308 = .ok (.aload_n 2, 1) := by decide +kernel
theorem dL_law_309 : decode cL_law 309 = .ok (.aload_n 0, 1) := by decide +kernel
theorem dL_law_310 : decode cL_law 310 = .ok (.iload 4, 2) := by decide +kernel
theorem dL_law_312 : decode cL_law 312 = .ok (.iconst 1, 1) := by decide +kernel
theorem dL_law_313 : decode cL_law 313 = .ok (.iadd, 1) := by decide +kernel
theorem dL_law_314 : decode cL_law 314 = .ok (.iaload, 1) := by decide +kernel
theorem dL_law_315 : decode cL_law 315 = .ok (.aload_n 0, 1) := by decide +kernel
theorem dL_law_316 : decode cL_law 316 = .ok (.iload 4, 2) := by decide +kernel
theorem dL_law_318 : decode cL_law 318 = .ok (.iconst 2, 1) := by decide +kernel
theorem dL_law_319 : decode cL_law 319 = .ok (.iadd, 1) := by decide +kernel
theorem dL_law_320 : decode cL_law 320 = .ok (.iaload, 1) := by decide +kernel
theorem dL_law_321 : decode cL_law 321 = .ok (.ifCond .eq 7, 3) := by decide +kernel
theorem dL_law_324 : decode cL_law 324 = .ok (.iconst 1, 1) := by decide +kernel
theorem dL_law_325 : decode cL_law 325 = .ok (.goto 4, 3) := by decide +kernel
theorem dL_law_328 : decode cL_law 328 = .ok (.iconst 0, 1) := by decide +kernel
theorem dL_law_329 : decode cL_law 329 = .ok (.invokevirtual 41, 3) := by decide +kernel
theorem dL_law_332 : decode cL_law 332 = .ok (.if_icmp .eq 256, 3) := by decide +kernel
theorem dL_law_335 : decode cL_law 335 = .ok (.iconst 0, 1) := by decide +kernel
theorem dL_law_336 : decode cL_law 336 = .ok (.ireturn, 1) := by decide +kernel
theorem dL_law_337 : decode cL_law 337 = .ok (.aload_n 1, 1) := by decide +kernel
theorem dL_law_338 : decode cL_law 338 = .ok (.invokevirtual 42, 3) := by decide +kernel
theorem dL_law_341 : decode cL_law 341 = .ok (.aload_n 2, 1) := by decide +kernel
theorem dL_law_342 : decode cL_law 342 = .ok (.invokevirtual 46, 3) := by decide +kernel
theorem dL_law_345 : decode cL_law 345 = .ok (.if_icmp .eq 243, 3) := by decide +kernel
theorem dL_law_348 : decode cL_law 348 = .ok (.iconst 0, 1) := by decide +kernel
theorem dL_law_349 : decode cL_law 349 = .ok (.ireturn, 1) := by decide +kernel
theorem dL_law_350 : decode cL_law 350 = .ok (.aload_n 1, 1) := by decide +kernel
theorem dL_law_351 : decode cL_law 351 = .ok (.aload_n 0, 1) := by decide +kernel
theorem dL_law_352 : decode cL_law 352 = .ok (.iload 4, 2) := by decide +kernel
theorem dL_law_354 : decode cL_law 354 = .ok (.iconst 1, 1) := by decide +kernel
theorem dL_law_355 : decode cL_law 355 = .ok (.iadd, 1) := by decide +kernel
theorem dL_law_356 : decode cL_law 356 = .ok (.iaload, 1) := by decide +kernel
theorem dL_law_357 : decode cL_law 357 = .ok (.invokevirtual 47, 3) := by decide +kernel
theorem dL_law_360 : decode cL_law 360 = .ok (.aload_n 2, 1) := by decide +kernel
theorem dL_law_361 : decode cL_law 361 = .ok (.aload_n 0, 1) := by decide +kernel
theorem dL_law_362 : decode cL_law 362 = .ok (.iload 4, 2) := by decide +kernel
theorem dL_law_364 : decode cL_law 364 = .ok (.iconst 1, 1) := by decide +kernel
theorem dL_law_365 : decode cL_law 365 = .ok (.iadd, 1) := by decide +kernel
theorem dL_law_366 : decode cL_law 366 = .ok (.iaload, 1) := by decide +kernel
theorem dL_law_367 : decode cL_law 367 = .ok (.invokevirtual 51, 3) := by decide +kernel
theorem dL_law_370 : decode cL_law 370 = .ok (.if_icmp .eq 218, 3) := by decide +kernel
theorem dL_law_373 : decode cL_law 373 = .ok (.iconst 0, 1) := by decide +kernel
theorem dL_law_374 : decode cL_law 374 = .ok (.ireturn, 1) := by decide +kernel
theorem dL_law_375 : decode cL_law 375 = .ok (.aload_n 1, 1) := by decide +kernel
theorem dL_law_376 : decode cL_law 376 = .ok (.aload_n 0, 1) := by decide +kernel
theorem dL_law_377 : decode cL_law 377 = .ok (.iload 4, 2) := by decide +kernel
theorem dL_law_379 : decode cL_law 379 = .ok (.iconst 1, 1) := by decide +kernel
theorem dL_law_380 : decode cL_law 380 = .ok (.iadd, 1) := by decide +kernel
theorem dL_law_381 : decode cL_law 381 = .ok (.iaload, 1) := by decide +kernel
theorem dL_law_382 : decode cL_law 382 = .ok (.invokevirtual 52, 3) := by decide +kernel
theorem dL_law_385 : decode cL_law 385 = .ok (.aload_n 2, 1) := by decide +kernel
theorem dL_law_386 : decode cL_law 386 = .ok (.aload_n 0, 1) := by decide +kernel
theorem dL_law_387 : decode cL_law 387 = .ok (.iload 4, 2) := by decide +kernel
theorem dL_law_389 : decode cL_law 389 = .ok (.iconst 1, 1) := by decide +kernel
theorem dL_law_390 : decode cL_law 390 = .ok (.iadd, 1) := by decide +kernel
theorem dL_law_391 : decode cL_law 391 = .ok (.iaload, 1) := by decide +kernel
theorem dL_law_392 : decode cL_law 392 = .ok (.invokevirtual 55, 3) := by decide +kernel
theorem dL_law_395 : decode cL_law 395 = .ok (.if_icmp .eq 193, 3) := by decide +kernel
theorem dL_law_398 : decode cL_law 398 = .ok (.iconst 0, 1) := by decide +kernel
theorem dL_law_399 : decode cL_law 399 = .ok (.ireturn, 1) := by decide +kernel
theorem dL_law_400 : decode cL_law 400 = .ok (.aload_n 1, 1) := by decide +kernel
theorem dL_law_401 : decode cL_law 401 = .ok (.aload_n 0, 1) := by decide +kernel
theorem dL_law_402 : decode cL_law 402 = .ok (.iload 4, 2) := by decide +kernel
theorem dL_law_404 : decode cL_law 404 = .ok (.iconst 1, 1) := by decide +kernel
theorem dL_law_405 : decode cL_law 405 = .ok (.iadd, 1) := by decide +kernel
theorem dL_law_406 : decode cL_law 406 = .ok (.iaload, 1) := by decide +kernel
theorem dL_law_407 : decode cL_law 407 = .ok (.i2l, 1) := by decide +kernel
theorem dL_law_408 : decode cL_law 408 = .ok (.bipush 32, 2) := by decide +kernel
theorem dL_law_410 : decode cL_law 410 = .ok (.lshl, 1) := by decide +kernel
theorem dL_law_411 : decode cL_law 411 = .ok (.aload_n 0, 1) := by decide +kernel
theorem dL_law_412 : decode cL_law 412 = .ok (.iload 4, 2) := by decide +kernel
theorem dL_law_414 : decode cL_law 414 = .ok (.iconst 2, 1) := by decide +kernel
theorem dL_law_415 : decode cL_law 415 = .ok (.iadd, 1) := by decide +kernel
theorem dL_law_416 : decode cL_law 416 = .ok (.iaload, 1) := by decide +kernel
theorem dL_law_417 : decode cL_law 417 = .ok (.i2l, 1) := by decide +kernel
theorem dL_law_418 : decode cL_law 418 = .ok (.ldc2_w 56, 3) := by decide +kernel
theorem dL_law_421 : decode cL_law 421 = .ok (.land, 1) := by decide +kernel
theorem dL_law_422 : decode cL_law 422 = .ok (.lor, 1) := by decide +kernel
theorem dL_law_423 : decode cL_law 423 = .ok (.invokevirtual 58, 3) := by decide +kernel
theorem dL_law_426 : decode cL_law 426 = .ok (.aload_n 2, 1) := by decide +kernel
theorem dL_law_427 : decode cL_law 427 = .ok (.aload_n 0, 1) := by decide +kernel
theorem dL_law_428 : decode cL_law 428 = .ok (.iload 4, 2) := by decide +kernel
theorem dL_law_430 : decode cL_law 430 = .ok (.iconst 1, 1) := by decide +kernel
theorem dL_law_431 : decode cL_law 431 = .ok (.iadd, 1) := by decide +kernel
theorem dL_law_432 : decode cL_law 432 = .ok (.iaload, 1) := by decide +kernel
theorem dL_law_433 : decode cL_law 433 = .ok (.i2l, 1) := by decide +kernel
theorem dL_law_434 : decode cL_law 434 = .ok (.bipush 32, 2) := by decide +kernel
theorem dL_law_436 : decode cL_law 436 = .ok (.lshl, 1) := by decide +kernel
theorem dL_law_437 : decode cL_law 437 = .ok (.aload_n 0, 1) := by decide +kernel
theorem dL_law_438 : decode cL_law 438 = .ok (.iload 4, 2) := by decide +kernel
theorem dL_law_440 : decode cL_law 440 = .ok (.iconst 2, 1) := by decide +kernel
theorem dL_law_441 : decode cL_law 441 = .ok (.iadd, 1) := by decide +kernel
theorem dL_law_442 : decode cL_law 442 = .ok (.iaload, 1) := by decide +kernel
theorem dL_law_443 : decode cL_law 443 = .ok (.i2l, 1) := by decide +kernel
theorem dL_law_444 : decode cL_law 444 = .ok (.ldc2_w 56, 3) := by decide +kernel
theorem dL_law_447 : decode cL_law 447 = .ok (.land, 1) := by decide +kernel
theorem dL_law_448 : decode cL_law 448 = .ok (.lor, 1) := by decide +kernel
theorem dL_law_449 : decode cL_law 449 = .ok (.invokevirtual 62, 3) := by decide +kernel
theorem dL_law_452 : decode cL_law 452 = .ok (.lcmp, 1) := by decide +kernel
theorem dL_law_453 : decode cL_law 453 = .ok (.ifCond .eq 135, 3) := by decide +kernel
theorem dL_law_456 : decode cL_law 456 = .ok (.iconst 0, 1) := by decide +kernel
theorem dL_law_457 : decode cL_law 457 = .ok (.ireturn, 1) := by decide +kernel
theorem dL_law_458 : decode cL_law 458 = .ok (.aload_n 1, 1) := by decide +kernel
theorem dL_law_459 : decode cL_law 459 = .ok (.aload_n 0, 1) := by decide +kernel
theorem dL_law_460 : decode cL_law 460 = .ok (.iload 4, 2) := by decide +kernel
theorem dL_law_462 : decode cL_law 462 = .ok (.iconst 1, 1) := by decide +kernel
theorem dL_law_463 : decode cL_law 463 = .ok (.iadd, 1) := by decide +kernel
theorem dL_law_464 : decode cL_law 464 = .ok (.iaload, 1) := by decide +kernel
theorem dL_law_465 : decode cL_law 465 = .ok (.aload_n 0, 1) := by decide +kernel
theorem dL_law_466 : decode cL_law 466 = .ok (.iload 4, 2) := by decide +kernel
theorem dL_law_468 : decode cL_law 468 = .ok (.iconst 2, 1) := by decide +kernel
theorem dL_law_469 : decode cL_law 469 = .ok (.iadd, 1) := by decide +kernel
theorem dL_law_470 : decode cL_law 470 = .ok (.iaload, 1) := by decide +kernel
theorem dL_law_471 : decode cL_law 471 = .ok (.invokevirtual 63, 3) := by decide +kernel
theorem dL_law_474 : decode cL_law 474 = .ok (.aload_n 2, 1) := by decide +kernel
theorem dL_law_475 : decode cL_law 475 = .ok (.aload_n 0, 1) := by decide +kernel
theorem dL_law_476 : decode cL_law 476 = .ok (.iload 4, 2) := by decide +kernel
theorem dL_law_478 : decode cL_law 478 = .ok (.iconst 1, 1) := by decide +kernel
theorem dL_law_479 : decode cL_law 479 = .ok (.iadd, 1) := by decide +kernel
theorem dL_law_480 : decode cL_law 480 = .ok (.iaload, 1) := by decide +kernel
theorem dL_law_481 : decode cL_law 481 = .ok (.aload_n 0, 1) := by decide +kernel
theorem dL_law_482 : decode cL_law 482 = .ok (.iload 4, 2) := by decide +kernel
theorem dL_law_484 : decode cL_law 484 = .ok (.iconst 2, 1) := by decide +kernel
theorem dL_law_485 : decode cL_law 485 = .ok (.iadd, 1) := by decide +kernel
theorem dL_law_486 : decode cL_law 486 = .ok (.iaload, 1) := by decide +kernel
theorem dL_law_487 : decode cL_law 487 = .ok (.invokevirtual 66, 3) := by decide +kernel
theorem dL_law_490 : decode cL_law 490 = .ok (.if_icmp .eq 98, 3) := by decide +kernel
theorem dL_law_493 : decode cL_law 493 = .ok (.iconst 0, 1) := by decide +kernel
theorem dL_law_494 : decode cL_law 494 = .ok (.ireturn, 1) := by decide +kernel
theorem dL_law_495 : decode cL_law 495 = .ok (.aload_n 1, 1) := by decide +kernel
theorem dL_law_496 : decode cL_law 496 = .ok (.aload_n 0, 1) := by decide +kernel
theorem dL_law_497 : decode cL_law 497 = .ok (.iload 4, 2) := by decide +kernel
theorem dL_law_499 : decode cL_law 499 = .ok (.iconst 1, 1) := by decide +kernel
theorem dL_law_500 : decode cL_law 500 = .ok (.iadd, 1) := by decide +kernel
theorem dL_law_501 : decode cL_law 501 = .ok (.iaload, 1) := by decide +kernel
theorem dL_law_502 : decode cL_law 502 = .ok (.aload_n 0, 1) := by decide +kernel
theorem dL_law_503 : decode cL_law 503 = .ok (.iload 4, 2) := by decide +kernel
theorem dL_law_505 : decode cL_law 505 = .ok (.iconst 2, 1) := by decide +kernel
theorem dL_law_506 : decode cL_law 506 = .ok (.iadd, 1) := by decide +kernel
theorem dL_law_507 : decode cL_law 507 = .ok (.iaload, 1) := by decide +kernel
theorem dL_law_508 : decode cL_law 508 = .ok (.invokevirtual 67, 3) := by decide +kernel
theorem dL_law_511 : decode cL_law 511 = .ok (.aload_n 2, 1) := by decide +kernel
theorem dL_law_512 : decode cL_law 512 = .ok (.aload_n 0, 1) := by decide +kernel
theorem dL_law_513 : decode cL_law 513 = .ok (.iload 4, 2) := by decide +kernel
theorem dL_law_515 : decode cL_law 515 = .ok (.iconst 1, 1) := by decide +kernel
theorem dL_law_516 : decode cL_law 516 = .ok (.iadd, 1) := by decide +kernel
theorem dL_law_517 : decode cL_law 517 = .ok (.iaload, 1) := by decide +kernel
theorem dL_law_518 : decode cL_law 518 = .ok (.aload_n 0, 1) := by decide +kernel
theorem dL_law_519 : decode cL_law 519 = .ok (.iload 4, 2) := by decide +kernel
theorem dL_law_521 : decode cL_law 521 = .ok (.iconst 2, 1) := by decide +kernel
theorem dL_law_522 : decode cL_law 522 = .ok (.iadd, 1) := by decide +kernel
theorem dL_law_523 : decode cL_law 523 = .ok (.iaload, 1) := by decide +kernel
theorem dL_law_524 : decode cL_law 524 = .ok (.invokevirtual 70, 3) := by decide +kernel
theorem dL_law_527 : decode cL_law 527 = .ok (.if_icmp .eq 61, 3) := by decide +kernel
theorem dL_law_530 : decode cL_law 530 = .ok (.iconst 0, 1) := by decide +kernel
theorem dL_law_531 : decode cL_law 531 = .ok (.ireturn, 1) := by decide +kernel
theorem dL_law_532 : decode cL_law 532 = .ok (.aload_n 1, 1) := by decide +kernel
theorem dL_law_533 : decode cL_law 533 = .ok (.aload_n 0, 1) := by decide +kernel
theorem dL_law_534 : decode cL_law 534 = .ok (.iload 4, 2) := by decide +kernel
theorem dL_law_536 : decode cL_law 536 = .ok (.iconst 1, 1) := by decide +kernel
theorem dL_law_537 : decode cL_law 537 = .ok (.iadd, 1) := by decide +kernel
theorem dL_law_538 : decode cL_law 538 = .ok (.iaload, 1) := by decide +kernel
theorem dL_law_539 : decode cL_law 539 = .ok (.aload_n 3, 1) := by decide +kernel
theorem dL_law_540 : decode cL_law 540 = .ok (.invokestatic 71, 3) := by decide +kernel
theorem dL_law_543 : decode cL_law 543 = .ok (.istore 5, 2) := by decide +kernel
theorem dL_law_545 : decode cL_law 545 = .ok (.aload_n 2, 1) := by decide +kernel
theorem dL_law_546 : decode cL_law 546 = .ok (.aload_n 0, 1) := by decide +kernel
theorem dL_law_547 : decode cL_law 547 = .ok (.iload 4, 2) := by decide +kernel
theorem dL_law_549 : decode cL_law 549 = .ok (.iconst 1, 1) := by decide +kernel
theorem dL_law_550 : decode cL_law 550 = .ok (.iadd, 1) := by decide +kernel
theorem dL_law_551 : decode cL_law 551 = .ok (.iaload, 1) := by decide +kernel
theorem dL_law_552 : decode cL_law 552 = .ok (.invokevirtual 76, 3) := by decide +kernel
theorem dL_law_555 : decode cL_law 555 = .ok (.istore 6, 2) := by decide +kernel
theorem dL_law_557 : decode cL_law 557 = .ok (.aload_n 2, 1) := by decide +kernel
theorem dL_law_558 : decode cL_law 558 = .ok (.invokevirtual 77, 3) := by decide +kernel
theorem dL_law_561 : decode cL_law 561 = .ok (.iload 5, 2) := by decide +kernel
theorem dL_law_563 : decode cL_law 563 = .ok (.if_icmp .eq 5, 3) := by decide +kernel
theorem dL_law_566 : decode cL_law 566 = .ok (.iconst 0, 1) := by decide +kernel
theorem dL_law_567 : decode cL_law 567 = .ok (.ireturn, 1) := by decide +kernel
theorem dL_law_568 : decode cL_law 568 = .ok (.iload 5, 2) := by decide +kernel
theorem dL_law_570 : decode cL_law 570 = .ok (.ifCond .ne 15, 3) := by decide +kernel
theorem dL_law_573 : decode cL_law 573 = .ok (.aload_n 3, 1) := by decide +kernel
theorem dL_law_574 : decode cL_law 574 = .ok (.iconst 0, 1) := by decide +kernel
theorem dL_law_575 : decode cL_law 575 = .ok (.laload, 1) := by decide +kernel
theorem dL_law_576 : decode cL_law 576 = .ok (.iload 6, 2) := by decide +kernel
theorem dL_law_578 : decode cL_law 578 = .ok (.i2l, 1) := by decide +kernel
theorem dL_law_579 : decode cL_law 579 = .ok (.lcmp, 1) := by decide +kernel
theorem dL_law_580 : decode cL_law 580 = .ok (.ifCond .eq 5, 3) := by decide +kernel
theorem dL_law_583 : decode cL_law 583 = .ok (.iconst 0, 1) := by decide +kernel
theorem dL_law_584 : decode cL_law 584 = .ok (.ireturn, 1) := by decide +kernel
theorem dL_law_585 : decode cL_law 585 = .ok (.goto 3, 3) := by decide +kernel
theorem dL_law_588 : decode cL_law 588 = .ok (.iinc 4 4, 3) := by decide +kernel
theorem dL_law_591 : decode cL_law 591 = .ok (.goto (-568), 3) := by decide +kernel
theorem dL_law_594 : decode cL_law 594 = .ok (.iconst 1, 1) := by decide +kernel
theorem dL_law_595 : decode cL_law 595 = .ok (.ireturn, 1) := by decide +kernel
