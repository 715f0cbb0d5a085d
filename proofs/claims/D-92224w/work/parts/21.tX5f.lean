/-! tables: X5_coarse X5_keep X5_moveAll X5_moves X5_slot X5_back X5_count -/
set_option maxRecDepth 100000
set_option maxHeartbeats 4000000
theorem dX5_coarse_0 : decode cX5_coarse 0 = .ok (.iload_n 1, 1) := by decide +kernel
theorem dX5_coarse_1 : decode cX5_coarse 1 = .ok (.i2l, 1) := by decide +kernel
theorem dX5_coarse_2 : decode cX5_coarse 2 = .ok (.lconst 1, 1) := by decide +kernel
theorem dX5_coarse_3 : decode cX5_coarse 3 = .ok (.ldc2_w 272, 3) := by decide +kernel
theorem dX5_coarse_6 : decode cX5_coarse 6 = .ok (.invokestatic 128, 3) := by decide +kernel
theorem dX5_coarse_9 : decode cX5_coarse 9 = .ok (.ifCond .eq 22, 3) := by decide +kernel
theorem dX5_coarse_12 : decode cX5_coarse 12 = .ok (.iload_n 2, 1) := by decide +kernel
theorem dX5_coarse_13 : decode cX5_coarse 13 = .ok (.invokestatic 146, 3) := by decide +kernel
theorem dX5_coarse_16 : decode cX5_coarse 16 = .ok (.ifCond .eq 15, 3) := by decide +kernel
theorem dX5_coarse_19 : decode cX5_coarse 19 = .ok (.iload_n 3, 1) := by decide +kernel
theorem dX5_coarse_20 : decode cX5_coarse 20 = .ok (.i2l, 1) := by decide +kernel
theorem dX5_coarse_21 : decode cX5_coarse 21 = .ok (.lconst 0, 1) := by decide +kernel
theorem dX5_coarse_22 : decode cX5_coarse 22 = .ok (.ldc2_w 152, 3) := by decide +kernel
theorem dX5_coarse_25 : decode cX5_coarse 25 = .ok (.invokestatic 128, 3) := by decide +kernel
theorem dX5_coarse_28 : decode cX5_coarse 28 = .ok (.ifCond .ne 5, 3) := by decide +kernel
theorem dX5_coarse_31 : decode cX5_coarse 31 = .ok (.iconst (-1), 1) := by decide +kernel
theorem dX5_coarse_32 : decode cX5_coarse 32 = .ok (.ireturn, 1) := by decide +kernel
theorem dX5_coarse_33 : decode cX5_coarse 33 = .ok (.aload_n 0, 1) := by decide +kernel
theorem dX5_coarse_34 : decode cX5_coarse 34 = .ok (.getfield 7, 3) := by decide +kernel
theorem dX5_coarse_37 : decode cX5_coarse 37 = .ok (.iconst 2, 1) := by decide +kernel
theorem dX5_coarse_38 : decode cX5_coarse 38 = .ok (.irem, 1) := by decide +kernel
theorem dX5_coarse_39 : decode cX5_coarse 39 = .ok (.iconst 1, 1) := by decide +kernel
theorem dX5_coarse_40 : decode cX5_coarse 40 = .ok (.if_icmp .eq 13, 3) := by decide +kernel
theorem dX5_coarse_43 : decode cX5_coarse 43 = .ok (.aload_n 0, 1) := by decide +kernel
theorem dX5_coarse_44 : decode cX5_coarse 44 = .ok (.getfield 13, 3) := by decide +kernel
theorem dX5_coarse_47 : decode cX5_coarse 47 = .ok (.iconst 2, 1) := by decide +kernel
theorem dX5_coarse_48 : decode cX5_coarse 48 = .ok (.irem, 1) := by decide +kernel
theorem dX5_coarse_49 : decode cX5_coarse 49 = .ok (.iconst 1, 1) := by decide +kernel
theorem dX5_coarse_50 : decode cX5_coarse 50 = .ok (.if_icmp .ne 6, 3) := by decide +kernel
theorem dX5_coarse_53 : decode cX5_coarse 53 = .ok (.bipush (-2), 2) := by decide +kernel
theorem dX5_coarse_55 : decode cX5_coarse 55 = .ok (.ireturn, 1) := by decide +kernel
theorem dX5_coarse_56 : decode cX5_coarse 56 = .ok (.aload_n 0, 1) := by decide +kernel
theorem dX5_coarse_57 : decode cX5_coarse 57 = .ok (.aload_n 0, 1) := by decide +kernel
theorem dX5_coarse_58 : decode cX5_coarse 58 = .ok (.getfield 84, 3) := by decide +kernel
theorem dX5_coarse_61 : decode cX5_coarse 61 = .ok (.iconst 0, 1) := by decide +kernel
theorem dX5_coarse_62 : decode cX5_coarse 62 = .ok (.invokevirtual 281, 3) := by decide +kernel
theorem dX5_coarse_65 : decode cX5_coarse 65 = .ok (.iconst 0, 1) := by decide +kernel
theorem dX5_coarse_66 : decode cX5_coarse 66 = .ok (.istore 4, 2) := by decide +kernel
theorem dX5_coarse_68 : decode cX5_coarse 68 = .ok (.iload 4, 2) := by decide +kernel
theorem dX5_coarse_70 : decode cX5_coarse 70 = .ok (.aload_n 0, 1) := by decide +kernel
theorem dX5_coarse_71 : decode cX5_coarse 71 = .ok (.invokevirtual 124, 3) := by decide +kernel
theorem dX5_coarse_74 : decode cX5_coarse 74 = .ok (.if_icmp .ge 161, 3) := by decide +kernel
theorem dX5_coarse_77 : decode cX5_coarse 77 = .ok (.iconst 2, 1) := by decide +kernel
theorem dX5_coarse_78 : decode cX5_coarse 78 = .ok (.aload_n 0, 1) := by decide +kernel
theorem dX5_coarse_79 : decode cX5_coarse 79 = .ok (.getfield 7, 3) := by decide +kernel
theorem dX5_coarse_82 : decode cX5_coarse 82 = .ok (.imul, 1) := by decide +kernel
theorem dX5_coarse_83 : decode cX5_coarse 83 = .ok (.iload 4, 2) := by decide +kernel
theorem dX5_coarse_85 : decode cX5_coarse 85 = .ok (.aload_n 0, 1) := by decide +kernel
theorem dX5_coarse_86 : decode cX5_coarse 86 = .ok (.getfield 7, 3) := by decide +kernel
theorem dX5_coarse_89 : decode cX5_coarse 89 = .ok (.iconst 2, 1) := by decide +kernel
theorem dX5_coarse_90 : decode cX5_coarse 90 = .ok (.idiv, 1) := by decide +kernel
theorem dX5_coarse_91 : decode cX5_coarse 91 = .ok (.idiv, 1) := by decide +kernel
theorem dX5_coarse_92 : decode cX5_coarse 92 = .ok (.imul, 1) := by decide +kernel
theorem dX5_coarse_93 : decode cX5_coarse 93 = .ok (.iconst 2, 1) := by decide +kernel
theorem dX5_coarse_94 : decode cX5_coarse 94 = .ok (.iload 4, 2) := by decide +kernel
theorem dX5_coarse_96 : decode cX5_coarse 96 = .ok (.aload_n 0, 1) := by decide +kernel
theorem dX5_coarse_97 : decode cX5_coarse 97 = .ok (.getfield 7, 3) := by decide +kernel
theorem dX5_coarse_100 : decode cX5_coarse 100 = .ok (.iconst 2, 1) := by decide +kernel
theorem dX5_coarse_101 : decode cX5_coarse 101 = .ok (.idiv, 1) := by decide +kernel
theorem dX5_coarse_102 : decode cX5_coarse 102 = .ok (.irem, 1) := by decide +kernel
theorem dX5_coarse_103 : decode cX5_coarse 103 = .ok (.imul, 1) := by decide +kernel
theorem dX5_coarse_104 : decode cX5_coarse 104 = .ok (.iadd, 1) := by decide +kernel
theorem dX5_coarse_105 : decode cX5_coarse 105 = .ok (.istore 5, 2) := by decide +kernel
theorem dX5_coarse_107 : decode cX5_coarse 107 = .ok (.iconst 0, 1) := by decide +kernel
theorem dX5_coarse_108 : decode cX5_coarse 108 = .ok (.istore 6, 2) := by decide +kernel
theorem dX5_coarse_110 : decode cX5_coarse 110 = .ok (.iload 6, 2) := by decide +kernel
theorem dX5_coarse_112 : decode cX5_coarse 112 = .ok (.iconst 4, 1) := by decide +kernel
theorem dX5_coarse_113 : decode cX5_coarse 113 = .ok (.if_icmp .ge 116, 3) := by decide +kernel
theorem dX5_coarse_116 : decode cX5_coarse 116 = .ok (.iload 4, 2) := by decide +kernel
theorem dX5_coarse_118 : decode cX5_coarse 118 = .ok (.aload_n 0, 1) := by decide +kernel
theorem dX5_coarse_119 : decode cX5_coarse 119 = .ok (.invokevirtual 124, 3) := by decide +kernel
theorem dX5_coarse_122 : decode cX5_coarse 122 = .ok (.iconst 4, 1) := by decide +kernel
theorem dX5_coarse_123 : decode cX5_coarse 123 = .ok (.idiv, 1) := by decide +kernel
theorem dX5_coarse_124 : decode cX5_coarse 124 = .ok (.if_icmp .ge 105, 3) := by decide +kernel
theorem dX5_coarse_127 : decode cX5_coarse 127 = .ok (.aload_n 0, 1) := by decide +kernel
theorem dX5_coarse_128 : decode cX5_coarse 128 = .ok (.getfield 84, 3) := by decide +kernel
theorem dX5_coarse_131 : decode cX5_coarse 131 = .ok (.iconst 0, 1) := by decide +kernel
theorem dX5_coarse_132 : decode cX5_coarse 132 = .ok (.iload 5, 2) := by decide +kernel
theorem dX5_coarse_134 : decode cX5_coarse 134 = .ok (.iload 6, 2) := by decide +kernel
theorem dX5_coarse_136 : decode cX5_coarse 136 = .ok (.invokestatic 217, 3) := by decide +kernel
theorem dX5_coarse_139 : decode cX5_coarse 139 = .ok (.iaload, 1) := by decide +kernel
theorem dX5_coarse_140 : decode cX5_coarse 140 = .ok (.i2l, 1) := by decide +kernel
theorem dX5_coarse_141 : decode cX5_coarse 141 = .ok (.aload_n 0, 1) := by decide +kernel
theorem dX5_coarse_142 : decode cX5_coarse 142 = .ok (.getfield 84, 3) := by decide +kernel
theorem dX5_coarse_145 : decode cX5_coarse 145 = .ok (.iconst 0, 1) := by decide +kernel
theorem dX5_coarse_146 : decode cX5_coarse 146 = .ok (.iload 5, 2) := by decide +kernel
theorem dX5_coarse_148 : decode cX5_coarse 148 = .ok (.iconst 1, 1) := by decide +kernel
theorem dX5_coarse_149 : decode cX5_coarse 149 = .ok (.iadd, 1) := by decide +kernel
theorem dX5_coarse_150 : decode cX5_coarse 150 = .ok (.iload 6, 2) := by decide +kernel
theorem dX5_coarse_152 : decode cX5_coarse 152 = .ok (.invokestatic 217, 3) := by decide +kernel
theorem dX5_coarse_155 : decode cX5_coarse 155 = .ok (.iaload, 1) := by decide +kernel
theorem dX5_coarse_156 : decode cX5_coarse 156 = .ok (.i2l, 1) := by decide +kernel
theorem dX5_coarse_157 : decode cX5_coarse 157 = .ok (.ladd, 1) := by decide +kernel
theorem dX5_coarse_158 : decode cX5_coarse 158 = .ok (.aload_n 0, 1) := by decide +kernel
theorem dX5_coarse_159 : decode cX5_coarse 159 = .ok (.getfield 84, 3) := by decide +kernel
theorem dX5_coarse_162 : decode cX5_coarse 162 = .ok (.iconst 0, 1) := by decide +kernel
theorem dX5_coarse_163 : decode cX5_coarse 163 = .ok (.iload 5, 2) := by decide +kernel
theorem dX5_coarse_165 : decode cX5_coarse 165 = .ok (.aload_n 0, 1) := by decide +kernel
theorem dX5_coarse_166 : decode cX5_coarse 166 = .ok (.getfield 7, 3) := by decide +kernel
theorem dX5_coarse_169 : decode cX5_coarse 169 = .ok (.iadd, 1) := by decide +kernel
theorem dX5_coarse_170 : decode cX5_coarse 170 = .ok (.iload 6, 2) := by decide +kernel
theorem dX5_coarse_172 : decode cX5_coarse 172 = .ok (.invokestatic 217, 3) := by decide +kernel
theorem dX5_coarse_175 : decode cX5_coarse 175 = .ok (.iaload, 1) := by decide +kernel
theorem dX5_coarse_176 : decode cX5_coarse 176 = .ok (.i2l, 1) := by decide +kernel
theorem dX5_coarse_177 : decode cX5_coarse 177 = .ok (.ladd, 1) := by decide +kernel
theorem dX5_coarse_178 : decode cX5_coarse 178 = .ok (.aload_n 0, 1) := by decide +kernel
theorem dX5_coarse_179 : decode cX5_coarse 179 = .ok (.getfield 84, 3) := by decide +kernel
theorem dX5_coarse_182 : decode cX5_coarse 182 = .ok (.iconst 0, 1) := by decide +kernel
theorem dX5_coarse_183 : decode cX5_coarse 183 = .ok (.iload 5, 2) := by decide +kernel
theorem dX5_coarse_185 : decode cX5_coarse 185 = .ok (.aload_n 0, 1) := by decide +kernel
theorem dX5_coarse_186 : decode cX5_coarse 186 = .ok (.getfield 7, 3) := by decide +kernel
theorem dX5_coarse_189 : decode cX5_coarse 189 = .ok (.iadd, 1) := by decide +kernel
theorem dX5_coarse_190 : decode cX5_coarse 190 = .ok (.iconst 1, 1) := by decide +kernel
theorem dX5_coarse_191 : decode cX5_coarse 191 = .ok (.iadd, 1) := by decide +kernel
theorem dX5_coarse_192 : decode cX5_coarse 192 = .ok (.iload 6, 2) := by decide +kernel
theorem dX5_coarse_194 : decode cX5_coarse 194 = .ok (.invokestatic 217, 3) := by decide +kernel
theorem dX5_coarse_197 : decode cX5_coarse 197 = .ok (.iaload, 1) := by decide +kernel
theorem dX5_coarse_198 : decode cX5_coarse 198 = .ok (.i2l, 1) := by decide +kernel
theorem dX5_coarse_199 : decode cX5_coarse 199 = .ok (.ladd, 1) := by decide +kernel
theorem dX5_coarse_200 : decode cX5_coarse 200 = .ok (.lstore 7, 2) := by decide +kernel
theorem dX5_coarse_202 : decode cX5_coarse 202 = .ok (.aload_n 0, 1) := by decide +kernel
theorem dX5_coarse_203 : decode cX5_coarse 203 = .ok (.getfield 87, 3) := by decide +kernel
theorem dX5_coarse_206 : decode cX5_coarse 206 = .ok (.iconst 0, 1) := by decide +kernel
theorem dX5_coarse_207 : decode cX5_coarse 207 = .ok (.iload 4, 2) := by decide +kernel
theorem dX5_coarse_209 : decode cX5_coarse 209 = .ok (.iload 6, 2) := by decide +kernel
theorem dX5_coarse_211 : decode cX5_coarse 211 = .ok (.invokestatic 217, 3) := by decide +kernel
theorem dX5_coarse_214 : decode cX5_coarse 214 = .ok (.lload 7, 2) := by decide +kernel
theorem dX5_coarse_216 : decode cX5_coarse 216 = .ok (.ldc2_w 206, 3) := by decide +kernel
theorem dX5_coarse_219 : decode cX5_coarse 219 = .ok (.invokestatic 258, 3) := by decide +kernel
theorem dX5_coarse_222 : decode cX5_coarse 222 = .ok (.iastore, 1) := by decide +kernel
theorem dX5_coarse_223 : decode cX5_coarse 223 = .ok (.iinc 6 1, 3) := by decide +kernel
theorem dX5_coarse_226 : decode cX5_coarse 226 = .ok (.goto (-116), 3) := by decide +kernel
theorem dX5_coarse_229 : decode cX5_coarse 229 = .ok (.iinc 4 1, 3) := by decide +kernel
theorem dX5_coarse_232 : decode cX5_coarse 232 = .ok (.goto (-164), 3) := by decide +kernel
theorem dX5_coarse_235 : decode cX5_coarse 235 = .ok (.aload_n 0, 1) := by decide +kernel
theorem dX5_coarse_236 : decode cX5_coarse 236 = .ok (.aload_n 0, 1) := by decide +kernel
theorem dX5_coarse_237 : decode cX5_coarse 237 = .ok (.getfield 7, 3) := by decide +kernel
theorem dX5_coarse_240 : decode cX5_coarse 240 = .ok (.iconst 2, 1) := by decide +kernel
theorem dX5_coarse_241 : decode cX5_coarse 241 = .ok (.idiv, 1) := by decide +kernel
theorem dX5_coarse_242 : decode cX5_coarse 242 = .ok (.putfield 211, 3) := by decide +kernel
theorem dX5_coarse_245 : decode cX5_coarse 245 = .ok (.aload_n 0, 1) := by decide +kernel
theorem dX5_coarse_246 : decode cX5_coarse 246 = .ok (.aload_n 0, 1) := by decide +kernel
theorem dX5_coarse_247 : decode cX5_coarse 247 = .ok (.getfield 13, 3) := by decide +kernel
theorem dX5_coarse_250 : decode cX5_coarse 250 = .ok (.iconst 2, 1) := by decide +kernel
theorem dX5_coarse_251 : decode cX5_coarse 251 = .ok (.idiv, 1) := by decide +kernel
theorem dX5_coarse_252 : decode cX5_coarse 252 = .ok (.putfield 214, 3) := by decide +kernel
theorem dX5_coarse_255 : decode cX5_coarse 255 = .ok (.aload_n 0, 1) := by decide +kernel
theorem dX5_coarse_256 : decode cX5_coarse 256 = .ok (.aload_n 0, 1) := by decide +kernel
theorem dX5_coarse_257 : decode cX5_coarse 257 = .ok (.getfield 87, 3) := by decide +kernel
theorem dX5_coarse_260 : decode cX5_coarse 260 = .ok (.iconst 0, 1) := by decide +kernel
theorem dX5_coarse_261 : decode cX5_coarse 261 = .ok (.invokevirtual 265, 3) := by decide +kernel
theorem dX5_coarse_264 : decode cX5_coarse 264 = .ok (.iconst 0, 1) := by decide +kernel
theorem dX5_coarse_265 : decode cX5_coarse 265 = .ok (.istore 4, 2) := by decide +kernel
theorem dX5_coarse_267 : decode cX5_coarse 267 = .ok (.iconst 0, 1) := by decide +kernel
theorem dX5_coarse_268 : decode cX5_coarse 268 = .ok (.istore 5, 2) := by decide +kernel
theorem dX5_coarse_270 : decode cX5_coarse 270 = .ok (.iload 5, 2) := by decide +kernel
theorem dX5_coarse_272 : decode cX5_coarse 272 = .ok (.aload_n 0, 1) := by decide +kernel
theorem dX5_coarse_273 : decode cX5_coarse 273 = .ok (.getfield 211, 3) := by decide +kernel
theorem dX5_coarse_276 : decode cX5_coarse 276 = .ok (.aload_n 0, 1) := by decide +kernel
theorem dX5_coarse_277 : decode cX5_coarse 277 = .ok (.getfield 214, 3) := by decide +kernel
theorem dX5_coarse_280 : decode cX5_coarse 280 = .ok (.imul, 1) := by decide +kernel
theorem dX5_coarse_281 : decode cX5_coarse 281 = .ok (.if_icmp .ge 179, 3) := by decide +kernel
theorem dX5_coarse_284 : decode cX5_coarse 284 = .ok (.iconst 2, 1) := by decide +kernel
theorem dX5_coarse_285 : decode cX5_coarse 285 = .ok (.aload_n 0, 1) := by decide +kernel
theorem dX5_coarse_286 : decode cX5_coarse 286 = .ok (.getfield 7, 3) := by decide +kernel
theorem dX5_coarse_289 : decode cX5_coarse 289 = .ok (.imul, 1) := by decide +kernel
theorem dX5_coarse_290 : decode cX5_coarse 290 = .ok (.iload 5, 2) := by decide +kernel
theorem dX5_coarse_292 : decode cX5_coarse 292 = .ok (.aload_n 0, 1) := by decide +kernel
theorem dX5_coarse_293 : decode cX5_coarse 293 = .ok (.getfield 211, 3) := by decide +kernel
theorem dX5_coarse_296 : decode cX5_coarse 296 = .ok (.idiv, 1) := by decide +kernel
theorem dX5_coarse_297 : decode cX5_coarse 297 = .ok (.imul, 1) := by decide +kernel
theorem dX5_coarse_298 : decode cX5_coarse 298 = .ok (.iconst 2, 1) := by decide +kernel
theorem dX5_coarse_299 : decode cX5_coarse 299 = .ok (.iload 5, 2) := by decide +kernel
theorem dX5_coarse_301 : decode cX5_coarse 301 = .ok (.aload_n 0, 1) := by decide +kernel
theorem dX5_coarse_302 : decode cX5_coarse 302 = .ok (.getfield 211, 3) := by decide +kernel
theorem dX5_coarse_305 : decode cX5_coarse 305 = .ok (.irem, 1) := by decide +kernel
theorem dX5_coarse_306 : decode cX5_coarse 306 = .ok (.imul, 1) := by decide +kernel
theorem dX5_coarse_307 : decode cX5_coarse 307 = .ok (.iadd, 1) := by decide +kernel
theorem dX5_coarse_308 : decode cX5_coarse 308 = .ok (.istore 6, 2) := by decide +kernel
theorem dX5_coarse_310 : decode cX5_coarse 310 = .ok (.lconst 0, 1) := by decide +kernel
theorem dX5_coarse_311 : decode cX5_coarse 311 = .ok (.lstore 7, 2) := by decide +kernel
theorem dX5_coarse_313 : decode cX5_coarse 313 = .ok (.aload_n 0, 1) := by decide +kernel
theorem dX5_coarse_314 : decode cX5_coarse 314 = .ok (.getfield 87, 3) := by decide +kernel
theorem dX5_coarse_317 : decode cX5_coarse 317 = .ok (.iload_n 1, 1) := by decide +kernel
theorem dX5_coarse_318 : decode cX5_coarse 318 = .ok (.iload 5, 2) := by decide +kernel
theorem dX5_coarse_320 : decode cX5_coarse 320 = .ok (.iload_n 2, 1) := by decide +kernel
theorem dX5_coarse_321 : decode cX5_coarse 321 = .ok (.invokestatic 217, 3) := by decide +kernel
theorem dX5_coarse_324 : decode cX5_coarse 324 = .ok (.iaload, 1) := by decide +kernel
theorem dX5_coarse_325 : decode cX5_coarse 325 = .ok (.ldc 237, 2) := by decide +kernel
theorem dX5_coarse_327 : decode cX5_coarse 327 = .ok (.if_icmp .ne 7, 3) := by decide +kernel
theorem dX5_coarse_330 : decode cX5_coarse 330 = .ok (.iconst 1, 1) := by decide +kernel
theorem dX5_coarse_331 : decode cX5_coarse 331 = .ok (.goto 4, 3) := by decide +kernel
theorem dX5_coarse_334 : decode cX5_coarse 334 = .ok (.iconst 0, 1) := by decide +kernel
theorem dX5_coarse_335 : decode cX5_coarse 335 = .ok (.istore 9, 2) := by decide +kernel
theorem dX5_coarse_337 : decode cX5_coarse 337 = .ok (.iconst 0, 1) := by decide +kernel
theorem dX5_coarse_338 : decode cX5_coarse 338 = .ok (.istore 10, 2) := by decide +kernel
theorem dX5_coarse_340 : decode cX5_coarse 340 = .ok (.iload 10, 2) := by decide +kernel
theorem dX5_coarse_342 : decode cX5_coarse 342 = .ok (.iconst 4, 1) := by decide +kernel
theorem dX5_coarse_343 : decode cX5_coarse 343 = .ok (.if_icmp .ge 65, 3) := by decide +kernel
theorem dX5_coarse_346 : decode cX5_coarse 346 = .ok (.aload_n 0, 1) := by decide +kernel
theorem dX5_coarse_347 : decode cX5_coarse 347 = .ok (.getfield 84, 3) := by decide +kernel
theorem dX5_coarse_350 : decode cX5_coarse 350 = .ok (.iload_n 1, 1) := by decide +kernel
theorem dX5_coarse_351 : decode cX5_coarse 351 = .ok (.iload 6, 2) := by decide +kernel
theorem dX5_coarse_353 : decode cX5_coarse 353 = .ok (.iload 10, 2) := by decide +kernel
theorem dX5_coarse_355 : decode cX5_coarse 355 = .ok (.iconst 2, 1) := by decide +kernel
theorem dX5_coarse_356 : decode cX5_coarse 356 = .ok (.irem, 1) := by decide +kernel
theorem dX5_coarse_357 : decode cX5_coarse 357 = .ok (.iadd, 1) := by decide +kernel
theorem dX5_coarse_358 : decode cX5_coarse 358 = .ok (.aload_n 0, 1) := by decide +kernel
theorem dX5_coarse_359 : decode cX5_coarse 359 = .ok (.getfield 7, 3) := by decide +kernel
theorem dX5_coarse_362 : decode cX5_coarse 362 = .ok (.iload 10, 2) := by decide +kernel
theorem dX5_coarse_364 : decode cX5_coarse 364 = .ok (.iconst 2, 1) := by decide +kernel
theorem dX5_coarse_365 : decode cX5_coarse 365 = .ok (.idiv, 1) := by decide +kernel
theorem dX5_coarse_366 : decode cX5_coarse 366 = .ok (.imul, 1) := by decide +kernel
theorem dX5_coarse_367 : decode cX5_coarse 367 = .ok (.iadd, 1) := by decide +kernel
theorem dX5_coarse_368 : decode cX5_coarse 368 = .ok (.iload_n 2, 1) := by decide +kernel
theorem dX5_coarse_369 : decode cX5_coarse 369 = .ok (.invokestatic 217, 3) := by decide +kernel
theorem dX5_coarse_372 : decode cX5_coarse 372 = .ok (.iaload, 1) := by decide +kernel
theorem dX5_coarse_373 : decode cX5_coarse 373 = .ok (.istore 11, 2) := by decide +kernel
theorem dX5_coarse_375 : decode cX5_coarse 375 = .ok (.iload 9, 2) := by decide +kernel
theorem dX5_coarse_377 : decode cX5_coarse 377 = .ok (.ifCond .ne 10, 3) := by decide +kernel
theorem dX5_coarse_380 : decode cX5_coarse 380 = .ok (.iload 11, 2) := by decide +kernel
theorem dX5_coarse_382 : decode cX5_coarse 382 = .ok (.ldc 237, 2) := by decide +kernel
theorem dX5_coarse_384 : decode cX5_coarse 384 = .ok (.if_icmp .ne 7, 3) := by decide +kernel
theorem dX5_coarse_387 : decode cX5_coarse 387 = .ok (.iconst 1, 1) := by decide +kernel
theorem dX5_coarse_388 : decode cX5_coarse 388 = .ok (.goto 4, 3) := by decide +kernel
theorem dX5_coarse_391 : decode cX5_coarse 391 = .ok (.iconst 0, 1) := by decide +kernel
theorem dX5_coarse_392 : decode cX5_coarse 392 = .ok (.istore 9, 2) := by decide +kernel
theorem dX5_coarse_394 : decode cX5_coarse 394 = .ok (.lload 7, 2) := by decide +kernel
theorem dX5_coarse_396 : decode cX5_coarse 396 = .ok (.iload 11, 2) := by decide +kernel
theorem dX5_coarse_398 : decode cX5_coarse 398 = .ok (.i2l, 1) := by decide +kernel
theorem dX5_coarse_399 : decode cX5_coarse 399 = .ok (.ladd, 1) := by decide +kernel
theorem dX5_coarse_400 : decode cX5_coarse 400 = .ok (.lstore 7, 2) := by decide +kernel
theorem dX5_coarse_402 : decode cX5_coarse 402 = .ok (.iinc 10 1, 3) := by decide +kernel
theorem dX5_coarse_405 : decode cX5_coarse 405 = .ok (.goto (-65), 3) := by decide +kernel
theorem dX5_coarse_408 : decode cX5_coarse 408 = .ok (.iload 4, 2) := by decide +kernel
theorem dX5_coarse_410 : decode cX5_coarse 410 = .ok (.iload 9, 2) := by decide +kernel
theorem dX5_coarse_412 : decode cX5_coarse 412 = .ok (.ifCond .ne 34, 3) := by decide +kernel
theorem dX5_coarse_415 : decode cX5_coarse 415 = .ok (.aload_n 0, 1) := by decide +kernel
theorem dX5_coarse_416 : decode cX5_coarse 416 = .ok (.getfield 87, 3) := by decide +kernel
theorem dX5_coarse_419 : decode cX5_coarse 419 = .ok (.iload_n 1, 1) := by decide +kernel
theorem dX5_coarse_420 : decode cX5_coarse 420 = .ok (.iload 5, 2) := by decide +kernel
theorem dX5_coarse_422 : decode cX5_coarse 422 = .ok (.iload_n 2, 1) := by decide +kernel
theorem dX5_coarse_423 : decode cX5_coarse 423 = .ok (.invokestatic 217, 3) := by decide +kernel
theorem dX5_coarse_426 : decode cX5_coarse 426 = .ok (.iaload, 1) := by decide +kernel
theorem dX5_coarse_427 : decode cX5_coarse 427 = .ok (.i2l, 1) := by decide +kernel
theorem dX5_coarse_428 : decode cX5_coarse 428 = .ok (.lload 7, 2) := by decide +kernel
theorem dX5_coarse_430 : decode cX5_coarse 430 = .ok (.ldc2_w 206, 3) := by decide +kernel
theorem dX5_coarse_433 : decode cX5_coarse 433 = .ok (.invokestatic 238, 3) := by decide +kernel
theorem dX5_coarse_436 : decode cX5_coarse 436 = .ok (.lsub, 1) := by decide +kernel
theorem dX5_coarse_437 : decode cX5_coarse 437 = .ok (.invokestatic 231, 3) := by decide +kernel
theorem dX5_coarse_440 : decode cX5_coarse 440 = .ok (.iload_n 3, 1) := by decide +kernel
theorem dX5_coarse_441 : decode cX5_coarse 441 = .ok (.i2l, 1) := by decide +kernel
theorem dX5_coarse_442 : decode cX5_coarse 442 = .ok (.lcmp, 1) := by decide +kernel
theorem dX5_coarse_443 : decode cX5_coarse 443 = .ok (.ifCond .le 7, 3) := by decide +kernel
theorem dX5_coarse_446 : decode cX5_coarse 446 = .ok (.iconst 1, 1) := by decide +kernel
theorem dX5_coarse_447 : decode cX5_coarse 447 = .ok (.goto 4, 3) := by decide +kernel
theorem dX5_coarse_450 : decode cX5_coarse 450 = .ok (.iconst 0, 1) := by decide +kernel
theorem dX5_coarse_451 : decode cX5_coarse 451 = .ok (.iadd, 1) := by decide +kernel
theorem dX5_coarse_452 : decode cX5_coarse 452 = .ok (.istore 4, 2) := by decide +kernel
theorem dX5_coarse_454 : decode cX5_coarse 454 = .ok (.iinc 5 1, 3) := by decide +kernel
theorem dX5_coarse_457 : decode cX5_coarse 457 = .ok (.goto (-187), 3) := by decide +kernel
theorem dX5_coarse_460 : decode cX5_coarse 460 = .ok (.iload 4, 2) := by decide +kernel
theorem dX5_coarse_462 : decode cX5_coarse 462 = .ok (.ireturn, 1) := by decide +kernel
def tb_X5_coarse (S_X5_in S_X5_isLetter S_X5_hall S_X5_cells S_X5_place S_X5_down S_X5_steps S_X5_downLong S_X5_size : ma_Cs) : Nat → ma_In := fun pc =>
 (if pc < 226 then
 (if pc < 110 then
 (if pc < 57 then
 (if pc < 32 then
 (if pc < 16 then
 (if pc < 6 then
 (if pc < 2 then
 (if pc < 1 then
 (if pc = 0 then in_ild 1 1 else in_no) else
 (if pc = 1 then in_il (fun x => x.toInt64) 2 else in_no)) else
 (if pc < 3 then
 (if pc = 2 then in_push (.long 1) 3 else in_no) else
 (if pc = 3 then in_push (.long 12) 6 else in_no))) else
 (if pc < 12 then
 (if pc < 9 then
 (if pc = 6 then in_s3 S_X5_in 9 else in_no) else
 (if pc = 9 then in_if1 (fun x => x = 0) 31 12 else in_no)) else
 (if pc < 13 then
 (if pc = 12 then in_ild 2 13 else in_no) else
 (if pc = 13 then in_s1 S_X5_isLetter 16 else in_no)))) else
 (if pc < 22 then
 (if pc < 20 then
 (if pc < 19 then
 (if pc = 16 then in_if1 (fun x => x = 0) 31 19 else in_no) else
 (if pc = 19 then in_ild 3 20 else in_no)) else
 (if pc < 21 then
 (if pc = 20 then in_il (fun x => x.toInt64) 21 else in_no) else
 (if pc = 21 then in_push (.long 0) 22 else in_no))) else
 (if pc < 28 then
 (if pc < 25 then
 (if pc = 22 then in_push (.long 1000000) 25 else in_no) else
 (if pc = 25 then in_s3 S_X5_in 28 else in_no)) else
 (if pc < 31 then
 (if pc = 28 then in_if1 (fun x => x = 0) 31 33 else in_no) else
 (if pc = 31 then in_push (.int (-1)) 32 else in_no))))) else
 (if pc < 44 then
 (if pc < 38 then
 (if pc < 34 then
 (if pc < 33 then
 (if pc = 32 then in_ri else in_no) else
 (if pc = 33 then in_ald 0 34 else in_no)) else
 (if pc < 37 then
 (if pc = 34 then in_get YM 5 0 37 else in_no) else
 (if pc = 37 then in_push (.int 2) 38 else in_no))) else
 (if pc < 40 then
 (if pc < 39 then
 (if pc = 38 then in_idv (fun x y => x - x / y * y) 39 else in_no) else
 (if pc = 39 then in_push (.int 1) 40 else in_no)) else
 (if pc < 43 then
 (if pc = 40 then in_if2 (fun x y => x = y) 53 43 else in_no) else
 (if pc = 43 then in_ald 0 44 else in_no)))) else
 (if pc < 50 then
 (if pc < 48 then
 (if pc < 47 then
 (if pc = 44 then in_get YM 5 1 47 else in_no) else
 (if pc = 47 then in_push (.int 2) 48 else in_no)) else
 (if pc < 49 then
 (if pc = 48 then in_idv (fun x y => x - x / y * y) 49 else in_no) else
 (if pc = 49 then in_push (.int 1) 50 else in_no))) else
 (if pc < 55 then
 (if pc < 53 then
 (if pc = 50 then in_if2 (fun x y => x = y) 53 56 else in_no) else
 (if pc = 53 then in_push (.int (-2)) 55 else in_no)) else
 (if pc < 56 then
 (if pc = 55 then in_ri else in_no) else
 (if pc = 56 then in_ald 0 57 else in_no)))))) else
 (if pc < 86 then
 (if pc < 71 then
 (if pc < 65 then
 (if pc < 61 then
 (if pc < 58 then
 (if pc = 57 then in_ald 0 58 else in_no) else
 (if pc = 58 then in_get YM 5 37 61 else in_no)) else
 (if pc < 62 then
 (if pc = 61 then in_push (.int 0) 62 else in_no) else
 (if pc = 62 then in_v3 YM 5 S_X5_hall 65 else in_no))) else
 (if pc < 68 then
 (if pc < 66 then
 (if pc = 65 then in_push (.int 0) 66 else in_no) else
 (if pc = 66 then in_ist 4 68 else in_no)) else
 (if pc < 70 then
 (if pc = 68 then in_ild 4 70 else in_no) else
 (if pc = 70 then in_ald 0 71 else in_no)))) else
 (if pc < 79 then
 (if pc < 77 then
 (if pc < 74 then
 (if pc = 71 then in_v1 YM 5 S_X5_cells 74 else in_no) else
 (if pc = 74 then in_if2 (fun x y => y ≤ x) 235 77 else in_no)) else
 (if pc < 78 then
 (if pc = 77 then in_push (.int 2) 78 else in_no) else
 (if pc = 78 then in_ald 0 79 else in_no))) else
 (if pc < 83 then
 (if pc < 82 then
 (if pc = 79 then in_get YM 5 0 82 else in_no) else
 (if pc = 82 then in_iii (fun x y => x * y) 83 else in_no)) else
 (if pc < 85 then
 (if pc = 83 then in_ild 4 85 else in_no) else
 (if pc = 85 then in_ald 0 86 else in_no))))) else
 (if pc < 97 then
 (if pc < 92 then
 (if pc < 90 then
 (if pc < 89 then
 (if pc = 86 then in_get YM 5 0 89 else in_no) else
 (if pc = 89 then in_push (.int 2) 90 else in_no)) else
 (if pc < 91 then
 (if pc = 90 then in_idv (fun x y => x / y) 91 else in_no) else
 (if pc = 91 then in_idv (fun x y => x / y) 92 else in_no))) else
 (if pc < 94 then
 (if pc < 93 then
 (if pc = 92 then in_iii (fun x y => x * y) 93 else in_no) else
 (if pc = 93 then in_push (.int 2) 94 else in_no)) else
 (if pc < 96 then
 (if pc = 94 then in_ild 4 96 else in_no) else
 (if pc = 96 then in_ald 0 97 else in_no)))) else
 (if pc < 103 then
 (if pc < 101 then
 (if pc < 100 then
 (if pc = 97 then in_get YM 5 0 100 else in_no) else
 (if pc = 100 then in_push (.int 2) 101 else in_no)) else
 (if pc < 102 then
 (if pc = 101 then in_idv (fun x y => x / y) 102 else in_no) else
 (if pc = 102 then in_idv (fun x y => x - x / y * y) 103 else in_no))) else
 (if pc < 105 then
 (if pc < 104 then
 (if pc = 103 then in_iii (fun x y => x * y) 104 else in_no) else
 (if pc = 104 then in_iii (fun x y => x + y) 105 else in_no)) else
 (if pc < 107 then
 (if pc = 105 then in_ist 5 107 else in_no) else
 (if pc < 108 then
 (if pc = 107 then in_push (.int 0) 108 else in_no) else
 (if pc = 108 then in_ist 6 110 else in_no)))))))) else
 (if pc < 166 then
 (if pc < 140 then
 (if pc < 124 then
 (if pc < 118 then
 (if pc < 113 then
 (if pc < 112 then
 (if pc = 110 then in_ild 6 112 else in_no) else
 (if pc = 112 then in_push (.int 4) 113 else in_no)) else
 (if pc < 116 then
 (if pc = 113 then in_if2 (fun x y => y ≤ x) 229 116 else in_no) else
 (if pc = 116 then in_ild 4 118 else in_no))) else
 (if pc < 122 then
 (if pc < 119 then
 (if pc = 118 then in_ald 0 119 else in_no) else
 (if pc = 119 then in_v1 YM 5 S_X5_cells 122 else in_no)) else
 (if pc < 123 then
 (if pc = 122 then in_push (.int 4) 123 else in_no) else
 (if pc = 123 then in_idv (fun x y => x / y) 124 else in_no)))) else
 (if pc < 132 then
 (if pc < 128 then
 (if pc < 127 then
 (if pc = 124 then in_if2 (fun x y => y ≤ x) 229 127 else in_no) else
 (if pc = 127 then in_ald 0 128 else in_no)) else
 (if pc < 131 then
 (if pc = 128 then in_get YM 5 37 131 else in_no) else
 (if pc = 131 then in_push (.int 0) 132 else in_no))) else
 (if pc < 136 then
 (if pc < 134 then
 (if pc = 132 then in_ild 5 134 else in_no) else
 (if pc = 134 then in_ild 6 136 else in_no)) else
 (if pc < 139 then
 (if pc = 136 then in_s3 S_X5_place 139 else in_no) else
 (if pc = 139 then in_iar YM 140 else in_no))))) else
 (if pc < 152 then
 (if pc < 146 then
 (if pc < 142 then
 (if pc < 141 then
 (if pc = 140 then in_il (fun x => x.toInt64) 141 else in_no) else
 (if pc = 141 then in_ald 0 142 else in_no)) else
 (if pc < 145 then
 (if pc = 142 then in_get YM 5 37 145 else in_no) else
 (if pc = 145 then in_push (.int 0) 146 else in_no))) else
 (if pc < 149 then
 (if pc < 148 then
 (if pc = 146 then in_ild 5 148 else in_no) else
 (if pc = 148 then in_push (.int 1) 149 else in_no)) else
 (if pc < 150 then
 (if pc = 149 then in_iii (fun x y => x + y) 150 else in_no) else
 (if pc = 150 then in_ild 6 152 else in_no)))) else
 (if pc < 158 then
 (if pc < 156 then
 (if pc < 155 then
 (if pc = 152 then in_s3 S_X5_place 155 else in_no) else
 (if pc = 155 then in_iar YM 156 else in_no)) else
 (if pc < 157 then
 (if pc = 156 then in_il (fun x => x.toInt64) 157 else in_no) else
 (if pc = 157 then in_lll (fun x y => x + y) 158 else in_no))) else
 (if pc < 162 then
 (if pc < 159 then
 (if pc = 158 then in_ald 0 159 else in_no) else
 (if pc = 159 then in_get YM 5 37 162 else in_no)) else
 (if pc < 163 then
 (if pc = 162 then in_push (.int 0) 163 else in_no) else
 (if pc < 165 then
 (if pc = 163 then in_ild 5 165 else in_no) else
 (if pc = 165 then in_ald 0 166 else in_no))))))) else
 (if pc < 192 then
 (if pc < 179 then
 (if pc < 175 then
 (if pc < 170 then
 (if pc < 169 then
 (if pc = 166 then in_get YM 5 0 169 else in_no) else
 (if pc = 169 then in_iii (fun x y => x + y) 170 else in_no)) else
 (if pc < 172 then
 (if pc = 170 then in_ild 6 172 else in_no) else
 (if pc = 172 then in_s3 S_X5_place 175 else in_no))) else
 (if pc < 177 then
 (if pc < 176 then
 (if pc = 175 then in_iar YM 176 else in_no) else
 (if pc = 176 then in_il (fun x => x.toInt64) 177 else in_no)) else
 (if pc < 178 then
 (if pc = 177 then in_lll (fun x y => x + y) 178 else in_no) else
 (if pc = 178 then in_ald 0 179 else in_no)))) else
 (if pc < 186 then
 (if pc < 183 then
 (if pc < 182 then
 (if pc = 179 then in_get YM 5 37 182 else in_no) else
 (if pc = 182 then in_push (.int 0) 183 else in_no)) else
 (if pc < 185 then
 (if pc = 183 then in_ild 5 185 else in_no) else
 (if pc = 185 then in_ald 0 186 else in_no))) else
 (if pc < 190 then
 (if pc < 189 then
 (if pc = 186 then in_get YM 5 0 189 else in_no) else
 (if pc = 189 then in_iii (fun x y => x + y) 190 else in_no)) else
 (if pc < 191 then
 (if pc = 190 then in_push (.int 1) 191 else in_no) else
 (if pc = 191 then in_iii (fun x y => x + y) 192 else in_no))))) else
 (if pc < 206 then
 (if pc < 199 then
 (if pc < 197 then
 (if pc < 194 then
 (if pc = 192 then in_ild 6 194 else in_no) else
 (if pc = 194 then in_s3 S_X5_place 197 else in_no)) else
 (if pc < 198 then
 (if pc = 197 then in_iar YM 198 else in_no) else
 (if pc = 198 then in_il (fun x => x.toInt64) 199 else in_no))) else
 (if pc < 202 then
 (if pc < 200 then
 (if pc = 199 then in_lll (fun x y => x + y) 200 else in_no) else
 (if pc = 200 then in_lst 7 202 else in_no)) else
 (if pc < 203 then
 (if pc = 202 then in_ald 0 203 else in_no) else
 (if pc = 203 then in_get YM 5 38 206 else in_no)))) else
 (if pc < 214 then
 (if pc < 209 then
 (if pc < 207 then
 (if pc = 206 then in_push (.int 0) 207 else in_no) else
 (if pc = 207 then in_ild 4 209 else in_no)) else
 (if pc < 211 then
 (if pc = 209 then in_ild 6 211 else in_no) else
 (if pc = 211 then in_s3 S_X5_place 214 else in_no))) else
 (if pc < 219 then
 (if pc < 216 then
 (if pc = 214 then in_lld 7 216 else in_no) else
 (if pc = 216 then in_push (.long 4) 219 else in_no)) else
 (if pc < 222 then
 (if pc = 219 then in_s2 S_X5_down 222 else in_no) else
 (if pc < 223 then
 (if pc = 222 then in_iaw YM 223 else in_no) else
 (if pc = 223 then in_inc 6 1 226 else in_no))))))))) else
 (if pc < 342 then
 (if pc < 286 then
 (if pc < 256 then
 (if pc < 242 then
 (if pc < 236 then
 (if pc < 232 then
 (if pc < 229 then
 (if pc = 226 then in_go 110 else in_no) else
 (if pc = 229 then in_inc 4 1 232 else in_no)) else
 (if pc < 235 then
 (if pc = 232 then in_go 68 else in_no) else
 (if pc = 235 then in_ald 0 236 else in_no))) else
 (if pc < 240 then
 (if pc < 237 then
 (if pc = 236 then in_ald 0 237 else in_no) else
 (if pc = 237 then in_get YM 5 0 240 else in_no)) else
 (if pc < 241 then
 (if pc = 240 then in_push (.int 2) 241 else in_no) else
 (if pc = 241 then in_idv (fun x y => x / y) 242 else in_no)))) else
 (if pc < 250 then
 (if pc < 246 then
 (if pc < 245 then
 (if pc = 242 then in_put YM 5 35 245 else in_no) else
 (if pc = 245 then in_ald 0 246 else in_no)) else
 (if pc < 247 then
 (if pc = 246 then in_ald 0 247 else in_no) else
 (if pc = 247 then in_get YM 5 1 250 else in_no))) else
 (if pc < 252 then
 (if pc < 251 then
 (if pc = 250 then in_push (.int 2) 251 else in_no) else
 (if pc = 251 then in_idv (fun x y => x / y) 252 else in_no)) else
 (if pc < 255 then
 (if pc = 252 then in_put YM 5 36 255 else in_no) else
 (if pc = 255 then in_ald 0 256 else in_no))))) else
 (if pc < 270 then
 (if pc < 264 then
 (if pc < 260 then
 (if pc < 257 then
 (if pc = 256 then in_ald 0 257 else in_no) else
 (if pc = 257 then in_get YM 5 38 260 else in_no)) else
 (if pc < 261 then
 (if pc = 260 then in_push (.int 0) 261 else in_no) else
 (if pc = 261 then in_v3 YM 5 S_X5_steps 264 else in_no))) else
 (if pc < 267 then
 (if pc < 265 then
 (if pc = 264 then in_push (.int 0) 265 else in_no) else
 (if pc = 265 then in_ist 4 267 else in_no)) else
 (if pc < 268 then
 (if pc = 267 then in_push (.int 0) 268 else in_no) else
 (if pc = 268 then in_ist 5 270 else in_no)))) else
 (if pc < 277 then
 (if pc < 273 then
 (if pc < 272 then
 (if pc = 270 then in_ild 5 272 else in_no) else
 (if pc = 272 then in_ald 0 273 else in_no)) else
 (if pc < 276 then
 (if pc = 273 then in_get YM 5 35 276 else in_no) else
 (if pc = 276 then in_ald 0 277 else in_no))) else
 (if pc < 281 then
 (if pc < 280 then
 (if pc = 277 then in_get YM 5 36 280 else in_no) else
 (if pc = 280 then in_iii (fun x y => x * y) 281 else in_no)) else
 (if pc < 284 then
 (if pc = 281 then in_if2 (fun x y => y ≤ x) 460 284 else in_no) else
 (if pc < 285 then
 (if pc = 284 then in_push (.int 2) 285 else in_no) else
 (if pc = 285 then in_ald 0 286 else in_no))))))) else
 (if pc < 311 then
 (if pc < 299 then
 (if pc < 293 then
 (if pc < 290 then
 (if pc < 289 then
 (if pc = 286 then in_get YM 5 0 289 else in_no) else
 (if pc = 289 then in_iii (fun x y => x * y) 290 else in_no)) else
 (if pc < 292 then
 (if pc = 290 then in_ild 5 292 else in_no) else
 (if pc = 292 then in_ald 0 293 else in_no))) else
 (if pc < 297 then
 (if pc < 296 then
 (if pc = 293 then in_get YM 5 35 296 else in_no) else
 (if pc = 296 then in_idv (fun x y => x / y) 297 else in_no)) else
 (if pc < 298 then
 (if pc = 297 then in_iii (fun x y => x * y) 298 else in_no) else
 (if pc = 298 then in_push (.int 2) 299 else in_no)))) else
 (if pc < 306 then
 (if pc < 302 then
 (if pc < 301 then
 (if pc = 299 then in_ild 5 301 else in_no) else
 (if pc = 301 then in_ald 0 302 else in_no)) else
 (if pc < 305 then
 (if pc = 302 then in_get YM 5 35 305 else in_no) else
 (if pc = 305 then in_idv (fun x y => x - x / y * y) 306 else in_no))) else
 (if pc < 308 then
 (if pc < 307 then
 (if pc = 306 then in_iii (fun x y => x * y) 307 else in_no) else
 (if pc = 307 then in_iii (fun x y => x + y) 308 else in_no)) else
 (if pc < 310 then
 (if pc = 308 then in_ist 6 310 else in_no) else
 (if pc = 310 then in_push (.long 0) 311 else in_no))))) else
 (if pc < 325 then
 (if pc < 318 then
 (if pc < 314 then
 (if pc < 313 then
 (if pc = 311 then in_lst 7 313 else in_no) else
 (if pc = 313 then in_ald 0 314 else in_no)) else
 (if pc < 317 then
 (if pc = 314 then in_get YM 5 38 317 else in_no) else
 (if pc = 317 then in_ild 1 318 else in_no))) else
 (if pc < 321 then
 (if pc < 320 then
 (if pc = 318 then in_ild 5 320 else in_no) else
 (if pc = 320 then in_ild 2 321 else in_no)) else
 (if pc < 324 then
 (if pc = 321 then in_s3 S_X5_place 324 else in_no) else
 (if pc = 324 then in_iar YM 325 else in_no)))) else
 (if pc < 334 then
 (if pc < 330 then
 (if pc < 327 then
 (if pc = 325 then in_push (.int 2000000000) 327 else in_no) else
 (if pc = 327 then in_if2 (fun x y => x = y) 330 334 else in_no)) else
 (if pc < 331 then
 (if pc = 330 then in_push (.int 1) 331 else in_no) else
 (if pc = 331 then in_go 335 else in_no))) else
 (if pc < 337 then
 (if pc < 335 then
 (if pc = 334 then in_push (.int 0) 335 else in_no) else
 (if pc = 335 then in_ist 9 337 else in_no)) else
 (if pc < 338 then
 (if pc = 337 then in_push (.int 0) 338 else in_no) else
 (if pc < 340 then
 (if pc = 338 then in_ist 10 340 else in_no) else
 (if pc = 340 then in_ild 10 342 else in_no)))))))) else
 (if pc < 399 then
 (if pc < 367 then
 (if pc < 356 then
 (if pc < 350 then
 (if pc < 346 then
 (if pc < 343 then
 (if pc = 342 then in_push (.int 4) 343 else in_no) else
 (if pc = 343 then in_if2 (fun x y => y ≤ x) 408 346 else in_no)) else
 (if pc < 347 then
 (if pc = 346 then in_ald 0 347 else in_no) else
 (if pc = 347 then in_get YM 5 37 350 else in_no))) else
 (if pc < 353 then
 (if pc < 351 then
 (if pc = 350 then in_ild 1 351 else in_no) else
 (if pc = 351 then in_ild 6 353 else in_no)) else
 (if pc < 355 then
 (if pc = 353 then in_ild 10 355 else in_no) else
 (if pc = 355 then in_push (.int 2) 356 else in_no)))) else
 (if pc < 362 then
 (if pc < 358 then
 (if pc < 357 then
 (if pc = 356 then in_idv (fun x y => x - x / y * y) 357 else in_no) else
 (if pc = 357 then in_iii (fun x y => x + y) 358 else in_no)) else
 (if pc < 359 then
 (if pc = 358 then in_ald 0 359 else in_no) else
 (if pc = 359 then in_get YM 5 0 362 else in_no))) else
 (if pc < 365 then
 (if pc < 364 then
 (if pc = 362 then in_ild 10 364 else in_no) else
 (if pc = 364 then in_push (.int 2) 365 else in_no)) else
 (if pc < 366 then
 (if pc = 365 then in_idv (fun x y => x / y) 366 else in_no) else
 (if pc = 366 then in_iii (fun x y => x * y) 367 else in_no))))) else
 (if pc < 382 then
 (if pc < 373 then
 (if pc < 369 then
 (if pc < 368 then
 (if pc = 367 then in_iii (fun x y => x + y) 368 else in_no) else
 (if pc = 368 then in_ild 2 369 else in_no)) else
 (if pc < 372 then
 (if pc = 369 then in_s3 S_X5_place 372 else in_no) else
 (if pc = 372 then in_iar YM 373 else in_no))) else
 (if pc < 377 then
 (if pc < 375 then
 (if pc = 373 then in_ist 11 375 else in_no) else
 (if pc = 375 then in_ild 9 377 else in_no)) else
 (if pc < 380 then
 (if pc = 377 then in_if1 (fun x => x = 0) 380 387 else in_no) else
 (if pc = 380 then in_ild 11 382 else in_no)))) else
 (if pc < 391 then
 (if pc < 387 then
 (if pc < 384 then
 (if pc = 382 then in_push (.int 2000000000) 384 else in_no) else
 (if pc = 384 then in_if2 (fun x y => x = y) 387 391 else in_no)) else
 (if pc < 388 then
 (if pc = 387 then in_push (.int 1) 388 else in_no) else
 (if pc = 388 then in_go 392 else in_no))) else
 (if pc < 394 then
 (if pc < 392 then
 (if pc = 391 then in_push (.int 0) 392 else in_no) else
 (if pc = 392 then in_ist 9 394 else in_no)) else
 (if pc < 396 then
 (if pc = 394 then in_lld 7 396 else in_no) else
 (if pc < 398 then
 (if pc = 396 then in_ild 11 398 else in_no) else
 (if pc = 398 then in_il (fun x => x.toInt64) 399 else in_no))))))) else
 (if pc < 430 then
 (if pc < 416 then
 (if pc < 408 then
 (if pc < 402 then
 (if pc < 400 then
 (if pc = 399 then in_lll (fun x y => x + y) 400 else in_no) else
 (if pc = 400 then in_lst 7 402 else in_no)) else
 (if pc < 405 then
 (if pc = 402 then in_inc 10 1 405 else in_no) else
 (if pc = 405 then in_go 340 else in_no))) else
 (if pc < 412 then
 (if pc < 410 then
 (if pc = 408 then in_ild 4 410 else in_no) else
 (if pc = 410 then in_ild 9 412 else in_no)) else
 (if pc < 415 then
 (if pc = 412 then in_if1 (fun x => x = 0) 415 446 else in_no) else
 (if pc = 415 then in_ald 0 416 else in_no)))) else
 (if pc < 423 then
 (if pc < 420 then
 (if pc < 419 then
 (if pc = 416 then in_get YM 5 38 419 else in_no) else
 (if pc = 419 then in_ild 1 420 else in_no)) else
 (if pc < 422 then
 (if pc = 420 then in_ild 5 422 else in_no) else
 (if pc = 422 then in_ild 2 423 else in_no))) else
 (if pc < 427 then
 (if pc < 426 then
 (if pc = 423 then in_s3 S_X5_place 426 else in_no) else
 (if pc = 426 then in_iar YM 427 else in_no)) else
 (if pc < 428 then
 (if pc = 427 then in_il (fun x => x.toInt64) 428 else in_no) else
 (if pc = 428 then in_lld 7 430 else in_no))))) else
 (if pc < 446 then
 (if pc < 440 then
 (if pc < 436 then
 (if pc < 433 then
 (if pc = 430 then in_push (.long 4) 433 else in_no) else
 (if pc = 433 then in_s2 S_X5_downLong 436 else in_no)) else
 (if pc < 437 then
 (if pc = 436 then in_lll (fun x y => x - y) 437 else in_no) else
 (if pc = 437 then in_s1 S_X5_size 440 else in_no))) else
 (if pc < 442 then
 (if pc < 441 then
 (if pc = 440 then in_ild 3 441 else in_no) else
 (if pc = 441 then in_il (fun x => x.toInt64) 442 else in_no)) else
 (if pc < 443 then
 (if pc = 442 then in_lli lg_cmp 443 else in_no) else
 (if pc = 443 then in_if1 (fun x => x ≤ 0) 450 446 else in_no)))) else
 (if pc < 452 then
 (if pc < 450 then
 (if pc < 447 then
 (if pc = 446 then in_push (.int 1) 447 else in_no) else
 (if pc = 447 then in_go 451 else in_no)) else
 (if pc < 451 then
 (if pc = 450 then in_push (.int 0) 451 else in_no) else
 (if pc = 451 then in_iii (fun x y => x + y) 452 else in_no))) else
 (if pc < 457 then
 (if pc < 454 then
 (if pc = 452 then in_ist 4 454 else in_no) else
 (if pc = 454 then in_inc 5 1 457 else in_no)) else
 (if pc < 460 then
 (if pc = 457 then in_go 270 else in_no) else
 (if pc < 462 then
 (if pc = 460 then in_ild 4 462 else in_no) else
 (if pc = 462 then in_ri else in_no))))))))))
theorem tk_X5_coarse {l : Launch} {w : ma_Wd} {NC : Nat} {A : Nat → Prop} {S_X5_in S_X5_isLetter S_X5_hall S_X5_cells S_X5_place S_X5_down S_X5_steps S_X5_downLong S_X5_size : ma_Cs} (h_X5_in : ma_Sd l w YM NC A yX5_in cX5_in 6 (some .boolean) rm_X5_in S_X5_in) (h_X5_isLetter : ma_Sd l w YM NC A yX5_isLetter cX5_isLetter 1 (some .boolean) rm_X5_isLetter S_X5_isLetter) (h_X5_hall : ma_Sd l w YM NC A yX5_hall cX5_hall 5 none rm_X5_hall S_X5_hall) (h_X5_cells : ma_Sd l w YM NC A yX5_cells cX5_cells 1 (some .int) rm_X5_cells S_X5_cells) (h_X5_place : ma_Sd l w YM NC A yX5_place cX5_place 3 (some .int) rm_X5_place S_X5_place) (h_X5_down : ma_Sd l w YM NC A yX5_down cX5_down 4 (some .int) rm_X5_down S_X5_down) (h_X5_steps : ma_Sd l w YM NC A yX5_steps cX5_steps 8 none rm_X5_steps S_X5_steps) (h_X5_downLong : ma_Sd l w YM NC A yX5_downLong cX5_downLong 4 (some .long) rm_X5_downLong S_X5_downLong) (h_X5_size : ma_Sd l w YM NC A yX5_size cX5_size 2 (some .long) rm_X5_size S_X5_size) {p : Program} {e : Env} {s : State} {m : MethodId} {args : Array Value} {below : List Frame} {meth : Method} {c : Code} (X : ma_Cx p s m args meth c w YM NC A yX5_coarse.cls cX5_coarse 12 (some .int)) : ∀ pc, ma_Ok p l e rm_X5_coarse s m args below meth c w YM NC A 12 pc (tb_X5_coarse S_X5_in S_X5_isLetter S_X5_hall S_X5_cells S_X5_place S_X5_down S_X5_steps S_X5_downLong S_X5_size pc) := fun pc =>
 (mk_lt
 (mk_lt
 (mk_lt
 (mk_lt
 (mk_lt
 (mk_lt
 (mk_lt
 (mk_lt
 (mk_eq (mk_iload_n X dX5_coarse_0 rfl rfl))
 (mk_eq (mk_i2l X dX5_coarse_1 rfl)))
 (mk_lt
 (mk_eq (mk_lconst X dX5_coarse_2 rfl rfl))
 (mk_eq (mk_ldc2 X dX5_coarse_3 q989 rfl))))
 (mk_lt
 (mk_lt
 (mk_eq (mk_S3 X h_X5_in (lw_S q892 q893 q66 q894) ⟨by decide, by decide, rfl⟩ ⟨(Nat.le_of_ble_eq_true rfl), (Nat.le_of_ble_eq_true rfl)⟩ dX5_coarse_6 rfl))
 (mk_eq (mk_ifeq X dX5_coarse_9 rfl rfl)))
 (mk_lt
 (mk_eq (mk_iload_n X dX5_coarse_12 rfl rfl))
 (mk_eq (mk_S1 X h_X5_isLetter (lw_S q908 q909 q66 q910) ⟨by decide, by decide, rfl⟩ ⟨(Nat.le_of_ble_eq_true rfl), (Nat.le_of_ble_eq_true rfl)⟩ dX5_coarse_13 rfl)))))
 (mk_lt
 (mk_lt
 (mk_lt
 (mk_eq (mk_ifeq X dX5_coarse_16 rfl rfl))
 (mk_eq (mk_iload_n X dX5_coarse_19 rfl rfl)))
 (mk_lt
 (mk_eq (mk_i2l X dX5_coarse_20 rfl))
 (mk_eq (mk_lconst X dX5_coarse_21 rfl rfl))))
 (mk_lt
 (mk_lt
 (mk_eq (mk_ldc2 X dX5_coarse_22 q913 rfl))
 (mk_eq (mk_S3 X h_X5_in (lw_S q892 q893 q66 q894) ⟨by decide, by decide, rfl⟩ ⟨(Nat.le_of_ble_eq_true rfl), (Nat.le_of_ble_eq_true rfl)⟩ dX5_coarse_25 rfl)))
 (mk_lt
 (mk_eq (mk_ifne X dX5_coarse_28 rfl rfl))
 (mk_eq (mk_iconst X dX5_coarse_31 rfl rfl))))))
 (mk_lt
 (mk_lt
 (mk_lt
 (mk_lt
 (mk_eq (mk_ri X dX5_coarse_32))
 (mk_eq (mk_aload_n X dX5_coarse_33 rfl rfl)))
 (mk_lt
 (mk_eq (mk_get X (ci := 5) (j := 0) rfl in_X5 (Nat.le_of_ble_eq_true rfl) q747 dX5_coarse_34 rfl))
 (mk_eq (mk_iconst X dX5_coarse_37 rfl rfl))))
 (mk_lt
 (mk_lt
 (mk_eq (mk_irem X dX5_coarse_38 rfl))
 (mk_eq (mk_iconst X dX5_coarse_39 rfl rfl)))
 (mk_lt
 (mk_eq (mk_iceq X dX5_coarse_40 rfl rfl))
 (mk_eq (mk_aload_n X dX5_coarse_43 rfl rfl)))))
 (mk_lt
 (mk_lt
 (mk_lt
 (mk_eq (mk_get X (ci := 5) (j := 1) rfl in_X5 (Nat.le_of_ble_eq_true rfl) q748 dX5_coarse_44 rfl))
 (mk_eq (mk_iconst X dX5_coarse_47 rfl rfl)))
 (mk_lt
 (mk_eq (mk_irem X dX5_coarse_48 rfl))
 (mk_eq (mk_iconst X dX5_coarse_49 rfl rfl))))
 (mk_lt
 (mk_lt
 (mk_eq (mk_icne X dX5_coarse_50 rfl rfl))
 (mk_eq (mk_bipush X dX5_coarse_53 rfl rfl)))
 (mk_lt
 (mk_eq (mk_ri X dX5_coarse_55))
 (mk_eq (mk_aload_n X dX5_coarse_56 rfl rfl)))))))
 (mk_lt
 (mk_lt
 (mk_lt
 (mk_lt
 (mk_lt
 (mk_eq (mk_aload_n X dX5_coarse_57 rfl rfl))
 (mk_eq (mk_get X (ci := 5) (j := 37) rfl in_X5 (Nat.le_of_ble_eq_true rfl) q784 dX5_coarse_58 rfl)))
 (mk_lt
 (mk_eq (mk_iconst X dX5_coarse_61 rfl rfl))
 (mk_eq (mk_V3 X h_X5_hall (ci := 5) rfl (lw_V q995 q997 qs42 q66 q998) ⟨rfl, by decide, by decide, rfl⟩ ⟨(Nat.le_of_ble_eq_true rfl), (Nat.le_of_ble_eq_true rfl)⟩ dX5_coarse_62 rfl))))
 (mk_lt
 (mk_lt
 (mk_eq (mk_iconst X dX5_coarse_65 rfl rfl))
 (mk_eq (mk_istore X dX5_coarse_66 (Nat.le_of_ble_eq_true rfl) rfl)))
 (mk_lt
 (mk_eq (mk_iload X dX5_coarse_68 rfl))
 (mk_eq (mk_aload_n X dX5_coarse_70 rfl rfl)))))
 (mk_lt
 (mk_lt
 (mk_lt
 (mk_eq (mk_V1 X h_X5_cells (ci := 5) rfl (lw_V q895 q897 qs30 q66 q898) ⟨rfl, by decide, by decide, rfl⟩ ⟨(Nat.le_of_ble_eq_true rfl), (Nat.le_of_ble_eq_true rfl)⟩ dX5_coarse_71 rfl))
 (mk_eq (mk_icge X dX5_coarse_74 rfl rfl)))
 (mk_lt
 (mk_eq (mk_iconst X dX5_coarse_77 rfl rfl))
 (mk_eq (mk_aload_n X dX5_coarse_78 rfl rfl))))
 (mk_lt
 (mk_lt
 (mk_eq (mk_get X (ci := 5) (j := 0) rfl in_X5 (Nat.le_of_ble_eq_true rfl) q747 dX5_coarse_79 rfl))
 (mk_eq (mk_imul X dX5_coarse_82 rfl)))
 (mk_lt
 (mk_eq (mk_iload X dX5_coarse_83 rfl))
 (mk_eq (mk_aload_n X dX5_coarse_85 rfl rfl))))))
 (mk_lt
 (mk_lt
 (mk_lt
 (mk_lt
 (mk_eq (mk_get X (ci := 5) (j := 0) rfl in_X5 (Nat.le_of_ble_eq_true rfl) q747 dX5_coarse_86 rfl))
 (mk_eq (mk_iconst X dX5_coarse_89 rfl rfl)))
 (mk_lt
 (mk_eq (mk_idiv X dX5_coarse_90 rfl))
 (mk_eq (mk_idiv X dX5_coarse_91 rfl))))
 (mk_lt
 (mk_lt
 (mk_eq (mk_imul X dX5_coarse_92 rfl))
 (mk_eq (mk_iconst X dX5_coarse_93 rfl rfl)))
 (mk_lt
 (mk_eq (mk_iload X dX5_coarse_94 rfl))
 (mk_eq (mk_aload_n X dX5_coarse_96 rfl rfl)))))
 (mk_lt
 (mk_lt
 (mk_lt
 (mk_eq (mk_get X (ci := 5) (j := 0) rfl in_X5 (Nat.le_of_ble_eq_true rfl) q747 dX5_coarse_97 rfl))
 (mk_eq (mk_iconst X dX5_coarse_100 rfl rfl)))
 (mk_lt
 (mk_eq (mk_idiv X dX5_coarse_101 rfl))
 (mk_eq (mk_irem X dX5_coarse_102 rfl))))
 (mk_lt
 (mk_lt
 (mk_eq (mk_imul X dX5_coarse_103 rfl))
 (mk_eq (mk_iadd X dX5_coarse_104 rfl)))
 (mk_lt
 (mk_eq (mk_istore X dX5_coarse_105 (Nat.le_of_ble_eq_true rfl) rfl))
 (mk_lt
 (mk_eq (mk_iconst X dX5_coarse_107 rfl rfl))
 (mk_eq (mk_istore X dX5_coarse_108 (Nat.le_of_ble_eq_true rfl) rfl)))))))))
 (mk_lt
 (mk_lt
 (mk_lt
 (mk_lt
 (mk_lt
 (mk_lt
 (mk_eq (mk_iload X dX5_coarse_110 rfl))
 (mk_eq (mk_iconst X dX5_coarse_112 rfl rfl)))
 (mk_lt
 (mk_eq (mk_icge X dX5_coarse_113 rfl rfl))
 (mk_eq (mk_iload X dX5_coarse_116 rfl))))
 (mk_lt
 (mk_lt
 (mk_eq (mk_aload_n X dX5_coarse_118 rfl rfl))
 (mk_eq (mk_V1 X h_X5_cells (ci := 5) rfl (lw_V q895 q897 qs30 q66 q898) ⟨rfl, by decide, by decide, rfl⟩ ⟨(Nat.le_of_ble_eq_true rfl), (Nat.le_of_ble_eq_true rfl)⟩ dX5_coarse_119 rfl)))
 (mk_lt
 (mk_eq (mk_iconst X dX5_coarse_122 rfl rfl))
 (mk_eq (mk_idiv X dX5_coarse_123 rfl)))))
 (mk_lt
 (mk_lt
 (mk_lt
 (mk_eq (mk_icge X dX5_coarse_124 rfl rfl))
 (mk_eq (mk_aload_n X dX5_coarse_127 rfl rfl)))
 (mk_lt
 (mk_eq (mk_get X (ci := 5) (j := 37) rfl in_X5 (Nat.le_of_ble_eq_true rfl) q784 dX5_coarse_128 rfl))
 (mk_eq (mk_iconst X dX5_coarse_131 rfl rfl))))
 (mk_lt
 (mk_lt
 (mk_eq (mk_iload X dX5_coarse_132 rfl))
 (mk_eq (mk_iload X dX5_coarse_134 rfl)))
 (mk_lt
 (mk_eq (mk_S3 X h_X5_place (lw_S q999 q1000 q66 q1001) ⟨by decide, by decide, rfl⟩ ⟨(Nat.le_of_ble_eq_true rfl), (Nat.le_of_ble_eq_true rfl)⟩ dX5_coarse_136 rfl))
 (mk_eq (mk_iar X dX5_coarse_139 rfl))))))
 (mk_lt
 (mk_lt
 (mk_lt
 (mk_lt
 (mk_eq (mk_i2l X dX5_coarse_140 rfl))
 (mk_eq (mk_aload_n X dX5_coarse_141 rfl rfl)))
 (mk_lt
 (mk_eq (mk_get X (ci := 5) (j := 37) rfl in_X5 (Nat.le_of_ble_eq_true rfl) q784 dX5_coarse_142 rfl))
 (mk_eq (mk_iconst X dX5_coarse_145 rfl rfl))))
 (mk_lt
 (mk_lt
 (mk_eq (mk_iload X dX5_coarse_146 rfl))
 (mk_eq (mk_iconst X dX5_coarse_148 rfl rfl)))
 (mk_lt
 (mk_eq (mk_iadd X dX5_coarse_149 rfl))
 (mk_eq (mk_iload X dX5_coarse_150 rfl)))))
 (mk_lt
 (mk_lt
 (mk_lt
 (mk_eq (mk_S3 X h_X5_place (lw_S q999 q1000 q66 q1001) ⟨by decide, by decide, rfl⟩ ⟨(Nat.le_of_ble_eq_true rfl), (Nat.le_of_ble_eq_true rfl)⟩ dX5_coarse_152 rfl))
 (mk_eq (mk_iar X dX5_coarse_155 rfl)))
 (mk_lt
 (mk_eq (mk_i2l X dX5_coarse_156 rfl))
 (mk_eq (mk_ladd X dX5_coarse_157 rfl))))
 (mk_lt
 (mk_lt
 (mk_eq (mk_aload_n X dX5_coarse_158 rfl rfl))
 (mk_eq (mk_get X (ci := 5) (j := 37) rfl in_X5 (Nat.le_of_ble_eq_true rfl) q784 dX5_coarse_159 rfl)))
 (mk_lt
 (mk_eq (mk_iconst X dX5_coarse_162 rfl rfl))
 (mk_lt
 (mk_eq (mk_iload X dX5_coarse_163 rfl))
 (mk_eq (mk_aload_n X dX5_coarse_165 rfl rfl))))))))
 (mk_lt
 (mk_lt
 (mk_lt
 (mk_lt
 (mk_lt
 (mk_eq (mk_get X (ci := 5) (j := 0) rfl in_X5 (Nat.le_of_ble_eq_true rfl) q747 dX5_coarse_166 rfl))
 (mk_eq (mk_iadd X dX5_coarse_169 rfl)))
 (mk_lt
 (mk_eq (mk_iload X dX5_coarse_170 rfl))
 (mk_eq (mk_S3 X h_X5_place (lw_S q999 q1000 q66 q1001) ⟨by decide, by decide, rfl⟩ ⟨(Nat.le_of_ble_eq_true rfl), (Nat.le_of_ble_eq_true rfl)⟩ dX5_coarse_172 rfl))))
 (mk_lt
 (mk_lt
 (mk_eq (mk_iar X dX5_coarse_175 rfl))
 (mk_eq (mk_i2l X dX5_coarse_176 rfl)))
 (mk_lt
 (mk_eq (mk_ladd X dX5_coarse_177 rfl))
 (mk_eq (mk_aload_n X dX5_coarse_178 rfl rfl)))))
 (mk_lt
 (mk_lt
 (mk_lt
 (mk_eq (mk_get X (ci := 5) (j := 37) rfl in_X5 (Nat.le_of_ble_eq_true rfl) q784 dX5_coarse_179 rfl))
 (mk_eq (mk_iconst X dX5_coarse_182 rfl rfl)))
 (mk_lt
 (mk_eq (mk_iload X dX5_coarse_183 rfl))
 (mk_eq (mk_aload_n X dX5_coarse_185 rfl rfl))))
 (mk_lt
 (mk_lt
 (mk_eq (mk_get X (ci := 5) (j := 0) rfl in_X5 (Nat.le_of_ble_eq_true rfl) q747 dX5_coarse_186 rfl))
 (mk_eq (mk_iadd X dX5_coarse_189 rfl)))
 (mk_lt
 (mk_eq (mk_iconst X dX5_coarse_190 rfl rfl))
 (mk_eq (mk_iadd X dX5_coarse_191 rfl))))))
 (mk_lt
 (mk_lt
 (mk_lt
 (mk_lt
 (mk_eq (mk_iload X dX5_coarse_192 rfl))
 (mk_eq (mk_S3 X h_X5_place (lw_S q999 q1000 q66 q1001) ⟨by decide, by decide, rfl⟩ ⟨(Nat.le_of_ble_eq_true rfl), (Nat.le_of_ble_eq_true rfl)⟩ dX5_coarse_194 rfl)))
 (mk_lt
 (mk_eq (mk_iar X dX5_coarse_197 rfl))
 (mk_eq (mk_i2l X dX5_coarse_198 rfl))))
 (mk_lt
 (mk_lt
 (mk_eq (mk_ladd X dX5_coarse_199 rfl))
 (mk_eq (mk_lstore X dX5_coarse_200 (Nat.le_of_ble_eq_true rfl) rfl)))
 (mk_lt
 (mk_eq (mk_aload_n X dX5_coarse_202 rfl rfl))
 (mk_eq (mk_get X (ci := 5) (j := 38) rfl in_X5 (Nat.le_of_ble_eq_true rfl) q785 dX5_coarse_203 rfl)))))
 (mk_lt
 (mk_lt
 (mk_lt
 (mk_eq (mk_iconst X dX5_coarse_206 rfl rfl))
 (mk_eq (mk_iload X dX5_coarse_207 rfl)))
 (mk_lt
 (mk_eq (mk_iload X dX5_coarse_209 rfl))
 (mk_eq (mk_S3 X h_X5_place (lw_S q999 q1000 q66 q1001) ⟨by decide, by decide, rfl⟩ ⟨(Nat.le_of_ble_eq_true rfl), (Nat.le_of_ble_eq_true rfl)⟩ dX5_coarse_211 rfl))))
 (mk_lt
 (mk_lt
 (mk_eq (mk_lload X dX5_coarse_214 rfl))
 (mk_eq (mk_ldc2 X dX5_coarse_216 q968 rfl)))
 (mk_lt
 (mk_eq (mk_S2 X h_X5_down (lw_S q1010 q1011 q66 q1012) ⟨by decide, by decide, rfl⟩ ⟨(Nat.le_of_ble_eq_true rfl), (Nat.le_of_ble_eq_true rfl)⟩ dX5_coarse_219 rfl))
 (mk_lt
 (mk_eq (mk_iaw X dX5_coarse_222 rfl))
 (mk_eq (mk_iinc X dX5_coarse_223 rfl (Nat.le_of_ble_eq_true rfl) rfl))))))))))
 (mk_lt
 (mk_lt
 (mk_lt
 (mk_lt
 (mk_lt
 (mk_lt
 (mk_lt
 (mk_eq (mk_goto X dX5_coarse_226 rfl))
 (mk_eq (mk_iinc X dX5_coarse_229 rfl (Nat.le_of_ble_eq_true rfl) rfl)))
 (mk_lt
 (mk_eq (mk_goto X dX5_coarse_232 rfl))
 (mk_eq (mk_aload_n X dX5_coarse_235 rfl rfl))))
 (mk_lt
 (mk_lt
 (mk_eq (mk_aload_n X dX5_coarse_236 rfl rfl))
 (mk_eq (mk_get X (ci := 5) (j := 0) rfl in_X5 (Nat.le_of_ble_eq_true rfl) q747 dX5_coarse_237 rfl)))
 (mk_lt
 (mk_eq (mk_iconst X dX5_coarse_240 rfl rfl))
 (mk_eq (mk_idiv X dX5_coarse_241 rfl)))))
 (mk_lt
 (mk_lt
 (mk_lt
 (mk_eq (mk_put X (ci := 5) (j := 35) rfl in_X5 tyX5_ok nmX5 (Nat.le_of_ble_eq_true rfl) rfl rfl q782 dX5_coarse_242 rfl))
 (mk_eq (mk_aload_n X dX5_coarse_245 rfl rfl)))
 (mk_lt
 (mk_eq (mk_aload_n X dX5_coarse_246 rfl rfl))
 (mk_eq (mk_get X (ci := 5) (j := 1) rfl in_X5 (Nat.le_of_ble_eq_true rfl) q748 dX5_coarse_247 rfl))))
 (mk_lt
 (mk_lt
 (mk_eq (mk_iconst X dX5_coarse_250 rfl rfl))
 (mk_eq (mk_idiv X dX5_coarse_251 rfl)))
 (mk_lt
 (mk_eq (mk_put X (ci := 5) (j := 36) rfl in_X5 tyX5_ok nmX5 (Nat.le_of_ble_eq_true rfl) rfl rfl q783 dX5_coarse_252 rfl))
 (mk_eq (mk_aload_n X dX5_coarse_255 rfl rfl))))))
 (mk_lt
 (mk_lt
 (mk_lt
 (mk_lt
 (mk_eq (mk_aload_n X dX5_coarse_256 rfl rfl))
 (mk_eq (mk_get X (ci := 5) (j := 38) rfl in_X5 (Nat.le_of_ble_eq_true rfl) q785 dX5_coarse_257 rfl)))
 (mk_lt
 (mk_eq (mk_iconst X dX5_coarse_260 rfl rfl))
 (mk_eq (mk_V3 X h_X5_steps (ci := 5) rfl (lw_V q1013 q1015 qs45 q66 q1016) ⟨rfl, by decide, by decide, rfl⟩ ⟨(Nat.le_of_ble_eq_true rfl), (Nat.le_of_ble_eq_true rfl)⟩ dX5_coarse_261 rfl))))
 (mk_lt
 (mk_lt
 (mk_eq (mk_iconst X dX5_coarse_264 rfl rfl))
 (mk_eq (mk_istore X dX5_coarse_265 (Nat.le_of_ble_eq_true rfl) rfl)))
 (mk_lt
 (mk_eq (mk_iconst X dX5_coarse_267 rfl rfl))
 (mk_eq (mk_istore X dX5_coarse_268 (Nat.le_of_ble_eq_true rfl) rfl)))))
 (mk_lt
 (mk_lt
 (mk_lt
 (mk_eq (mk_iload X dX5_coarse_270 rfl))
 (mk_eq (mk_aload_n X dX5_coarse_272 rfl rfl)))
 (mk_lt
 (mk_eq (mk_get X (ci := 5) (j := 35) rfl in_X5 (Nat.le_of_ble_eq_true rfl) q782 dX5_coarse_273 rfl))
 (mk_eq (mk_aload_n X dX5_coarse_276 rfl rfl))))
 (mk_lt
 (mk_lt
 (mk_eq (mk_get X (ci := 5) (j := 36) rfl in_X5 (Nat.le_of_ble_eq_true rfl) q783 dX5_coarse_277 rfl))
 (mk_eq (mk_imul X dX5_coarse_280 rfl)))
 (mk_lt
 (mk_eq (mk_icge X dX5_coarse_281 rfl rfl))
 (mk_lt
 (mk_eq (mk_iconst X dX5_coarse_284 rfl rfl))
 (mk_eq (mk_aload_n X dX5_coarse_285 rfl rfl))))))))
 (mk_lt
 (mk_lt
 (mk_lt
 (mk_lt
 (mk_lt
 (mk_eq (mk_get X (ci := 5) (j := 0) rfl in_X5 (Nat.le_of_ble_eq_true rfl) q747 dX5_coarse_286 rfl))
 (mk_eq (mk_imul X dX5_coarse_289 rfl)))
 (mk_lt
 (mk_eq (mk_iload X dX5_coarse_290 rfl))
 (mk_eq (mk_aload_n X dX5_coarse_292 rfl rfl))))
 (mk_lt
 (mk_lt
 (mk_eq (mk_get X (ci := 5) (j := 35) rfl in_X5 (Nat.le_of_ble_eq_true rfl) q782 dX5_coarse_293 rfl))
 (mk_eq (mk_idiv X dX5_coarse_296 rfl)))
 (mk_lt
 (mk_eq (mk_imul X dX5_coarse_297 rfl))
 (mk_eq (mk_iconst X dX5_coarse_298 rfl rfl)))))
 (mk_lt
 (mk_lt
 (mk_lt
 (mk_eq (mk_iload X dX5_coarse_299 rfl))
 (mk_eq (mk_aload_n X dX5_coarse_301 rfl rfl)))
 (mk_lt
 (mk_eq (mk_get X (ci := 5) (j := 35) rfl in_X5 (Nat.le_of_ble_eq_true rfl) q782 dX5_coarse_302 rfl))
 (mk_eq (mk_irem X dX5_coarse_305 rfl))))
 (mk_lt
 (mk_lt
 (mk_eq (mk_imul X dX5_coarse_306 rfl))
 (mk_eq (mk_iadd X dX5_coarse_307 rfl)))
 (mk_lt
 (mk_eq (mk_istore X dX5_coarse_308 (Nat.le_of_ble_eq_true rfl) rfl))
 (mk_eq (mk_lconst X dX5_coarse_310 rfl rfl))))))
 (mk_lt
 (mk_lt
 (mk_lt
 (mk_lt
 (mk_eq (mk_lstore X dX5_coarse_311 (Nat.le_of_ble_eq_true rfl) rfl))
 (mk_eq (mk_aload_n X dX5_coarse_313 rfl rfl)))
 (mk_lt
 (mk_eq (mk_get X (ci := 5) (j := 38) rfl in_X5 (Nat.le_of_ble_eq_true rfl) q785 dX5_coarse_314 rfl))
 (mk_eq (mk_iload_n X dX5_coarse_317 rfl rfl))))
 (mk_lt
 (mk_lt
 (mk_eq (mk_iload X dX5_coarse_318 rfl))
 (mk_eq (mk_iload_n X dX5_coarse_320 rfl rfl)))
 (mk_lt
 (mk_eq (mk_S3 X h_X5_place (lw_S q999 q1000 q66 q1001) ⟨by decide, by decide, rfl⟩ ⟨(Nat.le_of_ble_eq_true rfl), (Nat.le_of_ble_eq_true rfl)⟩ dX5_coarse_321 rfl))
 (mk_eq (mk_iar X dX5_coarse_324 rfl)))))
 (mk_lt
 (mk_lt
 (mk_lt
 (mk_eq (mk_ldc X dX5_coarse_325 q1030 rfl))
 (mk_eq (mk_icne X dX5_coarse_327 rfl rfl)))
 (mk_lt
 (mk_eq (mk_iconst X dX5_coarse_330 rfl rfl))
 (mk_eq (mk_goto X dX5_coarse_331 rfl))))
 (mk_lt
 (mk_lt
 (mk_eq (mk_iconst X dX5_coarse_334 rfl rfl))
 (mk_eq (mk_istore X dX5_coarse_335 (Nat.le_of_ble_eq_true rfl) rfl)))
 (mk_lt
 (mk_eq (mk_iconst X dX5_coarse_337 rfl rfl))
 (mk_lt
 (mk_eq (mk_istore X dX5_coarse_338 (Nat.le_of_ble_eq_true rfl) rfl))
 (mk_eq (mk_iload X dX5_coarse_340 rfl)))))))))
 (mk_lt
 (mk_lt
 (mk_lt
 (mk_lt
 (mk_lt
 (mk_lt
 (mk_eq (mk_iconst X dX5_coarse_342 rfl rfl))
 (mk_eq (mk_icge X dX5_coarse_343 rfl rfl)))
 (mk_lt
 (mk_eq (mk_aload_n X dX5_coarse_346 rfl rfl))
 (mk_eq (mk_get X (ci := 5) (j := 37) rfl in_X5 (Nat.le_of_ble_eq_true rfl) q784 dX5_coarse_347 rfl))))
 (mk_lt
 (mk_lt
 (mk_eq (mk_iload_n X dX5_coarse_350 rfl rfl))
 (mk_eq (mk_iload X dX5_coarse_351 rfl)))
 (mk_lt
 (mk_eq (mk_iload X dX5_coarse_353 rfl))
 (mk_eq (mk_iconst X dX5_coarse_355 rfl rfl)))))
 (mk_lt
 (mk_lt
 (mk_lt
 (mk_eq (mk_irem X dX5_coarse_356 rfl))
 (mk_eq (mk_iadd X dX5_coarse_357 rfl)))
 (mk_lt
 (mk_eq (mk_aload_n X dX5_coarse_358 rfl rfl))
 (mk_eq (mk_get X (ci := 5) (j := 0) rfl in_X5 (Nat.le_of_ble_eq_true rfl) q747 dX5_coarse_359 rfl))))
 (mk_lt
 (mk_lt
 (mk_eq (mk_iload X dX5_coarse_362 rfl))
 (mk_eq (mk_iconst X dX5_coarse_364 rfl rfl)))
 (mk_lt
 (mk_eq (mk_idiv X dX5_coarse_365 rfl))
 (mk_eq (mk_imul X dX5_coarse_366 rfl))))))
 (mk_lt
 (mk_lt
 (mk_lt
 (mk_lt
 (mk_eq (mk_iadd X dX5_coarse_367 rfl))
 (mk_eq (mk_iload_n X dX5_coarse_368 rfl rfl)))
 (mk_lt
 (mk_eq (mk_S3 X h_X5_place (lw_S q999 q1000 q66 q1001) ⟨by decide, by decide, rfl⟩ ⟨(Nat.le_of_ble_eq_true rfl), (Nat.le_of_ble_eq_true rfl)⟩ dX5_coarse_369 rfl))
 (mk_eq (mk_iar X dX5_coarse_372 rfl))))
 (mk_lt
 (mk_lt
 (mk_eq (mk_istore X dX5_coarse_373 (Nat.le_of_ble_eq_true rfl) rfl))
 (mk_eq (mk_iload X dX5_coarse_375 rfl)))
 (mk_lt
 (mk_eq (mk_ifne X dX5_coarse_377 rfl rfl))
 (mk_eq (mk_iload X dX5_coarse_380 rfl)))))
 (mk_lt
 (mk_lt
 (mk_lt
 (mk_eq (mk_ldc X dX5_coarse_382 q1030 rfl))
 (mk_eq (mk_icne X dX5_coarse_384 rfl rfl)))
 (mk_lt
 (mk_eq (mk_iconst X dX5_coarse_387 rfl rfl))
 (mk_eq (mk_goto X dX5_coarse_388 rfl))))
 (mk_lt
 (mk_lt
 (mk_eq (mk_iconst X dX5_coarse_391 rfl rfl))
 (mk_eq (mk_istore X dX5_coarse_392 (Nat.le_of_ble_eq_true rfl) rfl)))
 (mk_lt
 (mk_eq (mk_lload X dX5_coarse_394 rfl))
 (mk_lt
 (mk_eq (mk_iload X dX5_coarse_396 rfl))
 (mk_eq (mk_i2l X dX5_coarse_398 rfl))))))))
 (mk_lt
 (mk_lt
 (mk_lt
 (mk_lt
 (mk_lt
 (mk_eq (mk_ladd X dX5_coarse_399 rfl))
 (mk_eq (mk_lstore X dX5_coarse_400 (Nat.le_of_ble_eq_true rfl) rfl)))
 (mk_lt
 (mk_eq (mk_iinc X dX5_coarse_402 rfl (Nat.le_of_ble_eq_true rfl) rfl))
 (mk_eq (mk_goto X dX5_coarse_405 rfl))))
 (mk_lt
 (mk_lt
 (mk_eq (mk_iload X dX5_coarse_408 rfl))
 (mk_eq (mk_iload X dX5_coarse_410 rfl)))
 (mk_lt
 (mk_eq (mk_ifne X dX5_coarse_412 rfl rfl))
 (mk_eq (mk_aload_n X dX5_coarse_415 rfl rfl)))))
 (mk_lt
 (mk_lt
 (mk_lt
 (mk_eq (mk_get X (ci := 5) (j := 38) rfl in_X5 (Nat.le_of_ble_eq_true rfl) q785 dX5_coarse_416 rfl))
 (mk_eq (mk_iload_n X dX5_coarse_419 rfl rfl)))
 (mk_lt
 (mk_eq (mk_iload X dX5_coarse_420 rfl))
 (mk_eq (mk_iload_n X dX5_coarse_422 rfl rfl))))
 (mk_lt
 (mk_lt
 (mk_eq (mk_S3 X h_X5_place (lw_S q999 q1000 q66 q1001) ⟨by decide, by decide, rfl⟩ ⟨(Nat.le_of_ble_eq_true rfl), (Nat.le_of_ble_eq_true rfl)⟩ dX5_coarse_423 rfl))
 (mk_eq (mk_iar X dX5_coarse_426 rfl)))
 (mk_lt
 (mk_eq (mk_i2l X dX5_coarse_427 rfl))
 (mk_eq (mk_lload X dX5_coarse_428 rfl))))))
 (mk_lt
 (mk_lt
 (mk_lt
 (mk_lt
 (mk_eq (mk_ldc2 X dX5_coarse_430 q968 rfl))
 (mk_eq (mk_S2 X h_X5_downLong (lw_S q1031 q1032 q66 q1033) ⟨by decide, by decide, rfl⟩ ⟨(Nat.le_of_ble_eq_true rfl), (Nat.le_of_ble_eq_true rfl)⟩ dX5_coarse_433 rfl)))
 (mk_lt
 (mk_eq (mk_lsub X dX5_coarse_436 rfl))
 (mk_eq (mk_S1 X h_X5_size (lw_S q1026 q1027 q66 q1028) ⟨by decide, by decide, rfl⟩ ⟨(Nat.le_of_ble_eq_true rfl), (Nat.le_of_ble_eq_true rfl)⟩ dX5_coarse_437 rfl))))
 (mk_lt
 (mk_lt
 (mk_eq (mk_iload_n X dX5_coarse_440 rfl rfl))
 (mk_eq (mk_i2l X dX5_coarse_441 rfl)))
 (mk_lt
 (mk_eq (mk_lcmp X dX5_coarse_442 rfl))
 (mk_eq (mk_ifle X dX5_coarse_443 rfl rfl)))))
 (mk_lt
 (mk_lt
 (mk_lt
 (mk_eq (mk_iconst X dX5_coarse_446 rfl rfl))
 (mk_eq (mk_goto X dX5_coarse_447 rfl)))
 (mk_lt
 (mk_eq (mk_iconst X dX5_coarse_450 rfl rfl))
 (mk_eq (mk_iadd X dX5_coarse_451 rfl))))
 (mk_lt
 (mk_lt
 (mk_eq (mk_istore X dX5_coarse_452 (Nat.le_of_ble_eq_true rfl) rfl))
 (mk_eq (mk_iinc X dX5_coarse_454 rfl (Nat.le_of_ble_eq_true rfl) rfl)))
 (mk_lt
 (mk_eq (mk_goto X dX5_coarse_457 rfl))
 (mk_lt
 (mk_eq (mk_iload X dX5_coarse_460 rfl))
 (mk_eq (mk_ri X dX5_coarse_462)))))))))))
theorem sd_X5_coarse {l : Launch} {w : ma_Wd} {NC : Nat} {A : Nat → Prop} {S_X5_in S_X5_isLetter S_X5_hall S_X5_cells S_X5_place S_X5_down S_X5_steps S_X5_downLong S_X5_size : ma_Cs} (hw : ma_Wo w YM NC A) (h_X5_in : ma_Sd l w YM NC A yX5_in cX5_in 6 (some .boolean) rm_X5_in S_X5_in) (h_X5_isLetter : ma_Sd l w YM NC A yX5_isLetter cX5_isLetter 1 (some .boolean) rm_X5_isLetter S_X5_isLetter) (h_X5_hall : ma_Sd l w YM NC A yX5_hall cX5_hall 5 none rm_X5_hall S_X5_hall) (h_X5_cells : ma_Sd l w YM NC A yX5_cells cX5_cells 1 (some .int) rm_X5_cells S_X5_cells) (h_X5_place : ma_Sd l w YM NC A yX5_place cX5_place 3 (some .int) rm_X5_place S_X5_place) (h_X5_down : ma_Sd l w YM NC A yX5_down cX5_down 4 (some .int) rm_X5_down S_X5_down) (h_X5_steps : ma_Sd l w YM NC A yX5_steps cX5_steps 8 none rm_X5_steps S_X5_steps) (h_X5_downLong : ma_Sd l w YM NC A yX5_downLong cX5_downLong 4 (some .long) rm_X5_downLong S_X5_downLong) (h_X5_size : ma_Sd l w YM NC A yX5_size cX5_size 2 (some .long) rm_X5_size S_X5_size) : ma_Sd l w YM NC A yX5_coarse cX5_coarse 12 (some .int) rm_X5_coarse (ma_rn (tb_X5_coarse S_X5_in S_X5_isLetter S_X5_hall S_X5_cells S_X5_place S_X5_down S_X5_steps S_X5_downLong S_X5_size) 12) := ma_of hw (by decide) ⟨rfl, rfl⟩ (fun X => tk_X5_coarse h_X5_in h_X5_isLetter h_X5_hall h_X5_cells h_X5_place h_X5_down h_X5_steps h_X5_downLong h_X5_size X)
theorem dX5_keep_0 : decode cX5_keep 0 = .ok (.aload_n 0, 1) := by decide +kernel
theorem dX5_keep_1 : decode cX5_keep 1 = .ok (.getfield 138, 3) := by decide +kernel
theorem dX5_keep_4 : decode cX5_keep 4 = .ok (.iconst 2, 1) := by decide +kernel
theorem dX5_keep_5 : decode cX5_keep 5 = .ok (.if_icmp .ne 6, 3) := by decide +kernel
theorem dX5_keep_8 : decode cX5_keep 8 = .ok (.bipush (-3), 2) := by decide +kernel
theorem dX5_keep_10 : decode cX5_keep 10 = .ok (.ireturn, 1) := by decide +kernel
theorem dX5_keep_11 : decode cX5_keep 11 = .ok (.aload_n 0, 1) := by decide +kernel
theorem dX5_keep_12 : decode cX5_keep 12 = .ok (.aload_n 0, 1) := by decide +kernel
theorem dX5_keep_13 : decode cX5_keep 13 = .ok (.getfield 138, 3) := by decide +kernel
theorem dX5_keep_16 : decode cX5_keep 16 = .ok (.iconst 1, 1) := by decide +kernel
theorem dX5_keep_17 : decode cX5_keep 17 = .ok (.invokevirtual 334, 3) := by decide +kernel
theorem dX5_keep_20 : decode cX5_keep 20 = .ok (.aload_n 0, 1) := by decide +kernel
theorem dX5_keep_21 : decode cX5_keep 21 = .ok (.dup, 1) := by decide +kernel
theorem dX5_keep_22 : decode cX5_keep 22 = .ok (.getfield 138, 3) := by decide +kernel
theorem dX5_keep_25 : decode cX5_keep 25 = .ok (.iconst 1, 1) := by decide +kernel
theorem dX5_keep_26 : decode cX5_keep 26 = .ok (.iadd, 1) := by decide +kernel
theorem dX5_keep_27 : decode cX5_keep 27 = .ok (.putfield 138, 3) := by decide +kernel
theorem dX5_keep_30 : decode cX5_keep 30 = .ok (.aload_n 0, 1) := by decide +kernel
theorem dX5_keep_31 : decode cX5_keep 31 = .ok (.getfield 138, 3) := by decide +kernel
theorem dX5_keep_34 : decode cX5_keep 34 = .ok (.ireturn, 1) := by decide +kernel
def tb_X5_keep (S_X5_moveAll : ma_Cs) : Nat → ma_In := fun pc =>
 (if pc < 17 then
 (if pc < 10 then
 (if pc < 4 then
 (if pc < 1 then
 (if pc = 0 then in_ald 0 1 else in_no) else
 (if pc = 1 then in_get YM 5 30 4 else in_no)) else
 (if pc < 5 then
 (if pc = 4 then in_push (.int 2) 5 else in_no) else
 (if pc < 8 then
 (if pc = 5 then in_if2 (fun x y => x = y) 8 11 else in_no) else
 (if pc = 8 then in_push (.int (-3)) 10 else in_no)))) else
 (if pc < 12 then
 (if pc < 11 then
 (if pc = 10 then in_ri else in_no) else
 (if pc = 11 then in_ald 0 12 else in_no)) else
 (if pc < 13 then
 (if pc = 12 then in_ald 0 13 else in_no) else
 (if pc < 16 then
 (if pc = 13 then in_get YM 5 30 16 else in_no) else
 (if pc = 16 then in_push (.int 1) 17 else in_no))))) else
 (if pc < 26 then
 (if pc < 21 then
 (if pc < 20 then
 (if pc = 17 then in_v3 YM 5 S_X5_moveAll 20 else in_no) else
 (if pc = 20 then in_ald 0 21 else in_no)) else
 (if pc < 22 then
 (if pc = 21 then in_dup 22 else in_no) else
 (if pc < 25 then
 (if pc = 22 then in_get YM 5 30 25 else in_no) else
 (if pc = 25 then in_push (.int 1) 26 else in_no)))) else
 (if pc < 30 then
 (if pc < 27 then
 (if pc = 26 then in_iii (fun x y => x + y) 27 else in_no) else
 (if pc = 27 then in_put YM 5 30 30 else in_no)) else
 (if pc < 31 then
 (if pc = 30 then in_ald 0 31 else in_no) else
 (if pc < 34 then
 (if pc = 31 then in_get YM 5 30 34 else in_no) else
 (if pc = 34 then in_ri else in_no))))))
theorem tk_X5_keep {l : Launch} {w : ma_Wd} {NC : Nat} {A : Nat → Prop} {S_X5_moveAll : ma_Cs} (h_X5_moveAll : ma_Sd l w YM NC A yX5_moveAll cX5_moveAll 4 none rm_X5_moveAll S_X5_moveAll) {p : Program} {e : Env} {s : State} {m : MethodId} {args : Array Value} {below : List Frame} {meth : Method} {c : Code} (X : ma_Cx p s m args meth c w YM NC A yX5_keep.cls cX5_keep 1 (some .int)) : ∀ pc, ma_Ok p l e rm_X5_keep s m args below meth c w YM NC A 1 pc (tb_X5_keep S_X5_moveAll pc) := fun pc =>
 (mk_lt
 (mk_lt
 (mk_lt
 (mk_lt
 (mk_eq (mk_aload_n X dX5_keep_0 rfl rfl))
 (mk_eq (mk_get X (ci := 5) (j := 30) rfl in_X5 (Nat.le_of_ble_eq_true rfl) q777 dX5_keep_1 rfl)))
 (mk_lt
 (mk_eq (mk_iconst X dX5_keep_4 rfl rfl))
 (mk_lt
 (mk_eq (mk_icne X dX5_keep_5 rfl rfl))
 (mk_eq (mk_bipush X dX5_keep_8 rfl rfl)))))
 (mk_lt
 (mk_lt
 (mk_eq (mk_ri X dX5_keep_10))
 (mk_eq (mk_aload_n X dX5_keep_11 rfl rfl)))
 (mk_lt
 (mk_eq (mk_aload_n X dX5_keep_12 rfl rfl))
 (mk_lt
 (mk_eq (mk_get X (ci := 5) (j := 30) rfl in_X5 (Nat.le_of_ble_eq_true rfl) q777 dX5_keep_13 rfl))
 (mk_eq (mk_iconst X dX5_keep_16 rfl rfl))))))
 (mk_lt
 (mk_lt
 (mk_lt
 (mk_eq (mk_V3 X h_X5_moveAll (ci := 5) rfl (lw_V q1163 q1165 qs57 q66 q1166) ⟨rfl, by decide, by decide, rfl⟩ ⟨(Nat.le_of_ble_eq_true rfl), (Nat.le_of_ble_eq_true rfl)⟩ dX5_keep_17 rfl))
 (mk_eq (mk_aload_n X dX5_keep_20 rfl rfl)))
 (mk_lt
 (mk_eq (mk_dup X dX5_keep_21 rfl))
 (mk_lt
 (mk_eq (mk_get X (ci := 5) (j := 30) rfl in_X5 (Nat.le_of_ble_eq_true rfl) q777 dX5_keep_22 rfl))
 (mk_eq (mk_iconst X dX5_keep_25 rfl rfl)))))
 (mk_lt
 (mk_lt
 (mk_eq (mk_iadd X dX5_keep_26 rfl))
 (mk_eq (mk_put X (ci := 5) (j := 30) rfl in_X5 tyX5_ok nmX5 (Nat.le_of_ble_eq_true rfl) rfl rfl q777 dX5_keep_27 rfl)))
 (mk_lt
 (mk_eq (mk_aload_n X dX5_keep_30 rfl rfl))
 (mk_lt
 (mk_eq (mk_get X (ci := 5) (j := 30) rfl in_X5 (Nat.le_of_ble_eq_true rfl) q777 dX5_keep_31 rfl))
 (mk_eq (mk_ri X dX5_keep_34)))))))
theorem sd_X5_keep {l : Launch} {w : ma_Wd} {NC : Nat} {A : Nat → Prop} {S_X5_moveAll : ma_Cs} (hw : ma_Wo w YM NC A) (h_X5_moveAll : ma_Sd l w YM NC A yX5_moveAll cX5_moveAll 4 none rm_X5_moveAll S_X5_moveAll) : ma_Sd l w YM NC A yX5_keep cX5_keep 1 (some .int) rm_X5_keep (ma_rn (tb_X5_keep S_X5_moveAll) 1) := ma_of hw (by decide) ⟨rfl, rfl⟩ (fun X => tk_X5_keep h_X5_moveAll X)
theorem dX5_moveAll_0 : decode cX5_moveAll 0 = .ok (.aload_n 0, 1) := by decide +kernel
theorem dX5_moveAll_1 : decode cX5_moveAll 1 = .ok (.aload_n 0, 1) := by decide +kernel
theorem dX5_moveAll_2 : decode cX5_moveAll 2 = .ok (.iload_n 1, 1) := by decide +kernel
theorem dX5_moveAll_3 : decode cX5_moveAll 3 = .ok (.iconst 0, 1) := by decide +kernel
theorem dX5_moveAll_4 : decode cX5_moveAll 4 = .ok (.aload_n 0, 1) := by decide +kernel
theorem dX5_moveAll_5 : decode cX5_moveAll 5 = .ok (.getfield 203, 3) := by decide +kernel
theorem dX5_moveAll_8 : decode cX5_moveAll 8 = .ok (.iload_n 2, 1) := by decide +kernel
theorem dX5_moveAll_9 : decode cX5_moveAll 9 = .ok (.invokevirtual 330, 3) := by decide +kernel
theorem dX5_moveAll_12 : decode cX5_moveAll 12 = .ok (.putfield 203, 3) := by decide +kernel
theorem dX5_moveAll_15 : decode cX5_moveAll 15 = .ok (.aload_n 0, 1) := by decide +kernel
theorem dX5_moveAll_16 : decode cX5_moveAll 16 = .ok (.aload_n 0, 1) := by decide +kernel
theorem dX5_moveAll_17 : decode cX5_moveAll 17 = .ok (.iload_n 1, 1) := by decide +kernel
theorem dX5_moveAll_18 : decode cX5_moveAll 18 = .ok (.iconst 1, 1) := by decide +kernel
theorem dX5_moveAll_19 : decode cX5_moveAll 19 = .ok (.aload_n 0, 1) := by decide +kernel
theorem dX5_moveAll_20 : decode cX5_moveAll 20 = .ok (.getfield 143, 3) := by decide +kernel
theorem dX5_moveAll_23 : decode cX5_moveAll 23 = .ok (.iload_n 2, 1) := by decide +kernel
theorem dX5_moveAll_24 : decode cX5_moveAll 24 = .ok (.invokevirtual 330, 3) := by decide +kernel
theorem dX5_moveAll_27 : decode cX5_moveAll 27 = .ok (.putfield 143, 3) := by decide +kernel
theorem dX5_moveAll_30 : decode cX5_moveAll 30 = .ok (.aload_n 0, 1) := by decide +kernel
theorem dX5_moveAll_31 : decode cX5_moveAll 31 = .ok (.aload_n 0, 1) := by decide +kernel
theorem dX5_moveAll_32 : decode cX5_moveAll 32 = .ok (.iload_n 1, 1) := by decide +kernel
theorem dX5_moveAll_33 : decode cX5_moveAll 33 = .ok (.iconst 2, 1) := by decide +kernel
theorem dX5_moveAll_34 : decode cX5_moveAll 34 = .ok (.aload_n 0, 1) := by decide +kernel
theorem dX5_moveAll_35 : decode cX5_moveAll 35 = .ok (.getfield 116, 3) := by decide +kernel
theorem dX5_moveAll_38 : decode cX5_moveAll 38 = .ok (.iload_n 2, 1) := by decide +kernel
theorem dX5_moveAll_39 : decode cX5_moveAll 39 = .ok (.invokevirtual 330, 3) := by decide +kernel
theorem dX5_moveAll_42 : decode cX5_moveAll 42 = .ok (.putfield 116, 3) := by decide +kernel
theorem dX5_moveAll_45 : decode cX5_moveAll 45 = .ok (.iconst 0, 1) := by decide +kernel
theorem dX5_moveAll_46 : decode cX5_moveAll 46 = .ok (.istore_n 3, 1) := by decide +kernel
theorem dX5_moveAll_47 : decode cX5_moveAll 47 = .ok (.iload_n 3, 1) := by decide +kernel
theorem dX5_moveAll_48 : decode cX5_moveAll 48 = .ok (.iconst 4, 1) := by decide +kernel
theorem dX5_moveAll_49 : decode cX5_moveAll 49 = .ok (.if_icmp .ge 162, 3) := by decide +kernel
theorem dX5_moveAll_52 : decode cX5_moveAll 52 = .ok (.aload_n 0, 1) := by decide +kernel
theorem dX5_moveAll_53 : decode cX5_moveAll 53 = .ok (.getfield 19, 3) := by decide +kernel
theorem dX5_moveAll_56 : decode cX5_moveAll 56 = .ok (.iload_n 3, 1) := by decide +kernel
theorem dX5_moveAll_57 : decode cX5_moveAll 57 = .ok (.aload_n 0, 1) := by decide +kernel
theorem dX5_moveAll_58 : decode cX5_moveAll 58 = .ok (.iload_n 1, 1) := by decide +kernel
theorem dX5_moveAll_59 : decode cX5_moveAll 59 = .ok (.iconst 3, 1) := by decide +kernel
theorem dX5_moveAll_60 : decode cX5_moveAll 60 = .ok (.iload_n 3, 1) := by decide +kernel
theorem dX5_moveAll_61 : decode cX5_moveAll 61 = .ok (.iadd, 1) := by decide +kernel
theorem dX5_moveAll_62 : decode cX5_moveAll 62 = .ok (.aload_n 0, 1) := by decide +kernel
theorem dX5_moveAll_63 : decode cX5_moveAll 63 = .ok (.getfield 19, 3) := by decide +kernel
theorem dX5_moveAll_66 : decode cX5_moveAll 66 = .ok (.iload_n 3, 1) := by decide +kernel
theorem dX5_moveAll_67 : decode cX5_moveAll 67 = .ok (.iaload, 1) := by decide +kernel
theorem dX5_moveAll_68 : decode cX5_moveAll 68 = .ok (.iload_n 2, 1) := by decide +kernel
theorem dX5_moveAll_69 : decode cX5_moveAll 69 = .ok (.invokevirtual 330, 3) := by decide +kernel
theorem dX5_moveAll_72 : decode cX5_moveAll 72 = .ok (.iastore, 1) := by decide +kernel
theorem dX5_moveAll_73 : decode cX5_moveAll 73 = .ok (.aload_n 0, 1) := by decide +kernel
theorem dX5_moveAll_74 : decode cX5_moveAll 74 = .ok (.getfield 26, 3) := by decide +kernel
theorem dX5_moveAll_77 : decode cX5_moveAll 77 = .ok (.iload_n 3, 1) := by decide +kernel
theorem dX5_moveAll_78 : decode cX5_moveAll 78 = .ok (.aload_n 0, 1) := by decide +kernel
theorem dX5_moveAll_79 : decode cX5_moveAll 79 = .ok (.iload_n 1, 1) := by decide +kernel
theorem dX5_moveAll_80 : decode cX5_moveAll 80 = .ok (.bipush 7, 2) := by decide +kernel
theorem dX5_moveAll_82 : decode cX5_moveAll 82 = .ok (.iload_n 3, 1) := by decide +kernel
theorem dX5_moveAll_83 : decode cX5_moveAll 83 = .ok (.iadd, 1) := by decide +kernel
theorem dX5_moveAll_84 : decode cX5_moveAll 84 = .ok (.aload_n 0, 1) := by decide +kernel
theorem dX5_moveAll_85 : decode cX5_moveAll 85 = .ok (.getfield 26, 3) := by decide +kernel
theorem dX5_moveAll_88 : decode cX5_moveAll 88 = .ok (.iload_n 3, 1) := by decide +kernel
theorem dX5_moveAll_89 : decode cX5_moveAll 89 = .ok (.iaload, 1) := by decide +kernel
theorem dX5_moveAll_90 : decode cX5_moveAll 90 = .ok (.iload_n 2, 1) := by decide +kernel
theorem dX5_moveAll_91 : decode cX5_moveAll 91 = .ok (.invokevirtual 330, 3) := by decide +kernel
theorem dX5_moveAll_94 : decode cX5_moveAll 94 = .ok (.iastore, 1) := by decide +kernel
theorem dX5_moveAll_95 : decode cX5_moveAll 95 = .ok (.aload_n 0, 1) := by decide +kernel
theorem dX5_moveAll_96 : decode cX5_moveAll 96 = .ok (.getfield 29, 3) := by decide +kernel
theorem dX5_moveAll_99 : decode cX5_moveAll 99 = .ok (.iload_n 3, 1) := by decide +kernel
theorem dX5_moveAll_100 : decode cX5_moveAll 100 = .ok (.aload_n 0, 1) := by decide +kernel
theorem dX5_moveAll_101 : decode cX5_moveAll 101 = .ok (.iload_n 1, 1) := by decide +kernel
theorem dX5_moveAll_102 : decode cX5_moveAll 102 = .ok (.bipush 11, 2) := by decide +kernel
theorem dX5_moveAll_104 : decode cX5_moveAll 104 = .ok (.iload_n 3, 1) := by decide +kernel
theorem dX5_moveAll_105 : decode cX5_moveAll 105 = .ok (.iadd, 1) := by decide +kernel
theorem dX5_moveAll_106 : decode cX5_moveAll 106 = .ok (.aload_n 0, 1) := by decide +kernel
theorem dX5_moveAll_107 : decode cX5_moveAll 107 = .ok (.getfield 29, 3) := by decide +kernel
theorem dX5_moveAll_110 : decode cX5_moveAll 110 = .ok (.iload_n 3, 1) := by decide +kernel
theorem dX5_moveAll_111 : decode cX5_moveAll 111 = .ok (.iaload, 1) := by decide +kernel
theorem dX5_moveAll_112 : decode cX5_moveAll 112 = .ok (.iload_n 2, 1) := by decide +kernel
theorem dX5_moveAll_113 : decode cX5_moveAll 113 = .ok (.invokevirtual 330, 3) := by decide +kernel
theorem dX5_moveAll_116 : decode cX5_moveAll 116 = .ok (.iastore, 1) := by decide +kernel
theorem dX5_moveAll_117 : decode cX5_moveAll 117 = .ok (.aload_n 0, 1) := by decide +kernel
theorem dX5_moveAll_118 : decode cX5_moveAll 118 = .ok (.getfield 32, 3) := by decide +kernel
theorem dX5_moveAll_121 : decode cX5_moveAll 121 = .ok (.iload_n 3, 1) := by decide +kernel
theorem dX5_moveAll_122 : decode cX5_moveAll 122 = .ok (.aload_n 0, 1) := by decide +kernel
theorem dX5_moveAll_123 : decode cX5_moveAll 123 = .ok (.iload_n 1, 1) := by decide +kernel
theorem dX5_moveAll_124 : decode cX5_moveAll 124 = .ok (.bipush 15, 2) := by decide +kernel
theorem dX5_moveAll_126 : decode cX5_moveAll 126 = .ok (.iload_n 3, 1) := by decide +kernel
theorem dX5_moveAll_127 : decode cX5_moveAll 127 = .ok (.iadd, 1) := by decide +kernel
theorem dX5_moveAll_128 : decode cX5_moveAll 128 = .ok (.aload_n 0, 1) := by decide +kernel
theorem dX5_moveAll_129 : decode cX5_moveAll 129 = .ok (.getfield 32, 3) := by decide +kernel
theorem dX5_moveAll_132 : decode cX5_moveAll 132 = .ok (.iload_n 3, 1) := by decide +kernel
theorem dX5_moveAll_133 : decode cX5_moveAll 133 = .ok (.iaload, 1) := by decide +kernel
theorem dX5_moveAll_134 : decode cX5_moveAll 134 = .ok (.iload_n 2, 1) := by decide +kernel
theorem dX5_moveAll_135 : decode cX5_moveAll 135 = .ok (.invokevirtual 330, 3) := by decide +kernel
theorem dX5_moveAll_138 : decode cX5_moveAll 138 = .ok (.iastore, 1) := by decide +kernel
theorem dX5_moveAll_139 : decode cX5_moveAll 139 = .ok (.aload_n 0, 1) := by decide +kernel
theorem dX5_moveAll_140 : decode cX5_moveAll 140 = .ok (.getfield 35, 3) := by decide +kernel
theorem dX5_moveAll_143 : decode cX5_moveAll 143 = .ok (.iload_n 3, 1) := by decide +kernel
theorem dX5_moveAll_144 : decode cX5_moveAll 144 = .ok (.aload_n 0, 1) := by decide +kernel
theorem dX5_moveAll_145 : decode cX5_moveAll 145 = .ok (.iload_n 1, 1) := by decide +kernel
theorem dX5_moveAll_146 : decode cX5_moveAll 146 = .ok (.bipush 19, 2) := by decide +kernel
theorem dX5_moveAll_148 : decode cX5_moveAll 148 = .ok (.iload_n 3, 1) := by decide +kernel
theorem dX5_moveAll_149 : decode cX5_moveAll 149 = .ok (.iadd, 1) := by decide +kernel
theorem dX5_moveAll_150 : decode cX5_moveAll 150 = .ok (.aload_n 0, 1) := by decide +kernel
theorem dX5_moveAll_151 : decode cX5_moveAll 151 = .ok (.getfield 35, 3) := by decide +kernel
theorem dX5_moveAll_154 : decode cX5_moveAll 154 = .ok (.iload_n 3, 1) := by decide +kernel
theorem dX5_moveAll_155 : decode cX5_moveAll 155 = .ok (.iaload, 1) := by decide +kernel
theorem dX5_moveAll_156 : decode cX5_moveAll 156 = .ok (.iload_n 2, 1) := by decide +kernel
theorem dX5_moveAll_157 : decode cX5_moveAll 157 = .ok (.invokevirtual 330, 3) := by decide +kernel
theorem dX5_moveAll_160 : decode cX5_moveAll 160 = .ok (.iastore, 1) := by decide +kernel
theorem dX5_moveAll_161 : decode cX5_moveAll 161 = .ok (.aload_n 0, 1) := by decide +kernel
theorem dX5_moveAll_162 : decode cX5_moveAll 162 = .ok (.getfield 38, 3) := by decide +kernel
theorem dX5_moveAll_165 : decode cX5_moveAll 165 = .ok (.iload_n 3, 1) := by decide +kernel
theorem dX5_moveAll_166 : decode cX5_moveAll 166 = .ok (.aload_n 0, 1) := by decide +kernel
theorem dX5_moveAll_167 : decode cX5_moveAll 167 = .ok (.iload_n 1, 1) := by decide +kernel
theorem dX5_moveAll_168 : decode cX5_moveAll 168 = .ok (.bipush 23, 2) := by decide +kernel
theorem dX5_moveAll_170 : decode cX5_moveAll 170 = .ok (.iload_n 3, 1) := by decide +kernel
theorem dX5_moveAll_171 : decode cX5_moveAll 171 = .ok (.iadd, 1) := by decide +kernel
theorem dX5_moveAll_172 : decode cX5_moveAll 172 = .ok (.aload_n 0, 1) := by decide +kernel
theorem dX5_moveAll_173 : decode cX5_moveAll 173 = .ok (.getfield 38, 3) := by decide +kernel
theorem dX5_moveAll_176 : decode cX5_moveAll 176 = .ok (.iload_n 3, 1) := by decide +kernel
theorem dX5_moveAll_177 : decode cX5_moveAll 177 = .ok (.iaload, 1) := by decide +kernel
theorem dX5_moveAll_178 : decode cX5_moveAll 178 = .ok (.iload_n 2, 1) := by decide +kernel
theorem dX5_moveAll_179 : decode cX5_moveAll 179 = .ok (.invokevirtual 330, 3) := by decide +kernel
theorem dX5_moveAll_182 : decode cX5_moveAll 182 = .ok (.iastore, 1) := by decide +kernel
theorem dX5_moveAll_183 : decode cX5_moveAll 183 = .ok (.aload_n 0, 1) := by decide +kernel
theorem dX5_moveAll_184 : decode cX5_moveAll 184 = .ok (.getfield 41, 3) := by decide +kernel
theorem dX5_moveAll_187 : decode cX5_moveAll 187 = .ok (.iload_n 3, 1) := by decide +kernel
theorem dX5_moveAll_188 : decode cX5_moveAll 188 = .ok (.aload_n 0, 1) := by decide +kernel
theorem dX5_moveAll_189 : decode cX5_moveAll 189 = .ok (.iload_n 1, 1) := by decide +kernel
theorem dX5_moveAll_190 : decode cX5_moveAll 190 = .ok (.bipush 27, 2) := by decide +kernel
theorem dX5_moveAll_192 : decode cX5_moveAll 192 = .ok (.iload_n 3, 1) := by decide +kernel
theorem dX5_moveAll_193 : decode cX5_moveAll 193 = .ok (.iadd, 1) := by decide +kernel
theorem dX5_moveAll_194 : decode cX5_moveAll 194 = .ok (.aload_n 0, 1) := by decide +kernel
theorem dX5_moveAll_195 : decode cX5_moveAll 195 = .ok (.getfield 41, 3) := by decide +kernel
theorem dX5_moveAll_198 : decode cX5_moveAll 198 = .ok (.iload_n 3, 1) := by decide +kernel
theorem dX5_moveAll_199 : decode cX5_moveAll 199 = .ok (.iaload, 1) := by decide +kernel
theorem dX5_moveAll_200 : decode cX5_moveAll 200 = .ok (.iload_n 2, 1) := by decide +kernel
theorem dX5_moveAll_201 : decode cX5_moveAll 201 = .ok (.invokevirtual 330, 3) := by decide +kernel
theorem dX5_moveAll_204 : decode cX5_moveAll 204 = .ok (.iastore, 1) := by decide +kernel
theorem dX5_moveAll_205 : decode cX5_moveAll 205 = .ok (.iinc 3 1, 3) := by decide +kernel
theorem dX5_moveAll_208 : decode cX5_moveAll 208 = .ok (.goto (-161), 3) := by decide +kernel
theorem dX5_moveAll_211 : decode cX5_moveAll 211 = .ok (.iconst 0, 1) := by decide +kernel
theorem dX5_moveAll_212 : decode cX5_moveAll 212 = .ok (.istore_n 3, 1) := by decide +kernel
theorem dX5_moveAll_213 : decode cX5_moveAll 213 = .ok (.iload_n 3, 1) := by decide +kernel
theorem dX5_moveAll_214 : decode cX5_moveAll 214 = .ok (.bipush 80, 2) := by decide +kernel
theorem dX5_moveAll_216 : decode cX5_moveAll 216 = .ok (.if_icmp .ge 76, 3) := by decide +kernel
theorem dX5_moveAll_219 : decode cX5_moveAll 219 = .ok (.aload_n 0, 1) := by decide +kernel
theorem dX5_moveAll_220 : decode cX5_moveAll 220 = .ok (.getfield 44, 3) := by decide +kernel
theorem dX5_moveAll_223 : decode cX5_moveAll 223 = .ok (.iload_n 3, 1) := by decide +kernel
theorem dX5_moveAll_224 : decode cX5_moveAll 224 = .ok (.aload_n 0, 1) := by decide +kernel
theorem dX5_moveAll_225 : decode cX5_moveAll 225 = .ok (.iload_n 1, 1) := by decide +kernel
theorem dX5_moveAll_226 : decode cX5_moveAll 226 = .ok (.bipush 31, 2) := by decide +kernel
theorem dX5_moveAll_228 : decode cX5_moveAll 228 = .ok (.iload_n 3, 1) := by decide +kernel
theorem dX5_moveAll_229 : decode cX5_moveAll 229 = .ok (.iadd, 1) := by decide +kernel
theorem dX5_moveAll_230 : decode cX5_moveAll 230 = .ok (.aload_n 0, 1) := by decide +kernel
theorem dX5_moveAll_231 : decode cX5_moveAll 231 = .ok (.getfield 44, 3) := by decide +kernel
theorem dX5_moveAll_234 : decode cX5_moveAll 234 = .ok (.iload_n 3, 1) := by decide +kernel
theorem dX5_moveAll_235 : decode cX5_moveAll 235 = .ok (.iaload, 1) := by decide +kernel
theorem dX5_moveAll_236 : decode cX5_moveAll 236 = .ok (.iload_n 2, 1) := by decide +kernel
theorem dX5_moveAll_237 : decode cX5_moveAll 237 = .ok (.invokevirtual 330, 3) := by decide +kernel
theorem dX5_moveAll_240 : decode cX5_moveAll 240 = .ok (.iastore, 1) := by decide +kernel
theorem dX5_moveAll_241 : decode cX5_moveAll 241 = .ok (.aload_n 0, 1) := by decide +kernel
theorem dX5_moveAll_242 : decode cX5_moveAll 242 = .ok (.getfield 47, 3) := by decide +kernel
theorem dX5_moveAll_245 : decode cX5_moveAll 245 = .ok (.iload_n 3, 1) := by decide +kernel
theorem dX5_moveAll_246 : decode cX5_moveAll 246 = .ok (.aload_n 0, 1) := by decide +kernel
theorem dX5_moveAll_247 : decode cX5_moveAll 247 = .ok (.iload_n 1, 1) := by decide +kernel
theorem dX5_moveAll_248 : decode cX5_moveAll 248 = .ok (.bipush 111, 2) := by decide +kernel
theorem dX5_moveAll_250 : decode cX5_moveAll 250 = .ok (.iload_n 3, 1) := by decide +kernel
theorem dX5_moveAll_251 : decode cX5_moveAll 251 = .ok (.iadd, 1) := by decide +kernel
theorem dX5_moveAll_252 : decode cX5_moveAll 252 = .ok (.aload_n 0, 1) := by decide +kernel
theorem dX5_moveAll_253 : decode cX5_moveAll 253 = .ok (.getfield 47, 3) := by decide +kernel
theorem dX5_moveAll_256 : decode cX5_moveAll 256 = .ok (.iload_n 3, 1) := by decide +kernel
theorem dX5_moveAll_257 : decode cX5_moveAll 257 = .ok (.iaload, 1) := by decide +kernel
theorem dX5_moveAll_258 : decode cX5_moveAll 258 = .ok (.iload_n 2, 1) := by decide +kernel
theorem dX5_moveAll_259 : decode cX5_moveAll 259 = .ok (.invokevirtual 330, 3) := by decide +kernel
theorem dX5_moveAll_262 : decode cX5_moveAll 262 = .ok (.iastore, 1) := by decide +kernel
theorem dX5_moveAll_263 : decode cX5_moveAll 263 = .ok (.aload_n 0, 1) := by decide +kernel
theorem dX5_moveAll_264 : decode cX5_moveAll 264 = .ok (.getfield 50, 3) := by decide +kernel
theorem dX5_moveAll_267 : decode cX5_moveAll 267 = .ok (.iload_n 3, 1) := by decide +kernel
theorem dX5_moveAll_268 : decode cX5_moveAll 268 = .ok (.aload_n 0, 1) := by decide +kernel
theorem dX5_moveAll_269 : decode cX5_moveAll 269 = .ok (.iload_n 1, 1) := by decide +kernel
theorem dX5_moveAll_270 : decode cX5_moveAll 270 = .ok (.sipush 191, 3) := by decide +kernel
theorem dX5_moveAll_273 : decode cX5_moveAll 273 = .ok (.iload_n 3, 1) := by decide +kernel
theorem dX5_moveAll_274 : decode cX5_moveAll 274 = .ok (.iadd, 1) := by decide +kernel
theorem dX5_moveAll_275 : decode cX5_moveAll 275 = .ok (.aload_n 0, 1) := by decide +kernel
theorem dX5_moveAll_276 : decode cX5_moveAll 276 = .ok (.getfield 50, 3) := by decide +kernel
theorem dX5_moveAll_279 : decode cX5_moveAll 279 = .ok (.iload_n 3, 1) := by decide +kernel
theorem dX5_moveAll_280 : decode cX5_moveAll 280 = .ok (.iaload, 1) := by decide +kernel
theorem dX5_moveAll_281 : decode cX5_moveAll 281 = .ok (.iload_n 2, 1) := by decide +kernel
theorem dX5_moveAll_282 : decode cX5_moveAll 282 = .ok (.invokevirtual 330, 3) := by decide +kernel
theorem dX5_moveAll_285 : decode cX5_moveAll 285 = .ok (.iastore, 1) := by decide +kernel
theorem dX5_moveAll_286 : decode cX5_moveAll 286 = .ok (.iinc 3 1, 3) := by decide +kernel
theorem dX5_moveAll_289 : decode cX5_moveAll 289 = .ok (.goto (-76), 3) := by decide +kernel
theorem dX5_moveAll_292 : decode cX5_moveAll 292 = .ok (.iconst 0, 1) := by decide +kernel
theorem dX5_moveAll_293 : decode cX5_moveAll 293 = .ok (.istore_n 3, 1) := by decide +kernel
theorem dX5_moveAll_294 : decode cX5_moveAll 294 = .ok (.iload_n 3, 1) := by decide +kernel
theorem dX5_moveAll_295 : decode cX5_moveAll 295 = .ok (.sipush 144, 3) := by decide +kernel
theorem dX5_moveAll_298 : decode cX5_moveAll 298 = .ok (.if_icmp .ge 32, 3) := by decide +kernel
theorem dX5_moveAll_301 : decode cX5_moveAll 301 = .ok (.aload_n 0, 1) := by decide +kernel
theorem dX5_moveAll_302 : decode cX5_moveAll 302 = .ok (.getfield 53, 3) := by decide +kernel
theorem dX5_moveAll_305 : decode cX5_moveAll 305 = .ok (.iload_n 3, 1) := by decide +kernel
theorem dX5_moveAll_306 : decode cX5_moveAll 306 = .ok (.aload_n 0, 1) := by decide +kernel
theorem dX5_moveAll_307 : decode cX5_moveAll 307 = .ok (.iload_n 1, 1) := by decide +kernel
theorem dX5_moveAll_308 : decode cX5_moveAll 308 = .ok (.sipush 271, 3) := by decide +kernel
theorem dX5_moveAll_311 : decode cX5_moveAll 311 = .ok (.iload_n 3, 1) := by decide +kernel
theorem dX5_moveAll_312 : decode cX5_moveAll 312 = .ok (.iadd, 1) := by decide +kernel
theorem dX5_moveAll_313 : decode cX5_moveAll 313 = .ok (.aload_n 0, 1) := by decide +kernel
theorem dX5_moveAll_314 : decode cX5_moveAll 314 = .ok (.getfield 53, 3) := by decide +kernel
theorem dX5_moveAll_317 : decode cX5_moveAll 317 = .ok (.iload_n 3, 1) := by decide +kernel
theorem dX5_moveAll_318 : decode cX5_moveAll 318 = .ok (.iaload, 1) := by decide +kernel
theorem dX5_moveAll_319 : decode cX5_moveAll 319 = .ok (.iload_n 2, 1) := by decide +kernel
theorem dX5_moveAll_320 : decode cX5_moveAll 320 = .ok (.invokevirtual 330, 3) := by decide +kernel
theorem dX5_moveAll_323 : decode cX5_moveAll 323 = .ok (.iastore, 1) := by decide +kernel
theorem dX5_moveAll_324 : decode cX5_moveAll 324 = .ok (.iinc 3 1, 3) := by decide +kernel
theorem dX5_moveAll_327 : decode cX5_moveAll 327 = .ok (.goto (-33), 3) := by decide +kernel
theorem dX5_moveAll_330 : decode cX5_moveAll 330 = .ok (.iconst 0, 1) := by decide +kernel
theorem dX5_moveAll_331 : decode cX5_moveAll 331 = .ok (.istore_n 3, 1) := by decide +kernel
theorem dX5_moveAll_332 : decode cX5_moveAll 332 = .ok (.iload_n 3, 1) := by decide +kernel
theorem dX5_moveAll_333 : decode cX5_moveAll 333 = .ok (.bipush 12, 2) := by decide +kernel
theorem dX5_moveAll_335 : decode cX5_moveAll 335 = .ok (.if_icmp .ge 101, 3) := by decide +kernel
theorem dX5_moveAll_338 : decode cX5_moveAll 338 = .ok (.aload_n 0, 1) := by decide +kernel
theorem dX5_moveAll_339 : decode cX5_moveAll 339 = .ok (.getfield 56, 3) := by decide +kernel
theorem dX5_moveAll_342 : decode cX5_moveAll 342 = .ok (.iload_n 3, 1) := by decide +kernel
theorem dX5_moveAll_343 : decode cX5_moveAll 343 = .ok (.aload_n 0, 1) := by decide +kernel
theorem dX5_moveAll_344 : decode cX5_moveAll 344 = .ok (.iload_n 1, 1) := by decide +kernel
theorem dX5_moveAll_345 : decode cX5_moveAll 345 = .ok (.sipush 415, 3) := by decide +kernel
theorem dX5_moveAll_348 : decode cX5_moveAll 348 = .ok (.iload_n 3, 1) := by decide +kernel
theorem dX5_moveAll_349 : decode cX5_moveAll 349 = .ok (.iadd, 1) := by decide +kernel
theorem dX5_moveAll_350 : decode cX5_moveAll 350 = .ok (.aload_n 0, 1) := by decide +kernel
theorem dX5_moveAll_351 : decode cX5_moveAll 351 = .ok (.getfield 56, 3) := by decide +kernel
theorem dX5_moveAll_354 : decode cX5_moveAll 354 = .ok (.iload_n 3, 1) := by decide +kernel
theorem dX5_moveAll_355 : decode cX5_moveAll 355 = .ok (.iaload, 1) := by decide +kernel
theorem dX5_moveAll_356 : decode cX5_moveAll 356 = .ok (.iload_n 2, 1) := by decide +kernel
theorem dX5_moveAll_357 : decode cX5_moveAll 357 = .ok (.invokevirtual 330, 3) := by decide +kernel
theorem dX5_moveAll_360 : decode cX5_moveAll 360 = .ok (.iastore, 1) := by decide +kernel
theorem dX5_moveAll_361 : decode cX5_moveAll 361 = .ok (.aload_n 0, 1) := by decide +kernel
theorem dX5_moveAll_362 : decode cX5_moveAll 362 = .ok (.getfield 59, 3) := by decide +kernel
theorem dX5_moveAll_365 : decode cX5_moveAll 365 = .ok (.iload_n 3, 1) := by decide +kernel
theorem dX5_moveAll_366 : decode cX5_moveAll 366 = .ok (.aload_n 0, 1) := by decide +kernel
theorem dX5_moveAll_367 : decode cX5_moveAll 367 = .ok (.iload_n 1, 1) := by decide +kernel
theorem dX5_moveAll_368 : decode cX5_moveAll 368 = .ok (.sipush 427, 3) := by decide +kernel
theorem dX5_moveAll_371 : decode cX5_moveAll 371 = .ok (.iload_n 3, 1) := by decide +kernel
theorem dX5_moveAll_372 : decode cX5_moveAll 372 = .ok (.iadd, 1) := by decide +kernel
theorem dX5_moveAll_373 : decode cX5_moveAll 373 = .ok (.aload_n 0, 1) := by decide +kernel
theorem dX5_moveAll_374 : decode cX5_moveAll 374 = .ok (.getfield 59, 3) := by decide +kernel
theorem dX5_moveAll_377 : decode cX5_moveAll 377 = .ok (.iload_n 3, 1) := by decide +kernel
theorem dX5_moveAll_378 : decode cX5_moveAll 378 = .ok (.iaload, 1) := by decide +kernel
theorem dX5_moveAll_379 : decode cX5_moveAll 379 = .ok (.iload_n 2, 1) := by decide +kernel
theorem dX5_moveAll_380 : decode cX5_moveAll 380 = .ok (.invokevirtual 330, 3) := by decide +kernel
theorem dX5_moveAll_383 : decode cX5_moveAll 383 = .ok (.iastore, 1) := by decide +kernel
theorem dX5_moveAll_384 : decode cX5_moveAll 384 = .ok (.aload_n 0, 1) := by decide +kernel
theorem dX5_moveAll_385 : decode cX5_moveAll 385 = .ok (.getfield 62, 3) := by decide +kernel
theorem dX5_moveAll_388 : decode cX5_moveAll 388 = .ok (.iload_n 3, 1) := by decide +kernel
theorem dX5_moveAll_389 : decode cX5_moveAll 389 = .ok (.aload_n 0, 1) := by decide +kernel
theorem dX5_moveAll_390 : decode cX5_moveAll 390 = .ok (.iload_n 1, 1) := by decide +kernel
theorem dX5_moveAll_391 : decode cX5_moveAll 391 = .ok (.sipush 439, 3) := by decide +kernel
theorem dX5_moveAll_394 : decode cX5_moveAll 394 = .ok (.iload_n 3, 1) := by decide +kernel
theorem dX5_moveAll_395 : decode cX5_moveAll 395 = .ok (.iadd, 1) := by decide +kernel
theorem dX5_moveAll_396 : decode cX5_moveAll 396 = .ok (.aload_n 0, 1) := by decide +kernel
theorem dX5_moveAll_397 : decode cX5_moveAll 397 = .ok (.getfield 62, 3) := by decide +kernel
theorem dX5_moveAll_400 : decode cX5_moveAll 400 = .ok (.iload_n 3, 1) := by decide +kernel
theorem dX5_moveAll_401 : decode cX5_moveAll 401 = .ok (.iaload, 1) := by decide +kernel
theorem dX5_moveAll_402 : decode cX5_moveAll 402 = .ok (.iload_n 2, 1) := by decide +kernel
theorem dX5_moveAll_403 : decode cX5_moveAll 403 = .ok (.invokevirtual 330, 3) := by decide +kernel
theorem dX5_moveAll_406 : decode cX5_moveAll 406 = .ok (.iastore, 1) := by decide +kernel
theorem dX5_moveAll_407 : decode cX5_moveAll 407 = .ok (.aload_n 0, 1) := by decide +kernel
theorem dX5_moveAll_408 : decode cX5_moveAll 408 = .ok (.getfield 65, 3) := by decide +kernel
theorem dX5_moveAll_411 : decode cX5_moveAll 411 = .ok (.iload_n 3, 1) := by decide +kernel
theorem dX5_moveAll_412 : decode cX5_moveAll 412 = .ok (.aload_n 0, 1) := by decide +kernel
theorem dX5_moveAll_413 : decode cX5_moveAll 413 = .ok (.iload_n 1, 1) := by decide +kernel
theorem dX5_moveAll_414 : decode cX5_moveAll 414 = .ok (.sipush 451, 3) := by decide +kernel
theorem dX5_moveAll_417 : decode cX5_moveAll 417 = .ok (.iload_n 3, 1) := by decide +kernel
theorem dX5_moveAll_418 : decode cX5_moveAll 418 = .ok (.iadd, 1) := by decide +kernel
theorem dX5_moveAll_419 : decode cX5_moveAll 419 = .ok (.aload_n 0, 1) := by decide +kernel
theorem dX5_moveAll_420 : decode cX5_moveAll 420 = .ok (.getfield 65, 3) := by decide +kernel
theorem dX5_moveAll_423 : decode cX5_moveAll 423 = .ok (.iload_n 3, 1) := by decide +kernel
theorem dX5_moveAll_424 : decode cX5_moveAll 424 = .ok (.iaload, 1) := by decide +kernel
theorem dX5_moveAll_425 : decode cX5_moveAll 425 = .ok (.iload_n 2, 1) := by decide +kernel
theorem dX5_moveAll_426 : decode cX5_moveAll 426 = .ok (.invokevirtual 330, 3) := by decide +kernel
theorem dX5_moveAll_429 : decode cX5_moveAll 429 = .ok (.iastore, 1) := by decide +kernel
theorem dX5_moveAll_430 : decode cX5_moveAll 430 = .ok (.iinc 3 1, 3) := by decide +kernel
theorem dX5_moveAll_433 : decode cX5_moveAll 433 = .ok (.goto (-101), 3) := by decide +kernel
theorem dX5_moveAll_436 : decode cX5_moveAll 436 = .ok (.return_, 1) := by decide +kernel
def tb_X5_moveAll (S_X5_moves : ma_Cs) : Nat → ma_In := fun pc =>
 (if pc < 212 then
 (if pc < 106 then
 (if pc < 57 then
 (if pc < 27 then
 (if pc < 12 then
 (if pc < 4 then
 (if pc < 2 then
 (if pc < 1 then
 (if pc = 0 then in_ald 0 1 else in_no) else
 (if pc = 1 then in_ald 0 2 else in_no)) else
 (if pc < 3 then
 (if pc = 2 then in_ild 1 3 else in_no) else
 (if pc = 3 then in_push (.int 0) 4 else in_no))) else
 (if pc < 8 then
 (if pc < 5 then
 (if pc = 4 then in_ald 0 5 else in_no) else
 (if pc = 5 then in_get YM 5 7 8 else in_no)) else
 (if pc < 9 then
 (if pc = 8 then in_ild 2 9 else in_no) else
 (if pc = 9 then in_v5 YM 5 S_X5_moves 12 else in_no)))) else
 (if pc < 18 then
 (if pc < 16 then
 (if pc < 15 then
 (if pc = 12 then in_put YM 5 7 15 else in_no) else
 (if pc = 15 then in_ald 0 16 else in_no)) else
 (if pc < 17 then
 (if pc = 16 then in_ald 0 17 else in_no) else
 (if pc = 17 then in_ild 1 18 else in_no))) else
 (if pc < 20 then
 (if pc < 19 then
 (if pc = 18 then in_push (.int 1) 19 else in_no) else
 (if pc = 19 then in_ald 0 20 else in_no)) else
 (if pc < 23 then
 (if pc = 20 then in_get YM 5 2 23 else in_no) else
 (if pc < 24 then
 (if pc = 23 then in_ild 2 24 else in_no) else
 (if pc = 24 then in_v5 YM 5 S_X5_moves 27 else in_no)))))) else
 (if pc < 42 then
 (if pc < 33 then
 (if pc < 31 then
 (if pc < 30 then
 (if pc = 27 then in_put YM 5 2 30 else in_no) else
 (if pc = 30 then in_ald 0 31 else in_no)) else
 (if pc < 32 then
 (if pc = 31 then in_ald 0 32 else in_no) else
 (if pc = 32 then in_ild 1 33 else in_no))) else
 (if pc < 35 then
 (if pc < 34 then
 (if pc = 33 then in_push (.int 2) 34 else in_no) else
 (if pc = 34 then in_ald 0 35 else in_no)) else
 (if pc < 38 then
 (if pc = 35 then in_get YM 5 19 38 else in_no) else
 (if pc < 39 then
 (if pc = 38 then in_ild 2 39 else in_no) else
 (if pc = 39 then in_v5 YM 5 S_X5_moves 42 else in_no))))) else
 (if pc < 48 then
 (if pc < 46 then
 (if pc < 45 then
 (if pc = 42 then in_put YM 5 19 45 else in_no) else
 (if pc = 45 then in_push (.int 0) 46 else in_no)) else
 (if pc < 47 then
 (if pc = 46 then in_ist 3 47 else in_no) else
 (if pc = 47 then in_ild 3 48 else in_no))) else
 (if pc < 52 then
 (if pc < 49 then
 (if pc = 48 then in_push (.int 4) 49 else in_no) else
 (if pc = 49 then in_if2 (fun x y => y ≤ x) 211 52 else in_no)) else
 (if pc < 53 then
 (if pc = 52 then in_ald 0 53 else in_no) else
 (if pc < 56 then
 (if pc = 53 then in_get YM 5 4 56 else in_no) else
 (if pc = 56 then in_ild 3 57 else in_no))))))) else
 (if pc < 80 then
 (if pc < 67 then
 (if pc < 61 then
 (if pc < 59 then
 (if pc < 58 then
 (if pc = 57 then in_ald 0 58 else in_no) else
 (if pc = 58 then in_ild 1 59 else in_no)) else
 (if pc < 60 then
 (if pc = 59 then in_push (.int 3) 60 else in_no) else
 (if pc = 60 then in_ild 3 61 else in_no))) else
 (if pc < 63 then
 (if pc < 62 then
 (if pc = 61 then in_iii (fun x y => x + y) 62 else in_no) else
 (if pc = 62 then in_ald 0 63 else in_no)) else
 (if pc < 66 then
 (if pc = 63 then in_get YM 5 4 66 else in_no) else
 (if pc = 66 then in_ild 3 67 else in_no)))) else
 (if pc < 73 then
 (if pc < 69 then
 (if pc < 68 then
 (if pc = 67 then in_iar YM 68 else in_no) else
 (if pc = 68 then in_ild 2 69 else in_no)) else
 (if pc < 72 then
 (if pc = 69 then in_v5 YM 5 S_X5_moves 72 else in_no) else
 (if pc = 72 then in_iaw YM 73 else in_no))) else
 (if pc < 77 then
 (if pc < 74 then
 (if pc = 73 then in_ald 0 74 else in_no) else
 (if pc = 74 then in_get YM 5 9 77 else in_no)) else
 (if pc < 78 then
 (if pc = 77 then in_ild 3 78 else in_no) else
 (if pc < 79 then
 (if pc = 78 then in_ald 0 79 else in_no) else
 (if pc = 79 then in_ild 1 80 else in_no)))))) else
 (if pc < 94 then
 (if pc < 85 then
 (if pc < 83 then
 (if pc < 82 then
 (if pc = 80 then in_push (.int 7) 82 else in_no) else
 (if pc = 82 then in_ild 3 83 else in_no)) else
 (if pc < 84 then
 (if pc = 83 then in_iii (fun x y => x + y) 84 else in_no) else
 (if pc = 84 then in_ald 0 85 else in_no))) else
 (if pc < 89 then
 (if pc < 88 then
 (if pc = 85 then in_get YM 5 9 88 else in_no) else
 (if pc = 88 then in_ild 3 89 else in_no)) else
 (if pc < 90 then
 (if pc = 89 then in_iar YM 90 else in_no) else
 (if pc < 91 then
 (if pc = 90 then in_ild 2 91 else in_no) else
 (if pc = 91 then in_v5 YM 5 S_X5_moves 94 else in_no))))) else
 (if pc < 100 then
 (if pc < 96 then
 (if pc < 95 then
 (if pc = 94 then in_iaw YM 95 else in_no) else
 (if pc = 95 then in_ald 0 96 else in_no)) else
 (if pc < 99 then
 (if pc = 96 then in_get YM 5 10 99 else in_no) else
 (if pc = 99 then in_ild 3 100 else in_no))) else
 (if pc < 102 then
 (if pc < 101 then
 (if pc = 100 then in_ald 0 101 else in_no) else
 (if pc = 101 then in_ild 1 102 else in_no)) else
 (if pc < 104 then
 (if pc = 102 then in_push (.int 11) 104 else in_no) else
 (if pc < 105 then
 (if pc = 104 then in_ild 3 105 else in_no) else
 (if pc = 105 then in_iii (fun x y => x + y) 106 else in_no)))))))) else
 (if pc < 157 then
 (if pc < 132 then
 (if pc < 118 then
 (if pc < 112 then
 (if pc < 110 then
 (if pc < 107 then
 (if pc = 106 then in_ald 0 107 else in_no) else
 (if pc = 107 then in_get YM 5 10 110 else in_no)) else
 (if pc < 111 then
 (if pc = 110 then in_ild 3 111 else in_no) else
 (if pc = 111 then in_iar YM 112 else in_no))) else
 (if pc < 116 then
 (if pc < 113 then
 (if pc = 112 then in_ild 2 113 else in_no) else
 (if pc = 113 then in_v5 YM 5 S_X5_moves 116 else in_no)) else
 (if pc < 117 then
 (if pc = 116 then in_iaw YM 117 else in_no) else
 (if pc = 117 then in_ald 0 118 else in_no)))) else
 (if pc < 124 then
 (if pc < 122 then
 (if pc < 121 then
 (if pc = 118 then in_get YM 5 11 121 else in_no) else
 (if pc = 121 then in_ild 3 122 else in_no)) else
 (if pc < 123 then
 (if pc = 122 then in_ald 0 123 else in_no) else
 (if pc = 123 then in_ild 1 124 else in_no))) else
 (if pc < 127 then
 (if pc < 126 then
 (if pc = 124 then in_push (.int 15) 126 else in_no) else
 (if pc = 126 then in_ild 3 127 else in_no)) else
 (if pc < 128 then
 (if pc = 127 then in_iii (fun x y => x + y) 128 else in_no) else
 (if pc < 129 then
 (if pc = 128 then in_ald 0 129 else in_no) else
 (if pc = 129 then in_get YM 5 11 132 else in_no)))))) else
 (if pc < 145 then
 (if pc < 138 then
 (if pc < 134 then
 (if pc < 133 then
 (if pc = 132 then in_ild 3 133 else in_no) else
 (if pc = 133 then in_iar YM 134 else in_no)) else
 (if pc < 135 then
 (if pc = 134 then in_ild 2 135 else in_no) else
 (if pc = 135 then in_v5 YM 5 S_X5_moves 138 else in_no))) else
 (if pc < 140 then
 (if pc < 139 then
 (if pc = 138 then in_iaw YM 139 else in_no) else
 (if pc = 139 then in_ald 0 140 else in_no)) else
 (if pc < 143 then
 (if pc = 140 then in_get YM 5 12 143 else in_no) else
 (if pc < 144 then
 (if pc = 143 then in_ild 3 144 else in_no) else
 (if pc = 144 then in_ald 0 145 else in_no))))) else
 (if pc < 150 then
 (if pc < 148 then
 (if pc < 146 then
 (if pc = 145 then in_ild 1 146 else in_no) else
 (if pc = 146 then in_push (.int 19) 148 else in_no)) else
 (if pc < 149 then
 (if pc = 148 then in_ild 3 149 else in_no) else
 (if pc = 149 then in_iii (fun x y => x + y) 150 else in_no))) else
 (if pc < 154 then
 (if pc < 151 then
 (if pc = 150 then in_ald 0 151 else in_no) else
 (if pc = 151 then in_get YM 5 12 154 else in_no)) else
 (if pc < 155 then
 (if pc = 154 then in_ild 3 155 else in_no) else
 (if pc < 156 then
 (if pc = 155 then in_iar YM 156 else in_no) else
 (if pc = 156 then in_ild 2 157 else in_no))))))) else
 (if pc < 183 then
 (if pc < 170 then
 (if pc < 165 then
 (if pc < 161 then
 (if pc < 160 then
 (if pc = 157 then in_v5 YM 5 S_X5_moves 160 else in_no) else
 (if pc = 160 then in_iaw YM 161 else in_no)) else
 (if pc < 162 then
 (if pc = 161 then in_ald 0 162 else in_no) else
 (if pc = 162 then in_get YM 5 13 165 else in_no))) else
 (if pc < 167 then
 (if pc < 166 then
 (if pc = 165 then in_ild 3 166 else in_no) else
 (if pc = 166 then in_ald 0 167 else in_no)) else
 (if pc < 168 then
 (if pc = 167 then in_ild 1 168 else in_no) else
 (if pc = 168 then in_push (.int 23) 170 else in_no)))) else
 (if pc < 176 then
 (if pc < 172 then
 (if pc < 171 then
 (if pc = 170 then in_ild 3 171 else in_no) else
 (if pc = 171 then in_iii (fun x y => x + y) 172 else in_no)) else
 (if pc < 173 then
 (if pc = 172 then in_ald 0 173 else in_no) else
 (if pc = 173 then in_get YM 5 13 176 else in_no))) else
 (if pc < 178 then
 (if pc < 177 then
 (if pc = 176 then in_ild 3 177 else in_no) else
 (if pc = 177 then in_iar YM 178 else in_no)) else
 (if pc < 179 then
 (if pc = 178 then in_ild 2 179 else in_no) else
 (if pc < 182 then
 (if pc = 179 then in_v5 YM 5 S_X5_moves 182 else in_no) else
 (if pc = 182 then in_iaw YM 183 else in_no)))))) else
 (if pc < 195 then
 (if pc < 189 then
 (if pc < 187 then
 (if pc < 184 then
 (if pc = 183 then in_ald 0 184 else in_no) else
 (if pc = 184 then in_get YM 5 14 187 else in_no)) else
 (if pc < 188 then
 (if pc = 187 then in_ild 3 188 else in_no) else
 (if pc = 188 then in_ald 0 189 else in_no))) else
 (if pc < 192 then
 (if pc < 190 then
 (if pc = 189 then in_ild 1 190 else in_no) else
 (if pc = 190 then in_push (.int 27) 192 else in_no)) else
 (if pc < 193 then
 (if pc = 192 then in_ild 3 193 else in_no) else
 (if pc < 194 then
 (if pc = 193 then in_iii (fun x y => x + y) 194 else in_no) else
 (if pc = 194 then in_ald 0 195 else in_no))))) else
 (if pc < 201 then
 (if pc < 199 then
 (if pc < 198 then
 (if pc = 195 then in_get YM 5 14 198 else in_no) else
 (if pc = 198 then in_ild 3 199 else in_no)) else
 (if pc < 200 then
 (if pc = 199 then in_iar YM 200 else in_no) else
 (if pc = 200 then in_ild 2 201 else in_no))) else
 (if pc < 205 then
 (if pc < 204 then
 (if pc = 201 then in_v5 YM 5 S_X5_moves 204 else in_no) else
 (if pc = 204 then in_iaw YM 205 else in_no)) else
 (if pc < 208 then
 (if pc = 205 then in_inc 3 1 208 else in_no) else
 (if pc < 211 then
 (if pc = 208 then in_go 47 else in_no) else
 (if pc = 211 then in_push (.int 0) 212 else in_no))))))))) else
 (if pc < 323 then
 (if pc < 264 then
 (if pc < 237 then
 (if pc < 225 then
 (if pc < 219 then
 (if pc < 214 then
 (if pc < 213 then
 (if pc = 212 then in_ist 3 213 else in_no) else
 (if pc = 213 then in_ild 3 214 else in_no)) else
 (if pc < 216 then
 (if pc = 214 then in_push (.int 80) 216 else in_no) else
 (if pc = 216 then in_if2 (fun x y => y ≤ x) 292 219 else in_no))) else
 (if pc < 223 then
 (if pc < 220 then
 (if pc = 219 then in_ald 0 220 else in_no) else
 (if pc = 220 then in_get YM 5 15 223 else in_no)) else
 (if pc < 224 then
 (if pc = 223 then in_ild 3 224 else in_no) else
 (if pc = 224 then in_ald 0 225 else in_no)))) else
 (if pc < 230 then
 (if pc < 228 then
 (if pc < 226 then
 (if pc = 225 then in_ild 1 226 else in_no) else
 (if pc = 226 then in_push (.int 31) 228 else in_no)) else
 (if pc < 229 then
 (if pc = 228 then in_ild 3 229 else in_no) else
 (if pc = 229 then in_iii (fun x y => x + y) 230 else in_no))) else
 (if pc < 234 then
 (if pc < 231 then
 (if pc = 230 then in_ald 0 231 else in_no) else
 (if pc = 231 then in_get YM 5 15 234 else in_no)) else
 (if pc < 235 then
 (if pc = 234 then in_ild 3 235 else in_no) else
 (if pc < 236 then
 (if pc = 235 then in_iar YM 236 else in_no) else
 (if pc = 236 then in_ild 2 237 else in_no)))))) else
 (if pc < 251 then
 (if pc < 245 then
 (if pc < 241 then
 (if pc < 240 then
 (if pc = 237 then in_v5 YM 5 S_X5_moves 240 else in_no) else
 (if pc = 240 then in_iaw YM 241 else in_no)) else
 (if pc < 242 then
 (if pc = 241 then in_ald 0 242 else in_no) else
 (if pc = 242 then in_get YM 5 16 245 else in_no))) else
 (if pc < 247 then
 (if pc < 246 then
 (if pc = 245 then in_ild 3 246 else in_no) else
 (if pc = 246 then in_ald 0 247 else in_no)) else
 (if pc < 248 then
 (if pc = 247 then in_ild 1 248 else in_no) else
 (if pc < 250 then
 (if pc = 248 then in_push (.int 111) 250 else in_no) else
 (if pc = 250 then in_ild 3 251 else in_no))))) else
 (if pc < 257 then
 (if pc < 253 then
 (if pc < 252 then
 (if pc = 251 then in_iii (fun x y => x + y) 252 else in_no) else
 (if pc = 252 then in_ald 0 253 else in_no)) else
 (if pc < 256 then
 (if pc = 253 then in_get YM 5 16 256 else in_no) else
 (if pc = 256 then in_ild 3 257 else in_no))) else
 (if pc < 259 then
 (if pc < 258 then
 (if pc = 257 then in_iar YM 258 else in_no) else
 (if pc = 258 then in_ild 2 259 else in_no)) else
 (if pc < 262 then
 (if pc = 259 then in_v5 YM 5 S_X5_moves 262 else in_no) else
 (if pc < 263 then
 (if pc = 262 then in_iaw YM 263 else in_no) else
 (if pc = 263 then in_ald 0 264 else in_no))))))) else
 (if pc < 293 then
 (if pc < 276 then
 (if pc < 270 then
 (if pc < 268 then
 (if pc < 267 then
 (if pc = 264 then in_get YM 5 17 267 else in_no) else
 (if pc = 267 then in_ild 3 268 else in_no)) else
 (if pc < 269 then
 (if pc = 268 then in_ald 0 269 else in_no) else
 (if pc = 269 then in_ild 1 270 else in_no))) else
 (if pc < 274 then
 (if pc < 273 then
 (if pc = 270 then in_push (.int 191) 273 else in_no) else
 (if pc = 273 then in_ild 3 274 else in_no)) else
 (if pc < 275 then
 (if pc = 274 then in_iii (fun x y => x + y) 275 else in_no) else
 (if pc = 275 then in_ald 0 276 else in_no)))) else
 (if pc < 282 then
 (if pc < 280 then
 (if pc < 279 then
 (if pc = 276 then in_get YM 5 17 279 else in_no) else
 (if pc = 279 then in_ild 3 280 else in_no)) else
 (if pc < 281 then
 (if pc = 280 then in_iar YM 281 else in_no) else
 (if pc = 281 then in_ild 2 282 else in_no))) else
 (if pc < 286 then
 (if pc < 285 then
 (if pc = 282 then in_v5 YM 5 S_X5_moves 285 else in_no) else
 (if pc = 285 then in_iaw YM 286 else in_no)) else
 (if pc < 289 then
 (if pc = 286 then in_inc 3 1 289 else in_no) else
 (if pc < 292 then
 (if pc = 289 then in_go 213 else in_no) else
 (if pc = 292 then in_push (.int 0) 293 else in_no)))))) else
 (if pc < 308 then
 (if pc < 301 then
 (if pc < 295 then
 (if pc < 294 then
 (if pc = 293 then in_ist 3 294 else in_no) else
 (if pc = 294 then in_ild 3 295 else in_no)) else
 (if pc < 298 then
 (if pc = 295 then in_push (.int 144) 298 else in_no) else
 (if pc = 298 then in_if2 (fun x y => y ≤ x) 330 301 else in_no))) else
 (if pc < 305 then
 (if pc < 302 then
 (if pc = 301 then in_ald 0 302 else in_no) else
 (if pc = 302 then in_get YM 5 18 305 else in_no)) else
 (if pc < 306 then
 (if pc = 305 then in_ild 3 306 else in_no) else
 (if pc < 307 then
 (if pc = 306 then in_ald 0 307 else in_no) else
 (if pc = 307 then in_ild 1 308 else in_no))))) else
 (if pc < 314 then
 (if pc < 312 then
 (if pc < 311 then
 (if pc = 308 then in_push (.int 271) 311 else in_no) else
 (if pc = 311 then in_ild 3 312 else in_no)) else
 (if pc < 313 then
 (if pc = 312 then in_iii (fun x y => x + y) 313 else in_no) else
 (if pc = 313 then in_ald 0 314 else in_no))) else
 (if pc < 318 then
 (if pc < 317 then
 (if pc = 314 then in_get YM 5 18 317 else in_no) else
 (if pc = 317 then in_ild 3 318 else in_no)) else
 (if pc < 319 then
 (if pc = 318 then in_iar YM 319 else in_no) else
 (if pc < 320 then
 (if pc = 319 then in_ild 2 320 else in_no) else
 (if pc = 320 then in_v5 YM 5 S_X5_moves 323 else in_no)))))))) else
 (if pc < 379 then
 (if pc < 351 then
 (if pc < 338 then
 (if pc < 331 then
 (if pc < 327 then
 (if pc < 324 then
 (if pc = 323 then in_iaw YM 324 else in_no) else
 (if pc = 324 then in_inc 3 1 327 else in_no)) else
 (if pc < 330 then
 (if pc = 327 then in_go 294 else in_no) else
 (if pc = 330 then in_push (.int 0) 331 else in_no))) else
 (if pc < 333 then
 (if pc < 332 then
 (if pc = 331 then in_ist 3 332 else in_no) else
 (if pc = 332 then in_ild 3 333 else in_no)) else
 (if pc < 335 then
 (if pc = 333 then in_push (.int 12) 335 else in_no) else
 (if pc = 335 then in_if2 (fun x y => y ≤ x) 436 338 else in_no)))) else
 (if pc < 344 then
 (if pc < 342 then
 (if pc < 339 then
 (if pc = 338 then in_ald 0 339 else in_no) else
 (if pc = 339 then in_get YM 5 20 342 else in_no)) else
 (if pc < 343 then
 (if pc = 342 then in_ild 3 343 else in_no) else
 (if pc = 343 then in_ald 0 344 else in_no))) else
 (if pc < 348 then
 (if pc < 345 then
 (if pc = 344 then in_ild 1 345 else in_no) else
 (if pc = 345 then in_push (.int 415) 348 else in_no)) else
 (if pc < 349 then
 (if pc = 348 then in_ild 3 349 else in_no) else
 (if pc < 350 then
 (if pc = 349 then in_iii (fun x y => x + y) 350 else in_no) else
 (if pc = 350 then in_ald 0 351 else in_no)))))) else
 (if pc < 366 then
 (if pc < 357 then
 (if pc < 355 then
 (if pc < 354 then
 (if pc = 351 then in_get YM 5 20 354 else in_no) else
 (if pc = 354 then in_ild 3 355 else in_no)) else
 (if pc < 356 then
 (if pc = 355 then in_iar YM 356 else in_no) else
 (if pc = 356 then in_ild 2 357 else in_no))) else
 (if pc < 361 then
 (if pc < 360 then
 (if pc = 357 then in_v5 YM 5 S_X5_moves 360 else in_no) else
 (if pc = 360 then in_iaw YM 361 else in_no)) else
 (if pc < 362 then
 (if pc = 361 then in_ald 0 362 else in_no) else
 (if pc < 365 then
 (if pc = 362 then in_get YM 5 21 365 else in_no) else
 (if pc = 365 then in_ild 3 366 else in_no))))) else
 (if pc < 372 then
 (if pc < 368 then
 (if pc < 367 then
 (if pc = 366 then in_ald 0 367 else in_no) else
 (if pc = 367 then in_ild 1 368 else in_no)) else
 (if pc < 371 then
 (if pc = 368 then in_push (.int 427) 371 else in_no) else
 (if pc = 371 then in_ild 3 372 else in_no))) else
 (if pc < 374 then
 (if pc < 373 then
 (if pc = 372 then in_iii (fun x y => x + y) 373 else in_no) else
 (if pc = 373 then in_ald 0 374 else in_no)) else
 (if pc < 377 then
 (if pc = 374 then in_get YM 5 21 377 else in_no) else
 (if pc < 378 then
 (if pc = 377 then in_ild 3 378 else in_no) else
 (if pc = 378 then in_iar YM 379 else in_no))))))) else
 (if pc < 407 then
 (if pc < 394 then
 (if pc < 385 then
 (if pc < 383 then
 (if pc < 380 then
 (if pc = 379 then in_ild 2 380 else in_no) else
 (if pc = 380 then in_v5 YM 5 S_X5_moves 383 else in_no)) else
 (if pc < 384 then
 (if pc = 383 then in_iaw YM 384 else in_no) else
 (if pc = 384 then in_ald 0 385 else in_no))) else
 (if pc < 389 then
 (if pc < 388 then
 (if pc = 385 then in_get YM 5 22 388 else in_no) else
 (if pc = 388 then in_ild 3 389 else in_no)) else
 (if pc < 390 then
 (if pc = 389 then in_ald 0 390 else in_no) else
 (if pc < 391 then
 (if pc = 390 then in_ild 1 391 else in_no) else
 (if pc = 391 then in_push (.int 439) 394 else in_no))))) else
 (if pc < 400 then
 (if pc < 396 then
 (if pc < 395 then
 (if pc = 394 then in_ild 3 395 else in_no) else
 (if pc = 395 then in_iii (fun x y => x + y) 396 else in_no)) else
 (if pc < 397 then
 (if pc = 396 then in_ald 0 397 else in_no) else
 (if pc = 397 then in_get YM 5 22 400 else in_no))) else
 (if pc < 402 then
 (if pc < 401 then
 (if pc = 400 then in_ild 3 401 else in_no) else
 (if pc = 401 then in_iar YM 402 else in_no)) else
 (if pc < 403 then
 (if pc = 402 then in_ild 2 403 else in_no) else
 (if pc < 406 then
 (if pc = 403 then in_v5 YM 5 S_X5_moves 406 else in_no) else
 (if pc = 406 then in_iaw YM 407 else in_no)))))) else
 (if pc < 420 then
 (if pc < 413 then
 (if pc < 411 then
 (if pc < 408 then
 (if pc = 407 then in_ald 0 408 else in_no) else
 (if pc = 408 then in_get YM 5 23 411 else in_no)) else
 (if pc < 412 then
 (if pc = 411 then in_ild 3 412 else in_no) else
 (if pc = 412 then in_ald 0 413 else in_no))) else
 (if pc < 417 then
 (if pc < 414 then
 (if pc = 413 then in_ild 1 414 else in_no) else
 (if pc = 414 then in_push (.int 451) 417 else in_no)) else
 (if pc < 418 then
 (if pc = 417 then in_ild 3 418 else in_no) else
 (if pc < 419 then
 (if pc = 418 then in_iii (fun x y => x + y) 419 else in_no) else
 (if pc = 419 then in_ald 0 420 else in_no))))) else
 (if pc < 426 then
 (if pc < 424 then
 (if pc < 423 then
 (if pc = 420 then in_get YM 5 23 423 else in_no) else
 (if pc = 423 then in_ild 3 424 else in_no)) else
 (if pc < 425 then
 (if pc = 424 then in_iar YM 425 else in_no) else
 (if pc = 425 then in_ild 2 426 else in_no))) else
 (if pc < 430 then
 (if pc < 429 then
 (if pc = 426 then in_v5 YM 5 S_X5_moves 429 else in_no) else
 (if pc = 429 then in_iaw YM 430 else in_no)) else
 (if pc < 433 then
 (if pc = 430 then in_inc 3 1 433 else in_no) else
 (if pc < 436 then
 (if pc = 433 then in_go 332 else in_no) else
 (if pc = 436 then in_rv else in_no))))))))))
theorem tk_X5_moveAll {l : Launch} {w : ma_Wd} {NC : Nat} {A : Nat → Prop} {S_X5_moves : ma_Cs} (h_X5_moves : ma_Sd l w YM NC A yX5_moves cX5_moves 6 (some .int) rm_X5_moves S_X5_moves) {p : Program} {e : Env} {s : State} {m : MethodId} {args : Array Value} {below : List Frame} {meth : Method} {c : Code} (X : ma_Cx p s m args meth c w YM NC A yX5_moveAll.cls cX5_moveAll 4 none) : ∀ pc, ma_Ok p l e rm_X5_moveAll s m args below meth c w YM NC A 4 pc (tb_X5_moveAll S_X5_moves pc) := fun pc =>
 (mk_lt
 (mk_lt
 (mk_lt
 (mk_lt
 (mk_lt
 (mk_lt
 (mk_lt
 (mk_lt
 (mk_eq (mk_aload_n X dX5_moveAll_0 rfl rfl))
 (mk_eq (mk_aload_n X dX5_moveAll_1 rfl rfl)))
 (mk_lt
 (mk_eq (mk_iload_n X dX5_moveAll_2 rfl rfl))
 (mk_eq (mk_iconst X dX5_moveAll_3 rfl rfl))))
 (mk_lt
 (mk_lt
 (mk_eq (mk_aload_n X dX5_moveAll_4 rfl rfl))
 (mk_eq (mk_get X (ci := 5) (j := 7) rfl in_X5 (Nat.le_of_ble_eq_true rfl) q754 dX5_moveAll_5 rfl)))
 (mk_lt
 (mk_eq (mk_iload_n X dX5_moveAll_8 rfl rfl))
 (mk_eq (mk_V5 X h_X5_moves (ci := 5) rfl (lw_V q1167 q1169 qs58 q66 q1170) ⟨rfl, by decide, by decide, rfl⟩ ⟨(Nat.le_of_ble_eq_true rfl), (Nat.le_of_ble_eq_true rfl)⟩ dX5_moveAll_9 rfl)))))
 (mk_lt
 (mk_lt
 (mk_lt
 (mk_eq (mk_put X (ci := 5) (j := 7) rfl in_X5 tyX5_ok nmX5 (Nat.le_of_ble_eq_true rfl) rfl rfl q754 dX5_moveAll_12 rfl))
 (mk_eq (mk_aload_n X dX5_moveAll_15 rfl rfl)))
 (mk_lt
 (mk_eq (mk_aload_n X dX5_moveAll_16 rfl rfl))
 (mk_eq (mk_iload_n X dX5_moveAll_17 rfl rfl))))
 (mk_lt
 (mk_lt
 (mk_eq (mk_iconst X dX5_moveAll_18 rfl rfl))
 (mk_eq (mk_aload_n X dX5_moveAll_19 rfl rfl)))
 (mk_lt
 (mk_eq (mk_get X (ci := 5) (j := 2) rfl in_X5 (Nat.le_of_ble_eq_true rfl) q749 dX5_moveAll_20 rfl))
 (mk_lt
 (mk_eq (mk_iload_n X dX5_moveAll_23 rfl rfl))
 (mk_eq (mk_V5 X h_X5_moves (ci := 5) rfl (lw_V q1167 q1169 qs58 q66 q1170) ⟨rfl, by decide, by decide, rfl⟩ ⟨(Nat.le_of_ble_eq_true rfl), (Nat.le_of_ble_eq_true rfl)⟩ dX5_moveAll_24 rfl)))))))
 (mk_lt
 (mk_lt
 (mk_lt
 (mk_lt
 (mk_eq (mk_put X (ci := 5) (j := 2) rfl in_X5 tyX5_ok nmX5 (Nat.le_of_ble_eq_true rfl) rfl rfl q749 dX5_moveAll_27 rfl))
 (mk_eq (mk_aload_n X dX5_moveAll_30 rfl rfl)))
 (mk_lt
 (mk_eq (mk_aload_n X dX5_moveAll_31 rfl rfl))
 (mk_eq (mk_iload_n X dX5_moveAll_32 rfl rfl))))
 (mk_lt
 (mk_lt
 (mk_eq (mk_iconst X dX5_moveAll_33 rfl rfl))
 (mk_eq (mk_aload_n X dX5_moveAll_34 rfl rfl)))
 (mk_lt
 (mk_eq (mk_get X (ci := 5) (j := 19) rfl in_X5 (Nat.le_of_ble_eq_true rfl) q766 dX5_moveAll_35 rfl))
 (mk_lt
 (mk_eq (mk_iload_n X dX5_moveAll_38 rfl rfl))
 (mk_eq (mk_V5 X h_X5_moves (ci := 5) rfl (lw_V q1167 q1169 qs58 q66 q1170) ⟨rfl, by decide, by decide, rfl⟩ ⟨(Nat.le_of_ble_eq_true rfl), (Nat.le_of_ble_eq_true rfl)⟩ dX5_moveAll_39 rfl))))))
 (mk_lt
 (mk_lt
 (mk_lt
 (mk_eq (mk_put X (ci := 5) (j := 19) rfl in_X5 tyX5_ok nmX5 (Nat.le_of_ble_eq_true rfl) rfl rfl q766 dX5_moveAll_42 rfl))
 (mk_eq (mk_iconst X dX5_moveAll_45 rfl rfl)))
 (mk_lt
 (mk_eq (mk_istore_n X dX5_moveAll_46 rfl (Nat.le_of_ble_eq_true rfl) rfl))
 (mk_eq (mk_iload_n X dX5_moveAll_47 rfl rfl))))
 (mk_lt
 (mk_lt
 (mk_eq (mk_iconst X dX5_moveAll_48 rfl rfl))
 (mk_eq (mk_icge X dX5_moveAll_49 rfl rfl)))
 (mk_lt
 (mk_eq (mk_aload_n X dX5_moveAll_52 rfl rfl))
 (mk_lt
 (mk_eq (mk_get X (ci := 5) (j := 4) rfl in_X5 (Nat.le_of_ble_eq_true rfl) q751 dX5_moveAll_53 rfl))
 (mk_eq (mk_iload_n X dX5_moveAll_56 rfl rfl))))))))
 (mk_lt
 (mk_lt
 (mk_lt
 (mk_lt
 (mk_lt
 (mk_eq (mk_aload_n X dX5_moveAll_57 rfl rfl))
 (mk_eq (mk_iload_n X dX5_moveAll_58 rfl rfl)))
 (mk_lt
 (mk_eq (mk_iconst X dX5_moveAll_59 rfl rfl))
 (mk_eq (mk_iload_n X dX5_moveAll_60 rfl rfl))))
 (mk_lt
 (mk_lt
 (mk_eq (mk_iadd X dX5_moveAll_61 rfl))
 (mk_eq (mk_aload_n X dX5_moveAll_62 rfl rfl)))
 (mk_lt
 (mk_eq (mk_get X (ci := 5) (j := 4) rfl in_X5 (Nat.le_of_ble_eq_true rfl) q751 dX5_moveAll_63 rfl))
 (mk_eq (mk_iload_n X dX5_moveAll_66 rfl rfl)))))
 (mk_lt
 (mk_lt
 (mk_lt
 (mk_eq (mk_iar X dX5_moveAll_67 rfl))
 (mk_eq (mk_iload_n X dX5_moveAll_68 rfl rfl)))
 (mk_lt
 (mk_eq (mk_V5 X h_X5_moves (ci := 5) rfl (lw_V q1167 q1169 qs58 q66 q1170) ⟨rfl, by decide, by decide, rfl⟩ ⟨(Nat.le_of_ble_eq_true rfl), (Nat.le_of_ble_eq_true rfl)⟩ dX5_moveAll_69 rfl))
 (mk_eq (mk_iaw X dX5_moveAll_72 rfl))))
 (mk_lt
 (mk_lt
 (mk_eq (mk_aload_n X dX5_moveAll_73 rfl rfl))
 (mk_eq (mk_get X (ci := 5) (j := 9) rfl in_X5 (Nat.le_of_ble_eq_true rfl) q756 dX5_moveAll_74 rfl)))
 (mk_lt
 (mk_eq (mk_iload_n X dX5_moveAll_77 rfl rfl))
 (mk_lt
 (mk_eq (mk_aload_n X dX5_moveAll_78 rfl rfl))
 (mk_eq (mk_iload_n X dX5_moveAll_79 rfl rfl)))))))
 (mk_lt
 (mk_lt
 (mk_lt
 (mk_lt
 (mk_eq (mk_bipush X dX5_moveAll_80 rfl rfl))
 (mk_eq (mk_iload_n X dX5_moveAll_82 rfl rfl)))
 (mk_lt
 (mk_eq (mk_iadd X dX5_moveAll_83 rfl))
 (mk_eq (mk_aload_n X dX5_moveAll_84 rfl rfl))))
 (mk_lt
 (mk_lt
 (mk_eq (mk_get X (ci := 5) (j := 9) rfl in_X5 (Nat.le_of_ble_eq_true rfl) q756 dX5_moveAll_85 rfl))
 (mk_eq (mk_iload_n X dX5_moveAll_88 rfl rfl)))
 (mk_lt
 (mk_eq (mk_iar X dX5_moveAll_89 rfl))
 (mk_lt
 (mk_eq (mk_iload_n X dX5_moveAll_90 rfl rfl))
 (mk_eq (mk_V5 X h_X5_moves (ci := 5) rfl (lw_V q1167 q1169 qs58 q66 q1170) ⟨rfl, by decide, by decide, rfl⟩ ⟨(Nat.le_of_ble_eq_true rfl), (Nat.le_of_ble_eq_true rfl)⟩ dX5_moveAll_91 rfl))))))
 (mk_lt
 (mk_lt
 (mk_lt
 (mk_eq (mk_iaw X dX5_moveAll_94 rfl))
 (mk_eq (mk_aload_n X dX5_moveAll_95 rfl rfl)))
 (mk_lt
 (mk_eq (mk_get X (ci := 5) (j := 10) rfl in_X5 (Nat.le_of_ble_eq_true rfl) q757 dX5_moveAll_96 rfl))
 (mk_eq (mk_iload_n X dX5_moveAll_99 rfl rfl))))
 (mk_lt
 (mk_lt
 (mk_eq (mk_aload_n X dX5_moveAll_100 rfl rfl))
 (mk_eq (mk_iload_n X dX5_moveAll_101 rfl rfl)))
 (mk_lt
 (mk_eq (mk_bipush X dX5_moveAll_102 rfl rfl))
 (mk_lt
 (mk_eq (mk_iload_n X dX5_moveAll_104 rfl rfl))
 (mk_eq (mk_iadd X dX5_moveAll_105 rfl)))))))))
 (mk_lt
 (mk_lt
 (mk_lt
 (mk_lt
 (mk_lt
 (mk_lt
 (mk_eq (mk_aload_n X dX5_moveAll_106 rfl rfl))
 (mk_eq (mk_get X (ci := 5) (j := 10) rfl in_X5 (Nat.le_of_ble_eq_true rfl) q757 dX5_moveAll_107 rfl)))
 (mk_lt
 (mk_eq (mk_iload_n X dX5_moveAll_110 rfl rfl))
 (mk_eq (mk_iar X dX5_moveAll_111 rfl))))
 (mk_lt
 (mk_lt
 (mk_eq (mk_iload_n X dX5_moveAll_112 rfl rfl))
 (mk_eq (mk_V5 X h_X5_moves (ci := 5) rfl (lw_V q1167 q1169 qs58 q66 q1170) ⟨rfl, by decide, by decide, rfl⟩ ⟨(Nat.le_of_ble_eq_true rfl), (Nat.le_of_ble_eq_true rfl)⟩ dX5_moveAll_113 rfl)))
 (mk_lt
 (mk_eq (mk_iaw X dX5_moveAll_116 rfl))
 (mk_eq (mk_aload_n X dX5_moveAll_117 rfl rfl)))))
 (mk_lt
 (mk_lt
 (mk_lt
 (mk_eq (mk_get X (ci := 5) (j := 11) rfl in_X5 (Nat.le_of_ble_eq_true rfl) q758 dX5_moveAll_118 rfl))
 (mk_eq (mk_iload_n X dX5_moveAll_121 rfl rfl)))
 (mk_lt
 (mk_eq (mk_aload_n X dX5_moveAll_122 rfl rfl))
 (mk_eq (mk_iload_n X dX5_moveAll_123 rfl rfl))))
 (mk_lt
 (mk_lt
 (mk_eq (mk_bipush X dX5_moveAll_124 rfl rfl))
 (mk_eq (mk_iload_n X dX5_moveAll_126 rfl rfl)))
 (mk_lt
 (mk_eq (mk_iadd X dX5_moveAll_127 rfl))
 (mk_lt
 (mk_eq (mk_aload_n X dX5_moveAll_128 rfl rfl))
 (mk_eq (mk_get X (ci := 5) (j := 11) rfl in_X5 (Nat.le_of_ble_eq_true rfl) q758 dX5_moveAll_129 rfl)))))))
 (mk_lt
 (mk_lt
 (mk_lt
 (mk_lt
 (mk_eq (mk_iload_n X dX5_moveAll_132 rfl rfl))
 (mk_eq (mk_iar X dX5_moveAll_133 rfl)))
 (mk_lt
 (mk_eq (mk_iload_n X dX5_moveAll_134 rfl rfl))
 (mk_eq (mk_V5 X h_X5_moves (ci := 5) rfl (lw_V q1167 q1169 qs58 q66 q1170) ⟨rfl, by decide, by decide, rfl⟩ ⟨(Nat.le_of_ble_eq_true rfl), (Nat.le_of_ble_eq_true rfl)⟩ dX5_moveAll_135 rfl))))
 (mk_lt
 (mk_lt
 (mk_eq (mk_iaw X dX5_moveAll_138 rfl))
 (mk_eq (mk_aload_n X dX5_moveAll_139 rfl rfl)))
 (mk_lt
 (mk_eq (mk_get X (ci := 5) (j := 12) rfl in_X5 (Nat.le_of_ble_eq_true rfl) q759 dX5_moveAll_140 rfl))
 (mk_lt
 (mk_eq (mk_iload_n X dX5_moveAll_143 rfl rfl))
 (mk_eq (mk_aload_n X dX5_moveAll_144 rfl rfl))))))
 (mk_lt
 (mk_lt
 (mk_lt
 (mk_eq (mk_iload_n X dX5_moveAll_145 rfl rfl))
 (mk_eq (mk_bipush X dX5_moveAll_146 rfl rfl)))
 (mk_lt
 (mk_eq (mk_iload_n X dX5_moveAll_148 rfl rfl))
 (mk_eq (mk_iadd X dX5_moveAll_149 rfl))))
 (mk_lt
 (mk_lt
 (mk_eq (mk_aload_n X dX5_moveAll_150 rfl rfl))
 (mk_eq (mk_get X (ci := 5) (j := 12) rfl in_X5 (Nat.le_of_ble_eq_true rfl) q759 dX5_moveAll_151 rfl)))
 (mk_lt
 (mk_eq (mk_iload_n X dX5_moveAll_154 rfl rfl))
 (mk_lt
 (mk_eq (mk_iar X dX5_moveAll_155 rfl))
 (mk_eq (mk_iload_n X dX5_moveAll_156 rfl rfl))))))))
 (mk_lt
 (mk_lt
 (mk_lt
 (mk_lt
 (mk_lt
 (mk_eq (mk_V5 X h_X5_moves (ci := 5) rfl (lw_V q1167 q1169 qs58 q66 q1170) ⟨rfl, by decide, by decide, rfl⟩ ⟨(Nat.le_of_ble_eq_true rfl), (Nat.le_of_ble_eq_true rfl)⟩ dX5_moveAll_157 rfl))
 (mk_eq (mk_iaw X dX5_moveAll_160 rfl)))
 (mk_lt
 (mk_eq (mk_aload_n X dX5_moveAll_161 rfl rfl))
 (mk_eq (mk_get X (ci := 5) (j := 13) rfl in_X5 (Nat.le_of_ble_eq_true rfl) q760 dX5_moveAll_162 rfl))))
 (mk_lt
 (mk_lt
 (mk_eq (mk_iload_n X dX5_moveAll_165 rfl rfl))
 (mk_eq (mk_aload_n X dX5_moveAll_166 rfl rfl)))
 (mk_lt
 (mk_eq (mk_iload_n X dX5_moveAll_167 rfl rfl))
 (mk_eq (mk_bipush X dX5_moveAll_168 rfl rfl)))))
 (mk_lt
 (mk_lt
 (mk_lt
 (mk_eq (mk_iload_n X dX5_moveAll_170 rfl rfl))
 (mk_eq (mk_iadd X dX5_moveAll_171 rfl)))
 (mk_lt
 (mk_eq (mk_aload_n X dX5_moveAll_172 rfl rfl))
 (mk_eq (mk_get X (ci := 5) (j := 13) rfl in_X5 (Nat.le_of_ble_eq_true rfl) q760 dX5_moveAll_173 rfl))))
 (mk_lt
 (mk_lt
 (mk_eq (mk_iload_n X dX5_moveAll_176 rfl rfl))
 (mk_eq (mk_iar X dX5_moveAll_177 rfl)))
 (mk_lt
 (mk_eq (mk_iload_n X dX5_moveAll_178 rfl rfl))
 (mk_lt
 (mk_eq (mk_V5 X h_X5_moves (ci := 5) rfl (lw_V q1167 q1169 qs58 q66 q1170) ⟨rfl, by decide, by decide, rfl⟩ ⟨(Nat.le_of_ble_eq_true rfl), (Nat.le_of_ble_eq_true rfl)⟩ dX5_moveAll_179 rfl))
 (mk_eq (mk_iaw X dX5_moveAll_182 rfl)))))))
 (mk_lt
 (mk_lt
 (mk_lt
 (mk_lt
 (mk_eq (mk_aload_n X dX5_moveAll_183 rfl rfl))
 (mk_eq (mk_get X (ci := 5) (j := 14) rfl in_X5 (Nat.le_of_ble_eq_true rfl) q761 dX5_moveAll_184 rfl)))
 (mk_lt
 (mk_eq (mk_iload_n X dX5_moveAll_187 rfl rfl))
 (mk_eq (mk_aload_n X dX5_moveAll_188 rfl rfl))))
 (mk_lt
 (mk_lt
 (mk_eq (mk_iload_n X dX5_moveAll_189 rfl rfl))
 (mk_eq (mk_bipush X dX5_moveAll_190 rfl rfl)))
 (mk_lt
 (mk_eq (mk_iload_n X dX5_moveAll_192 rfl rfl))
 (mk_lt
 (mk_eq (mk_iadd X dX5_moveAll_193 rfl))
 (mk_eq (mk_aload_n X dX5_moveAll_194 rfl rfl))))))
 (mk_lt
 (mk_lt
 (mk_lt
 (mk_eq (mk_get X (ci := 5) (j := 14) rfl in_X5 (Nat.le_of_ble_eq_true rfl) q761 dX5_moveAll_195 rfl))
 (mk_eq (mk_iload_n X dX5_moveAll_198 rfl rfl)))
 (mk_lt
 (mk_eq (mk_iar X dX5_moveAll_199 rfl))
 (mk_eq (mk_iload_n X dX5_moveAll_200 rfl rfl))))
 (mk_lt
 (mk_lt
 (mk_eq (mk_V5 X h_X5_moves (ci := 5) rfl (lw_V q1167 q1169 qs58 q66 q1170) ⟨rfl, by decide, by decide, rfl⟩ ⟨(Nat.le_of_ble_eq_true rfl), (Nat.le_of_ble_eq_true rfl)⟩ dX5_moveAll_201 rfl))
 (mk_eq (mk_iaw X dX5_moveAll_204 rfl)))
 (mk_lt
 (mk_eq (mk_iinc X dX5_moveAll_205 rfl (Nat.le_of_ble_eq_true rfl) rfl))
 (mk_lt
 (mk_eq (mk_goto X dX5_moveAll_208 rfl))
 (mk_eq (mk_iconst X dX5_moveAll_211 rfl rfl))))))))))
 (mk_lt
 (mk_lt
 (mk_lt
 (mk_lt
 (mk_lt
 (mk_lt
 (mk_lt
 (mk_eq (mk_istore_n X dX5_moveAll_212 rfl (Nat.le_of_ble_eq_true rfl) rfl))
 (mk_eq (mk_iload_n X dX5_moveAll_213 rfl rfl)))
 (mk_lt
 (mk_eq (mk_bipush X dX5_moveAll_214 rfl rfl))
 (mk_eq (mk_icge X dX5_moveAll_216 rfl rfl))))
 (mk_lt
 (mk_lt
 (mk_eq (mk_aload_n X dX5_moveAll_219 rfl rfl))
 (mk_eq (mk_get X (ci := 5) (j := 15) rfl in_X5 (Nat.le_of_ble_eq_true rfl) q762 dX5_moveAll_220 rfl)))
 (mk_lt
 (mk_eq (mk_iload_n X dX5_moveAll_223 rfl rfl))
 (mk_eq (mk_aload_n X dX5_moveAll_224 rfl rfl)))))
 (mk_lt
 (mk_lt
 (mk_lt
 (mk_eq (mk_iload_n X dX5_moveAll_225 rfl rfl))
 (mk_eq (mk_bipush X dX5_moveAll_226 rfl rfl)))
 (mk_lt
 (mk_eq (mk_iload_n X dX5_moveAll_228 rfl rfl))
 (mk_eq (mk_iadd X dX5_moveAll_229 rfl))))
 (mk_lt
 (mk_lt
 (mk_eq (mk_aload_n X dX5_moveAll_230 rfl rfl))
 (mk_eq (mk_get X (ci := 5) (j := 15) rfl in_X5 (Nat.le_of_ble_eq_true rfl) q762 dX5_moveAll_231 rfl)))
 (mk_lt
 (mk_eq (mk_iload_n X dX5_moveAll_234 rfl rfl))
 (mk_lt
 (mk_eq (mk_iar X dX5_moveAll_235 rfl))
 (mk_eq (mk_iload_n X dX5_moveAll_236 rfl rfl)))))))
 (mk_lt
 (mk_lt
 (mk_lt
 (mk_lt
 (mk_eq (mk_V5 X h_X5_moves (ci := 5) rfl (lw_V q1167 q1169 qs58 q66 q1170) ⟨rfl, by decide, by decide, rfl⟩ ⟨(Nat.le_of_ble_eq_true rfl), (Nat.le_of_ble_eq_true rfl)⟩ dX5_moveAll_237 rfl))
 (mk_eq (mk_iaw X dX5_moveAll_240 rfl)))
 (mk_lt
 (mk_eq (mk_aload_n X dX5_moveAll_241 rfl rfl))
 (mk_eq (mk_get X (ci := 5) (j := 16) rfl in_X5 (Nat.le_of_ble_eq_true rfl) q763 dX5_moveAll_242 rfl))))
 (mk_lt
 (mk_lt
 (mk_eq (mk_iload_n X dX5_moveAll_245 rfl rfl))
 (mk_eq (mk_aload_n X dX5_moveAll_246 rfl rfl)))
 (mk_lt
 (mk_eq (mk_iload_n X dX5_moveAll_247 rfl rfl))
 (mk_lt
 (mk_eq (mk_bipush X dX5_moveAll_248 rfl rfl))
 (mk_eq (mk_iload_n X dX5_moveAll_250 rfl rfl))))))
 (mk_lt
 (mk_lt
 (mk_lt
 (mk_eq (mk_iadd X dX5_moveAll_251 rfl))
 (mk_eq (mk_aload_n X dX5_moveAll_252 rfl rfl)))
 (mk_lt
 (mk_eq (mk_get X (ci := 5) (j := 16) rfl in_X5 (Nat.le_of_ble_eq_true rfl) q763 dX5_moveAll_253 rfl))
 (mk_eq (mk_iload_n X dX5_moveAll_256 rfl rfl))))
 (mk_lt
 (mk_lt
 (mk_eq (mk_iar X dX5_moveAll_257 rfl))
 (mk_eq (mk_iload_n X dX5_moveAll_258 rfl rfl)))
 (mk_lt
 (mk_eq (mk_V5 X h_X5_moves (ci := 5) rfl (lw_V q1167 q1169 qs58 q66 q1170) ⟨rfl, by decide, by decide, rfl⟩ ⟨(Nat.le_of_ble_eq_true rfl), (Nat.le_of_ble_eq_true rfl)⟩ dX5_moveAll_259 rfl))
 (mk_lt
 (mk_eq (mk_iaw X dX5_moveAll_262 rfl))
 (mk_eq (mk_aload_n X dX5_moveAll_263 rfl rfl))))))))
 (mk_lt
 (mk_lt
 (mk_lt
 (mk_lt
 (mk_lt
 (mk_eq (mk_get X (ci := 5) (j := 17) rfl in_X5 (Nat.le_of_ble_eq_true rfl) q764 dX5_moveAll_264 rfl))
 (mk_eq (mk_iload_n X dX5_moveAll_267 rfl rfl)))
 (mk_lt
 (mk_eq (mk_aload_n X dX5_moveAll_268 rfl rfl))
 (mk_eq (mk_iload_n X dX5_moveAll_269 rfl rfl))))
 (mk_lt
 (mk_lt
 (mk_eq (mk_sipush X dX5_moveAll_270 rfl rfl))
 (mk_eq (mk_iload_n X dX5_moveAll_273 rfl rfl)))
 (mk_lt
 (mk_eq (mk_iadd X dX5_moveAll_274 rfl))
 (mk_eq (mk_aload_n X dX5_moveAll_275 rfl rfl)))))
 (mk_lt
 (mk_lt
 (mk_lt
 (mk_eq (mk_get X (ci := 5) (j := 17) rfl in_X5 (Nat.le_of_ble_eq_true rfl) q764 dX5_moveAll_276 rfl))
 (mk_eq (mk_iload_n X dX5_moveAll_279 rfl rfl)))
 (mk_lt
 (mk_eq (mk_iar X dX5_moveAll_280 rfl))
 (mk_eq (mk_iload_n X dX5_moveAll_281 rfl rfl))))
 (mk_lt
 (mk_lt
 (mk_eq (mk_V5 X h_X5_moves (ci := 5) rfl (lw_V q1167 q1169 qs58 q66 q1170) ⟨rfl, by decide, by decide, rfl⟩ ⟨(Nat.le_of_ble_eq_true rfl), (Nat.le_of_ble_eq_true rfl)⟩ dX5_moveAll_282 rfl))
 (mk_eq (mk_iaw X dX5_moveAll_285 rfl)))
 (mk_lt
 (mk_eq (mk_iinc X dX5_moveAll_286 rfl (Nat.le_of_ble_eq_true rfl) rfl))
 (mk_lt
 (mk_eq (mk_goto X dX5_moveAll_289 rfl))
 (mk_eq (mk_iconst X dX5_moveAll_292 rfl rfl)))))))
 (mk_lt
 (mk_lt
 (mk_lt
 (mk_lt
 (mk_eq (mk_istore_n X dX5_moveAll_293 rfl (Nat.le_of_ble_eq_true rfl) rfl))
 (mk_eq (mk_iload_n X dX5_moveAll_294 rfl rfl)))
 (mk_lt
 (mk_eq (mk_sipush X dX5_moveAll_295 rfl rfl))
 (mk_eq (mk_icge X dX5_moveAll_298 rfl rfl))))
 (mk_lt
 (mk_lt
 (mk_eq (mk_aload_n X dX5_moveAll_301 rfl rfl))
 (mk_eq (mk_get X (ci := 5) (j := 18) rfl in_X5 (Nat.le_of_ble_eq_true rfl) q765 dX5_moveAll_302 rfl)))
 (mk_lt
 (mk_eq (mk_iload_n X dX5_moveAll_305 rfl rfl))
 (mk_lt
 (mk_eq (mk_aload_n X dX5_moveAll_306 rfl rfl))
 (mk_eq (mk_iload_n X dX5_moveAll_307 rfl rfl))))))
 (mk_lt
 (mk_lt
 (mk_lt
 (mk_eq (mk_sipush X dX5_moveAll_308 rfl rfl))
 (mk_eq (mk_iload_n X dX5_moveAll_311 rfl rfl)))
 (mk_lt
 (mk_eq (mk_iadd X dX5_moveAll_312 rfl))
 (mk_eq (mk_aload_n X dX5_moveAll_313 rfl rfl))))
 (mk_lt
 (mk_lt
 (mk_eq (mk_get X (ci := 5) (j := 18) rfl in_X5 (Nat.le_of_ble_eq_true rfl) q765 dX5_moveAll_314 rfl))
 (mk_eq (mk_iload_n X dX5_moveAll_317 rfl rfl)))
 (mk_lt
 (mk_eq (mk_iar X dX5_moveAll_318 rfl))
 (mk_lt
 (mk_eq (mk_iload_n X dX5_moveAll_319 rfl rfl))
 (mk_eq (mk_V5 X h_X5_moves (ci := 5) rfl (lw_V q1167 q1169 qs58 q66 q1170) ⟨rfl, by decide, by decide, rfl⟩ ⟨(Nat.le_of_ble_eq_true rfl), (Nat.le_of_ble_eq_true rfl)⟩ dX5_moveAll_320 rfl)))))))))
 (mk_lt
 (mk_lt
 (mk_lt
 (mk_lt
 (mk_lt
 (mk_lt
 (mk_eq (mk_iaw X dX5_moveAll_323 rfl))
 (mk_eq (mk_iinc X dX5_moveAll_324 rfl (Nat.le_of_ble_eq_true rfl) rfl)))
 (mk_lt
 (mk_eq (mk_goto X dX5_moveAll_327 rfl))
 (mk_eq (mk_iconst X dX5_moveAll_330 rfl rfl))))
 (mk_lt
 (mk_lt
 (mk_eq (mk_istore_n X dX5_moveAll_331 rfl (Nat.le_of_ble_eq_true rfl) rfl))
 (mk_eq (mk_iload_n X dX5_moveAll_332 rfl rfl)))
 (mk_lt
 (mk_eq (mk_bipush X dX5_moveAll_333 rfl rfl))
 (mk_eq (mk_icge X dX5_moveAll_335 rfl rfl)))))
 (mk_lt
 (mk_lt
 (mk_lt
 (mk_eq (mk_aload_n X dX5_moveAll_338 rfl rfl))
 (mk_eq (mk_get X (ci := 5) (j := 20) rfl in_X5 (Nat.le_of_ble_eq_true rfl) q767 dX5_moveAll_339 rfl)))
 (mk_lt
 (mk_eq (mk_iload_n X dX5_moveAll_342 rfl rfl))
 (mk_eq (mk_aload_n X dX5_moveAll_343 rfl rfl))))
 (mk_lt
 (mk_lt
 (mk_eq (mk_iload_n X dX5_moveAll_344 rfl rfl))
 (mk_eq (mk_sipush X dX5_moveAll_345 rfl rfl)))
 (mk_lt
 (mk_eq (mk_iload_n X dX5_moveAll_348 rfl rfl))
 (mk_lt
 (mk_eq (mk_iadd X dX5_moveAll_349 rfl))
 (mk_eq (mk_aload_n X dX5_moveAll_350 rfl rfl)))))))
 (mk_lt
 (mk_lt
 (mk_lt
 (mk_lt
 (mk_eq (mk_get X (ci := 5) (j := 20) rfl in_X5 (Nat.le_of_ble_eq_true rfl) q767 dX5_moveAll_351 rfl))
 (mk_eq (mk_iload_n X dX5_moveAll_354 rfl rfl)))
 (mk_lt
 (mk_eq (mk_iar X dX5_moveAll_355 rfl))
 (mk_eq (mk_iload_n X dX5_moveAll_356 rfl rfl))))
 (mk_lt
 (mk_lt
 (mk_eq (mk_V5 X h_X5_moves (ci := 5) rfl (lw_V q1167 q1169 qs58 q66 q1170) ⟨rfl, by decide, by decide, rfl⟩ ⟨(Nat.le_of_ble_eq_true rfl), (Nat.le_of_ble_eq_true rfl)⟩ dX5_moveAll_357 rfl))
 (mk_eq (mk_iaw X dX5_moveAll_360 rfl)))
 (mk_lt
 (mk_eq (mk_aload_n X dX5_moveAll_361 rfl rfl))
 (mk_lt
 (mk_eq (mk_get X (ci := 5) (j := 21) rfl in_X5 (Nat.le_of_ble_eq_true rfl) q768 dX5_moveAll_362 rfl))
 (mk_eq (mk_iload_n X dX5_moveAll_365 rfl rfl))))))
 (mk_lt
 (mk_lt
 (mk_lt
 (mk_eq (mk_aload_n X dX5_moveAll_366 rfl rfl))
 (mk_eq (mk_iload_n X dX5_moveAll_367 rfl rfl)))
 (mk_lt
 (mk_eq (mk_sipush X dX5_moveAll_368 rfl rfl))
 (mk_eq (mk_iload_n X dX5_moveAll_371 rfl rfl))))
 (mk_lt
 (mk_lt
 (mk_eq (mk_iadd X dX5_moveAll_372 rfl))
 (mk_eq (mk_aload_n X dX5_moveAll_373 rfl rfl)))
 (mk_lt
 (mk_eq (mk_get X (ci := 5) (j := 21) rfl in_X5 (Nat.le_of_ble_eq_true rfl) q768 dX5_moveAll_374 rfl))
 (mk_lt
 (mk_eq (mk_iload_n X dX5_moveAll_377 rfl rfl))
 (mk_eq (mk_iar X dX5_moveAll_378 rfl))))))))
 (mk_lt
 (mk_lt
 (mk_lt
 (mk_lt
 (mk_lt
 (mk_eq (mk_iload_n X dX5_moveAll_379 rfl rfl))
 (mk_eq (mk_V5 X h_X5_moves (ci := 5) rfl (lw_V q1167 q1169 qs58 q66 q1170) ⟨rfl, by decide, by decide, rfl⟩ ⟨(Nat.le_of_ble_eq_true rfl), (Nat.le_of_ble_eq_true rfl)⟩ dX5_moveAll_380 rfl)))
 (mk_lt
 (mk_eq (mk_iaw X dX5_moveAll_383 rfl))
 (mk_eq (mk_aload_n X dX5_moveAll_384 rfl rfl))))
 (mk_lt
 (mk_lt
 (mk_eq (mk_get X (ci := 5) (j := 22) rfl in_X5 (Nat.le_of_ble_eq_true rfl) q769 dX5_moveAll_385 rfl))
 (mk_eq (mk_iload_n X dX5_moveAll_388 rfl rfl)))
 (mk_lt
 (mk_eq (mk_aload_n X dX5_moveAll_389 rfl rfl))
 (mk_lt
 (mk_eq (mk_iload_n X dX5_moveAll_390 rfl rfl))
 (mk_eq (mk_sipush X dX5_moveAll_391 rfl rfl))))))
 (mk_lt
 (mk_lt
 (mk_lt
 (mk_eq (mk_iload_n X dX5_moveAll_394 rfl rfl))
 (mk_eq (mk_iadd X dX5_moveAll_395 rfl)))
 (mk_lt
 (mk_eq (mk_aload_n X dX5_moveAll_396 rfl rfl))
 (mk_eq (mk_get X (ci := 5) (j := 22) rfl in_X5 (Nat.le_of_ble_eq_true rfl) q769 dX5_moveAll_397 rfl))))
 (mk_lt
 (mk_lt
 (mk_eq (mk_iload_n X dX5_moveAll_400 rfl rfl))
 (mk_eq (mk_iar X dX5_moveAll_401 rfl)))
 (mk_lt
 (mk_eq (mk_iload_n X dX5_moveAll_402 rfl rfl))
 (mk_lt
 (mk_eq (mk_V5 X h_X5_moves (ci := 5) rfl (lw_V q1167 q1169 qs58 q66 q1170) ⟨rfl, by decide, by decide, rfl⟩ ⟨(Nat.le_of_ble_eq_true rfl), (Nat.le_of_ble_eq_true rfl)⟩ dX5_moveAll_403 rfl))
 (mk_eq (mk_iaw X dX5_moveAll_406 rfl)))))))
 (mk_lt
 (mk_lt
 (mk_lt
 (mk_lt
 (mk_eq (mk_aload_n X dX5_moveAll_407 rfl rfl))
 (mk_eq (mk_get X (ci := 5) (j := 23) rfl in_X5 (Nat.le_of_ble_eq_true rfl) q770 dX5_moveAll_408 rfl)))
 (mk_lt
 (mk_eq (mk_iload_n X dX5_moveAll_411 rfl rfl))
 (mk_eq (mk_aload_n X dX5_moveAll_412 rfl rfl))))
 (mk_lt
 (mk_lt
 (mk_eq (mk_iload_n X dX5_moveAll_413 rfl rfl))
 (mk_eq (mk_sipush X dX5_moveAll_414 rfl rfl)))
 (mk_lt
 (mk_eq (mk_iload_n X dX5_moveAll_417 rfl rfl))
 (mk_lt
 (mk_eq (mk_iadd X dX5_moveAll_418 rfl))
 (mk_eq (mk_aload_n X dX5_moveAll_419 rfl rfl))))))
 (mk_lt
 (mk_lt
 (mk_lt
 (mk_eq (mk_get X (ci := 5) (j := 23) rfl in_X5 (Nat.le_of_ble_eq_true rfl) q770 dX5_moveAll_420 rfl))
 (mk_eq (mk_iload_n X dX5_moveAll_423 rfl rfl)))
 (mk_lt
 (mk_eq (mk_iar X dX5_moveAll_424 rfl))
 (mk_eq (mk_iload_n X dX5_moveAll_425 rfl rfl))))
 (mk_lt
 (mk_lt
 (mk_eq (mk_V5 X h_X5_moves (ci := 5) rfl (lw_V q1167 q1169 qs58 q66 q1170) ⟨rfl, by decide, by decide, rfl⟩ ⟨(Nat.le_of_ble_eq_true rfl), (Nat.le_of_ble_eq_true rfl)⟩ dX5_moveAll_426 rfl))
 (mk_eq (mk_iaw X dX5_moveAll_429 rfl)))
 (mk_lt
 (mk_eq (mk_iinc X dX5_moveAll_430 rfl (Nat.le_of_ble_eq_true rfl) rfl))
 (mk_lt
 (mk_eq (mk_goto X dX5_moveAll_433 rfl))
 (mk_eq (mk_rv X dX5_moveAll_436)))))))))))
theorem sd_X5_moveAll {l : Launch} {w : ma_Wd} {NC : Nat} {A : Nat → Prop} {S_X5_moves : ma_Cs} (hw : ma_Wo w YM NC A) (h_X5_moves : ma_Sd l w YM NC A yX5_moves cX5_moves 6 (some .int) rm_X5_moves S_X5_moves) : ma_Sd l w YM NC A yX5_moveAll cX5_moveAll 4 none rm_X5_moveAll (ma_rn (tb_X5_moveAll S_X5_moves) 4) := ma_of hw (by decide) ⟨rfl, rfl⟩ (fun X => tk_X5_moveAll h_X5_moves X)
theorem dX5_moves_0 : decode cX5_moves 0 = .ok (.aload_n 0, 1) := by decide +kernel
theorem dX5_moves_1 : decode cX5_moves 1 = .ok (.iload_n 1, 1) := by decide +kernel
theorem dX5_moves_2 : decode cX5_moves 2 = .ok (.iconst 0, 1) := by decide +kernel
theorem dX5_moves_3 : decode cX5_moves 3 = .ok (.iload_n 2, 1) := by decide +kernel
theorem dX5_moves_4 : decode cX5_moves 4 = .ok (.iload_n 3, 1) := by decide +kernel
theorem dX5_moves_5 : decode cX5_moves 5 = .ok (.iload 4, 2) := by decide +kernel
theorem dX5_moves_7 : decode cX5_moves 7 = .ok (.invokevirtual 326, 3) := by decide +kernel
theorem dX5_moves_10 : decode cX5_moves 10 = .ok (.istore 5, 2) := by decide +kernel
theorem dX5_moves_12 : decode cX5_moves 12 = .ok (.iload 4, 2) := by decide +kernel
theorem dX5_moves_14 : decode cX5_moves 14 = .ok (.ifCond .eq 7, 3) := by decide +kernel
theorem dX5_moves_17 : decode cX5_moves 17 = .ok (.iload_n 3, 1) := by decide +kernel
theorem dX5_moves_18 : decode cX5_moves 18 = .ok (.goto 5, 3) := by decide +kernel
theorem dX5_moves_21 : decode cX5_moves 21 = .ok (.iload 5, 2) := by decide +kernel
theorem dX5_moves_23 : decode cX5_moves 23 = .ok (.ireturn, 1) := by decide +kernel
def tb_X5_moves (S_X5_slot : ma_Cs) : Nat → ma_In := fun pc =>
 (if pc < 10 then
 (if pc < 3 then
 (if pc < 1 then
 (if pc = 0 then in_ald 0 1 else in_no) else
 (if pc < 2 then
 (if pc = 1 then in_ild 1 2 else in_no) else
 (if pc = 2 then in_push (.int 0) 3 else in_no))) else
 (if pc < 5 then
 (if pc < 4 then
 (if pc = 3 then in_ild 2 4 else in_no) else
 (if pc = 4 then in_ild 3 5 else in_no)) else
 (if pc < 7 then
 (if pc = 5 then in_ild 4 7 else in_no) else
 (if pc = 7 then in_v6 YM 5 S_X5_slot 10 else in_no)))) else
 (if pc < 17 then
 (if pc < 12 then
 (if pc = 10 then in_ist 5 12 else in_no) else
 (if pc < 14 then
 (if pc = 12 then in_ild 4 14 else in_no) else
 (if pc = 14 then in_if1 (fun x => x = 0) 21 17 else in_no))) else
 (if pc < 21 then
 (if pc < 18 then
 (if pc = 17 then in_ild 3 18 else in_no) else
 (if pc = 18 then in_go 23 else in_no)) else
 (if pc < 23 then
 (if pc = 21 then in_ild 5 23 else in_no) else
 (if pc = 23 then in_ri else in_no)))))
theorem tk_X5_moves {l : Launch} {w : ma_Wd} {NC : Nat} {A : Nat → Prop} {S_X5_slot : ma_Cs} (h_X5_slot : ma_Sd l w YM NC A yX5_slot cX5_slot 8 (some .int) rm_X5_slot S_X5_slot) {p : Program} {e : Env} {s : State} {m : MethodId} {args : Array Value} {below : List Frame} {meth : Method} {c : Code} (X : ma_Cx p s m args meth c w YM NC A yX5_moves.cls cX5_moves 6 (some .int)) : ∀ pc, ma_Ok p l e rm_X5_moves s m args below meth c w YM NC A 6 pc (tb_X5_moves S_X5_slot pc) := fun pc =>
 (mk_lt
 (mk_lt
 (mk_lt
 (mk_eq (mk_aload_n X dX5_moves_0 rfl rfl))
 (mk_lt
 (mk_eq (mk_iload_n X dX5_moves_1 rfl rfl))
 (mk_eq (mk_iconst X dX5_moves_2 rfl rfl))))
 (mk_lt
 (mk_lt
 (mk_eq (mk_iload_n X dX5_moves_3 rfl rfl))
 (mk_eq (mk_iload_n X dX5_moves_4 rfl rfl)))
 (mk_lt
 (mk_eq (mk_iload X dX5_moves_5 rfl))
 (mk_eq (mk_V6 X h_X5_slot (ci := 5) rfl (lw_V q1171 q1173 qs59 q66 q1174) ⟨rfl, by decide, by decide, rfl⟩ ⟨(Nat.le_of_ble_eq_true rfl), (Nat.le_of_ble_eq_true rfl)⟩ dX5_moves_7 rfl)))))
 (mk_lt
 (mk_lt
 (mk_eq (mk_istore X dX5_moves_10 (Nat.le_of_ble_eq_true rfl) rfl))
 (mk_lt
 (mk_eq (mk_iload X dX5_moves_12 rfl))
 (mk_eq (mk_ifeq X dX5_moves_14 rfl rfl))))
 (mk_lt
 (mk_lt
 (mk_eq (mk_iload_n X dX5_moves_17 rfl rfl))
 (mk_eq (mk_goto X dX5_moves_18 rfl)))
 (mk_lt
 (mk_eq (mk_iload X dX5_moves_21 rfl))
 (mk_eq (mk_ri X dX5_moves_23))))))
theorem sd_X5_moves {l : Launch} {w : ma_Wd} {NC : Nat} {A : Nat → Prop} {S_X5_slot : ma_Cs} (hw : ma_Wo w YM NC A) (h_X5_slot : ma_Sd l w YM NC A yX5_slot cX5_slot 8 (some .int) rm_X5_slot S_X5_slot) : ma_Sd l w YM NC A yX5_moves cX5_moves 6 (some .int) rm_X5_moves (ma_rn (tb_X5_moves S_X5_slot) 6) := ma_of hw (by decide) ⟨rfl, rfl⟩ (fun X => tk_X5_moves h_X5_slot X)
theorem dX5_slot_0 : decode cX5_slot 0 = .ok (.sipush 700, 3) := by decide +kernel
theorem dX5_slot_3 : decode cX5_slot 3 = .ok (.iload_n 1, 1) := by decide +kernel
theorem dX5_slot_4 : decode cX5_slot 4 = .ok (.imul, 1) := by decide +kernel
theorem dX5_slot_5 : decode cX5_slot 5 = .ok (.iload_n 2, 1) := by decide +kernel
theorem dX5_slot_6 : decode cX5_slot 6 = .ok (.iadd, 1) := by decide +kernel
theorem dX5_slot_7 : decode cX5_slot 7 = .ok (.iload_n 3, 1) := by decide +kernel
theorem dX5_slot_8 : decode cX5_slot 8 = .ok (.iadd, 1) := by decide +kernel
theorem dX5_slot_9 : decode cX5_slot 9 = .ok (.istore 6, 2) := by decide +kernel
theorem dX5_slot_11 : decode cX5_slot 11 = .ok (.aload_n 0, 1) := by decide +kernel
theorem dX5_slot_12 : decode cX5_slot 12 = .ok (.getfield 81, 3) := by decide +kernel
theorem dX5_slot_15 : decode cX5_slot 15 = .ok (.iload 6, 2) := by decide +kernel
theorem dX5_slot_17 : decode cX5_slot 17 = .ok (.iaload, 1) := by decide +kernel
theorem dX5_slot_18 : decode cX5_slot 18 = .ok (.istore 7, 2) := by decide +kernel
theorem dX5_slot_20 : decode cX5_slot 20 = .ok (.aload_n 0, 1) := by decide +kernel
theorem dX5_slot_21 : decode cX5_slot 21 = .ok (.getfield 81, 3) := by decide +kernel
theorem dX5_slot_24 : decode cX5_slot 24 = .ok (.iload 6, 2) := by decide +kernel
theorem dX5_slot_26 : decode cX5_slot 26 = .ok (.iload 5, 2) := by decide +kernel
theorem dX5_slot_28 : decode cX5_slot 28 = .ok (.ifCond .eq 8, 3) := by decide +kernel
theorem dX5_slot_31 : decode cX5_slot 31 = .ok (.iload 4, 2) := by decide +kernel
theorem dX5_slot_33 : decode cX5_slot 33 = .ok (.goto 5, 3) := by decide +kernel
theorem dX5_slot_36 : decode cX5_slot 36 = .ok (.iload 7, 2) := by decide +kernel
theorem dX5_slot_38 : decode cX5_slot 38 = .ok (.iastore, 1) := by decide +kernel
theorem dX5_slot_39 : decode cX5_slot 39 = .ok (.iload 7, 2) := by decide +kernel
theorem dX5_slot_41 : decode cX5_slot 41 = .ok (.ireturn, 1) := by decide +kernel
def tb_X5_slot : Nat → ma_In := fun pc =>
 (if pc < 18 then
 (if pc < 8 then
 (if pc < 5 then
 (if pc < 3 then
 (if pc = 0 then in_push (.int 700) 3 else in_no) else
 (if pc < 4 then
 (if pc = 3 then in_ild 1 4 else in_no) else
 (if pc = 4 then in_iii (fun x y => x * y) 5 else in_no))) else
 (if pc < 6 then
 (if pc = 5 then in_ild 2 6 else in_no) else
 (if pc < 7 then
 (if pc = 6 then in_iii (fun x y => x + y) 7 else in_no) else
 (if pc = 7 then in_ild 3 8 else in_no)))) else
 (if pc < 12 then
 (if pc < 9 then
 (if pc = 8 then in_iii (fun x y => x + y) 9 else in_no) else
 (if pc < 11 then
 (if pc = 9 then in_ist 6 11 else in_no) else
 (if pc = 11 then in_ald 0 12 else in_no))) else
 (if pc < 15 then
 (if pc = 12 then in_get YM 5 31 15 else in_no) else
 (if pc < 17 then
 (if pc = 15 then in_ild 6 17 else in_no) else
 (if pc = 17 then in_iar YM 18 else in_no))))) else
 (if pc < 31 then
 (if pc < 24 then
 (if pc < 20 then
 (if pc = 18 then in_ist 7 20 else in_no) else
 (if pc < 21 then
 (if pc = 20 then in_ald 0 21 else in_no) else
 (if pc = 21 then in_get YM 5 31 24 else in_no))) else
 (if pc < 26 then
 (if pc = 24 then in_ild 6 26 else in_no) else
 (if pc < 28 then
 (if pc = 26 then in_ild 5 28 else in_no) else
 (if pc = 28 then in_if1 (fun x => x = 0) 36 31 else in_no)))) else
 (if pc < 38 then
 (if pc < 33 then
 (if pc = 31 then in_ild 4 33 else in_no) else
 (if pc < 36 then
 (if pc = 33 then in_go 38 else in_no) else
 (if pc = 36 then in_ild 7 38 else in_no))) else
 (if pc < 39 then
 (if pc = 38 then in_iaw YM 39 else in_no) else
 (if pc < 41 then
 (if pc = 39 then in_ild 7 41 else in_no) else
 (if pc = 41 then in_ri else in_no))))))
theorem tk_X5_slot {l : Launch} {w : ma_Wd} {NC : Nat} {A : Nat → Prop} {p : Program} {e : Env} {s : State} {m : MethodId} {args : Array Value} {below : List Frame} {meth : Method} {c : Code} (X : ma_Cx p s m args meth c w YM NC A yX5_slot.cls cX5_slot 8 (some .int)) : ∀ pc, ma_Ok p l e rm_X5_slot s m args below meth c w YM NC A 8 pc (tb_X5_slot pc) := fun pc =>
 (mk_lt
 (mk_lt
 (mk_lt
 (mk_lt
 (mk_eq (mk_sipush X dX5_slot_0 rfl rfl))
 (mk_lt
 (mk_eq (mk_iload_n X dX5_slot_3 rfl rfl))
 (mk_eq (mk_imul X dX5_slot_4 rfl))))
 (mk_lt
 (mk_eq (mk_iload_n X dX5_slot_5 rfl rfl))
 (mk_lt
 (mk_eq (mk_iadd X dX5_slot_6 rfl))
 (mk_eq (mk_iload_n X dX5_slot_7 rfl rfl)))))
 (mk_lt
 (mk_lt
 (mk_eq (mk_iadd X dX5_slot_8 rfl))
 (mk_lt
 (mk_eq (mk_istore X dX5_slot_9 (Nat.le_of_ble_eq_true rfl) rfl))
 (mk_eq (mk_aload_n X dX5_slot_11 rfl rfl))))
 (mk_lt
 (mk_eq (mk_get X (ci := 5) (j := 31) rfl in_X5 (Nat.le_of_ble_eq_true rfl) q778 dX5_slot_12 rfl))
 (mk_lt
 (mk_eq (mk_iload X dX5_slot_15 rfl))
 (mk_eq (mk_iar X dX5_slot_17 rfl))))))
 (mk_lt
 (mk_lt
 (mk_lt
 (mk_eq (mk_istore X dX5_slot_18 (Nat.le_of_ble_eq_true rfl) rfl))
 (mk_lt
 (mk_eq (mk_aload_n X dX5_slot_20 rfl rfl))
 (mk_eq (mk_get X (ci := 5) (j := 31) rfl in_X5 (Nat.le_of_ble_eq_true rfl) q778 dX5_slot_21 rfl))))
 (mk_lt
 (mk_eq (mk_iload X dX5_slot_24 rfl))
 (mk_lt
 (mk_eq (mk_iload X dX5_slot_26 rfl))
 (mk_eq (mk_ifeq X dX5_slot_28 rfl rfl)))))
 (mk_lt
 (mk_lt
 (mk_eq (mk_iload X dX5_slot_31 rfl))
 (mk_lt
 (mk_eq (mk_goto X dX5_slot_33 rfl))
 (mk_eq (mk_iload X dX5_slot_36 rfl))))
 (mk_lt
 (mk_eq (mk_iaw X dX5_slot_38 rfl))
 (mk_lt
 (mk_eq (mk_iload X dX5_slot_39 rfl))
 (mk_eq (mk_ri X dX5_slot_41)))))))
theorem sd_X5_slot {l : Launch} {w : ma_Wd} {NC : Nat} {A : Nat → Prop} (hw : ma_Wo w YM NC A) : ma_Sd l w YM NC A yX5_slot cX5_slot 8 (some .int) rm_X5_slot (ma_rn (tb_X5_slot) 8) := ma_of hw (by decide) ⟨rfl, rfl⟩ (fun X => tk_X5_slot  X)
theorem dX5_back_0 : decode cX5_back 0 = .ok (.aload_n 0, 1) := by decide +kernel
theorem dX5_back_1 : decode cX5_back 1 = .ok (.getfield 138, 3) := by decide +kernel
theorem dX5_back_4 : decode cX5_back 4 = .ok (.ifCond .ne 6, 3) := by decide +kernel
theorem dX5_back_7 : decode cX5_back 7 = .ok (.bipush (-2), 2) := by decide +kernel
theorem dX5_back_9 : decode cX5_back 9 = .ok (.ireturn, 1) := by decide +kernel
theorem dX5_back_10 : decode cX5_back 10 = .ok (.aload_n 0, 1) := by decide +kernel
theorem dX5_back_11 : decode cX5_back 11 = .ok (.dup, 1) := by decide +kernel
theorem dX5_back_12 : decode cX5_back 12 = .ok (.getfield 138, 3) := by decide +kernel
theorem dX5_back_15 : decode cX5_back 15 = .ok (.iconst 1, 1) := by decide +kernel
theorem dX5_back_16 : decode cX5_back 16 = .ok (.isub, 1) := by decide +kernel
theorem dX5_back_17 : decode cX5_back 17 = .ok (.putfield 138, 3) := by decide +kernel
theorem dX5_back_20 : decode cX5_back 20 = .ok (.aload_n 0, 1) := by decide +kernel
theorem dX5_back_21 : decode cX5_back 21 = .ok (.aload_n 0, 1) := by decide +kernel
theorem dX5_back_22 : decode cX5_back 22 = .ok (.getfield 138, 3) := by decide +kernel
theorem dX5_back_25 : decode cX5_back 25 = .ok (.iconst 0, 1) := by decide +kernel
theorem dX5_back_26 : decode cX5_back 26 = .ok (.invokevirtual 334, 3) := by decide +kernel
theorem dX5_back_29 : decode cX5_back 29 = .ok (.aload_n 0, 1) := by decide +kernel
theorem dX5_back_30 : decode cX5_back 30 = .ok (.getfield 138, 3) := by decide +kernel
theorem dX5_back_33 : decode cX5_back 33 = .ok (.ireturn, 1) := by decide +kernel
def tb_X5_back (S_X5_moveAll : ma_Cs) : Nat → ma_In := fun pc =>
 (if pc < 16 then
 (if pc < 9 then
 (if pc < 4 then
 (if pc < 1 then
 (if pc = 0 then in_ald 0 1 else in_no) else
 (if pc = 1 then in_get YM 5 30 4 else in_no)) else
 (if pc < 7 then
 (if pc = 4 then in_if1 (fun x => x = 0) 7 10 else in_no) else
 (if pc = 7 then in_push (.int (-2)) 9 else in_no))) else
 (if pc < 11 then
 (if pc < 10 then
 (if pc = 9 then in_ri else in_no) else
 (if pc = 10 then in_ald 0 11 else in_no)) else
 (if pc < 12 then
 (if pc = 11 then in_dup 12 else in_no) else
 (if pc < 15 then
 (if pc = 12 then in_get YM 5 30 15 else in_no) else
 (if pc = 15 then in_push (.int 1) 16 else in_no))))) else
 (if pc < 25 then
 (if pc < 20 then
 (if pc < 17 then
 (if pc = 16 then in_iii (fun x y => x - y) 17 else in_no) else
 (if pc = 17 then in_put YM 5 30 20 else in_no)) else
 (if pc < 21 then
 (if pc = 20 then in_ald 0 21 else in_no) else
 (if pc < 22 then
 (if pc = 21 then in_ald 0 22 else in_no) else
 (if pc = 22 then in_get YM 5 30 25 else in_no)))) else
 (if pc < 29 then
 (if pc < 26 then
 (if pc = 25 then in_push (.int 0) 26 else in_no) else
 (if pc = 26 then in_v3 YM 5 S_X5_moveAll 29 else in_no)) else
 (if pc < 30 then
 (if pc = 29 then in_ald 0 30 else in_no) else
 (if pc < 33 then
 (if pc = 30 then in_get YM 5 30 33 else in_no) else
 (if pc = 33 then in_ri else in_no))))))
theorem tk_X5_back {l : Launch} {w : ma_Wd} {NC : Nat} {A : Nat → Prop} {S_X5_moveAll : ma_Cs} (h_X5_moveAll : ma_Sd l w YM NC A yX5_moveAll cX5_moveAll 4 none rm_X5_moveAll S_X5_moveAll) {p : Program} {e : Env} {s : State} {m : MethodId} {args : Array Value} {below : List Frame} {meth : Method} {c : Code} (X : ma_Cx p s m args meth c w YM NC A yX5_back.cls cX5_back 1 (some .int)) : ∀ pc, ma_Ok p l e rm_X5_back s m args below meth c w YM NC A 1 pc (tb_X5_back S_X5_moveAll pc) := fun pc =>
 (mk_lt
 (mk_lt
 (mk_lt
 (mk_lt
 (mk_eq (mk_aload_n X dX5_back_0 rfl rfl))
 (mk_eq (mk_get X (ci := 5) (j := 30) rfl in_X5 (Nat.le_of_ble_eq_true rfl) q777 dX5_back_1 rfl)))
 (mk_lt
 (mk_eq (mk_ifne X dX5_back_4 rfl rfl))
 (mk_eq (mk_bipush X dX5_back_7 rfl rfl))))
 (mk_lt
 (mk_lt
 (mk_eq (mk_ri X dX5_back_9))
 (mk_eq (mk_aload_n X dX5_back_10 rfl rfl)))
 (mk_lt
 (mk_eq (mk_dup X dX5_back_11 rfl))
 (mk_lt
 (mk_eq (mk_get X (ci := 5) (j := 30) rfl in_X5 (Nat.le_of_ble_eq_true rfl) q777 dX5_back_12 rfl))
 (mk_eq (mk_iconst X dX5_back_15 rfl rfl))))))
 (mk_lt
 (mk_lt
 (mk_lt
 (mk_eq (mk_isub X dX5_back_16 rfl))
 (mk_eq (mk_put X (ci := 5) (j := 30) rfl in_X5 tyX5_ok nmX5 (Nat.le_of_ble_eq_true rfl) rfl rfl q777 dX5_back_17 rfl)))
 (mk_lt
 (mk_eq (mk_aload_n X dX5_back_20 rfl rfl))
 (mk_lt
 (mk_eq (mk_aload_n X dX5_back_21 rfl rfl))
 (mk_eq (mk_get X (ci := 5) (j := 30) rfl in_X5 (Nat.le_of_ble_eq_true rfl) q777 dX5_back_22 rfl)))))
 (mk_lt
 (mk_lt
 (mk_eq (mk_iconst X dX5_back_25 rfl rfl))
 (mk_eq (mk_V3 X h_X5_moveAll (ci := 5) rfl (lw_V q1163 q1165 qs57 q66 q1166) ⟨rfl, by decide, by decide, rfl⟩ ⟨(Nat.le_of_ble_eq_true rfl), (Nat.le_of_ble_eq_true rfl)⟩ dX5_back_26 rfl)))
 (mk_lt
 (mk_eq (mk_aload_n X dX5_back_29 rfl rfl))
 (mk_lt
 (mk_eq (mk_get X (ci := 5) (j := 30) rfl in_X5 (Nat.le_of_ble_eq_true rfl) q777 dX5_back_30 rfl))
 (mk_eq (mk_ri X dX5_back_33)))))))
theorem sd_X5_back {l : Launch} {w : ma_Wd} {NC : Nat} {A : Nat → Prop} {S_X5_moveAll : ma_Cs} (hw : ma_Wo w YM NC A) (h_X5_moveAll : ma_Sd l w YM NC A yX5_moveAll cX5_moveAll 4 none rm_X5_moveAll S_X5_moveAll) : ma_Sd l w YM NC A yX5_back cX5_back 1 (some .int) rm_X5_back (ma_rn (tb_X5_back S_X5_moveAll) 1) := ma_of hw (by decide) ⟨rfl, rfl⟩ (fun X => tk_X5_back h_X5_moveAll X)
theorem dX5_count_0 : decode cX5_count 0 = .ok (.iconst 0, 1) := by decide +kernel
theorem dX5_count_1 : decode cX5_count 1 = .ok (.istore_n 2, 1) := by decide +kernel
theorem dX5_count_2 : decode cX5_count 2 = .ok (.iconst 0, 1) := by decide +kernel
theorem dX5_count_3 : decode cX5_count 3 = .ok (.istore_n 3, 1) := by decide +kernel
theorem dX5_count_4 : decode cX5_count 4 = .ok (.iconst 0, 1) := by decide +kernel
theorem dX5_count_5 : decode cX5_count 5 = .ok (.istore 4, 2) := by decide +kernel
theorem dX5_count_7 : decode cX5_count 7 = .ok (.iload 4, 2) := by decide +kernel
theorem dX5_count_9 : decode cX5_count 9 = .ok (.iconst 4, 1) := by decide +kernel
theorem dX5_count_10 : decode cX5_count 10 = .ok (.aload_n 0, 1) := by decide +kernel
theorem dX5_count_11 : decode cX5_count 11 = .ok (.invokevirtual 124, 3) := by decide +kernel
theorem dX5_count_14 : decode cX5_count 14 = .ok (.imul, 1) := by decide +kernel
theorem dX5_count_15 : decode cX5_count 15 = .ok (.if_icmp .ge 29, 3) := by decide +kernel
theorem dX5_count_18 : decode cX5_count 18 = .ok (.iload_n 2, 1) := by decide +kernel
theorem dX5_count_19 : decode cX5_count 19 = .ok (.aload_n 0, 1) := by decide +kernel
theorem dX5_count_20 : decode cX5_count 20 = .ok (.getfield 53, 3) := by decide +kernel
theorem dX5_count_23 : decode cX5_count 23 = .ok (.iload 4, 2) := by decide +kernel
theorem dX5_count_25 : decode cX5_count 25 = .ok (.iaload, 1) := by decide +kernel
theorem dX5_count_26 : decode cX5_count 26 = .ok (.ldc 115, 2) := by decide +kernel
theorem dX5_count_28 : decode cX5_count 28 = .ok (.if_icmp .ne 7, 3) := by decide +kernel
theorem dX5_count_31 : decode cX5_count 31 = .ok (.iconst 1, 1) := by decide +kernel
theorem dX5_count_32 : decode cX5_count 32 = .ok (.goto 4, 3) := by decide +kernel
theorem dX5_count_35 : decode cX5_count 35 = .ok (.iconst 0, 1) := by decide +kernel
theorem dX5_count_36 : decode cX5_count 36 = .ok (.iadd, 1) := by decide +kernel
theorem dX5_count_37 : decode cX5_count 37 = .ok (.istore_n 2, 1) := by decide +kernel
theorem dX5_count_38 : decode cX5_count 38 = .ok (.iinc 4 1, 3) := by decide +kernel
theorem dX5_count_41 : decode cX5_count 41 = .ok (.goto (-34), 3) := by decide +kernel
theorem dX5_count_44 : decode cX5_count 44 = .ok (.iconst 0, 1) := by decide +kernel
theorem dX5_count_45 : decode cX5_count 45 = .ok (.istore 4, 2) := by decide +kernel
theorem dX5_count_47 : decode cX5_count 47 = .ok (.iload 4, 2) := by decide +kernel
theorem dX5_count_49 : decode cX5_count 49 = .ok (.bipush 12, 2) := by decide +kernel
theorem dX5_count_51 : decode cX5_count 51 = .ok (.if_icmp .ge 31, 3) := by decide +kernel
theorem dX5_count_54 : decode cX5_count 54 = .ok (.iload_n 3, 1) := by decide +kernel
theorem dX5_count_55 : decode cX5_count 55 = .ok (.aload_n 0, 1) := by decide +kernel
theorem dX5_count_56 : decode cX5_count 56 = .ok (.getfield 68, 3) := by decide +kernel
theorem dX5_count_59 : decode cX5_count 59 = .ok (.iload 4, 2) := by decide +kernel
theorem dX5_count_61 : decode cX5_count 61 = .ok (.laload, 1) := by decide +kernel
theorem dX5_count_62 : decode cX5_count 62 = .ok (.ldc2_w 122, 3) := by decide +kernel
theorem dX5_count_65 : decode cX5_count 65 = .ok (.lcmp, 1) := by decide +kernel
theorem dX5_count_66 : decode cX5_count 66 = .ok (.ifCond .ne 7, 3) := by decide +kernel
theorem dX5_count_69 : decode cX5_count 69 = .ok (.iconst 0, 1) := by decide +kernel
theorem dX5_count_70 : decode cX5_count 70 = .ok (.goto 4, 3) := by decide +kernel
theorem dX5_count_73 : decode cX5_count 73 = .ok (.iconst 1, 1) := by decide +kernel
theorem dX5_count_74 : decode cX5_count 74 = .ok (.iadd, 1) := by decide +kernel
theorem dX5_count_75 : decode cX5_count 75 = .ok (.istore_n 3, 1) := by decide +kernel
theorem dX5_count_76 : decode cX5_count 76 = .ok (.iinc 4 1, 3) := by decide +kernel
theorem dX5_count_79 : decode cX5_count 79 = .ok (.goto (-32), 3) := by decide +kernel
theorem dX5_count_82 : decode cX5_count 82 = .ok (.iload_n 1, 1) := by decide +kernel
theorem dX5_count_83 : decode cX5_count 83 = .ok (.tableswitch 70 0 6 #[41, 46, 51, 56, 58, 63, 68], 41) := by decide +kernel
theorem dX5_count_124 : decode cX5_count 124 = .ok (.aload_n 0, 1) := by decide +kernel
theorem dX5_count_125 : decode cX5_count 125 = .ok (.invokevirtual 124, 3) := by decide +kernel
theorem dX5_count_128 : decode cX5_count 128 = .ok (.ireturn, 1) := by decide +kernel
theorem dX5_count_129 : decode cX5_count 129 = .ok (.aload_n 0, 1) := by decide +kernel
theorem dX5_count_130 : decode cX5_count 130 = .ok (.getfield 157, 3) := by decide +kernel
theorem dX5_count_133 : decode cX5_count 133 = .ok (.ireturn, 1) := by decide +kernel
theorem dX5_count_134 : decode cX5_count 134 = .ok (.aload_n 0, 1) := by decide +kernel
theorem dX5_count_135 : decode cX5_count 135 = .ok (.getfield 203, 3) := by decide +kernel
theorem dX5_count_138 : decode cX5_count 138 = .ok (.ireturn, 1) := by decide +kernel
theorem dX5_count_139 : decode cX5_count 139 = .ok (.iload_n 2, 1) := by decide +kernel
theorem dX5_count_140 : decode cX5_count 140 = .ok (.ireturn, 1) := by decide +kernel
theorem dX5_count_141 : decode cX5_count 141 = .ok (.aload_n 0, 1) := by decide +kernel
theorem dX5_count_142 : decode cX5_count 142 = .ok (.getfield 116, 3) := by decide +kernel
theorem dX5_count_145 : decode cX5_count 145 = .ok (.ireturn, 1) := by decide +kernel
theorem dX5_count_146 : decode cX5_count 146 = .ok (.aload_n 0, 1) := by decide +kernel
theorem dX5_count_147 : decode cX5_count 147 = .ok (.getfield 138, 3) := by decide +kernel
theorem dX5_count_150 : decode cX5_count 150 = .ok (.ireturn, 1) := by decide +kernel
theorem dX5_count_151 : decode cX5_count 151 = .ok (.iload_n 3, 1) := by decide +kernel
theorem dX5_count_152 : decode cX5_count 152 = .ok (.ireturn, 1) := by decide +kernel
theorem dX5_count_153 : decode cX5_count 153 = .ok (.iconst (-1), 1) := by decide +kernel
theorem dX5_count_154 : decode cX5_count 154 = .ok (.ireturn, 1) := by decide +kernel
def tb_X5_count (S_X5_cells : ma_Cs) : Nat → ma_In := fun pc =>
 (if pc < 59 then
 (if pc < 26 then
 (if pc < 10 then
 (if pc < 4 then
 (if pc < 2 then
 (if pc < 1 then
 (if pc = 0 then in_push (.int 0) 1 else in_no) else
 (if pc = 1 then in_ist 2 2 else in_no)) else
 (if pc < 3 then
 (if pc = 2 then in_push (.int 0) 3 else in_no) else
 (if pc = 3 then in_ist 3 4 else in_no))) else
 (if pc < 7 then
 (if pc < 5 then
 (if pc = 4 then in_push (.int 0) 5 else in_no) else
 (if pc = 5 then in_ist 4 7 else in_no)) else
 (if pc < 9 then
 (if pc = 7 then in_ild 4 9 else in_no) else
 (if pc = 9 then in_push (.int 4) 10 else in_no)))) else
 (if pc < 18 then
 (if pc < 14 then
 (if pc < 11 then
 (if pc = 10 then in_ald 0 11 else in_no) else
 (if pc = 11 then in_v1 YM 5 S_X5_cells 14 else in_no)) else
 (if pc < 15 then
 (if pc = 14 then in_iii (fun x y => x * y) 15 else in_no) else
 (if pc = 15 then in_if2 (fun x y => y ≤ x) 44 18 else in_no))) else
 (if pc < 20 then
 (if pc < 19 then
 (if pc = 18 then in_ild 2 19 else in_no) else
 (if pc = 19 then in_ald 0 20 else in_no)) else
 (if pc < 23 then
 (if pc = 20 then in_get YM 5 18 23 else in_no) else
 (if pc < 25 then
 (if pc = 23 then in_ild 4 25 else in_no) else
 (if pc = 25 then in_iar YM 26 else in_no)))))) else
 (if pc < 41 then
 (if pc < 35 then
 (if pc < 31 then
 (if pc < 28 then
 (if pc = 26 then in_push (.int 2000000) 28 else in_no) else
 (if pc = 28 then in_if2 (fun x y => x = y) 31 35 else in_no)) else
 (if pc < 32 then
 (if pc = 31 then in_push (.int 1) 32 else in_no) else
 (if pc = 32 then in_go 36 else in_no))) else
 (if pc < 37 then
 (if pc < 36 then
 (if pc = 35 then in_push (.int 0) 36 else in_no) else
 (if pc = 36 then in_iii (fun x y => x + y) 37 else in_no)) else
 (if pc < 38 then
 (if pc = 37 then in_ist 2 38 else in_no) else
 (if pc = 38 then in_inc 4 1 41 else in_no)))) else
 (if pc < 49 then
 (if pc < 45 then
 (if pc < 44 then
 (if pc = 41 then in_go 7 else in_no) else
 (if pc = 44 then in_push (.int 0) 45 else in_no)) else
 (if pc < 47 then
 (if pc = 45 then in_ist 4 47 else in_no) else
 (if pc = 47 then in_ild 4 49 else in_no))) else
 (if pc < 54 then
 (if pc < 51 then
 (if pc = 49 then in_push (.int 12) 51 else in_no) else
 (if pc = 51 then in_if2 (fun x y => y ≤ x) 82 54 else in_no)) else
 (if pc < 55 then
 (if pc = 54 then in_ild 3 55 else in_no) else
 (if pc < 56 then
 (if pc = 55 then in_ald 0 56 else in_no) else
 (if pc = 56 then in_get YM 5 26 59 else in_no))))))) else
 (if pc < 129 then
 (if pc < 74 then
 (if pc < 66 then
 (if pc < 62 then
 (if pc < 61 then
 (if pc = 59 then in_ild 4 61 else in_no) else
 (if pc = 61 then in_lar YM 62 else in_no)) else
 (if pc < 65 then
 (if pc = 62 then in_push (.long 2000000000000) 65 else in_no) else
 (if pc = 65 then in_lli lg_cmp 66 else in_no))) else
 (if pc < 70 then
 (if pc < 69 then
 (if pc = 66 then in_if1 (fun x => x = 0) 69 73 else in_no) else
 (if pc = 69 then in_push (.int 0) 70 else in_no)) else
 (if pc < 73 then
 (if pc = 70 then in_go 74 else in_no) else
 (if pc = 73 then in_push (.int 1) 74 else in_no)))) else
 (if pc < 82 then
 (if pc < 76 then
 (if pc < 75 then
 (if pc = 74 then in_iii (fun x y => x + y) 75 else in_no) else
 (if pc = 75 then in_ist 3 76 else in_no)) else
 (if pc < 79 then
 (if pc = 76 then in_inc 4 1 79 else in_no) else
 (if pc = 79 then in_go 47 else in_no))) else
 (if pc < 124 then
 (if pc < 83 then
 (if pc = 82 then in_ild 1 83 else in_no) else
 (if pc = 83 then in_sw [124, 129, 134, 139, 141, 146, 151] 153 else in_no)) else
 (if pc < 125 then
 (if pc = 124 then in_ald 0 125 else in_no) else
 (if pc < 128 then
 (if pc = 125 then in_v1 YM 5 S_X5_cells 128 else in_no) else
 (if pc = 128 then in_ri else in_no)))))) else
 (if pc < 142 then
 (if pc < 135 then
 (if pc < 133 then
 (if pc < 130 then
 (if pc = 129 then in_ald 0 130 else in_no) else
 (if pc = 130 then in_get YM 5 5 133 else in_no)) else
 (if pc < 134 then
 (if pc = 133 then in_ri else in_no) else
 (if pc = 134 then in_ald 0 135 else in_no))) else
 (if pc < 139 then
 (if pc < 138 then
 (if pc = 135 then in_get YM 5 7 138 else in_no) else
 (if pc = 138 then in_ri else in_no)) else
 (if pc < 140 then
 (if pc = 139 then in_ild 2 140 else in_no) else
 (if pc < 141 then
 (if pc = 140 then in_ri else in_no) else
 (if pc = 141 then in_ald 0 142 else in_no))))) else
 (if pc < 150 then
 (if pc < 146 then
 (if pc < 145 then
 (if pc = 142 then in_get YM 5 19 145 else in_no) else
 (if pc = 145 then in_ri else in_no)) else
 (if pc < 147 then
 (if pc = 146 then in_ald 0 147 else in_no) else
 (if pc = 147 then in_get YM 5 30 150 else in_no))) else
 (if pc < 152 then
 (if pc < 151 then
 (if pc = 150 then in_ri else in_no) else
 (if pc = 151 then in_ild 3 152 else in_no)) else
 (if pc < 153 then
 (if pc = 152 then in_ri else in_no) else
 (if pc < 154 then
 (if pc = 153 then in_push (.int (-1)) 154 else in_no) else
 (if pc = 154 then in_ri else in_no))))))))
theorem tk_X5_count {l : Launch} {w : ma_Wd} {NC : Nat} {A : Nat → Prop} {S_X5_cells : ma_Cs} (h_X5_cells : ma_Sd l w YM NC A yX5_cells cX5_cells 1 (some .int) rm_X5_cells S_X5_cells) {p : Program} {e : Env} {s : State} {m : MethodId} {args : Array Value} {below : List Frame} {meth : Method} {c : Code} (X : ma_Cx p s m args meth c w YM NC A yX5_count.cls cX5_count 5 (some .int)) : ∀ pc, ma_Ok p l e rm_X5_count s m args below meth c w YM NC A 5 pc (tb_X5_count S_X5_cells pc) := fun pc =>
 (mk_lt
 (mk_lt
 (mk_lt
 (mk_lt
 (mk_lt
 (mk_lt
 (mk_eq (mk_iconst X dX5_count_0 rfl rfl))
 (mk_eq (mk_istore_n X dX5_count_1 rfl (Nat.le_of_ble_eq_true rfl) rfl)))
 (mk_lt
 (mk_eq (mk_iconst X dX5_count_2 rfl rfl))
 (mk_eq (mk_istore_n X dX5_count_3 rfl (Nat.le_of_ble_eq_true rfl) rfl))))
 (mk_lt
 (mk_lt
 (mk_eq (mk_iconst X dX5_count_4 rfl rfl))
 (mk_eq (mk_istore X dX5_count_5 (Nat.le_of_ble_eq_true rfl) rfl)))
 (mk_lt
 (mk_eq (mk_iload X dX5_count_7 rfl))
 (mk_eq (mk_iconst X dX5_count_9 rfl rfl)))))
 (mk_lt
 (mk_lt
 (mk_lt
 (mk_eq (mk_aload_n X dX5_count_10 rfl rfl))
 (mk_eq (mk_V1 X h_X5_cells (ci := 5) rfl (lw_V q895 q897 qs30 q66 q898) ⟨rfl, by decide, by decide, rfl⟩ ⟨(Nat.le_of_ble_eq_true rfl), (Nat.le_of_ble_eq_true rfl)⟩ dX5_count_11 rfl)))
 (mk_lt
 (mk_eq (mk_imul X dX5_count_14 rfl))
 (mk_eq (mk_icge X dX5_count_15 rfl rfl))))
 (mk_lt
 (mk_lt
 (mk_eq (mk_iload_n X dX5_count_18 rfl rfl))
 (mk_eq (mk_aload_n X dX5_count_19 rfl rfl)))
 (mk_lt
 (mk_eq (mk_get X (ci := 5) (j := 18) rfl in_X5 (Nat.le_of_ble_eq_true rfl) q765 dX5_count_20 rfl))
 (mk_lt
 (mk_eq (mk_iload X dX5_count_23 rfl))
 (mk_eq (mk_iar X dX5_count_25 rfl)))))))
 (mk_lt
 (mk_lt
 (mk_lt
 (mk_lt
 (mk_eq (mk_ldc X dX5_count_26 q741 rfl))
 (mk_eq (mk_icne X dX5_count_28 rfl rfl)))
 (mk_lt
 (mk_eq (mk_iconst X dX5_count_31 rfl rfl))
 (mk_eq (mk_goto X dX5_count_32 rfl))))
 (mk_lt
 (mk_lt
 (mk_eq (mk_iconst X dX5_count_35 rfl rfl))
 (mk_eq (mk_iadd X dX5_count_36 rfl)))
 (mk_lt
 (mk_eq (mk_istore_n X dX5_count_37 rfl (Nat.le_of_ble_eq_true rfl) rfl))
 (mk_eq (mk_iinc X dX5_count_38 rfl (Nat.le_of_ble_eq_true rfl) rfl)))))
 (mk_lt
 (mk_lt
 (mk_lt
 (mk_eq (mk_goto X dX5_count_41 rfl))
 (mk_eq (mk_iconst X dX5_count_44 rfl rfl)))
 (mk_lt
 (mk_eq (mk_istore X dX5_count_45 (Nat.le_of_ble_eq_true rfl) rfl))
 (mk_eq (mk_iload X dX5_count_47 rfl))))
 (mk_lt
 (mk_lt
 (mk_eq (mk_bipush X dX5_count_49 rfl rfl))
 (mk_eq (mk_icge X dX5_count_51 rfl rfl)))
 (mk_lt
 (mk_eq (mk_iload_n X dX5_count_54 rfl rfl))
 (mk_lt
 (mk_eq (mk_aload_n X dX5_count_55 rfl rfl))
 (mk_eq (mk_get X (ci := 5) (j := 26) rfl in_X5 (Nat.le_of_ble_eq_true rfl) q773 dX5_count_56 rfl))))))))
 (mk_lt
 (mk_lt
 (mk_lt
 (mk_lt
 (mk_lt
 (mk_eq (mk_iload X dX5_count_59 rfl))
 (mk_eq (mk_lar X dX5_count_61 rfl)))
 (mk_lt
 (mk_eq (mk_ldc2 X dX5_count_62 q746 rfl))
 (mk_eq (mk_lcmp X dX5_count_65 rfl))))
 (mk_lt
 (mk_lt
 (mk_eq (mk_ifne X dX5_count_66 rfl rfl))
 (mk_eq (mk_iconst X dX5_count_69 rfl rfl)))
 (mk_lt
 (mk_eq (mk_goto X dX5_count_70 rfl))
 (mk_eq (mk_iconst X dX5_count_73 rfl rfl)))))
 (mk_lt
 (mk_lt
 (mk_lt
 (mk_eq (mk_iadd X dX5_count_74 rfl))
 (mk_eq (mk_istore_n X dX5_count_75 rfl (Nat.le_of_ble_eq_true rfl) rfl)))
 (mk_lt
 (mk_eq (mk_iinc X dX5_count_76 rfl (Nat.le_of_ble_eq_true rfl) rfl))
 (mk_eq (mk_goto X dX5_count_79 rfl))))
 (mk_lt
 (mk_lt
 (mk_eq (mk_iload_n X dX5_count_82 rfl rfl))
 (mk_eq (mk_sw X dX5_count_83 rfl rfl (Nat.le_of_ble_eq_true rfl) rfl)))
 (mk_lt
 (mk_eq (mk_aload_n X dX5_count_124 rfl rfl))
 (mk_lt
 (mk_eq (mk_V1 X h_X5_cells (ci := 5) rfl (lw_V q895 q897 qs30 q66 q898) ⟨rfl, by decide, by decide, rfl⟩ ⟨(Nat.le_of_ble_eq_true rfl), (Nat.le_of_ble_eq_true rfl)⟩ dX5_count_125 rfl))
 (mk_eq (mk_ri X dX5_count_128)))))))
 (mk_lt
 (mk_lt
 (mk_lt
 (mk_lt
 (mk_eq (mk_aload_n X dX5_count_129 rfl rfl))
 (mk_eq (mk_get X (ci := 5) (j := 5) rfl in_X5 (Nat.le_of_ble_eq_true rfl) q752 dX5_count_130 rfl)))
 (mk_lt
 (mk_eq (mk_ri X dX5_count_133))
 (mk_eq (mk_aload_n X dX5_count_134 rfl rfl))))
 (mk_lt
 (mk_lt
 (mk_eq (mk_get X (ci := 5) (j := 7) rfl in_X5 (Nat.le_of_ble_eq_true rfl) q754 dX5_count_135 rfl))
 (mk_eq (mk_ri X dX5_count_138)))
 (mk_lt
 (mk_eq (mk_iload_n X dX5_count_139 rfl rfl))
 (mk_lt
 (mk_eq (mk_ri X dX5_count_140))
 (mk_eq (mk_aload_n X dX5_count_141 rfl rfl))))))
 (mk_lt
 (mk_lt
 (mk_lt
 (mk_eq (mk_get X (ci := 5) (j := 19) rfl in_X5 (Nat.le_of_ble_eq_true rfl) q766 dX5_count_142 rfl))
 (mk_eq (mk_ri X dX5_count_145)))
 (mk_lt
 (mk_eq (mk_aload_n X dX5_count_146 rfl rfl))
 (mk_eq (mk_get X (ci := 5) (j := 30) rfl in_X5 (Nat.le_of_ble_eq_true rfl) q777 dX5_count_147 rfl))))
 (mk_lt
 (mk_lt
 (mk_eq (mk_ri X dX5_count_150))
 (mk_eq (mk_iload_n X dX5_count_151 rfl rfl)))
 (mk_lt
 (mk_eq (mk_ri X dX5_count_152))
 (mk_lt
 (mk_eq (mk_iconst X dX5_count_153 rfl rfl))
 (mk_eq (mk_ri X dX5_count_154)))))))))
theorem sd_X5_count {l : Launch} {w : ma_Wd} {NC : Nat} {A : Nat → Prop} {S_X5_cells : ma_Cs} (hw : ma_Wo w YM NC A) (h_X5_cells : ma_Sd l w YM NC A yX5_cells cX5_cells 1 (some .int) rm_X5_cells S_X5_cells) : ma_Sd l w YM NC A yX5_count cX5_count 5 (some .int) rm_X5_count (ma_rn (tb_X5_count S_X5_cells) 5) := ma_of hw (by decide) ⟨rfl, rfl⟩ (fun X => tk_X5_count h_X5_cells X)
