set_option maxRecDepth 100000
theorem dX0_plans_166 : decode cX0_plans 166 = .ok (.getfield 52, 3) := by decide +kernel
theorem dX0_plans_169 : decode cX0_plans 169 = .ok (.iload_n 3, 1) := by decide +kernel
theorem dX0_plans_170 : decode cX0_plans 170 = .ok (.invokevirtual 74, 3) := by decide +kernel
theorem dX0_plans_173 : decode cX0_plans 173 = .ok (.checkcast 195, 3) := by decide +kernel
theorem dX0_plans_176 : decode cX0_plans 176 = .ok (.astore 4, 2) := by decide +kernel
theorem dX0_plans_178 : decode cX0_plans 178 = .ok (.iconst 0, 1) := by decide +kernel
theorem dX0_plans_179 : decode cX0_plans 179 = .ok (.istore 5, 2) := by decide +kernel
theorem dX0_plans_181 : decode cX0_plans 181 = .ok (.iload 5, 2) := by decide +kernel
theorem dX0_plans_183 : decode cX0_plans 183 = .ok (.aload_n 0, 1) := by decide +kernel
theorem dX0_plans_184 : decode cX0_plans 184 = .ok (.getfield 232, 3) := by decide +kernel
theorem dX0_plans_187 : decode cX0_plans 187 = .ok (.if_icmp .gt 67, 3) := by decide +kernel
theorem dX0_plans_190 : decode cX0_plans 190 = .ok (.aload_n 0, 1) := by decide +kernel
theorem dX0_plans_191 : decode cX0_plans 191 = .ok (.getfield 57, 3) := by decide +kernel
theorem dX0_plans_194 : decode cX0_plans 194 = .ok (.iload_n 3, 1) := by decide +kernel
theorem dX0_plans_195 : decode cX0_plans 195 = .ok (.iconst 1, 1) := by decide +kernel
theorem dX0_plans_196 : decode cX0_plans 196 = .ok (.iadd, 1) := by decide +kernel
theorem dX0_plans_197 : decode cX0_plans 197 = .ok (.aaload, 1) := by decide +kernel
theorem dX0_plans_198 : decode cX0_plans 198 = .ok (.iload 5, 2) := by decide +kernel
theorem dX0_plans_200 : decode cX0_plans 200 = .ok (.aload_n 0, 1) := by decide +kernel
theorem dX0_plans_201 : decode cX0_plans 201 = .ok (.getfield 57, 3) := by decide +kernel
theorem dX0_plans_204 : decode cX0_plans 204 = .ok (.iload_n 3, 1) := by decide +kernel
theorem dX0_plans_205 : decode cX0_plans 205 = .ok (.aaload, 1) := by decide +kernel
theorem dX0_plans_206 : decode cX0_plans 206 = .ok (.iload 5, 2) := by decide +kernel
theorem dX0_plans_208 : decode cX0_plans 208 = .ok (.iaload, 1) := by decide +kernel
theorem dX0_plans_209 : decode cX0_plans 209 = .ok (.aload 4, 2) := by decide +kernel
theorem dX0_plans_211 : decode cX0_plans 211 = .ok (.invokevirtual 229, 3) := by decide +kernel
theorem dX0_plans_214 : decode cX0_plans 214 = .ok (.iload 5, 2) := by decide +kernel
theorem dX0_plans_216 : decode cX0_plans 216 = .ok (.if_icmp .gt 27, 3) := by decide +kernel
theorem dX0_plans_219 : decode cX0_plans 219 = .ok (.aload_n 0, 1) := by decide +kernel
theorem dX0_plans_220 : decode cX0_plans 220 = .ok (.getfield 57, 3) := by decide +kernel
theorem dX0_plans_223 : decode cX0_plans 223 = .ok (.iload_n 3, 1) := by decide +kernel
theorem dX0_plans_224 : decode cX0_plans 224 = .ok (.aaload, 1) := by decide +kernel
theorem dX0_plans_225 : decode cX0_plans 225 = .ok (.iload 5, 2) := by decide +kernel
theorem dX0_plans_227 : decode cX0_plans 227 = .ok (.aload 4, 2) := by decide +kernel
theorem dX0_plans_229 : decode cX0_plans 229 = .ok (.invokevirtual 229, 3) := by decide +kernel
theorem dX0_plans_232 : decode cX0_plans 232 = .ok (.isub, 1) := by decide +kernel
theorem dX0_plans_233 : decode cX0_plans 233 = .ok (.iaload, 1) := by decide +kernel
theorem dX0_plans_234 : decode cX0_plans 234 = .ok (.aload 4, 2) := by decide +kernel
theorem dX0_plans_236 : decode cX0_plans 236 = .ok (.getfield 197, 3) := by decide +kernel
theorem dX0_plans_239 : decode cX0_plans 239 = .ok (.iadd, 1) := by decide +kernel
theorem dX0_plans_240 : decode cX0_plans 240 = .ok (.goto 4, 3) := by decide +kernel
theorem dX0_plans_243 : decode cX0_plans 243 = .ok (.iconst 0, 1) := by decide +kernel
theorem dX0_plans_244 : decode cX0_plans 244 = .ok (.invokestatic 209, 3) := by decide +kernel
theorem dX0_plans_247 : decode cX0_plans 247 = .ok (.iastore, 1) := by decide +kernel
theorem dX0_plans_248 : decode cX0_plans 248 = .ok (.iinc 5 1, 3) := by decide +kernel
theorem dX0_plans_251 : decode cX0_plans 251 = .ok (.goto (-70), 3) := by decide +kernel
theorem dX0_plans_254 : decode cX0_plans 254 = .ok (.iinc 3 1, 3) := by decide +kernel
theorem dX0_plans_257 : decode cX0_plans 257 = .ok (.goto (-97), 3) := by decide +kernel
theorem dX0_plans_260 : decode cX0_plans 260 = .ok (.aload_n 0, 1) := by decide +kernel
theorem dX0_plans_261 : decode cX0_plans 261 = .ok (.getfield 49, 3) := by decide +kernel
theorem dX0_plans_264 : decode cX0_plans 264 = .ok (.invokevirtual 70, 3) := by decide +kernel
theorem dX0_plans_267 : decode cX0_plans 267 = .ok (.istore_n 3, 1) := by decide +kernel
theorem dX0_plans_268 : decode cX0_plans 268 = .ok (.aload_n 0, 1) := by decide +kernel
theorem dX0_plans_269 : decode cX0_plans 269 = .ok (.getfield 232, 3) := by decide +kernel
theorem dX0_plans_272 : decode cX0_plans 272 = .ok (.istore 4, 2) := by decide +kernel
theorem dX0_plans_274 : decode cX0_plans 274 = .ok (.iload_n 2, 1) := by decide +kernel
theorem dX0_plans_275 : decode cX0_plans 275 = .ok (.iconst 1, 1) := by decide +kernel
theorem dX0_plans_276 : decode cX0_plans 276 = .ok (.isub, 1) := by decide +kernel
theorem dX0_plans_277 : decode cX0_plans 277 = .ok (.istore 5, 2) := by decide +kernel
theorem dX0_plans_279 : decode cX0_plans 279 = .ok (.iload 5, 2) := by decide +kernel
theorem dX0_plans_281 : decode cX0_plans 281 = .ok (.ifCond .lt 77, 3) := by decide +kernel
theorem dX0_plans_284 : decode cX0_plans 284 = .ok (.aload_n 0, 1) := by decide +kernel
theorem dX0_plans_285 : decode cX0_plans 285 = .ok (.getfield 57, 3) := by decide +kernel
theorem dX0_plans_288 : decode cX0_plans 288 = .ok (.iload 5, 2) := by decide +kernel
theorem dX0_plans_290 : decode cX0_plans 290 = .ok (.iconst 1, 1) := by decide +kernel
theorem dX0_plans_291 : decode cX0_plans 291 = .ok (.iadd, 1) := by decide +kernel
theorem dX0_plans_292 : decode cX0_plans 292 = .ok (.aaload, 1) := by decide +kernel
theorem dX0_plans_293 : decode cX0_plans 293 = .ok (.iload 4, 2) := by decide +kernel
theorem dX0_plans_295 : decode cX0_plans 295 = .ok (.iaload, 1) := by decide +kernel
theorem dX0_plans_296 : decode cX0_plans 296 = .ok (.aload_n 0, 1) := by decide +kernel
theorem dX0_plans_297 : decode cX0_plans 297 = .ok (.getfield 57, 3) := by decide +kernel
theorem dX0_plans_300 : decode cX0_plans 300 = .ok (.iload 5, 2) := by decide +kernel
theorem dX0_plans_302 : decode cX0_plans 302 = .ok (.aaload, 1) := by decide +kernel
theorem dX0_plans_303 : decode cX0_plans 303 = .ok (.iload 4, 2) := by decide +kernel
theorem dX0_plans_305 : decode cX0_plans 305 = .ok (.iaload, 1) := by decide +kernel
theorem dX0_plans_306 : decode cX0_plans 306 = .ok (.if_icmp .ne 6, 3) := by decide +kernel
theorem dX0_plans_309 : decode cX0_plans 309 = .ok (.goto 43, 3) := by decide +kernel
theorem dX0_plans_312 : decode cX0_plans 312 = .ok (.aload_n 0, 1) := by decide +kernel
theorem dX0_plans_313 : decode cX0_plans 313 = .ok (.getfield 49, 3) := by decide +kernel
theorem dX0_plans_316 : decode cX0_plans 316 = .ok (.iload_n 3, 1) := by decide +kernel
theorem dX0_plans_317 : decode cX0_plans 317 = .ok (.aload_n 0, 1) := by decide +kernel
theorem dX0_plans_318 : decode cX0_plans 318 = .ok (.getfield 52, 3) := by decide +kernel
theorem dX0_plans_321 : decode cX0_plans 321 = .ok (.iload 5, 2) := by decide +kernel
theorem dX0_plans_323 : decode cX0_plans 323 = .ok (.invokevirtual 74, 3) := by decide +kernel
theorem dX0_plans_326 : decode cX0_plans 326 = .ok (.checkcast 195, 3) := by decide +kernel
theorem dX0_plans_329 : decode cX0_plans 329 = .ok (.invokevirtual 235, 3) := by decide +kernel
theorem dX0_plans_332 : decode cX0_plans 332 = .ok (.iload 4, 2) := by decide +kernel
theorem dX0_plans_334 : decode cX0_plans 334 = .ok (.aload_n 0, 1) := by decide +kernel
theorem dX0_plans_335 : decode cX0_plans 335 = .ok (.getfield 52, 3) := by decide +kernel
theorem dX0_plans_338 : decode cX0_plans 338 = .ok (.iload 5, 2) := by decide +kernel
theorem dX0_plans_340 : decode cX0_plans 340 = .ok (.invokevirtual 74, 3) := by decide +kernel
theorem dX0_plans_343 : decode cX0_plans 343 = .ok (.checkcast 195, 3) := by decide +kernel
theorem dX0_plans_346 : decode cX0_plans 346 = .ok (.invokevirtual 229, 3) := by decide +kernel
theorem dX0_plans_349 : decode cX0_plans 349 = .ok (.isub, 1) := by decide +kernel
theorem dX0_plans_350 : decode cX0_plans 350 = .ok (.istore 4, 2) := by decide +kernel
theorem dX0_plans_352 : decode cX0_plans 352 = .ok (.iinc 5 (-1), 3) := by decide +kernel
theorem dX0_plans_355 : decode cX0_plans 355 = .ok (.goto (-76), 3) := by decide +kernel
theorem dX0_plans_358 : decode cX0_plans 358 = .ok (.aload_n 0, 1) := by decide +kernel
theorem dX0_plans_359 : decode cX0_plans 359 = .ok (.iload 4, 2) := by decide +kernel
theorem dX0_plans_361 : decode cX0_plans 361 = .ok (.putfield 232, 3) := by decide +kernel
theorem dX0_plans_364 : decode cX0_plans 364 = .ok (.return_, 1) := by decide +kernel
theorem dX0_worth_0 : decode cX0_worth 0 = .ok (.iload_n 1, 1) := by decide +kernel
theorem dX0_worth_1 : decode cX0_worth 1 = .ok (.iconst 0, 1) := by decide +kernel
theorem dX0_worth_2 : decode cX0_worth 2 = .ok (.sipush 300, 3) := by decide +kernel
theorem dX0_worth_5 : decode cX0_worth 5 = .ok (.invokestatic 60, 3) := by decide +kernel
theorem dX0_worth_8 : decode cX0_worth 8 = .ok (.ifCond .eq 12, 3) := by decide +kernel
theorem dX0_worth_11 : decode cX0_worth 11 = .ok (.iload_n 2, 1) := by decide +kernel
theorem dX0_worth_12 : decode cX0_worth 12 = .ok (.iconst 0, 1) := by decide +kernel
theorem dX0_worth_13 : decode cX0_worth 13 = .ok (.iconst 2, 1) := by decide +kernel
theorem dX0_worth_14 : decode cX0_worth 14 = .ok (.invokestatic 60, 3) := by decide +kernel
theorem dX0_worth_17 : decode cX0_worth 17 = .ok (.ifCond .ne 5, 3) := by decide +kernel
theorem dX0_worth_20 : decode cX0_worth 20 = .ok (.iconst (-1), 1) := by decide +kernel
theorem dX0_worth_21 : decode cX0_worth 21 = .ok (.ireturn, 1) := by decide +kernel
theorem dX0_worth_22 : decode cX0_worth 22 = .ok (.aload_n 0, 1) := by decide +kernel
theorem dX0_worth_23 : decode cX0_worth 23 = .ok (.iload_n 1, 1) := by decide +kernel
theorem dX0_worth_24 : decode cX0_worth 24 = .ok (.invokevirtual 238, 3) := by decide +kernel
theorem dX0_worth_27 : decode cX0_worth 27 = .ok (.iconst 0, 1) := by decide +kernel
theorem dX0_worth_28 : decode cX0_worth 28 = .ok (.istore_n 3, 1) := by decide +kernel
theorem dX0_worth_29 : decode cX0_worth 29 = .ok (.iconst 0, 1) := by decide +kernel
theorem dX0_worth_30 : decode cX0_worth 30 = .ok (.istore 4, 2) := by decide +kernel
theorem dX0_worth_32 : decode cX0_worth 32 = .ok (.iconst 0, 1) := by decide +kernel
theorem dX0_worth_33 : decode cX0_worth 33 = .ok (.istore 5, 2) := by decide +kernel
theorem dX0_worth_35 : decode cX0_worth 35 = .ok (.iload 5, 2) := by decide +kernel
theorem dX0_worth_37 : decode cX0_worth 37 = .ok (.aload_n 0, 1) := by decide +kernel
theorem dX0_worth_38 : decode cX0_worth 38 = .ok (.getfield 49, 3) := by decide +kernel
theorem dX0_worth_41 : decode cX0_worth 41 = .ok (.invokevirtual 70, 3) := by decide +kernel
theorem dX0_worth_44 : decode cX0_worth 44 = .ok (.if_icmp .ge 47, 3) := by decide +kernel
theorem dX0_worth_47 : decode cX0_worth 47 = .ok (.iload_n 3, 1) := by decide +kernel
theorem dX0_worth_48 : decode cX0_worth 48 = .ok (.aload_n 0, 1) := by decide +kernel
theorem dX0_worth_49 : decode cX0_worth 49 = .ok (.getfield 49, 3) := by decide +kernel
theorem dX0_worth_52 : decode cX0_worth 52 = .ok (.iload 5, 2) := by decide +kernel
theorem dX0_worth_54 : decode cX0_worth 54 = .ok (.invokevirtual 74, 3) := by decide +kernel
theorem dX0_worth_57 : decode cX0_worth 57 = .ok (.checkcast 195, 3) := by decide +kernel
theorem dX0_worth_60 : decode cX0_worth 60 = .ok (.getfield 197, 3) := by decide +kernel
theorem dX0_worth_63 : decode cX0_worth 63 = .ok (.iadd, 1) := by decide +kernel
theorem dX0_worth_64 : decode cX0_worth 64 = .ok (.istore_n 3, 1) := by decide +kernel
theorem dX0_worth_65 : decode cX0_worth 65 = .ok (.iload 4, 2) := by decide +kernel
theorem dX0_worth_67 : decode cX0_worth 67 = .ok (.aload_n 0, 1) := by decide +kernel
theorem dX0_worth_68 : decode cX0_worth 68 = .ok (.getfield 49, 3) := by decide +kernel
theorem dX0_worth_71 : decode cX0_worth 71 = .ok (.iload 5, 2) := by decide +kernel
theorem dX0_worth_73 : decode cX0_worth 73 = .ok (.invokevirtual 74, 3) := by decide +kernel
theorem dX0_worth_76 : decode cX0_worth 76 = .ok (.checkcast 195, 3) := by decide +kernel
theorem dX0_worth_79 : decode cX0_worth 79 = .ok (.invokevirtual 229, 3) := by decide +kernel
theorem dX0_worth_82 : decode cX0_worth 82 = .ok (.iadd, 1) := by decide +kernel
theorem dX0_worth_83 : decode cX0_worth 83 = .ok (.istore 4, 2) := by decide +kernel
theorem dX0_worth_85 : decode cX0_worth 85 = .ok (.iinc 5 1, 3) := by decide +kernel
theorem dX0_worth_88 : decode cX0_worth 88 = .ok (.goto (-53), 3) := by decide +kernel
theorem dX0_worth_91 : decode cX0_worth 91 = .ok (.iload_n 2, 1) := by decide +kernel
theorem dX0_worth_92 : decode cX0_worth 92 = .ok (.iconst 2, 1) := by decide +kernel
theorem dX0_worth_93 : decode cX0_worth 93 = .ok (.if_icmp .ne 6, 3) := by decide +kernel
theorem dX0_worth_96 : decode cX0_worth 96 = .ok (.iload 4, 2) := by decide +kernel
theorem dX0_worth_98 : decode cX0_worth 98 = .ok (.ireturn, 1) := by decide +kernel
theorem dX0_worth_99 : decode cX0_worth 99 = .ok (.iconst 0, 1) := by decide +kernel
theorem dX0_worth_100 : decode cX0_worth 100 = .ok (.istore 5, 2) := by decide +kernel
theorem dX0_worth_102 : decode cX0_worth 102 = .ok (.iconst 0, 1) := by decide +kernel
theorem dX0_worth_103 : decode cX0_worth 103 = .ok (.istore 6, 2) := by decide +kernel
theorem dX0_worth_105 : decode cX0_worth 105 = .ok (.iload 6, 2) := by decide +kernel
theorem dX0_worth_107 : decode cX0_worth 107 = .ok (.aload_n 0, 1) := by decide +kernel
theorem dX0_worth_108 : decode cX0_worth 108 = .ok (.getfield 43, 3) := by decide +kernel
theorem dX0_worth_111 : decode cX0_worth 111 = .ok (.invokevirtual 70, 3) := by decide +kernel
theorem dX0_worth_114 : decode cX0_worth 114 = .ok (.if_icmp .ge 29, 3) := by decide +kernel
theorem dX0_worth_117 : decode cX0_worth 117 = .ok (.iload 5, 2) := by decide +kernel
theorem dX0_worth_119 : decode cX0_worth 119 = .ok (.aload_n 0, 1) := by decide +kernel
theorem dX0_worth_120 : decode cX0_worth 120 = .ok (.getfield 43, 3) := by decide +kernel
theorem dX0_worth_123 : decode cX0_worth 123 = .ok (.iload 6, 2) := by decide +kernel
theorem dX0_worth_125 : decode cX0_worth 125 = .ok (.invokevirtual 74, 3) := by decide +kernel
theorem dX0_worth_128 : decode cX0_worth 128 = .ok (.checkcast 195, 3) := by decide +kernel
theorem dX0_worth_131 : decode cX0_worth 131 = .ok (.getfield 197, 3) := by decide +kernel
theorem dX0_worth_134 : decode cX0_worth 134 = .ok (.iadd, 1) := by decide +kernel
theorem dX0_worth_135 : decode cX0_worth 135 = .ok (.istore 5, 2) := by decide +kernel
theorem dX0_worth_137 : decode cX0_worth 137 = .ok (.iinc 6 1, 3) := by decide +kernel
theorem dX0_worth_140 : decode cX0_worth 140 = .ok (.goto (-35), 3) := by decide +kernel
theorem dX0_worth_143 : decode cX0_worth 143 = .ok (.iload_n 2, 1) := by decide +kernel
theorem dX0_worth_144 : decode cX0_worth 144 = .ok (.ifCond .ne 7, 3) := by decide +kernel
theorem dX0_worth_147 : decode cX0_worth 147 = .ok (.iload_n 3, 1) := by decide +kernel
theorem dX0_worth_148 : decode cX0_worth 148 = .ok (.goto 7, 3) := by decide +kernel
theorem dX0_worth_151 : decode cX0_worth 151 = .ok (.iload 5, 2) := by decide +kernel
theorem dX0_worth_153 : decode cX0_worth 153 = .ok (.iload_n 3, 1) := by decide +kernel
theorem dX0_worth_154 : decode cX0_worth 154 = .ok (.isub, 1) := by decide +kernel
theorem dX0_worth_155 : decode cX0_worth 155 = .ok (.ireturn, 1) := by decide +kernel
theorem dX0_source_0 : decode cX0_source 0 = .ok (.iload_n 1, 1) := by decide +kernel
theorem dX0_source_1 : decode cX0_source 1 = .ok (.iconst 0, 1) := by decide +kernel
theorem dX0_source_2 : decode cX0_source 2 = .ok (.bipush 9, 2) := by decide +kernel
theorem dX0_source_4 : decode cX0_source 4 = .ok (.invokestatic 60, 3) := by decide +kernel
theorem dX0_source_7 : decode cX0_source 7 = .ok (.ifCond .eq 13, 3) := by decide +kernel
theorem dX0_source_10 : decode cX0_source 10 = .ok (.iload_n 2, 1) := by decide +kernel
theorem dX0_source_11 : decode cX0_source 11 = .ok (.iconst 0, 1) := by decide +kernel
theorem dX0_source_12 : decode cX0_source 12 = .ok (.bipush 6, 2) := by decide +kernel
theorem dX0_source_14 : decode cX0_source 14 = .ok (.invokestatic 60, 3) := by decide +kernel
theorem dX0_source_17 : decode cX0_source 17 = .ok (.ifCond .ne 5, 3) := by decide +kernel
theorem dX0_source_20 : decode cX0_source 20 = .ok (.iconst (-1), 1) := by decide +kernel
theorem dX0_source_21 : decode cX0_source 21 = .ok (.ireturn, 1) := by decide +kernel
theorem dX0_source_22 : decode cX0_source 22 = .ok (.iconst 0, 1) := by decide +kernel
theorem dX0_source_23 : decode cX0_source 23 = .ok (.istore_n 3, 1) := by decide +kernel
theorem dX0_source_24 : decode cX0_source 24 = .ok (.iconst 0, 1) := by decide +kernel
theorem dX0_source_25 : decode cX0_source 25 = .ok (.istore 4, 2) := by decide +kernel
theorem dX0_source_27 : decode cX0_source 27 = .ok (.iload 4, 2) := by decide +kernel
theorem dX0_source_29 : decode cX0_source 29 = .ok (.aload_n 0, 1) := by decide +kernel
theorem dX0_source_30 : decode cX0_source 30 = .ok (.getfield 19, 3) := by decide +kernel
theorem dX0_source_33 : decode cX0_source 33 = .ok (.invokevirtual 70, 3) := by decide +kernel
theorem dX0_source_36 : decode cX0_source 36 = .ok (.if_icmp .ge 194, 3) := by decide +kernel
theorem dX0_source_39 : decode cX0_source 39 = .ok (.aload_n 0, 1) := by decide +kernel
theorem dX0_source_40 : decode cX0_source 40 = .ok (.getfield 19, 3) := by decide +kernel
theorem dX0_source_43 : decode cX0_source 43 = .ok (.iload 4, 2) := by decide +kernel
theorem dX0_source_45 : decode cX0_source 45 = .ok (.invokevirtual 74, 3) := by decide +kernel
theorem dX0_source_48 : decode cX0_source 48 = .ok (.checkcast 78, 3) := by decide +kernel
theorem dX0_source_51 : decode cX0_source 51 = .ok (.astore 5, 2) := by decide +kernel
theorem dX0_source_53 : decode cX0_source 53 = .ok (.aload 5, 2) := by decide +kernel
theorem dX0_source_55 : decode cX0_source 55 = .ok (.getfield 83, 3) := by decide +kernel
theorem dX0_source_58 : decode cX0_source 58 = .ok (.iload_n 1, 1) := by decide +kernel
theorem dX0_source_59 : decode cX0_source 59 = .ok (.if_icmp .eq 6, 3) := by decide +kernel
theorem dX0_source_62 : decode cX0_source 62 = .ok (.goto 162, 3) := by decide +kernel
theorem dX0_source_65 : decode cX0_source 65 = .ok (.iload_n 2, 1) := by decide +kernel
theorem dX0_source_66 : decode cX0_source 66 = .ok (.tableswitch 133 0 5 #[38, 44, 55, 74, 93, 113], 38) := by decide +kernel
theorem dX0_source_104 : decode cX0_source 104 = .ok (.iinc 3 1, 3) := by decide +kernel
theorem dX0_source_107 : decode cX0_source 107 = .ok (.goto 117, 3) := by decide +kernel
theorem dX0_source_110 : decode cX0_source 110 = .ok (.iload_n 3, 1) := by decide +kernel
theorem dX0_source_111 : decode cX0_source 111 = .ok (.aload 5, 2) := by decide +kernel
theorem dX0_source_113 : decode cX0_source 113 = .ok (.getfield 102, 3) := by decide +kernel
theorem dX0_source_116 : decode cX0_source 116 = .ok (.iadd, 1) := by decide +kernel
theorem dX0_source_117 : decode cX0_source 117 = .ok (.istore_n 3, 1) := by decide +kernel
theorem dX0_source_118 : decode cX0_source 118 = .ok (.goto 106, 3) := by decide +kernel
theorem dX0_source_121 : decode cX0_source 121 = .ok (.iload_n 3, 1) := by decide +kernel
theorem dX0_source_122 : decode cX0_source 122 = .ok (.aload 5, 2) := by decide +kernel
theorem dX0_source_124 : decode cX0_source 124 = .ok (.getfield 220, 3) := by decide +kernel
theorem dX0_source_127 : decode cX0_source 127 = .ok (.ifCond .eq 7, 3) := by decide +kernel
theorem dX0_source_130 : decode cX0_source 130 = .ok (.iconst 1, 1) := by decide +kernel
theorem dX0_source_131 : decode cX0_source 131 = .ok (.goto 4, 3) := by decide +kernel
theorem dX0_source_134 : decode cX0_source 134 = .ok (.iconst 0, 1) := by decide +kernel
theorem dX0_source_135 : decode cX0_source 135 = .ok (.iadd, 1) := by decide +kernel
theorem dX0_source_136 : decode cX0_source 136 = .ok (.istore_n 3, 1) := by decide +kernel
theorem dX0_source_137 : decode cX0_source 137 = .ok (.goto 87, 3) := by decide +kernel
theorem dX0_source_140 : decode cX0_source 140 = .ok (.iload_n 3, 1) := by decide +kernel
theorem dX0_source_141 : decode cX0_source 141 = .ok (.aload 5, 2) := by decide +kernel
theorem dX0_source_143 : decode cX0_source 143 = .ok (.getfield 223, 3) := by decide +kernel
theorem dX0_source_146 : decode cX0_source 146 = .ok (.ifCond .eq 7, 3) := by decide +kernel
theorem dX0_source_149 : decode cX0_source 149 = .ok (.iconst 1, 1) := by decide +kernel
theorem dX0_source_150 : decode cX0_source 150 = .ok (.goto 4, 3) := by decide +kernel
theorem dX0_source_153 : decode cX0_source 153 = .ok (.iconst 0, 1) := by decide +kernel
theorem dX0_source_154 : decode cX0_source 154 = .ok (.iadd, 1) := by decide +kernel
theorem dX0_source_155 : decode cX0_source 155 = .ok (.istore_n 3, 1) := by decide +kernel
theorem dX0_source_156 : decode cX0_source 156 = .ok (.goto 68, 3) := by decide +kernel
theorem dX0_source_159 : decode cX0_source 159 = .ok (.iload_n 3, 1) := by decide +kernel
theorem dX0_source_160 : decode cX0_source 160 = .ok (.aload 5, 2) := by decide +kernel
theorem dX0_source_162 : decode cX0_source 162 = .ok (.getfield 123, 3) := by decide +kernel
theorem dX0_source_165 : decode cX0_source 165 = .ok (.iconst 1, 1) := by decide +kernel
theorem dX0_source_166 : decode cX0_source 166 = .ok (.if_icmp .ne 7, 3) := by decide +kernel
theorem dX0_source_169 : decode cX0_source 169 = .ok (.iconst 1, 1) := by decide +kernel
theorem dX0_source_170 : decode cX0_source 170 = .ok (.goto 4, 3) := by decide +kernel
theorem dX0_source_173 : decode cX0_source 173 = .ok (.iconst 0, 1) := by decide +kernel
theorem dX0_source_174 : decode cX0_source 174 = .ok (.iadd, 1) := by decide +kernel
theorem dX0_source_175 : decode cX0_source 175 = .ok (.istore_n 3, 1) := by decide +kernel
theorem dX0_source_176 : decode cX0_source 176 = .ok (.goto 48, 3) := by decide +kernel
theorem dX0_source_179 : decode cX0_source 179 = .ok (.iload_n 3, 1) := by decide +kernel
theorem dX0_source_180 : decode cX0_source 180 = .ok (.aload 5, 2) := by decide +kernel
theorem dX0_source_182 : decode cX0_source 182 = .ok (.getfield 123, 3) := by decide +kernel
theorem dX0_source_185 : decode cX0_source 185 = .ok (.iconst 2, 1) := by decide +kernel
theorem dX0_source_186 : decode cX0_source 186 = .ok (.if_icmp .ne 7, 3) := by decide +kernel
theorem dX0_source_189 : decode cX0_source 189 = .ok (.iconst 1, 1) := by decide +kernel
theorem dX0_source_190 : decode cX0_source 190 = .ok (.goto 4, 3) := by decide +kernel
theorem dX0_source_193 : decode cX0_source 193 = .ok (.iconst 0, 1) := by decide +kernel
theorem dX0_source_194 : decode cX0_source 194 = .ok (.iadd, 1) := by decide +kernel
theorem dX0_source_195 : decode cX0_source 195 = .ok (.istore_n 3, 1) := by decide +kernel
theorem dX0_source_196 : decode cX0_source 196 = .ok (.goto 28, 3) := by decide +kernel
theorem dX0_source_199 : decode cX0_source 199 = .ok (.iload_n 3, 1) := by decide +kernel
theorem dX0_source_200 : decode cX0_source 200 = .ok (.aload 5, 2) := by decide +kernel
theorem dX0_source_202 : decode cX0_source 202 = .ok (.getfield 123, 3) := by decide +kernel
theorem dX0_source_205 : decode cX0_source 205 = .ok (.iconst 1, 1) := by decide +kernel
theorem dX0_source_206 : decode cX0_source 206 = .ok (.if_icmp .ne 15, 3) := by decide +kernel
theorem dX0_source_209 : decode cX0_source 209 = .ok (.aload 5, 2) := by decide +kernel
theorem dX0_source_211 : decode cX0_source 211 = .ok (.invokevirtual 86, 3) := by decide +kernel
theorem dX0_source_214 : decode cX0_source 214 = .ok (.ifCond .ne 7, 3) := by decide +kernel
theorem dX0_source_217 : decode cX0_source 217 = .ok (.iconst 1, 1) := by decide +kernel
theorem dX0_source_218 : decode cX0_source 218 = .ok (.goto 4, 3) := by decide +kernel
theorem dX0_source_221 : decode cX0_source 221 = .ok (.iconst 0, 1) := by decide +kernel
theorem dX0_source_222 : decode cX0_source 222 = .ok (.iadd, 1) := by decide +kernel
theorem dX0_source_223 : decode cX0_source 223 = .ok (.istore_n 3, 1) := by decide +kernel
theorem dX0_source_224 : decode cX0_source 224 = .ok (.iinc 4 1, 3) := by decide +kernel
theorem dX0_source_227 : decode cX0_source 227 = .ok (.goto (-200), 3) := by decide +kernel
theorem dX0_source_230 : decode cX0_source 230 = .ok (.iload_n 3, 1) := by decide +kernel
theorem dX0_source_231 : decode cX0_source 231 = .ok (.ireturn, 1) := by decide +kernel
theorem dX0_count_0 : decode cX0_count 0 = .ok (.iconst 0, 1) := by decide +kernel
theorem dX0_count_1 : decode cX0_count 1 = .ok (.istore_n 2, 1) := by decide +kernel
theorem dX0_count_2 : decode cX0_count 2 = .ok (.iconst 0, 1) := by decide +kernel
theorem dX0_count_3 : decode cX0_count 3 = .ok (.istore_n 3, 1) := by decide +kernel
theorem dX0_count_4 : decode cX0_count 4 = .ok (.iload_n 3, 1) := by decide +kernel
theorem dX0_count_5 : decode cX0_count 5 = .ok (.aload_n 0, 1) := by decide +kernel
theorem dX0_count_6 : decode cX0_count 6 = .ok (.getfield 19, 3) := by decide +kernel
theorem dX0_count_9 : decode cX0_count 9 = .ok (.invokevirtual 70, 3) := by decide +kernel
theorem dX0_count_12 : decode cX0_count 12 = .ok (.if_icmp .ge 34, 3) := by decide +kernel
theorem dX0_count_15 : decode cX0_count 15 = .ok (.iload_n 2, 1) := by decide +kernel
theorem dX0_count_16 : decode cX0_count 16 = .ok (.aload_n 0, 1) := by decide +kernel
theorem dX0_count_17 : decode cX0_count 17 = .ok (.getfield 19, 3) := by decide +kernel
theorem dX0_count_20 : decode cX0_count 20 = .ok (.iload_n 3, 1) := by decide +kernel
theorem dX0_count_21 : decode cX0_count 21 = .ok (.invokevirtual 74, 3) := by decide +kernel
theorem dX0_count_24 : decode cX0_count 24 = .ok (.checkcast 78, 3) := by decide +kernel
theorem dX0_count_27 : decode cX0_count 27 = .ok (.getfield 123, 3) := by decide +kernel
theorem dX0_count_30 : decode cX0_count 30 = .ok (.ifCond .ne 7, 3) := by decide +kernel
theorem dX0_count_33 : decode cX0_count 33 = .ok (.iconst 1, 1) := by decide +kernel
theorem dX0_count_34 : decode cX0_count 34 = .ok (.goto 4, 3) := by decide +kernel
theorem dX0_count_37 : decode cX0_count 37 = .ok (.iconst 0, 1) := by decide +kernel
theorem dX0_count_38 : decode cX0_count 38 = .ok (.iadd, 1) := by decide +kernel
theorem dX0_count_39 : decode cX0_count 39 = .ok (.istore_n 2, 1) := by decide +kernel
theorem dX0_count_40 : decode cX0_count 40 = .ok (.iinc 3 1, 3) := by decide +kernel
theorem dX0_count_43 : decode cX0_count 43 = .ok (.goto (-39), 3) := by decide +kernel
theorem dX0_count_46 : decode cX0_count 46 = .ok (.aload_n 0, 1) := by decide +kernel
theorem dX0_count_47 : decode cX0_count 47 = .ok (.invokevirtual 215, 3) := by decide +kernel
theorem dX0_count_50 : decode cX0_count 50 = .ok (.iload_n 1, 1) := by decide +kernel
theorem dX0_count_51 : decode cX0_count 51 = .ok (.tableswitch 70 0 5 #[37, 42, 50, 52, 60, 65], 37) := by decide +kernel
theorem dX0_count_88 : decode cX0_count 88 = .ok (.aload_n 0, 1) := by decide +kernel
theorem dX0_count_89 : decode cX0_count 89 = .ok (.getfield 64, 3) := by decide +kernel
theorem dX0_count_92 : decode cX0_count 92 = .ok (.ireturn, 1) := by decide +kernel
theorem dX0_count_93 : decode cX0_count 93 = .ok (.aload_n 0, 1) := by decide +kernel
theorem dX0_count_94 : decode cX0_count 94 = .ok (.getfield 19, 3) := by decide +kernel
theorem dX0_count_97 : decode cX0_count 97 = .ok (.invokevirtual 70, 3) := by decide +kernel
theorem dX0_count_100 : decode cX0_count 100 = .ok (.ireturn, 1) := by decide +kernel
theorem dX0_count_101 : decode cX0_count 101 = .ok (.iload_n 2, 1) := by decide +kernel
theorem dX0_count_102 : decode cX0_count 102 = .ok (.ireturn, 1) := by decide +kernel
theorem dX0_count_103 : decode cX0_count 103 = .ok (.aload_n 0, 1) := by decide +kernel
theorem dX0_count_104 : decode cX0_count 104 = .ok (.getfield 43, 3) := by decide +kernel
theorem dX0_count_107 : decode cX0_count 107 = .ok (.invokevirtual 70, 3) := by decide +kernel
theorem dX0_count_110 : decode cX0_count 110 = .ok (.ireturn, 1) := by decide +kernel
theorem dX0_count_111 : decode cX0_count 111 = .ok (.aload_n 0, 1) := by decide +kernel
theorem dX0_count_112 : decode cX0_count 112 = .ok (.getfield 80, 3) := by decide +kernel
theorem dX0_count_115 : decode cX0_count 115 = .ok (.ireturn, 1) := by decide +kernel
theorem dX0_count_116 : decode cX0_count 116 = .ok (.aload_n 0, 1) := by decide +kernel
theorem dX0_count_117 : decode cX0_count 117 = .ok (.getfield 163, 3) := by decide +kernel
theorem dX0_count_120 : decode cX0_count 120 = .ok (.ireturn, 1) := by decide +kernel
theorem dX0_count_121 : decode cX0_count 121 = .ok (.iconst (-1), 1) := by decide +kernel
theorem dX0_count_122 : decode cX0_count 122 = .ok (.ireturn, 1) := by decide +kernel
